def CT_J0_init (l : Launch) (fr lo : Nat) (w : XV → (Prop) → Nat → GM → Prop) : Prop := ∀ (V : XV) (sz : Nat) (G : GM) (Q : Prop) (x0 : Nat), Met l yJ0_init (ws_ yJ0_init cJ0_init 1 none) { frames := fr, cells := 0, slots := 0, locals := lo } (va_Pc [.ref x0] (fun U => U.heap.size = sz ∧ xW V (xA G sz) G U.heap ∧ xK V U ∧ xZ V (xA G sz) U U.heap ∧ w V Q x0 G)) (va_Qv (fun (u : GM) => u = G ∧ Q) (fun u t => xW V (xA G sz) u t.heap) (xA G sz)) 0 0 (xA G sz)
theorem call_J0_init_I {p : Program} {l : Launch} {e : Env} {R : Room} {s : State} {m : MethodId} {args : Array Value} {below : List Frame} {meth : Method} {c : Code} {H : Heap} {locs : List Loc} {cells slots : Nat} {Z : State → Prop} {A : Nat → Prop} {cc : ByteArray} {nL pc : Nat} {ls : Array Slot} {rest : List Value} {own : String} {index fr lo : Nat} {w : XV → (Prop) → Nat → GM → Prop} {V : XV} {G : GM} {o : Option Nat} {x0 : Nat} (hM : CT_J0_init l fr lo w) (C : xC p m c s args cc nL own V A) (hW : xW V A G H) (hS : va_S A s.heap H locs) (hlink : Cond.methodLink own index yJ0_init ∈ lw_all) (ho : o = some x0) (hRf : fr + 1 ≤ R.frames) (hRl : 8 + (1 + 11) + lo ≤ R.locals) (hcs : cells ≤ R.cells ∧ slots ≤ R.slots) (hz : ls.size = nL) (hr8 : (rest.map fun v => v.category).sum ≤ 8) (hdg : decode cc pc = .ok (.invokespecial index, 3)) {Q1 : Prop} (h : w V Q1 x0 G) (kk : ∀ (H1 : Heap) (locs1 : List Loc), Q1 → xW V A G H1 → va_S A s.heap H1 locs1 → xFr V G G H H1 → W p l e R s m args below meth c H1 locs1 cells slots Z (F0 m (pc + 3) ls (rest))) : W p l e R s m args below meth c H locs cells slots Z (F0 m pc ls (va_rf o :: rest)) := by
  subst ho
  exact rg_v3r (va_runI (As := []) (rest := rest) C.1 (hM V H.size G Q1 x0) (cwI 0 C.1.2.2.2.2 (lw_meth q122) rfl rfl rfl (C.1.2.2.2.2 _ q60) (C.1.2.2.2.2 _ hlink) (C.1.2.2.2.2 _ q121) rfl (by decide +kernel) ⟨hRf, hRl⟩) ⟨fun a U g mk q => by obtain ⟨q0, q1, qW, qK, qZ, qw⟩ := q; exact ⟨q0, q1, qW, xK.same (u := U) (U := U.calling g mk a) rfl qK, xZ.moved (u := U) (U := U.calling g mk a) (Vm.Alike.refl U.vm) qZ, qw⟩, fun U hU hWm => ⟨rfl, by rw [hU], by rw [hU]; exact hW.self _, C.2.1.warm hWm, xZ.call C.2.2.1 hW hS C.2.2.2 hU hWm.alike, h⟩⟩ rfl rfl hz rfl (lv_room hr8) hdg hcs) hW hS C.2.2.2 (fun H1 locs1 hp hW1 hS1 hF1 => kk H1 locs1 hp hW1 hS1 hF1)
def w_J0_init (V : XV) (Q : Prop) (x0 : Nat) (G : GM) : Prop := Q
set_option maxRecDepth 100000 in
set_option maxHeartbeats 4000000 in
theorem wk_J0_init {p : Program} {l : Launch} {e : Env} {R : Room} {s : State} {m : MethodId} {args : Array Value} {below : List Frame} {meth : Method} {c : Code} {cells slots : Nat} {Z : State → Prop} {A : Nat → Prop} {V : XV} (Q : Prop) (C : xC p m c s args cJ0_init 1 RJ0 V A) (hin : meth.name = "<init>") (hRf : 1 ≤ R.frames) (hRl : 20 ≤ R.locals) (hcs : cells ≤ R.cells ∧ slots ≤ R.slots) (G : GM) (hret : ∀ (pc : Nat) (ls : Array Slot) (H : Heap) (locs : List Loc), decode cJ0_init pc = .ok (.return_, 1) → xW V A G H → va_S A s.heap H locs → Q → W p l e R s m args below meth c H locs cells slots Z (F0 m pc ls [])) (x0 : Nat) : w_J0_init V Q x0 G → ∀ (ls : Array Slot) (H : Heap) (locs : List Loc), lv_has ls 1 [(0, va_rf (some x0))] → xW V A G H → va_S A s.heap H locs → W p l e R s m args below meth c H locs cells slots Z (F0 m 0 ls []) := by
  have hx := C.1.1; have hb := C.1.2.1; have hml := C.1.2.2.1; have hown := C.1.2.2.2.1; have hts := C.1.2.2.2.2
  intro h
  intro ls H locs hl hW hS
  refine sh_aload_n hx hb dJ0_init_0 rfl (lv_at hl 0 rfl) ?_
  refine sh_objInit C q123 q110 q111 hl.1 (le_lit hRf rfl) (le_lit hRl rfl) (Nat.le_of_ble_eq_true rfl) dJ0_init_1 ?_
  exact hret  _ _ _ _ dJ0_init_4 hW hS h
theorem ct_J0_init (l : Launch) : CT_J0_init l 1 20 w_J0_init := by
  intro V sz G Q x0
  refine Met.ofW (cc := cJ0_init) (maxL := 1) (ret := none) (by decide) rfl ?_
  intro p e s m args below meth c s₁ B hml hv
  obtain ⟨rfl, hsz, hW, hK, hZ, h⟩ := hv
  subst hsz
  have hts := atoms_spec (ws := (ws_ yJ0_init cJ0_init 1 none)) B.pre
  have hts : ∀ w ∈ lw_all, w.before _ s = true := fun w h => hts w (List.mem_cons_of_mem _ h)
  have hl := lv_entry ([.ref x0]) (n := 1) (Nat.le_of_ble_eq_true rfl)
  rw [lg_entry_eq]
  generalize (lg_sl ([.ref x0]) ++ List.replicate (1 - (lg_sl ([.ref x0])).length) Slot.unset).toArray = ls at hl ⊢
  exact wk_J0_init Q ⟨⟨B.exec, B.bytes, hml, findClass_of_methodNamed B.named, hts⟩, hK, hZ, fun q h => Or.inr h⟩ (name_of_methodNamed B.named B.method).1 (Nat.le_refl _) (Nat.le_refl _) ⟨Nat.le_refl _, Nat.le_refl _⟩ G (fun pc ls H locs hd hW1 hS hQ => W.vret B.exec B.bytes B.returns (fun t ht _ => ⟨⟨G, rfl, ⟨rfl, hQ⟩, by rw [← ht] at hW1; exact hW1⟩, hS.F ht⟩) hS.2.2 hd) x0 h ls _ [] hl hW va_S.rf
def CT_J1_init (l : Launch) (fr lo : Nat) (w : XV → (GM → Prop) → Nat → GM → Prop) : Prop := ∀ (V : XV) (sz : Nat) (G : GM) (Q : GM → Prop) (x0 : Nat), Met l yJ1_init (ws_ yJ1_init cJ1_init 1 none) { frames := fr, cells := 0, slots := 0, locals := lo } (va_Pc [.ref x0] (fun U => U.heap.size = sz ∧ xW V (xA G sz) G U.heap ∧ xK V U ∧ xZ V (xA G sz) U U.heap ∧ w V Q x0 G)) (va_Qv (fun (u : GM) => Q u) (fun u t => xW V (xA G sz) u t.heap) (xA G sz)) 0 0 (xA G sz)
theorem call_J1_init_I {p : Program} {l : Launch} {e : Env} {R : Room} {s : State} {m : MethodId} {args : Array Value} {below : List Frame} {meth : Method} {c : Code} {H : Heap} {locs : List Loc} {cells slots : Nat} {Z : State → Prop} {A : Nat → Prop} {cc : ByteArray} {nL pc : Nat} {ls : Array Slot} {rest : List Value} {own : String} {index fr lo : Nat} {w : XV → (GM → Prop) → Nat → GM → Prop} {V : XV} {G : GM} {o : Option Nat} {x0 : Nat} (hM : CT_J1_init l fr lo w) (C : xC p m c s args cc nL own V A) (hW : xW V A G H) (hS : va_S A s.heap H locs) (hlink : Cond.methodLink own index yJ1_init ∈ lw_all) (ho : o = some x0) (hRf : fr + 1 ≤ R.frames) (hRl : 8 + (1 + 11) + lo ≤ R.locals) (hcs : cells ≤ R.cells ∧ slots ≤ R.slots) (hz : ls.size = nL) (hr8 : (rest.map fun v => v.category).sum ≤ 8) (hdg : decode cc pc = .ok (.invokespecial index, 3)) {Q1 : GM → Prop} (h : w V Q1 x0 G) (kk : ∀ (G1 : GM) (H1 : Heap) (locs1 : List Loc), Q1 G1 → xW V A G1 H1 → va_S A s.heap H1 locs1 → xFr V G G1 H H1 → W p l e R s m args below meth c H1 locs1 cells slots Z (F0 m (pc + 3) ls (rest))) : W p l e R s m args below meth c H locs cells slots Z (F0 m pc ls (va_rf o :: rest)) := by
  subst ho
  exact rg_v3w (va_runI (As := []) (rest := rest) C.1 (hM V H.size G Q1 x0) (cwI 0 C.1.2.2.2.2 (lw_meth q119) rfl rfl rfl (C.1.2.2.2.2 _ q61) (C.1.2.2.2.2 _ hlink) (C.1.2.2.2.2 _ q118) rfl (by decide +kernel) ⟨hRf, hRl⟩) ⟨fun a U g mk q => by obtain ⟨q0, q1, qW, qK, qZ, qw⟩ := q; exact ⟨q0, q1, qW, xK.same (u := U) (U := U.calling g mk a) rfl qK, xZ.moved (u := U) (U := U.calling g mk a) (Vm.Alike.refl U.vm) qZ, qw⟩, fun U hU hWm => ⟨rfl, by rw [hU], by rw [hU]; exact hW.self _, C.2.1.warm hWm, xZ.call C.2.2.1 hW hS C.2.2.2 hU hWm.alike, h⟩⟩ rfl rfl hz rfl (lv_room hr8) hdg hcs) hW hS C.2.2.2 (fun G1 H1 locs1 hp hW1 hS1 hF1 => kk G1 H1 locs1 hp hW1 hS1 hF1)
def w_J1_init (V : XV) (Q : GM → Prop) (x0 : Nat) (G : GM) : Prop := w_J0_init V (gPF G 40 (some x0) (.int (0 : Int32)) (fun G1 => Q G1)) x0 G
set_option maxRecDepth 100000 in
set_option maxHeartbeats 4000000 in
theorem wk_J1_init {p : Program} {l : Launch} {e : Env} {R : Room} {s : State} {m : MethodId} {args : Array Value} {below : List Frame} {meth : Method} {c : Code} {cells slots : Nat} {Z : State → Prop} {A : Nat → Prop} {V : XV} (Q : GM → Prop) (C : xC p m c s args cJ1_init 1 RJ1 V A) (hin : meth.name = "<init>") (hRf : 2 ≤ R.frames) (hRl : 40 ≤ R.locals) (hcs : cells ≤ R.cells ∧ slots ≤ R.slots) (G : GM) (hret : ∀ (G : GM) (pc : Nat) (ls : Array Slot) (H : Heap) (locs : List Loc), decode cJ1_init pc = .ok (.return_, 1) → xW V A G H → va_S A s.heap H locs → Q G → W p l e R s m args below meth c H locs cells slots Z (F0 m pc ls [])) (x0 : Nat) : w_J1_init V Q x0 G → ∀ (ls : Array Slot) (H : Heap) (locs : List Loc), lv_has ls 1 [(0, va_rf (some x0))] → xW V A G H → va_S A s.heap H locs → W p l e R s m args below meth c H locs cells slots Z (F0 m 0 ls []) := by
  have hx := C.1.1; have hb := C.1.2.1; have hml := C.1.2.2.1; have hown := C.1.2.2.2.1; have hts := C.1.2.2.2.2
  intro h
  intro ls H locs hl hW hS
  refine sh_aload_n hx hb dJ1_init_0 rfl (lv_at hl 0 rfl) ?_
  refine call_J0_init_I (ct_J0_init l) C hW hS q120 rfl (le_lit hRf rfl) (le_lit hRl rfl) hcs hl.1 (Nat.le_of_ble_eq_true rfl) dJ1_init_1 h (fun  H locs h hW hS _ => ?_)
  refine sh_aload_n hx hb dJ1_init_4 rfl (lv_at hl 0 rfl) ?_
  refine lv_iconst (v := 0) hx hb dJ1_init_5 (by decide) ?_
  refine sh_put C hW hS xFb_40 q128 (fun _ h => h) xFd_40 rfl rfl h dJ1_init_6 (fun G1 H locs hW hS h => ?_)
  exact hret _ _ _ _ _ dJ1_init_9 hW hS h
theorem ct_J1_init (l : Launch) : CT_J1_init l 2 40 w_J1_init := by
  intro V sz G Q x0
  refine Met.ofW (cc := cJ1_init) (maxL := 1) (ret := none) (by decide) rfl ?_
  intro p e s m args below meth c s₁ B hml hv
  obtain ⟨rfl, hsz, hW, hK, hZ, h⟩ := hv
  subst hsz
  have hts := atoms_spec (ws := (ws_ yJ1_init cJ1_init 1 none)) B.pre
  have hts : ∀ w ∈ lw_all, w.before _ s = true := fun w h => hts w (List.mem_cons_of_mem _ h)
  have hl := lv_entry ([.ref x0]) (n := 1) (Nat.le_of_ble_eq_true rfl)
  rw [lg_entry_eq]
  generalize (lg_sl ([.ref x0]) ++ List.replicate (1 - (lg_sl ([.ref x0])).length) Slot.unset).toArray = ls at hl ⊢
  exact wk_J1_init Q ⟨⟨B.exec, B.bytes, hml, findClass_of_methodNamed B.named, hts⟩, hK, hZ, fun q h => Or.inr h⟩ (name_of_methodNamed B.named B.method).1 (Nat.le_refl _) (Nat.le_refl _) ⟨Nat.le_refl _, Nat.le_refl _⟩ G (fun G pc ls H locs hd hW1 hS hQ => W.vret B.exec B.bytes B.returns (fun t ht _ => ⟨⟨G, rfl, hQ, by rw [← ht] at hW1; exact hW1⟩, hS.F ht⟩) hS.2.2 hd) x0 h ls _ [] hl hW va_S.rf
def CT_J12_newLength (l : Launch) (fr lo : Nat) (w : XV → (Int32 → Prop) → Int32 → Int32 → Int32 → GM → Prop) : Prop := ∀ (V : XV) (sz : Nat) (G : GM) (Q : Int32 → Prop) (x0 : Int32) (x1 : Int32) (x2 : Int32), Met l yJ12_newLength (ws_ yJ12_newLength cJ12_newLength 4 (some .int)) { frames := fr, cells := 0, slots := 0, locals := lo } (va_Pc [.int x0, .int x1, .int x2] (fun U => U.heap.size = sz ∧ xW V (xA G sz) G U.heap ∧ xK V U ∧ xZ V (xA G sz) U U.heap ∧ w V Q x0 x1 x2 G)) (va_Qi (fun r (u : GM) => u = G ∧ Q r) (fun u t => xW V (xA G sz) u t.heap) (xA G sz)) 0 0 (xA G sz)
theorem call_J12_newLength_S {p : Program} {l : Launch} {e : Env} {R : Room} {s : State} {m : MethodId} {args : Array Value} {below : List Frame} {meth : Method} {c : Code} {H : Heap} {locs : List Loc} {cells slots : Nat} {Z : State → Prop} {A : Nat → Prop} {cc : ByteArray} {nL pc : Nat} {ls : Array Slot} {rest : List Value} {own : String} {index fr lo : Nat} {w : XV → (Int32 → Prop) → Int32 → Int32 → Int32 → GM → Prop} {V : XV} {G : GM} {x0 : Int32} {x1 : Int32} {x2 : Int32} (hM : CT_J12_newLength l fr lo w) (C : xC p m c s args cc nL own V A) (hW : xW V A G H) (hS : va_S A s.heap H locs) (hlink : Cond.methodLink own index yJ12_newLength ∈ lw_all) (hRf : fr + 1 ≤ R.frames) (hRl : 8 + (4 + 11) + lo ≤ R.locals) (hcs : cells ≤ R.cells ∧ slots ≤ R.slots) (hz : ls.size = nL) (hr8 : (rest.map fun v => v.category).sum ≤ 8) (hdg : decode cc pc = .ok (.invokestatic index, 3)) {Q1 : Int32 → Prop} (h : w V Q1 x0 x1 x2 G) (kk : ∀ (r : Int32) (H1 : Heap) (locs1 : List Loc), Q1 r → xW V A G H1 → va_S A s.heap H1 locs1 → xFr V G G H H1 → W p l e R s m args below meth c H1 locs1 cells slots Z (F0 m (pc + 3) ls (.int r :: rest))) : W p l e R s m args below meth c H locs cells slots Z (F0 m pc ls (.int x2 :: .int x1 :: .int x0 :: rest)) := by
  exact rg_i3r (va_runS (As := [.int x0, .int x1, .int x2]) (rest := rest) C.1 (hM V H.size G Q1 x0 x1 x2) (va_cwS 3 C.1.2.2.2.2 (lw_S hlink q278 q74 q279) rfl rfl rfl (by decide +kernel) ⟨hRf, hRl⟩) ⟨fun a U g mk q => by obtain ⟨q0, q1, qW, qK, qZ, qw⟩ := q; exact ⟨q0, q1, qW, xK.same (u := U) (U := U.calling g mk a) rfl qK, xZ.moved (u := U) (U := U.calling g mk a) (Vm.Alike.refl U.vm) qZ, qw⟩, fun U hU hWm => ⟨rfl, by rw [hU], by rw [hU]; exact hW.self _, C.2.1.warm hWm, xZ.call C.2.2.1 hW hS C.2.2.2 hU hWm.alike, h⟩⟩ rfl rfl hz rfl (lv_room hr8) hdg hcs) hW hS C.2.2.2 (fun r H1 locs1 hp hW1 hS1 hF1 => kk r H1 locs1 hp hW1 hS1 hF1)
def w_J12_newLength (V : XV) (Q : Int32 → Prop) (x0 : Int32) (x1 : Int32) (x2 : Int32) (G : GM) : Prop := w_J13_max (fun r1 => if (x0 + r1) ≤ (0 : Int32) then (False) else (if (2147483639 : Int32) < (x0 + r1) then (False) else (Q (x0 + r1)))) x1 x2
set_option maxRecDepth 100000 in
set_option maxHeartbeats 4000000 in
theorem wk_J12_newLength {p : Program} {l : Launch} {e : Env} {R : Room} {s : State} {m : MethodId} {args : Array Value} {below : List Frame} {meth : Method} {c : Code} {cells slots : Nat} {Z : State → Prop} {A : Nat → Prop} {V : XV} (Q : Int32 → Prop) (C : xC p m c s args cJ12_newLength 4 RJ12 V A) (hRf : 1 ≤ R.frames) (hRl : 21 ≤ R.locals) (hcs : cells ≤ R.cells ∧ slots ≤ R.slots) (G : GM) (hret : ∀ (v : Int32) (pc : Nat) (ls : Array Slot) (H : Heap) (locs : List Loc), decode cJ12_newLength pc = .ok (.ireturn, 1) → xW V A G H → va_S A s.heap H locs → Q v → W p l e R s m args below meth c H locs cells slots Z (F0 m pc ls [.int v])) (x0 : Int32) (x1 : Int32) (x2 : Int32) : w_J12_newLength V Q x0 x1 x2 G → ∀ (ls : Array Slot) (H : Heap) (locs : List Loc), lv_has ls 4 [(0, .int x0), (1, .int x1), (2, .int x2)] → xW V A G H → va_S A s.heap H locs → W p l e R s m args below meth c H locs cells slots Z (F0 m 0 ls []) := by
  have hx := C.1.1; have hb := C.1.2.1; have hml := C.1.2.2.1; have hown := C.1.2.2.2.1; have hts := C.1.2.2.2.2
  intro h
  intro ls H locs hl hW hS
  refine lv_iload_n hx hb dJ12_newLength_0 rfl (lv_at hl 0 rfl) ?_
  refine lv_iload_n hx hb dJ12_newLength_1 rfl (lv_at hl 1 rfl) ?_
  refine lv_iload_n hx hb dJ12_newLength_2 rfl (lv_at hl 2 rfl) ?_
  refine call_J13_max (ct_J13_max l) C.1 hS C.2.2.2 q280 (le_lit hRf rfl) (le_lit hRl rfl) hcs hl.1 (Nat.le_of_ble_eq_true rfl) dJ12_newLength_3 h (fun r1 H locs h hk hS => ?_)
  have hW := hW.kept hk
  refine lv_iadd hx hb dJ12_newLength_6 ?_
  refine lv_istore_n (lv' := [(3, .int (x0 + r1)), (0, .int x0), (1, .int x1), (2, .int x2)]) hx hb dJ12_newLength_7 rfl hl (by decide) rfl (fun ls hl => ?_)
  refine lv_iconst (v := 0) hx hb dJ12_newLength_8 (by decide) ?_
  refine lv_iload_n hx hb dJ12_newLength_9 rfl (lv_at hl 0 rfl) ?_
  refine lv_icmp_ge (tgt := 21) hx hb dJ12_newLength_10 (by decide) (fun c3 => ?_) (fun c3 => ?_)
  · have h := wif_t h c3
    refine lv_iload_n hx hb dJ12_newLength_21 rfl (lv_at hl 1 rfl) ?_
    refine lv_iload_n hx hb dJ12_newLength_22 rfl (lv_at hl 2 rfl) ?_
    exact False.elim h
  · have h := wif_f h c3
    refine lv_iload_n hx hb dJ12_newLength_13 rfl (lv_at hl 0 rfl) ?_
    refine lv_ldc hx hb hown (hts _ q283) dJ12_newLength_14 ?_
    refine lv_icmp_gt (tgt := 21) hx hb dJ12_newLength_16 (by decide) (fun c2 => ?_) (fun c2 => ?_)
    · have h := wif_t h c2
      refine lv_iload_n hx hb dJ12_newLength_21 rfl (lv_at hl 1 rfl) ?_
      refine lv_iload_n hx hb dJ12_newLength_22 rfl (lv_at hl 2 rfl) ?_
      exact False.elim h
    · have h := wif_f h c2
      refine lv_iload_n hx hb dJ12_newLength_19 rfl (lv_at hl 0 rfl) ?_
      exact hret _ _ _ _ _ dJ12_newLength_20 hW hS h
theorem ct_J12_newLength (l : Launch) : CT_J12_newLength l 1 21 w_J12_newLength := by
  intro V sz G Q x0 x1 x2
  refine Met.ofW (cc := cJ12_newLength) (maxL := 4) (ret := (some .int)) (by decide) rfl ?_
  intro p e s m args below meth c s₁ B hml hv
  obtain ⟨rfl, hsz, hW, hK, hZ, h⟩ := hv
  subst hsz
  have hts := atoms_spec (ws := (ws_ yJ12_newLength cJ12_newLength 4 (some .int))) B.pre
  have hts : ∀ w ∈ lw_all, w.before _ s = true := fun w h => hts w (List.mem_cons_of_mem _ h)
  have hl := lv_entry ([.int x0, .int x1, .int x2]) (n := 4) (Nat.le_of_ble_eq_true rfl)
  rw [lg_entry_eq]
  generalize (lg_sl ([.int x0, .int x1, .int x2]) ++ List.replicate (4 - (lg_sl ([.int x0, .int x1, .int x2])).length) Slot.unset).toArray = ls at hl ⊢
  exact wk_J12_newLength Q ⟨⟨B.exec, B.bytes, hml, findClass_of_methodNamed B.named, hts⟩, hK, hZ, fun q h => Or.inr h⟩ (Nat.le_refl _) (Nat.le_refl _) ⟨Nat.le_refl _, Nat.le_refl _⟩ G (fun v pc ls H locs hd hW1 hS hQ => W.iret (v := v) B.exec B.bytes B.returns (fun t ht _ => ⟨⟨v, G, rfl, ⟨rfl, hQ⟩, by rw [← ht] at hW1; exact hW1⟩, hS.F ht⟩) hS.2.2 hd) x0 x1 x2 h ls _ [] hl hW va_S.rf
def CT_J14_copyOf (l : Launch) (fr lo : Nat) (w : XV → (Option Nat → GM → Prop) → (Option Nat) → Int32 → GM → Nat → Nat → Prop) : Prop := ∀ (V : XV) (sz : Nat) (G : GM) (Q : Option Nat → GM → Prop) (x0 : Option Nat) (x1 : Int32) (kc ks : Nat), Met l yJ14_copyOf (ws_ yJ14_copyOf cJ14_copyOf 3 (some (.array .byte))) { frames := fr, cells := kc, slots := ks, locals := lo } (va_Pc [va_rf x0, .int x1] (fun U => U.heap.size = sz ∧ xW V (xA G sz) G U.heap ∧ xK V U ∧ xZ V (xA G sz) U U.heap ∧ w V Q x0 x1 G kc ks)) (va_Qq (fun r (u : GM) => Q r u) (fun u t => xW V (xA G sz) u t.heap) (xA G sz)) kc ks (xA G sz)
theorem call_J14_copyOf_S {p : Program} {l : Launch} {e : Env} {R : Room} {s : State} {m : MethodId} {args : Array Value} {below : List Frame} {meth : Method} {c : Code} {H : Heap} {locs : List Loc} {cells slots : Nat} {Z : State → Prop} {A : Nat → Prop} {cc : ByteArray} {nL pc : Nat} {ls : Array Slot} {rest : List Value} {own : String} {index fr lo : Nat} {w : XV → (Option Nat → GM → Prop) → (Option Nat) → Int32 → GM → Nat → Nat → Prop} {V : XV} {G : GM} {kc ks c1 s1 : Nat} {x0 : Option Nat} {x1 : Int32} (hM : CT_J14_copyOf l fr lo w) (C : xC p m c s args cc nL own V A) (hW : xW V A G H) (hS : va_S A s.heap H locs) (hlink : Cond.methodLink own index yJ14_copyOf ∈ lw_all) (hRf : fr + 1 ≤ R.frames) (hRl : 8 + (3 + 11) + lo ≤ R.locals) (hc1 : c1 ≤ kc) (hs1 : s1 ≤ ks) (hkc : cells + kc ≤ R.cells) (hks : slots + ks ≤ R.slots) (hz : ls.size = nL) (hr8 : (rest.map fun v => v.category).sum ≤ 8) (hdg : decode cc pc = .ok (.invokestatic index, 3)) {Q1 : Option Nat → GM → Prop} (h : w V Q1 x0 x1 G c1 s1) (kk : ∀ (r : Option Nat) (G1 : GM) (H1 : Heap) (locs1 : List Loc), Q1 r G1 → xW V A G1 H1 → va_S A s.heap H1 locs1 → xFr V G G1 H H1 → (cells + c1) + (kc - c1) ≤ R.cells → (slots + s1) + (ks - s1) ≤ R.slots → W p l e R s m args below meth c H1 locs1 (cells + c1) (slots + s1) Z (F0 m (pc + 3) ls (va_rf r :: rest))) : W p l e R s m args below meth c H locs cells slots Z (F0 m pc ls (.int x1 :: va_rf x0 :: rest)) := by
  exact rg_q3w (va_runS (As := [va_rf x0, .int x1]) (rest := rest) C.1 (hM V H.size G Q1 x0 x1 c1 s1) (va_cwS 2 C.1.2.2.2.2 (lw_S hlink q289 q76 q290) rfl rfl rfl (by decide +kernel) ⟨hRf, hRl⟩) ⟨fun a U g mk q => by obtain ⟨q0, q1, qW, qK, qZ, qw⟩ := q; exact ⟨q0, q1, qW, xK.same (u := U) (U := U.calling g mk a) rfl qK, xZ.moved (u := U) (U := U.calling g mk a) (Vm.Alike.refl U.vm) qZ, qw⟩, fun U hU hWm => ⟨rfl, by rw [hU], by rw [hU]; exact hW.self _, C.2.1.warm hWm, xZ.call C.2.2.1 hW hS C.2.2.2 hU hWm.alike, h⟩⟩ rfl rfl hz rfl (lv_room hr8) hdg ⟨by omega, by omega⟩) hW hS C.2.2.2 (fun r G1 H1 locs1 hp hW1 hS1 hF1 => kk r G1 H1 locs1 hp hW1 hS1 hF1 (by omega) (by omega))
def w_J14_copyOf (V : XV) (Q : Option Nat → GM → Prop) (x0 : Option Nat) (x1 : Int32) (G : GM) (kc : Nat) (ks : Nat) : Prop := gLn G x0 (fun v1 => if x1 = v1 then (gCl G x0 kc ks (fun q8 n9 G10 => gCkA G10 2 (some q8) (Q (some q8) G10))) else (gNa G 2 (fun N => (N, .inl (fun _ => 0))) x1 kc ks (fun q2 n3 G4 => gLn G4 x0 (fun v5 => w_J13_min (fun r6 => gCI G4 2 x0 (0 : Int32) (some q2) (0 : Int32) r6 (fun G7 => Q (some q2) G7)) v5 x1))))
set_option maxRecDepth 100000 in
set_option maxHeartbeats 4000000 in
theorem wk_J14_copyOf {p : Program} {l : Launch} {e : Env} {R : Room} {s : State} {m : MethodId} {args : Array Value} {below : List Frame} {meth : Method} {c : Code} {Z : State → Prop} {A : Nat → Prop} {V : XV} (Q : Option Nat → GM → Prop) (C : xC p m c s args cJ14_copyOf 3 RJ14 V A) (hRf : 1 ≤ R.frames) (hRl : 60 ≤ R.locals) (G : GM) (hret : ∀ (v : Option Nat) (G : GM) (pc : Nat) (ls : Array Slot) (H : Heap) (locs : List Loc) (cells slots : Nat) {k1 k2 : Nat}, decode cJ14_copyOf pc = .ok (.areturn, 1) → xW V A G H → va_S A s.heap H locs → cells + k1 ≤ R.cells → slots + k2 ≤ R.slots → Q v G → W p l e R s m args below meth c H locs cells slots Z (F0 m pc ls [va_rf v])) (x0 : Option Nat) (x1 : Int32) (kc ks : Nat) : w_J14_copyOf V Q x0 x1 G kc ks → ∀ (ls : Array Slot) (H : Heap) (locs : List Loc) (cells slots : Nat), lv_has ls 3 [(0, va_rf x0), (1, .int x1)] → xW V A G H → va_S A s.heap H locs → cells + kc ≤ R.cells → slots + ks ≤ R.slots → W p l e R s m args below meth c H locs cells slots Z (F0 m 0 ls []) := by
  have hx := C.1.1; have hb := C.1.2.1; have hml := C.1.2.2.1; have hown := C.1.2.2.2.1; have hts := C.1.2.2.2.2
  intro h
  intro ls H locs cells slots hl hW hS hkc hks
  refine lv_iload_n hx hb dJ14_copyOf_0 rfl (lv_at hl 1 rfl) ?_
  refine sh_aload_n hx hb dJ14_copyOf_1 rfl (lv_at hl 0 rfl) ?_
  refine sh_len C hW h dJ14_copyOf_2 (fun v1 h => ?_)
  refine lv_icmp_ne (tgt := 14) hx hb dJ14_copyOf_3 (by decide) (fun c11 => ?_) (fun c11 => ?_)
  · have h := wif_f h c11
    refine lv_iload_n hx hb dJ14_copyOf_14 rfl (lv_at hl 1 rfl) ?_
    refine sh_newa C hW hS (atype := .byte) (t := 2) rfl (by decide) q172 (fun _ _ => rfl) (by decide) h hkc hks dJ14_copyOf_15 (fun q2 n3 G4 H hW hS h hN hkc hks => ?_)
    refine sh_astore_n (lv' := [(2, va_rf (some q2)), (0, va_rf x0), (1, .int x1)]) hx hb dJ14_copyOf_17 rfl hl (by decide) rfl (fun ls hl => ?_)
    refine sh_aload_n hx hb dJ14_copyOf_18 rfl (lv_at hl 1 rfl) ?_
    refine lv_iconst (v := 0) hx hb dJ14_copyOf_19 (by decide) ?_
    refine sh_aload_n hx hb dJ14_copyOf_20 rfl (lv_at hl 0 rfl) ?_
    refine lv_iconst (v := 0) hx hb dJ14_copyOf_21 (by decide) ?_
    refine sh_aload_n hx hb dJ14_copyOf_22 rfl (lv_at hl 1 rfl) ?_
    refine sh_len C hW h dJ14_copyOf_23 (fun v5 h => ?_)
    refine lv_iload_n hx hb dJ14_copyOf_24 rfl (lv_at hl 2 rfl) ?_
    refine call_J13_min (ct_J13_min l) C.1 hS C.2.2.2 q298 (le_lit hRf rfl) (le_lit hRl rfl) ⟨Nat.le_trans (Nat.le_add_right _ _) hkc, Nat.le_trans (Nat.le_add_right _ _) hks⟩ hl.1 (by simp only [List.map_cons, List.map_nil, va_rf_cat]; exact Nat.le_of_ble_eq_true rfl) dJ14_copyOf_25 h (fun r6 H locs h hk hS => ?_)
    have hW := hW.kept hk
    refine sh_copyI C hW hS (t := 2) (by decide) rfl q301 q303 q302 q77 hl.1 (le_lit hRf rfl) (Nat.le_trans (show _ ≤ 60 by first | decide | (simp [va_rf_cat, Value.category]; decide)) (le_lit hRl rfl)) h dJ14_copyOf_28 (fun G7 H locs hW hS h => ?_)
    refine sh_aload_n hx hb dJ14_copyOf_31 rfl (lv_at hl 0 rfl) ?_
    exact hret _ _ _ _ _ _ _ _ dJ14_copyOf_32 hW hS hkc hks h
  · have h := wif_t h c11
    refine sh_aload_n hx hb dJ14_copyOf_6 rfl (lv_at hl 0 rfl) ?_
    refine sh_cloneB C hW hS q291 h hkc hks hl.1 (le_lit hRf rfl) (le_lit hRl rfl) (Nat.le_of_ble_eq_true rfl) dJ14_copyOf_7 (fun q8 n9 G10 H hW hS h hN hkc hks => ?_)
    refine sh_castA C hW (t := 2) (by decide) q297 (by have := (C.2.1.2.1 2 (by decide)).2; exact this) h dJ14_copyOf_10 (fun h => ?_)
    exact hret _ _ _ _ _ _ _ _ dJ14_copyOf_13 hW hS hkc hks h
theorem ct_J14_copyOf (l : Launch) : CT_J14_copyOf l 1 60 w_J14_copyOf := by
  intro V sz G Q x0 x1 kc ks
  refine Met.ofW (cc := cJ14_copyOf) (maxL := 3) (ret := (some (.array .byte))) (by decide) rfl ?_
  intro p e s m args below meth c s₁ B hml hv
  obtain ⟨rfl, hsz, hW, hK, hZ, h⟩ := hv
  subst hsz
  have hts := atoms_spec (ws := (ws_ yJ14_copyOf cJ14_copyOf 3 (some (.array .byte)))) B.pre
  have hts : ∀ w ∈ lw_all, w.before _ s = true := fun w h => hts w (List.mem_cons_of_mem _ h)
  have key : ∃ ls : Array Slot, entryFrame m ([va_rf x0, .int x1] : List Value).toArray 3 = F0 m 0 ls [] ∧ lv_has ls 3 [(0, va_rf x0), (1, .int x1)] := by
    cases x0 <;> (refine ⟨_, by rw [lg_entry_eq], ?_⟩; exact lv_entry _ (Nat.le_of_ble_eq_true rfl))
  obtain ⟨ls, hfr, hl⟩ := key
  rw [hfr]
  exact wk_J14_copyOf Q ⟨⟨B.exec, B.bytes, hml, findClass_of_methodNamed B.named, hts⟩, hK, hZ, fun q h => Or.inr h⟩ (Nat.le_refl _) (Nat.le_refl _) G (fun v G pc ls H locs cells slots _ _ hd hW1 hS hkc hks hQ => W.widen (k := kc) (n := ks) (Nat.le_trans (Nat.le_add_right _ _) hkc) (Nat.le_trans (Nat.le_add_right _ _) hks) (W.aret (v := va_rf v) B.exec B.bytes B.returns (Or.inr ⟨_, rfl⟩) (va_rf_or v) (fun t ht _ => ⟨⟨v, G, rfl, hQ, by rw [← ht] at hW1; exact hW1⟩, hS.F ht⟩) hS.2.2 hd)) x0 x1 kc ks h ls _ [] 0 0 hl hW va_S.rf (by show 0 + kc ≤ kc; omega) (by show 0 + ks ≤ ks; omega)
def CT_J14_copyOfRangeByte (l : Launch) (fr lo : Nat) (w : XV → (Option Nat → GM → Prop) → (Option Nat) → Int32 → Int32 → GM → Nat → Nat → Prop) : Prop := ∀ (V : XV) (sz : Nat) (G : GM) (Q : Option Nat → GM → Prop) (x0 : Option Nat) (x1 : Int32) (x2 : Int32) (kc ks : Nat), Met l yJ14_copyOfRangeByte (ws_ yJ14_copyOfRangeByte cJ14_copyOfRangeByte 5 (some (.array .byte))) { frames := fr, cells := kc, slots := ks, locals := lo } (va_Pc [va_rf x0, .int x1, .int x2] (fun U => U.heap.size = sz ∧ xW V (xA G sz) G U.heap ∧ xK V U ∧ xZ V (xA G sz) U U.heap ∧ w V Q x0 x1 x2 G kc ks)) (va_Qq (fun r (u : GM) => Q r u) (fun u t => xW V (xA G sz) u t.heap) (xA G sz)) kc ks (xA G sz)
theorem call_J14_copyOfRangeByte_S {p : Program} {l : Launch} {e : Env} {R : Room} {s : State} {m : MethodId} {args : Array Value} {below : List Frame} {meth : Method} {c : Code} {H : Heap} {locs : List Loc} {cells slots : Nat} {Z : State → Prop} {A : Nat → Prop} {cc : ByteArray} {nL pc : Nat} {ls : Array Slot} {rest : List Value} {own : String} {index fr lo : Nat} {w : XV → (Option Nat → GM → Prop) → (Option Nat) → Int32 → Int32 → GM → Nat → Nat → Prop} {V : XV} {G : GM} {kc ks c1 s1 : Nat} {x0 : Option Nat} {x1 : Int32} {x2 : Int32} (hM : CT_J14_copyOfRangeByte l fr lo w) (C : xC p m c s args cc nL own V A) (hW : xW V A G H) (hS : va_S A s.heap H locs) (hlink : Cond.methodLink own index yJ14_copyOfRangeByte ∈ lw_all) (hRf : fr + 1 ≤ R.frames) (hRl : 8 + (5 + 11) + lo ≤ R.locals) (hc1 : c1 ≤ kc) (hs1 : s1 ≤ ks) (hkc : cells + kc ≤ R.cells) (hks : slots + ks ≤ R.slots) (hz : ls.size = nL) (hr8 : (rest.map fun v => v.category).sum ≤ 8) (hdg : decode cc pc = .ok (.invokestatic index, 3)) {Q1 : Option Nat → GM → Prop} (h : w V Q1 x0 x1 x2 G c1 s1) (kk : ∀ (r : Option Nat) (G1 : GM) (H1 : Heap) (locs1 : List Loc), Q1 r G1 → xW V A G1 H1 → va_S A s.heap H1 locs1 → xFr V G G1 H H1 → (cells + c1) + (kc - c1) ≤ R.cells → (slots + s1) + (ks - s1) ≤ R.slots → W p l e R s m args below meth c H1 locs1 (cells + c1) (slots + s1) Z (F0 m (pc + 3) ls (va_rf r :: rest))) : W p l e R s m args below meth c H locs cells slots Z (F0 m pc ls (.int x2 :: .int x1 :: va_rf x0 :: rest)) := by
  exact rg_q3w (va_runS (As := [va_rf x0, .int x1, .int x2]) (rest := rest) C.1 (hM V H.size G Q1 x0 x1 x2 c1 s1) (va_cwS 3 C.1.2.2.2.2 (lw_S hlink q434 q76 q435) rfl rfl rfl (by decide +kernel) ⟨hRf, hRl⟩) ⟨fun a U g mk q => by obtain ⟨q0, q1, qW, qK, qZ, qw⟩ := q; exact ⟨q0, q1, qW, xK.same (u := U) (U := U.calling g mk a) rfl qK, xZ.moved (u := U) (U := U.calling g mk a) (Vm.Alike.refl U.vm) qZ, qw⟩, fun U hU hWm => ⟨rfl, by rw [hU], by rw [hU]; exact hW.self _, C.2.1.warm hWm, xZ.call C.2.2.1 hW hS C.2.2.2 hU hWm.alike, h⟩⟩ rfl rfl hz rfl (lv_room hr8) hdg ⟨by omega, by omega⟩) hW hS C.2.2.2 (fun r G1 H1 locs1 hp hW1 hS1 hF1 => kk r G1 H1 locs1 hp hW1 hS1 hF1 (by omega) (by omega))
def w_J14_copyOfRangeByte (V : XV) (Q : Option Nat → GM → Prop) (x0 : Option Nat) (x1 : Int32) (x2 : Int32) (G : GM) (kc : Nat) (ks : Nat) : Prop := False
set_option maxRecDepth 100000 in
set_option maxHeartbeats 4000000 in
theorem wk_J14_copyOfRangeByte {p : Program} {l : Launch} {e : Env} {R : Room} {s : State} {m : MethodId} {args : Array Value} {below : List Frame} {meth : Method} {c : Code} {Z : State → Prop} {A : Nat → Prop} {V : XV} (Q : Option Nat → GM → Prop) (C : xC p m c s args cJ14_copyOfRangeByte 5 RJ14 V A) (hRf : 1 ≤ R.frames) (hRl : 60 ≤ R.locals) (G : GM) (hret : ∀ (v : Option Nat) (G : GM) (pc : Nat) (ls : Array Slot) (H : Heap) (locs : List Loc) (cells slots : Nat) {k1 k2 : Nat}, decode cJ14_copyOfRangeByte pc = .ok (.areturn, 1) → xW V A G H → va_S A s.heap H locs → cells + k1 ≤ R.cells → slots + k2 ≤ R.slots → Q v G → W p l e R s m args below meth c H locs cells slots Z (F0 m pc ls [va_rf v])) (x0 : Option Nat) (x1 : Int32) (x2 : Int32) (kc ks : Nat) : w_J14_copyOfRangeByte V Q x0 x1 x2 G kc ks → ∀ (ls : Array Slot) (H : Heap) (locs : List Loc) (cells slots : Nat), lv_has ls 5 [(0, va_rf x0), (1, .int x1), (2, .int x2)] → xW V A G H → va_S A s.heap H locs → cells + kc ≤ R.cells → slots + ks ≤ R.slots → W p l e R s m args below meth c H locs cells slots Z (F0 m 0 ls []) := by
  have hx := C.1.1; have hb := C.1.2.1; have hml := C.1.2.2.1; have hown := C.1.2.2.2.1; have hts := C.1.2.2.2.2
  intro h
  intro ls H locs cells slots hl hW hS hkc hks
  refine lv_iload_n hx hb dJ14_copyOfRangeByte_0 rfl (lv_at hl 1 rfl) ?_
  refine lv_iload_n hx hb dJ14_copyOfRangeByte_1 rfl (lv_at hl 2 rfl) ?_
  exact False.elim h
theorem ct_J14_copyOfRangeByte (l : Launch) : CT_J14_copyOfRangeByte l 1 60 w_J14_copyOfRangeByte := by
  intro V sz G Q x0 x1 x2 kc ks
  refine Met.ofW (cc := cJ14_copyOfRangeByte) (maxL := 5) (ret := (some (.array .byte))) (by decide) rfl ?_
  intro p e s m args below meth c s₁ B hml hv
  obtain ⟨rfl, hsz, hW, hK, hZ, h⟩ := hv
  subst hsz
  have hts := atoms_spec (ws := (ws_ yJ14_copyOfRangeByte cJ14_copyOfRangeByte 5 (some (.array .byte)))) B.pre
  have hts : ∀ w ∈ lw_all, w.before _ s = true := fun w h => hts w (List.mem_cons_of_mem _ h)
  have key : ∃ ls : Array Slot, entryFrame m ([va_rf x0, .int x1, .int x2] : List Value).toArray 5 = F0 m 0 ls [] ∧ lv_has ls 5 [(0, va_rf x0), (1, .int x1), (2, .int x2)] := by
    cases x0 <;> (refine ⟨_, by rw [lg_entry_eq], ?_⟩; exact lv_entry _ (Nat.le_of_ble_eq_true rfl))
  obtain ⟨ls, hfr, hl⟩ := key
  rw [hfr]
  exact wk_J14_copyOfRangeByte Q ⟨⟨B.exec, B.bytes, hml, findClass_of_methodNamed B.named, hts⟩, hK, hZ, fun q h => Or.inr h⟩ (Nat.le_refl _) (Nat.le_refl _) G (fun v G pc ls H locs cells slots _ _ hd hW1 hS hkc hks hQ => W.widen (k := kc) (n := ks) (Nat.le_trans (Nat.le_add_right _ _) hkc) (Nat.le_trans (Nat.le_add_right _ _) hks) (W.aret (v := va_rf v) B.exec B.bytes B.returns (Or.inr ⟨_, rfl⟩) (va_rf_or v) (fun t ht _ => ⟨⟨v, G, rfl, hQ, by rw [← ht] at hW1; exact hW1⟩, hS.F ht⟩) hS.2.2 hd)) x0 x1 x2 kc ks h ls _ [] 0 0 hl hW va_S.rf (by show 0 + kc ≤ kc; omega) (by show 0 + ks ≤ ks; omega)
def CT_J14_copyOfRange (l : Launch) (fr lo : Nat) (w : XV → (Option Nat → GM → Prop) → (Option Nat) → Int32 → Int32 → GM → Nat → Nat → Prop) : Prop := ∀ (V : XV) (sz : Nat) (G : GM) (Q : Option Nat → GM → Prop) (x0 : Option Nat) (x1 : Int32) (x2 : Int32) (kc ks : Nat), Met l yJ14_copyOfRange (ws_ yJ14_copyOfRange cJ14_copyOfRange 3 (some (.array .byte))) { frames := fr, cells := kc, slots := ks, locals := lo } (va_Pc [va_rf x0, .int x1, .int x2] (fun U => U.heap.size = sz ∧ xW V (xA G sz) G U.heap ∧ xK V U ∧ xZ V (xA G sz) U U.heap ∧ w V Q x0 x1 x2 G kc ks)) (va_Qq (fun r (u : GM) => Q r u) (fun u t => xW V (xA G sz) u t.heap) (xA G sz)) kc ks (xA G sz)
theorem call_J14_copyOfRange_S {p : Program} {l : Launch} {e : Env} {R : Room} {s : State} {m : MethodId} {args : Array Value} {below : List Frame} {meth : Method} {c : Code} {H : Heap} {locs : List Loc} {cells slots : Nat} {Z : State → Prop} {A : Nat → Prop} {cc : ByteArray} {nL pc : Nat} {ls : Array Slot} {rest : List Value} {own : String} {index fr lo : Nat} {w : XV → (Option Nat → GM → Prop) → (Option Nat) → Int32 → Int32 → GM → Nat → Nat → Prop} {V : XV} {G : GM} {kc ks c1 s1 : Nat} {x0 : Option Nat} {x1 : Int32} {x2 : Int32} (hM : CT_J14_copyOfRange l fr lo w) (C : xC p m c s args cc nL own V A) (hW : xW V A G H) (hS : va_S A s.heap H locs) (hlink : Cond.methodLink own index yJ14_copyOfRange ∈ lw_all) (hRf : fr + 1 ≤ R.frames) (hRl : 8 + (3 + 11) + lo ≤ R.locals) (hc1 : c1 ≤ kc) (hs1 : s1 ≤ ks) (hkc : cells + kc ≤ R.cells) (hks : slots + ks ≤ R.slots) (hz : ls.size = nL) (hr8 : (rest.map fun v => v.category).sum ≤ 8) (hdg : decode cc pc = .ok (.invokestatic index, 3)) {Q1 : Option Nat → GM → Prop} (h : w V Q1 x0 x1 x2 G c1 s1) (kk : ∀ (r : Option Nat) (G1 : GM) (H1 : Heap) (locs1 : List Loc), Q1 r G1 → xW V A G1 H1 → va_S A s.heap H1 locs1 → xFr V G G1 H H1 → (cells + c1) + (kc - c1) ≤ R.cells → (slots + s1) + (ks - s1) ≤ R.slots → W p l e R s m args below meth c H1 locs1 (cells + c1) (slots + s1) Z (F0 m (pc + 3) ls (va_rf r :: rest))) : W p l e R s m args below meth c H locs cells slots Z (F0 m pc ls (.int x2 :: .int x1 :: va_rf x0 :: rest)) := by
  exact rg_q3w (va_runS (As := [va_rf x0, .int x1, .int x2]) (rest := rest) C.1 (hM V H.size G Q1 x0 x1 x2 c1 s1) (va_cwS 3 C.1.2.2.2.2 (lw_S hlink q431 q76 q432) rfl rfl rfl (by decide +kernel) ⟨hRf, hRl⟩) ⟨fun a U g mk q => by obtain ⟨q0, q1, qW, qK, qZ, qw⟩ := q; exact ⟨q0, q1, qW, xK.same (u := U) (U := U.calling g mk a) rfl qK, xZ.moved (u := U) (U := U.calling g mk a) (Vm.Alike.refl U.vm) qZ, qw⟩, fun U hU hWm => ⟨rfl, by rw [hU], by rw [hU]; exact hW.self _, C.2.1.warm hWm, xZ.call C.2.2.1 hW hS C.2.2.2 hU hWm.alike, h⟩⟩ rfl rfl hz rfl (lv_room hr8) hdg ⟨by omega, by omega⟩) hW hS C.2.2.2 (fun r G1 H1 locs1 hp hW1 hS1 hF1 => kk r G1 H1 locs1 hp hW1 hS1 hF1 (by omega) (by omega))
def w_J14_copyOfRange_10 (V : XV) (Q : Option Nat → GM → Prop) (x0 : Option Nat) (x1 : Int32) (x2 : Int32) (G : GM) (kc : Nat) (ks : Nat) : Prop := ∃ c3 s4 : Nat, c3 ≤ kc ∧ s4 ≤ ks ∧ (w_J14_copyOfRangeByte V (fun r1 G2 => Q r1 G2) x0 x1 x2 G c3 s4)
def w_J14_copyOfRange (V : XV) (Q : Option Nat → GM → Prop) (x0 : Option Nat) (x1 : Int32) (x2 : Int32) (G : GM) (kc : Nat) (ks : Nat) : Prop := if x1 = 0 then (gLn G x0 (fun v5 => if x2 = v5 then (gCl G x0 kc ks (fun q6 n7 G8 => gCkA G8 2 (some q6) (Q (some q6) G8))) else (w_J14_copyOfRange_10 V Q x0 x1 x2 G kc ks))) else (w_J14_copyOfRange_10 V Q x0 x1 x2 G kc ks)
set_option maxRecDepth 100000 in
set_option maxHeartbeats 4000000 in
theorem wk_J14_copyOfRange {p : Program} {l : Launch} {e : Env} {R : Room} {s : State} {m : MethodId} {args : Array Value} {below : List Frame} {meth : Method} {c : Code} {Z : State → Prop} {A : Nat → Prop} {V : XV} (Q : Option Nat → GM → Prop) (C : xC p m c s args cJ14_copyOfRange 3 RJ14 V A) (hRf : 2 ≤ R.frames) (hRl : 84 ≤ R.locals) (G : GM) (hret : ∀ (v : Option Nat) (G : GM) (pc : Nat) (ls : Array Slot) (H : Heap) (locs : List Loc) (cells slots : Nat) {k1 k2 : Nat}, decode cJ14_copyOfRange pc = .ok (.areturn, 1) → xW V A G H → va_S A s.heap H locs → cells + k1 ≤ R.cells → slots + k2 ≤ R.slots → Q v G → W p l e R s m args below meth c H locs cells slots Z (F0 m pc ls [va_rf v])) (x0 : Option Nat) (x1 : Int32) (x2 : Int32) (kc ks : Nat) : w_J14_copyOfRange V Q x0 x1 x2 G kc ks → ∀ (ls : Array Slot) (H : Heap) (locs : List Loc) (cells slots : Nat), lv_has ls 3 [(0, va_rf x0), (1, .int x1), (2, .int x2)] → xW V A G H → va_S A s.heap H locs → cells + kc ≤ R.cells → slots + ks ≤ R.slots → W p l e R s m args below meth c H locs cells slots Z (F0 m 0 ls []) := by
  have hx := C.1.1; have hb := C.1.2.1; have hml := C.1.2.2.1; have hown := C.1.2.2.2.1; have hts := C.1.2.2.2.2
  have hb10 : ∀ (G : GM) (kc : Nat) (ks : Nat), w_J14_copyOfRange_10 V Q x0 x1 x2 G kc ks → ∀ (ls : Array Slot) (H : Heap) (locs : List Loc) (cells slots : Nat), lv_has ls 3 [(0, va_rf x0), (1, .int x1), (2, .int x2)] → xW V A G H → va_S A s.heap H locs → cells + kc ≤ R.cells → slots + ks ≤ R.slots → W p l e R s m args below meth c H locs cells slots Z (F0 m 10 ls []) := by
    intro G kc ks h
    intro ls H locs cells slots hl hW hS hkc hks
    refine sh_aload_n hx hb dJ14_copyOfRange_10 rfl (lv_at hl 0 rfl) ?_
    refine lv_iload_n hx hb dJ14_copyOfRange_11 rfl (lv_at hl 1 rfl) ?_
    refine lv_iload_n hx hb dJ14_copyOfRange_12 rfl (lv_at hl 2 rfl) ?_
    obtain ⟨c3, s4, hc13, hs13, h⟩ := h
    refine call_J14_copyOfRangeByte_S (ct_J14_copyOfRangeByte l) C hW hS q433 (le_lit hRf rfl) (le_lit hRl rfl) hc13 hs13 hkc hks hl.1 (Nat.le_of_ble_eq_true rfl) dJ14_copyOfRange_13 h (fun r1 G2 H locs h hW hS _ hkc hks => ?_)
    exact hret _ _ _ _ _ _ _ _ dJ14_copyOfRange_16 hW hS hkc hks h
  intro h
  intro ls H locs cells slots hl hW hS hkc hks
  refine lv_iload_n hx hb dJ14_copyOfRange_0 rfl (lv_at hl 1 rfl) ?_
  refine lv_if_ne (tgt := 10) hx hb dJ14_copyOfRange_1 (by decide) (fun c10 => ?_) (fun c10 => ?_)
  · have h := wif_f h c10
    exact hb10 _ _ _ h ls H locs _ _ (lv_sub hl [0, 1, 2] rfl) hW hS hkc hks
  · have h := wif_t h c10
    refine lv_iload_n hx hb dJ14_copyOfRange_4 rfl (lv_at hl 2 rfl) ?_
    refine sh_aload_n hx hb dJ14_copyOfRange_5 rfl (lv_at hl 0 rfl) ?_
    refine sh_len C hW h dJ14_copyOfRange_6 (fun v5 h => ?_)
    refine lv_icmp_eq (tgt := 17) hx hb dJ14_copyOfRange_7 (by decide) (fun c9 => ?_) (fun c9 => ?_)
    · have h := wif_t h c9
      refine sh_aload_n hx hb dJ14_copyOfRange_17 rfl (lv_at hl 0 rfl) ?_
      refine sh_cloneB C hW hS q291 h hkc hks hl.1 (le_lit hRf rfl) (le_lit hRl rfl) (Nat.le_of_ble_eq_true rfl) dJ14_copyOfRange_18 (fun q6 n7 G8 H hW hS h hN hkc hks => ?_)
      refine sh_castA C hW (t := 2) (by decide) q297 (by have := (C.2.1.2.1 2 (by decide)).2; exact this) h dJ14_copyOfRange_21 (fun h => ?_)
      exact hret _ _ _ _ _ _ _ _ dJ14_copyOfRange_24 hW hS hkc hks h
    · have h := wif_f h c9
      exact hb10 _ _ _ h ls H locs _ _ (lv_sub hl [0, 1, 2] rfl) hW hS hkc hks
theorem ct_J14_copyOfRange (l : Launch) : CT_J14_copyOfRange l 2 84 w_J14_copyOfRange := by
  intro V sz G Q x0 x1 x2 kc ks
  refine Met.ofW (cc := cJ14_copyOfRange) (maxL := 3) (ret := (some (.array .byte))) (by decide) rfl ?_
  intro p e s m args below meth c s₁ B hml hv
  obtain ⟨rfl, hsz, hW, hK, hZ, h⟩ := hv
  subst hsz
  have hts := atoms_spec (ws := (ws_ yJ14_copyOfRange cJ14_copyOfRange 3 (some (.array .byte)))) B.pre
  have hts : ∀ w ∈ lw_all, w.before _ s = true := fun w h => hts w (List.mem_cons_of_mem _ h)
  have key : ∃ ls : Array Slot, entryFrame m ([va_rf x0, .int x1, .int x2] : List Value).toArray 3 = F0 m 0 ls [] ∧ lv_has ls 3 [(0, va_rf x0), (1, .int x1), (2, .int x2)] := by
    cases x0 <;> (refine ⟨_, by rw [lg_entry_eq], ?_⟩; exact lv_entry _ (Nat.le_of_ble_eq_true rfl))
  obtain ⟨ls, hfr, hl⟩ := key
  rw [hfr]
  exact wk_J14_copyOfRange Q ⟨⟨B.exec, B.bytes, hml, findClass_of_methodNamed B.named, hts⟩, hK, hZ, fun q h => Or.inr h⟩ (Nat.le_refl _) (Nat.le_refl _) G (fun v G pc ls H locs cells slots _ _ hd hW1 hS hkc hks hQ => W.widen (k := kc) (n := ks) (Nat.le_trans (Nat.le_add_right _ _) hkc) (Nat.le_trans (Nat.le_add_right _ _) hks) (W.aret (v := va_rf v) B.exec B.bytes B.returns (Or.inr ⟨_, rfl⟩) (va_rf_or v) (fun t ht _ => ⟨⟨v, G, rfl, hQ, by rw [← ht] at hW1; exact hW1⟩, hS.F ht⟩) hS.2.2 hd)) x0 x1 x2 kc ks h ls _ [] 0 0 hl hW va_S.rf (by show 0 + kc ≤ kc; omega) (by show 0 + ks ≤ ks; omega)
def CT_J14_copyOf_3 (l : Launch) (fr lo : Nat) (w : XV → (Option Nat → GM → Prop) → (Option Nat) → Int32 → (Option Nat) → GM → Nat → Nat → Prop) : Prop := ∀ (V : XV) (sz : Nat) (G : GM) (Q : Option Nat → GM → Prop) (x0 : Option Nat) (x1 : Int32) (x2 : Option Nat) (kc ks : Nat), Met l yJ14_copyOf_3 (ws_ yJ14_copyOf_3 cJ14_copyOf_3 4 (some (.array (.object "java/lang/Object")))) { frames := fr, cells := kc, slots := ks, locals := lo } (va_Pc [va_rf x0, .int x1, va_rf x2] (fun U => U.heap.size = sz ∧ xW V (xA G sz) G U.heap ∧ xK V U ∧ xZ V (xA G sz) U U.heap ∧ w V Q x0 x1 x2 G kc ks)) (va_Qq (fun r (u : GM) => Q r u) (fun u t => xW V (xA G sz) u t.heap) (xA G sz)) kc ks (xA G sz)
theorem call_J14_copyOf_3_S {p : Program} {l : Launch} {e : Env} {R : Room} {s : State} {m : MethodId} {args : Array Value} {below : List Frame} {meth : Method} {c : Code} {H : Heap} {locs : List Loc} {cells slots : Nat} {Z : State → Prop} {A : Nat → Prop} {cc : ByteArray} {nL pc : Nat} {ls : Array Slot} {rest : List Value} {own : String} {index fr lo : Nat} {w : XV → (Option Nat → GM → Prop) → (Option Nat) → Int32 → (Option Nat) → GM → Nat → Nat → Prop} {V : XV} {G : GM} {kc ks c1 s1 : Nat} {x0 : Option Nat} {x1 : Int32} {x2 : Option Nat} (hM : CT_J14_copyOf_3 l fr lo w) (C : xC p m c s args cc nL own V A) (hW : xW V A G H) (hS : va_S A s.heap H locs) (hlink : Cond.methodLink own index yJ14_copyOf_3 ∈ lw_all) (hRf : fr + 1 ≤ R.frames) (hRl : 8 + (4 + 11) + lo ≤ R.locals) (hc1 : c1 ≤ kc) (hs1 : s1 ≤ ks) (hkc : cells + kc ≤ R.cells) (hks : slots + ks ≤ R.slots) (hz : ls.size = nL) (hr8 : (rest.map fun v => v.category).sum ≤ 8) (hdg : decode cc pc = .ok (.invokestatic index, 3)) {Q1 : Option Nat → GM → Prop} (h : w V Q1 x0 x1 x2 G c1 s1) (kk : ∀ (r : Option Nat) (G1 : GM) (H1 : Heap) (locs1 : List Loc), Q1 r G1 → xW V A G1 H1 → va_S A s.heap H1 locs1 → xFr V G G1 H H1 → (cells + c1) + (kc - c1) ≤ R.cells → (slots + s1) + (ks - s1) ≤ R.slots → W p l e R s m args below meth c H1 locs1 (cells + c1) (slots + s1) Z (F0 m (pc + 3) ls (va_rf r :: rest))) : W p l e R s m args below meth c H locs cells slots Z (F0 m pc ls (va_rf x2 :: .int x1 :: va_rf x0 :: rest)) := by
  exact rg_q3w (va_runS (As := [va_rf x0, .int x1, va_rf x2]) (rest := rest) C.1 (hM V H.size G Q1 x0 x1 x2 c1 s1) (va_cwS 3 C.1.2.2.2.2 (lw_S hlink q730 q76 q731) rfl rfl rfl (by decide +kernel) ⟨hRf, hRl⟩) ⟨fun a U g mk q => by obtain ⟨q0, q1, qW, qK, qZ, qw⟩ := q; exact ⟨q0, q1, qW, xK.same (u := U) (U := U.calling g mk a) rfl qK, xZ.moved (u := U) (U := U.calling g mk a) (Vm.Alike.refl U.vm) qZ, qw⟩, fun U hU hWm => ⟨rfl, by rw [hU], by rw [hU]; exact hW.self _, C.2.1.warm hWm, xZ.call C.2.2.1 hW hS C.2.2.2 hU hWm.alike, h⟩⟩ rfl rfl hz rfl (lv_room hr8) hdg ⟨by omega, by omega⟩) hW hS C.2.2.2 (fun r G1 H1 locs1 hp hW1 hS1 hF1 => kk r G1 H1 locs1 hp hW1 hS1 hF1 (by omega) (by omega))
def w_J14_copyOf_3 (V : XV) (Q : Option Nat → GM → Prop) (x0 : Option Nat) (x1 : Int32) (x2 : Option Nat) (G : GM) (kc : Nat) (ks : Nat) : Prop := if x2 = (some (xsr V "#mirror" 0)) then (gNa G 5 (fun N => (N, .inr (.inr (.inr (.inr (fun _ => none)))))) x1 kc ks (fun q1 n2 G3 => gLn G3 x0 (fun v4 => w_J13_min (fun r5 => gCR G3 x0 (0 : Int32) (some q1) (0 : Int32) r5 (fun G6 => Q (some q1) G6)) v4 x1))) else (False)
set_option maxRecDepth 100000 in
set_option maxHeartbeats 4000000 in
theorem wk_J14_copyOf_3 {p : Program} {l : Launch} {e : Env} {R : Room} {s : State} {m : MethodId} {args : Array Value} {below : List Frame} {meth : Method} {c : Code} {Z : State → Prop} {A : Nat → Prop} {V : XV} (Q : Option Nat → GM → Prop) (C : xC p m c s args cJ14_copyOf_3 4 RJ14 V A) (hRf : 1 ≤ R.frames) (hRl : 60 ≤ R.locals) (G : GM) (hret : ∀ (v : Option Nat) (G : GM) (pc : Nat) (ls : Array Slot) (H : Heap) (locs : List Loc) (cells slots : Nat) {k1 k2 : Nat}, decode cJ14_copyOf_3 pc = .ok (.areturn, 1) → xW V A G H → va_S A s.heap H locs → cells + k1 ≤ R.cells → slots + k2 ≤ R.slots → Q v G → W p l e R s m args below meth c H locs cells slots Z (F0 m pc ls [va_rf v])) (x0 : Option Nat) (x1 : Int32) (x2 : Option Nat) (kc ks : Nat) : w_J14_copyOf_3 V Q x0 x1 x2 G kc ks → ∀ (ls : Array Slot) (H : Heap) (locs : List Loc) (cells slots : Nat), lv_has ls 4 [(0, va_rf x0), (1, .int x1), (2, va_rf x2)] → xW V A G H → va_S A s.heap H locs → cells + kc ≤ R.cells → slots + ks ≤ R.slots → W p l e R s m args below meth c H locs cells slots Z (F0 m 0 ls []) := by
  have hx := C.1.1; have hb := C.1.2.1; have hml := C.1.2.2.1; have hown := C.1.2.2.2.1; have hts := C.1.2.2.2.2
  intro h
  intro ls H locs cells slots hl hW hS hkc hks
  refine sh_aload_n hx hb dJ14_copyOf_3_0 rfl (lv_at hl 2 rfl) ?_
  refine sh_ldcM C q732 dJ14_copyOf_3_1 ?_
  refine lv_acmp_ne (tgt := 13) hx hb dJ14_copyOf_3_3 (by decide) (fun c7 => ?_) (fun c7 => ?_)
  · have h := wif_f h c7
    refine sh_aload_n hx hb dJ14_copyOf_3_13 rfl (lv_at hl 2 rfl) ?_
    exact False.elim h
  · have h := wif_t h c7
    refine lv_iload_n hx hb dJ14_copyOf_3_6 rfl (lv_at hl 1 rfl) ?_
    refine sh_newq C hW hS (t := 5) rfl (by decide) q734 q733 h hkc hks dJ14_copyOf_3_7 (fun q1 n2 G3 H hW hS h hN hkc hks => ?_)
    refine lv_goto (tgt := 24) hx hb dJ14_copyOf_3_10 (by decide) ?_
    refine sh_astore_n (lv' := [(3, va_rf (some q1)), (0, va_rf x0), (1, .int x1), (2, va_rf x2)]) hx hb dJ14_copyOf_3_24 rfl hl (by decide) (by simp only [List.filter_cons, List.filter_nil, va_rf_cat]; rfl) (fun ls hl => ?_)
    refine sh_aload_n hx hb dJ14_copyOf_3_25 rfl (lv_at hl 1 rfl) ?_
    refine lv_iconst (v := 0) hx hb dJ14_copyOf_3_26 (by decide) ?_
    refine sh_aload_n hx hb dJ14_copyOf_3_27 rfl (lv_at hl 0 rfl) ?_
    refine lv_iconst (v := 0) hx hb dJ14_copyOf_3_28 (by decide) ?_
    refine sh_aload_n hx hb dJ14_copyOf_3_29 rfl (lv_at hl 1 rfl) ?_
    refine sh_len C hW h dJ14_copyOf_3_30 (fun v4 h => ?_)
    refine lv_iload_n hx hb dJ14_copyOf_3_31 rfl (lv_at hl 2 rfl) ?_
    refine call_J13_min (ct_J13_min l) C.1 hS C.2.2.2 q298 (le_lit hRf rfl) (le_lit hRl rfl) ⟨Nat.le_trans (Nat.le_add_right _ _) hkc, Nat.le_trans (Nat.le_add_right _ _) hks⟩ hl.1 (by simp only [List.map_cons, List.map_nil, va_rf_cat]; exact Nat.le_of_ble_eq_true rfl) dJ14_copyOf_3_32 h (fun r5 H locs h hk hS => ?_)
    have hW := hW.kept hk
    refine sh_copyR C hW hS q301 q303 q302 q77 hl.1 (le_lit hRf rfl) (Nat.le_trans (show _ ≤ 60 by first | decide | (simp [va_rf_cat, Value.category]; decide)) (le_lit hRl rfl)) h dJ14_copyOf_3_35 (fun G6 H locs hW hS h => ?_)
    refine sh_aload_n hx hb dJ14_copyOf_3_38 rfl (lv_at hl 0 rfl) ?_
    exact hret _ _ _ _ _ _ _ _ dJ14_copyOf_3_39 hW hS hkc hks h
theorem ct_J14_copyOf_3 (l : Launch) : CT_J14_copyOf_3 l 1 60 w_J14_copyOf_3 := by
  intro V sz G Q x0 x1 x2 kc ks
  refine Met.ofW (cc := cJ14_copyOf_3) (maxL := 4) (ret := (some (.array (.object "java/lang/Object")))) (by decide) rfl ?_
  intro p e s m args below meth c s₁ B hml hv
  obtain ⟨rfl, hsz, hW, hK, hZ, h⟩ := hv
  subst hsz
  have hts := atoms_spec (ws := (ws_ yJ14_copyOf_3 cJ14_copyOf_3 4 (some (.array (.object "java/lang/Object"))))) B.pre
  have hts : ∀ w ∈ lw_all, w.before _ s = true := fun w h => hts w (List.mem_cons_of_mem _ h)
  have key : ∃ ls : Array Slot, entryFrame m ([va_rf x0, .int x1, va_rf x2] : List Value).toArray 4 = F0 m 0 ls [] ∧ lv_has ls 4 [(0, va_rf x0), (1, .int x1), (2, va_rf x2)] := by
    cases x0 <;> cases x2 <;> (refine ⟨_, by rw [lg_entry_eq], ?_⟩; exact lv_entry _ (Nat.le_of_ble_eq_true rfl))
  obtain ⟨ls, hfr, hl⟩ := key
  rw [hfr]
  exact wk_J14_copyOf_3 Q ⟨⟨B.exec, B.bytes, hml, findClass_of_methodNamed B.named, hts⟩, hK, hZ, fun q h => Or.inr h⟩ (Nat.le_refl _) (Nat.le_refl _) G (fun v G pc ls H locs cells slots _ _ hd hW1 hS hkc hks hQ => W.widen (k := kc) (n := ks) (Nat.le_trans (Nat.le_add_right _ _) hkc) (Nat.le_trans (Nat.le_add_right _ _) hks) (W.aret (v := va_rf v) B.exec B.bytes B.returns (Or.inr ⟨_, rfl⟩) (va_rf_or v) (fun t ht _ => ⟨⟨v, G, rfl, hQ, by rw [← ht] at hW1; exact hW1⟩, hS.F ht⟩) hS.2.2 hd)) x0 x1 x2 kc ks h ls _ [] 0 0 hl hW va_S.rf (by show 0 + kc ≤ kc; omega) (by show 0 + ks ≤ ks; omega)
def CT_J14_copyOf_2 (l : Launch) (fr lo : Nat) (w : XV → (Option Nat → GM → Prop) → (Option Nat) → Int32 → GM → Nat → Nat → Prop) : Prop := ∀ (V : XV) (sz : Nat) (G : GM) (Q : Option Nat → GM → Prop) (x0 : Option Nat) (x1 : Int32) (kc ks : Nat), Met l yJ14_copyOf_2 (ws_ yJ14_copyOf_2 cJ14_copyOf_2 2 (some (.array (.object "java/lang/Object")))) { frames := fr, cells := kc, slots := ks, locals := lo } (va_Pc [va_rf x0, .int x1] (fun U => U.heap.size = sz ∧ xW V (xA G sz) G U.heap ∧ xK V U ∧ xZ V (xA G sz) U U.heap ∧ w V Q x0 x1 G kc ks)) (va_Qq (fun r (u : GM) => Q r u) (fun u t => xW V (xA G sz) u t.heap) (xA G sz)) kc ks (xA G sz)
theorem call_J14_copyOf_2_S {p : Program} {l : Launch} {e : Env} {R : Room} {s : State} {m : MethodId} {args : Array Value} {below : List Frame} {meth : Method} {c : Code} {H : Heap} {locs : List Loc} {cells slots : Nat} {Z : State → Prop} {A : Nat → Prop} {cc : ByteArray} {nL pc : Nat} {ls : Array Slot} {rest : List Value} {own : String} {index fr lo : Nat} {w : XV → (Option Nat → GM → Prop) → (Option Nat) → Int32 → GM → Nat → Nat → Prop} {V : XV} {G : GM} {kc ks c1 s1 : Nat} {x0 : Option Nat} {x1 : Int32} (hM : CT_J14_copyOf_2 l fr lo w) (C : xC p m c s args cc nL own V A) (hW : xW V A G H) (hS : va_S A s.heap H locs) (hlink : Cond.methodLink own index yJ14_copyOf_2 ∈ lw_all) (hRf : fr + 1 ≤ R.frames) (hRl : 8 + (2 + 11) + lo ≤ R.locals) (hc1 : c1 ≤ kc) (hs1 : s1 ≤ ks) (hkc : cells + kc ≤ R.cells) (hks : slots + ks ≤ R.slots) (hz : ls.size = nL) (hr8 : (rest.map fun v => v.category).sum ≤ 8) (hdg : decode cc pc = .ok (.invokestatic index, 3)) {Q1 : Option Nat → GM → Prop} (h : w V Q1 x0 x1 G c1 s1) (kk : ∀ (r : Option Nat) (G1 : GM) (H1 : Heap) (locs1 : List Loc), Q1 r G1 → xW V A G1 H1 → va_S A s.heap H1 locs1 → xFr V G G1 H H1 → (cells + c1) + (kc - c1) ≤ R.cells → (slots + s1) + (ks - s1) ≤ R.slots → W p l e R s m args below meth c H1 locs1 (cells + c1) (slots + s1) Z (F0 m (pc + 3) ls (va_rf r :: rest))) : W p l e R s m args below meth c H locs cells slots Z (F0 m pc ls (.int x1 :: va_rf x0 :: rest)) := by
  exact rg_q3w (va_runS (As := [va_rf x0, .int x1]) (rest := rest) C.1 (hM V H.size G Q1 x0 x1 c1 s1) (va_cwS 2 C.1.2.2.2.2 (lw_S hlink q698 q76 q699) rfl rfl rfl (by decide +kernel) ⟨hRf, hRl⟩) ⟨fun a U g mk q => by obtain ⟨q0, q1, qW, qK, qZ, qw⟩ := q; exact ⟨q0, q1, qW, xK.same (u := U) (U := U.calling g mk a) rfl qK, xZ.moved (u := U) (U := U.calling g mk a) (Vm.Alike.refl U.vm) qZ, qw⟩, fun U hU hWm => ⟨rfl, by rw [hU], by rw [hU]; exact hW.self _, C.2.1.warm hWm, xZ.call C.2.2.1 hW hS C.2.2.2 hU hWm.alike, h⟩⟩ rfl rfl hz rfl (lv_room hr8) hdg ⟨by omega, by omega⟩) hW hS C.2.2.2 (fun r G1 H1 locs1 hp hW1 hS1 hF1 => kk r G1 H1 locs1 hp hW1 hS1 hF1 (by omega) (by omega))
def w_J14_copyOf_2 (V : XV) (Q : Option Nat → GM → Prop) (x0 : Option Nat) (x1 : Int32) (G : GM) (kc : Nat) (ks : Nat) : Prop := (∃ n f, (x0).bind G = some (.inl (5, n, .inr (.inr (.inr (.inr f)))))) ∧ (∃ c3 s4 : Nat, c3 ≤ kc ∧ s4 ≤ ks ∧ (w_J14_copyOf_3 V (fun r1 G2 => Q r1 G2) x0 x1 (some (xsr V "#mirror" 0)) G c3 s4))
set_option maxRecDepth 100000 in
set_option maxHeartbeats 4000000 in
theorem wk_J14_copyOf_2 {p : Program} {l : Launch} {e : Env} {R : Room} {s : State} {m : MethodId} {args : Array Value} {below : List Frame} {meth : Method} {c : Code} {Z : State → Prop} {A : Nat → Prop} {V : XV} (Q : Option Nat → GM → Prop) (C : xC p m c s args cJ14_copyOf_2 2 RJ14 V A) (hRf : 2 ≤ R.frames) (hRl : 83 ≤ R.locals) (G : GM) (hret : ∀ (v : Option Nat) (G : GM) (pc : Nat) (ls : Array Slot) (H : Heap) (locs : List Loc) (cells slots : Nat) {k1 k2 : Nat}, decode cJ14_copyOf_2 pc = .ok (.areturn, 1) → xW V A G H → va_S A s.heap H locs → cells + k1 ≤ R.cells → slots + k2 ≤ R.slots → Q v G → W p l e R s m args below meth c H locs cells slots Z (F0 m pc ls [va_rf v])) (x0 : Option Nat) (x1 : Int32) (kc ks : Nat) : w_J14_copyOf_2 V Q x0 x1 G kc ks → ∀ (ls : Array Slot) (H : Heap) (locs : List Loc) (cells slots : Nat), lv_has ls 2 [(0, va_rf x0), (1, .int x1)] → xW V A G H → va_S A s.heap H locs → cells + kc ≤ R.cells → slots + ks ≤ R.slots → W p l e R s m args below meth c H locs cells slots Z (F0 m 0 ls []) := by
  have hx := C.1.1; have hb := C.1.2.1; have hml := C.1.2.2.1; have hown := C.1.2.2.2.1; have hts := C.1.2.2.2.2
  intro h
  intro ls H locs cells slots hl hW hS hkc hks
  refine sh_aload_n hx hb dJ14_copyOf_2_0 rfl (lv_at hl 0 rfl) ?_
  refine lv_iload_n hx hb dJ14_copyOf_2_1 rfl (lv_at hl 1 rfl) ?_
  refine sh_aload_n hx hb dJ14_copyOf_2_2 rfl (lv_at hl 0 rfl) ?_
  refine sh_getC C hW q700 h.1 hl.1 (le_lit hRf rfl) (le_lit hRl rfl) (by simp only [List.map_cons, List.map_nil, va_rf_cat]; exact Nat.le_of_ble_eq_true rfl) dJ14_copyOf_2_3 ?_
  have h := h.2
  obtain ⟨c3, s4, hc6, hs6, h⟩ := h
  refine call_J14_copyOf_3_S (ct_J14_copyOf_3 l) C hW hS q729 (le_lit hRf rfl) (le_lit hRl rfl) hc6 hs6 hkc hks hl.1 (Nat.le_of_ble_eq_true rfl) dJ14_copyOf_2_6 h (fun r1 G2 H locs h hW hS _ hkc hks => ?_)
  exact hret _ _ _ _ _ _ _ _ dJ14_copyOf_2_9 hW hS hkc hks h
theorem ct_J14_copyOf_2 (l : Launch) : CT_J14_copyOf_2 l 2 83 w_J14_copyOf_2 := by
  intro V sz G Q x0 x1 kc ks
  refine Met.ofW (cc := cJ14_copyOf_2) (maxL := 2) (ret := (some (.array (.object "java/lang/Object")))) (by decide) rfl ?_
  intro p e s m args below meth c s₁ B hml hv
  obtain ⟨rfl, hsz, hW, hK, hZ, h⟩ := hv
  subst hsz
  have hts := atoms_spec (ws := (ws_ yJ14_copyOf_2 cJ14_copyOf_2 2 (some (.array (.object "java/lang/Object"))))) B.pre
  have hts : ∀ w ∈ lw_all, w.before _ s = true := fun w h => hts w (List.mem_cons_of_mem _ h)
  have key : ∃ ls : Array Slot, entryFrame m ([va_rf x0, .int x1] : List Value).toArray 2 = F0 m 0 ls [] ∧ lv_has ls 2 [(0, va_rf x0), (1, .int x1)] := by
    cases x0 <;> (refine ⟨_, by rw [lg_entry_eq], ?_⟩; exact lv_entry _ (Nat.le_of_ble_eq_true rfl))
  obtain ⟨ls, hfr, hl⟩ := key
  rw [hfr]
  exact wk_J14_copyOf_2 Q ⟨⟨B.exec, B.bytes, hml, findClass_of_methodNamed B.named, hts⟩, hK, hZ, fun q h => Or.inr h⟩ (Nat.le_refl _) (Nat.le_refl _) G (fun v G pc ls H locs cells slots _ _ hd hW1 hS hkc hks hQ => W.widen (k := kc) (n := ks) (Nat.le_trans (Nat.le_add_right _ _) hkc) (Nat.le_trans (Nat.le_add_right _ _) hks) (W.aret (v := va_rf v) B.exec B.bytes B.returns (Or.inr ⟨_, rfl⟩) (va_rf_or v) (fun t ht _ => ⟨⟨v, G, rfl, hQ, by rw [← ht] at hW1; exact hW1⟩, hS.F ht⟩) hS.2.2 hd)) x0 x1 kc ks h ls _ [] 0 0 hl hW va_S.rf (by show 0 + kc ≤ kc; omega) (by show 0 + ks ≤ ks; omega)
def CT_J15_checkIndex (l : Launch) (fr lo : Nat) (w : XV → (Int32 → Prop) → Int32 → Int32 → (Option Nat) → GM → Prop) : Prop := ∀ (V : XV) (sz : Nat) (G : GM) (Q : Int32 → Prop) (x0 : Int32) (x1 : Int32) (x2 : Option Nat), Met l yJ15_checkIndex (ws_ yJ15_checkIndex cJ15_checkIndex 3 (some .int)) { frames := fr, cells := 0, slots := 0, locals := lo } (va_Pc [.int x0, .int x1, va_rf x2] (fun U => U.heap.size = sz ∧ xW V (xA G sz) G U.heap ∧ xK V U ∧ xZ V (xA G sz) U U.heap ∧ w V Q x0 x1 x2 G)) (va_Qi (fun r (u : GM) => u = G ∧ Q r) (fun u t => xW V (xA G sz) u t.heap) (xA G sz)) 0 0 (xA G sz)
theorem call_J15_checkIndex_S {p : Program} {l : Launch} {e : Env} {R : Room} {s : State} {m : MethodId} {args : Array Value} {below : List Frame} {meth : Method} {c : Code} {H : Heap} {locs : List Loc} {cells slots : Nat} {Z : State → Prop} {A : Nat → Prop} {cc : ByteArray} {nL pc : Nat} {ls : Array Slot} {rest : List Value} {own : String} {index fr lo : Nat} {w : XV → (Int32 → Prop) → Int32 → Int32 → (Option Nat) → GM → Prop} {V : XV} {G : GM} {x0 : Int32} {x1 : Int32} {x2 : Option Nat} (hM : CT_J15_checkIndex l fr lo w) (C : xC p m c s args cc nL own V A) (hW : xW V A G H) (hS : va_S A s.heap H locs) (hlink : Cond.methodLink own index yJ15_checkIndex ∈ lw_all) (hRf : fr + 1 ≤ R.frames) (hRl : 8 + (3 + 11) + lo ≤ R.locals) (hcs : cells ≤ R.cells ∧ slots ≤ R.slots) (hz : ls.size = nL) (hr8 : (rest.map fun v => v.category).sum ≤ 8) (hdg : decode cc pc = .ok (.invokestatic index, 3)) {Q1 : Int32 → Prop} (h : w V Q1 x0 x1 x2 G) (kk : ∀ (r : Int32) (H1 : Heap) (locs1 : List Loc), Q1 r → xW V A G H1 → va_S A s.heap H1 locs1 → xFr V G G H H1 → W p l e R s m args below meth c H1 locs1 cells slots Z (F0 m (pc + 3) ls (.int r :: rest))) : W p l e R s m args below meth c H locs cells slots Z (F0 m pc ls (va_rf x2 :: .int x1 :: .int x0 :: rest)) := by
  exact rg_i3r (va_runS (As := [.int x0, .int x1, va_rf x2]) (rest := rest) C.1 (hM V H.size G Q1 x0 x1 x2) (va_cwS 3 C.1.2.2.2.2 (lw_S hlink q608 q78 q609) rfl rfl rfl (by decide +kernel) ⟨hRf, hRl⟩) ⟨fun a U g mk q => by obtain ⟨q0, q1, qW, qK, qZ, qw⟩ := q; exact ⟨q0, q1, qW, xK.same (u := U) (U := U.calling g mk a) rfl qK, xZ.moved (u := U) (U := U.calling g mk a) (Vm.Alike.refl U.vm) qZ, qw⟩, fun U hU hWm => ⟨rfl, by rw [hU], by rw [hU]; exact hW.self _, C.2.1.warm hWm, xZ.call C.2.2.1 hW hS C.2.2.2 hU hWm.alike, h⟩⟩ rfl rfl hz rfl (lv_room hr8) hdg hcs) hW hS C.2.2.2 (fun r H1 locs1 hp hW1 hS1 hF1 => kk r H1 locs1 hp hW1 hS1 hF1)
def w_J15_checkIndex (V : XV) (Q : Int32 → Prop) (x0 : Int32) (x1 : Int32) (x2 : Option Nat) (G : GM) : Prop := if x0 < 0 then (False) else (if x0 < x1 then (Q x0) else (False))
set_option maxRecDepth 100000 in
set_option maxHeartbeats 4000000 in
theorem wk_J15_checkIndex {p : Program} {l : Launch} {e : Env} {R : Room} {s : State} {m : MethodId} {args : Array Value} {below : List Frame} {meth : Method} {c : Code} {cells slots : Nat} {Z : State → Prop} {A : Nat → Prop} {V : XV} (Q : Int32 → Prop) (C : xC p m c s args cJ15_checkIndex 3 RJ15 V A) (hRf : 1 ≤ R.frames) (hRl : 20 ≤ R.locals) (hcs : cells ≤ R.cells ∧ slots ≤ R.slots) (G : GM) (hret : ∀ (v : Int32) (pc : Nat) (ls : Array Slot) (H : Heap) (locs : List Loc), decode cJ15_checkIndex pc = .ok (.ireturn, 1) → xW V A G H → va_S A s.heap H locs → Q v → W p l e R s m args below meth c H locs cells slots Z (F0 m pc ls [.int v])) (x0 : Int32) (x1 : Int32) (x2 : Option Nat) : w_J15_checkIndex V Q x0 x1 x2 G → ∀ (ls : Array Slot) (H : Heap) (locs : List Loc), lv_has ls 3 [(0, .int x0), (1, .int x1), (2, va_rf x2)] → xW V A G H → va_S A s.heap H locs → W p l e R s m args below meth c H locs cells slots Z (F0 m 0 ls []) := by
  have hx := C.1.1; have hb := C.1.2.1; have hml := C.1.2.2.1; have hown := C.1.2.2.2.1; have hts := C.1.2.2.2.2
  intro h
  intro ls H locs hl hW hS
  refine lv_iload_n hx hb dJ15_checkIndex_0 rfl (lv_at hl 0 rfl) ?_
  refine lv_if_lt (tgt := 9) hx hb dJ15_checkIndex_1 (by decide) (fun c2 => ?_) (fun c2 => ?_)
  · have h := wif_t h c2
    refine sh_aload_n hx hb dJ15_checkIndex_9 rfl (lv_at hl 2 rfl) ?_
    refine lv_iload_n hx hb dJ15_checkIndex_10 rfl (lv_at hl 0 rfl) ?_
    refine lv_iload_n hx hb dJ15_checkIndex_11 rfl (lv_at hl 1 rfl) ?_
    exact False.elim h
  · have h := wif_f h c2
    refine lv_iload_n hx hb dJ15_checkIndex_4 rfl (lv_at hl 0 rfl) ?_
    refine lv_iload_n hx hb dJ15_checkIndex_5 rfl (lv_at hl 1 rfl) ?_
    refine lv_icmp_lt (tgt := 16) hx hb dJ15_checkIndex_6 (by decide) (fun c1 => ?_) (fun c1 => ?_)
    · have h := wif_t h c1
      refine lv_iload_n hx hb dJ15_checkIndex_16 rfl (lv_at hl 0 rfl) ?_
      exact hret _ _ _ _ _ dJ15_checkIndex_17 hW hS h
    · have h := wif_f h c1
      refine sh_aload_n hx hb dJ15_checkIndex_9 rfl (lv_at hl 2 rfl) ?_
      refine lv_iload_n hx hb dJ15_checkIndex_10 rfl (lv_at hl 0 rfl) ?_
      refine lv_iload_n hx hb dJ15_checkIndex_11 rfl (lv_at hl 1 rfl) ?_
      exact False.elim h
theorem ct_J15_checkIndex (l : Launch) : CT_J15_checkIndex l 1 20 w_J15_checkIndex := by
  intro V sz G Q x0 x1 x2
  refine Met.ofW (cc := cJ15_checkIndex) (maxL := 3) (ret := (some .int)) (by decide) rfl ?_
  intro p e s m args below meth c s₁ B hml hv
  obtain ⟨rfl, hsz, hW, hK, hZ, h⟩ := hv
  subst hsz
  have hts := atoms_spec (ws := (ws_ yJ15_checkIndex cJ15_checkIndex 3 (some .int))) B.pre
  have hts : ∀ w ∈ lw_all, w.before _ s = true := fun w h => hts w (List.mem_cons_of_mem _ h)
  have key : ∃ ls : Array Slot, entryFrame m ([.int x0, .int x1, va_rf x2] : List Value).toArray 3 = F0 m 0 ls [] ∧ lv_has ls 3 [(0, .int x0), (1, .int x1), (2, va_rf x2)] := by
    cases x2 <;> (refine ⟨_, by rw [lg_entry_eq], ?_⟩; exact lv_entry _ (Nat.le_of_ble_eq_true rfl))
  obtain ⟨ls, hfr, hl⟩ := key
  rw [hfr]
  exact wk_J15_checkIndex Q ⟨⟨B.exec, B.bytes, hml, findClass_of_methodNamed B.named, hts⟩, hK, hZ, fun q h => Or.inr h⟩ (Nat.le_refl _) (Nat.le_refl _) ⟨Nat.le_refl _, Nat.le_refl _⟩ G (fun v pc ls H locs hd hW1 hS hQ => W.iret (v := v) B.exec B.bytes B.returns (fun t ht _ => ⟨⟨v, G, rfl, ⟨rfl, hQ⟩, by rw [← ht] at hW1; exact hW1⟩, hS.F ht⟩) hS.2.2 hd) x0 x1 x2 h ls _ [] hl hW va_S.rf
def CT_J16_canEncode (l : Launch) (fr lo : Nat) (w : (Int32 → Prop) → Int32 → Prop) : Prop := ∀ (sz : Nat) (Q : Int32 → Prop) (x0 : Int32), Met l yJ16_canEncode (ws_ yJ16_canEncode cJ16_canEncode 1 (some .boolean)) { frames := fr, cells := 0, slots := 0, locals := lo } (va_Pc [.int x0] (fun U => U.heap.size = sz ∧ w Q x0)) (va_Qi (fun r (_ : Unit) => Q r) (fun _ _ => True) (mN sz)) 0 0 (mN sz)
theorem call_J16_canEncode {p : Program} {l : Launch} {e : Env} {R : Room} {s : State} {m : MethodId} {args : Array Value} {below : List Frame} {meth : Method} {c : Code} {H : Heap} {locs : List Loc} {cells slots : Nat} {Z : State → Prop} {A : Nat → Prop} {cc : ByteArray} {nL pc : Nat} {ls : Array Slot} {rest : List Value} {own : String} {index fr lo : Nat} {w : (Int32 → Prop) → Int32 → Prop} {x0 : Int32} (hM : CT_J16_canEncode l fr lo w) (S : CallFix p m c cc nL s args lw_all own) (hS : va_S A s.heap H locs) (hA : ∀ q, s.heap.size ≤ q → A q) (hlink : Cond.methodLink own index yJ16_canEncode ∈ lw_all) (hRf : fr + 1 ≤ R.frames) (hRl : 8 + (1 + 11) + lo ≤ R.locals) (hcs : cells ≤ R.cells ∧ slots ≤ R.slots) (hz : ls.size = nL) (hr8 : (rest.map fun v => v.category).sum ≤ 8) (hdg : decode cc pc = .ok (.invokestatic index, 3)) {Q1 : Int32 → Prop} (h : w Q1 x0) (kk : ∀ (r : Int32) (H1 : Heap) (locs1 : List Loc), Q1 r → (∀ q : Nat, q < H.size → H1[q]? = H[q]?) → va_S A s.heap H1 locs1 → W p l e R s m args below meth c H1 locs1 cells slots Z (F0 m (pc + 3) ls (.int r :: rest))) : W p l e R s m args below meth c H locs cells slots Z (F0 m pc ls (.int x0 :: rest)) := by
  exact ro_i (va_runS (As := [.int x0]) (rest := rest) S (hM H.size Q1 x0) (va_cwS 1 S.2.2.2.2 (lw_S hlink q1636 q79 q1637) rfl rfl rfl (by decide +kernel) ⟨hRf, hRl⟩) ⟨fun a U g mk q => by obtain ⟨q0, q1, qw⟩ := q; exact ⟨q0, q1, qw⟩, fun U hU hWm => ⟨rfl, by rw [hU], h⟩⟩ rfl rfl hz rfl (lv_room hr8) hdg hcs) hS hA (fun r H1 locs1 hp hz hk hS1 => kk r H1 locs1 hp hk hS1)
def w_J16_canEncode (Q : Int32 → Prop) (x0 : Int32) : Prop := if (255 : Int32) < x0 then (Q (0 : Int32)) else (Q (1 : Int32))
set_option maxRecDepth 100000 in
set_option maxHeartbeats 4000000 in
theorem wk_J16_canEncode {p : Program} {l : Launch} {e : Env} {R : Room} {s : State} {m : MethodId} {args : Array Value} {below : List Frame} {meth : Method} {c : Code} {cells slots : Nat} {Z : State → Prop} {A : Nat → Prop}  (Q : Int32 → Prop) (S : CallFix p m c cJ16_canEncode 1 s args lw_all RJ16) (hA : ∀ q, s.heap.size ≤ q → A q) (hRf : 0 ≤ R.frames) (hRl : 0 ≤ R.locals) (hcs : cells ≤ R.cells ∧ slots ≤ R.slots) (hret : ∀ (v : Int32) (pc : Nat) (ls : Array Slot) (H : Heap) (locs : List Loc), decode cJ16_canEncode pc = .ok (.ireturn, 1) → va_S A s.heap H locs → isZ v → Q v → W p l e R s m args below meth c H locs cells slots Z (F0 m pc ls [.int v])) (x0 : Int32) : w_J16_canEncode Q x0 → ∀ (ls : Array Slot) (H : Heap) (locs : List Loc), lv_has ls 1 [(0, .int x0)] → va_S A s.heap H locs → W p l e R s m args below meth c H locs cells slots Z (F0 m 0 ls []) := by
  obtain ⟨hx, hb, hml, hown, hts⟩ := S; have S : CallFix p m c cJ16_canEncode 1 s args lw_all RJ16 := ⟨hx, hb, hml, hown, hts⟩
  intro h
  intro ls H locs hl hS
  refine lv_iload_n hx hb dJ16_canEncode_0 rfl (lv_at hl 0 rfl) ?_
  refine lv_sipush (v := 255) hx hb dJ16_canEncode_1 (by decide) ?_
  refine lv_icmp_gt (tgt := 11) hx hb dJ16_canEncode_4 (by decide) (fun c1 => ?_) (fun c1 => ?_)
  · have h := wif_t h c1
    refine lv_iconst (v := 0) hx hb dJ16_canEncode_11 (by decide) ?_
    exact hret _ _ _ _ _ dJ16_canEncode_12 hS isZ_0 h
  · have h := wif_f h c1
    refine lv_iconst (v := 1) hx hb dJ16_canEncode_7 (by decide) ?_
    refine lv_goto (tgt := 12) hx hb dJ16_canEncode_8 (by decide) ?_
    exact hret _ _ _ _ _ dJ16_canEncode_12 hS isZ_1 h
theorem ct_J16_canEncode (l : Launch) : CT_J16_canEncode l 0 0 w_J16_canEncode := by
  intro sz Q x0
  refine Met.ofW (cc := cJ16_canEncode) (maxL := 1) (ret := (some .boolean)) (by decide) rfl ?_
  intro p e s m args below meth c s₁ B hml hv
  obtain ⟨rfl, hsz, h⟩ := hv
  subst hsz
  have hts := atoms_spec (ws := ws_ yJ16_canEncode cJ16_canEncode 1 (some .boolean)) B.pre
  have hts : ∀ w ∈ lw_all, w.before _ s = true := fun w h => hts w (List.mem_cons_of_mem _ h)
  have hl := lv_entry ([.int x0]) (n := 1) (Nat.le_of_ble_eq_true rfl)
  rw [lg_entry_eq]
  generalize (lg_sl ([.int x0]) ++ List.replicate (1 - (lg_sl ([.int x0])).length) Slot.unset).toArray = ls at hl ⊢
  exact wk_J16_canEncode Q ⟨B.exec, B.bytes, hml, findClass_of_methodNamed B.named, hts⟩ (fun q h => h) (Nat.le_refl _) (Nat.le_refl _) ⟨Nat.le_refl _, Nat.le_refl _⟩ (fun v pc ls H locs hd hS hz hQ => W.zret (v := v) B.exec B.bytes B.returns hz.nar (fun t ht _ => ⟨⟨v, (), rfl, hQ, trivial⟩, hS.F ht⟩) hS.2.2 hd) x0 h ls _ [] hl va_S.rf
def CT_J17_stringSize (l : Launch) (fr lo : Nat) (w : (Int32 → Prop) → Int32 → Prop) : Prop := ∀ (sz : Nat) (Q : Int32 → Prop) (x0 : Int32), Met l yJ17_stringSize (ws_ yJ17_stringSize cJ17_stringSize 4 (some .int)) { frames := fr, cells := 0, slots := 0, locals := lo } (va_Pc [.int x0] (fun U => U.heap.size = sz ∧ w Q x0)) (va_Qi (fun r (_ : Unit) => Q r) (fun _ _ => True) (mN sz)) 0 0 (mN sz)
theorem call_J17_stringSize {p : Program} {l : Launch} {e : Env} {R : Room} {s : State} {m : MethodId} {args : Array Value} {below : List Frame} {meth : Method} {c : Code} {H : Heap} {locs : List Loc} {cells slots : Nat} {Z : State → Prop} {A : Nat → Prop} {cc : ByteArray} {nL pc : Nat} {ls : Array Slot} {rest : List Value} {own : String} {index fr lo : Nat} {w : (Int32 → Prop) → Int32 → Prop} {x0 : Int32} (hM : CT_J17_stringSize l fr lo w) (S : CallFix p m c cc nL s args lw_all own) (hS : va_S A s.heap H locs) (hA : ∀ q, s.heap.size ≤ q → A q) (hlink : Cond.methodLink own index yJ17_stringSize ∈ lw_all) (hRf : fr + 1 ≤ R.frames) (hRl : 8 + (4 + 11) + lo ≤ R.locals) (hcs : cells ≤ R.cells ∧ slots ≤ R.slots) (hz : ls.size = nL) (hr8 : (rest.map fun v => v.category).sum ≤ 8) (hdg : decode cc pc = .ok (.invokestatic index, 3)) {Q1 : Int32 → Prop} (h : w Q1 x0) (kk : ∀ (r : Int32) (H1 : Heap) (locs1 : List Loc), Q1 r → (∀ q : Nat, q < H.size → H1[q]? = H[q]?) → va_S A s.heap H1 locs1 → W p l e R s m args below meth c H1 locs1 cells slots Z (F0 m (pc + 3) ls (.int r :: rest))) : W p l e R s m args below meth c H locs cells slots Z (F0 m pc ls (.int x0 :: rest)) := by
  exact ro_i (va_runS (As := [.int x0]) (rest := rest) S (hM H.size Q1 x0) (va_cwS 1 S.2.2.2.2 (lw_S hlink q386 q81 q387) rfl rfl rfl (by decide +kernel) ⟨hRf, hRl⟩) ⟨fun a U g mk q => by obtain ⟨q0, q1, qw⟩ := q; exact ⟨q0, q1, qw⟩, fun U hU hWm => ⟨rfl, by rw [hU], h⟩⟩ rfl rfl hz rfl (lv_room hr8) hdg hcs) hS hA (fun r H1 locs1 hp hz hk hS1 => kk r H1 locs1 hp hk hS1)
def w_J17_stringSize_h16 (Q : Int32 → Prop) (x0 : Int32) (x1 : Int32) (rec16 : Int32 → Int32 → Prop) (x2 : Int32) (x3 : Int32) : Prop := if (10 : Int32) ≤ x3 then (Q ((10 : Int32) + x1)) else (if x0 ≤ x2 then (rec16 ((10 : Int32) * x2) (x3 + (1 : Int32))) else (Q (x3 + x1)))
def w_J17_stringSize_L16 (Q : Int32 → Prop) (x0 : Int32) (x1 : Int32) (x2 : Int32) (x3 : Int32) : Prop := wLoop (fun (rec : (Int32 × Int32) → Prop) (s : Int32 × Int32) => w_J17_stringSize_h16 Q x0 x1 (fun x2 x3 => rec (x2, x3)) s.1 s.2) (x2, x3)
def w_J17_stringSize_11 (Q : Int32 → Prop) (x0 : Int32) (x1 : Int32) : Prop := w_J17_stringSize_L16 Q x0 x1 (-10 : Int32) (1 : Int32)
def w_J17_stringSize (Q : Int32 → Prop) (x0 : Int32) : Prop := if x0 < 0 then (w_J17_stringSize_11 Q x0 (1 : Int32)) else (w_J17_stringSize_11 Q (-x0) (0 : Int32))
set_option maxRecDepth 100000 in
set_option maxHeartbeats 4000000 in
theorem wk_J17_stringSize {p : Program} {l : Launch} {e : Env} {R : Room} {s : State} {m : MethodId} {args : Array Value} {below : List Frame} {meth : Method} {c : Code} {cells slots : Nat} {Z : State → Prop} {A : Nat → Prop}  (Q : Int32 → Prop) (S : CallFix p m c cJ17_stringSize 4 s args lw_all RJ17) (hA : ∀ q, s.heap.size ≤ q → A q) (hRf : 0 ≤ R.frames) (hRl : 0 ≤ R.locals) (hcs : cells ≤ R.cells ∧ slots ≤ R.slots) (hret : ∀ (v : Int32) (pc : Nat) (ls : Array Slot) (H : Heap) (locs : List Loc), decode cJ17_stringSize pc = .ok (.ireturn, 1) → va_S A s.heap H locs → Q v → W p l e R s m args below meth c H locs cells slots Z (F0 m pc ls [.int v])) (x0 : Int32) : w_J17_stringSize Q x0 → ∀ (ls : Array Slot) (H : Heap) (locs : List Loc), lv_has ls 4 [(0, .int x0)] → va_S A s.heap H locs → W p l e R s m args below meth c H locs cells slots Z (F0 m 0 ls []) := by
  obtain ⟨hx, hb, hml, hown, hts⟩ := S; have S : CallFix p m c cJ17_stringSize 4 s args lw_all RJ17 := ⟨hx, hb, hml, hown, hts⟩
  have hL16 : ∀ (x0 : Int32) (x1 : Int32) (x2 : Int32) (x3 : Int32), w_J17_stringSize_L16 Q x0 x1 x2 x3 → ∀ (ls : Array Slot) (H : Heap) (locs : List Loc), lv_has ls 4 [(0, .int x0), (1, .int x1), (2, .int x2), (3, .int x3)] → va_S A s.heap H locs → W p l e R s m args below meth c H locs cells slots Z (F0 m 16 ls []) := by
    intro x0 x1
    obtain ⟨G16, hG16⟩ : ∃ G : Int32 → Int32 → Prop, ∀ (x2 : Int32) (x3 : Int32), G x2 x3 ↔ (∀ (ls : Array Slot) (H : Heap) (locs : List Loc), lv_has ls 4 [(0, .int x0), (1, .int x1), (2, .int x2), (3, .int x3)] → va_S A s.heap H locs → W p l e R s m args below meth c H locs cells slots Z (F0 m 16 ls [])) := ⟨fun x2 x3 => _, fun x2 x3 => Iff.rfl⟩
    have hB16 : ∀ (rec16 : Int32 → Int32 → Prop), (∀ (x2 : Int32) (x3 : Int32), rec16 x2 x3 → G16 x2 x3) → ∀ (x2 : Int32) (x3 : Int32), w_J17_stringSize_h16 Q x0 x1 rec16 x2 x3 → G16 x2 x3 := by
      intro rec16 hrec16
      intro x2 x3 h
      rw [hG16]
      intro ls H locs hl hS
      refine lv_iload_n hx hb dJ17_stringSize_16 rfl (lv_at hl 3 rfl) ?_
      refine lv_bipush (v := 10) hx hb dJ17_stringSize_17 (by decide) ?_
      refine lv_icmp_ge (tgt := 42) hx hb dJ17_stringSize_19 (by decide) (fun c2 => ?_) (fun c2 => ?_)
      · have h := wif_t h c2
        refine lv_bipush (v := 10) hx hb dJ17_stringSize_42 (by decide) ?_
        refine lv_iload_n hx hb dJ17_stringSize_44 rfl (lv_at hl 1 rfl) ?_
        refine lv_iadd hx hb dJ17_stringSize_45 ?_
        exact hret _ _ _ _ _ dJ17_stringSize_46 hS h
      · have h := wif_f h c2
        refine lv_iload_n hx hb dJ17_stringSize_22 rfl (lv_at hl 0 rfl) ?_
        refine lv_iload_n hx hb dJ17_stringSize_23 rfl (lv_at hl 2 rfl) ?_
        refine lv_icmp_le (tgt := 31) hx hb dJ17_stringSize_24 (by decide) (fun c1 => ?_) (fun c1 => ?_)
        · have h := wif_t h c1
          refine lv_bipush (v := 10) hx hb dJ17_stringSize_31 (by decide) ?_
          refine lv_iload_n hx hb dJ17_stringSize_33 rfl (lv_at hl 2 rfl) ?_
          refine lv_imul hx hb dJ17_stringSize_34 ?_
          refine lv_istore_n (lv' := [(2, .int ((10 : Int32) * x2)), (0, .int x0), (1, .int x1), (3, .int x3)]) hx hb dJ17_stringSize_35 rfl hl (by decide) rfl (fun ls hl => ?_)
          refine lv_iinc (v := x3 + (1 : Int32)) (lv' := [(3, .int (x3 + (1 : Int32))), (2, .int ((10 : Int32) * x2)), (0, .int x0), (1, .int x1)]) hx hb dJ17_stringSize_36 hl (k := 3) rfl (congrArg (fun z => x3 + z) (by decide)) (by decide) rfl (fun ls hl => ?_)
          refine lv_goto (tgt := 16) hx hb dJ17_stringSize_39 (by decide) ?_
          exact (hG16 _ _).mp (hrec16 _ _ h) ls H locs (lv_sub hl [2, 3, 1, 0] rfl) hS
        · have h := wif_f h c1
          refine lv_iload_n hx hb dJ17_stringSize_27 rfl (lv_at hl 3 rfl) ?_
          refine lv_iload_n hx hb dJ17_stringSize_28 rfl (lv_at hl 1 rfl) ?_
          refine lv_iadd hx hb dJ17_stringSize_29 ?_
          exact hret _ _ _ _ _ dJ17_stringSize_30 hS h
    intro x2 x3 h
    exact (hG16 x2 x3).mp (loop_walk (fun s => G16 s.1 s.2) (fun rec hrec s h => hB16 (fun x2 x3 => rec (x2, x3)) (fun x2 x3 h => hrec (x2, x3) h) s.1 s.2 h) (x2, x3) h)
  have hb11 : ∀ (x0 : Int32) (x1 : Int32), w_J17_stringSize_11 Q x0 x1 → ∀ (ls : Array Slot) (H : Heap) (locs : List Loc), lv_has ls 4 [(0, .int x0), (1, .int x1)] → va_S A s.heap H locs → W p l e R s m args below meth c H locs cells slots Z (F0 m 11 ls []) := by
    intro x0 x1 h
    intro ls H locs hl hS
    refine lv_bipush (v := -10) hx hb dJ17_stringSize_11 (by decide) ?_
    refine lv_istore_n (lv' := [(2, .int (-10 : Int32)), (0, .int x0), (1, .int x1)]) hx hb dJ17_stringSize_13 rfl hl (by decide) rfl (fun ls hl => ?_)
    refine lv_iconst (v := 1) hx hb dJ17_stringSize_14 (by decide) ?_
    refine lv_istore_n (lv' := [(3, .int (1 : Int32)), (2, .int (-10 : Int32)), (0, .int x0), (1, .int x1)]) hx hb dJ17_stringSize_15 rfl hl (by decide) rfl (fun ls hl => ?_)
    exact hL16 _ _ _ _ h ls H locs (lv_sub hl [2, 3, 1, 0] rfl) hS
  intro h
  intro ls H locs hl hS
  refine lv_iconst (v := 1) hx hb dJ17_stringSize_0 (by decide) ?_
  refine lv_istore_n (lv' := [(1, .int (1 : Int32)), (0, .int x0)]) hx hb dJ17_stringSize_1 rfl hl (by decide) rfl (fun ls hl => ?_)
  refine lv_iload_n hx hb dJ17_stringSize_2 rfl (lv_at hl 1 rfl) ?_
  refine lv_if_lt (tgt := 11) hx hb dJ17_stringSize_3 (by decide) (fun c3 => ?_) (fun c3 => ?_)
  · have h := wif_t h c3
    exact hb11 _ _ h ls H locs (lv_sub hl [1, 0] rfl) hS
  · have h := wif_f h c3
    refine lv_iconst (v := 0) hx hb dJ17_stringSize_6 (by decide) ?_
    refine lv_istore_n (lv' := [(1, .int (0 : Int32)), (0, .int x0)]) hx hb dJ17_stringSize_7 rfl hl (by decide) rfl (fun ls hl => ?_)
    refine lv_iload_n hx hb dJ17_stringSize_8 rfl (lv_at hl 1 rfl) ?_
    refine lv_ineg hx hb dJ17_stringSize_9 ?_
    refine lv_istore_n (lv' := [(0, .int (-x0)), (1, .int (0 : Int32))]) hx hb dJ17_stringSize_10 rfl hl (by decide) rfl (fun ls hl => ?_)
    exact hb11 _ _ h ls H locs (lv_sub hl [0, 1] rfl) hS
theorem ct_J17_stringSize (l : Launch) : CT_J17_stringSize l 0 0 w_J17_stringSize := by
  intro sz Q x0
  refine Met.ofW (cc := cJ17_stringSize) (maxL := 4) (ret := (some .int)) (by decide) rfl ?_
  intro p e s m args below meth c s₁ B hml hv
  obtain ⟨rfl, hsz, h⟩ := hv
  subst hsz
  have hts := atoms_spec (ws := ws_ yJ17_stringSize cJ17_stringSize 4 (some .int)) B.pre
  have hts : ∀ w ∈ lw_all, w.before _ s = true := fun w h => hts w (List.mem_cons_of_mem _ h)
  have hl := lv_entry ([.int x0]) (n := 4) (Nat.le_of_ble_eq_true rfl)
  rw [lg_entry_eq]
  generalize (lg_sl ([.int x0]) ++ List.replicate (4 - (lg_sl ([.int x0])).length) Slot.unset).toArray = ls at hl ⊢
  exact wk_J17_stringSize Q ⟨B.exec, B.bytes, hml, findClass_of_methodNamed B.named, hts⟩ (fun q h => h) (Nat.le_refl _) (Nat.le_refl _) ⟨Nat.le_refl _, Nat.le_refl _⟩ (fun v pc ls H locs hd hS hQ => W.iret (v := v) B.exec B.bytes B.returns (fun t ht _ => ⟨⟨v, (), rfl, hQ, trivial⟩, hS.F ht⟩) hS.2.2 hd) x0 h ls _ [] hl va_S.rf
def CT_J17_getChars (l : Launch) (fr lo : Nat) (w : XV → (Int32 → GM → Prop) → Int32 → Int32 → (Option Nat) → GM → Prop) : Prop := ∀ (V : XV) (sz : Nat) (G : GM) (Q : Int32 → GM → Prop) (x0 : Int32) (x1 : Int32) (x2 : Option Nat), Met l yJ17_getChars (ws_ yJ17_getChars cJ17_getChars 7 (some .int)) { frames := fr, cells := 0, slots := 0, locals := lo } (va_Pc [.int x0, .int x1, va_rf x2] (fun U => U.heap.size = sz ∧ xW V (xA G sz) G U.heap ∧ xK V U ∧ xZ V (xA G sz) U U.heap ∧ w V Q x0 x1 x2 G)) (va_Qi (fun r (u : GM) => Q r u) (fun u t => xW V (xA G sz) u t.heap) (xA G sz)) 0 0 (xA G sz)
theorem call_J17_getChars_S {p : Program} {l : Launch} {e : Env} {R : Room} {s : State} {m : MethodId} {args : Array Value} {below : List Frame} {meth : Method} {c : Code} {H : Heap} {locs : List Loc} {cells slots : Nat} {Z : State → Prop} {A : Nat → Prop} {cc : ByteArray} {nL pc : Nat} {ls : Array Slot} {rest : List Value} {own : String} {index fr lo : Nat} {w : XV → (Int32 → GM → Prop) → Int32 → Int32 → (Option Nat) → GM → Prop} {V : XV} {G : GM} {x0 : Int32} {x1 : Int32} {x2 : Option Nat} (hM : CT_J17_getChars l fr lo w) (C : xC p m c s args cc nL own V A) (hW : xW V A G H) (hS : va_S A s.heap H locs) (hlink : Cond.methodLink own index yJ17_getChars ∈ lw_all) (hRf : fr + 1 ≤ R.frames) (hRl : 8 + (7 + 11) + lo ≤ R.locals) (hcs : cells ≤ R.cells ∧ slots ≤ R.slots) (hz : ls.size = nL) (hr8 : (rest.map fun v => v.category).sum ≤ 8) (hdg : decode cc pc = .ok (.invokestatic index, 3)) {Q1 : Int32 → GM → Prop} (h : w V Q1 x0 x1 x2 G) (kk : ∀ (r : Int32) (G1 : GM) (H1 : Heap) (locs1 : List Loc), Q1 r G1 → xW V A G1 H1 → va_S A s.heap H1 locs1 → xFr V G G1 H H1 → W p l e R s m args below meth c H1 locs1 cells slots Z (F0 m (pc + 3) ls (.int r :: rest))) : W p l e R s m args below meth c H locs cells slots Z (F0 m pc ls (va_rf x2 :: .int x1 :: .int x0 :: rest)) := by
  exact rg_i3w (va_runS (As := [.int x0, .int x1, va_rf x2]) (rest := rest) C.1 (hM V H.size G Q1 x0 x1 x2) (va_cwS 3 C.1.2.2.2.2 (lw_S hlink q389 q81 q390) rfl rfl rfl (by decide +kernel) ⟨hRf, hRl⟩) ⟨fun a U g mk q => by obtain ⟨q0, q1, qW, qK, qZ, qw⟩ := q; exact ⟨q0, q1, qW, xK.same (u := U) (U := U.calling g mk a) rfl qK, xZ.moved (u := U) (U := U.calling g mk a) (Vm.Alike.refl U.vm) qZ, qw⟩, fun U hU hWm => ⟨rfl, by rw [hU], by rw [hU]; exact hW.self _, C.2.1.warm hWm, xZ.call C.2.2.1 hW hS C.2.2.2 hU hWm.alike, h⟩⟩ rfl rfl hz rfl (lv_room hr8) hdg hcs) hW hS C.2.2.2 (fun r G1 H1 locs1 hp hW1 hS1 hF1 => kk r G1 H1 locs1 hp hW1 hS1 hF1)
def w_J17_getChars_104 (V : XV) (Q : Int32 → GM → Prop) (x2 : Option Nat) (x5 : Int32) (x6 : Int32) (G : GM) : Prop := if x6 = 0 then (Q x5 G) else (gIS G 2 x2 (x5 + (-1 : Int32)) (vp_nar .byte (45 : Int32)) (fun G1 => Q (x5 + (-1 : Int32)) G1))
def w_J17_getChars_h22 (V : XV) (Q : Int32 → GM → Prop) (x2 : Option Nat) (x6 : Int32) (rec22 : Int32 → Int32 → GM → Prop) (x0 : Int32) (x5 : Int32) (G : GM) : Prop := if (-100 : Int32) < x0 then (∃ v3, xst V "java/lang/Integer" "DigitOnes" = va_rf v3 ∧ (gIL G 2 v3 (-x0) (fun v4 => gIS G 2 x2 (x5 + (-1 : Int32)) (vp_nar .byte v4) (fun G5 => if (-9 : Int32) ≤ x0 then (w_J17_getChars_104 V Q x2 (x5 + (-1 : Int32)) x6 G5) else (∃ v6, xst V "java/lang/Integer" "DigitTens" = va_rf v6 ∧ (gIL G5 2 v6 (-x0) (fun v7 => gIS G5 2 x2 ((x5 + (-1 : Int32)) + (-1 : Int32)) (vp_nar .byte v7) (fun G8 => w_J17_getChars_104 V Q x2 ((x5 + (-1 : Int32)) + (-1 : Int32)) x6 G8)))))))) else (¬ (100 : Int32) = 0 ∧ (∃ v10, xst V "java/lang/Integer" "DigitOnes" = va_rf v10 ∧ (gIL G 2 v10 (((x0 / (100 : Int32)) * (100 : Int32)) - x0) (fun v11 => gIS G 2 x2 (x5 + (-1 : Int32)) (vp_nar .byte v11) (fun G12 => ∃ v13, xst V "java/lang/Integer" "DigitTens" = va_rf v13 ∧ (gIL G12 2 v13 (((x0 / (100 : Int32)) * (100 : Int32)) - x0) (fun v14 => gIS G12 2 x2 ((x5 + (-1 : Int32)) + (-1 : Int32)) (vp_nar .byte v14) (fun G15 => rec22 (x0 / (100 : Int32)) ((x5 + (-1 : Int32)) + (-1 : Int32)) G15))))))))
def w_J17_getChars_L22 (V : XV) (Q : Int32 → GM → Prop) (x2 : Option Nat) (x6 : Int32) (x0 : Int32) (x5 : Int32) (G : GM) : Prop := wLoop (fun (rec : (Int32 × Int32 × GM) → Prop) (s : Int32 × Int32 × GM) => w_J17_getChars_h22 V Q x2 x6 (fun x0 x5 G => rec (x0, x5, G)) s.1 s.2.1 s.2.2) (x0, x5, G)
def w_J17_getChars_12 (V : XV) (Q : Int32 → GM → Prop) (x0 : Int32) (x2 : Option Nat) (x5 : Int32) (y0 : Int32) (G : GM) : Prop := if y0 = 0 then (w_J17_getChars_L22 V Q x2 y0 (-x0) x5 G) else (w_J17_getChars_L22 V Q x2 y0 x0 x5 G)
def w_J17_getChars (V : XV) (Q : Int32 → GM → Prop) (x0 : Int32) (x1 : Int32) (x2 : Option Nat) (G : GM) : Prop := if 0 ≤ x0 then (w_J17_getChars_12 V Q x0 x2 x1 (0 : Int32) G) else (w_J17_getChars_12 V Q x0 x2 x1 (1 : Int32) G)
set_option maxRecDepth 100000 in
set_option maxHeartbeats 4000000 in
theorem wk_J17_getChars {p : Program} {l : Launch} {e : Env} {R : Room} {s : State} {m : MethodId} {args : Array Value} {below : List Frame} {meth : Method} {c : Code} {cells slots : Nat} {Z : State → Prop} {A : Nat → Prop} {V : XV} (Q : Int32 → GM → Prop) (C : xC p m c s args cJ17_getChars 7 RJ17 V A) (hRf : 1 ≤ R.frames) (hRl : 20 ≤ R.locals) (hcs : cells ≤ R.cells ∧ slots ≤ R.slots) (G : GM) (hret : ∀ (v : Int32) (G : GM) (pc : Nat) (ls : Array Slot) (H : Heap) (locs : List Loc), decode cJ17_getChars pc = .ok (.ireturn, 1) → xW V A G H → va_S A s.heap H locs → Q v G → W p l e R s m args below meth c H locs cells slots Z (F0 m pc ls [.int v])) (x0 : Int32) (x1 : Int32) (x2 : Option Nat) : w_J17_getChars V Q x0 x1 x2 G → ∀ (ls : Array Slot) (H : Heap) (locs : List Loc), lv_has ls 7 [(0, .int x0), (1, .int x1), (2, va_rf x2)] → xW V A G H → va_S A s.heap H locs → W p l e R s m args below meth c H locs cells slots Z (F0 m 0 ls []) := by
  have hx := C.1.1; have hb := C.1.2.1; have hml := C.1.2.2.1; have hown := C.1.2.2.2.1; have hts := C.1.2.2.2.2
  have hb104 : ∀ (x5 : Int32) (x6 : Int32) (G : GM), w_J17_getChars_104 V Q x2 x5 x6 G → ∀ (ls : Array Slot) (H : Heap) (locs : List Loc), lv_has ls 7 [(2, va_rf x2), (5, .int x5), (6, .int x6)] → xW V A G H → va_S A s.heap H locs → W p l e R s m args below meth c H locs cells slots Z (F0 m 104 ls []) := by
    intro x5 x6 G h
    intro ls H locs hl hW hS
    refine lv_iload hx hb dJ17_getChars_104 (lv_at hl 2 rfl) ?_
    refine lv_if_eq (tgt := 118) hx hb dJ17_getChars_106 (by decide) (fun c2 => ?_) (fun c2 => ?_)
    · have h := wif_t h c2
      refine lv_iload hx hb dJ17_getChars_118 (lv_at hl 1 rfl) ?_
      exact hret _ _ _ _ _ _ dJ17_getChars_120 hW hS h
    · have h := wif_f h c2
      refine sh_aload_n hx hb dJ17_getChars_109 rfl (lv_at hl 0 rfl) ?_
      refine lv_iinc (v := x5 + (-1 : Int32)) (lv' := [(5, .int (x5 + (-1 : Int32))), (2, va_rf x2), (6, .int x6)]) hx hb dJ17_getChars_110 hl (k := 1) rfl (congrArg (fun z => x5 + z) (by decide)) (by decide) rfl (fun ls hl => ?_)
      refine lv_iload hx hb dJ17_getChars_113 (lv_at hl 0 rfl) ?_
      refine lv_bipush (v := 45) hx hb dJ17_getChars_115 (by decide) ?_
      refine sh_bast C hW hS h dJ17_getChars_117 (fun G1 H locs hW hS h => ?_)
      refine lv_iload hx hb dJ17_getChars_118 (lv_at hl 0 rfl) ?_
      exact hret _ _ _ _ _ _ dJ17_getChars_120 hW hS h
  have hL22 : ∀ (x6 : Int32) (x0 : Int32) (x5 : Int32) (G : GM), w_J17_getChars_L22 V Q x2 x6 x0 x5 G → ∀ (ls : Array Slot) (H : Heap) (locs : List Loc), lv_has ls 7 [(0, .int x0), (2, va_rf x2), (5, .int x5), (6, .int x6)] → xW V A G H → va_S A s.heap H locs → W p l e R s m args below meth c H locs cells slots Z (F0 m 22 ls []) := by
    intro x6
    obtain ⟨GG22, hG22⟩ : ∃ GG : Int32 → Int32 → GM → Prop, ∀ (x0 : Int32) (x5 : Int32) (G : GM), GG x0 x5 G ↔ (∀ (ls : Array Slot) (H : Heap) (locs : List Loc), lv_has ls 7 [(0, .int x0), (2, va_rf x2), (5, .int x5), (6, .int x6)] → xW V A G H → va_S A s.heap H locs → W p l e R s m args below meth c H locs cells slots Z (F0 m 22 ls [])) := ⟨fun x0 x5 G => _, fun x0 x5 G => Iff.rfl⟩
    have hB22 : ∀ (rec22 : Int32 → Int32 → GM → Prop), (∀ (x0 : Int32) (x5 : Int32) (G : GM), rec22 x0 x5 G → GG22 x0 x5 G) → ∀ (x0 : Int32) (x5 : Int32) (G : GM), w_J17_getChars_h22 V Q x2 x6 rec22 x0 x5 G → GG22 x0 x5 G := by
      intro rec22 hrec22
      intro x0 x5 G h
      rw [hG22]
      intro ls H locs hl hW hS
      refine lv_iload_n hx hb dJ17_getChars_22 rfl (lv_at hl 0 rfl) ?_
      refine lv_bipush (v := -100) hx hb dJ17_getChars_23 (by decide) ?_
      refine lv_icmp_gt (tgt := 72) hx hb dJ17_getChars_25 (by decide) (fun c16 => ?_) (fun c16 => ?_)
      · have h := wif_t h c16
        refine sh_aload_n hx hb dJ17_getChars_72 rfl (lv_at hl 1 rfl) ?_
        refine lv_iinc (v := x5 + (-1 : Int32)) (lv' := [(5, .int (x5 + (-1 : Int32))), (0, .int x0), (2, va_rf x2), (6, .int x6)]) hx hb dJ17_getChars_73 hl (k := 2) rfl (congrArg (fun z => x5 + z) (by decide)) (by decide) rfl (fun ls hl => ?_)
        refine lv_iload hx hb dJ17_getChars_76 (lv_at hl 0 rfl) ?_
        refine sh_getsR C hS q392 q391 (fun _ h => h) h dJ17_getChars_78 (fun v3 h => ?_)
        refine lv_iload_n hx hb dJ17_getChars_81 rfl (lv_at hl 1 rfl) ?_
        refine lv_ineg hx hb dJ17_getChars_82 ?_
        refine sh_bald C hW h dJ17_getChars_83 (fun v4 h => ?_)
        refine sh_bast C hW hS h dJ17_getChars_84 (fun G5 H locs hW hS h => ?_)
        refine lv_iload_n hx hb dJ17_getChars_85 rfl (lv_at hl 1 rfl) ?_
        refine lv_bipush (v := -9) hx hb dJ17_getChars_86 (by decide) ?_
        refine lv_icmp_ge (tgt := 104) hx hb dJ17_getChars_88 (by decide) (fun c9 => ?_) (fun c9 => ?_)
        · have h := wif_t h c9
          exact hb104 _ _ _ h ls H locs (lv_sub hl [2, 0, 3] rfl) hW hS
        · have h := wif_f h c9
          refine sh_aload_n hx hb dJ17_getChars_91 rfl (lv_at hl 2 rfl) ?_
          refine lv_iinc (v := (x5 + (-1 : Int32)) + (-1 : Int32)) (lv' := [(5, .int ((x5 + (-1 : Int32)) + (-1 : Int32))), (0, .int x0), (2, va_rf x2), (6, .int x6)]) hx hb dJ17_getChars_92 hl (k := 0) rfl (congrArg (fun z => (x5 + (-1 : Int32)) + z) (by decide)) (by decide) rfl (fun ls hl => ?_)
          refine lv_iload hx hb dJ17_getChars_95 (lv_at hl 0 rfl) ?_
          refine sh_getsR C hS q394 q393 (fun _ h => h) h dJ17_getChars_97 (fun v6 h => ?_)
          refine lv_iload_n hx hb dJ17_getChars_100 rfl (lv_at hl 1 rfl) ?_
          refine lv_ineg hx hb dJ17_getChars_101 ?_
          refine sh_bald C hW h dJ17_getChars_102 (fun v7 h => ?_)
          refine sh_bast C hW hS h dJ17_getChars_103 (fun G8 H locs hW hS h => ?_)
          exact hb104 _ _ _ h ls H locs (lv_sub hl [2, 0, 3] rfl) hW hS
      · have h := wif_f h c16
        refine lv_iload_n hx hb dJ17_getChars_28 rfl (lv_at hl 0 rfl) ?_
        refine lv_bipush (v := 100) hx hb dJ17_getChars_29 (by decide) ?_
        refine lv_idiv hx hb dJ17_getChars_31 h.1 ?_
        have h := h.2
        refine lv_istore_n (lv' := [(3, .int (x0 / (100 : Int32))), (0, .int x0), (2, va_rf x2), (5, .int x5), (6, .int x6)]) hx hb dJ17_getChars_32 rfl hl (by decide) (by simp only [List.filter_cons, List.filter_nil, va_rf_cat]; rfl) (fun ls hl => ?_)
        refine lv_iload_n hx hb dJ17_getChars_33 rfl (lv_at hl 0 rfl) ?_
        refine lv_bipush (v := 100) hx hb dJ17_getChars_34 (by decide) ?_
        refine lv_imul hx hb dJ17_getChars_36 ?_
        refine lv_iload_n hx hb dJ17_getChars_37 rfl (lv_at hl 1 rfl) ?_
        refine lv_isub hx hb dJ17_getChars_38 ?_
        refine lv_istore (lv' := [(4, .int (((x0 / (100 : Int32)) * (100 : Int32)) - x0)), (3, .int (x0 / (100 : Int32))), (0, .int x0), (2, va_rf x2), (5, .int x5), (6, .int x6)]) hx hb dJ17_getChars_39 hl (by decide) rfl (fun ls hl => ?_)
        refine lv_iload_n hx hb dJ17_getChars_41 rfl (lv_at hl 1 rfl) ?_
        refine lv_istore_n (lv' := [(0, .int (x0 / (100 : Int32))), (4, .int (((x0 / (100 : Int32)) * (100 : Int32)) - x0)), (3, .int (x0 / (100 : Int32))), (2, va_rf x2), (5, .int x5), (6, .int x6)]) hx hb dJ17_getChars_42 rfl hl (by decide) rfl (fun ls hl => ?_)
        refine sh_aload_n hx hb dJ17_getChars_43 rfl (lv_at hl 3 rfl) ?_
        refine lv_iinc (v := x5 + (-1 : Int32)) (lv' := [(5, .int (x5 + (-1 : Int32))), (0, .int (x0 / (100 : Int32))), (4, .int (((x0 / (100 : Int32)) * (100 : Int32)) - x0)), (3, .int (x0 / (100 : Int32))), (2, va_rf x2), (6, .int x6)]) hx hb dJ17_getChars_44 hl (k := 4) rfl (congrArg (fun z => x5 + z) (by decide)) (by decide) rfl (fun ls hl => ?_)
        refine lv_iload hx hb dJ17_getChars_47 (lv_at hl 0 rfl) ?_
        refine sh_getsR C hS q392 q391 (fun _ h => h) h dJ17_getChars_49 (fun v10 h => ?_)
        refine lv_iload hx hb dJ17_getChars_52 (lv_at hl 2 rfl) ?_
        refine sh_bald C hW h dJ17_getChars_54 (fun v11 h => ?_)
        refine sh_bast C hW hS h dJ17_getChars_55 (fun G12 H locs hW hS h => ?_)
        refine sh_aload_n hx hb dJ17_getChars_56 rfl (lv_at hl 4 rfl) ?_
        refine lv_iinc (v := (x5 + (-1 : Int32)) + (-1 : Int32)) (lv' := [(5, .int ((x5 + (-1 : Int32)) + (-1 : Int32))), (0, .int (x0 / (100 : Int32))), (4, .int (((x0 / (100 : Int32)) * (100 : Int32)) - x0)), (3, .int (x0 / (100 : Int32))), (2, va_rf x2), (6, .int x6)]) hx hb dJ17_getChars_57 hl (k := 0) rfl (congrArg (fun z => (x5 + (-1 : Int32)) + z) (by decide)) (by decide) rfl (fun ls hl => ?_)
        refine lv_iload hx hb dJ17_getChars_60 (lv_at hl 0 rfl) ?_
        refine sh_getsR C hS q394 q393 (fun _ h => h) h dJ17_getChars_62 (fun v13 h => ?_)
        refine lv_iload hx hb dJ17_getChars_65 (lv_at hl 2 rfl) ?_
        refine sh_bald C hW h dJ17_getChars_67 (fun v14 h => ?_)
        refine sh_bast C hW hS h dJ17_getChars_68 (fun G15 H locs hW hS h => ?_)
        refine lv_goto (tgt := 22) hx hb dJ17_getChars_69 (by decide) ?_
        exact (hG22 _ _ _).mp (hrec22 _ _ _ h) ls H locs (lv_sub hl [1, 4, 0, 5] rfl) hW hS
    intro x0 x5 G h
    exact (hG22 x0 x5 G).mp (loop_walk (fun s => GG22 s.1 s.2.1 s.2.2) (fun rec hrec s h => hB22 (fun x0 x5 G => rec (x0, x5, G)) (fun x0 x5 G h => hrec (x0, x5, G) h) s.1 s.2.1 s.2.2 h) (x0, x5, G) h)
  have hb12 : ∀ (x0 : Int32) (x5 : Int32) (y0 : Int32) (G : GM), w_J17_getChars_12 V Q x0 x2 x5 y0 G → ∀ (ls : Array Slot) (H : Heap) (locs : List Loc), lv_has ls 7 [(0, .int x0), (2, va_rf x2), (5, .int x5)] → xW V A G H → va_S A s.heap H locs → W p l e R s m args below meth c H locs cells slots Z (F0 m 12 ls [.int y0]) := by
    intro x0 x5 y0 G h
    intro ls H locs hl hW hS
    refine lv_istore (lv' := [(6, .int y0), (0, .int x0), (2, va_rf x2), (5, .int x5)]) hx hb dJ17_getChars_12 hl (by decide) rfl (fun ls hl => ?_)
    refine lv_iload hx hb dJ17_getChars_14 (lv_at hl 0 rfl) ?_
    refine lv_if_ne (tgt := 22) hx hb dJ17_getChars_16 (by decide) (fun c17 => ?_) (fun c17 => ?_)
    · have h := wif_f h c17
      exact hL22 _ _ _ _ h ls H locs (lv_sub hl [1, 2, 3, 0] rfl) hW hS
    · have h := wif_t h c17
      refine lv_iload_n hx hb dJ17_getChars_19 rfl (lv_at hl 1 rfl) ?_
      refine lv_ineg hx hb dJ17_getChars_20 ?_
      refine lv_istore_n (lv' := [(0, .int (-x0)), (6, .int y0), (2, va_rf x2), (5, .int x5)]) hx hb dJ17_getChars_21 rfl hl (by decide) rfl (fun ls hl => ?_)
      exact hL22 _ _ _ _ h ls H locs (lv_sub hl [0, 2, 3, 1] rfl) hW hS
  intro h
  intro ls H locs hl hW hS
  refine lv_iload_n hx hb dJ17_getChars_0 rfl (lv_at hl 1 rfl) ?_
  refine lv_istore (lv' := [(5, .int x1), (0, .int x0), (1, .int x1), (2, va_rf x2)]) hx hb dJ17_getChars_1 hl (by decide) rfl (fun ls hl => ?_)
  refine lv_iload_n hx hb dJ17_getChars_3 rfl (lv_at hl 1 rfl) ?_
  refine lv_if_ge (tgt := 11) hx hb dJ17_getChars_4 (by decide) (fun c18 => ?_) (fun c18 => ?_)
  · have h := wif_t h c18
    refine lv_iconst (v := 0) hx hb dJ17_getChars_11 (by decide) ?_
    exact hb12 _ _ _ _ h ls H locs (lv_sub hl [1, 3, 0] rfl) hW hS
  · have h := wif_f h c18
    refine lv_iconst (v := 1) hx hb dJ17_getChars_7 (by decide) ?_
    refine lv_goto (tgt := 12) hx hb dJ17_getChars_8 (by decide) ?_
    exact hb12 _ _ _ _ h ls H locs (lv_sub hl [1, 3, 0] rfl) hW hS
theorem ct_J17_getChars (l : Launch) : CT_J17_getChars l 1 20 w_J17_getChars := by
  intro V sz G Q x0 x1 x2
  refine Met.ofW (cc := cJ17_getChars) (maxL := 7) (ret := (some .int)) (by decide) rfl ?_
  intro p e s m args below meth c s₁ B hml hv
  obtain ⟨rfl, hsz, hW, hK, hZ, h⟩ := hv
  subst hsz
  have hts := atoms_spec (ws := (ws_ yJ17_getChars cJ17_getChars 7 (some .int))) B.pre
  have hts : ∀ w ∈ lw_all, w.before _ s = true := fun w h => hts w (List.mem_cons_of_mem _ h)
  have key : ∃ ls : Array Slot, entryFrame m ([.int x0, .int x1, va_rf x2] : List Value).toArray 7 = F0 m 0 ls [] ∧ lv_has ls 7 [(0, .int x0), (1, .int x1), (2, va_rf x2)] := by
    cases x2 <;> (refine ⟨_, by rw [lg_entry_eq], ?_⟩; exact lv_entry _ (Nat.le_of_ble_eq_true rfl))
  obtain ⟨ls, hfr, hl⟩ := key
  rw [hfr]
  exact wk_J17_getChars Q ⟨⟨B.exec, B.bytes, hml, findClass_of_methodNamed B.named, hts⟩, hK, hZ, fun q h => Or.inr h⟩ (Nat.le_refl _) (Nat.le_refl _) ⟨Nat.le_refl _, Nat.le_refl _⟩ G (fun v G pc ls H locs hd hW1 hS hQ => W.iret (v := v) B.exec B.bytes B.returns (fun t ht _ => ⟨⟨v, G, rfl, hQ, by rw [← ht] at hW1; exact hW1⟩, hS.F ht⟩) hS.2.2 hd) x0 x1 x2 h ls _ [] hl hW va_S.rf
def CT_J5_init_3 (l : Launch) (fr lo : Nat) (w : XV → (GM → Prop) → Nat → (Option Nat) → Int32 → GM → Prop) : Prop := ∀ (V : XV) (sz : Nat) (G : GM) (Q : GM → Prop) (x0 : Nat) (x1 : Option Nat) (x2 : Int32), Met l yJ5_init_3 (ws_ yJ5_init_3 cJ5_init_3 3 none) { frames := fr, cells := 0, slots := 0, locals := lo } (va_Pc [.ref x0, va_rf x1, .int x2] (fun U => U.heap.size = sz ∧ xW V (xA G sz) G U.heap ∧ xK V U ∧ xZ V (xA G sz) U U.heap ∧ w V Q x0 x1 x2 G)) (va_Qv (fun (u : GM) => Q u) (fun u t => xW V (xA G sz) u t.heap) (xA G sz)) 0 0 (xA G sz)
theorem call_J5_init_3_I {p : Program} {l : Launch} {e : Env} {R : Room} {s : State} {m : MethodId} {args : Array Value} {below : List Frame} {meth : Method} {c : Code} {H : Heap} {locs : List Loc} {cells slots : Nat} {Z : State → Prop} {A : Nat → Prop} {cc : ByteArray} {nL pc : Nat} {ls : Array Slot} {rest : List Value} {own : String} {index fr lo : Nat} {w : XV → (GM → Prop) → Nat → (Option Nat) → Int32 → GM → Prop} {V : XV} {G : GM} {o : Option Nat} {x0 : Nat} {x1 : Option Nat} {x2 : Int32} (hM : CT_J5_init_3 l fr lo w) (C : xC p m c s args cc nL own V A) (hW : xW V A G H) (hS : va_S A s.heap H locs) (hlink : Cond.methodLink own index yJ5_init_3 ∈ lw_all) (ho : o = some x0) (hRf : fr + 1 ≤ R.frames) (hRl : 8 + (3 + 11) + lo ≤ R.locals) (hcs : cells ≤ R.cells ∧ slots ≤ R.slots) (hz : ls.size = nL) (hr8 : (rest.map fun v => v.category).sum ≤ 8) (hdg : decode cc pc = .ok (.invokespecial index, 3)) {Q1 : GM → Prop} (h : w V Q1 x0 x1 x2 G) (kk : ∀ (G1 : GM) (H1 : Heap) (locs1 : List Loc), Q1 G1 → xW V A G1 H1 → va_S A s.heap H1 locs1 → xFr V G G1 H H1 → W p l e R s m args below meth c H1 locs1 cells slots Z (F0 m (pc + 3) ls (rest))) : W p l e R s m args below meth c H locs cells slots Z (F0 m pc ls (.int x2 :: va_rf x1 :: va_rf o :: rest)) := by
  subst ho
  exact rg_v3w (va_runI (As := [va_rf x1, .int x2]) (rest := rest) C.1 (hM V H.size G Q1 x0 x1 x2) (cwI 2 C.1.2.2.2.2 (lw_meth q1770) rfl rfl rfl (C.1.2.2.2.2 _ q65) (C.1.2.2.2.2 _ hlink) (C.1.2.2.2.2 _ q1769) rfl (by decide +kernel) ⟨hRf, hRl⟩) ⟨fun a U g mk q => by obtain ⟨q0, q1, qW, qK, qZ, qw⟩ := q; exact ⟨q0, q1, qW, xK.same (u := U) (U := U.calling g mk a) rfl qK, xZ.moved (u := U) (U := U.calling g mk a) (Vm.Alike.refl U.vm) qZ, qw⟩, fun U hU hWm => ⟨rfl, by rw [hU], by rw [hU]; exact hW.self _, C.2.1.warm hWm, xZ.call C.2.2.1 hW hS C.2.2.2 hU hWm.alike, h⟩⟩ rfl rfl hz rfl (lv_room hr8) hdg hcs) hW hS C.2.2.2 (fun G1 H1 locs1 hp hW1 hS1 hF1 => kk G1 H1 locs1 hp hW1 hS1 hF1)
def w_J5_init_3 (V : XV) (Q : GM → Prop) (x0 : Nat) (x1 : Option Nat) (x2 : Int32) (G : GM) : Prop := gPF G 47 (some x0) (va_rf x1) (fun G1 => (narrow .byte (.int x2) = .int x2 ∧ fits .byte (.int x2) = true) ∧ (gPF G1 48 (some x0) (.int x2) (fun G2 => Q G2)))
set_option maxRecDepth 100000 in
set_option maxHeartbeats 4000000 in
theorem wk_J5_init_3 {p : Program} {l : Launch} {e : Env} {R : Room} {s : State} {m : MethodId} {args : Array Value} {below : List Frame} {meth : Method} {c : Code} {cells slots : Nat} {Z : State → Prop} {A : Nat → Prop} {V : XV} (Q : GM → Prop) (C : xC p m c s args cJ5_init_3 3 RJ5 V A) (hin : meth.name = "<init>") (hRf : 1 ≤ R.frames) (hRl : 20 ≤ R.locals) (hcs : cells ≤ R.cells ∧ slots ≤ R.slots) (G : GM) (hret : ∀ (G : GM) (pc : Nat) (ls : Array Slot) (H : Heap) (locs : List Loc), decode cJ5_init_3 pc = .ok (.return_, 1) → xW V A G H → va_S A s.heap H locs → Q G → W p l e R s m args below meth c H locs cells slots Z (F0 m pc ls [])) (x0 : Nat) (x1 : Option Nat) (x2 : Int32) : w_J5_init_3 V Q x0 x1 x2 G → ∀ (ls : Array Slot) (H : Heap) (locs : List Loc), lv_has ls 3 [(0, va_rf (some x0)), (1, va_rf x1), (2, .int x2)] → xW V A G H → va_S A s.heap H locs → W p l e R s m args below meth c H locs cells slots Z (F0 m 0 ls []) := by
  have hx := C.1.1; have hb := C.1.2.1; have hml := C.1.2.2.1; have hown := C.1.2.2.2.1; have hts := C.1.2.2.2.2
  intro h
  intro ls H locs hl hW hS
  refine sh_aload_n hx hb dJ5_init_3_0 rfl (lv_at hl 0 rfl) ?_
  refine sh_objInit C q415 q110 q111 hl.1 (le_lit hRf rfl) (le_lit hRl rfl) (Nat.le_of_ble_eq_true rfl) dJ5_init_3_1 ?_
  refine sh_aload_n hx hb dJ5_init_3_4 rfl (lv_at hl 0 rfl) ?_
  refine sh_aload_n hx hb dJ5_init_3_5 rfl (lv_at hl 1 rfl) ?_
  refine sh_putF C hW hS xFb_47 q527 (fun _ h => h) hin rfl xFd_47 (rf_nar_a _ _) (rf_fit_a _ _) h dJ5_init_3_6 (fun G1 H locs hW hS h => ?_)
  refine sh_aload_n hx hb dJ5_init_3_9 rfl (lv_at hl 0 rfl) ?_
  refine lv_iload_n hx hb dJ5_init_3_10 rfl (lv_at hl 2 rfl) ?_
  have hz := h.1
  have h := h.2
  refine sh_putF C hW hS xFb_48 q528 (fun _ h => h) hin rfl xFd_48 hz.1 hz.2 h dJ5_init_3_11 (fun G2 H locs hW hS h => ?_)
  exact hret _ _ _ _ _ dJ5_init_3_14 hW hS h
theorem ct_J5_init_3 (l : Launch) : CT_J5_init_3 l 1 20 w_J5_init_3 := by
  intro V sz G Q x0 x1 x2
  refine Met.ofW (cc := cJ5_init_3) (maxL := 3) (ret := none) (by decide) rfl ?_
  intro p e s m args below meth c s₁ B hml hv
  obtain ⟨rfl, hsz, hW, hK, hZ, h⟩ := hv
  subst hsz
  have hts := atoms_spec (ws := (ws_ yJ5_init_3 cJ5_init_3 3 none)) B.pre
  have hts : ∀ w ∈ lw_all, w.before _ s = true := fun w h => hts w (List.mem_cons_of_mem _ h)
  have key : ∃ ls : Array Slot, entryFrame m ([.ref x0, va_rf x1, .int x2] : List Value).toArray 3 = F0 m 0 ls [] ∧ lv_has ls 3 [(0, va_rf (some x0)), (1, va_rf x1), (2, .int x2)] := by
    cases x1 <;> (refine ⟨_, by rw [lg_entry_eq], ?_⟩; exact lv_entry _ (Nat.le_of_ble_eq_true rfl))
  obtain ⟨ls, hfr, hl⟩ := key
  rw [hfr]
  exact wk_J5_init_3 Q ⟨⟨B.exec, B.bytes, hml, findClass_of_methodNamed B.named, hts⟩, hK, hZ, fun q h => Or.inr h⟩ (name_of_methodNamed B.named B.method).1 (Nat.le_refl _) (Nat.le_refl _) ⟨Nat.le_refl _, Nat.le_refl _⟩ G (fun G pc ls H locs hd hW1 hS hQ => W.vret B.exec B.bytes B.returns (fun t ht _ => ⟨⟨G, rfl, hQ, by rw [← ht] at hW1; exact hW1⟩, hS.F ht⟩) hS.2.2 hd) x0 x1 x2 h ls _ [] hl hW va_S.rf
def CT_J17_toString (l : Launch) (fr lo : Nat) (w : XV → (Option Nat → GM → Prop) → Int32 → GM → Nat → Nat → Prop) : Prop := ∀ (V : XV) (sz : Nat) (G : GM) (Q : Option Nat → GM → Prop) (x0 : Int32) (kc ks : Nat), Met l yJ17_toString (ws_ yJ17_toString cJ17_toString 3 (some (.object "java/lang/String"))) { frames := fr, cells := kc, slots := ks, locals := lo } (va_Pc [.int x0] (fun U => U.heap.size = sz ∧ xW V (xA G sz) G U.heap ∧ xK V U ∧ xZ V (xA G sz) U U.heap ∧ w V Q x0 G kc ks)) (va_Qq (fun r (u : GM) => Q r u) (fun u t => xW V (xA G sz) u t.heap) (xA G sz)) kc ks (xA G sz)
theorem call_J17_toString_S {p : Program} {l : Launch} {e : Env} {R : Room} {s : State} {m : MethodId} {args : Array Value} {below : List Frame} {meth : Method} {c : Code} {H : Heap} {locs : List Loc} {cells slots : Nat} {Z : State → Prop} {A : Nat → Prop} {cc : ByteArray} {nL pc : Nat} {ls : Array Slot} {rest : List Value} {own : String} {index fr lo : Nat} {w : XV → (Option Nat → GM → Prop) → Int32 → GM → Nat → Nat → Prop} {V : XV} {G : GM} {kc ks c1 s1 : Nat} {x0 : Int32} (hM : CT_J17_toString l fr lo w) (C : xC p m c s args cc nL own V A) (hW : xW V A G H) (hS : va_S A s.heap H locs) (hlink : Cond.methodLink own index yJ17_toString ∈ lw_all) (hRf : fr + 1 ≤ R.frames) (hRl : 8 + (3 + 11) + lo ≤ R.locals) (hc1 : c1 ≤ kc) (hs1 : s1 ≤ ks) (hkc : cells + kc ≤ R.cells) (hks : slots + ks ≤ R.slots) (hz : ls.size = nL) (hr8 : (rest.map fun v => v.category).sum ≤ 8) (hdg : decode cc pc = .ok (.invokestatic index, 3)) {Q1 : Option Nat → GM → Prop} (h : w V Q1 x0 G c1 s1) (kk : ∀ (r : Option Nat) (G1 : GM) (H1 : Heap) (locs1 : List Loc), Q1 r G1 → xW V A G1 H1 → va_S A s.heap H1 locs1 → xFr V G G1 H H1 → (cells + c1) + (kc - c1) ≤ R.cells → (slots + s1) + (ks - s1) ≤ R.slots → W p l e R s m args below meth c H1 locs1 (cells + c1) (slots + s1) Z (F0 m (pc + 3) ls (va_rf r :: rest))) : W p l e R s m args below meth c H locs cells slots Z (F0 m pc ls (.int x0 :: rest)) := by
  exact rg_q3w (va_runS (As := [.int x0]) (rest := rest) C.1 (hM V H.size G Q1 x0 c1 s1) (va_cwS 1 C.1.2.2.2.2 (lw_S hlink q1762 q81 q1763) rfl rfl rfl (by decide +kernel) ⟨hRf, hRl⟩) ⟨fun a U g mk q => by obtain ⟨q0, q1, qW, qK, qZ, qw⟩ := q; exact ⟨q0, q1, qW, xK.same (u := U) (U := U.calling g mk a) rfl qK, xZ.moved (u := U) (U := U.calling g mk a) (Vm.Alike.refl U.vm) qZ, qw⟩, fun U hU hWm => ⟨rfl, by rw [hU], by rw [hU]; exact hW.self _, C.2.1.warm hWm, xZ.call C.2.2.1 hW hS C.2.2.2 hU hWm.alike, h⟩⟩ rfl rfl hz rfl (lv_room hr8) hdg ⟨by omega, by omega⟩) hW hS C.2.2.2 (fun r G1 H1 locs1 hp hW1 hS1 hF1 => kk r G1 H1 locs1 hp hW1 hS1 hF1 (by omega) (by omega))
def w_J17_toString (V : XV) (Q : Option Nat → GM → Prop) (x0 : Int32) (G : GM) (kc : Nat) (ks : Nat) : Prop := w_J17_stringSize (fun r1 => ∃ v2, xst V "java/lang/String" "COMPACT_STRINGS" = .int v2 ∧ (if v2 = 0 then (gNa G 2 (fun N => (N, .inl (fun _ => 0))) (r1 * (2 : Int32)) kc ks (fun q3 n4 G5 => False)) else (gNa G 2 (fun N => (N, .inl (fun _ => 0))) r1 kc ks (fun q6 n7 G8 => w_J17_getChars V (fun r9 G10 => gNw G10 17 4 xdf_J5 (kc - 1) (ks - n7) (fun q11 G12 => w_J5_init_3 V (fun G13 => Q (some q11) G13) q11 (some q6) (0 : Int32) G12)) x0 r1 (some q6) G8)))) x0
set_option maxRecDepth 100000 in
set_option maxHeartbeats 4000000 in
theorem wk_J17_toString {p : Program} {l : Launch} {e : Env} {R : Room} {s : State} {m : MethodId} {args : Array Value} {below : List Frame} {meth : Method} {c : Code} {Z : State → Prop} {A : Nat → Prop} {V : XV} (Q : Option Nat → GM → Prop) (C : xC p m c s args cJ17_toString 3 RJ17 V A) (hRf : 2 ≤ R.frames) (hRl : 46 ≤ R.locals) (G : GM) (hret : ∀ (v : Option Nat) (G : GM) (pc : Nat) (ls : Array Slot) (H : Heap) (locs : List Loc) (cells slots : Nat) {k1 k2 : Nat}, decode cJ17_toString pc = .ok (.areturn, 1) → xW V A G H → va_S A s.heap H locs → cells + k1 ≤ R.cells → slots + k2 ≤ R.slots → Q v G → W p l e R s m args below meth c H locs cells slots Z (F0 m pc ls [va_rf v])) (x0 : Int32) (kc ks : Nat) : w_J17_toString V Q x0 G kc ks → ∀ (ls : Array Slot) (H : Heap) (locs : List Loc) (cells slots : Nat), lv_has ls 3 [(0, .int x0)] → xW V A G H → va_S A s.heap H locs → cells + kc ≤ R.cells → slots + ks ≤ R.slots → W p l e R s m args below meth c H locs cells slots Z (F0 m 0 ls []) := by
  have hx := C.1.1; have hb := C.1.2.1; have hml := C.1.2.2.1; have hown := C.1.2.2.2.1; have hts := C.1.2.2.2.2
  intro h
  intro ls H locs cells slots hl hW hS hkc hks
  refine lv_iload_n hx hb dJ17_toString_0 rfl (lv_at hl 0 rfl) ?_
  refine call_J17_stringSize (ct_J17_stringSize l) C.1 hS C.2.2.2 q1764 (le_lit hRf rfl) (le_lit hRl rfl) ⟨Nat.le_trans (Nat.le_add_right _ _) hkc, Nat.le_trans (Nat.le_add_right _ _) hks⟩ hl.1 (Nat.le_of_ble_eq_true rfl) dJ17_toString_1 h (fun r1 H locs h hk hS => ?_)
  have hW := hW.kept hk
  refine lv_istore_n (lv' := [(1, .int r1), (0, .int x0)]) hx hb dJ17_toString_4 rfl hl (by decide) rfl (fun ls hl => ?_)
  refine sh_getsI C hS q150 q1765 (fun _ h => h) h dJ17_toString_5 (fun v2 h => ?_)
  refine lv_if_eq (tgt := 32) hx hb dJ17_toString_8 (by decide) (fun c14 => ?_) (fun c14 => ?_)
  · have h := wif_t h c14
    refine lv_iload_n hx hb dJ17_toString_32 rfl (lv_at hl 0 rfl) ?_
    refine lv_iconst (v := 2) hx hb dJ17_toString_33 (by decide) ?_
    refine lv_imul hx hb dJ17_toString_34 ?_
    refine sh_newa C hW hS (atype := .byte) (t := 2) rfl (by decide) q172 (fun _ _ => rfl) (by decide) h hkc hks dJ17_toString_35 (fun q3 n4 G5 H hW hS h hN hkc hks => ?_)
    refine sh_astore_n (lv' := [(2, va_rf (some q3)), (1, .int r1), (0, .int x0)]) hx hb dJ17_toString_37 rfl hl (by decide) rfl (fun ls hl => ?_)
    refine lv_iload_n hx hb dJ17_toString_38 rfl (lv_at hl 2 rfl) ?_
    refine lv_iload_n hx hb dJ17_toString_39 rfl (lv_at hl 1 rfl) ?_
    refine sh_aload_n hx hb dJ17_toString_40 rfl (lv_at hl 0 rfl) ?_
    exact False.elim h
  · have h := wif_f h c14
    refine lv_iload_n hx hb dJ17_toString_11 rfl (lv_at hl 0 rfl) ?_
    refine sh_newa C hW hS (atype := .byte) (t := 2) rfl (by decide) q172 (fun _ _ => rfl) (by decide) h hkc hks dJ17_toString_12 (fun q6 n7 G8 H hW hS h hN hkc hks => ?_)
    refine sh_astore_n (lv' := [(2, va_rf (some q6)), (1, .int r1), (0, .int x0)]) hx hb dJ17_toString_14 rfl hl (by decide) rfl (fun ls hl => ?_)
    refine lv_iload_n hx hb dJ17_toString_15 rfl (lv_at hl 2 rfl) ?_
    refine lv_iload_n hx hb dJ17_toString_16 rfl (lv_at hl 1 rfl) ?_
    refine sh_aload_n hx hb dJ17_toString_17 rfl (lv_at hl 0 rfl) ?_
    refine call_J17_getChars_S (ct_J17_getChars l) C hW hS q1766 (le_lit hRf rfl) (le_lit hRl rfl) ⟨Nat.le_trans (Nat.le_add_right _ _) hkc, Nat.le_trans (Nat.le_add_right _ _) hks⟩ hl.1 (Nat.le_of_ble_eq_true rfl) dJ17_toString_18 h (fun r9 G10 H locs h hW hS _ => ?_)
    refine lv_pop hx hb dJ17_toString_21 rfl ?_
    refine sh_new C hW hS (ci := 17) rfl (by decide) q1767 q408 q65 tyJ5_ok xdf_J5_ok h hkc hks dJ17_toString_22 (fun q11 G12 H hW hS h hkc hks => ?_)
    refine lv_dup hx hb dJ17_toString_25 (va_rf_cat _) ?_
    refine sh_aload_n hx hb dJ17_toString_26 rfl (lv_at hl 0 rfl) ?_
    refine lv_iconst (v := 0) hx hb dJ17_toString_27 (by decide) ?_
    refine call_J5_init_3_I (ct_J5_init_3 l) C hW hS q1768 rfl (le_lit hRf rfl) (le_lit hRl rfl) ⟨Nat.le_trans (Nat.le_add_right _ _) hkc, Nat.le_trans (Nat.le_add_right _ _) hks⟩ hl.1 (Nat.le_of_ble_eq_true rfl) dJ17_toString_28 h (fun G13 H locs h hW hS _ => ?_)
    exact hret _ _ _ _ _ _ _ _ dJ17_toString_31 hW hS hkc hks h
theorem ct_J17_toString (l : Launch) : CT_J17_toString l 2 46 w_J17_toString := by
  intro V sz G Q x0 kc ks
  refine Met.ofW (cc := cJ17_toString) (maxL := 3) (ret := (some (.object "java/lang/String"))) (by decide) rfl ?_
  intro p e s m args below meth c s₁ B hml hv
  obtain ⟨rfl, hsz, hW, hK, hZ, h⟩ := hv
  subst hsz
  have hts := atoms_spec (ws := (ws_ yJ17_toString cJ17_toString 3 (some (.object "java/lang/String")))) B.pre
  have hts : ∀ w ∈ lw_all, w.before _ s = true := fun w h => hts w (List.mem_cons_of_mem _ h)
  have hl := lv_entry ([.int x0]) (n := 3) (Nat.le_of_ble_eq_true rfl)
  rw [lg_entry_eq]
  generalize (lg_sl ([.int x0]) ++ List.replicate (3 - (lg_sl ([.int x0])).length) Slot.unset).toArray = ls at hl ⊢
  exact wk_J17_toString Q ⟨⟨B.exec, B.bytes, hml, findClass_of_methodNamed B.named, hts⟩, hK, hZ, fun q h => Or.inr h⟩ (Nat.le_refl _) (Nat.le_refl _) G (fun v G pc ls H locs cells slots _ _ hd hW1 hS hkc hks hQ => W.widen (k := kc) (n := ks) (Nat.le_trans (Nat.le_add_right _ _) hkc) (Nat.le_trans (Nat.le_add_right _ _) hks) (W.aret (v := va_rf v) B.exec B.bytes B.returns (Or.inl ⟨_, rfl⟩) (va_rf_or v) (fun t ht _ => ⟨⟨v, G, rfl, hQ, by rw [← ht] at hW1; exact hW1⟩, hS.F ht⟩) hS.2.2 hd)) x0 kc ks h ls _ [] 0 0 hl hW va_S.rf (by show 0 + kc ≤ kc; omega) (by show 0 + ks ≤ ks; omega)
def CT_J2_init (l : Launch) (fr lo : Nat) (w : XV → (GM → Prop) → Nat → GM → Prop) : Prop := ∀ (V : XV) (sz : Nat) (G : GM) (Q : GM → Prop) (x0 : Nat), Met l yJ2_init (ws_ yJ2_init cJ2_init 1 none) { frames := fr, cells := 0, slots := 0, locals := lo } (va_Pc [.ref x0] (fun U => U.heap.size = sz ∧ xW V (xA G sz) G U.heap ∧ xK V U ∧ xZ V (xA G sz) U U.heap ∧ w V Q x0 G)) (va_Qv (fun (u : GM) => Q u) (fun u t => xW V (xA G sz) u t.heap) (xA G sz)) 0 0 (xA G sz)
theorem call_J2_init_I {p : Program} {l : Launch} {e : Env} {R : Room} {s : State} {m : MethodId} {args : Array Value} {below : List Frame} {meth : Method} {c : Code} {H : Heap} {locs : List Loc} {cells slots : Nat} {Z : State → Prop} {A : Nat → Prop} {cc : ByteArray} {nL pc : Nat} {ls : Array Slot} {rest : List Value} {own : String} {index fr lo : Nat} {w : XV → (GM → Prop) → Nat → GM → Prop} {V : XV} {G : GM} {o : Option Nat} {x0 : Nat} (hM : CT_J2_init l fr lo w) (C : xC p m c s args cc nL own V A) (hW : xW V A G H) (hS : va_S A s.heap H locs) (hlink : Cond.methodLink own index yJ2_init ∈ lw_all) (ho : o = some x0) (hRf : fr + 1 ≤ R.frames) (hRl : 8 + (1 + 11) + lo ≤ R.locals) (hcs : cells ≤ R.cells ∧ slots ≤ R.slots) (hz : ls.size = nL) (hr8 : (rest.map fun v => v.category).sum ≤ 8) (hdg : decode cc pc = .ok (.invokespecial index, 3)) {Q1 : GM → Prop} (h : w V Q1 x0 G) (kk : ∀ (G1 : GM) (H1 : Heap) (locs1 : List Loc), Q1 G1 → xW V A G1 H1 → va_S A s.heap H1 locs1 → xFr V G G1 H H1 → W p l e R s m args below meth c H1 locs1 cells slots Z (F0 m (pc + 3) ls (rest))) : W p l e R s m args below meth c H locs cells slots Z (F0 m pc ls (va_rf o :: rest)) := by
  subst ho
  exact rg_v3w (va_runI (As := []) (rest := rest) C.1 (hM V H.size G Q1 x0) (cwI 0 C.1.2.2.2.2 (lw_meth q116) rfl rfl rfl (C.1.2.2.2.2 _ q62) (C.1.2.2.2.2 _ hlink) (C.1.2.2.2.2 _ q115) rfl (by decide +kernel) ⟨hRf, hRl⟩) ⟨fun a U g mk q => by obtain ⟨q0, q1, qW, qK, qZ, qw⟩ := q; exact ⟨q0, q1, qW, xK.same (u := U) (U := U.calling g mk a) rfl qK, xZ.moved (u := U) (U := U.calling g mk a) (Vm.Alike.refl U.vm) qZ, qw⟩, fun U hU hWm => ⟨rfl, by rw [hU], by rw [hU]; exact hW.self _, C.2.1.warm hWm, xZ.call C.2.2.1 hW hS C.2.2.2 hU hWm.alike, h⟩⟩ rfl rfl hz rfl (lv_room hr8) hdg hcs) hW hS C.2.2.2 (fun G1 H1 locs1 hp hW1 hS1 hF1 => kk G1 H1 locs1 hp hW1 hS1 hF1)
def w_J2_init (V : XV) (Q : GM → Prop) (x0 : Nat) (G : GM) : Prop := w_J1_init V (fun G1 => ∃ v2, xst V "java/util/ArrayList" "DEFAULTCAPACITY_EMPTY_ELEMENTDATA" = va_rf v2 ∧ (gPF G1 41 (some x0) (va_rf v2) (fun G3 => Q G3))) x0 G
set_option maxRecDepth 100000 in
set_option maxHeartbeats 4000000 in
theorem wk_J2_init {p : Program} {l : Launch} {e : Env} {R : Room} {s : State} {m : MethodId} {args : Array Value} {below : List Frame} {meth : Method} {c : Code} {cells slots : Nat} {Z : State → Prop} {A : Nat → Prop} {V : XV} (Q : GM → Prop) (C : xC p m c s args cJ2_init 1 RJ2 V A) (hin : meth.name = "<init>") (hRf : 3 ≤ R.frames) (hRl : 60 ≤ R.locals) (hcs : cells ≤ R.cells ∧ slots ≤ R.slots) (G : GM) (hret : ∀ (G : GM) (pc : Nat) (ls : Array Slot) (H : Heap) (locs : List Loc), decode cJ2_init pc = .ok (.return_, 1) → xW V A G H → va_S A s.heap H locs → Q G → W p l e R s m args below meth c H locs cells slots Z (F0 m pc ls [])) (x0 : Nat) : w_J2_init V Q x0 G → ∀ (ls : Array Slot) (H : Heap) (locs : List Loc), lv_has ls 1 [(0, va_rf (some x0))] → xW V A G H → va_S A s.heap H locs → W p l e R s m args below meth c H locs cells slots Z (F0 m 0 ls []) := by
  have hx := C.1.1; have hb := C.1.2.1; have hml := C.1.2.2.1; have hown := C.1.2.2.2.1; have hts := C.1.2.2.2.2
  intro h
  intro ls H locs hl hW hS
  refine sh_aload_n hx hb dJ2_init_0 rfl (lv_at hl 0 rfl) ?_
  refine call_J1_init_I (ct_J1_init l) C hW hS q117 rfl (le_lit hRf rfl) (le_lit hRl rfl) hcs hl.1 (Nat.le_of_ble_eq_true rfl) dJ2_init_1 h (fun G1 H locs h hW hS _ => ?_)
  refine sh_aload_n hx hb dJ2_init_4 rfl (lv_at hl 0 rfl) ?_
  refine sh_getsR C hS q125 q124 (fun _ h => h) h dJ2_init_5 (fun v2 h => ?_)
  refine sh_put C hW hS xFb_41 q126 (fun _ h => h) xFd_41 (rf_nar_a _ _) (rf_fit_a _ _) h dJ2_init_8 (fun G3 H locs hW hS h => ?_)
  exact hret _ _ _ _ _ dJ2_init_11 hW hS h
theorem ct_J2_init (l : Launch) : CT_J2_init l 3 60 w_J2_init := by
  intro V sz G Q x0
  refine Met.ofW (cc := cJ2_init) (maxL := 1) (ret := none) (by decide) rfl ?_
  intro p e s m args below meth c s₁ B hml hv
  obtain ⟨rfl, hsz, hW, hK, hZ, h⟩ := hv
  subst hsz
  have hts := atoms_spec (ws := (ws_ yJ2_init cJ2_init 1 none)) B.pre
  have hts : ∀ w ∈ lw_all, w.before _ s = true := fun w h => hts w (List.mem_cons_of_mem _ h)
  have hl := lv_entry ([.ref x0]) (n := 1) (Nat.le_of_ble_eq_true rfl)
  rw [lg_entry_eq]
  generalize (lg_sl ([.ref x0]) ++ List.replicate (1 - (lg_sl ([.ref x0])).length) Slot.unset).toArray = ls at hl ⊢
  exact wk_J2_init Q ⟨⟨B.exec, B.bytes, hml, findClass_of_methodNamed B.named, hts⟩, hK, hZ, fun q h => Or.inr h⟩ (name_of_methodNamed B.named B.method).1 (Nat.le_refl _) (Nat.le_refl _) ⟨Nat.le_refl _, Nat.le_refl _⟩ G (fun G pc ls H locs hd hW1 hS hQ => W.vret B.exec B.bytes B.returns (fun t ht _ => ⟨⟨G, rfl, hQ, by rw [← ht] at hW1; exact hW1⟩, hS.F ht⟩) hS.2.2 hd) x0 h ls _ [] hl hW va_S.rf
def CT_J2_size (l : Launch) (fr lo : Nat) (w : XV → (Int32 → Prop) → Nat → GM → Prop) : Prop := ∀ (V : XV) (sz : Nat) (G : GM) (Q : Int32 → Prop) (x0 : Nat), Met l yJ2_size (ws_ yJ2_size cJ2_size 1 (some .int)) { frames := fr, cells := 0, slots := 0, locals := lo } (va_Pc [.ref x0] (fun U => U.heap.size = sz ∧ xW V (xA G sz) G U.heap ∧ xK V U ∧ xZ V (xA G sz) U U.heap ∧ w V Q x0 G)) (va_Qi (fun r (u : GM) => u = G ∧ Q r) (fun u t => xW V (xA G sz) u t.heap) (xA G sz)) 0 0 (xA G sz)
theorem call_J2_size_F15_List {p : Program} {l : Launch} {e : Env} {R : Room} {s : State} {m : MethodId} {args : Array Value} {below : List Frame} {meth : Method} {c : Code} {H : Heap} {locs : List Loc} {cells slots : Nat} {Z : State → Prop} {A : Nat → Prop} {cc : ByteArray} {nL pc : Nat} {ls : Array Slot} {rest : List Value} {own : String} {index fr lo : Nat} {w : XV → (Int32 → Prop) → Nat → GM → Prop} {V : XV} {G : GM} {count : Nat} {o : Option Nat} {ci : Nat} {x0 : Nat} (hM : CT_J2_size l fr lo w) (C : xC p m c s args cc nL own V A) (hW : xW V A G H) (hS : va_S A s.heap H locs) (hlink : Cond.methodLink own index ⟨"java/util/List", "size", "()I"⟩ ∈ lw_all) (ho : o = some x0) (hcv : gCi G (some x0) = some ci) (hci : ci % 64 = 15) (hRf : fr + 1 ≤ R.frames) (hRl : 8 + (1 + 11) + lo ≤ R.locals) (hcs : cells ≤ R.cells ∧ slots ≤ R.slots) (hz : ls.size = nL) (hr8 : (rest.map fun v => v.category).sum ≤ 8) (hdg : decode cc pc = .ok (.invokeinterface index count, 5)) {Q1 : Int32 → Prop} (h : w V Q1 x0 G) (kk : ∀ (r : Int32) (H1 : Heap) (locs1 : List Loc), Q1 r → xW V A G H1 → va_S A s.heap H1 locs1 → xFr V G G H H1 → W p l e R s m args below meth c H1 locs1 cells slots Z (F0 m (pc + 5) ls (.int r :: rest))) : W p l e R s m args below meth c H locs cells slots Z (F0 m pc ls (va_rf o :: rest)) := by
  subst ho
  obtain ⟨fs, hG⟩ := gCi_of hcv
  exact rg_i5r (va_runF (As := []) (rest := rest) (C.2.1.1 15 _ rfl).2 C.1 (hM V H.size G Q1 x0) (va_cwF (C := "java/util/ArrayList") 0 C.1.2.2.2.2 (lw_F hlink q229 q231 q62 q233) rfl rfl rfl (C.2.1.2.2.2.1 "java/util/ArrayList" ⟨"java/util/List", "size", "()I"⟩ yJ2_size ⟨by decide, q227, q226, q232, q230, q228⟩) (by decide +kernel) ⟨hRf, hRl⟩) ⟨fun a U g mk q => by obtain ⟨q0, q1, qW, qK, qZ, qw⟩ := q; exact ⟨q0, q1, qW, xK.same (u := U) (U := U.calling g mk a) rfl qK, xZ.moved (u := U) (U := U.calling g mk a) (Vm.Alike.refl U.vm) qZ, qw⟩, (hW.recv C.2.1 hG (r := (RJ2, TJ2, 3)) (by rw [hci]; rfl)), fun U hU hWm => ⟨rfl, by rw [hU], by rw [hU]; exact hW.self _, C.2.1.warm hWm, xZ.call C.2.2.1 hW hS C.2.2.2 hU hWm.alike, h⟩⟩ rfl rfl hz rfl (lv_room hr8) hdg hcs) hW hS C.2.2.2 (fun r H1 locs1 hp hW1 hS1 hF1 => kk r H1 locs1 hp hW1 hS1 hF1)
def w_J2_size (V : XV) (Q : Int32 → Prop) (x0 : Nat) (G : GM) : Prop := gGI G 42 (some x0) (fun v1 => Q v1)
set_option maxRecDepth 100000 in
set_option maxHeartbeats 4000000 in
theorem wk_J2_size {p : Program} {l : Launch} {e : Env} {R : Room} {s : State} {m : MethodId} {args : Array Value} {below : List Frame} {meth : Method} {c : Code} {cells slots : Nat} {Z : State → Prop} {A : Nat → Prop} {V : XV} (Q : Int32 → Prop) (C : xC p m c s args cJ2_size 1 RJ2 V A) (hRf : 1 ≤ R.frames) (hRl : 20 ≤ R.locals) (hcs : cells ≤ R.cells ∧ slots ≤ R.slots) (G : GM) (hret : ∀ (v : Int32) (pc : Nat) (ls : Array Slot) (H : Heap) (locs : List Loc), decode cJ2_size pc = .ok (.ireturn, 1) → xW V A G H → va_S A s.heap H locs → Q v → W p l e R s m args below meth c H locs cells slots Z (F0 m pc ls [.int v])) (x0 : Nat) : w_J2_size V Q x0 G → ∀ (ls : Array Slot) (H : Heap) (locs : List Loc), lv_has ls 1 [(0, va_rf (some x0))] → xW V A G H → va_S A s.heap H locs → W p l e R s m args below meth c H locs cells slots Z (F0 m 0 ls []) := by
  have hx := C.1.1; have hb := C.1.2.1; have hml := C.1.2.2.1; have hown := C.1.2.2.2.1; have hts := C.1.2.2.2.2
  intro h
  intro ls H locs hl hW hS
  refine sh_aload_n hx hb dJ2_size_0 rfl (lv_at hl 0 rfl) ?_
  obtain ⟨v1, h1, h⟩ := h
  refine sh_get C hW xFb_42 q127 (fun _ h => h) h1 dJ2_size_1 ?_
  exact hret _ _ _ _ _ dJ2_size_4 hW hS h
theorem ct_J2_size (l : Launch) : CT_J2_size l 1 20 w_J2_size := by
  intro V sz G Q x0
  refine Met.ofW (cc := cJ2_size) (maxL := 1) (ret := (some .int)) (by decide) rfl ?_
  intro p e s m args below meth c s₁ B hml hv
  obtain ⟨rfl, hsz, hW, hK, hZ, h⟩ := hv
  subst hsz
  have hts := atoms_spec (ws := (ws_ yJ2_size cJ2_size 1 (some .int))) B.pre
  have hts : ∀ w ∈ lw_all, w.before _ s = true := fun w h => hts w (List.mem_cons_of_mem _ h)
  have hl := lv_entry ([.ref x0]) (n := 1) (Nat.le_of_ble_eq_true rfl)
  rw [lg_entry_eq]
  generalize (lg_sl ([.ref x0]) ++ List.replicate (1 - (lg_sl ([.ref x0])).length) Slot.unset).toArray = ls at hl ⊢
  exact wk_J2_size Q ⟨⟨B.exec, B.bytes, hml, findClass_of_methodNamed B.named, hts⟩, hK, hZ, fun q h => Or.inr h⟩ (Nat.le_refl _) (Nat.le_refl _) ⟨Nat.le_refl _, Nat.le_refl _⟩ G (fun v pc ls H locs hd hW1 hS hQ => W.iret (v := v) B.exec B.bytes B.returns (fun t ht _ => ⟨⟨v, G, rfl, ⟨rfl, hQ⟩, by rw [← ht] at hW1; exact hW1⟩, hS.F ht⟩) hS.2.2 hd) x0 h ls _ [] hl hW va_S.rf
def CT_J2_clear (l : Launch) (fr lo : Nat) (w : XV → (GM → Prop) → Nat → GM → Prop) : Prop := ∀ (V : XV) (sz : Nat) (G : GM) (Q : GM → Prop) (x0 : Nat), Met l yJ2_clear (ws_ yJ2_clear cJ2_clear 4 none) { frames := fr, cells := 0, slots := 0, locals := lo } (va_Pc [.ref x0] (fun U => U.heap.size = sz ∧ xW V (xA G sz) G U.heap ∧ xK V U ∧ xZ V (xA G sz) U U.heap ∧ w V Q x0 G)) (va_Qv (fun (u : GM) => Q u) (fun u t => xW V (xA G sz) u t.heap) (xA G sz)) 0 0 (xA G sz)
theorem call_J2_clear_F15_List {p : Program} {l : Launch} {e : Env} {R : Room} {s : State} {m : MethodId} {args : Array Value} {below : List Frame} {meth : Method} {c : Code} {H : Heap} {locs : List Loc} {cells slots : Nat} {Z : State → Prop} {A : Nat → Prop} {cc : ByteArray} {nL pc : Nat} {ls : Array Slot} {rest : List Value} {own : String} {index fr lo : Nat} {w : XV → (GM → Prop) → Nat → GM → Prop} {V : XV} {G : GM} {count : Nat} {o : Option Nat} {ci : Nat} {x0 : Nat} (hM : CT_J2_clear l fr lo w) (C : xC p m c s args cc nL own V A) (hW : xW V A G H) (hS : va_S A s.heap H locs) (hlink : Cond.methodLink own index ⟨"java/util/List", "clear", "()V"⟩ ∈ lw_all) (ho : o = some x0) (hcv : gCi G (some x0) = some ci) (hci : ci % 64 = 15) (hRf : fr + 1 ≤ R.frames) (hRl : 8 + (4 + 11) + lo ≤ R.locals) (hcs : cells ≤ R.cells ∧ slots ≤ R.slots) (hz : ls.size = nL) (hr8 : (rest.map fun v => v.category).sum ≤ 8) (hdg : decode cc pc = .ok (.invokeinterface index count, 5)) {Q1 : GM → Prop} (h : w V Q1 x0 G) (kk : ∀ (G1 : GM) (H1 : Heap) (locs1 : List Loc), Q1 G1 → xW V A G1 H1 → va_S A s.heap H1 locs1 → xFr V G G1 H H1 → W p l e R s m args below meth c H1 locs1 cells slots Z (F0 m (pc + 5) ls (rest))) : W p l e R s m args below meth c H locs cells slots Z (F0 m pc ls (va_rf o :: rest)) := by
  subst ho
  obtain ⟨fs, hG⟩ := gCi_of hcv
  exact rg_v5w (va_runF (As := []) (rest := rest) (C.2.1.1 15 _ rfl).2 C.1 (hM V H.size G Q1 x0) (va_cwF (C := "java/util/ArrayList") 0 C.1.2.2.2.2 (lw_F hlink q238 q240 q62 q242) rfl rfl rfl (C.2.1.2.2.2.1 "java/util/ArrayList" ⟨"java/util/List", "clear", "()V"⟩ yJ2_clear ⟨by decide, q237, q236, q241, q239, q228⟩) (by decide +kernel) ⟨hRf, hRl⟩) ⟨fun a U g mk q => by obtain ⟨q0, q1, qW, qK, qZ, qw⟩ := q; exact ⟨q0, q1, qW, xK.same (u := U) (U := U.calling g mk a) rfl qK, xZ.moved (u := U) (U := U.calling g mk a) (Vm.Alike.refl U.vm) qZ, qw⟩, (hW.recv C.2.1 hG (r := (RJ2, TJ2, 3)) (by rw [hci]; rfl)), fun U hU hWm => ⟨rfl, by rw [hU], by rw [hU]; exact hW.self _, C.2.1.warm hWm, xZ.call C.2.2.1 hW hS C.2.2.2 hU hWm.alike, h⟩⟩ rfl rfl hz rfl (lv_room hr8) hdg hcs) hW hS C.2.2.2 (fun G1 H1 locs1 hp hW1 hS1 hF1 => kk G1 H1 locs1 hp hW1 hS1 hF1)
def w_J2_clear_h27 (V : XV) (Q : GM → Prop) (x1 : Option Nat) (x2 : Int32) (rec27 : Int32 → GM → Prop) (x3 : Int32) (G : GM) : Prop := if x2 ≤ x3 then (Q G) else (gRS G x1 x3 none (fun G1 => rec27 (x3 + (1 : Int32)) G1))
def w_J2_clear_L27 (V : XV) (Q : GM → Prop) (x1 : Option Nat) (x2 : Int32) (x3 : Int32) (G : GM) : Prop := wLoop (fun (rec : (Int32 × GM) → Prop) (s : Int32 × GM) => w_J2_clear_h27 V Q x1 x2 (fun x3 G => rec (x3, G)) s.1 s.2) (x3, G)
def w_J2_clear (V : XV) (Q : GM → Prop) (x0 : Nat) (G : GM) : Prop := gGI G 40 (some x0) (fun v3 => gPF G 40 (some x0) (.int (v3 + (1 : Int32))) (fun G4 => gGR G4 41 (some x0) (fun v5 => gGI G4 42 (some x0) (fun v6 => gPF G4 42 (some x0) (.int (0 : Int32)) (fun G7 => w_J2_clear_L27 V Q v5 v6 (0 : Int32) G7)))))
set_option maxRecDepth 100000 in
set_option maxHeartbeats 4000000 in
theorem wk_J2_clear {p : Program} {l : Launch} {e : Env} {R : Room} {s : State} {m : MethodId} {args : Array Value} {below : List Frame} {meth : Method} {c : Code} {cells slots : Nat} {Z : State → Prop} {A : Nat → Prop} {V : XV} (Q : GM → Prop) (C : xC p m c s args cJ2_clear 4 RJ2 V A) (hRf : 1 ≤ R.frames) (hRl : 20 ≤ R.locals) (hcs : cells ≤ R.cells ∧ slots ≤ R.slots) (G : GM) (hret : ∀ (G : GM) (pc : Nat) (ls : Array Slot) (H : Heap) (locs : List Loc), decode cJ2_clear pc = .ok (.return_, 1) → xW V A G H → va_S A s.heap H locs → Q G → W p l e R s m args below meth c H locs cells slots Z (F0 m pc ls [])) (x0 : Nat) : w_J2_clear V Q x0 G → ∀ (ls : Array Slot) (H : Heap) (locs : List Loc), lv_has ls 4 [(0, va_rf (some x0))] → xW V A G H → va_S A s.heap H locs → W p l e R s m args below meth c H locs cells slots Z (F0 m 0 ls []) := by
  have hx := C.1.1; have hb := C.1.2.1; have hml := C.1.2.2.1; have hown := C.1.2.2.2.1; have hts := C.1.2.2.2.2
  have hL27 : ∀ (x1 : Option Nat) (x2 : Int32) (x3 : Int32) (G : GM), w_J2_clear_L27 V Q x1 x2 x3 G → ∀ (ls : Array Slot) (H : Heap) (locs : List Loc), lv_has ls 4 [(1, va_rf x1), (2, .int x2), (3, .int x3)] → xW V A G H → va_S A s.heap H locs → W p l e R s m args below meth c H locs cells slots Z (F0 m 27 ls []) := by
    intro x1 x2
    obtain ⟨GG27, hG27⟩ : ∃ GG : Int32 → GM → Prop, ∀ (x3 : Int32) (G : GM), GG x3 G ↔ (∀ (ls : Array Slot) (H : Heap) (locs : List Loc), lv_has ls 4 [(1, va_rf x1), (2, .int x2), (3, .int x3)] → xW V A G H → va_S A s.heap H locs → W p l e R s m args below meth c H locs cells slots Z (F0 m 27 ls [])) := ⟨fun x3 G => _, fun x3 G => Iff.rfl⟩
    have hB27 : ∀ (rec27 : Int32 → GM → Prop), (∀ (x3 : Int32) (G : GM), rec27 x3 G → GG27 x3 G) → ∀ (x3 : Int32) (G : GM), w_J2_clear_h27 V Q x1 x2 rec27 x3 G → GG27 x3 G := by
      intro rec27 hrec27
      intro x3 G h
      rw [hG27]
      intro ls H locs hl hW hS
      refine lv_iload_n hx hb dJ2_clear_27 rfl (lv_at hl 2 rfl) ?_
      refine lv_iload_n hx hb dJ2_clear_28 rfl (lv_at hl 1 rfl) ?_
      refine lv_icmp_ge (tgt := 42) hx hb dJ2_clear_29 (by decide) (fun c2 => ?_) (fun c2 => ?_)
      · have h := wif_t h c2
        exact hret _ _ _ _ _ dJ2_clear_42 hW hS h
      · have h := wif_f h c2
        refine sh_aload_n hx hb dJ2_clear_32 rfl (lv_at hl 0 rfl) ?_
        refine lv_iload_n hx hb dJ2_clear_33 rfl (lv_at hl 2 rfl) ?_
        refine sh_null hx hb dJ2_clear_34 ?_
        refine sh_aast C hW hS h dJ2_clear_35 (fun G1 H locs hW hS h => ?_)
        refine lv_iinc (v := x3 + (1 : Int32)) (lv' := [(3, .int (x3 + (1 : Int32))), (1, va_rf x1), (2, .int x2)]) hx hb dJ2_clear_36 hl (k := 2) rfl (congrArg (fun z => x3 + z) (by decide)) (by decide) rfl (fun ls hl => ?_)
        refine lv_goto (tgt := 27) hx hb dJ2_clear_39 (by decide) ?_
        exact (hG27 _ _).mp (hrec27 _ _ h) ls H locs (lv_sub hl [1, 2, 0] rfl) hW hS
    intro x3 G h
    exact (hG27 x3 G).mp (loop_walk (fun s => GG27 s.1 s.2) (fun rec hrec s h => hB27 (fun x3 G => rec (x3, G)) (fun x3 G h => hrec (x3, G) h) s.1 s.2 h) (x3, G) h)
  intro h
  intro ls H locs hl hW hS
  refine sh_aload_n hx hb dJ2_clear_0 rfl (lv_at hl 0 rfl) ?_
  refine lv_dup hx hb dJ2_clear_1 (va_rf_cat _) ?_
  obtain ⟨v3, h1, h⟩ := h
  refine sh_get C hW xFb_40 q129 (u_same (hts _ q130)) h1 dJ2_clear_2 ?_
  refine lv_iconst (v := 1) hx hb dJ2_clear_5 (by decide) ?_
  refine lv_iadd hx hb dJ2_clear_6 ?_
  refine sh_put C hW hS xFb_40 q129 (u_same (hts _ q130)) xFd_40 rfl rfl h dJ2_clear_7 (fun G4 H locs hW hS h => ?_)
  refine sh_aload_n hx hb dJ2_clear_10 rfl (lv_at hl 0 rfl) ?_
  obtain ⟨v5, h1, h⟩ := h
  refine sh_get C hW xFb_41 q126 (fun _ h => h) h1 dJ2_clear_11 ?_
  refine sh_astore_n (lv' := [(1, va_rf v5), (0, va_rf (some x0))]) hx hb dJ2_clear_14 rfl hl (by decide) rfl (fun ls hl => ?_)
  refine sh_aload_n hx hb dJ2_clear_15 rfl (lv_at hl 1 rfl) ?_
  obtain ⟨v6, h1, h⟩ := h
  refine sh_get C hW xFb_42 q127 (fun _ h => h) h1 dJ2_clear_16 ?_
  refine lv_istore_n (lv' := [(2, .int v6), (1, va_rf v5), (0, va_rf (some x0))]) hx hb dJ2_clear_19 rfl hl (by decide) (by simp only [List.filter_cons, List.filter_nil, va_rf_cat]; rfl) (fun ls hl => ?_)
  refine sh_aload_n hx hb dJ2_clear_20 rfl (lv_at hl 2 rfl) ?_
  refine lv_iconst (v := 0) hx hb dJ2_clear_21 (by decide) ?_
  refine lv_dup_x1 hx hb dJ2_clear_22 rfl (va_rf_cat _) ?_
  refine sh_put C hW hS xFb_42 q127 (fun _ h => h) xFd_42 rfl rfl h dJ2_clear_23 (fun G7 H locs hW hS h => ?_)
  refine lv_istore_n (lv' := [(3, .int (0 : Int32)), (2, .int v6), (1, va_rf v5), (0, va_rf (some x0))]) hx hb dJ2_clear_26 rfl hl (by decide) rfl (fun ls hl => ?_)
  exact hL27 _ _ _ _ h ls H locs (lv_sub hl [2, 1, 0] rfl) hW hS
theorem ct_J2_clear (l : Launch) : CT_J2_clear l 1 20 w_J2_clear := by
  intro V sz G Q x0
  refine Met.ofW (cc := cJ2_clear) (maxL := 4) (ret := none) (by decide) rfl ?_
  intro p e s m args below meth c s₁ B hml hv
  obtain ⟨rfl, hsz, hW, hK, hZ, h⟩ := hv
  subst hsz
  have hts := atoms_spec (ws := (ws_ yJ2_clear cJ2_clear 4 none)) B.pre
  have hts : ∀ w ∈ lw_all, w.before _ s = true := fun w h => hts w (List.mem_cons_of_mem _ h)
  have hl := lv_entry ([.ref x0]) (n := 4) (Nat.le_of_ble_eq_true rfl)
  rw [lg_entry_eq]
  generalize (lg_sl ([.ref x0]) ++ List.replicate (4 - (lg_sl ([.ref x0])).length) Slot.unset).toArray = ls at hl ⊢
  exact wk_J2_clear Q ⟨⟨B.exec, B.bytes, hml, findClass_of_methodNamed B.named, hts⟩, hK, hZ, fun q h => Or.inr h⟩ (Nat.le_refl _) (Nat.le_refl _) ⟨Nat.le_refl _, Nat.le_refl _⟩ G (fun G pc ls H locs hd hW1 hS hQ => W.vret B.exec B.bytes B.returns (fun t ht _ => ⟨⟨G, rfl, hQ, by rw [← ht] at hW1; exact hW1⟩, hS.F ht⟩) hS.2.2 hd) x0 h ls _ [] hl hW va_S.rf
def CT_J2_grow_2 (l : Launch) (fr lo : Nat) (w : XV → (Option Nat → GM → Prop) → Nat → Int32 → GM → Nat → Nat → Prop) : Prop := ∀ (V : XV) (sz : Nat) (G : GM) (Q : Option Nat → GM → Prop) (x0 : Nat) (x1 : Int32) (kc ks : Nat), Met l yJ2_grow_2 (ws_ yJ2_grow_2 cJ2_grow_2 4 (some (.array (.object "java/lang/Object")))) { frames := fr, cells := kc, slots := ks, locals := lo } (va_Pc [.ref x0, .int x1] (fun U => U.heap.size = sz ∧ xW V (xA G sz) G U.heap ∧ xK V U ∧ xZ V (xA G sz) U U.heap ∧ w V Q x0 x1 G kc ks)) (va_Qq (fun r (u : GM) => Q r u) (fun u t => xW V (xA G sz) u t.heap) (xA G sz)) kc ks (xA G sz)
theorem call_J2_grow_2_V {p : Program} {l : Launch} {e : Env} {R : Room} {s : State} {m : MethodId} {args : Array Value} {below : List Frame} {meth : Method} {c : Code} {H : Heap} {locs : List Loc} {cells slots : Nat} {Z : State → Prop} {A : Nat → Prop} {cc : ByteArray} {nL pc : Nat} {ls : Array Slot} {rest : List Value} {own : String} {index fr lo : Nat} {w : XV → (Option Nat → GM → Prop) → Nat → Int32 → GM → Nat → Nat → Prop} {V : XV} {G : GM} {o : Option Nat} {ci : Nat} {kc ks c1 s1 : Nat} {x0 : Nat} {x1 : Int32} (hM : CT_J2_grow_2 l fr lo w) (C : xC p m c s args cc nL own V A) (hW : xW V A G H) (hS : va_S A s.heap H locs) (hlink : Cond.methodLink own index yJ2_grow_2 ∈ lw_all) (ho : o = some x0) (hcv : gCi G (some x0) = some ci) (hci : ci % 64 = 15) (hRf : fr + 1 ≤ R.frames) (hRl : 8 + (4 + 11) + lo ≤ R.locals) (hc1 : c1 ≤ kc) (hs1 : s1 ≤ ks) (hkc : cells + kc ≤ R.cells) (hks : slots + ks ≤ R.slots) (hz : ls.size = nL) (hr8 : (rest.map fun v => v.category).sum ≤ 8) (hdg : decode cc pc = .ok (.invokevirtual index, 3)) {Q1 : Option Nat → GM → Prop} (h : w V Q1 x0 x1 G c1 s1) (kk : ∀ (r : Option Nat) (G1 : GM) (H1 : Heap) (locs1 : List Loc), Q1 r G1 → xW V A G1 H1 → va_S A s.heap H1 locs1 → xFr V G G1 H H1 → (cells + c1) + (kc - c1) ≤ R.cells → (slots + s1) + (ks - s1) ≤ R.slots → W p l e R s m args below meth c H1 locs1 (cells + c1) (slots + s1) Z (F0 m (pc + 3) ls (va_rf r :: rest))) : W p l e R s m args below meth c H locs cells slots Z (F0 m pc ls (.int x1 :: va_rf o :: rest)) := by
  subst ho
  obtain ⟨fs, hG⟩ := gCi_of hcv
  exact rg_q3w (va_runV (As := [.int x1]) (rest := rest) C.1 (hM V H.size G Q1 x0 x1 c1 s1) (cwV 1 C.1.2.2.2.2 (lw_V hlink q694 qs3 q62 q695) rfl rfl rfl (by decide +kernel) ⟨hRf, hRl⟩) ⟨fun a U g mk q => by obtain ⟨q0, q1, qW, qK, qZ, qw⟩ := q; exact ⟨q0, q1, qW, xK.same (u := U) (U := U.calling g mk a) rfl qK, xZ.moved (u := U) (U := U.calling g mk a) (Vm.Alike.refl U.vm) qZ, qw⟩, (hW.recv C.2.1 hG (r := (RJ2, TJ2, 3)) (by rw [hci]; rfl)), fun U hU hWm => ⟨rfl, by rw [hU], by rw [hU]; exact hW.self _, C.2.1.warm hWm, xZ.call C.2.2.1 hW hS C.2.2.2 hU hWm.alike, h⟩⟩ rfl rfl hz rfl (lv_room hr8) hdg ⟨by omega, by omega⟩) hW hS C.2.2.2 (fun r G1 H1 locs1 hp hW1 hS1 hF1 => kk r G1 H1 locs1 hp hW1 hS1 hF1 (by omega) (by omega))
def w_J2_grow_2_20 (V : XV) (Q : Option Nat → GM → Prop) (x0 : Nat) (x1 : Int32) (x2 : Int32) (G : GM) (kc : Nat) (ks : Nat) : Prop := w_J12_newLength V (fun r1 => gGR G 41 (some x0) (fun v2 => ∃ c5 s6 : Nat, c5 ≤ kc ∧ s6 ≤ ks ∧ (w_J14_copyOf_2 V (fun r3 G4 => gPF G4 41 (some x0) (va_rf r3) (fun G7 => Q r3 G7)) v2 r1 G c5 s6))) x2 (x1 - x2) (x2 >>> ((1 : Int32) &&& 31)) G
def w_J2_grow_2 (V : XV) (Q : Option Nat → GM → Prop) (x0 : Nat) (x1 : Int32) (G : GM) (kc : Nat) (ks : Nat) : Prop := gGR G 41 (some x0) (fun v8 => gLn G v8 (fun v9 => if 0 < v9 then (w_J2_grow_2_20 V Q x0 x1 v9 G kc ks) else (gGR G 41 (some x0) (fun v10 => ∃ v11, xst V "java/util/ArrayList" "DEFAULTCAPACITY_EMPTY_ELEMENTDATA" = va_rf v11 ∧ (if v10 = v11 then (w_J13_max (fun r12 => gNa G 5 (fun N => (N, .inr (.inr (.inr (.inr (fun _ => none)))))) r12 kc ks (fun q13 n14 G15 => gPF G15 41 (some x0) (va_rf (some q13)) (fun G16 => Q (some q13) G16))) (10 : Int32) x1) else (w_J2_grow_2_20 V Q x0 x1 v9 G kc ks))))))
set_option maxRecDepth 100000 in
set_option maxHeartbeats 4000000 in
theorem wk_J2_grow_2 {p : Program} {l : Launch} {e : Env} {R : Room} {s : State} {m : MethodId} {args : Array Value} {below : List Frame} {meth : Method} {c : Code} {Z : State → Prop} {A : Nat → Prop} {V : XV} (Q : Option Nat → GM → Prop) (C : xC p m c s args cJ2_grow_2 4 RJ2 V A) (hRf : 3 ≤ R.frames) (hRl : 104 ≤ R.locals) (G : GM) (hret : ∀ (v : Option Nat) (G : GM) (pc : Nat) (ls : Array Slot) (H : Heap) (locs : List Loc) (cells slots : Nat) {k1 k2 : Nat}, decode cJ2_grow_2 pc = .ok (.areturn, 1) → xW V A G H → va_S A s.heap H locs → cells + k1 ≤ R.cells → slots + k2 ≤ R.slots → Q v G → W p l e R s m args below meth c H locs cells slots Z (F0 m pc ls [va_rf v])) (x0 : Nat) (x1 : Int32) (kc ks : Nat) : w_J2_grow_2 V Q x0 x1 G kc ks → ∀ (ls : Array Slot) (H : Heap) (locs : List Loc) (cells slots : Nat), lv_has ls 4 [(0, va_rf (some x0)), (1, .int x1)] → xW V A G H → va_S A s.heap H locs → cells + kc ≤ R.cells → slots + ks ≤ R.slots → W p l e R s m args below meth c H locs cells slots Z (F0 m 0 ls []) := by
  have hx := C.1.1; have hb := C.1.2.1; have hml := C.1.2.2.1; have hown := C.1.2.2.2.1; have hts := C.1.2.2.2.2
  have hb20 : ∀ (x2 : Int32) (G : GM) (kc : Nat) (ks : Nat), w_J2_grow_2_20 V Q x0 x1 x2 G kc ks → ∀ (ls : Array Slot) (H : Heap) (locs : List Loc) (cells slots : Nat), lv_has ls 4 [(0, va_rf (some x0)), (1, .int x1), (2, .int x2)] → xW V A G H → va_S A s.heap H locs → cells + kc ≤ R.cells → slots + ks ≤ R.slots → W p l e R s m args below meth c H locs cells slots Z (F0 m 20 ls []) := by
    intro x2 G kc ks h
    intro ls H locs cells slots hl hW hS hkc hks
    refine lv_iload_n hx hb dJ2_grow_2_20 rfl (lv_at hl 2 rfl) ?_
    refine lv_iload_n hx hb dJ2_grow_2_21 rfl (lv_at hl 1 rfl) ?_
    refine lv_iload_n hx hb dJ2_grow_2_22 rfl (lv_at hl 2 rfl) ?_
    refine lv_isub hx hb dJ2_grow_2_23 ?_
    refine lv_iload_n hx hb dJ2_grow_2_24 rfl (lv_at hl 2 rfl) ?_
    refine lv_iconst (v := 1) hx hb dJ2_grow_2_25 (by decide) ?_
    refine lv_ishr hx hb dJ2_grow_2_26 ?_
    refine call_J12_newLength_S (ct_J12_newLength l) C hW hS q696 (le_lit hRf rfl) (le_lit hRl rfl) ⟨Nat.le_trans (Nat.le_add_right _ _) hkc, Nat.le_trans (Nat.le_add_right _ _) hks⟩ hl.1 (Nat.le_of_ble_eq_true rfl) dJ2_grow_2_27 h (fun r1 H locs h hW hS _ => ?_)
    refine lv_istore_n (lv' := [(3, .int r1), (0, va_rf (some x0)), (1, .int x1), (2, .int x2)]) hx hb dJ2_grow_2_30 rfl hl (by decide) rfl (fun ls hl => ?_)
    refine sh_aload_n hx hb dJ2_grow_2_31 rfl (lv_at hl 1 rfl) ?_
    refine sh_aload_n hx hb dJ2_grow_2_32 rfl (lv_at hl 1 rfl) ?_
    obtain ⟨v2, h1, h⟩ := h
    refine sh_get C hW xFb_41 q126 (fun _ h => h) h1 dJ2_grow_2_33 ?_
    refine lv_iload_n hx hb dJ2_grow_2_36 rfl (lv_at hl 0 rfl) ?_
    obtain ⟨c5, s6, hc37, hs37, h⟩ := h
    refine call_J14_copyOf_2_S (ct_J14_copyOf_2 l) C hW hS q697 (le_lit hRf rfl) (le_lit hRl rfl) hc37 hs37 hkc hks hl.1 (Nat.le_of_ble_eq_true rfl) dJ2_grow_2_37 h (fun r3 G4 H locs h hW hS _ hkc hks => ?_)
    refine lv_dup_x1 hx hb dJ2_grow_2_40 (va_rf_cat _) (va_rf_cat _) ?_
    refine sh_put C hW hS xFb_41 q126 (fun _ h => h) xFd_41 (rf_nar_a _ _) (rf_fit_a _ _) h dJ2_grow_2_41 (fun G7 H locs hW hS h => ?_)
    exact hret _ _ _ _ _ _ _ _ dJ2_grow_2_44 hW hS hkc hks h
  intro h
  intro ls H locs cells slots hl hW hS hkc hks
  refine sh_aload_n hx hb dJ2_grow_2_0 rfl (lv_at hl 0 rfl) ?_
  obtain ⟨v8, h1, h⟩ := h
  refine sh_get C hW xFb_41 q126 (fun _ h => h) h1 dJ2_grow_2_1 ?_
  refine sh_len C hW h dJ2_grow_2_4 (fun v9 h => ?_)
  refine lv_istore_n (lv' := [(2, .int v9), (0, va_rf (some x0)), (1, .int x1)]) hx hb dJ2_grow_2_5 rfl hl (by decide) rfl (fun ls hl => ?_)
  refine lv_iload_n hx hb dJ2_grow_2_6 rfl (lv_at hl 0 rfl) ?_
  refine lv_if_gt (tgt := 20) hx hb dJ2_grow_2_7 (by decide) (fun c18 => ?_) (fun c18 => ?_)
  · have h := wif_t h c18
    exact hb20 _ _ _ _ h ls H locs _ _ (lv_sub hl [1, 2, 0] rfl) hW hS hkc hks
  · have h := wif_f h c18
    refine sh_aload_n hx hb dJ2_grow_2_10 rfl (lv_at hl 1 rfl) ?_
    obtain ⟨v10, h1, h⟩ := h
    refine sh_get C hW xFb_41 q126 (fun _ h => h) h1 dJ2_grow_2_11 ?_
    refine sh_getsR C hS q125 q124 (fun _ h => h) h dJ2_grow_2_14 (fun v11 h => ?_)
    refine lv_acmp_eq (tgt := 45) hx hb dJ2_grow_2_17 (by decide) (fun c17 => ?_) (fun c17 => ?_)
    · have h := wif_t h c17
      refine sh_aload_n hx hb dJ2_grow_2_45 rfl (lv_at hl 1 rfl) ?_
      refine lv_bipush (v := 10) hx hb dJ2_grow_2_46 (by decide) ?_
      refine lv_iload_n hx hb dJ2_grow_2_48 rfl (lv_at hl 2 rfl) ?_
      refine call_J13_max (ct_J13_max l) C.1 hS C.2.2.2 q735 (le_lit hRf rfl) (le_lit hRl rfl) ⟨Nat.le_trans (Nat.le_add_right _ _) hkc, Nat.le_trans (Nat.le_add_right _ _) hks⟩ hl.1 (Nat.le_of_ble_eq_true rfl) dJ2_grow_2_49 h (fun r12 H locs h hk hS => ?_)
      have hW := hW.kept hk
      refine sh_newq C hW hS (t := 5) rfl (by decide) q736 q733 h hkc hks dJ2_grow_2_52 (fun q13 n14 G15 H hW hS h hN hkc hks => ?_)
      refine lv_dup_x1 hx hb dJ2_grow_2_55 (va_rf_cat _) (va_rf_cat _) ?_
      refine sh_put C hW hS xFb_41 q126 (fun _ h => h) xFd_41 (rf_nar_a _ _) (rf_fit_a _ _) h dJ2_grow_2_56 (fun G16 H locs hW hS h => ?_)
      exact hret _ _ _ _ _ _ _ _ dJ2_grow_2_59 hW hS hkc hks h
    · have h := wif_f h c17
      exact hb20 _ _ _ _ h ls H locs _ _ (lv_sub hl [1, 2, 0] rfl) hW hS hkc hks
theorem ct_J2_grow_2 (l : Launch) : CT_J2_grow_2 l 3 104 w_J2_grow_2 := by
  intro V sz G Q x0 x1 kc ks
  refine Met.ofW (cc := cJ2_grow_2) (maxL := 4) (ret := (some (.array (.object "java/lang/Object")))) (by decide) rfl ?_
  intro p e s m args below meth c s₁ B hml hv
  obtain ⟨rfl, hsz, hW, hK, hZ, h⟩ := hv
  subst hsz
  have hts := atoms_spec (ws := (ws_ yJ2_grow_2 cJ2_grow_2 4 (some (.array (.object "java/lang/Object"))))) B.pre
  have hts : ∀ w ∈ lw_all, w.before _ s = true := fun w h => hts w (List.mem_cons_of_mem _ h)
  have hl := lv_entry ([.ref x0, .int x1]) (n := 4) (Nat.le_of_ble_eq_true rfl)
  rw [lg_entry_eq]
  generalize (lg_sl ([.ref x0, .int x1]) ++ List.replicate (4 - (lg_sl ([.ref x0, .int x1])).length) Slot.unset).toArray = ls at hl ⊢
  exact wk_J2_grow_2 Q ⟨⟨B.exec, B.bytes, hml, findClass_of_methodNamed B.named, hts⟩, hK, hZ, fun q h => Or.inr h⟩ (Nat.le_refl _) (Nat.le_refl _) G (fun v G pc ls H locs cells slots _ _ hd hW1 hS hkc hks hQ => W.widen (k := kc) (n := ks) (Nat.le_trans (Nat.le_add_right _ _) hkc) (Nat.le_trans (Nat.le_add_right _ _) hks) (W.aret (v := va_rf v) B.exec B.bytes B.returns (Or.inr ⟨_, rfl⟩) (va_rf_or v) (fun t ht _ => ⟨⟨v, G, rfl, hQ, by rw [← ht] at hW1; exact hW1⟩, hS.F ht⟩) hS.2.2 hd)) x0 x1 kc ks h ls _ [] 0 0 hl hW va_S.rf (by show 0 + kc ≤ kc; omega) (by show 0 + ks ≤ ks; omega)
def CT_J2_grow (l : Launch) (fr lo : Nat) (w : XV → (Option Nat → GM → Prop) → Nat → GM → Nat → Nat → Prop) : Prop := ∀ (V : XV) (sz : Nat) (G : GM) (Q : Option Nat → GM → Prop) (x0 : Nat) (kc ks : Nat), Met l yJ2_grow (ws_ yJ2_grow cJ2_grow 1 (some (.array (.object "java/lang/Object")))) { frames := fr, cells := kc, slots := ks, locals := lo } (va_Pc [.ref x0] (fun U => U.heap.size = sz ∧ xW V (xA G sz) G U.heap ∧ xK V U ∧ xZ V (xA G sz) U U.heap ∧ w V Q x0 G kc ks)) (va_Qq (fun r (u : GM) => Q r u) (fun u t => xW V (xA G sz) u t.heap) (xA G sz)) kc ks (xA G sz)
theorem call_J2_grow_V {p : Program} {l : Launch} {e : Env} {R : Room} {s : State} {m : MethodId} {args : Array Value} {below : List Frame} {meth : Method} {c : Code} {H : Heap} {locs : List Loc} {cells slots : Nat} {Z : State → Prop} {A : Nat → Prop} {cc : ByteArray} {nL pc : Nat} {ls : Array Slot} {rest : List Value} {own : String} {index fr lo : Nat} {w : XV → (Option Nat → GM → Prop) → Nat → GM → Nat → Nat → Prop} {V : XV} {G : GM} {o : Option Nat} {ci : Nat} {kc ks c1 s1 : Nat} {x0 : Nat} (hM : CT_J2_grow l fr lo w) (C : xC p m c s args cc nL own V A) (hW : xW V A G H) (hS : va_S A s.heap H locs) (hlink : Cond.methodLink own index yJ2_grow ∈ lw_all) (ho : o = some x0) (hcv : gCi G (some x0) = some ci) (hci : ci % 64 = 15) (hRf : fr + 1 ≤ R.frames) (hRl : 8 + (1 + 11) + lo ≤ R.locals) (hc1 : c1 ≤ kc) (hs1 : s1 ≤ ks) (hkc : cells + kc ≤ R.cells) (hks : slots + ks ≤ R.slots) (hz : ls.size = nL) (hr8 : (rest.map fun v => v.category).sum ≤ 8) (hdg : decode cc pc = .ok (.invokevirtual index, 3)) {Q1 : Option Nat → GM → Prop} (h : w V Q1 x0 G c1 s1) (kk : ∀ (r : Option Nat) (G1 : GM) (H1 : Heap) (locs1 : List Loc), Q1 r G1 → xW V A G1 H1 → va_S A s.heap H1 locs1 → xFr V G G1 H H1 → (cells + c1) + (kc - c1) ≤ R.cells → (slots + s1) + (ks - s1) ≤ R.slots → W p l e R s m args below meth c H1 locs1 (cells + c1) (slots + s1) Z (F0 m (pc + 3) ls (va_rf r :: rest))) : W p l e R s m args below meth c H locs cells slots Z (F0 m pc ls (va_rf o :: rest)) := by
  subst ho
  obtain ⟨fs, hG⟩ := gCi_of hcv
  exact rg_q3w (va_runV (As := []) (rest := rest) C.1 (hM V H.size G Q1 x0 c1 s1) (cwV 0 C.1.2.2.2.2 (lw_V hlink q690 qs2 q62 q691) rfl rfl rfl (by decide +kernel) ⟨hRf, hRl⟩) ⟨fun a U g mk q => by obtain ⟨q0, q1, qW, qK, qZ, qw⟩ := q; exact ⟨q0, q1, qW, xK.same (u := U) (U := U.calling g mk a) rfl qK, xZ.moved (u := U) (U := U.calling g mk a) (Vm.Alike.refl U.vm) qZ, qw⟩, (hW.recv C.2.1 hG (r := (RJ2, TJ2, 3)) (by rw [hci]; rfl)), fun U hU hWm => ⟨rfl, by rw [hU], by rw [hU]; exact hW.self _, C.2.1.warm hWm, xZ.call C.2.2.1 hW hS C.2.2.2 hU hWm.alike, h⟩⟩ rfl rfl hz rfl (lv_room hr8) hdg ⟨by omega, by omega⟩) hW hS C.2.2.2 (fun r G1 H1 locs1 hp hW1 hS1 hF1 => kk r G1 H1 locs1 hp hW1 hS1 hF1 (by omega) (by omega))
def w_J2_grow (V : XV) (Q : Option Nat → GM → Prop) (x0 : Nat) (G : GM) (kc : Nat) (ks : Nat) : Prop := gGI G 42 (some x0) (fun v1 => gRcv G (some x0) (fun a2 c3 => (c3 % 64 = 15) ∧ (∃ c6 s7 : Nat, c6 ≤ kc ∧ s7 ≤ ks ∧ (w_J2_grow_2 V (fun r4 G5 => Q r4 G5) a2 (v1 + (1 : Int32)) G c6 s7))))
set_option maxRecDepth 100000 in
set_option maxHeartbeats 4000000 in
theorem wk_J2_grow {p : Program} {l : Launch} {e : Env} {R : Room} {s : State} {m : MethodId} {args : Array Value} {below : List Frame} {meth : Method} {c : Code} {Z : State → Prop} {A : Nat → Prop} {V : XV} (Q : Option Nat → GM → Prop) (C : xC p m c s args cJ2_grow 1 RJ2 V A) (hRf : 4 ≤ R.frames) (hRl : 127 ≤ R.locals) (G : GM) (hret : ∀ (v : Option Nat) (G : GM) (pc : Nat) (ls : Array Slot) (H : Heap) (locs : List Loc) (cells slots : Nat) {k1 k2 : Nat}, decode cJ2_grow pc = .ok (.areturn, 1) → xW V A G H → va_S A s.heap H locs → cells + k1 ≤ R.cells → slots + k2 ≤ R.slots → Q v G → W p l e R s m args below meth c H locs cells slots Z (F0 m pc ls [va_rf v])) (x0 : Nat) (kc ks : Nat) : w_J2_grow V Q x0 G kc ks → ∀ (ls : Array Slot) (H : Heap) (locs : List Loc) (cells slots : Nat), lv_has ls 1 [(0, va_rf (some x0))] → xW V A G H → va_S A s.heap H locs → cells + kc ≤ R.cells → slots + ks ≤ R.slots → W p l e R s m args below meth c H locs cells slots Z (F0 m 0 ls []) := by
  have hx := C.1.1; have hb := C.1.2.1; have hml := C.1.2.2.1; have hown := C.1.2.2.2.1; have hts := C.1.2.2.2.2
  intro h
  intro ls H locs cells slots hl hW hS hkc hks
  refine sh_aload_n hx hb dJ2_grow_0 rfl (lv_at hl 0 rfl) ?_
  refine sh_aload_n hx hb dJ2_grow_1 rfl (lv_at hl 0 rfl) ?_
  obtain ⟨v1, h1, h⟩ := h
  refine sh_get C hW xFb_42 q127 (fun _ h => h) h1 dJ2_grow_2 ?_
  refine lv_iconst (v := 1) hx hb dJ2_grow_5 (by decide) ?_
  refine lv_iadd hx hb dJ2_grow_6 ?_
  obtain ⟨a2, c3, ho7, hcv7, h⟩ := h
  have hcc := h.1
  have h := h.2
  obtain ⟨c6, s7, hc7, hs7, h⟩ := h
  refine call_J2_grow_2_V (ct_J2_grow_2 l) C hW hS q692 ho7 hcv7 hcc (le_lit hRf rfl) (le_lit hRl rfl) hc7 hs7 hkc hks hl.1 (Nat.le_of_ble_eq_true rfl) dJ2_grow_7 h (fun r4 G5 H locs h hW hS _ hkc hks => ?_)
  exact hret _ _ _ _ _ _ _ _ dJ2_grow_10 hW hS hkc hks h
theorem ct_J2_grow (l : Launch) : CT_J2_grow l 4 127 w_J2_grow := by
  intro V sz G Q x0 kc ks
  refine Met.ofW (cc := cJ2_grow) (maxL := 1) (ret := (some (.array (.object "java/lang/Object")))) (by decide) rfl ?_
  intro p e s m args below meth c s₁ B hml hv
  obtain ⟨rfl, hsz, hW, hK, hZ, h⟩ := hv
  subst hsz
  have hts := atoms_spec (ws := (ws_ yJ2_grow cJ2_grow 1 (some (.array (.object "java/lang/Object"))))) B.pre
  have hts : ∀ w ∈ lw_all, w.before _ s = true := fun w h => hts w (List.mem_cons_of_mem _ h)
  have hl := lv_entry ([.ref x0]) (n := 1) (Nat.le_of_ble_eq_true rfl)
  rw [lg_entry_eq]
  generalize (lg_sl ([.ref x0]) ++ List.replicate (1 - (lg_sl ([.ref x0])).length) Slot.unset).toArray = ls at hl ⊢
  exact wk_J2_grow Q ⟨⟨B.exec, B.bytes, hml, findClass_of_methodNamed B.named, hts⟩, hK, hZ, fun q h => Or.inr h⟩ (Nat.le_refl _) (Nat.le_refl _) G (fun v G pc ls H locs cells slots _ _ hd hW1 hS hkc hks hQ => W.widen (k := kc) (n := ks) (Nat.le_trans (Nat.le_add_right _ _) hkc) (Nat.le_trans (Nat.le_add_right _ _) hks) (W.aret (v := va_rf v) B.exec B.bytes B.returns (Or.inr ⟨_, rfl⟩) (va_rf_or v) (fun t ht _ => ⟨⟨v, G, rfl, hQ, by rw [← ht] at hW1; exact hW1⟩, hS.F ht⟩) hS.2.2 hd)) x0 kc ks h ls _ [] 0 0 hl hW va_S.rf (by show 0 + kc ≤ kc; omega) (by show 0 + ks ≤ ks; omega)
def CT_J2_add_2 (l : Launch) (fr lo : Nat) (w : XV → (GM → Prop) → Nat → (Option Nat) → (Option Nat) → Int32 → GM → Nat → Nat → Prop) : Prop := ∀ (V : XV) (sz : Nat) (G : GM) (Q : GM → Prop) (x0 : Nat) (x1 : Option Nat) (x2 : Option Nat) (x3 : Int32) (kc ks : Nat), Met l yJ2_add_2 (ws_ yJ2_add_2 cJ2_add_2 4 none) { frames := fr, cells := kc, slots := ks, locals := lo } (va_Pc [.ref x0, va_rf x1, va_rf x2, .int x3] (fun U => U.heap.size = sz ∧ xW V (xA G sz) G U.heap ∧ xK V U ∧ xZ V (xA G sz) U U.heap ∧ w V Q x0 x1 x2 x3 G kc ks)) (va_Qv (fun (u : GM) => Q u) (fun u t => xW V (xA G sz) u t.heap) (xA G sz)) kc ks (xA G sz)
theorem call_J2_add_2_V {p : Program} {l : Launch} {e : Env} {R : Room} {s : State} {m : MethodId} {args : Array Value} {below : List Frame} {meth : Method} {c : Code} {H : Heap} {locs : List Loc} {cells slots : Nat} {Z : State → Prop} {A : Nat → Prop} {cc : ByteArray} {nL pc : Nat} {ls : Array Slot} {rest : List Value} {own : String} {index fr lo : Nat} {w : XV → (GM → Prop) → Nat → (Option Nat) → (Option Nat) → Int32 → GM → Nat → Nat → Prop} {V : XV} {G : GM} {o : Option Nat} {ci : Nat} {kc ks c1 s1 : Nat} {x0 : Nat} {x1 : Option Nat} {x2 : Option Nat} {x3 : Int32} (hM : CT_J2_add_2 l fr lo w) (C : xC p m c s args cc nL own V A) (hW : xW V A G H) (hS : va_S A s.heap H locs) (hlink : Cond.methodLink own index yJ2_add_2 ∈ lw_all) (ho : o = some x0) (hcv : gCi G (some x0) = some ci) (hci : ci % 64 = 15) (hRf : fr + 1 ≤ R.frames) (hRl : 8 + (4 + 11) + lo ≤ R.locals) (hc1 : c1 ≤ kc) (hs1 : s1 ≤ ks) (hkc : cells + kc ≤ R.cells) (hks : slots + ks ≤ R.slots) (hz : ls.size = nL) (hr8 : (rest.map fun v => v.category).sum ≤ 8) (hdg : decode cc pc = .ok (.invokevirtual index, 3)) {Q1 : GM → Prop} (h : w V Q1 x0 x1 x2 x3 G c1 s1) (kk : ∀ (G1 : GM) (H1 : Heap) (locs1 : List Loc), Q1 G1 → xW V A G1 H1 → va_S A s.heap H1 locs1 → xFr V G G1 H H1 → (cells + c1) + (kc - c1) ≤ R.cells → (slots + s1) + (ks - s1) ≤ R.slots → W p l e R s m args below meth c H1 locs1 (cells + c1) (slots + s1) Z (F0 m (pc + 3) ls (rest))) : W p l e R s m args below meth c H locs cells slots Z (F0 m pc ls (.int x3 :: va_rf x2 :: va_rf x1 :: va_rf o :: rest)) := by
  subst ho
  obtain ⟨fs, hG⟩ := gCi_of hcv
  exact rg_v3w (va_runV (As := [va_rf x1, va_rf x2, .int x3]) (rest := rest) C.1 (hM V H.size G Q1 x0 x1 x2 x3 c1 s1) (cwV 3 C.1.2.2.2.2 (lw_V hlink q686 qs1 q62 q687) rfl rfl rfl (by decide +kernel) ⟨hRf, hRl⟩) ⟨fun a U g mk q => by obtain ⟨q0, q1, qW, qK, qZ, qw⟩ := q; exact ⟨q0, q1, qW, xK.same (u := U) (U := U.calling g mk a) rfl qK, xZ.moved (u := U) (U := U.calling g mk a) (Vm.Alike.refl U.vm) qZ, qw⟩, (hW.recv C.2.1 hG (r := (RJ2, TJ2, 3)) (by rw [hci]; rfl)), fun U hU hWm => ⟨rfl, by rw [hU], by rw [hU]; exact hW.self _, C.2.1.warm hWm, xZ.call C.2.2.1 hW hS C.2.2.2 hU hWm.alike, h⟩⟩ rfl rfl hz rfl (lv_room hr8) hdg ⟨by omega, by omega⟩) hW hS C.2.2.2 (fun G1 H1 locs1 hp hW1 hS1 hF1 => kk G1 H1 locs1 hp hW1 hS1 hF1 (by omega) (by omega))
def w_J2_add_2_11 (V : XV) (Q : GM → Prop) (x0 : Nat) (x1 : Option Nat) (x2 : Option Nat) (x3 : Int32) (G : GM) (kc : Nat) (ks : Nat) : Prop := gRS G x2 x3 x1 (fun G1 => gPF G1 42 (some x0) (.int (x3 + (1 : Int32))) (fun G2 => Q G2))
def w_J2_add_2 (V : XV) (Q : GM → Prop) (x0 : Nat) (x1 : Option Nat) (x2 : Option Nat) (x3 : Int32) (G : GM) (kc : Nat) (ks : Nat) : Prop := gLn G x2 (fun v3 => if x3 = v3 then (gRcv G (some x0) (fun a4 c5 => (c5 % 64 = 15) ∧ (∃ c8 s9 : Nat, c8 ≤ kc ∧ s9 ≤ ks ∧ (w_J2_grow V (fun r6 G7 => w_J2_add_2_11 V Q x0 x1 r6 x3 G7 (kc - c8) (ks - s9)) a4 G c8 s9)))) else (w_J2_add_2_11 V Q x0 x1 x2 x3 G kc ks))
set_option maxRecDepth 100000 in
set_option maxHeartbeats 4000000 in
theorem wk_J2_add_2 {p : Program} {l : Launch} {e : Env} {R : Room} {s : State} {m : MethodId} {args : Array Value} {below : List Frame} {meth : Method} {c : Code} {Z : State → Prop} {A : Nat → Prop} {V : XV} (Q : GM → Prop) (C : xC p m c s args cJ2_add_2 4 RJ2 V A) (hRf : 5 ≤ R.frames) (hRl : 147 ≤ R.locals) (G : GM) (hret : ∀ (G : GM) (pc : Nat) (ls : Array Slot) (H : Heap) (locs : List Loc) (cells slots : Nat) {k1 k2 : Nat}, decode cJ2_add_2 pc = .ok (.return_, 1) → xW V A G H → va_S A s.heap H locs → cells + k1 ≤ R.cells → slots + k2 ≤ R.slots → Q G → W p l e R s m args below meth c H locs cells slots Z (F0 m pc ls [])) (x0 : Nat) (x1 : Option Nat) (x2 : Option Nat) (x3 : Int32) (kc ks : Nat) : w_J2_add_2 V Q x0 x1 x2 x3 G kc ks → ∀ (ls : Array Slot) (H : Heap) (locs : List Loc) (cells slots : Nat), lv_has ls 4 [(0, va_rf (some x0)), (1, va_rf x1), (2, va_rf x2), (3, .int x3)] → xW V A G H → va_S A s.heap H locs → cells + kc ≤ R.cells → slots + ks ≤ R.slots → W p l e R s m args below meth c H locs cells slots Z (F0 m 0 ls []) := by
  have hx := C.1.1; have hb := C.1.2.1; have hml := C.1.2.2.1; have hown := C.1.2.2.2.1; have hts := C.1.2.2.2.2
  have hb11 : ∀ (x2 : Option Nat) (G : GM) (kc : Nat) (ks : Nat), w_J2_add_2_11 V Q x0 x1 x2 x3 G kc ks → ∀ (ls : Array Slot) (H : Heap) (locs : List Loc) (cells slots : Nat), lv_has ls 4 [(0, va_rf (some x0)), (1, va_rf x1), (2, va_rf x2), (3, .int x3)] → xW V A G H → va_S A s.heap H locs → cells + kc ≤ R.cells → slots + ks ≤ R.slots → W p l e R s m args below meth c H locs cells slots Z (F0 m 11 ls []) := by
    intro x2 G kc ks h
    intro ls H locs cells slots hl hW hS hkc hks
    refine sh_aload_n hx hb dJ2_add_2_11 rfl (lv_at hl 2 rfl) ?_
    refine lv_iload_n hx hb dJ2_add_2_12 rfl (lv_at hl 3 rfl) ?_
    refine sh_aload_n hx hb dJ2_add_2_13 rfl (lv_at hl 1 rfl) ?_
    refine sh_aast C hW hS h dJ2_add_2_14 (fun G1 H locs hW hS h => ?_)
    refine sh_aload_n hx hb dJ2_add_2_15 rfl (lv_at hl 0 rfl) ?_
    refine lv_iload_n hx hb dJ2_add_2_16 rfl (lv_at hl 3 rfl) ?_
    refine lv_iconst (v := 1) hx hb dJ2_add_2_17 (by decide) ?_
    refine lv_iadd hx hb dJ2_add_2_18 ?_
    refine sh_put C hW hS xFb_42 q127 (fun _ h => h) xFd_42 rfl rfl h dJ2_add_2_19 (fun G2 H locs hW hS h => ?_)
    exact hret _ _ _ _ _ _ _ dJ2_add_2_22 hW hS hkc hks h
  intro h
  intro ls H locs cells slots hl hW hS hkc hks
  refine lv_iload_n hx hb dJ2_add_2_0 rfl (lv_at hl 3 rfl) ?_
  refine sh_aload_n hx hb dJ2_add_2_1 rfl (lv_at hl 2 rfl) ?_
  refine sh_len C hW h dJ2_add_2_2 (fun v3 h => ?_)
  refine lv_icmp_ne (tgt := 11) hx hb dJ2_add_2_3 (by decide) (fun c10 => ?_) (fun c10 => ?_)
  · have h := wif_f h c10
    exact hb11 _ _ _ _ h ls H locs _ _ (lv_sub hl [0, 1, 2, 3] rfl) hW hS hkc hks
  · have h := wif_t h c10
    refine sh_aload_n hx hb dJ2_add_2_6 rfl (lv_at hl 0 rfl) ?_
    obtain ⟨a4, c5, ho7, hcv7, h⟩ := h
    have hcc := h.1
    have h := h.2
    obtain ⟨c8, s9, hc7, hs7, h⟩ := h
    refine call_J2_grow_V (ct_J2_grow l) C hW hS q688 ho7 hcv7 hcc (le_lit hRf rfl) (le_lit hRl rfl) hc7 hs7 hkc hks hl.1 (Nat.le_of_ble_eq_true rfl) dJ2_add_2_7 h (fun r6 G7 H locs h hW hS _ hkc hks => ?_)
    refine sh_astore_n (lv' := [(2, va_rf r6), (0, va_rf (some x0)), (1, va_rf x1), (3, .int x3)]) hx hb dJ2_add_2_10 rfl hl (by decide) (by simp only [List.filter_cons, List.filter_nil, va_rf_cat]; rfl) (fun ls hl => ?_)
    exact hb11 _ _ _ _ h ls H locs _ _ (lv_sub hl [1, 2, 0, 3] rfl) hW hS hkc hks
theorem ct_J2_add_2 (l : Launch) : CT_J2_add_2 l 5 147 w_J2_add_2 := by
  intro V sz G Q x0 x1 x2 x3 kc ks
  refine Met.ofW (cc := cJ2_add_2) (maxL := 4) (ret := none) (by decide) rfl ?_
  intro p e s m args below meth c s₁ B hml hv
  obtain ⟨rfl, hsz, hW, hK, hZ, h⟩ := hv
  subst hsz
  have hts := atoms_spec (ws := (ws_ yJ2_add_2 cJ2_add_2 4 none)) B.pre
  have hts : ∀ w ∈ lw_all, w.before _ s = true := fun w h => hts w (List.mem_cons_of_mem _ h)
  have key : ∃ ls : Array Slot, entryFrame m ([.ref x0, va_rf x1, va_rf x2, .int x3] : List Value).toArray 4 = F0 m 0 ls [] ∧ lv_has ls 4 [(0, va_rf (some x0)), (1, va_rf x1), (2, va_rf x2), (3, .int x3)] := by
    cases x1 <;> cases x2 <;> (refine ⟨_, by rw [lg_entry_eq], ?_⟩; exact lv_entry _ (Nat.le_of_ble_eq_true rfl))
  obtain ⟨ls, hfr, hl⟩ := key
  rw [hfr]
  exact wk_J2_add_2 Q ⟨⟨B.exec, B.bytes, hml, findClass_of_methodNamed B.named, hts⟩, hK, hZ, fun q h => Or.inr h⟩ (Nat.le_refl _) (Nat.le_refl _) G (fun G pc ls H locs cells slots _ _ hd hW1 hS hkc hks hQ => W.widen (k := kc) (n := ks) (Nat.le_trans (Nat.le_add_right _ _) hkc) (Nat.le_trans (Nat.le_add_right _ _) hks) (W.vret B.exec B.bytes B.returns (fun t ht _ => ⟨⟨G, rfl, hQ, by rw [← ht] at hW1; exact hW1⟩, hS.F ht⟩) hS.2.2 hd)) x0 x1 x2 x3 kc ks h ls _ [] 0 0 hl hW va_S.rf (by show 0 + kc ≤ kc; omega) (by show 0 + ks ≤ ks; omega)
def CT_J2_add (l : Launch) (fr lo : Nat) (w : XV → (Int32 → GM → Prop) → Nat → (Option Nat) → GM → Nat → Nat → Prop) : Prop := ∀ (V : XV) (sz : Nat) (G : GM) (Q : Int32 → GM → Prop) (x0 : Nat) (x1 : Option Nat) (kc ks : Nat), Met l yJ2_add (ws_ yJ2_add cJ2_add 2 (some .boolean)) { frames := fr, cells := kc, slots := ks, locals := lo } (va_Pc [.ref x0, va_rf x1] (fun U => U.heap.size = sz ∧ xW V (xA G sz) G U.heap ∧ xK V U ∧ xZ V (xA G sz) U U.heap ∧ w V Q x0 x1 G kc ks)) (va_Qi (fun r (u : GM) => Q r u) (fun u t => xW V (xA G sz) u t.heap) (xA G sz)) kc ks (xA G sz)
theorem call_J2_add_F15_List {p : Program} {l : Launch} {e : Env} {R : Room} {s : State} {m : MethodId} {args : Array Value} {below : List Frame} {meth : Method} {c : Code} {H : Heap} {locs : List Loc} {cells slots : Nat} {Z : State → Prop} {A : Nat → Prop} {cc : ByteArray} {nL pc : Nat} {ls : Array Slot} {rest : List Value} {own : String} {index fr lo : Nat} {w : XV → (Int32 → GM → Prop) → Nat → (Option Nat) → GM → Nat → Nat → Prop} {V : XV} {G : GM} {count : Nat} {o : Option Nat} {ci : Nat} {kc ks c1 s1 : Nat} {x0 : Nat} {x1 : Option Nat} (hM : CT_J2_add l fr lo w) (C : xC p m c s args cc nL own V A) (hW : xW V A G H) (hS : va_S A s.heap H locs) (hlink : Cond.methodLink own index ⟨"java/util/List", "add", "(Ljava/lang/Object;)Z"⟩ ∈ lw_all) (ho : o = some x0) (hcv : gCi G (some x0) = some ci) (hci : ci % 64 = 15) (hRf : fr + 1 ≤ R.frames) (hRl : 8 + (2 + 11) + lo ≤ R.locals) (hc1 : c1 ≤ kc) (hs1 : s1 ≤ ks) (hkc : cells + kc ≤ R.cells) (hks : slots + ks ≤ R.slots) (hz : ls.size = nL) (hr8 : (rest.map fun v => v.category).sum ≤ 8) (hdg : decode cc pc = .ok (.invokeinterface index count, 5)) {Q1 : Int32 → GM → Prop} (h : w V Q1 x0 x1 G c1 s1) (kk : ∀ (r : Int32) (G1 : GM) (H1 : Heap) (locs1 : List Loc), Q1 r G1 → xW V A G1 H1 → va_S A s.heap H1 locs1 → xFr V G G1 H H1 → (cells + c1) + (kc - c1) ≤ R.cells → (slots + s1) + (ks - s1) ≤ R.slots → W p l e R s m args below meth c H1 locs1 (cells + c1) (slots + s1) Z (F0 m (pc + 5) ls (.int r :: rest))) : W p l e R s m args below meth c H locs cells slots Z (F0 m pc ls (va_rf x1 :: va_rf o :: rest)) := by
  subst ho
  obtain ⟨fs, hG⟩ := gCi_of hcv
  exact rg_i5w (va_runF (As := [va_rf x1]) (rest := rest) (C.2.1.1 15 _ rfl).2 C.1 (hM V H.size G Q1 x0 x1 c1 s1) (va_cwF (C := "java/util/ArrayList") 1 C.1.2.2.2.2 (lw_F hlink q679 q681 q62 q683) rfl rfl rfl (C.2.1.2.2.2.1 "java/util/ArrayList" ⟨"java/util/List", "add", "(Ljava/lang/Object;)Z"⟩ yJ2_add ⟨by decide, q678, q677, q682, q680, q228⟩) (by decide +kernel) ⟨hRf, hRl⟩) ⟨fun a U g mk q => by obtain ⟨q0, q1, qW, qK, qZ, qw⟩ := q; exact ⟨q0, q1, qW, xK.same (u := U) (U := U.calling g mk a) rfl qK, xZ.moved (u := U) (U := U.calling g mk a) (Vm.Alike.refl U.vm) qZ, qw⟩, (hW.recv C.2.1 hG (r := (RJ2, TJ2, 3)) (by rw [hci]; rfl)), fun U hU hWm => ⟨rfl, by rw [hU], by rw [hU]; exact hW.self _, C.2.1.warm hWm, xZ.call C.2.2.1 hW hS C.2.2.2 hU hWm.alike, h⟩⟩ rfl rfl hz rfl (lv_room hr8) hdg ⟨by omega, by omega⟩) hW hS C.2.2.2 (fun r G1 H1 locs1 hp hW1 hS1 hF1 => kk r G1 H1 locs1 hp hW1 hS1 hF1 (by omega) (by omega))
def w_J2_add (V : XV) (Q : Int32 → GM → Prop) (x0 : Nat) (x1 : Option Nat) (G : GM) (kc : Nat) (ks : Nat) : Prop := gGI G 40 (some x0) (fun v1 => gPF G 40 (some x0) (.int (v1 + (1 : Int32))) (fun G2 => gGR G2 41 (some x0) (fun v3 => gGI G2 42 (some x0) (fun v4 => gRcv G2 (some x0) (fun a5 c6 => (c6 % 64 = 15) ∧ (∃ c8 s9 : Nat, c8 ≤ kc ∧ s9 ≤ ks ∧ (w_J2_add_2 V (fun G7 => Q (1 : Int32) G7) a5 x1 v3 v4 G2 c8 s9)))))))
set_option maxRecDepth 100000 in
set_option maxHeartbeats 4000000 in
theorem wk_J2_add {p : Program} {l : Launch} {e : Env} {R : Room} {s : State} {m : MethodId} {args : Array Value} {below : List Frame} {meth : Method} {c : Code} {Z : State → Prop} {A : Nat → Prop} {V : XV} (Q : Int32 → GM → Prop) (C : xC p m c s args cJ2_add 2 RJ2 V A) (hRf : 6 ≤ R.frames) (hRl : 170 ≤ R.locals) (G : GM) (hret : ∀ (v : Int32) (G : GM) (pc : Nat) (ls : Array Slot) (H : Heap) (locs : List Loc) (cells slots : Nat) {k1 k2 : Nat}, decode cJ2_add pc = .ok (.ireturn, 1) → xW V A G H → va_S A s.heap H locs → cells + k1 ≤ R.cells → slots + k2 ≤ R.slots → isZ v → Q v G → W p l e R s m args below meth c H locs cells slots Z (F0 m pc ls [.int v])) (x0 : Nat) (x1 : Option Nat) (kc ks : Nat) : w_J2_add V Q x0 x1 G kc ks → ∀ (ls : Array Slot) (H : Heap) (locs : List Loc) (cells slots : Nat), lv_has ls 2 [(0, va_rf (some x0)), (1, va_rf x1)] → xW V A G H → va_S A s.heap H locs → cells + kc ≤ R.cells → slots + ks ≤ R.slots → W p l e R s m args below meth c H locs cells slots Z (F0 m 0 ls []) := by
  have hx := C.1.1; have hb := C.1.2.1; have hml := C.1.2.2.1; have hown := C.1.2.2.2.1; have hts := C.1.2.2.2.2
  intro h
  intro ls H locs cells slots hl hW hS hkc hks
  refine sh_aload_n hx hb dJ2_add_0 rfl (lv_at hl 0 rfl) ?_
  refine lv_dup hx hb dJ2_add_1 (va_rf_cat _) ?_
  obtain ⟨v1, h1, h⟩ := h
  refine sh_get C hW xFb_40 q129 (u_same (hts _ q130)) h1 dJ2_add_2 ?_
  refine lv_iconst (v := 1) hx hb dJ2_add_5 (by decide) ?_
  refine lv_iadd hx hb dJ2_add_6 ?_
  refine sh_put C hW hS xFb_40 q129 (u_same (hts _ q130)) xFd_40 rfl rfl h dJ2_add_7 (fun G2 H locs hW hS h => ?_)
  refine sh_aload_n hx hb dJ2_add_10 rfl (lv_at hl 0 rfl) ?_
  refine sh_aload_n hx hb dJ2_add_11 rfl (lv_at hl 1 rfl) ?_
  refine sh_aload_n hx hb dJ2_add_12 rfl (lv_at hl 0 rfl) ?_
  obtain ⟨v3, h1, h⟩ := h
  refine sh_get C hW xFb_41 q126 (fun _ h => h) h1 dJ2_add_13 ?_
  refine sh_aload_n hx hb dJ2_add_16 rfl (lv_at hl 0 rfl) ?_
  obtain ⟨v4, h1, h⟩ := h
  refine sh_get C hW xFb_42 q127 (fun _ h => h) h1 dJ2_add_17 ?_
  obtain ⟨a5, c6, ho20, hcv20, h⟩ := h
  have hcc := h.1
  have h := h.2
  obtain ⟨c8, s9, hc20, hs20, h⟩ := h
  refine call_J2_add_2_V (ct_J2_add_2 l) C hW hS q684 ho20 hcv20 hcc (le_lit hRf rfl) (le_lit hRl rfl) hc20 hs20 hkc hks hl.1 (Nat.le_of_ble_eq_true rfl) dJ2_add_20 h (fun G7 H locs h hW hS _ hkc hks => ?_)
  refine lv_iconst (v := 1) hx hb dJ2_add_23 (by decide) ?_
  exact hret _ _ _ _ _ _ _ _ dJ2_add_24 hW hS hkc hks isZ_1 h
theorem ct_J2_add (l : Launch) : CT_J2_add l 6 170 w_J2_add := by
  intro V sz G Q x0 x1 kc ks
  refine Met.ofW (cc := cJ2_add) (maxL := 2) (ret := (some .boolean)) (by decide) rfl ?_
  intro p e s m args below meth c s₁ B hml hv
  obtain ⟨rfl, hsz, hW, hK, hZ, h⟩ := hv
  subst hsz
  have hts := atoms_spec (ws := (ws_ yJ2_add cJ2_add 2 (some .boolean))) B.pre
  have hts : ∀ w ∈ lw_all, w.before _ s = true := fun w h => hts w (List.mem_cons_of_mem _ h)
  have key : ∃ ls : Array Slot, entryFrame m ([.ref x0, va_rf x1] : List Value).toArray 2 = F0 m 0 ls [] ∧ lv_has ls 2 [(0, va_rf (some x0)), (1, va_rf x1)] := by
    cases x1 <;> (refine ⟨_, by rw [lg_entry_eq], ?_⟩; exact lv_entry _ (Nat.le_of_ble_eq_true rfl))
  obtain ⟨ls, hfr, hl⟩ := key
  rw [hfr]
  exact wk_J2_add Q ⟨⟨B.exec, B.bytes, hml, findClass_of_methodNamed B.named, hts⟩, hK, hZ, fun q h => Or.inr h⟩ (Nat.le_refl _) (Nat.le_refl _) G (fun v G pc ls H locs cells slots _ _ hd hW1 hS hkc hks hz hQ => W.widen (k := kc) (n := ks) (Nat.le_trans (Nat.le_add_right _ _) hkc) (Nat.le_trans (Nat.le_add_right _ _) hks) (W.zret (v := v) B.exec B.bytes B.returns hz.nar (fun t ht _ => ⟨⟨v, G, rfl, hQ, by rw [← ht] at hW1; exact hW1⟩, hS.F ht⟩) hS.2.2 hd)) x0 x1 kc ks h ls _ [] 0 0 hl hW va_S.rf (by show 0 + kc ≤ kc; omega) (by show 0 + ks ≤ ks; omega)
def CT_J21_checkIndex (l : Launch) (fr lo : Nat) (w : XV → (Int32 → Prop) → Int32 → Int32 → GM → Prop) : Prop := ∀ (V : XV) (sz : Nat) (G : GM) (Q : Int32 → Prop) (x0 : Int32) (x1 : Int32), Met l yJ21_checkIndex (ws_ yJ21_checkIndex cJ21_checkIndex 2 (some .int)) { frames := fr, cells := 0, slots := 0, locals := lo } (va_Pc [.int x0, .int x1] (fun U => U.heap.size = sz ∧ xW V (xA G sz) G U.heap ∧ xK V U ∧ xZ V (xA G sz) U U.heap ∧ w V Q x0 x1 G)) (va_Qi (fun r (u : GM) => u = G ∧ Q r) (fun u t => xW V (xA G sz) u t.heap) (xA G sz)) 0 0 (xA G sz)
theorem call_J21_checkIndex_S {p : Program} {l : Launch} {e : Env} {R : Room} {s : State} {m : MethodId} {args : Array Value} {below : List Frame} {meth : Method} {c : Code} {H : Heap} {locs : List Loc} {cells slots : Nat} {Z : State → Prop} {A : Nat → Prop} {cc : ByteArray} {nL pc : Nat} {ls : Array Slot} {rest : List Value} {own : String} {index fr lo : Nat} {w : XV → (Int32 → Prop) → Int32 → Int32 → GM → Prop} {V : XV} {G : GM} {x0 : Int32} {x1 : Int32} (hM : CT_J21_checkIndex l fr lo w) (C : xC p m c s args cc nL own V A) (hW : xW V A G H) (hS : va_S A s.heap H locs) (hlink : Cond.methodLink own index yJ21_checkIndex ∈ lw_all) (hRf : fr + 1 ≤ R.frames) (hRl : 8 + (2 + 11) + lo ≤ R.locals) (hcs : cells ≤ R.cells ∧ slots ≤ R.slots) (hz : ls.size = nL) (hr8 : (rest.map fun v => v.category).sum ≤ 8) (hdg : decode cc pc = .ok (.invokestatic index, 3)) {Q1 : Int32 → Prop} (h : w V Q1 x0 x1 G) (kk : ∀ (r : Int32) (H1 : Heap) (locs1 : List Loc), Q1 r → xW V A G H1 → va_S A s.heap H1 locs1 → xFr V G G H H1 → W p l e R s m args below meth c H1 locs1 cells slots Z (F0 m (pc + 3) ls (.int r :: rest))) : W p l e R s m args below meth c H locs cells slots Z (F0 m pc ls (.int x1 :: .int x0 :: rest)) := by
  exact rg_i3r (va_runS (As := [.int x0, .int x1]) (rest := rest) C.1 (hM V H.size G Q1 x0 x1) (va_cwS 2 C.1.2.2.2.2 (lw_S hlink q780 q86 q781) rfl rfl rfl (by decide +kernel) ⟨hRf, hRl⟩) ⟨fun a U g mk q => by obtain ⟨q0, q1, qW, qK, qZ, qw⟩ := q; exact ⟨q0, q1, qW, xK.same (u := U) (U := U.calling g mk a) rfl qK, xZ.moved (u := U) (U := U.calling g mk a) (Vm.Alike.refl U.vm) qZ, qw⟩, fun U hU hWm => ⟨rfl, by rw [hU], by rw [hU]; exact hW.self _, C.2.1.warm hWm, xZ.call C.2.2.1 hW hS C.2.2.2 hU hWm.alike, h⟩⟩ rfl rfl hz rfl (lv_room hr8) hdg hcs) hW hS C.2.2.2 (fun r H1 locs1 hp hW1 hS1 hF1 => kk r H1 locs1 hp hW1 hS1 hF1)
def w_J21_checkIndex (V : XV) (Q : Int32 → Prop) (x0 : Int32) (x1 : Int32) (G : GM) : Prop := w_J15_checkIndex V (fun r1 => Q r1) x0 x1 none G
set_option maxRecDepth 100000 in
set_option maxHeartbeats 4000000 in
theorem wk_J21_checkIndex {p : Program} {l : Launch} {e : Env} {R : Room} {s : State} {m : MethodId} {args : Array Value} {below : List Frame} {meth : Method} {c : Code} {cells slots : Nat} {Z : State → Prop} {A : Nat → Prop} {V : XV} (Q : Int32 → Prop) (C : xC p m c s args cJ21_checkIndex 2 RJ21 V A) (hRf : 2 ≤ R.frames) (hRl : 42 ≤ R.locals) (hcs : cells ≤ R.cells ∧ slots ≤ R.slots) (G : GM) (hret : ∀ (v : Int32) (pc : Nat) (ls : Array Slot) (H : Heap) (locs : List Loc), decode cJ21_checkIndex pc = .ok (.ireturn, 1) → xW V A G H → va_S A s.heap H locs → Q v → W p l e R s m args below meth c H locs cells slots Z (F0 m pc ls [.int v])) (x0 : Int32) (x1 : Int32) : w_J21_checkIndex V Q x0 x1 G → ∀ (ls : Array Slot) (H : Heap) (locs : List Loc), lv_has ls 2 [(0, .int x0), (1, .int x1)] → xW V A G H → va_S A s.heap H locs → W p l e R s m args below meth c H locs cells slots Z (F0 m 0 ls []) := by
  have hx := C.1.1; have hb := C.1.2.1; have hml := C.1.2.2.1; have hown := C.1.2.2.2.1; have hts := C.1.2.2.2.2
  intro h
  intro ls H locs hl hW hS
  refine lv_iload_n hx hb dJ21_checkIndex_0 rfl (lv_at hl 0 rfl) ?_
  refine lv_iload_n hx hb dJ21_checkIndex_1 rfl (lv_at hl 1 rfl) ?_
  refine sh_null hx hb dJ21_checkIndex_2 ?_
  refine call_J15_checkIndex_S (ct_J15_checkIndex l) C hW hS q782 (le_lit hRf rfl) (le_lit hRl rfl) hcs hl.1 (Nat.le_of_ble_eq_true rfl) dJ21_checkIndex_3 h (fun r1 H locs h hW hS _ => ?_)
  exact hret _ _ _ _ _ dJ21_checkIndex_6 hW hS h
theorem ct_J21_checkIndex (l : Launch) : CT_J21_checkIndex l 2 42 w_J21_checkIndex := by
  intro V sz G Q x0 x1
  refine Met.ofW (cc := cJ21_checkIndex) (maxL := 2) (ret := (some .int)) (by decide) rfl ?_
  intro p e s m args below meth c s₁ B hml hv
  obtain ⟨rfl, hsz, hW, hK, hZ, h⟩ := hv
  subst hsz
  have hts := atoms_spec (ws := (ws_ yJ21_checkIndex cJ21_checkIndex 2 (some .int))) B.pre
  have hts : ∀ w ∈ lw_all, w.before _ s = true := fun w h => hts w (List.mem_cons_of_mem _ h)
  have hl := lv_entry ([.int x0, .int x1]) (n := 2) (Nat.le_of_ble_eq_true rfl)
  rw [lg_entry_eq]
  generalize (lg_sl ([.int x0, .int x1]) ++ List.replicate (2 - (lg_sl ([.int x0, .int x1])).length) Slot.unset).toArray = ls at hl ⊢
  exact wk_J21_checkIndex Q ⟨⟨B.exec, B.bytes, hml, findClass_of_methodNamed B.named, hts⟩, hK, hZ, fun q h => Or.inr h⟩ (Nat.le_refl _) (Nat.le_refl _) ⟨Nat.le_refl _, Nat.le_refl _⟩ G (fun v pc ls H locs hd hW1 hS hQ => W.iret (v := v) B.exec B.bytes B.returns (fun t ht _ => ⟨⟨v, G, rfl, ⟨rfl, hQ⟩, by rw [← ht] at hW1; exact hW1⟩, hS.F ht⟩) hS.2.2 hd) x0 x1 h ls _ [] hl hW va_S.rf
def CT_J2_elementData (l : Launch) (fr lo : Nat) (w : XV → (Option Nat → Prop) → Nat → Int32 → GM → Prop) : Prop := ∀ (V : XV) (sz : Nat) (G : GM) (Q : Option Nat → Prop) (x0 : Nat) (x1 : Int32), Met l yJ2_elementData (ws_ yJ2_elementData cJ2_elementData 2 (some (.object "java/lang/Object"))) { frames := fr, cells := 0, slots := 0, locals := lo } (va_Pc [.ref x0, .int x1] (fun U => U.heap.size = sz ∧ xW V (xA G sz) G U.heap ∧ xK V U ∧ xZ V (xA G sz) U U.heap ∧ w V Q x0 x1 G)) (va_Qq (fun r (u : GM) => u = G ∧ Q r) (fun u t => xW V (xA G sz) u t.heap) (xA G sz)) 0 0 (xA G sz)
theorem call_J2_elementData_V {p : Program} {l : Launch} {e : Env} {R : Room} {s : State} {m : MethodId} {args : Array Value} {below : List Frame} {meth : Method} {c : Code} {H : Heap} {locs : List Loc} {cells slots : Nat} {Z : State → Prop} {A : Nat → Prop} {cc : ByteArray} {nL pc : Nat} {ls : Array Slot} {rest : List Value} {own : String} {index fr lo : Nat} {w : XV → (Option Nat → Prop) → Nat → Int32 → GM → Prop} {V : XV} {G : GM} {o : Option Nat} {ci : Nat} {x0 : Nat} {x1 : Int32} (hM : CT_J2_elementData l fr lo w) (C : xC p m c s args cc nL own V A) (hW : xW V A G H) (hS : va_S A s.heap H locs) (hlink : Cond.methodLink own index yJ2_elementData ∈ lw_all) (ho : o = some x0) (hcv : gCi G (some x0) = some ci) (hci : ci % 64 = 15) (hRf : fr + 1 ≤ R.frames) (hRl : 8 + (2 + 11) + lo ≤ R.locals) (hcs : cells ≤ R.cells ∧ slots ≤ R.slots) (hz : ls.size = nL) (hr8 : (rest.map fun v => v.category).sum ≤ 8) (hdg : decode cc pc = .ok (.invokevirtual index, 3)) {Q1 : Option Nat → Prop} (h : w V Q1 x0 x1 G) (kk : ∀ (r : Option Nat) (H1 : Heap) (locs1 : List Loc), Q1 r → xW V A G H1 → va_S A s.heap H1 locs1 → xFr V G G H H1 → W p l e R s m args below meth c H1 locs1 cells slots Z (F0 m (pc + 3) ls (va_rf r :: rest))) : W p l e R s m args below meth c H locs cells slots Z (F0 m pc ls (.int x1 :: va_rf o :: rest)) := by
  subst ho
  obtain ⟨fs, hG⟩ := gCi_of hcv
  exact rg_q3r (va_runV (As := [.int x1]) (rest := rest) C.1 (hM V H.size G Q1 x0 x1) (cwV 1 C.1.2.2.2.2 (lw_V hlink q784 q785 q62 q786) rfl rfl rfl (by decide +kernel) ⟨hRf, hRl⟩) ⟨fun a U g mk q => by obtain ⟨q0, q1, qW, qK, qZ, qw⟩ := q; exact ⟨q0, q1, qW, xK.same (u := U) (U := U.calling g mk a) rfl qK, xZ.moved (u := U) (U := U.calling g mk a) (Vm.Alike.refl U.vm) qZ, qw⟩, (hW.recv C.2.1 hG (r := (RJ2, TJ2, 3)) (by rw [hci]; rfl)), fun U hU hWm => ⟨rfl, by rw [hU], by rw [hU]; exact hW.self _, C.2.1.warm hWm, xZ.call C.2.2.1 hW hS C.2.2.2 hU hWm.alike, h⟩⟩ rfl rfl hz rfl (lv_room hr8) hdg hcs) hW hS C.2.2.2 (fun r H1 locs1 hp hW1 hS1 hF1 => kk r H1 locs1 hp hW1 hS1 hF1)
def w_J2_elementData (V : XV) (Q : Option Nat → Prop) (x0 : Nat) (x1 : Int32) (G : GM) : Prop := gGR G 41 (some x0) (fun v1 => gRL G v1 x1 (fun v2 => Q v2))
set_option maxRecDepth 100000 in
set_option maxHeartbeats 4000000 in
theorem wk_J2_elementData {p : Program} {l : Launch} {e : Env} {R : Room} {s : State} {m : MethodId} {args : Array Value} {below : List Frame} {meth : Method} {c : Code} {cells slots : Nat} {Z : State → Prop} {A : Nat → Prop} {V : XV} (Q : Option Nat → Prop) (C : xC p m c s args cJ2_elementData 2 RJ2 V A) (hRf : 1 ≤ R.frames) (hRl : 20 ≤ R.locals) (hcs : cells ≤ R.cells ∧ slots ≤ R.slots) (G : GM) (hret : ∀ (v : Option Nat) (pc : Nat) (ls : Array Slot) (H : Heap) (locs : List Loc), decode cJ2_elementData pc = .ok (.areturn, 1) → xW V A G H → va_S A s.heap H locs → Q v → W p l e R s m args below meth c H locs cells slots Z (F0 m pc ls [va_rf v])) (x0 : Nat) (x1 : Int32) : w_J2_elementData V Q x0 x1 G → ∀ (ls : Array Slot) (H : Heap) (locs : List Loc), lv_has ls 2 [(0, va_rf (some x0)), (1, .int x1)] → xW V A G H → va_S A s.heap H locs → W p l e R s m args below meth c H locs cells slots Z (F0 m 0 ls []) := by
  have hx := C.1.1; have hb := C.1.2.1; have hml := C.1.2.2.1; have hown := C.1.2.2.2.1; have hts := C.1.2.2.2.2
  intro h
  intro ls H locs hl hW hS
  refine sh_aload_n hx hb dJ2_elementData_0 rfl (lv_at hl 0 rfl) ?_
  obtain ⟨v1, h1, h⟩ := h
  refine sh_get C hW xFb_41 q126 (fun _ h => h) h1 dJ2_elementData_1 ?_
  refine lv_iload_n hx hb dJ2_elementData_4 rfl (lv_at hl 1 rfl) ?_
  refine sh_aald C hW h dJ2_elementData_5 (fun v2 h => ?_)
  exact hret _ _ _ _ _ dJ2_elementData_6 hW hS h
theorem ct_J2_elementData (l : Launch) : CT_J2_elementData l 1 20 w_J2_elementData := by
  intro V sz G Q x0 x1
  refine Met.ofW (cc := cJ2_elementData) (maxL := 2) (ret := (some (.object "java/lang/Object"))) (by decide) rfl ?_
  intro p e s m args below meth c s₁ B hml hv
  obtain ⟨rfl, hsz, hW, hK, hZ, h⟩ := hv
  subst hsz
  have hts := atoms_spec (ws := (ws_ yJ2_elementData cJ2_elementData 2 (some (.object "java/lang/Object")))) B.pre
  have hts : ∀ w ∈ lw_all, w.before _ s = true := fun w h => hts w (List.mem_cons_of_mem _ h)
  have hl := lv_entry ([.ref x0, .int x1]) (n := 2) (Nat.le_of_ble_eq_true rfl)
  rw [lg_entry_eq]
  generalize (lg_sl ([.ref x0, .int x1]) ++ List.replicate (2 - (lg_sl ([.ref x0, .int x1])).length) Slot.unset).toArray = ls at hl ⊢
  exact wk_J2_elementData Q ⟨⟨B.exec, B.bytes, hml, findClass_of_methodNamed B.named, hts⟩, hK, hZ, fun q h => Or.inr h⟩ (Nat.le_refl _) (Nat.le_refl _) ⟨Nat.le_refl _, Nat.le_refl _⟩ G (fun v pc ls H locs hd hW1 hS hQ => W.aret (v := va_rf v) B.exec B.bytes B.returns (Or.inl ⟨_, rfl⟩) (va_rf_or v) (fun t ht _ => ⟨⟨v, G, rfl, ⟨rfl, hQ⟩, by rw [← ht] at hW1; exact hW1⟩, hS.F ht⟩) hS.2.2 hd) x0 x1 h ls _ [] hl hW va_S.rf
def CT_J2_get (l : Launch) (fr lo : Nat) (w : XV → (Option Nat → Prop) → Nat → Int32 → GM → Prop) : Prop := ∀ (V : XV) (sz : Nat) (G : GM) (Q : Option Nat → Prop) (x0 : Nat) (x1 : Int32), Met l yJ2_get (ws_ yJ2_get cJ2_get 2 (some (.object "java/lang/Object"))) { frames := fr, cells := 0, slots := 0, locals := lo } (va_Pc [.ref x0, .int x1] (fun U => U.heap.size = sz ∧ xW V (xA G sz) G U.heap ∧ xK V U ∧ xZ V (xA G sz) U U.heap ∧ w V Q x0 x1 G)) (va_Qq (fun r (u : GM) => u = G ∧ Q r) (fun u t => xW V (xA G sz) u t.heap) (xA G sz)) 0 0 (xA G sz)
theorem call_J2_get_F15_List {p : Program} {l : Launch} {e : Env} {R : Room} {s : State} {m : MethodId} {args : Array Value} {below : List Frame} {meth : Method} {c : Code} {H : Heap} {locs : List Loc} {cells slots : Nat} {Z : State → Prop} {A : Nat → Prop} {cc : ByteArray} {nL pc : Nat} {ls : Array Slot} {rest : List Value} {own : String} {index fr lo : Nat} {w : XV → (Option Nat → Prop) → Nat → Int32 → GM → Prop} {V : XV} {G : GM} {count : Nat} {o : Option Nat} {ci : Nat} {x0 : Nat} {x1 : Int32} (hM : CT_J2_get l fr lo w) (C : xC p m c s args cc nL own V A) (hW : xW V A G H) (hS : va_S A s.heap H locs) (hlink : Cond.methodLink own index ⟨"java/util/List", "get", "(I)Ljava/lang/Object;"⟩ ∈ lw_all) (ho : o = some x0) (hcv : gCi G (some x0) = some ci) (hci : ci % 64 = 15) (hRf : fr + 1 ≤ R.frames) (hRl : 8 + (2 + 11) + lo ≤ R.locals) (hcs : cells ≤ R.cells ∧ slots ≤ R.slots) (hz : ls.size = nL) (hr8 : (rest.map fun v => v.category).sum ≤ 8) (hdg : decode cc pc = .ok (.invokeinterface index count, 5)) {Q1 : Option Nat → Prop} (h : w V Q1 x0 x1 G) (kk : ∀ (r : Option Nat) (H1 : Heap) (locs1 : List Loc), Q1 r → xW V A G H1 → va_S A s.heap H1 locs1 → xFr V G G H H1 → W p l e R s m args below meth c H1 locs1 cells slots Z (F0 m (pc + 5) ls (va_rf r :: rest))) : W p l e R s m args below meth c H locs cells slots Z (F0 m pc ls (.int x1 :: va_rf o :: rest)) := by
  subst ho
  obtain ⟨fs, hG⟩ := gCi_of hcv
  exact rg_q5r (va_runF (As := [.int x1]) (rest := rest) (C.2.1.1 15 _ rfl).2 C.1 (hM V H.size G Q1 x0 x1) (va_cwF (C := "java/util/ArrayList") 1 C.1.2.2.2.2 (lw_F hlink q774 q776 q62 q778) rfl rfl rfl (C.2.1.2.2.2.1 "java/util/ArrayList" ⟨"java/util/List", "get", "(I)Ljava/lang/Object;"⟩ yJ2_get ⟨by decide, q773, q772, q777, q775, q228⟩) (by decide +kernel) ⟨hRf, hRl⟩) ⟨fun a U g mk q => by obtain ⟨q0, q1, qW, qK, qZ, qw⟩ := q; exact ⟨q0, q1, qW, xK.same (u := U) (U := U.calling g mk a) rfl qK, xZ.moved (u := U) (U := U.calling g mk a) (Vm.Alike.refl U.vm) qZ, qw⟩, (hW.recv C.2.1 hG (r := (RJ2, TJ2, 3)) (by rw [hci]; rfl)), fun U hU hWm => ⟨rfl, by rw [hU], by rw [hU]; exact hW.self _, C.2.1.warm hWm, xZ.call C.2.2.1 hW hS C.2.2.2 hU hWm.alike, h⟩⟩ rfl rfl hz rfl (lv_room hr8) hdg hcs) hW hS C.2.2.2 (fun r H1 locs1 hp hW1 hS1 hF1 => kk r H1 locs1 hp hW1 hS1 hF1)
def w_J2_get (V : XV) (Q : Option Nat → Prop) (x0 : Nat) (x1 : Int32) (G : GM) : Prop := gGI G 42 (some x0) (fun v1 => w_J21_checkIndex V (fun r2 => gRcv G (some x0) (fun a3 c4 => (c4 % 64 = 15) ∧ (w_J2_elementData V (fun r5 => Q r5) a3 x1 G))) x1 v1 G)
set_option maxRecDepth 100000 in
set_option maxHeartbeats 4000000 in
theorem wk_J2_get {p : Program} {l : Launch} {e : Env} {R : Room} {s : State} {m : MethodId} {args : Array Value} {below : List Frame} {meth : Method} {c : Code} {cells slots : Nat} {Z : State → Prop} {A : Nat → Prop} {V : XV} (Q : Option Nat → Prop) (C : xC p m c s args cJ2_get 2 RJ2 V A) (hRf : 3 ≤ R.frames) (hRl : 63 ≤ R.locals) (hcs : cells ≤ R.cells ∧ slots ≤ R.slots) (G : GM) (hret : ∀ (v : Option Nat) (pc : Nat) (ls : Array Slot) (H : Heap) (locs : List Loc), decode cJ2_get pc = .ok (.areturn, 1) → xW V A G H → va_S A s.heap H locs → Q v → W p l e R s m args below meth c H locs cells slots Z (F0 m pc ls [va_rf v])) (x0 : Nat) (x1 : Int32) : w_J2_get V Q x0 x1 G → ∀ (ls : Array Slot) (H : Heap) (locs : List Loc), lv_has ls 2 [(0, va_rf (some x0)), (1, .int x1)] → xW V A G H → va_S A s.heap H locs → W p l e R s m args below meth c H locs cells slots Z (F0 m 0 ls []) := by
  have hx := C.1.1; have hb := C.1.2.1; have hml := C.1.2.2.1; have hown := C.1.2.2.2.1; have hts := C.1.2.2.2.2
  intro h
  intro ls H locs hl hW hS
  refine lv_iload_n hx hb dJ2_get_0 rfl (lv_at hl 1 rfl) ?_
  refine sh_aload_n hx hb dJ2_get_1 rfl (lv_at hl 0 rfl) ?_
  obtain ⟨v1, h1, h⟩ := h
  refine sh_get C hW xFb_42 q127 (fun _ h => h) h1 dJ2_get_2 ?_
  refine call_J21_checkIndex_S (ct_J21_checkIndex l) C hW hS q779 (le_lit hRf rfl) (le_lit hRl rfl) hcs hl.1 (Nat.le_of_ble_eq_true rfl) dJ2_get_5 h (fun r2 H locs h hW hS _ => ?_)
  refine lv_pop hx hb dJ2_get_8 rfl ?_
  refine sh_aload_n hx hb dJ2_get_9 rfl (lv_at hl 0 rfl) ?_
  refine lv_iload_n hx hb dJ2_get_10 rfl (lv_at hl 1 rfl) ?_
  obtain ⟨a3, c4, ho11, hcv11, h⟩ := h
  have hcc := h.1
  have h := h.2
  refine call_J2_elementData_V (ct_J2_elementData l) C hW hS q783 ho11 hcv11 hcc (le_lit hRf rfl) (le_lit hRl rfl) hcs hl.1 (Nat.le_of_ble_eq_true rfl) dJ2_get_11 h (fun r5 H locs h hW hS _ => ?_)
  exact hret _ _ _ _ _ dJ2_get_14 hW hS h
theorem ct_J2_get (l : Launch) : CT_J2_get l 3 63 w_J2_get := by
  intro V sz G Q x0 x1
  refine Met.ofW (cc := cJ2_get) (maxL := 2) (ret := (some (.object "java/lang/Object"))) (by decide) rfl ?_
  intro p e s m args below meth c s₁ B hml hv
  obtain ⟨rfl, hsz, hW, hK, hZ, h⟩ := hv
  subst hsz
  have hts := atoms_spec (ws := (ws_ yJ2_get cJ2_get 2 (some (.object "java/lang/Object")))) B.pre
  have hts : ∀ w ∈ lw_all, w.before _ s = true := fun w h => hts w (List.mem_cons_of_mem _ h)
  have hl := lv_entry ([.ref x0, .int x1]) (n := 2) (Nat.le_of_ble_eq_true rfl)
  rw [lg_entry_eq]
  generalize (lg_sl ([.ref x0, .int x1]) ++ List.replicate (2 - (lg_sl ([.ref x0, .int x1])).length) Slot.unset).toArray = ls at hl ⊢
  exact wk_J2_get Q ⟨⟨B.exec, B.bytes, hml, findClass_of_methodNamed B.named, hts⟩, hK, hZ, fun q h => Or.inr h⟩ (Nat.le_refl _) (Nat.le_refl _) ⟨Nat.le_refl _, Nat.le_refl _⟩ G (fun v pc ls H locs hd hW1 hS hQ => W.aret (v := va_rf v) B.exec B.bytes B.returns (Or.inl ⟨_, rfl⟩) (va_rf_or v) (fun t ht _ => ⟨⟨v, G, rfl, ⟨rfl, hQ⟩, by rw [← ht] at hW1; exact hW1⟩, hS.F ht⟩) hS.2.2 hd) x0 x1 h ls _ [] hl hW va_S.rf
def CT_J2_isEmpty (l : Launch) (fr lo : Nat) (w : XV → (Int32 → Prop) → Nat → GM → Prop) : Prop := ∀ (V : XV) (sz : Nat) (G : GM) (Q : Int32 → Prop) (x0 : Nat), Met l yJ2_isEmpty (ws_ yJ2_isEmpty cJ2_isEmpty 1 (some .boolean)) { frames := fr, cells := 0, slots := 0, locals := lo } (va_Pc [.ref x0] (fun U => U.heap.size = sz ∧ xW V (xA G sz) G U.heap ∧ xK V U ∧ xZ V (xA G sz) U U.heap ∧ w V Q x0 G)) (va_Qi (fun r (u : GM) => u = G ∧ Q r) (fun u t => xW V (xA G sz) u t.heap) (xA G sz)) 0 0 (xA G sz)
theorem call_J2_isEmpty_F15_List {p : Program} {l : Launch} {e : Env} {R : Room} {s : State} {m : MethodId} {args : Array Value} {below : List Frame} {meth : Method} {c : Code} {H : Heap} {locs : List Loc} {cells slots : Nat} {Z : State → Prop} {A : Nat → Prop} {cc : ByteArray} {nL pc : Nat} {ls : Array Slot} {rest : List Value} {own : String} {index fr lo : Nat} {w : XV → (Int32 → Prop) → Nat → GM → Prop} {V : XV} {G : GM} {count : Nat} {o : Option Nat} {ci : Nat} {x0 : Nat} (hM : CT_J2_isEmpty l fr lo w) (C : xC p m c s args cc nL own V A) (hW : xW V A G H) (hS : va_S A s.heap H locs) (hlink : Cond.methodLink own index ⟨"java/util/List", "isEmpty", "()Z"⟩ ∈ lw_all) (ho : o = some x0) (hcv : gCi G (some x0) = some ci) (hci : ci % 64 = 15) (hRf : fr + 1 ≤ R.frames) (hRl : 8 + (1 + 11) + lo ≤ R.locals) (hcs : cells ≤ R.cells ∧ slots ≤ R.slots) (hz : ls.size = nL) (hr8 : (rest.map fun v => v.category).sum ≤ 8) (hdg : decode cc pc = .ok (.invokeinterface index count, 5)) {Q1 : Int32 → Prop} (h : w V Q1 x0 G) (kk : ∀ (r : Int32) (H1 : Heap) (locs1 : List Loc), Q1 r → xW V A G H1 → va_S A s.heap H1 locs1 → xFr V G G H H1 → W p l e R s m args below meth c H1 locs1 cells slots Z (F0 m (pc + 5) ls (.int r :: rest))) : W p l e R s m args below meth c H locs cells slots Z (F0 m pc ls (va_rf o :: rest)) := by
  subst ho
  obtain ⟨fs, hG⟩ := gCi_of hcv
  exact rg_i5r (va_runF (As := []) (rest := rest) (C.2.1.1 15 _ rfl).2 C.1 (hM V H.size G Q1 x0) (va_cwF (C := "java/util/ArrayList") 0 C.1.2.2.2.2 (lw_F hlink q929 q931 q62 q933) rfl rfl rfl (C.2.1.2.2.2.1 "java/util/ArrayList" ⟨"java/util/List", "isEmpty", "()Z"⟩ yJ2_isEmpty ⟨by decide, q928, q927, q932, q930, q228⟩) (by decide +kernel) ⟨hRf, hRl⟩) ⟨fun a U g mk q => by obtain ⟨q0, q1, qW, qK, qZ, qw⟩ := q; exact ⟨q0, q1, qW, xK.same (u := U) (U := U.calling g mk a) rfl qK, xZ.moved (u := U) (U := U.calling g mk a) (Vm.Alike.refl U.vm) qZ, qw⟩, (hW.recv C.2.1 hG (r := (RJ2, TJ2, 3)) (by rw [hci]; rfl)), fun U hU hWm => ⟨rfl, by rw [hU], by rw [hU]; exact hW.self _, C.2.1.warm hWm, xZ.call C.2.2.1 hW hS C.2.2.2 hU hWm.alike, h⟩⟩ rfl rfl hz rfl (lv_room hr8) hdg hcs) hW hS C.2.2.2 (fun r H1 locs1 hp hW1 hS1 hF1 => kk r H1 locs1 hp hW1 hS1 hF1)
def w_J2_isEmpty (V : XV) (Q : Int32 → Prop) (x0 : Nat) (G : GM) : Prop := gGI G 42 (some x0) (fun v1 => if v1 = 0 then (Q (1 : Int32)) else (Q (0 : Int32)))
set_option maxRecDepth 100000 in
set_option maxHeartbeats 4000000 in
theorem wk_J2_isEmpty {p : Program} {l : Launch} {e : Env} {R : Room} {s : State} {m : MethodId} {args : Array Value} {below : List Frame} {meth : Method} {c : Code} {cells slots : Nat} {Z : State → Prop} {A : Nat → Prop} {V : XV} (Q : Int32 → Prop) (C : xC p m c s args cJ2_isEmpty 1 RJ2 V A) (hRf : 1 ≤ R.frames) (hRl : 20 ≤ R.locals) (hcs : cells ≤ R.cells ∧ slots ≤ R.slots) (G : GM) (hret : ∀ (v : Int32) (pc : Nat) (ls : Array Slot) (H : Heap) (locs : List Loc), decode cJ2_isEmpty pc = .ok (.ireturn, 1) → xW V A G H → va_S A s.heap H locs → isZ v → Q v → W p l e R s m args below meth c H locs cells slots Z (F0 m pc ls [.int v])) (x0 : Nat) : w_J2_isEmpty V Q x0 G → ∀ (ls : Array Slot) (H : Heap) (locs : List Loc), lv_has ls 1 [(0, va_rf (some x0))] → xW V A G H → va_S A s.heap H locs → W p l e R s m args below meth c H locs cells slots Z (F0 m 0 ls []) := by
  have hx := C.1.1; have hb := C.1.2.1; have hml := C.1.2.2.1; have hown := C.1.2.2.2.1; have hts := C.1.2.2.2.2
  intro h
  intro ls H locs hl hW hS
  refine sh_aload_n hx hb dJ2_isEmpty_0 rfl (lv_at hl 0 rfl) ?_
  obtain ⟨v1, h1, h⟩ := h
  refine sh_get C hW xFb_42 q127 (fun _ h => h) h1 dJ2_isEmpty_1 ?_
  refine lv_if_ne (tgt := 11) hx hb dJ2_isEmpty_4 (by decide) (fun c2 => ?_) (fun c2 => ?_)
  · have h := wif_f h c2
    refine lv_iconst (v := 0) hx hb dJ2_isEmpty_11 (by decide) ?_
    exact hret _ _ _ _ _ dJ2_isEmpty_12 hW hS isZ_0 h
  · have h := wif_t h c2
    refine lv_iconst (v := 1) hx hb dJ2_isEmpty_7 (by decide) ?_
    refine lv_goto (tgt := 12) hx hb dJ2_isEmpty_8 (by decide) ?_
    exact hret _ _ _ _ _ dJ2_isEmpty_12 hW hS isZ_1 h
theorem ct_J2_isEmpty (l : Launch) : CT_J2_isEmpty l 1 20 w_J2_isEmpty := by
  intro V sz G Q x0
  refine Met.ofW (cc := cJ2_isEmpty) (maxL := 1) (ret := (some .boolean)) (by decide) rfl ?_
  intro p e s m args below meth c s₁ B hml hv
  obtain ⟨rfl, hsz, hW, hK, hZ, h⟩ := hv
  subst hsz
  have hts := atoms_spec (ws := (ws_ yJ2_isEmpty cJ2_isEmpty 1 (some .boolean))) B.pre
  have hts : ∀ w ∈ lw_all, w.before _ s = true := fun w h => hts w (List.mem_cons_of_mem _ h)
  have hl := lv_entry ([.ref x0]) (n := 1) (Nat.le_of_ble_eq_true rfl)
  rw [lg_entry_eq]
  generalize (lg_sl ([.ref x0]) ++ List.replicate (1 - (lg_sl ([.ref x0])).length) Slot.unset).toArray = ls at hl ⊢
  exact wk_J2_isEmpty Q ⟨⟨B.exec, B.bytes, hml, findClass_of_methodNamed B.named, hts⟩, hK, hZ, fun q h => Or.inr h⟩ (Nat.le_refl _) (Nat.le_refl _) ⟨Nat.le_refl _, Nat.le_refl _⟩ G (fun v pc ls H locs hd hW1 hS hz hQ => W.zret (v := v) B.exec B.bytes B.returns hz.nar (fun t ht _ => ⟨⟨v, G, rfl, ⟨rfl, hQ⟩, by rw [← ht] at hW1; exact hW1⟩, hS.F ht⟩) hS.2.2 hd) x0 h ls _ [] hl hW va_S.rf
def CT_J24_equals (l : Launch) (fr lo : Nat) (w : XV → (Int32 → Prop) → Nat → (Option Nat) → GM → Prop) : Prop := ∀ (V : XV) (sz : Nat) (G : GM) (Q : Int32 → Prop) (x0 : Nat) (x1 : Option Nat), Met l yJ24_equals (ws_ yJ24_equals cJ24_equals 2 (some .boolean)) { frames := fr, cells := 0, slots := 0, locals := lo } (va_Pc [.ref x0, va_rf x1] (fun U => U.heap.size = sz ∧ xW V (xA G sz) G U.heap ∧ xK V U ∧ xZ V (xA G sz) U U.heap ∧ w V Q x0 x1 G)) (va_Qi (fun r (u : GM) => u = G ∧ Q r) (fun u t => xW V (xA G sz) u t.heap) (xA G sz)) 0 0 (xA G sz)
theorem call_J24_equals_U0_1_2_3_4_5_6_7_8_9_10_11_12_13_14_16_18_Object {p : Program} {l : Launch} {e : Env} {R : Room} {s : State} {m : MethodId} {args : Array Value} {below : List Frame} {meth : Method} {c : Code} {H : Heap} {locs : List Loc} {cells slots : Nat} {Z : State → Prop} {A : Nat → Prop} {cc : ByteArray} {nL pc : Nat} {ls : Array Slot} {rest : List Value} {own : String} {index fr lo : Nat} {w : XV → (Int32 → Prop) → Nat → (Option Nat) → GM → Prop} {V : XV} {G : GM} {o : Option Nat} {ci : Nat} {x0 : Nat} {x1 : Option Nat} (hM : CT_J24_equals l fr lo w) (C : xC p m c s args cc nL own V A) (hW : xW V A G H) (hS : va_S A s.heap H locs) (hlink : Cond.methodLink own index ⟨"java/lang/Object", "equals", "(Ljava/lang/Object;)Z"⟩ ∈ lw_all) (ho : o = some x0) (hcv : gCi G (some x0) = some ci) (hci : ci % 64 = 16 ∨ ci % 64 = 0 ∨ ci % 64 = 12 ∨ ci % 64 = 5 ∨ ci % 64 = 6 ∨ ci % 64 = 8 ∨ ci % 64 = 9 ∨ ci % 64 = 10 ∨ ci % 64 = 11 ∨ ci % 64 = 13 ∨ ci % 64 = 14 ∨ ci % 64 = 1 ∨ ci % 64 = 18 ∨ ci % 64 = 2 ∨ ci % 64 = 3 ∨ ci % 64 = 7 ∨ ci % 64 = 4) (hRf : fr + 1 ≤ R.frames) (hRl : 8 + (2 + 11) + lo ≤ R.locals) (hcs : cells ≤ R.cells ∧ slots ≤ R.slots) (hz : ls.size = nL) (hr8 : (rest.map fun v => v.category).sum ≤ 8) (hdg : decode cc pc = .ok (.invokevirtual index, 3)) {Q1 : Int32 → Prop} (h : w V Q1 x0 x1 G) (kk : ∀ (r : Int32) (H1 : Heap) (locs1 : List Loc), Q1 r → xW V A G H1 → va_S A s.heap H1 locs1 → xFr V G G H H1 → W p l e R s m args below meth c H1 locs1 cells slots Z (F0 m (pc + 3) ls (.int r :: rest))) : W p l e R s m args below meth c H locs cells slots Z (F0 m pc ls (va_rf x1 :: va_rf o :: rest)) := by
  subst ho
  obtain ⟨fs, hG⟩ := gCi_of hcv
  rcases hci with hci | hci | hci | hci | hci | hci | hci | hci | hci | hci | hci | hci | hci | hci | hci | hci | hci
  · exact rg_i3r (va_runU (As := [va_rf x1]) (rest := rest) C.1 (hM V H.size G Q1 x0 x1) (va_cwU (C := "java/lang/StringBuilder") 1 C.1.2.2.2.2 (lw_U hlink q1089 q1117 q1088 q2218 q1119) rfl rfl rfl rfl (by decide +kernel) ⟨hRf, hRl⟩) ⟨fun a U g mk q => by obtain ⟨q0, q1, qW, qK, qZ, qw⟩ := q; exact ⟨q0, q1, qW, xK.same (u := U) (U := U.calling g mk a) rfl qK, xZ.moved (u := U) (U := U.calling g mk a) (Vm.Alike.refl U.vm) qZ, qw⟩, (hW.recv C.2.1 hG (r := (RJ4, TJ4, 4)) (by rw [hci]; rfl)), fun U hU hWm => ⟨rfl, by rw [hU], by rw [hU]; exact hW.self _, C.2.1.warm hWm, xZ.call C.2.2.1 hW hS C.2.2.2 hU hWm.alike, h⟩⟩ rfl rfl hz rfl (lv_room hr8) hdg hcs) hW hS C.2.2.2 (fun r H1 locs1 hp hW1 hS1 hF1 => kk r H1 locs1 hp hW1 hS1 hF1)
  · exact rg_i3r (va_runU (As := [va_rf x1]) (rest := rest) C.1 (hM V H.size G Q1 x0 x1) (va_cwU (C := "Shapelayer") 1 C.1.2.2.2.2 (lw_U hlink q1089 q1090 q1088 q2218 q1119) rfl rfl rfl rfl (by decide +kernel) ⟨hRf, hRl⟩) ⟨fun a U g mk q => by obtain ⟨q0, q1, qW, qK, qZ, qw⟩ := q; exact ⟨q0, q1, qW, xK.same (u := U) (U := U.calling g mk a) rfl qK, xZ.moved (u := U) (U := U.calling g mk a) (Vm.Alike.refl U.vm) qZ, qw⟩, (hW.recv C.2.1 hG (r := (RX1, TX1, 6)) (by rw [hci]; rfl)), fun U hU hWm => ⟨rfl, by rw [hU], by rw [hU]; exact hW.self _, C.2.1.warm hWm, xZ.call C.2.2.1 hW hS C.2.2.2 hU hWm.alike, h⟩⟩ rfl rfl hz rfl (lv_room hr8) hdg hcs) hW hS C.2.2.2 (fun r H1 locs1 hp hW1 hS1 hF1 => kk r H1 locs1 hp hW1 hS1 hF1)
  · exact rg_i3r (va_runU (As := [va_rf x1]) (rest := rest) C.1 (hM V H.size G Q1 x0 x1) (va_cwU (C := "Shapelayer$Composition$1") 1 C.1.2.2.2.2 (lw_U hlink q1089 q1092 q1088 q2218 q1119) rfl rfl rfl rfl (by decide +kernel) ⟨hRf, hRl⟩) ⟨fun a U g mk q => by obtain ⟨q0, q1, qW, qK, qZ, qw⟩ := q; exact ⟨q0, q1, qW, xK.same (u := U) (U := U.calling g mk a) rfl qK, xZ.moved (u := U) (U := U.calling g mk a) (Vm.Alike.refl U.vm) qZ, qw⟩, (hW.recv C.2.1 hG (r := (RX10, TX10, 2)) (by rw [hci]; rfl)), fun U hU hWm => ⟨rfl, by rw [hU], by rw [hU]; exact hW.self _, C.2.1.warm hWm, xZ.call C.2.2.1 hW hS C.2.2.2 hU hWm.alike, h⟩⟩ rfl rfl hz rfl (lv_room hr8) hdg hcs) hW hS C.2.2.2 (fun r H1 locs1 hp hW1 hS1 hF1 => kk r H1 locs1 hp hW1 hS1 hF1)
  · exact rg_i3r (va_runU (As := [va_rf x1]) (rest := rest) C.1 (hM V H.size G Q1 x0 x1) (va_cwU (C := "Shapelayer$Nested") 1 C.1.2.2.2.2 (lw_U hlink q1089 q1099 q1088 q2218 q1119) rfl rfl rfl rfl (by decide +kernel) ⟨hRf, hRl⟩) ⟨fun a U g mk q => by obtain ⟨q0, q1, qW, qK, qZ, qw⟩ := q; exact ⟨q0, q1, qW, xK.same (u := U) (U := U.calling g mk a) rfl qK, xZ.moved (u := U) (U := U.calling g mk a) (Vm.Alike.refl U.vm) qZ, qw⟩, (hW.recv C.2.1 hG (r := (RX11, TX11, 9)) (by rw [hci]; rfl)), fun U hU hWm => ⟨rfl, by rw [hU], by rw [hU]; exact hW.self _, C.2.1.warm hWm, xZ.call C.2.2.1 hW hS C.2.2.2 hU hWm.alike, h⟩⟩ rfl rfl hz rfl (lv_room hr8) hdg hcs) hW hS C.2.2.2 (fun r H1 locs1 hp hW1 hS1 hF1 => kk r H1 locs1 hp hW1 hS1 hF1)
  · exact rg_i3r (va_runU (As := [va_rf x1]) (rest := rest) C.1 (hM V H.size G Q1 x0 x1) (va_cwU (C := "Shapelayer$Null") 1 C.1.2.2.2.2 (lw_U hlink q1089 q1100 q1088 q2218 q1119) rfl rfl rfl rfl (by decide +kernel) ⟨hRf, hRl⟩) ⟨fun a U g mk q => by obtain ⟨q0, q1, qW, qK, qZ, qw⟩ := q; exact ⟨q0, q1, qW, xK.same (u := U) (U := U.calling g mk a) rfl qK, xZ.moved (u := U) (U := U.calling g mk a) (Vm.Alike.refl U.vm) qZ, qw⟩, (hW.recv C.2.1 hG (r := (RX12, TX12, 8)) (by rw [hci]; rfl)), fun U hU hWm => ⟨rfl, by rw [hU], by rw [hU]; exact hW.self _, C.2.1.warm hWm, xZ.call C.2.2.1 hW hS C.2.2.2 hU hWm.alike, h⟩⟩ rfl rfl hz rfl (lv_room hr8) hdg hcs) hW hS C.2.2.2 (fun r H1 locs1 hp hW1 hS1 hF1 => kk r H1 locs1 hp hW1 hS1 hF1)
  · exact rg_i3r (va_runU (As := [va_rf x1]) (rest := rest) C.1 (hM V H.size G Q1 x0 x1) (va_cwU (C := "Shapelayer$Key") 1 C.1.2.2.2.2 (lw_U hlink q1089 q1097 q1088 q2218 q1119) rfl rfl rfl rfl (by decide +kernel) ⟨hRf, hRl⟩) ⟨fun a U g mk q => by obtain ⟨q0, q1, qW, qK, qZ, qw⟩ := q; exact ⟨q0, q1, qW, xK.same (u := U) (U := U.calling g mk a) rfl qK, xZ.moved (u := U) (U := U.calling g mk a) (Vm.Alike.refl U.vm) qZ, qw⟩, (hW.recv C.2.1 hG (r := (RX13, TX13, 3)) (by rw [hci]; rfl)), fun U hU hWm => ⟨rfl, by rw [hU], by rw [hU]; exact hW.self _, C.2.1.warm hWm, xZ.call C.2.2.1 hW hS C.2.2.2 hU hWm.alike, h⟩⟩ rfl rfl hz rfl (lv_room hr8) hdg hcs) hW hS C.2.2.2 (fun r H1 locs1 hp hW1 hS1 hF1 => kk r H1 locs1 hp hW1 hS1 hF1)
  · exact rg_i3r (va_runU (As := [va_rf x1]) (rest := rest) C.1 (hM V H.size G Q1 x0 x1) (va_cwU (C := "Shapelayer$Easing$1") 1 C.1.2.2.2.2 (lw_U hlink q1089 q1093 q1088 q2218 q1119) rfl rfl rfl rfl (by decide +kernel) ⟨hRf, hRl⟩) ⟨fun a U g mk q => by obtain ⟨q0, q1, qW, qK, qZ, qw⟩ := q; exact ⟨q0, q1, qW, xK.same (u := U) (U := U.calling g mk a) rfl qK, xZ.moved (u := U) (U := U.calling g mk a) (Vm.Alike.refl U.vm) qZ, qw⟩, (hW.recv C.2.1 hG (r := (RX15, (fun _ => ("", "", "", false)), 0)) (by rw [hci]; rfl)), fun U hU hWm => ⟨rfl, by rw [hU], by rw [hU]; exact hW.self _, C.2.1.warm hWm, xZ.call C.2.2.1 hW hS C.2.2.2 hU hWm.alike, h⟩⟩ rfl rfl hz rfl (lv_room hr8) hdg hcs) hW hS C.2.2.2 (fun r H1 locs1 hp hW1 hS1 hF1 => kk r H1 locs1 hp hW1 hS1 hF1)
  · exact rg_i3r (va_runU (As := [va_rf x1]) (rest := rest) C.1 (hM V H.size G Q1 x0 x1) (va_cwU (C := "Shapelayer$Easing$2") 1 C.1.2.2.2.2 (lw_U hlink q1089 q1094 q1088 q2218 q1119) rfl rfl rfl rfl (by decide +kernel) ⟨hRf, hRl⟩) ⟨fun a U g mk q => by obtain ⟨q0, q1, qW, qK, qZ, qw⟩ := q; exact ⟨q0, q1, qW, xK.same (u := U) (U := U.calling g mk a) rfl qK, xZ.moved (u := U) (U := U.calling g mk a) (Vm.Alike.refl U.vm) qZ, qw⟩, (hW.recv C.2.1 hG (r := (RX16, (fun _ => ("", "", "", false)), 0)) (by rw [hci]; rfl)), fun U hU hWm => ⟨rfl, by rw [hU], by rw [hU]; exact hW.self _, C.2.1.warm hWm, xZ.call C.2.2.1 hW hS C.2.2.2 hU hWm.alike, h⟩⟩ rfl rfl hz rfl (lv_room hr8) hdg hcs) hW hS C.2.2.2 (fun r H1 locs1 hp hW1 hS1 hF1 => kk r H1 locs1 hp hW1 hS1 hF1)
  · exact rg_i3r (va_runU (As := [va_rf x1]) (rest := rest) C.1 (hM V H.size G Q1 x0 x1) (va_cwU (C := "Shapelayer$Easing$3") 1 C.1.2.2.2.2 (lw_U hlink q1089 q1095 q1088 q2218 q1119) rfl rfl rfl rfl (by decide +kernel) ⟨hRf, hRl⟩) ⟨fun a U g mk q => by obtain ⟨q0, q1, qW, qK, qZ, qw⟩ := q; exact ⟨q0, q1, qW, xK.same (u := U) (U := U.calling g mk a) rfl qK, xZ.moved (u := U) (U := U.calling g mk a) (Vm.Alike.refl U.vm) qZ, qw⟩, (hW.recv C.2.1 hG (r := (RX17, (fun _ => ("", "", "", false)), 0)) (by rw [hci]; rfl)), fun U hU hWm => ⟨rfl, by rw [hU], by rw [hU]; exact hW.self _, C.2.1.warm hWm, xZ.call C.2.2.1 hW hS C.2.2.2 hU hWm.alike, h⟩⟩ rfl rfl hz rfl (lv_room hr8) hdg hcs) hW hS C.2.2.2 (fun r H1 locs1 hp hW1 hS1 hF1 => kk r H1 locs1 hp hW1 hS1 hF1)
  · exact rg_i3r (va_runU (As := [va_rf x1]) (rest := rest) C.1 (hM V H.size G Q1 x0 x1) (va_cwU (C := "Shapelayer$Frame") 1 C.1.2.2.2.2 (lw_U hlink q1089 q1096 q1088 q2218 q1119) rfl rfl rfl rfl (by decide +kernel) ⟨hRf, hRl⟩) ⟨fun a U g mk q => by obtain ⟨q0, q1, qW, qK, qZ, qw⟩ := q; exact ⟨q0, q1, qW, xK.same (u := U) (U := U.calling g mk a) rfl qK, xZ.moved (u := U) (U := U.calling g mk a) (Vm.Alike.refl U.vm) qZ, qw⟩, (hW.recv C.2.1 hG (r := (RX18, TX18, 3)) (by rw [hci]; rfl)), fun U hU hWm => ⟨rfl, by rw [hU], by rw [hU]; exact hW.self _, C.2.1.warm hWm, xZ.call C.2.2.1 hW hS C.2.2.2 hU hWm.alike, h⟩⟩ rfl rfl hz rfl (lv_room hr8) hdg hcs) hW hS C.2.2.2 (fun r H1 locs1 hp hW1 hS1 hF1 => kk r H1 locs1 hp hW1 hS1 hF1)
  · exact rg_i3r (va_runU (As := [va_rf x1]) (rest := rest) C.1 (hM V H.size G Q1 x0 x1) (va_cwU (C := "Shapelayer$Outer") 1 C.1.2.2.2.2 (lw_U hlink q1089 q1101 q1088 q2218 q1119) rfl rfl rfl rfl (by decide +kernel) ⟨hRf, hRl⟩) ⟨fun a U g mk q => by obtain ⟨q0, q1, qW, qK, qZ, qw⟩ := q; exact ⟨q0, q1, qW, xK.same (u := U) (U := U.calling g mk a) rfl qK, xZ.moved (u := U) (U := U.calling g mk a) (Vm.Alike.refl U.vm) qZ, qw⟩, (hW.recv C.2.1 hG (r := (RX19, TX19, 3)) (by rw [hci]; rfl)), fun U hU hWm => ⟨rfl, by rw [hU], by rw [hU]; exact hW.self _, C.2.1.warm hWm, xZ.call C.2.2.1 hW hS C.2.2.2 hU hWm.alike, h⟩⟩ rfl rfl hz rfl (lv_room hr8) hdg hcs) hW hS C.2.2.2 (fun r H1 locs1 hp hW1 hS1 hF1 => kk r H1 locs1 hp hW1 hS1 hF1)
  · exact rg_i3r (va_runU (As := [va_rf x1]) (rest := rest) C.1 (hM V H.size G Q1 x0 x1) (va_cwU (C := "Shapelayer$Raster") 1 C.1.2.2.2.2 (lw_U hlink q1089 q1102 q1088 q2218 q1119) rfl rfl rfl rfl (by decide +kernel) ⟨hRf, hRl⟩) ⟨fun a U g mk q => by obtain ⟨q0, q1, qW, qK, qZ, qw⟩ := q; exact ⟨q0, q1, qW, xK.same (u := U) (U := U.calling g mk a) rfl qK, xZ.moved (u := U) (U := U.calling g mk a) (Vm.Alike.refl U.vm) qZ, qw⟩, (hW.recv C.2.1 hG (r := (RX2, TX2, 5)) (by rw [hci]; rfl)), fun U hU hWm => ⟨rfl, by rw [hU], by rw [hU]; exact hW.self _, C.2.1.warm hWm, xZ.call C.2.2.1 hW hS C.2.2.2 hU hWm.alike, h⟩⟩ rfl rfl hz rfl (lv_room hr8) hdg hcs) hW hS C.2.2.2 (fun r H1 locs1 hp hW1 hS1 hF1 => kk r H1 locs1 hp hW1 hS1 hF1)
  · exact rg_i3r (va_runU (As := [va_rf x1]) (rest := rest) C.1 (hM V H.size G Q1 x0 x1) (va_cwU (C := "ShapelayerModel") 1 C.1.2.2.2.2 (lw_U hlink q1089 q1105 q1088 q2218 q1119) rfl rfl rfl rfl (by decide +kernel) ⟨hRf, hRl⟩) ⟨fun a U g mk q => by obtain ⟨q0, q1, qW, qK, qZ, qw⟩ := q; exact ⟨q0, q1, qW, xK.same (u := U) (U := U.calling g mk a) rfl qK, xZ.moved (u := U) (U := U.calling g mk a) (Vm.Alike.refl U.vm) qZ, qw⟩, (hW.recv C.2.1 hG (r := (RX3, TX3, 30)) (by rw [hci]; rfl)), fun U hU hWm => ⟨rfl, by rw [hU], by rw [hU]; exact hW.self _, C.2.1.warm hWm, xZ.call C.2.2.1 hW hS C.2.2.2 hU hWm.alike, h⟩⟩ rfl rfl hz rfl (lv_room hr8) hdg hcs) hW hS C.2.2.2 (fun r H1 locs1 hp hW1 hS1 hF1 => kk r H1 locs1 hp hW1 hS1 hF1)
  · exact rg_i3r (va_runU (As := [va_rf x1]) (rest := rest) C.1 (hM V H.size G Q1 x0 x1) (va_cwU (C := "Shapelayer$Composition") 1 C.1.2.2.2.2 (lw_U hlink q1089 q1091 q1088 q2218 q1119) rfl rfl rfl rfl (by decide +kernel) ⟨hRf, hRl⟩) ⟨fun a U g mk q => by obtain ⟨q0, q1, qW, qK, qZ, qw⟩ := q; exact ⟨q0, q1, qW, xK.same (u := U) (U := U.calling g mk a) rfl qK, xZ.moved (u := U) (U := U.calling g mk a) (Vm.Alike.refl U.vm) qZ, qw⟩, (hW.recv C.2.1 hG (r := (RX4, TX4, 2)) (by rw [hci]; rfl)), fun U hU hWm => ⟨rfl, by rw [hU], by rw [hU]; exact hW.self _, C.2.1.warm hWm, xZ.call C.2.2.1 hW hS C.2.2.2 hU hWm.alike, h⟩⟩ rfl rfl hz rfl (lv_room hr8) hdg hcs) hW hS C.2.2.2 (fun r H1 locs1 hp hW1 hS1 hF1 => kk r H1 locs1 hp hW1 hS1 hF1)
  · exact rg_i3r (va_runU (As := [va_rf x1]) (rest := rest) C.1 (hM V H.size G Q1 x0 x1) (va_cwU (C := "Shapelayer$Rect") 1 C.1.2.2.2.2 (lw_U hlink q1089 q1103 q1088 q2218 q1119) rfl rfl rfl rfl (by decide +kernel) ⟨hRf, hRl⟩) ⟨fun a U g mk q => by obtain ⟨q0, q1, qW, qK, qZ, qw⟩ := q; exact ⟨q0, q1, qW, xK.same (u := U) (U := U.calling g mk a) rfl qK, xZ.moved (u := U) (U := U.calling g mk a) (Vm.Alike.refl U.vm) qZ, qw⟩, (hW.recv C.2.1 hG (r := (RX7, TX7, 11)) (by rw [hci]; rfl)), fun U hU hWm => ⟨rfl, by rw [hU], by rw [hU]; exact hW.self _, C.2.1.warm hWm, xZ.call C.2.2.1 hW hS C.2.2.2 hU hWm.alike, h⟩⟩ rfl rfl hz rfl (lv_room hr8) hdg hcs) hW hS C.2.2.2 (fun r H1 locs1 hp hW1 hS1 hF1 => kk r H1 locs1 hp hW1 hS1 hF1)
  · exact rg_i3r (va_runU (As := [va_rf x1]) (rest := rest) C.1 (hM V H.size G Q1 x0 x1) (va_cwU (C := "Shapelayer$Keyed") 1 C.1.2.2.2.2 (lw_U hlink q1089 q1098 q1088 q2218 q1119) rfl rfl rfl rfl (by decide +kernel) ⟨hRf, hRl⟩) ⟨fun a U g mk q => by obtain ⟨q0, q1, qW, qK, qZ, qw⟩ := q; exact ⟨q0, q1, qW, xK.same (u := U) (U := U.calling g mk a) rfl qK, xZ.moved (u := U) (U := U.calling g mk a) (Vm.Alike.refl U.vm) qZ, qw⟩, (hW.recv C.2.1 hG (r := (RX8, TX8, 2)) (by rw [hci]; rfl)), fun U hU hWm => ⟨rfl, by rw [hU], by rw [hU]; exact hW.self _, C.2.1.warm hWm, xZ.call C.2.2.1 hW hS C.2.2.2 hU hWm.alike, h⟩⟩ rfl rfl hz rfl (lv_room hr8) hdg hcs) hW hS C.2.2.2 (fun r H1 locs1 hp hW1 hS1 hF1 => kk r H1 locs1 hp hW1 hS1 hF1)
  · exact rg_i3r (va_runU (As := [va_rf x1]) (rest := rest) C.1 (hM V H.size G Q1 x0 x1) (va_cwU (C := "Shapelayer$Stroke") 1 C.1.2.2.2.2 (lw_U hlink q1089 q1104 q1088 q2218 q1119) rfl rfl rfl rfl (by decide +kernel) ⟨hRf, hRl⟩) ⟨fun a U g mk q => by obtain ⟨q0, q1, qW, qK, qZ, qw⟩ := q; exact ⟨q0, q1, qW, xK.same (u := U) (U := U.calling g mk a) rfl qK, xZ.moved (u := U) (U := U.calling g mk a) (Vm.Alike.refl U.vm) qZ, qw⟩, (hW.recv C.2.1 hG (r := (RX9, TX9, 11)) (by rw [hci]; rfl)), fun U hU hWm => ⟨rfl, by rw [hU], by rw [hU]; exact hW.self _, C.2.1.warm hWm, xZ.call C.2.2.1 hW hS C.2.2.2 hU hWm.alike, h⟩⟩ rfl rfl hz rfl (lv_room hr8) hdg hcs) hW hS C.2.2.2 (fun r H1 locs1 hp hW1 hS1 hF1 => kk r H1 locs1 hp hW1 hS1 hF1)
def w_J24_equals (V : XV) (Q : Int32 → Prop) (x0 : Nat) (x1 : Option Nat) (G : GM) : Prop := if (some x0) = x1 then (Q (1 : Int32)) else (Q (0 : Int32))
set_option maxRecDepth 100000 in
set_option maxHeartbeats 4000000 in
theorem wk_J24_equals {p : Program} {l : Launch} {e : Env} {R : Room} {s : State} {m : MethodId} {args : Array Value} {below : List Frame} {meth : Method} {c : Code} {cells slots : Nat} {Z : State → Prop} {A : Nat → Prop} {V : XV} (Q : Int32 → Prop) (C : xC p m c s args cJ24_equals 2 RJ24 V A) (hRf : 1 ≤ R.frames) (hRl : 20 ≤ R.locals) (hcs : cells ≤ R.cells ∧ slots ≤ R.slots) (G : GM) (hret : ∀ (v : Int32) (pc : Nat) (ls : Array Slot) (H : Heap) (locs : List Loc), decode cJ24_equals pc = .ok (.ireturn, 1) → xW V A G H → va_S A s.heap H locs → isZ v → Q v → W p l e R s m args below meth c H locs cells slots Z (F0 m pc ls [.int v])) (x0 : Nat) (x1 : Option Nat) : w_J24_equals V Q x0 x1 G → ∀ (ls : Array Slot) (H : Heap) (locs : List Loc), lv_has ls 2 [(0, va_rf (some x0)), (1, va_rf x1)] → xW V A G H → va_S A s.heap H locs → W p l e R s m args below meth c H locs cells slots Z (F0 m 0 ls []) := by
  have hx := C.1.1; have hb := C.1.2.1; have hml := C.1.2.2.1; have hown := C.1.2.2.2.1; have hts := C.1.2.2.2.2
  intro h
  intro ls H locs hl hW hS
  refine sh_aload_n hx hb dJ24_equals_0 rfl (lv_at hl 0 rfl) ?_
  refine sh_aload_n hx hb dJ24_equals_1 rfl (lv_at hl 1 rfl) ?_
  refine lv_acmp_ne (tgt := 9) hx hb dJ24_equals_2 (by decide) (fun c1 => ?_) (fun c1 => ?_)
  · have h := wif_f h c1
    refine lv_iconst (v := 0) hx hb dJ24_equals_9 (by decide) ?_
    exact hret _ _ _ _ _ dJ24_equals_10 hW hS isZ_0 h
  · have h := wif_t h c1
    refine lv_iconst (v := 1) hx hb dJ24_equals_5 (by decide) ?_
    refine lv_goto (tgt := 10) hx hb dJ24_equals_6 (by decide) ?_
    exact hret _ _ _ _ _ dJ24_equals_10 hW hS isZ_1 h
theorem ct_J24_equals (l : Launch) : CT_J24_equals l 1 20 w_J24_equals := by
  intro V sz G Q x0 x1
  refine Met.ofWF (cc := cJ24_equals) (maxL := 2) (ret := (some .boolean)) (by decide +kernel) rfl ?_
  intro p e s m args below meth c s₁ B hml hv
  obtain ⟨rfl, hsz, hW, hK, hZ, h⟩ := hv
  subst hsz
  have hts := atoms_spec (ws := (ws_ yJ24_equals cJ24_equals 2 (some .boolean))) B.pre
  have hts : ∀ w ∈ lw_all, w.before _ s = true := fun w h => hts w (List.mem_cons_of_mem _ h)
  have key : ∃ ls : Array Slot, entryFrame m ([.ref x0, va_rf x1] : List Value).toArray 2 = F0 m 0 ls [] ∧ lv_has ls 2 [(0, va_rf (some x0)), (1, va_rf x1)] := by
    cases x1 <;> (refine ⟨_, by rw [lg_entry_eq], ?_⟩; exact lv_entry _ (Nat.le_of_ble_eq_true rfl))
  obtain ⟨ls, hfr, hl⟩ := key
  rw [hfr]
  exact wk_J24_equals Q ⟨⟨B.exec, B.bytes, hml, findClass_of_methodNamed B.named, hts⟩, hK, hZ, fun q h => Or.inr h⟩ (Nat.le_refl _) (Nat.le_refl _) ⟨Nat.le_refl _, Nat.le_refl _⟩ G (fun v pc ls H locs hd hW1 hS hz hQ => W.zret (v := v) B.exec B.bytes B.returns hz.nar (fun t ht _ => ⟨⟨v, G, rfl, ⟨rfl, hQ⟩, by rw [← ht] at hW1; exact hW1⟩, hS.F ht⟩) hS.2.2 hd) x0 x1 h ls _ [] hl hW va_S.rf
def CT_J2_fastRemove (l : Launch) (fr lo : Nat) (w : XV → (GM → Prop) → Nat → (Option Nat) → Int32 → GM → Prop) : Prop := ∀ (V : XV) (sz : Nat) (G : GM) (Q : GM → Prop) (x0 : Nat) (x1 : Option Nat) (x2 : Int32), Met l yJ2_fastRemove (ws_ yJ2_fastRemove cJ2_fastRemove 4 none) { frames := fr, cells := 0, slots := 0, locals := lo } (va_Pc [.ref x0, va_rf x1, .int x2] (fun U => U.heap.size = sz ∧ xW V (xA G sz) G U.heap ∧ xK V U ∧ xZ V (xA G sz) U U.heap ∧ w V Q x0 x1 x2 G)) (va_Qv (fun (u : GM) => Q u) (fun u t => xW V (xA G sz) u t.heap) (xA G sz)) 0 0 (xA G sz)
theorem call_J2_fastRemove_V {p : Program} {l : Launch} {e : Env} {R : Room} {s : State} {m : MethodId} {args : Array Value} {below : List Frame} {meth : Method} {c : Code} {H : Heap} {locs : List Loc} {cells slots : Nat} {Z : State → Prop} {A : Nat → Prop} {cc : ByteArray} {nL pc : Nat} {ls : Array Slot} {rest : List Value} {own : String} {index fr lo : Nat} {w : XV → (GM → Prop) → Nat → (Option Nat) → Int32 → GM → Prop} {V : XV} {G : GM} {o : Option Nat} {ci : Nat} {x0 : Nat} {x1 : Option Nat} {x2 : Int32} (hM : CT_J2_fastRemove l fr lo w) (C : xC p m c s args cc nL own V A) (hW : xW V A G H) (hS : va_S A s.heap H locs) (hlink : Cond.methodLink own index yJ2_fastRemove ∈ lw_all) (ho : o = some x0) (hcv : gCi G (some x0) = some ci) (hci : ci % 64 = 15) (hRf : fr + 1 ≤ R.frames) (hRl : 8 + (4 + 11) + lo ≤ R.locals) (hcs : cells ≤ R.cells ∧ slots ≤ R.slots) (hz : ls.size = nL) (hr8 : (rest.map fun v => v.category).sum ≤ 8) (hdg : decode cc pc = .ok (.invokevirtual index, 3)) {Q1 : GM → Prop} (h : w V Q1 x0 x1 x2 G) (kk : ∀ (G1 : GM) (H1 : Heap) (locs1 : List Loc), Q1 G1 → xW V A G1 H1 → va_S A s.heap H1 locs1 → xFr V G G1 H H1 → W p l e R s m args below meth c H1 locs1 cells slots Z (F0 m (pc + 3) ls (rest))) : W p l e R s m args below meth c H locs cells slots Z (F0 m pc ls (.int x2 :: va_rf x1 :: va_rf o :: rest)) := by
  subst ho
  obtain ⟨fs, hG⟩ := gCi_of hcv
  exact rg_v3w (va_runV (As := [va_rf x1, .int x2]) (rest := rest) C.1 (hM V H.size G Q1 x0 x1 x2) (cwV 2 C.1.2.2.2.2 (lw_V hlink q1122 qs8 q62 q1123) rfl rfl rfl (by decide +kernel) ⟨hRf, hRl⟩) ⟨fun a U g mk q => by obtain ⟨q0, q1, qW, qK, qZ, qw⟩ := q; exact ⟨q0, q1, qW, xK.same (u := U) (U := U.calling g mk a) rfl qK, xZ.moved (u := U) (U := U.calling g mk a) (Vm.Alike.refl U.vm) qZ, qw⟩, (hW.recv C.2.1 hG (r := (RJ2, TJ2, 3)) (by rw [hci]; rfl)), fun U hU hWm => ⟨rfl, by rw [hU], by rw [hU]; exact hW.self _, C.2.1.warm hWm, xZ.call C.2.2.1 hW hS C.2.2.2 hU hWm.alike, h⟩⟩ rfl rfl hz rfl (lv_room hr8) hdg hcs) hW hS C.2.2.2 (fun G1 H1 locs1 hp hW1 hS1 hF1 => kk G1 H1 locs1 hp hW1 hS1 hF1)
def w_J2_fastRemove_34 (V : XV) (Q : GM → Prop) (x0 : Nat) (x1 : Option Nat) (x3 : Int32) (G : GM) : Prop := gPF G 42 (some x0) (.int x3) (fun G1 => gRS G1 x1 x3 none (fun G2 => Q G2))
def w_J2_fastRemove (V : XV) (Q : GM → Prop) (x0 : Nat) (x1 : Option Nat) (x2 : Int32) (G : GM) : Prop := gGI G 40 (some x0) (fun v3 => gPF G 40 (some x0) (.int (v3 + (1 : Int32))) (fun G4 => gGI G4 42 (some x0) (fun v5 => if (v5 - (1 : Int32)) ≤ x2 then (w_J2_fastRemove_34 V Q x0 x1 (v5 - (1 : Int32)) G4) else (gCR G4 x1 (x2 + (1 : Int32)) x1 x2 ((v5 - (1 : Int32)) - x2) (fun G6 => w_J2_fastRemove_34 V Q x0 x1 (v5 - (1 : Int32)) G6)))))
set_option maxRecDepth 100000 in
set_option maxHeartbeats 4000000 in
theorem wk_J2_fastRemove {p : Program} {l : Launch} {e : Env} {R : Room} {s : State} {m : MethodId} {args : Array Value} {below : List Frame} {meth : Method} {c : Code} {cells slots : Nat} {Z : State → Prop} {A : Nat → Prop} {V : XV} (Q : GM → Prop) (C : xC p m c s args cJ2_fastRemove 4 RJ2 V A) (hRf : 1 ≤ R.frames) (hRl : 60 ≤ R.locals) (hcs : cells ≤ R.cells ∧ slots ≤ R.slots) (G : GM) (hret : ∀ (G : GM) (pc : Nat) (ls : Array Slot) (H : Heap) (locs : List Loc), decode cJ2_fastRemove pc = .ok (.return_, 1) → xW V A G H → va_S A s.heap H locs → Q G → W p l e R s m args below meth c H locs cells slots Z (F0 m pc ls [])) (x0 : Nat) (x1 : Option Nat) (x2 : Int32) : w_J2_fastRemove V Q x0 x1 x2 G → ∀ (ls : Array Slot) (H : Heap) (locs : List Loc), lv_has ls 4 [(0, va_rf (some x0)), (1, va_rf x1), (2, .int x2)] → xW V A G H → va_S A s.heap H locs → W p l e R s m args below meth c H locs cells slots Z (F0 m 0 ls []) := by
  have hx := C.1.1; have hb := C.1.2.1; have hml := C.1.2.2.1; have hown := C.1.2.2.2.1; have hts := C.1.2.2.2.2
  have hb34 : ∀ (x3 : Int32) (G : GM), w_J2_fastRemove_34 V Q x0 x1 x3 G → ∀ (ls : Array Slot) (H : Heap) (locs : List Loc), lv_has ls 4 [(0, va_rf (some x0)), (1, va_rf x1), (3, .int x3)] → xW V A G H → va_S A s.heap H locs → W p l e R s m args below meth c H locs cells slots Z (F0 m 34 ls []) := by
    intro x3 G h
    intro ls H locs hl hW hS
    refine sh_aload_n hx hb dJ2_fastRemove_34 rfl (lv_at hl 1 rfl) ?_
    refine sh_aload_n hx hb dJ2_fastRemove_35 rfl (lv_at hl 0 rfl) ?_
    refine lv_iload_n hx hb dJ2_fastRemove_36 rfl (lv_at hl 2 rfl) ?_
    refine lv_dup_x1 hx hb dJ2_fastRemove_37 rfl (va_rf_cat _) ?_
    refine sh_put C hW hS xFb_42 q127 (fun _ h => h) xFd_42 rfl rfl h dJ2_fastRemove_38 (fun G1 H locs hW hS h => ?_)
    refine sh_null hx hb dJ2_fastRemove_41 ?_
    refine sh_aast C hW hS h dJ2_fastRemove_42 (fun G2 H locs hW hS h => ?_)
    exact hret _ _ _ _ _ dJ2_fastRemove_43 hW hS h
  intro h
  intro ls H locs hl hW hS
  refine sh_aload_n hx hb dJ2_fastRemove_0 rfl (lv_at hl 0 rfl) ?_
  refine lv_dup hx hb dJ2_fastRemove_1 (va_rf_cat _) ?_
  obtain ⟨v3, h1, h⟩ := h
  refine sh_get C hW xFb_40 q129 (u_same (hts _ q130)) h1 dJ2_fastRemove_2 ?_
  refine lv_iconst (v := 1) hx hb dJ2_fastRemove_5 (by decide) ?_
  refine lv_iadd hx hb dJ2_fastRemove_6 ?_
  refine sh_put C hW hS xFb_40 q129 (u_same (hts _ q130)) xFd_40 rfl rfl h dJ2_fastRemove_7 (fun G4 H locs hW hS h => ?_)
  refine sh_aload_n hx hb dJ2_fastRemove_10 rfl (lv_at hl 0 rfl) ?_
  obtain ⟨v5, h1, h⟩ := h
  refine sh_get C hW xFb_42 q127 (fun _ h => h) h1 dJ2_fastRemove_11 ?_
  refine lv_iconst (v := 1) hx hb dJ2_fastRemove_14 (by decide) ?_
  refine lv_isub hx hb dJ2_fastRemove_15 ?_
  refine lv_dup hx hb dJ2_fastRemove_16 rfl ?_
  refine lv_istore_n (lv' := [(3, .int (v5 - (1 : Int32))), (0, va_rf (some x0)), (1, va_rf x1), (2, .int x2)]) hx hb dJ2_fastRemove_17 rfl hl (by decide) rfl (fun ls hl => ?_)
  refine lv_iload_n hx hb dJ2_fastRemove_18 rfl (lv_at hl 3 rfl) ?_
  refine lv_icmp_le (tgt := 34) hx hb dJ2_fastRemove_19 (by decide) (fun c7 => ?_) (fun c7 => ?_)
  · have h := wif_t h c7
    exact hb34 _ _ h ls H locs (lv_sub hl [1, 2, 0] rfl) hW hS
  · have h := wif_f h c7
    refine sh_aload_n hx hb dJ2_fastRemove_22 rfl (lv_at hl 2 rfl) ?_
    refine lv_iload_n hx hb dJ2_fastRemove_23 rfl (lv_at hl 3 rfl) ?_
    refine lv_iconst (v := 1) hx hb dJ2_fastRemove_24 (by decide) ?_
    refine lv_iadd hx hb dJ2_fastRemove_25 ?_
    refine sh_aload_n hx hb dJ2_fastRemove_26 rfl (lv_at hl 2 rfl) ?_
    refine lv_iload_n hx hb dJ2_fastRemove_27 rfl (lv_at hl 3 rfl) ?_
    refine lv_iload_n hx hb dJ2_fastRemove_28 rfl (lv_at hl 0 rfl) ?_
    refine lv_iload_n hx hb dJ2_fastRemove_29 rfl (lv_at hl 3 rfl) ?_
    refine lv_isub hx hb dJ2_fastRemove_30 ?_
    refine sh_copyR C hW hS q1124 q303 q302 q77 hl.1 (le_lit hRf rfl) (Nat.le_trans (show _ ≤ 60 by first | decide | (simp [va_rf_cat, Value.category]; decide)) (le_lit hRl rfl)) h dJ2_fastRemove_31 (fun G6 H locs hW hS h => ?_)
    exact hb34 _ _ h ls H locs (lv_sub hl [1, 2, 0] rfl) hW hS
theorem ct_J2_fastRemove (l : Launch) : CT_J2_fastRemove l 1 60 w_J2_fastRemove := by
  intro V sz G Q x0 x1 x2
  refine Met.ofW (cc := cJ2_fastRemove) (maxL := 4) (ret := none) (by decide) rfl ?_
  intro p e s m args below meth c s₁ B hml hv
  obtain ⟨rfl, hsz, hW, hK, hZ, h⟩ := hv
  subst hsz
  have hts := atoms_spec (ws := (ws_ yJ2_fastRemove cJ2_fastRemove 4 none)) B.pre
  have hts : ∀ w ∈ lw_all, w.before _ s = true := fun w h => hts w (List.mem_cons_of_mem _ h)
  have key : ∃ ls : Array Slot, entryFrame m ([.ref x0, va_rf x1, .int x2] : List Value).toArray 4 = F0 m 0 ls [] ∧ lv_has ls 4 [(0, va_rf (some x0)), (1, va_rf x1), (2, .int x2)] := by
    cases x1 <;> (refine ⟨_, by rw [lg_entry_eq], ?_⟩; exact lv_entry _ (Nat.le_of_ble_eq_true rfl))
  obtain ⟨ls, hfr, hl⟩ := key
  rw [hfr]
  exact wk_J2_fastRemove Q ⟨⟨B.exec, B.bytes, hml, findClass_of_methodNamed B.named, hts⟩, hK, hZ, fun q h => Or.inr h⟩ (Nat.le_refl _) (Nat.le_refl _) ⟨Nat.le_refl _, Nat.le_refl _⟩ G (fun G pc ls H locs hd hW1 hS hQ => W.vret B.exec B.bytes B.returns (fun t ht _ => ⟨⟨G, rfl, hQ, by rw [← ht] at hW1; exact hW1⟩, hS.F ht⟩) hS.2.2 hd) x0 x1 x2 h ls _ [] hl hW va_S.rf
def CT_J2_remove (l : Launch) (fr lo : Nat) (w : XV → (Int32 → GM → Prop) → Nat → (Option Nat) → GM → Prop) : Prop := ∀ (V : XV) (sz : Nat) (G : GM) (Q : Int32 → GM → Prop) (x0 : Nat) (x1 : Option Nat), Met l yJ2_remove (ws_ yJ2_remove cJ2_remove 5 (some .boolean)) { frames := fr, cells := 0, slots := 0, locals := lo } (va_Pc [.ref x0, va_rf x1] (fun U => U.heap.size = sz ∧ xW V (xA G sz) G U.heap ∧ xK V U ∧ xZ V (xA G sz) U U.heap ∧ w V Q x0 x1 G)) (va_Qi (fun r (u : GM) => Q r u) (fun u t => xW V (xA G sz) u t.heap) (xA G sz)) 0 0 (xA G sz)
theorem call_J2_remove_F15_List {p : Program} {l : Launch} {e : Env} {R : Room} {s : State} {m : MethodId} {args : Array Value} {below : List Frame} {meth : Method} {c : Code} {H : Heap} {locs : List Loc} {cells slots : Nat} {Z : State → Prop} {A : Nat → Prop} {cc : ByteArray} {nL pc : Nat} {ls : Array Slot} {rest : List Value} {own : String} {index fr lo : Nat} {w : XV → (Int32 → GM → Prop) → Nat → (Option Nat) → GM → Prop} {V : XV} {G : GM} {count : Nat} {o : Option Nat} {ci : Nat} {x0 : Nat} {x1 : Option Nat} (hM : CT_J2_remove l fr lo w) (C : xC p m c s args cc nL own V A) (hW : xW V A G H) (hS : va_S A s.heap H locs) (hlink : Cond.methodLink own index ⟨"java/util/List", "remove", "(Ljava/lang/Object;)Z"⟩ ∈ lw_all) (ho : o = some x0) (hcv : gCi G (some x0) = some ci) (hci : ci % 64 = 15) (hRf : fr + 1 ≤ R.frames) (hRl : 8 + (5 + 11) + lo ≤ R.locals) (hcs : cells ≤ R.cells ∧ slots ≤ R.slots) (hz : ls.size = nL) (hr8 : (rest.map fun v => v.category).sum ≤ 8) (hdg : decode cc pc = .ok (.invokeinterface index count, 5)) {Q1 : Int32 → GM → Prop} (h : w V Q1 x0 x1 G) (kk : ∀ (r : Int32) (G1 : GM) (H1 : Heap) (locs1 : List Loc), Q1 r G1 → xW V A G1 H1 → va_S A s.heap H1 locs1 → xFr V G G1 H H1 → W p l e R s m args below meth c H1 locs1 cells slots Z (F0 m (pc + 5) ls (.int r :: rest))) : W p l e R s m args below meth c H locs cells slots Z (F0 m pc ls (va_rf x1 :: va_rf o :: rest)) := by
  subst ho
  obtain ⟨fs, hG⟩ := gCi_of hcv
  exact rg_i5w (va_runF (As := [va_rf x1]) (rest := rest) (C.2.1.1 15 _ rfl).2 C.1 (hM V H.size G Q1 x0 x1) (va_cwF (C := "java/util/ArrayList") 1 C.1.2.2.2.2 (lw_F hlink q1081 q1083 q62 q1085) rfl rfl rfl (C.2.1.2.2.2.1 "java/util/ArrayList" ⟨"java/util/List", "remove", "(Ljava/lang/Object;)Z"⟩ yJ2_remove ⟨by decide, q1080, q1079, q1084, q1082, q228⟩) (by decide +kernel) ⟨hRf, hRl⟩) ⟨fun a U g mk q => by obtain ⟨q0, q1, qW, qK, qZ, qw⟩ := q; exact ⟨q0, q1, qW, xK.same (u := U) (U := U.calling g mk a) rfl qK, xZ.moved (u := U) (U := U.calling g mk a) (Vm.Alike.refl U.vm) qZ, qw⟩, (hW.recv C.2.1 hG (r := (RJ2, TJ2, 3)) (by rw [hci]; rfl)), fun U hU hWm => ⟨rfl, by rw [hU], by rw [hU]; exact hW.self _, C.2.1.warm hWm, xZ.call C.2.2.1 hW hS C.2.2.2 hU hWm.alike, h⟩⟩ rfl rfl hz rfl (lv_room hr8) hdg hcs) hW hS C.2.2.2 (fun r G1 H1 locs1 hp hW1 hS1 hF1 => kk r G1 H1 locs1 hp hW1 hS1 hF1)
def w_J2_remove_67 (V : XV) (Q : Int32 → GM → Prop) (x0 : Nat) (x2 : Option Nat) (x4 : Int32) (G : GM) : Prop := gRcv G (some x0) (fun a1 c2 => (c2 % 64 = 15) ∧ (w_J2_fastRemove V (fun G3 => Q (1 : Int32) G3) a1 x2 x4 G))
def w_J2_remove_h39 (V : XV) (Q : Int32 → GM → Prop) (x0 : Nat) (x1 : Option Nat) (x2 : Option Nat) (x3 : Int32) (G : GM) (rec39 : Int32 → Prop) (x4 : Int32) : Prop := if x3 ≤ x4 then (Q (0 : Int32) G) else (gRL G x2 x4 (fun v4 => gRcv G x1 (fun a5 c6 => (c6 % 64 = 16 ∨ c6 % 64 = 0 ∨ c6 % 64 = 12 ∨ c6 % 64 = 5 ∨ c6 % 64 = 6 ∨ c6 % 64 = 8 ∨ c6 % 64 = 9 ∨ c6 % 64 = 10 ∨ c6 % 64 = 11 ∨ c6 % 64 = 13 ∨ c6 % 64 = 14 ∨ c6 % 64 = 1 ∨ c6 % 64 = 18 ∨ c6 % 64 = 2 ∨ c6 % 64 = 3 ∨ c6 % 64 = 7 ∨ c6 % 64 = 4) ∧ (w_J24_equals V (fun r7 => if r7 = 0 then (rec39 (x4 + (1 : Int32))) else (w_J2_remove_67 V Q x0 x2 x4 G)) a5 v4 G))))
def w_J2_remove_L39 (V : XV) (Q : Int32 → GM → Prop) (x0 : Nat) (x1 : Option Nat) (x2 : Option Nat) (x3 : Int32) (G : GM) (x4 : Int32) : Prop := wLoop (fun (rec : Int32 → Prop) (s : Int32) => w_J2_remove_h39 V Q x0 x1 x2 x3 G (fun x4 => rec x4) s) x4
def w_J2_remove_h17 (V : XV) (Q : Int32 → GM → Prop) (x0 : Nat) (x2 : Option Nat) (x3 : Int32) (G : GM) (rec17 : Int32 → Prop) (x4 : Int32) : Prop := if x3 ≤ x4 then (Q (0 : Int32) G) else (gRL G x2 x4 (fun v10 => if v10 = none then (w_J2_remove_67 V Q x0 x2 x4 G) else (rec17 (x4 + (1 : Int32)))))
def w_J2_remove_L17 (V : XV) (Q : Int32 → GM → Prop) (x0 : Nat) (x2 : Option Nat) (x3 : Int32) (G : GM) (x4 : Int32) : Prop := wLoop (fun (rec : Int32 → Prop) (s : Int32) => w_J2_remove_h17 V Q x0 x2 x3 G (fun x4 => rec x4) s) x4
def w_J2_remove (V : XV) (Q : Int32 → GM → Prop) (x0 : Nat) (x1 : Option Nat) (G : GM) : Prop := gGR G 41 (some x0) (fun v13 => gGI G 42 (some x0) (fun v14 => if x1 = none then (w_J2_remove_L17 V Q x0 v13 v14 G (0 : Int32)) else (w_J2_remove_L39 V Q x0 x1 v13 v14 G (0 : Int32))))
set_option maxRecDepth 100000 in
set_option maxHeartbeats 4000000 in
theorem wk_J2_remove {p : Program} {l : Launch} {e : Env} {R : Room} {s : State} {m : MethodId} {args : Array Value} {below : List Frame} {meth : Method} {c : Code} {cells slots : Nat} {Z : State → Prop} {A : Nat → Prop} {V : XV} (Q : Int32 → GM → Prop) (C : xC p m c s args cJ2_remove 5 RJ2 V A) (hRf : 2 ≤ R.frames) (hRl : 83 ≤ R.locals) (hcs : cells ≤ R.cells ∧ slots ≤ R.slots) (G : GM) (hret : ∀ (v : Int32) (G : GM) (pc : Nat) (ls : Array Slot) (H : Heap) (locs : List Loc), decode cJ2_remove pc = .ok (.ireturn, 1) → xW V A G H → va_S A s.heap H locs → isZ v → Q v G → W p l e R s m args below meth c H locs cells slots Z (F0 m pc ls [.int v])) (x0 : Nat) (x1 : Option Nat) : w_J2_remove V Q x0 x1 G → ∀ (ls : Array Slot) (H : Heap) (locs : List Loc), lv_has ls 5 [(0, va_rf (some x0)), (1, va_rf x1)] → xW V A G H → va_S A s.heap H locs → W p l e R s m args below meth c H locs cells slots Z (F0 m 0 ls []) := by
  have hx := C.1.1; have hb := C.1.2.1; have hml := C.1.2.2.1; have hown := C.1.2.2.2.1; have hts := C.1.2.2.2.2
  have hb67 : ∀ (x2 : Option Nat) (x4 : Int32) (G : GM), w_J2_remove_67 V Q x0 x2 x4 G → ∀ (ls : Array Slot) (H : Heap) (locs : List Loc), lv_has ls 5 [(0, va_rf (some x0)), (2, va_rf x2), (4, .int x4)] → xW V A G H → va_S A s.heap H locs → W p l e R s m args below meth c H locs cells slots Z (F0 m 67 ls []) := by
    intro x2 x4 G h
    intro ls H locs hl hW hS
    refine sh_aload_n hx hb dJ2_remove_67 rfl (lv_at hl 0 rfl) ?_
    refine sh_aload_n hx hb dJ2_remove_68 rfl (lv_at hl 1 rfl) ?_
    refine lv_iload hx hb dJ2_remove_69 (lv_at hl 2 rfl) ?_
    obtain ⟨a1, c2, ho71, hcv71, h⟩ := h
    have hcc := h.1
    have h := h.2
    refine call_J2_fastRemove_V (ct_J2_fastRemove l) C hW hS q1120 ho71 hcv71 hcc (le_lit hRf rfl) (le_lit hRl rfl) hcs hl.1 (Nat.le_of_ble_eq_true rfl) dJ2_remove_71 h (fun G3 H locs h hW hS _ => ?_)
    refine lv_iconst (v := 1) hx hb dJ2_remove_74 (by decide) ?_
    exact hret _ _ _ _ _ _ dJ2_remove_75 hW hS isZ_1 h
  have hL39 : ∀ (x2 : Option Nat) (x3 : Int32) (G : GM) (x4 : Int32), w_J2_remove_L39 V Q x0 x1 x2 x3 G x4 → ∀ (ls : Array Slot) (H : Heap) (locs : List Loc), lv_has ls 5 [(0, va_rf (some x0)), (1, va_rf x1), (2, va_rf x2), (3, .int x3), (4, .int x4)] → xW V A G H → va_S A s.heap H locs → W p l e R s m args below meth c H locs cells slots Z (F0 m 39 ls []) := by
    intro x2 x3 G
    obtain ⟨GG39, hG39⟩ : ∃ GG : Int32 → Prop, ∀ (x4 : Int32), GG x4 ↔ (∀ (ls : Array Slot) (H : Heap) (locs : List Loc), lv_has ls 5 [(0, va_rf (some x0)), (1, va_rf x1), (2, va_rf x2), (3, .int x3), (4, .int x4)] → xW V A G H → va_S A s.heap H locs → W p l e R s m args below meth c H locs cells slots Z (F0 m 39 ls [])) := ⟨fun x4 => _, fun x4 => Iff.rfl⟩
    have hB39 : ∀ (rec39 : Int32 → Prop), (∀ (x4 : Int32), rec39 x4 → GG39 x4) → ∀ (x4 : Int32), w_J2_remove_h39 V Q x0 x1 x2 x3 G rec39 x4 → GG39 x4 := by
      intro rec39 hrec39
      intro x4 h
      rw [hG39]
      intro ls H locs hl hW hS
      refine lv_iload hx hb dJ2_remove_39 (lv_at hl 4 rfl) ?_
      refine lv_iload_n hx hb dJ2_remove_41 rfl (lv_at hl 3 rfl) ?_
      refine lv_icmp_ge (tgt := 65) hx hb dJ2_remove_42 (by decide) (fun c9 => ?_) (fun c9 => ?_)
      · have h := wif_t h c9
        refine lv_iconst (v := 0) hx hb dJ2_remove_65 (by decide) ?_
        exact hret _ _ _ _ _ _ dJ2_remove_66 hW hS isZ_0 h
      · have h := wif_f h c9
        refine sh_aload_n hx hb dJ2_remove_45 rfl (lv_at hl 1 rfl) ?_
        refine sh_aload_n hx hb dJ2_remove_46 rfl (lv_at hl 2 rfl) ?_
        refine lv_iload hx hb dJ2_remove_47 (lv_at hl 4 rfl) ?_
        refine sh_aald C hW h dJ2_remove_49 (fun v4 h => ?_)
        obtain ⟨a5, c6, ho50, hcv50, h⟩ := h
        have hcc := h.1
        have h := h.2
        refine call_J24_equals_U0_1_2_3_4_5_6_7_8_9_10_11_12_13_14_16_18_Object (ct_J24_equals l) C hW hS q1087 ho50 hcv50 hcc (le_lit hRf rfl) (le_lit hRl rfl) hcs hl.1 (Nat.le_of_ble_eq_true rfl) dJ2_remove_50 h (fun r7 H locs h hW hS _ => ?_)
        refine lv_if_eq (tgt := 59) hx hb dJ2_remove_53 (by decide) (fun c8 => ?_) (fun c8 => ?_)
        · have h := wif_t h c8
          refine lv_iinc (v := x4 + (1 : Int32)) (lv' := [(4, .int (x4 + (1 : Int32))), (0, va_rf (some x0)), (1, va_rf x1), (2, va_rf x2), (3, .int x3)]) hx hb dJ2_remove_59 hl (k := 4) rfl (congrArg (fun z => x4 + z) (by decide)) (by decide) rfl (fun ls hl => ?_)
          refine lv_goto (tgt := 39) hx hb dJ2_remove_62 (by decide) ?_
          exact (hG39 _).mp (hrec39 _ h) ls H locs (lv_sub hl [1, 2, 3, 4, 0] rfl) hW hS
        · have h := wif_f h c8
          refine lv_goto (tgt := 67) hx hb dJ2_remove_56 (by decide) ?_
          exact hb67 _ _ _ h ls H locs (lv_sub hl [0, 2, 4] rfl) hW hS
    intro x4 h
    exact (hG39 x4).mp (loop_walk (fun s => GG39 s) (fun rec hrec s h => hB39 (fun x4 => rec x4) (fun x4 h => hrec x4 h) s h) x4 h)
  have hL17 : ∀ (x2 : Option Nat) (x3 : Int32) (G : GM) (x4 : Int32), w_J2_remove_L17 V Q x0 x2 x3 G x4 → ∀ (ls : Array Slot) (H : Heap) (locs : List Loc), lv_has ls 5 [(0, va_rf (some x0)), (2, va_rf x2), (3, .int x3), (4, .int x4)] → xW V A G H → va_S A s.heap H locs → W p l e R s m args below meth c H locs cells slots Z (F0 m 17 ls []) := by
    intro x2 x3 G
    obtain ⟨GG17, hG17⟩ : ∃ GG : Int32 → Prop, ∀ (x4 : Int32), GG x4 ↔ (∀ (ls : Array Slot) (H : Heap) (locs : List Loc), lv_has ls 5 [(0, va_rf (some x0)), (2, va_rf x2), (3, .int x3), (4, .int x4)] → xW V A G H → va_S A s.heap H locs → W p l e R s m args below meth c H locs cells slots Z (F0 m 17 ls [])) := ⟨fun x4 => _, fun x4 => Iff.rfl⟩
    have hB17 : ∀ (rec17 : Int32 → Prop), (∀ (x4 : Int32), rec17 x4 → GG17 x4) → ∀ (x4 : Int32), w_J2_remove_h17 V Q x0 x2 x3 G rec17 x4 → GG17 x4 := by
      intro rec17 hrec17
      intro x4 h
      rw [hG17]
      intro ls H locs hl hW hS
      refine lv_iload hx hb dJ2_remove_17 (lv_at hl 3 rfl) ?_
      refine lv_iload_n hx hb dJ2_remove_19 rfl (lv_at hl 2 rfl) ?_
      refine lv_icmp_ge (tgt := 65) hx hb dJ2_remove_20 (by decide) (fun c12 => ?_) (fun c12 => ?_)
      · have h := wif_t h c12
        refine lv_iconst (v := 0) hx hb dJ2_remove_65 (by decide) ?_
        exact hret _ _ _ _ _ _ dJ2_remove_66 hW hS isZ_0 h
      · have h := wif_f h c12
        refine sh_aload_n hx hb dJ2_remove_23 rfl (lv_at hl 1 rfl) ?_
        refine lv_iload hx hb dJ2_remove_24 (lv_at hl 3 rfl) ?_
        refine sh_aald C hW h dJ2_remove_26 (fun v10 h => ?_)
        refine sh_ifnonnull (tgt := 33) hx hb dJ2_remove_27 (by decide) (fun c11 => ?_) (fun c11 => ?_)
        · have h := wif_f h c11
          refine lv_iinc (v := x4 + (1 : Int32)) (lv' := [(4, .int (x4 + (1 : Int32))), (0, va_rf (some x0)), (2, va_rf x2), (3, .int x3)]) hx hb dJ2_remove_33 hl (k := 3) rfl (congrArg (fun z => x4 + z) (by decide)) (by decide) rfl (fun ls hl => ?_)
          refine lv_goto (tgt := 17) hx hb dJ2_remove_36 (by decide) ?_
          exact (hG17 _).mp (hrec17 _ h) ls H locs (lv_sub hl [1, 2, 3, 0] rfl) hW hS
        · have h := wif_t h c11
          refine lv_goto (tgt := 67) hx hb dJ2_remove_30 (by decide) ?_
          exact hb67 _ _ _ h ls H locs (lv_sub hl [0, 1, 3] rfl) hW hS
    intro x4 h
    exact (hG17 x4).mp (loop_walk (fun s => GG17 s) (fun rec hrec s h => hB17 (fun x4 => rec x4) (fun x4 h => hrec x4 h) s h) x4 h)
  intro h
  intro ls H locs hl hW hS
  refine sh_aload_n hx hb dJ2_remove_0 rfl (lv_at hl 0 rfl) ?_
  obtain ⟨v13, h1, h⟩ := h
  refine sh_get C hW xFb_41 q126 (fun _ h => h) h1 dJ2_remove_1 ?_
  refine sh_astore_n (lv' := [(2, va_rf v13), (0, va_rf (some x0)), (1, va_rf x1)]) hx hb dJ2_remove_4 rfl hl (by decide) (by simp only [List.filter_cons, List.filter_nil, va_rf_cat]; rfl) (fun ls hl => ?_)
  refine sh_aload_n hx hb dJ2_remove_5 rfl (lv_at hl 1 rfl) ?_
  obtain ⟨v14, h1, h⟩ := h
  refine sh_get C hW xFb_42 q127 (fun _ h => h) h1 dJ2_remove_6 ?_
  refine lv_istore_n (lv' := [(3, .int v14), (2, va_rf v13), (0, va_rf (some x0)), (1, va_rf x1)]) hx hb dJ2_remove_9 rfl hl (by decide) (by simp only [List.filter_cons, List.filter_nil, va_rf_cat]; rfl) (fun ls hl => ?_)
  refine lv_iconst (v := 0) hx hb dJ2_remove_10 (by decide) ?_
  refine lv_istore (lv' := [(4, .int (0 : Int32)), (3, .int v14), (2, va_rf v13), (0, va_rf (some x0)), (1, va_rf x1)]) hx hb dJ2_remove_11 hl (by decide) rfl (fun ls hl => ?_)
  refine sh_aload_n hx hb dJ2_remove_13 rfl (lv_at hl 4 rfl) ?_
  refine sh_ifnonnull (tgt := 39) hx hb dJ2_remove_14 (by decide) (fun c15 => ?_) (fun c15 => ?_)
  · have h := wif_f h c15
    exact hL39 _ _ _ _ h ls H locs (lv_sub hl [3, 4, 2, 1, 0] rfl) hW hS
  · have h := wif_t h c15
    exact hL17 _ _ _ _ h ls H locs (lv_sub hl [3, 2, 1, 0] rfl) hW hS
theorem ct_J2_remove (l : Launch) : CT_J2_remove l 2 83 w_J2_remove := by
  intro V sz G Q x0 x1
  refine Met.ofW (cc := cJ2_remove) (maxL := 5) (ret := (some .boolean)) (by decide) rfl ?_
  intro p e s m args below meth c s₁ B hml hv
  obtain ⟨rfl, hsz, hW, hK, hZ, h⟩ := hv
  subst hsz
  have hts := atoms_spec (ws := (ws_ yJ2_remove cJ2_remove 5 (some .boolean))) B.pre
  have hts : ∀ w ∈ lw_all, w.before _ s = true := fun w h => hts w (List.mem_cons_of_mem _ h)
  have key : ∃ ls : Array Slot, entryFrame m ([.ref x0, va_rf x1] : List Value).toArray 5 = F0 m 0 ls [] ∧ lv_has ls 5 [(0, va_rf (some x0)), (1, va_rf x1)] := by
    cases x1 <;> (refine ⟨_, by rw [lg_entry_eq], ?_⟩; exact lv_entry _ (Nat.le_of_ble_eq_true rfl))
  obtain ⟨ls, hfr, hl⟩ := key
  rw [hfr]
  exact wk_J2_remove Q ⟨⟨B.exec, B.bytes, hml, findClass_of_methodNamed B.named, hts⟩, hK, hZ, fun q h => Or.inr h⟩ (Nat.le_refl _) (Nat.le_refl _) ⟨Nat.le_refl _, Nat.le_refl _⟩ G (fun v G pc ls H locs hd hW1 hS hz hQ => W.zret (v := v) B.exec B.bytes B.returns hz.nar (fun t ht _ => ⟨⟨v, G, rfl, hQ, by rw [← ht] at hW1; exact hW1⟩, hS.F ht⟩) hS.2.2 hd) x0 x1 h ls _ [] hl hW va_S.rf
