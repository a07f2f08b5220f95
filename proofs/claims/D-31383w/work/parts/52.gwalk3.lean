def CT_J4_append_2 (l : Launch) (fr lo : Nat) (w : XV → (Option Nat → GM → Prop) → Nat → Int32 → GM → Nat → Nat → Prop) : Prop := ∀ (V : XV) (sz : Nat) (G : GM) (Q : Option Nat → GM → Prop) (x0 : Nat) (x1 : Int32) (kc ks : Nat), Met l yJ4_append_2 (ws_ yJ4_append_2 cJ4_append_2 2 (some (.object "java/lang/StringBuilder"))) { frames := fr, cells := kc, slots := ks, locals := lo } (va_Pc [.ref x0, .int x1] (fun U => U.heap.size = sz ∧ xW V (xA G sz) G U.heap ∧ xK V U ∧ xZ V (xA G sz) U U.heap ∧ w V Q x0 x1 G kc ks)) (va_Qq (fun r (u : GM) => Q r u) (fun u t => xW V (xA G sz) u t.heap) (xA G sz)) kc ks (xA G sz)
theorem call_J4_append_2_V {p : Program} {l : Launch} {e : Env} {R : Room} {s : State} {m : MethodId} {args : Array Value} {below : List Frame} {meth : Method} {c : Code} {H : Heap} {locs : List Loc} {cells slots : Nat} {Z : State → Prop} {A : Nat → Prop} {cc : ByteArray} {nL pc : Nat} {ls : Array Slot} {rest : List Value} {own : String} {index fr lo : Nat} {w : XV → (Option Nat → GM → Prop) → Nat → Int32 → GM → Nat → Nat → Prop} {V : XV} {G : GM} {o : Option Nat} {ci : Nat} {kc ks c1 s1 : Nat} {x0 : Nat} {x1 : Int32} (hM : CT_J4_append_2 l fr lo w) (C : xC p m c s args cc nL own V A) (hW : xW V A G H) (hS : va_S A s.heap H locs) (hlink : Cond.methodLink own index yJ4_append_2 ∈ lw_all) (ho : o = some x0) (hcv : gCi G (some x0) = some ci) (hci : ci % 64 = 16) (hRf : fr + 1 ≤ R.frames) (hRl : 8 + (2 + 11) + lo ≤ R.locals) (hc1 : c1 ≤ kc) (hs1 : s1 ≤ ks) (hkc : cells + kc ≤ R.cells) (hks : slots + ks ≤ R.slots) (hz : ls.size = nL) (hr8 : (rest.map fun v => v.category).sum ≤ 8) (hdg : decode cc pc = .ok (.invokevirtual index, 3)) {Q1 : Option Nat → GM → Prop} (h : w V Q1 x0 x1 G c1 s1) (kk : ∀ (r : Option Nat) (G1 : GM) (H1 : Heap) (locs1 : List Loc), Q1 r G1 → xW V A G1 H1 → va_S A s.heap H1 locs1 → xFr V G G1 H H1 → (cells + c1) + (kc - c1) ≤ R.cells → (slots + s1) + (ks - s1) ≤ R.slots → W p l e R s m args below meth c H1 locs1 (cells + c1) (slots + s1) Z (F0 m (pc + 3) ls (va_rf r :: rest))) : W p l e R s m args below meth c H locs cells slots Z (F0 m pc ls (.int x1 :: va_rf o :: rest)) := by
  subst ho
  obtain ⟨fs, hG⟩ := gCi_of hcv
  exact rg_q3w (va_runV (As := [.int x1]) (rest := rest) C.1 (hM V H.size G Q1 x0 x1 c1 s1) (cwV 1 C.1.2.2.2.2 (lw_V hlink q379 q380 q64 q381) rfl rfl rfl (by decide +kernel) ⟨hRf, hRl⟩) ⟨fun a U g mk q => by obtain ⟨q0, q1, qW, qK, qZ, qw⟩ := q; exact ⟨q0, q1, qW, xK.same (u := U) (U := U.calling g mk a) rfl qK, xZ.moved (u := U) (U := U.calling g mk a) (Vm.Alike.refl U.vm) qZ, qw⟩, (hW.recv C.2.1 hG (r := (RJ4, TJ4, 4)) (by rw [hci]; rfl)), fun U hU hWm => ⟨rfl, by rw [hU], by rw [hU]; exact hW.self _, C.2.1.warm hWm, xZ.call C.2.2.1 hW hS C.2.2.2 hU hWm.alike, h⟩⟩ rfl rfl hz rfl (lv_room hr8) hdg ⟨by omega, by omega⟩) hW hS C.2.2.2 (fun r G1 H1 locs1 hp hW1 hS1 hF1 => kk r G1 H1 locs1 hp hW1 hS1 hF1 (by omega) (by omega))
def w_J4_append_2 (V : XV) (Q : Option Nat → GM → Prop) (x0 : Nat) (x1 : Int32) (G : GM) (kc : Nat) (ks : Nat) : Prop := gRcv G (some x0) (fun a1 c2 => (c2 % 64 = 16) ∧ (∃ c5 s6 : Nat, c5 ≤ kc ∧ s6 ≤ ks ∧ (w_J3_append_2 V (fun r3 G4 => Q (some x0) G4) a1 x1 G c5 s6)))
set_option maxRecDepth 100000 in
set_option maxHeartbeats 4000000 in
theorem wk_J4_append_2 {p : Program} {l : Launch} {e : Env} {R : Room} {s : State} {m : MethodId} {args : Array Value} {below : List Frame} {meth : Method} {c : Code} {Z : State → Prop} {A : Nat → Prop} {V : XV} (Q : Option Nat → GM → Prop) (C : xC p m c s args cJ4_append_2 2 RJ4 V A) (hRf : 15 ≤ R.frames) (hRl : 270 ≤ R.locals) (G : GM) (hret : ∀ (v : Option Nat) (G : GM) (pc : Nat) (ls : Array Slot) (H : Heap) (locs : List Loc) (cells slots : Nat) {k1 k2 : Nat}, decode cJ4_append_2 pc = .ok (.areturn, 1) → xW V A G H → va_S A s.heap H locs → cells + k1 ≤ R.cells → slots + k2 ≤ R.slots → Q v G → W p l e R s m args below meth c H locs cells slots Z (F0 m pc ls [va_rf v])) (x0 : Nat) (x1 : Int32) (kc ks : Nat) : w_J4_append_2 V Q x0 x1 G kc ks → ∀ (ls : Array Slot) (H : Heap) (locs : List Loc) (cells slots : Nat), lv_has ls 2 [(0, va_rf (some x0)), (1, .int x1)] → xW V A G H → va_S A s.heap H locs → cells + kc ≤ R.cells → slots + ks ≤ R.slots → W p l e R s m args below meth c H locs cells slots Z (F0 m 0 ls []) := by
  have hx := C.1.1; have hb := C.1.2.1; have hml := C.1.2.2.1; have hown := C.1.2.2.2.1; have hts := C.1.2.2.2.2
  intro h
  intro ls H locs cells slots hl hW hS hkc hks
  refine sh_aload_n hx hb dJ4_append_2_0 rfl (lv_at hl 0 rfl) ?_
  refine lv_iload_n hx hb dJ4_append_2_1 rfl (lv_at hl 1 rfl) ?_
  obtain ⟨a1, c2, ho2, hcv2, h⟩ := h
  have hcc := h.1
  have h := h.2
  obtain ⟨c5, s6, hc2, hs2, h⟩ := h
  refine call_J3_append_2_SU_StringBuilder (ct_J3_append_2 l) C hW hS q382 ho2 hcv2 hcc (le_lit hRf rfl) (le_lit hRl rfl) hc2 hs2 hkc hks hl.1 (Nat.le_of_ble_eq_true rfl) dJ4_append_2_2 h (fun r3 G4 H locs h hW hS _ hkc hks => ?_)
  refine lv_pop hx hb dJ4_append_2_5 (va_rf_cat _) ?_
  refine sh_aload_n hx hb dJ4_append_2_6 rfl (lv_at hl 0 rfl) ?_
  exact hret _ _ _ _ _ _ _ _ dJ4_append_2_7 hW hS hkc hks h
theorem ct_J4_append_2 (l : Launch) : CT_J4_append_2 l 15 270 w_J4_append_2 := by
  intro V sz G Q x0 x1 kc ks
  refine Met.ofW (cc := cJ4_append_2) (maxL := 2) (ret := (some (.object "java/lang/StringBuilder"))) (by decide) rfl ?_
  intro p e s m args below meth c s₁ B hml hv
  obtain ⟨rfl, hsz, hW, hK, hZ, h⟩ := hv
  subst hsz
  have hts := atoms_spec (ws := (ws_ yJ4_append_2 cJ4_append_2 2 (some (.object "java/lang/StringBuilder")))) B.pre
  have hts : ∀ w ∈ lw_all, w.before _ s = true := fun w h => hts w (List.mem_cons_of_mem _ h)
  have hl := lv_entry ([.ref x0, .int x1]) (n := 2) (Nat.le_of_ble_eq_true rfl)
  rw [lg_entry_eq]
  generalize (lg_sl ([.ref x0, .int x1]) ++ List.replicate (2 - (lg_sl ([.ref x0, .int x1])).length) Slot.unset).toArray = ls at hl ⊢
  exact wk_J4_append_2 Q ⟨⟨B.exec, B.bytes, hml, findClass_of_methodNamed B.named, hts⟩, hK, hZ, fun q h => Or.inr h⟩ (Nat.le_refl _) (Nat.le_refl _) G (fun v G pc ls H locs cells slots _ _ hd hW1 hS hkc hks hQ => W.widen (k := kc) (n := ks) (Nat.le_trans (Nat.le_add_right _ _) hkc) (Nat.le_trans (Nat.le_add_right _ _) hks) (W.aret (v := va_rf v) B.exec B.bytes B.returns (Or.inl ⟨_, rfl⟩) (va_rf_or v) (fun t ht _ => ⟨⟨v, G, rfl, hQ, by rw [← ht] at hW1; exact hW1⟩, hS.F ht⟩) hS.2.2 hd)) x0 x1 kc ks h ls _ [] 0 0 hl hW va_S.rf (by show 0 + kc ≤ kc; omega) (by show 0 + ks ≤ ks; omega)
def CT_J4_length (l : Launch) (fr lo : Nat) (w : XV → (Int32 → Prop) → Nat → GM → Prop) : Prop := ∀ (V : XV) (sz : Nat) (G : GM) (Q : Int32 → Prop) (x0 : Nat), Met l yJ4_length (ws_ yJ4_length cJ4_length 1 (some .int)) { frames := fr, cells := 0, slots := 0, locals := lo } (va_Pc [.ref x0] (fun U => U.heap.size = sz ∧ xW V (xA G sz) G U.heap ∧ xK V U ∧ xZ V (xA G sz) U U.heap ∧ w V Q x0 G)) (va_Qi (fun r (u : GM) => u = G ∧ Q r) (fun u t => xW V (xA G sz) u t.heap) (xA G sz)) 0 0 (xA G sz)
theorem call_J4_length_O16_AbstractStringBuilder {p : Program} {l : Launch} {e : Env} {R : Room} {s : State} {m : MethodId} {args : Array Value} {below : List Frame} {meth : Method} {c : Code} {H : Heap} {locs : List Loc} {cells slots : Nat} {Z : State → Prop} {A : Nat → Prop} {cc : ByteArray} {nL pc : Nat} {ls : Array Slot} {rest : List Value} {own : String} {index fr lo : Nat} {w : XV → (Int32 → Prop) → Nat → GM → Prop} {V : XV} {G : GM} {o : Option Nat} {ci : Nat} {x0 : Nat} (hM : CT_J4_length l fr lo w) (C : xC p m c s args cc nL own V A) (hW : xW V A G H) (hS : va_S A s.heap H locs) (hlink : Cond.methodLink own index ⟨"java/lang/AbstractStringBuilder", "length", "()I"⟩ ∈ lw_all) (ho : o = some x0) (hcv : gCi G (some x0) = some ci) (hci : ci % 64 = 16) (hRf : fr + 1 ≤ R.frames) (hRl : 8 + (1 + 11) + lo ≤ R.locals) (hcs : cells ≤ R.cells ∧ slots ≤ R.slots) (hz : ls.size = nL) (hr8 : (rest.map fun v => v.category).sum ≤ 8) (hdg : decode cc pc = .ok (.invokevirtual index, 3)) {Q1 : Int32 → Prop} (h : w V Q1 x0 G) (kk : ∀ (r : Int32) (H1 : Heap) (locs1 : List Loc), Q1 r → xW V A G H1 → va_S A s.heap H1 locs1 → xFr V G G H H1 → W p l e R s m args below meth c H1 locs1 cells slots Z (F0 m (pc + 3) ls (.int r :: rest))) : W p l e R s m args below meth c H locs cells slots Z (F0 m pc ls (va_rf o :: rest)) := by
  subst ho
  obtain ⟨fs, hG⟩ := gCi_of hcv
  exact rg_i3r (va_runU (As := []) (rest := rest) C.1 (hM V H.size G Q1 x0) (va_cwO (C := "java/lang/StringBuilder") 0 C.1.2.2.2.2 (lw_O hlink q423 q422 q424 q425 q64 q426) rfl rfl rfl q428 (by decide +kernel) ⟨hRf, hRl⟩) ⟨fun a U g mk q => by obtain ⟨q0, q1, qW, qK, qZ, qw⟩ := q; exact ⟨q0, q1, qW, xK.same (u := U) (U := U.calling g mk a) rfl qK, xZ.moved (u := U) (U := U.calling g mk a) (Vm.Alike.refl U.vm) qZ, qw⟩, (hW.recv C.2.1 hG (r := (RJ4, TJ4, 4)) (by rw [hci]; rfl)), fun U hU hWm => ⟨rfl, by rw [hU], by rw [hU]; exact hW.self _, C.2.1.warm hWm, xZ.call C.2.2.1 hW hS C.2.2.2 hU hWm.alike, h⟩⟩ rfl rfl hz rfl (lv_room hr8) hdg hcs) hW hS C.2.2.2 (fun r H1 locs1 hp hW1 hS1 hF1 => kk r H1 locs1 hp hW1 hS1 hF1)
theorem call_J4_length_V {p : Program} {l : Launch} {e : Env} {R : Room} {s : State} {m : MethodId} {args : Array Value} {below : List Frame} {meth : Method} {c : Code} {H : Heap} {locs : List Loc} {cells slots : Nat} {Z : State → Prop} {A : Nat → Prop} {cc : ByteArray} {nL pc : Nat} {ls : Array Slot} {rest : List Value} {own : String} {index fr lo : Nat} {w : XV → (Int32 → Prop) → Nat → GM → Prop} {V : XV} {G : GM} {o : Option Nat} {ci : Nat} {x0 : Nat} (hM : CT_J4_length l fr lo w) (C : xC p m c s args cc nL own V A) (hW : xW V A G H) (hS : va_S A s.heap H locs) (hlink : Cond.methodLink own index yJ4_length ∈ lw_all) (ho : o = some x0) (hcv : gCi G (some x0) = some ci) (hci : ci % 64 = 16) (hRf : fr + 1 ≤ R.frames) (hRl : 8 + (1 + 11) + lo ≤ R.locals) (hcs : cells ≤ R.cells ∧ slots ≤ R.slots) (hz : ls.size = nL) (hr8 : (rest.map fun v => v.category).sum ≤ 8) (hdg : decode cc pc = .ok (.invokevirtual index, 3)) {Q1 : Int32 → Prop} (h : w V Q1 x0 G) (kk : ∀ (r : Int32) (H1 : Heap) (locs1 : List Loc), Q1 r → xW V A G H1 → va_S A s.heap H1 locs1 → xFr V G G H H1 → W p l e R s m args below meth c H1 locs1 cells slots Z (F0 m (pc + 3) ls (.int r :: rest))) : W p l e R s m args below meth c H locs cells slots Z (F0 m pc ls (va_rf o :: rest)) := by
  subst ho
  obtain ⟨fs, hG⟩ := gCi_of hcv
  exact rg_i3r (va_runV (As := []) (rest := rest) C.1 (hM V H.size G Q1 x0) (cwV 0 C.1.2.2.2.2 (lw_V hlink q425 q2210 q64 q426) rfl rfl rfl (by decide +kernel) ⟨hRf, hRl⟩) ⟨fun a U g mk q => by obtain ⟨q0, q1, qW, qK, qZ, qw⟩ := q; exact ⟨q0, q1, qW, xK.same (u := U) (U := U.calling g mk a) rfl qK, xZ.moved (u := U) (U := U.calling g mk a) (Vm.Alike.refl U.vm) qZ, qw⟩, (hW.recv C.2.1 hG (r := (RJ4, TJ4, 4)) (by rw [hci]; rfl)), fun U hU hWm => ⟨rfl, by rw [hU], by rw [hU]; exact hW.self _, C.2.1.warm hWm, xZ.call C.2.2.1 hW hS C.2.2.2 hU hWm.alike, h⟩⟩ rfl rfl hz rfl (lv_room hr8) hdg hcs) hW hS C.2.2.2 (fun r H1 locs1 hp hW1 hS1 hF1 => kk r H1 locs1 hp hW1 hS1 hF1)
def w_J4_length (V : XV) (Q : Int32 → Prop) (x0 : Nat) (G : GM) : Prop := gRcv G (some x0) (fun a1 c2 => (c2 % 64 = 16) ∧ (w_J3_length V (fun r3 => Q r3) a1 G))
set_option maxRecDepth 100000 in
set_option maxHeartbeats 4000000 in
theorem wk_J4_length {p : Program} {l : Launch} {e : Env} {R : Room} {s : State} {m : MethodId} {args : Array Value} {below : List Frame} {meth : Method} {c : Code} {cells slots : Nat} {Z : State → Prop} {A : Nat → Prop} {V : XV} (Q : Int32 → Prop) (C : xC p m c s args cJ4_length 1 RJ4 V A) (hRf : 2 ≤ R.frames) (hRl : 40 ≤ R.locals) (hcs : cells ≤ R.cells ∧ slots ≤ R.slots) (G : GM) (hret : ∀ (v : Int32) (pc : Nat) (ls : Array Slot) (H : Heap) (locs : List Loc), decode cJ4_length pc = .ok (.ireturn, 1) → xW V A G H → va_S A s.heap H locs → Q v → W p l e R s m args below meth c H locs cells slots Z (F0 m pc ls [.int v])) (x0 : Nat) : w_J4_length V Q x0 G → ∀ (ls : Array Slot) (H : Heap) (locs : List Loc), lv_has ls 1 [(0, va_rf (some x0))] → xW V A G H → va_S A s.heap H locs → W p l e R s m args below meth c H locs cells slots Z (F0 m 0 ls []) := by
  have hx := C.1.1; have hb := C.1.2.1; have hml := C.1.2.2.1; have hown := C.1.2.2.2.1; have hts := C.1.2.2.2.2
  intro h
  intro ls H locs hl hW hS
  refine sh_aload_n hx hb dJ4_length_0 rfl (lv_at hl 0 rfl) ?_
  obtain ⟨a1, c2, ho1, hcv1, h⟩ := h
  have hcc := h.1
  have h := h.2
  refine call_J3_length_SU_StringBuilder (ct_J3_length l) C hW hS q427 ho1 hcv1 hcc (le_lit hRf rfl) (le_lit hRl rfl) hcs hl.1 (Nat.le_of_ble_eq_true rfl) dJ4_length_1 h (fun r3 H locs h hW hS _ => ?_)
  exact hret _ _ _ _ _ dJ4_length_4 hW hS h
theorem ct_J4_length (l : Launch) : CT_J4_length l 2 40 w_J4_length := by
  intro V sz G Q x0
  refine Met.ofW (cc := cJ4_length) (maxL := 1) (ret := (some .int)) (by decide) rfl ?_
  intro p e s m args below meth c s₁ B hml hv
  obtain ⟨rfl, hsz, hW, hK, hZ, h⟩ := hv
  subst hsz
  have hts := atoms_spec (ws := (ws_ yJ4_length cJ4_length 1 (some .int))) B.pre
  have hts : ∀ w ∈ lw_all, w.before _ s = true := fun w h => hts w (List.mem_cons_of_mem _ h)
  have hl := lv_entry ([.ref x0]) (n := 1) (Nat.le_of_ble_eq_true rfl)
  rw [lg_entry_eq]
  generalize (lg_sl ([.ref x0]) ++ List.replicate (1 - (lg_sl ([.ref x0])).length) Slot.unset).toArray = ls at hl ⊢
  exact wk_J4_length Q ⟨⟨B.exec, B.bytes, hml, findClass_of_methodNamed B.named, hts⟩, hK, hZ, fun q h => Or.inr h⟩ (Nat.le_refl _) (Nat.le_refl _) ⟨Nat.le_refl _, Nat.le_refl _⟩ G (fun v pc ls H locs hd hW1 hS hQ => W.iret (v := v) B.exec B.bytes B.returns (fun t ht _ => ⟨⟨v, G, rfl, ⟨rfl, hQ⟩, by rw [← ht] at hW1; exact hW1⟩, hS.F ht⟩) hS.2.2 hd) x0 h ls _ [] hl hW va_S.rf
def CT_J5_init_2 (l : Launch) (fr lo : Nat) (w : XV → (GM → Prop) → Nat → (Option Nat) → (Option Nat) → GM → Nat → Nat → Prop) : Prop := ∀ (V : XV) (sz : Nat) (G : GM) (Q : GM → Prop) (x0 : Nat) (x1 : Option Nat) (x2 : Option Nat) (kc ks : Nat), Met l yJ5_init_2 (ws_ yJ5_init_2 cJ5_init_2 5 none) { frames := fr, cells := kc, slots := ks, locals := lo } (va_Pc [.ref x0, va_rf x1, va_rf x2] (fun U => U.heap.size = sz ∧ xW V (xA G sz) G U.heap ∧ xK V U ∧ xZ V (xA G sz) U U.heap ∧ w V Q x0 x1 x2 G kc ks)) (va_Qv (fun (u : GM) => Q u) (fun u t => xW V (xA G sz) u t.heap) (xA G sz)) kc ks (xA G sz)
theorem call_J5_init_2_I {p : Program} {l : Launch} {e : Env} {R : Room} {s : State} {m : MethodId} {args : Array Value} {below : List Frame} {meth : Method} {c : Code} {H : Heap} {locs : List Loc} {cells slots : Nat} {Z : State → Prop} {A : Nat → Prop} {cc : ByteArray} {nL pc : Nat} {ls : Array Slot} {rest : List Value} {own : String} {index fr lo : Nat} {w : XV → (GM → Prop) → Nat → (Option Nat) → (Option Nat) → GM → Nat → Nat → Prop} {V : XV} {G : GM} {o : Option Nat} {kc ks c1 s1 : Nat} {x0 : Nat} {x1 : Option Nat} {x2 : Option Nat} (hM : CT_J5_init_2 l fr lo w) (C : xC p m c s args cc nL own V A) (hW : xW V A G H) (hS : va_S A s.heap H locs) (hlink : Cond.methodLink own index yJ5_init_2 ∈ lw_all) (ho : o = some x0) (hRf : fr + 1 ≤ R.frames) (hRl : 8 + (5 + 11) + lo ≤ R.locals) (hc1 : c1 ≤ kc) (hs1 : s1 ≤ ks) (hkc : cells + kc ≤ R.cells) (hks : slots + ks ≤ R.slots) (hz : ls.size = nL) (hr8 : (rest.map fun v => v.category).sum ≤ 8) (hdg : decode cc pc = .ok (.invokespecial index, 3)) {Q1 : GM → Prop} (h : w V Q1 x0 x1 x2 G c1 s1) (kk : ∀ (G1 : GM) (H1 : Heap) (locs1 : List Loc), Q1 G1 → xW V A G1 H1 → va_S A s.heap H1 locs1 → xFr V G G1 H H1 → (cells + c1) + (kc - c1) ≤ R.cells → (slots + s1) + (ks - s1) ≤ R.slots → W p l e R s m args below meth c H1 locs1 (cells + c1) (slots + s1) Z (F0 m (pc + 3) ls (rest))) : W p l e R s m args below meth c H locs cells slots Z (F0 m pc ls (va_rf x2 :: va_rf x1 :: va_rf o :: rest)) := by
  subst ho
  exact rg_v3w (va_runI (As := [va_rf x1, va_rf x2]) (rest := rest) C.1 (hM V H.size G Q1 x0 x1 x2 c1 s1) (cwI 2 C.1.2.2.2.2 (lw_meth q414) rfl rfl rfl (C.1.2.2.2.2 _ q65) (C.1.2.2.2.2 _ hlink) (C.1.2.2.2.2 _ q413) rfl (by decide +kernel) ⟨hRf, hRl⟩) ⟨fun a U g mk q => by obtain ⟨q0, q1, qW, qK, qZ, qw⟩ := q; exact ⟨q0, q1, qW, xK.same (u := U) (U := U.calling g mk a) rfl qK, xZ.moved (u := U) (U := U.calling g mk a) (Vm.Alike.refl U.vm) qZ, qw⟩, fun U hU hWm => ⟨rfl, by rw [hU], by rw [hU]; exact hW.self _, C.2.1.warm hWm, xZ.call C.2.2.1 hW hS C.2.2.2 hU hWm.alike, h⟩⟩ rfl rfl hz rfl (lv_room hr8) hdg ⟨by omega, by omega⟩) hW hS C.2.2.2 (fun G1 H1 locs1 hp hW1 hS1 hF1 => kk G1 H1 locs1 hp hW1 hS1 hF1 (by omega) (by omega))
def w_J5_init_2_79 (V : XV) (Q : GM → Prop) (x0 : Nat) (x3 : Option Nat) (x4 : Int32) (G : GM) (kc : Nat) (ks : Nat) : Prop := (narrow .byte (.int (1 : Int32)) = .int (1 : Int32) ∧ fits .byte (.int (1 : Int32)) = true) ∧ (gPF G 48 (some x0) (.int (1 : Int32)) (fun G1 => ∃ c4 s5 : Nat, c4 ≤ kc ∧ s5 ≤ ks ∧ (w_J14_copyOfRange V (fun r2 G3 => gPF G3 47 (some x0) (va_rf r2) (fun G6 => Q G6)) x3 (0 : Int32) (x4 <<< ((1 : Int32) &&& 31)) G1 c4 s5)))
def w_J5_init_2 (V : XV) (Q : GM → Prop) (x0 : Nat) (x1 : Option Nat) (x2 : Option Nat) (G : GM) (kc : Nat) (ks : Nat) : Prop := gRcv G x1 (fun a7 c8 => (c8 % 64 = 16) ∧ (w_J3_getValue V (fun r9 => gRcv G x1 (fun a10 c11 => (c11 % 64 = 16) ∧ (w_J4_length V (fun r12 => gRcv G x1 (fun a13 c14 => (c14 % 64 = 16) ∧ (w_J3_isLatin1 V (fun r15 => if r15 = 0 then (∃ v16, xst V "java/lang/String" "COMPACT_STRINGS" = .int v16 ∧ (if v16 = 0 then (w_J5_init_2_79 V Q x0 r9 r12 G kc ks) else (gGI G 45 x1 (fun v17 => if v17 = 0 then (w_J5_init_2_79 V Q x0 r9 r12 G kc ks) else (False))))) else ((narrow .byte (.int (0 : Int32)) = .int (0 : Int32) ∧ fits .byte (.int (0 : Int32)) = true) ∧ (gPF G 48 (some x0) (.int (0 : Int32)) (fun G20 => ∃ c23 s24 : Nat, c23 ≤ kc ∧ s24 ≤ ks ∧ (w_J14_copyOfRange V (fun r21 G22 => gPF G22 47 (some x0) (va_rf r21) (fun G25 => Q G25)) r9 (0 : Int32) r12 G20 c23 s24))))) a13 G))) a10 G))) a7 G))
set_option maxRecDepth 100000 in
set_option maxHeartbeats 4000000 in
theorem wk_J5_init_2 {p : Program} {l : Launch} {e : Env} {R : Room} {s : State} {m : MethodId} {args : Array Value} {below : List Frame} {meth : Method} {c : Code} {Z : State → Prop} {A : Nat → Prop} {V : XV} (Q : GM → Prop) (C : xC p m c s args cJ5_init_2 5 RJ5 V A) (hin : meth.name = "<init>") (hRf : 3 ≤ R.frames) (hRl : 106 ≤ R.locals) (G : GM) (hret : ∀ (G : GM) (pc : Nat) (ls : Array Slot) (H : Heap) (locs : List Loc) (cells slots : Nat) {k1 k2 : Nat}, decode cJ5_init_2 pc = .ok (.return_, 1) → xW V A G H → va_S A s.heap H locs → cells + k1 ≤ R.cells → slots + k2 ≤ R.slots → Q G → W p l e R s m args below meth c H locs cells slots Z (F0 m pc ls [])) (x0 : Nat) (x1 : Option Nat) (x2 : Option Nat) (kc ks : Nat) : w_J5_init_2 V Q x0 x1 x2 G kc ks → ∀ (ls : Array Slot) (H : Heap) (locs : List Loc) (cells slots : Nat), lv_has ls 5 [(0, va_rf (some x0)), (1, va_rf x1), (2, va_rf x2)] → xW V A G H → va_S A s.heap H locs → cells + kc ≤ R.cells → slots + ks ≤ R.slots → W p l e R s m args below meth c H locs cells slots Z (F0 m 0 ls []) := by
  have hx := C.1.1; have hb := C.1.2.1; have hml := C.1.2.2.1; have hown := C.1.2.2.2.1; have hts := C.1.2.2.2.2
  have hb79 : ∀ (x3 : Option Nat) (x4 : Int32) (G : GM) (kc : Nat) (ks : Nat), w_J5_init_2_79 V Q x0 x3 x4 G kc ks → ∀ (ls : Array Slot) (H : Heap) (locs : List Loc) (cells slots : Nat), lv_has ls 5 [(0, va_rf (some x0)), (3, va_rf x3), (4, .int x4)] → xW V A G H → va_S A s.heap H locs → cells + kc ≤ R.cells → slots + ks ≤ R.slots → W p l e R s m args below meth c H locs cells slots Z (F0 m 79 ls []) := by
    intro x3 x4 G kc ks h
    intro ls H locs cells slots hl hW hS hkc hks
    refine sh_aload_n hx hb dJ5_init_2_79 rfl (lv_at hl 0 rfl) ?_
    refine lv_iconst (v := 1) hx hb dJ5_init_2_80 (by decide) ?_
    have hz := h.1
    have h := h.2
    refine sh_putF C hW hS xFb_48 q528 (fun _ h => h) hin rfl xFd_48 hz.1 hz.2 h dJ5_init_2_81 (fun G1 H locs hW hS h => ?_)
    refine sh_aload_n hx hb dJ5_init_2_84 rfl (lv_at hl 0 rfl) ?_
    refine sh_aload_n hx hb dJ5_init_2_85 rfl (lv_at hl 1 rfl) ?_
    refine lv_iconst (v := 0) hx hb dJ5_init_2_86 (by decide) ?_
    refine lv_iload hx hb dJ5_init_2_87 (lv_at hl 2 rfl) ?_
    refine lv_iconst (v := 1) hx hb dJ5_init_2_89 (by decide) ?_
    refine lv_ishl hx hb dJ5_init_2_90 ?_
    obtain ⟨c4, s5, hc91, hs91, h⟩ := h
    refine call_J14_copyOfRange_S (ct_J14_copyOfRange l) C hW hS q430 (le_lit hRf rfl) (le_lit hRl rfl) hc91 hs91 hkc hks hl.1 (Nat.le_of_ble_eq_true rfl) dJ5_init_2_91 h (fun r2 G3 H locs h hW hS _ hkc hks => ?_)
    refine sh_putF C hW hS xFb_47 q527 (fun _ h => h) hin rfl xFd_47 (rf_nar_a _ _) (rf_fit_a _ _) h dJ5_init_2_94 (fun G6 H locs hW hS h => ?_)
    exact hret _ _ _ _ _ _ _ dJ5_init_2_97 hW hS hkc hks h
  intro h
  intro ls H locs cells slots hl hW hS hkc hks
  refine sh_aload_n hx hb dJ5_init_2_0 rfl (lv_at hl 0 rfl) ?_
  refine sh_objInit C q415 q110 q111 hl.1 (le_lit hRf rfl) (le_lit hRl rfl) (Nat.le_of_ble_eq_true rfl) dJ5_init_2_1 ?_
  refine sh_aload_n hx hb dJ5_init_2_4 rfl (lv_at hl 1 rfl) ?_
  obtain ⟨a7, c8, ho5, hcv5, h⟩ := h
  have hcc := h.1
  have h := h.2
  refine call_J3_getValue_U16_AbstractStringBuilder (ct_J3_getValue l) C hW hS q416 ho5 hcv5 hcc (le_lit hRf rfl) (le_lit hRl rfl) ⟨Nat.le_trans (Nat.le_add_right _ _) hkc, Nat.le_trans (Nat.le_add_right _ _) hks⟩ hl.1 (Nat.le_of_ble_eq_true rfl) dJ5_init_2_5 h (fun r9 H locs h hW hS _ => ?_)
  refine sh_astore_n (lv' := [(3, va_rf r9), (0, va_rf (some x0)), (1, va_rf x1), (2, va_rf x2)]) hx hb dJ5_init_2_8 rfl hl (by decide) (by simp only [List.filter_cons, List.filter_nil, va_rf_cat]; rfl) (fun ls hl => ?_)
  refine sh_aload_n hx hb dJ5_init_2_9 rfl (lv_at hl 2 rfl) ?_
  obtain ⟨a10, c11, ho10, hcv10, h⟩ := h
  have hcc := h.1
  have h := h.2
  refine call_J4_length_O16_AbstractStringBuilder (ct_J4_length l) C hW hS q421 ho10 hcv10 hcc (le_lit hRf rfl) (le_lit hRl rfl) ⟨Nat.le_trans (Nat.le_add_right _ _) hkc, Nat.le_trans (Nat.le_add_right _ _) hks⟩ hl.1 (Nat.le_of_ble_eq_true rfl) dJ5_init_2_10 h (fun r12 H locs h hW hS _ => ?_)
  refine lv_istore (lv' := [(4, .int r12), (3, va_rf r9), (0, va_rf (some x0)), (1, va_rf x1), (2, va_rf x2)]) hx hb dJ5_init_2_13 hl (by decide) (by simp only [List.filter_cons, List.filter_nil, va_rf_cat]; rfl) (fun ls hl => ?_)
  refine sh_aload_n hx hb dJ5_init_2_15 rfl (lv_at hl 3 rfl) ?_
  obtain ⟨a13, c14, ho16, hcv16, h⟩ := h
  have hcc := h.1
  have h := h.2
  refine call_J3_isLatin1_U16_AbstractStringBuilder (ct_J3_isLatin1 l) C hW hS q429 ho16 hcv16 hcc (le_lit hRf rfl) (le_lit hRl rfl) ⟨Nat.le_trans (Nat.le_add_right _ _) hkc, Nat.le_trans (Nat.le_add_right _ _) hks⟩ hl.1 (Nat.le_of_ble_eq_true rfl) dJ5_init_2_16 h (fun r15 H locs h hW hS _ => ?_)
  refine lv_if_eq (tgt := 41) hx hb dJ5_init_2_19 (by decide) (fun c26 => ?_) (fun c26 => ?_)
  · have h := wif_t h c26
    refine sh_getsI C hS q150 q343 (fun _ h => h) h dJ5_init_2_41 (fun v16 h => ?_)
    refine lv_if_eq (tgt := 79) hx hb dJ5_init_2_44 (by decide) (fun c19 => ?_) (fun c19 => ?_)
    · have h := wif_t h c19
      exact hb79 _ _ _ _ _ h ls H locs _ _ (lv_sub hl [2, 1, 0] rfl) hW hS hkc hks
    · have h := wif_f h c19
      refine sh_aload_n hx hb dJ5_init_2_47 rfl (lv_at hl 3 rfl) ?_
      obtain ⟨v17, h1, h⟩ := h
      refine sh_get C hW xFb_45 q161 (fun _ h => h) h1 dJ5_init_2_48 ?_
      refine lv_if_eq (tgt := 79) hx hb dJ5_init_2_51 (by decide) (fun c18 => ?_) (fun c18 => ?_)
      · have h := wif_t h c18
        exact hb79 _ _ _ _ _ h ls H locs _ _ (lv_sub hl [2, 1, 0] rfl) hW hS hkc hks
      · have h := wif_f h c18
        refine sh_aload_n hx hb dJ5_init_2_54 rfl (lv_at hl 2 rfl) ?_
        refine sh_aload_n hx hb dJ5_init_2_55 rfl (lv_at hl 1 rfl) ?_
        refine lv_iconst (v := 0) hx hb dJ5_init_2_56 (by decide) ?_
        refine lv_iload hx hb dJ5_init_2_57 (lv_at hl 0 rfl) ?_
        exact False.elim h
  · have h := wif_f h c26
    refine sh_aload_n hx hb dJ5_init_2_22 rfl (lv_at hl 2 rfl) ?_
    refine lv_iconst (v := 0) hx hb dJ5_init_2_23 (by decide) ?_
    have hz := h.1
    have h := h.2
    refine sh_putF C hW hS xFb_48 q528 (fun _ h => h) hin rfl xFd_48 hz.1 hz.2 h dJ5_init_2_24 (fun G20 H locs hW hS h => ?_)
    refine sh_aload_n hx hb dJ5_init_2_27 rfl (lv_at hl 2 rfl) ?_
    refine sh_aload_n hx hb dJ5_init_2_28 rfl (lv_at hl 1 rfl) ?_
    refine lv_iconst (v := 0) hx hb dJ5_init_2_29 (by decide) ?_
    refine lv_iload hx hb dJ5_init_2_30 (lv_at hl 0 rfl) ?_
    obtain ⟨c23, s24, hc32, hs32, h⟩ := h
    refine call_J14_copyOfRange_S (ct_J14_copyOfRange l) C hW hS q430 (le_lit hRf rfl) (le_lit hRl rfl) hc32 hs32 hkc hks hl.1 (Nat.le_of_ble_eq_true rfl) dJ5_init_2_32 h (fun r21 G22 H locs h hW hS _ hkc hks => ?_)
    refine sh_putF C hW hS xFb_47 q527 (fun _ h => h) hin rfl xFd_47 (rf_nar_a _ _) (rf_fit_a _ _) h dJ5_init_2_35 (fun G25 H locs hW hS h => ?_)
    refine lv_goto (tgt := 97) hx hb dJ5_init_2_38 (by decide) ?_
    exact hret _ _ _ _ _ _ _ dJ5_init_2_97 hW hS hkc hks h
theorem ct_J5_init_2 (l : Launch) : CT_J5_init_2 l 3 106 w_J5_init_2 := by
  intro V sz G Q x0 x1 x2 kc ks
  refine Met.ofW (cc := cJ5_init_2) (maxL := 5) (ret := none) (by decide) rfl ?_
  intro p e s m args below meth c s₁ B hml hv
  obtain ⟨rfl, hsz, hW, hK, hZ, h⟩ := hv
  subst hsz
  have hts := atoms_spec (ws := (ws_ yJ5_init_2 cJ5_init_2 5 none)) B.pre
  have hts : ∀ w ∈ lw_all, w.before _ s = true := fun w h => hts w (List.mem_cons_of_mem _ h)
  have key : ∃ ls : Array Slot, entryFrame m ([.ref x0, va_rf x1, va_rf x2] : List Value).toArray 5 = F0 m 0 ls [] ∧ lv_has ls 5 [(0, va_rf (some x0)), (1, va_rf x1), (2, va_rf x2)] := by
    cases x1 <;> cases x2 <;> (refine ⟨_, by rw [lg_entry_eq], ?_⟩; exact lv_entry _ (Nat.le_of_ble_eq_true rfl))
  obtain ⟨ls, hfr, hl⟩ := key
  rw [hfr]
  exact wk_J5_init_2 Q ⟨⟨B.exec, B.bytes, hml, findClass_of_methodNamed B.named, hts⟩, hK, hZ, fun q h => Or.inr h⟩ (name_of_methodNamed B.named B.method).1 (Nat.le_refl _) (Nat.le_refl _) G (fun G pc ls H locs cells slots _ _ hd hW1 hS hkc hks hQ => W.widen (k := kc) (n := ks) (Nat.le_trans (Nat.le_add_right _ _) hkc) (Nat.le_trans (Nat.le_add_right _ _) hks) (W.vret B.exec B.bytes B.returns (fun t ht _ => ⟨⟨G, rfl, hQ, by rw [← ht] at hW1; exact hW1⟩, hS.F ht⟩) hS.2.2 hd)) x0 x1 x2 kc ks h ls _ [] 0 0 hl hW va_S.rf (by show 0 + kc ≤ kc; omega) (by show 0 + ks ≤ ks; omega)
def CT_J5_init (l : Launch) (fr lo : Nat) (w : XV → (GM → Prop) → Nat → (Option Nat) → GM → Nat → Nat → Prop) : Prop := ∀ (V : XV) (sz : Nat) (G : GM) (Q : GM → Prop) (x0 : Nat) (x1 : Option Nat) (kc ks : Nat), Met l yJ5_init (ws_ yJ5_init cJ5_init 2 none) { frames := fr, cells := kc, slots := ks, locals := lo } (va_Pc [.ref x0, va_rf x1] (fun U => U.heap.size = sz ∧ xW V (xA G sz) G U.heap ∧ xK V U ∧ xZ V (xA G sz) U U.heap ∧ w V Q x0 x1 G kc ks)) (va_Qv (fun (u : GM) => Q u) (fun u t => xW V (xA G sz) u t.heap) (xA G sz)) kc ks (xA G sz)
theorem call_J5_init_I {p : Program} {l : Launch} {e : Env} {R : Room} {s : State} {m : MethodId} {args : Array Value} {below : List Frame} {meth : Method} {c : Code} {H : Heap} {locs : List Loc} {cells slots : Nat} {Z : State → Prop} {A : Nat → Prop} {cc : ByteArray} {nL pc : Nat} {ls : Array Slot} {rest : List Value} {own : String} {index fr lo : Nat} {w : XV → (GM → Prop) → Nat → (Option Nat) → GM → Nat → Nat → Prop} {V : XV} {G : GM} {o : Option Nat} {kc ks c1 s1 : Nat} {x0 : Nat} {x1 : Option Nat} (hM : CT_J5_init l fr lo w) (C : xC p m c s args cc nL own V A) (hW : xW V A G H) (hS : va_S A s.heap H locs) (hlink : Cond.methodLink own index yJ5_init ∈ lw_all) (ho : o = some x0) (hRf : fr + 1 ≤ R.frames) (hRl : 8 + (2 + 11) + lo ≤ R.locals) (hc1 : c1 ≤ kc) (hs1 : s1 ≤ ks) (hkc : cells + kc ≤ R.cells) (hks : slots + ks ≤ R.slots) (hz : ls.size = nL) (hr8 : (rest.map fun v => v.category).sum ≤ 8) (hdg : decode cc pc = .ok (.invokespecial index, 3)) {Q1 : GM → Prop} (h : w V Q1 x0 x1 G c1 s1) (kk : ∀ (G1 : GM) (H1 : Heap) (locs1 : List Loc), Q1 G1 → xW V A G1 H1 → va_S A s.heap H1 locs1 → xFr V G G1 H H1 → (cells + c1) + (kc - c1) ≤ R.cells → (slots + s1) + (ks - s1) ≤ R.slots → W p l e R s m args below meth c H1 locs1 (cells + c1) (slots + s1) Z (F0 m (pc + 3) ls (rest))) : W p l e R s m args below meth c H locs cells slots Z (F0 m pc ls (va_rf x1 :: va_rf o :: rest)) := by
  subst ho
  exact rg_v3w (va_runI (As := [va_rf x1]) (rest := rest) C.1 (hM V H.size G Q1 x0 x1 c1 s1) (cwI 1 C.1.2.2.2.2 (lw_meth q411) rfl rfl rfl (C.1.2.2.2.2 _ q65) (C.1.2.2.2.2 _ hlink) (C.1.2.2.2.2 _ q410) rfl (by decide +kernel) ⟨hRf, hRl⟩) ⟨fun a U g mk q => by obtain ⟨q0, q1, qW, qK, qZ, qw⟩ := q; exact ⟨q0, q1, qW, xK.same (u := U) (U := U.calling g mk a) rfl qK, xZ.moved (u := U) (U := U.calling g mk a) (Vm.Alike.refl U.vm) qZ, qw⟩, fun U hU hWm => ⟨rfl, by rw [hU], by rw [hU]; exact hW.self _, C.2.1.warm hWm, xZ.call C.2.2.1 hW hS C.2.2.2 hU hWm.alike, h⟩⟩ rfl rfl hz rfl (lv_room hr8) hdg ⟨by omega, by omega⟩) hW hS C.2.2.2 (fun G1 H1 locs1 hp hW1 hS1 hF1 => kk G1 H1 locs1 hp hW1 hS1 hF1 (by omega) (by omega))
def w_J5_init (V : XV) (Q : GM → Prop) (x0 : Nat) (x1 : Option Nat) (G : GM) (kc : Nat) (ks : Nat) : Prop := ∃ c2 s3 : Nat, c2 ≤ kc ∧ s3 ≤ ks ∧ (w_J5_init_2 V (fun G1 => Q G1) x0 x1 none G c2 s3)
set_option maxRecDepth 100000 in
set_option maxHeartbeats 4000000 in
theorem wk_J5_init {p : Program} {l : Launch} {e : Env} {R : Room} {s : State} {m : MethodId} {args : Array Value} {below : List Frame} {meth : Method} {c : Code} {Z : State → Prop} {A : Nat → Prop} {V : XV} (Q : GM → Prop) (C : xC p m c s args cJ5_init 2 RJ5 V A) (hin : meth.name = "<init>") (hRf : 4 ≤ R.frames) (hRl : 130 ≤ R.locals) (G : GM) (hret : ∀ (G : GM) (pc : Nat) (ls : Array Slot) (H : Heap) (locs : List Loc) (cells slots : Nat) {k1 k2 : Nat}, decode cJ5_init pc = .ok (.return_, 1) → xW V A G H → va_S A s.heap H locs → cells + k1 ≤ R.cells → slots + k2 ≤ R.slots → Q G → W p l e R s m args below meth c H locs cells slots Z (F0 m pc ls [])) (x0 : Nat) (x1 : Option Nat) (kc ks : Nat) : w_J5_init V Q x0 x1 G kc ks → ∀ (ls : Array Slot) (H : Heap) (locs : List Loc) (cells slots : Nat), lv_has ls 2 [(0, va_rf (some x0)), (1, va_rf x1)] → xW V A G H → va_S A s.heap H locs → cells + kc ≤ R.cells → slots + ks ≤ R.slots → W p l e R s m args below meth c H locs cells slots Z (F0 m 0 ls []) := by
  have hx := C.1.1; have hb := C.1.2.1; have hml := C.1.2.2.1; have hown := C.1.2.2.2.1; have hts := C.1.2.2.2.2
  intro h
  intro ls H locs cells slots hl hW hS hkc hks
  refine sh_aload_n hx hb dJ5_init_0 rfl (lv_at hl 0 rfl) ?_
  refine sh_aload_n hx hb dJ5_init_1 rfl (lv_at hl 1 rfl) ?_
  refine sh_null hx hb dJ5_init_2 ?_
  obtain ⟨c2, s3, hc3, hs3, h⟩ := h
  refine call_J5_init_2_I (ct_J5_init_2 l) C hW hS q412 rfl (le_lit hRf rfl) (le_lit hRl rfl) hc3 hs3 hkc hks hl.1 (Nat.le_of_ble_eq_true rfl) dJ5_init_3 h (fun G1 H locs h hW hS _ hkc hks => ?_)
  exact hret _ _ _ _ _ _ _ dJ5_init_6 hW hS hkc hks h
theorem ct_J5_init (l : Launch) : CT_J5_init l 4 130 w_J5_init := by
  intro V sz G Q x0 x1 kc ks
  refine Met.ofW (cc := cJ5_init) (maxL := 2) (ret := none) (by decide) rfl ?_
  intro p e s m args below meth c s₁ B hml hv
  obtain ⟨rfl, hsz, hW, hK, hZ, h⟩ := hv
  subst hsz
  have hts := atoms_spec (ws := (ws_ yJ5_init cJ5_init 2 none)) B.pre
  have hts : ∀ w ∈ lw_all, w.before _ s = true := fun w h => hts w (List.mem_cons_of_mem _ h)
  have key : ∃ ls : Array Slot, entryFrame m ([.ref x0, va_rf x1] : List Value).toArray 2 = F0 m 0 ls [] ∧ lv_has ls 2 [(0, va_rf (some x0)), (1, va_rf x1)] := by
    cases x1 <;> (refine ⟨_, by rw [lg_entry_eq], ?_⟩; exact lv_entry _ (Nat.le_of_ble_eq_true rfl))
  obtain ⟨ls, hfr, hl⟩ := key
  rw [hfr]
  exact wk_J5_init Q ⟨⟨B.exec, B.bytes, hml, findClass_of_methodNamed B.named, hts⟩, hK, hZ, fun q h => Or.inr h⟩ (name_of_methodNamed B.named B.method).1 (Nat.le_refl _) (Nat.le_refl _) G (fun G pc ls H locs cells slots _ _ hd hW1 hS hkc hks hQ => W.widen (k := kc) (n := ks) (Nat.le_trans (Nat.le_add_right _ _) hkc) (Nat.le_trans (Nat.le_add_right _ _) hks) (W.vret B.exec B.bytes B.returns (fun t ht _ => ⟨⟨G, rfl, hQ, by rw [← ht] at hW1; exact hW1⟩, hS.F ht⟩) hS.2.2 hd)) x0 x1 kc ks h ls _ [] 0 0 hl hW va_S.rf (by show 0 + kc ≤ kc; omega) (by show 0 + ks ≤ ks; omega)
def CT_J4_toString (l : Launch) (fr lo : Nat) (w : XV → (Option Nat → GM → Prop) → Nat → GM → Nat → Nat → Prop) : Prop := ∀ (V : XV) (sz : Nat) (G : GM) (Q : Option Nat → GM → Prop) (x0 : Nat) (kc ks : Nat), Met l yJ4_toString (ws_ yJ4_toString cJ4_toString 1 (some (.object "java/lang/String"))) { frames := fr, cells := kc, slots := ks, locals := lo } (va_Pc [.ref x0] (fun U => U.heap.size = sz ∧ xW V (xA G sz) G U.heap ∧ xK V U ∧ xZ V (xA G sz) U U.heap ∧ w V Q x0 G kc ks)) (va_Qq (fun r (u : GM) => Q r u) (fun u t => xW V (xA G sz) u t.heap) (xA G sz)) kc ks (xA G sz)
theorem call_J4_toString_V {p : Program} {l : Launch} {e : Env} {R : Room} {s : State} {m : MethodId} {args : Array Value} {below : List Frame} {meth : Method} {c : Code} {H : Heap} {locs : List Loc} {cells slots : Nat} {Z : State → Prop} {A : Nat → Prop} {cc : ByteArray} {nL pc : Nat} {ls : Array Slot} {rest : List Value} {own : String} {index fr lo : Nat} {w : XV → (Option Nat → GM → Prop) → Nat → GM → Nat → Nat → Prop} {V : XV} {G : GM} {o : Option Nat} {ci : Nat} {kc ks c1 s1 : Nat} {x0 : Nat} (hM : CT_J4_toString l fr lo w) (C : xC p m c s args cc nL own V A) (hW : xW V A G H) (hS : va_S A s.heap H locs) (hlink : Cond.methodLink own index yJ4_toString ∈ lw_all) (ho : o = some x0) (hcv : gCi G (some x0) = some ci) (hci : ci % 64 = 16) (hRf : fr + 1 ≤ R.frames) (hRl : 8 + (1 + 11) + lo ≤ R.locals) (hc1 : c1 ≤ kc) (hs1 : s1 ≤ ks) (hkc : cells + kc ≤ R.cells) (hks : slots + ks ≤ R.slots) (hz : ls.size = nL) (hr8 : (rest.map fun v => v.category).sum ≤ 8) (hdg : decode cc pc = .ok (.invokevirtual index, 3)) {Q1 : Option Nat → GM → Prop} (h : w V Q1 x0 G c1 s1) (kk : ∀ (r : Option Nat) (G1 : GM) (H1 : Heap) (locs1 : List Loc), Q1 r G1 → xW V A G1 H1 → va_S A s.heap H1 locs1 → xFr V G G1 H H1 → (cells + c1) + (kc - c1) ≤ R.cells → (slots + s1) + (ks - s1) ≤ R.slots → W p l e R s m args below meth c H1 locs1 (cells + c1) (slots + s1) Z (F0 m (pc + 3) ls (va_rf r :: rest))) : W p l e R s m args below meth c H locs cells slots Z (F0 m pc ls (va_rf o :: rest)) := by
  subst ho
  obtain ⟨fs, hG⟩ := gCi_of hcv
  exact rg_q3w (va_runV (As := []) (rest := rest) C.1 (hM V H.size G Q1 x0 c1 s1) (cwV 0 C.1.2.2.2.2 (lw_V hlink q404 q405 q64 q406) rfl rfl rfl (by decide +kernel) ⟨hRf, hRl⟩) ⟨fun a U g mk q => by obtain ⟨q0, q1, qW, qK, qZ, qw⟩ := q; exact ⟨q0, q1, qW, xK.same (u := U) (U := U.calling g mk a) rfl qK, xZ.moved (u := U) (U := U.calling g mk a) (Vm.Alike.refl U.vm) qZ, qw⟩, (hW.recv C.2.1 hG (r := (RJ4, TJ4, 4)) (by rw [hci]; rfl)), fun U hU hWm => ⟨rfl, by rw [hU], by rw [hU]; exact hW.self _, C.2.1.warm hWm, xZ.call C.2.2.1 hW hS C.2.2.2 hU hWm.alike, h⟩⟩ rfl rfl hz rfl (lv_room hr8) hdg ⟨by omega, by omega⟩) hW hS C.2.2.2 (fun r G1 H1 locs1 hp hW1 hS1 hF1 => kk r G1 H1 locs1 hp hW1 hS1 hF1 (by omega) (by omega))
def w_J4_toString (V : XV) (Q : Option Nat → GM → Prop) (x0 : Nat) (G : GM) (kc : Nat) (ks : Nat) : Prop := gNw G 17 4 xdf_J5 kc ks (fun q1 G2 => ∃ c4 s5 : Nat, c4 ≤ (kc - 1) ∧ s5 ≤ (ks - 4) ∧ (w_J5_init V (fun G3 => Q (some q1) G3) q1 (some x0) G2 c4 s5))
set_option maxRecDepth 100000 in
set_option maxHeartbeats 4000000 in
theorem wk_J4_toString {p : Program} {l : Launch} {e : Env} {R : Room} {s : State} {m : MethodId} {args : Array Value} {below : List Frame} {meth : Method} {c : Code} {Z : State → Prop} {A : Nat → Prop} {V : XV} (Q : Option Nat → GM → Prop) (C : xC p m c s args cJ4_toString 1 RJ4 V A) (hRf : 5 ≤ R.frames) (hRl : 151 ≤ R.locals) (G : GM) (hret : ∀ (v : Option Nat) (G : GM) (pc : Nat) (ls : Array Slot) (H : Heap) (locs : List Loc) (cells slots : Nat) {k1 k2 : Nat}, decode cJ4_toString pc = .ok (.areturn, 1) → xW V A G H → va_S A s.heap H locs → cells + k1 ≤ R.cells → slots + k2 ≤ R.slots → Q v G → W p l e R s m args below meth c H locs cells slots Z (F0 m pc ls [va_rf v])) (x0 : Nat) (kc ks : Nat) : w_J4_toString V Q x0 G kc ks → ∀ (ls : Array Slot) (H : Heap) (locs : List Loc) (cells slots : Nat), lv_has ls 1 [(0, va_rf (some x0))] → xW V A G H → va_S A s.heap H locs → cells + kc ≤ R.cells → slots + ks ≤ R.slots → W p l e R s m args below meth c H locs cells slots Z (F0 m 0 ls []) := by
  have hx := C.1.1; have hb := C.1.2.1; have hml := C.1.2.2.1; have hown := C.1.2.2.2.1; have hts := C.1.2.2.2.2
  intro h
  intro ls H locs cells slots hl hW hS hkc hks
  refine sh_new C hW hS (ci := 17) rfl (by decide) q407 q408 q65 tyJ5_ok xdf_J5_ok h hkc hks dJ4_toString_0 (fun q1 G2 H hW hS h hkc hks => ?_)
  refine lv_dup hx hb dJ4_toString_3 (va_rf_cat _) ?_
  refine sh_aload_n hx hb dJ4_toString_4 rfl (lv_at hl 0 rfl) ?_
  obtain ⟨c4, s5, hc5, hs5, h⟩ := h
  refine call_J5_init_I (ct_J5_init l) C hW hS q409 rfl (le_lit hRf rfl) (le_lit hRl rfl) hc5 hs5 hkc hks hl.1 (Nat.le_of_ble_eq_true rfl) dJ4_toString_5 h (fun G3 H locs h hW hS _ hkc hks => ?_)
  exact hret _ _ _ _ _ _ _ _ dJ4_toString_8 hW hS hkc hks h
theorem ct_J4_toString (l : Launch) : CT_J4_toString l 5 151 w_J4_toString := by
  intro V sz G Q x0 kc ks
  refine Met.ofW (cc := cJ4_toString) (maxL := 1) (ret := (some (.object "java/lang/String"))) (by decide) rfl ?_
  intro p e s m args below meth c s₁ B hml hv
  obtain ⟨rfl, hsz, hW, hK, hZ, h⟩ := hv
  subst hsz
  have hts := atoms_spec (ws := (ws_ yJ4_toString cJ4_toString 1 (some (.object "java/lang/String")))) B.pre
  have hts : ∀ w ∈ lw_all, w.before _ s = true := fun w h => hts w (List.mem_cons_of_mem _ h)
  have hl := lv_entry ([.ref x0]) (n := 1) (Nat.le_of_ble_eq_true rfl)
  rw [lg_entry_eq]
  generalize (lg_sl ([.ref x0]) ++ List.replicate (1 - (lg_sl ([.ref x0])).length) Slot.unset).toArray = ls at hl ⊢
  exact wk_J4_toString Q ⟨⟨B.exec, B.bytes, hml, findClass_of_methodNamed B.named, hts⟩, hK, hZ, fun q h => Or.inr h⟩ (Nat.le_refl _) (Nat.le_refl _) G (fun v G pc ls H locs cells slots _ _ hd hW1 hS hkc hks hQ => W.widen (k := kc) (n := ks) (Nat.le_trans (Nat.le_add_right _ _) hkc) (Nat.le_trans (Nat.le_add_right _ _) hks) (W.aret (v := va_rf v) B.exec B.bytes B.returns (Or.inl ⟨_, rfl⟩) (va_rf_or v) (fun t ht _ => ⟨⟨v, G, rfl, hQ, by rw [← ht] at hW1; exact hW1⟩, hS.F ht⟩) hS.2.2 hd)) x0 kc ks h ls _ [] 0 0 hl hW va_S.rf (by show 0 + kc ≤ kc; omega) (by show 0 + ks ≤ ks; omega)
def CT_J4_charAt (l : Launch) (fr lo : Nat) (w : XV → (Int32 → Prop) → Nat → Int32 → GM → Prop) : Prop := ∀ (V : XV) (sz : Nat) (G : GM) (Q : Int32 → Prop) (x0 : Nat) (x1 : Int32), Met l yJ4_charAt (ws_ yJ4_charAt cJ4_charAt 2 (some .char)) { frames := fr, cells := 0, slots := 0, locals := lo } (va_Pc [.ref x0, .int x1] (fun U => U.heap.size = sz ∧ xW V (xA G sz) G U.heap ∧ xK V U ∧ xZ V (xA G sz) U U.heap ∧ w V Q x0 x1 G)) (va_Qi (fun r (u : GM) => u = G ∧ Q r) (fun u t => xW V (xA G sz) u t.heap) (xA G sz)) 0 0 (xA G sz)
theorem call_J4_charAt_V {p : Program} {l : Launch} {e : Env} {R : Room} {s : State} {m : MethodId} {args : Array Value} {below : List Frame} {meth : Method} {c : Code} {H : Heap} {locs : List Loc} {cells slots : Nat} {Z : State → Prop} {A : Nat → Prop} {cc : ByteArray} {nL pc : Nat} {ls : Array Slot} {rest : List Value} {own : String} {index fr lo : Nat} {w : XV → (Int32 → Prop) → Nat → Int32 → GM → Prop} {V : XV} {G : GM} {o : Option Nat} {ci : Nat} {x0 : Nat} {x1 : Int32} (hM : CT_J4_charAt l fr lo w) (C : xC p m c s args cc nL own V A) (hW : xW V A G H) (hS : va_S A s.heap H locs) (hlink : Cond.methodLink own index yJ4_charAt ∈ lw_all) (ho : o = some x0) (hcv : gCi G (some x0) = some ci) (hci : ci % 64 = 16) (hRf : fr + 1 ≤ R.frames) (hRl : 8 + (2 + 11) + lo ≤ R.locals) (hcs : cells ≤ R.cells ∧ slots ≤ R.slots) (hz : ls.size = nL) (hr8 : (rest.map fun v => v.category).sum ≤ 8) (hdg : decode cc pc = .ok (.invokevirtual index, 3)) {Q1 : Int32 → Prop} (h : w V Q1 x0 x1 G) (kk : ∀ (r : Int32) (H1 : Heap) (locs1 : List Loc), Q1 r → xW V A G H1 → va_S A s.heap H1 locs1 → xFr V G G H H1 → W p l e R s m args below meth c H1 locs1 cells slots Z (F0 m (pc + 3) ls (.int r :: rest))) : W p l e R s m args below meth c H locs cells slots Z (F0 m pc ls (.int x1 :: va_rf o :: rest)) := by
  subst ho
  obtain ⟨fs, hG⟩ := gCi_of hcv
  exact rg_i3r (va_runV (As := [.int x1]) (rest := rest) C.1 (hM V H.size G Q1 x0 x1) (cwV 1 C.1.2.2.2.2 (lw_V hlink q597 q598 q64 q599) rfl rfl rfl (by decide +kernel) ⟨hRf, hRl⟩) ⟨fun a U g mk q => by obtain ⟨q0, q1, qW, qK, qZ, qw⟩ := q; exact ⟨q0, q1, qW, xK.same (u := U) (U := U.calling g mk a) rfl qK, xZ.moved (u := U) (U := U.calling g mk a) (Vm.Alike.refl U.vm) qZ, qw⟩, (hW.recv C.2.1 hG (r := (RJ4, TJ4, 4)) (by rw [hci]; rfl)), fun U hU hWm => ⟨rfl, by rw [hU], by rw [hU]; exact hW.self _, C.2.1.warm hWm, xZ.call C.2.2.1 hW hS C.2.2.2 hU hWm.alike, h⟩⟩ rfl rfl hz rfl (lv_room hr8) hdg hcs) hW hS C.2.2.2 (fun r H1 locs1 hp hW1 hS1 hF1 => kk r H1 locs1 hp hW1 hS1 hF1)
def w_J4_charAt (V : XV) (Q : Int32 → Prop) (x0 : Nat) (x1 : Int32) (G : GM) : Prop := gRcv G (some x0) (fun a1 c2 => (c2 % 64 = 16) ∧ (w_J3_charAt V (fun r3 => narrow .char (.int r3) = .int r3 ∧ (Q r3)) a1 x1 G))
set_option maxRecDepth 100000 in
set_option maxHeartbeats 4000000 in
theorem wk_J4_charAt {p : Program} {l : Launch} {e : Env} {R : Room} {s : State} {m : MethodId} {args : Array Value} {below : List Frame} {meth : Method} {c : Code} {cells slots : Nat} {Z : State → Prop} {A : Nat → Prop} {V : XV} (Q : Int32 → Prop) (C : xC p m c s args cJ4_charAt 2 RJ4 V A) (hRf : 4 ≤ R.frames) (hRl : 87 ≤ R.locals) (hcs : cells ≤ R.cells ∧ slots ≤ R.slots) (G : GM) (hret : ∀ (v : Int32) (pc : Nat) (ls : Array Slot) (H : Heap) (locs : List Loc), decode cJ4_charAt pc = .ok (.ireturn, 1) → xW V A G H → va_S A s.heap H locs → narrow .char (.int v) = .int v → Q v → W p l e R s m args below meth c H locs cells slots Z (F0 m pc ls [.int v])) (x0 : Nat) (x1 : Int32) : w_J4_charAt V Q x0 x1 G → ∀ (ls : Array Slot) (H : Heap) (locs : List Loc), lv_has ls 2 [(0, va_rf (some x0)), (1, .int x1)] → xW V A G H → va_S A s.heap H locs → W p l e R s m args below meth c H locs cells slots Z (F0 m 0 ls []) := by
  have hx := C.1.1; have hb := C.1.2.1; have hml := C.1.2.2.1; have hown := C.1.2.2.2.1; have hts := C.1.2.2.2.2
  intro h
  intro ls H locs hl hW hS
  refine sh_aload_n hx hb dJ4_charAt_0 rfl (lv_at hl 0 rfl) ?_
  refine lv_iload_n hx hb dJ4_charAt_1 rfl (lv_at hl 1 rfl) ?_
  obtain ⟨a1, c2, ho2, hcv2, h⟩ := h
  have hcc := h.1
  have h := h.2
  refine call_J3_charAt_SU_StringBuilder (ct_J3_charAt l) C hW hS q600 ho2 hcv2 hcc (le_lit hRf rfl) (le_lit hRl rfl) hcs hl.1 (Nat.le_of_ble_eq_true rfl) dJ4_charAt_2 h (fun r3 H locs h hW hS _ => ?_)
  exact hret _ _ _ _ _ dJ4_charAt_5 hW hS h.1 h.2
theorem ct_J4_charAt (l : Launch) : CT_J4_charAt l 4 87 w_J4_charAt := by
  intro V sz G Q x0 x1
  refine Met.ofW (cc := cJ4_charAt) (maxL := 2) (ret := (some .char)) (by decide) rfl ?_
  intro p e s m args below meth c s₁ B hml hv
  obtain ⟨rfl, hsz, hW, hK, hZ, h⟩ := hv
  subst hsz
  have hts := atoms_spec (ws := (ws_ yJ4_charAt cJ4_charAt 2 (some .char))) B.pre
  have hts : ∀ w ∈ lw_all, w.before _ s = true := fun w h => hts w (List.mem_cons_of_mem _ h)
  have hl := lv_entry ([.ref x0, .int x1]) (n := 2) (Nat.le_of_ble_eq_true rfl)
  rw [lg_entry_eq]
  generalize (lg_sl ([.ref x0, .int x1]) ++ List.replicate (2 - (lg_sl ([.ref x0, .int x1])).length) Slot.unset).toArray = ls at hl ⊢
  exact wk_J4_charAt Q ⟨⟨B.exec, B.bytes, hml, findClass_of_methodNamed B.named, hts⟩, hK, hZ, fun q h => Or.inr h⟩ (Nat.le_refl _) (Nat.le_refl _) ⟨Nat.le_refl _, Nat.le_refl _⟩ G (fun v pc ls H locs hd hW1 hS hz hQ => W.zret (v := v) B.exec B.bytes B.returns hz (fun t ht _ => ⟨⟨v, G, rfl, ⟨rfl, hQ⟩, by rw [← ht] at hW1; exact hW1⟩, hS.F ht⟩) hS.2.2 hd) x0 x1 h ls _ [] hl hW va_S.rf
def CT_J4_append_3 (l : Launch) (fr lo : Nat) (w : XV → (Option Nat → GM → Prop) → Nat → Int32 → GM → Nat → Nat → Prop) : Prop := ∀ (V : XV) (sz : Nat) (G : GM) (Q : Option Nat → GM → Prop) (x0 : Nat) (x1 : Int32) (kc ks : Nat), Met l yJ4_append_3 (ws_ yJ4_append_3 cJ4_append_3 2 (some (.object "java/lang/StringBuilder"))) { frames := fr, cells := kc, slots := ks, locals := lo } (va_Pc [.ref x0, .int x1] (fun U => U.heap.size = sz ∧ xW V (xA G sz) G U.heap ∧ xK V U ∧ xZ V (xA G sz) U U.heap ∧ w V Q x0 x1 G kc ks)) (va_Qq (fun r (u : GM) => Q r u) (fun u t => xW V (xA G sz) u t.heap) (xA G sz)) kc ks (xA G sz)
theorem call_J4_append_3_V {p : Program} {l : Launch} {e : Env} {R : Room} {s : State} {m : MethodId} {args : Array Value} {below : List Frame} {meth : Method} {c : Code} {H : Heap} {locs : List Loc} {cells slots : Nat} {Z : State → Prop} {A : Nat → Prop} {cc : ByteArray} {nL pc : Nat} {ls : Array Slot} {rest : List Value} {own : String} {index fr lo : Nat} {w : XV → (Option Nat → GM → Prop) → Nat → Int32 → GM → Nat → Nat → Prop} {V : XV} {G : GM} {o : Option Nat} {ci : Nat} {kc ks c1 s1 : Nat} {x0 : Nat} {x1 : Int32} (hM : CT_J4_append_3 l fr lo w) (C : xC p m c s args cc nL own V A) (hW : xW V A G H) (hS : va_S A s.heap H locs) (hlink : Cond.methodLink own index yJ4_append_3 ∈ lw_all) (ho : o = some x0) (hcv : gCi G (some x0) = some ci) (hci : ci % 64 = 16) (hRf : fr + 1 ≤ R.frames) (hRl : 8 + (2 + 11) + lo ≤ R.locals) (hc1 : c1 ≤ kc) (hs1 : s1 ≤ ks) (hkc : cells + kc ≤ R.cells) (hks : slots + ks ≤ R.slots) (hz : ls.size = nL) (hr8 : (rest.map fun v => v.category).sum ≤ 8) (hdg : decode cc pc = .ok (.invokevirtual index, 3)) {Q1 : Option Nat → GM → Prop} (h : w V Q1 x0 x1 G c1 s1) (kk : ∀ (r : Option Nat) (G1 : GM) (H1 : Heap) (locs1 : List Loc), Q1 r G1 → xW V A G1 H1 → va_S A s.heap H1 locs1 → xFr V G G1 H H1 → (cells + c1) + (kc - c1) ≤ R.cells → (slots + s1) + (ks - s1) ≤ R.slots → W p l e R s m args below meth c H1 locs1 (cells + c1) (slots + s1) Z (F0 m (pc + 3) ls (va_rf r :: rest))) : W p l e R s m args below meth c H locs cells slots Z (F0 m pc ls (.int x1 :: va_rf o :: rest)) := by
  subst ho
  obtain ⟨fs, hG⟩ := gCi_of hcv
  exact rg_q3w (va_runV (As := [.int x1]) (rest := rest) C.1 (hM V H.size G Q1 x0 x1 c1 s1) (cwV 1 C.1.2.2.2.2 (lw_V hlink q1629 q1630 q64 q1631) rfl rfl rfl (by decide +kernel) ⟨hRf, hRl⟩) ⟨fun a U g mk q => by obtain ⟨q0, q1, qW, qK, qZ, qw⟩ := q; exact ⟨q0, q1, qW, xK.same (u := U) (U := U.calling g mk a) rfl qK, xZ.moved (u := U) (U := U.calling g mk a) (Vm.Alike.refl U.vm) qZ, qw⟩, (hW.recv C.2.1 hG (r := (RJ4, TJ4, 4)) (by rw [hci]; rfl)), fun U hU hWm => ⟨rfl, by rw [hU], by rw [hU]; exact hW.self _, C.2.1.warm hWm, xZ.call C.2.2.1 hW hS C.2.2.2 hU hWm.alike, h⟩⟩ rfl rfl hz rfl (lv_room hr8) hdg ⟨by omega, by omega⟩) hW hS C.2.2.2 (fun r G1 H1 locs1 hp hW1 hS1 hF1 => kk r G1 H1 locs1 hp hW1 hS1 hF1 (by omega) (by omega))
def w_J4_append_3 (V : XV) (Q : Option Nat → GM → Prop) (x0 : Nat) (x1 : Int32) (G : GM) (kc : Nat) (ks : Nat) : Prop := gRcv G (some x0) (fun a1 c2 => (c2 % 64 = 16) ∧ (∃ c5 s6 : Nat, c5 ≤ kc ∧ s6 ≤ ks ∧ (w_J3_append_3 V (fun r3 G4 => Q (some x0) G4) a1 x1 G c5 s6)))
set_option maxRecDepth 100000 in
set_option maxHeartbeats 4000000 in
theorem wk_J4_append_3 {p : Program} {l : Launch} {e : Env} {R : Room} {s : State} {m : MethodId} {args : Array Value} {below : List Frame} {meth : Method} {c : Code} {Z : State → Prop} {A : Nat → Prop} {V : XV} (Q : Option Nat → GM → Prop) (C : xC p m c s args cJ4_append_3 2 RJ4 V A) (hRf : 15 ≤ R.frames) (hRl : 268 ≤ R.locals) (G : GM) (hret : ∀ (v : Option Nat) (G : GM) (pc : Nat) (ls : Array Slot) (H : Heap) (locs : List Loc) (cells slots : Nat) {k1 k2 : Nat}, decode cJ4_append_3 pc = .ok (.areturn, 1) → xW V A G H → va_S A s.heap H locs → cells + k1 ≤ R.cells → slots + k2 ≤ R.slots → Q v G → W p l e R s m args below meth c H locs cells slots Z (F0 m pc ls [va_rf v])) (x0 : Nat) (x1 : Int32) (kc ks : Nat) : w_J4_append_3 V Q x0 x1 G kc ks → ∀ (ls : Array Slot) (H : Heap) (locs : List Loc) (cells slots : Nat), lv_has ls 2 [(0, va_rf (some x0)), (1, .int x1)] → xW V A G H → va_S A s.heap H locs → cells + kc ≤ R.cells → slots + ks ≤ R.slots → W p l e R s m args below meth c H locs cells slots Z (F0 m 0 ls []) := by
  have hx := C.1.1; have hb := C.1.2.1; have hml := C.1.2.2.1; have hown := C.1.2.2.2.1; have hts := C.1.2.2.2.2
  intro h
  intro ls H locs cells slots hl hW hS hkc hks
  refine sh_aload_n hx hb dJ4_append_3_0 rfl (lv_at hl 0 rfl) ?_
  refine lv_iload_n hx hb dJ4_append_3_1 rfl (lv_at hl 1 rfl) ?_
  obtain ⟨a1, c2, ho2, hcv2, h⟩ := h
  have hcc := h.1
  have h := h.2
  obtain ⟨c5, s6, hc2, hs2, h⟩ := h
  refine call_J3_append_3_SU_StringBuilder (ct_J3_append_3 l) C hW hS q1632 ho2 hcv2 hcc (le_lit hRf rfl) (le_lit hRl rfl) hc2 hs2 hkc hks hl.1 (Nat.le_of_ble_eq_true rfl) dJ4_append_3_2 h (fun r3 G4 H locs h hW hS _ hkc hks => ?_)
  refine lv_pop hx hb dJ4_append_3_5 (va_rf_cat _) ?_
  refine sh_aload_n hx hb dJ4_append_3_6 rfl (lv_at hl 0 rfl) ?_
  exact hret _ _ _ _ _ _ _ _ dJ4_append_3_7 hW hS hkc hks h
theorem ct_J4_append_3 (l : Launch) : CT_J4_append_3 l 15 268 w_J4_append_3 := by
  intro V sz G Q x0 x1 kc ks
  refine Met.ofW (cc := cJ4_append_3) (maxL := 2) (ret := (some (.object "java/lang/StringBuilder"))) (by decide) rfl ?_
  intro p e s m args below meth c s₁ B hml hv
  obtain ⟨rfl, hsz, hW, hK, hZ, h⟩ := hv
  subst hsz
  have hts := atoms_spec (ws := (ws_ yJ4_append_3 cJ4_append_3 2 (some (.object "java/lang/StringBuilder")))) B.pre
  have hts : ∀ w ∈ lw_all, w.before _ s = true := fun w h => hts w (List.mem_cons_of_mem _ h)
  have hl := lv_entry ([.ref x0, .int x1]) (n := 2) (Nat.le_of_ble_eq_true rfl)
  rw [lg_entry_eq]
  generalize (lg_sl ([.ref x0, .int x1]) ++ List.replicate (2 - (lg_sl ([.ref x0, .int x1])).length) Slot.unset).toArray = ls at hl ⊢
  exact wk_J4_append_3 Q ⟨⟨B.exec, B.bytes, hml, findClass_of_methodNamed B.named, hts⟩, hK, hZ, fun q h => Or.inr h⟩ (Nat.le_refl _) (Nat.le_refl _) G (fun v G pc ls H locs cells slots _ _ hd hW1 hS hkc hks hQ => W.widen (k := kc) (n := ks) (Nat.le_trans (Nat.le_add_right _ _) hkc) (Nat.le_trans (Nat.le_add_right _ _) hks) (W.aret (v := va_rf v) B.exec B.bytes B.returns (Or.inl ⟨_, rfl⟩) (va_rf_or v) (fun t ht _ => ⟨⟨v, G, rfl, hQ, by rw [← ht] at hW1; exact hW1⟩, hS.F ht⟩) hS.2.2 hd)) x0 x1 kc ks h ls _ [] 0 0 hl hW va_S.rf (by show 0 + kc ≤ kc; omega) (by show 0 + ks ≤ ks; omega)
def CT_J4_reverse (l : Launch) (fr lo : Nat) (w : XV → (Option Nat → GM → Prop) → Nat → GM → Prop) : Prop := ∀ (V : XV) (sz : Nat) (G : GM) (Q : Option Nat → GM → Prop) (x0 : Nat), Met l yJ4_reverse (ws_ yJ4_reverse cJ4_reverse 1 (some (.object "java/lang/StringBuilder"))) { frames := fr, cells := 0, slots := 0, locals := lo } (va_Pc [.ref x0] (fun U => U.heap.size = sz ∧ xW V (xA G sz) G U.heap ∧ xK V U ∧ xZ V (xA G sz) U U.heap ∧ w V Q x0 G)) (va_Qq (fun r (u : GM) => Q r u) (fun u t => xW V (xA G sz) u t.heap) (xA G sz)) 0 0 (xA G sz)
theorem call_J4_reverse_V {p : Program} {l : Launch} {e : Env} {R : Room} {s : State} {m : MethodId} {args : Array Value} {below : List Frame} {meth : Method} {c : Code} {H : Heap} {locs : List Loc} {cells slots : Nat} {Z : State → Prop} {A : Nat → Prop} {cc : ByteArray} {nL pc : Nat} {ls : Array Slot} {rest : List Value} {own : String} {index fr lo : Nat} {w : XV → (Option Nat → GM → Prop) → Nat → GM → Prop} {V : XV} {G : GM} {o : Option Nat} {ci : Nat} {x0 : Nat} (hM : CT_J4_reverse l fr lo w) (C : xC p m c s args cc nL own V A) (hW : xW V A G H) (hS : va_S A s.heap H locs) (hlink : Cond.methodLink own index yJ4_reverse ∈ lw_all) (ho : o = some x0) (hcv : gCi G (some x0) = some ci) (hci : ci % 64 = 16) (hRf : fr + 1 ≤ R.frames) (hRl : 8 + (1 + 11) + lo ≤ R.locals) (hcs : cells ≤ R.cells ∧ slots ≤ R.slots) (hz : ls.size = nL) (hr8 : (rest.map fun v => v.category).sum ≤ 8) (hdg : decode cc pc = .ok (.invokevirtual index, 3)) {Q1 : Option Nat → GM → Prop} (h : w V Q1 x0 G) (kk : ∀ (r : Option Nat) (G1 : GM) (H1 : Heap) (locs1 : List Loc), Q1 r G1 → xW V A G1 H1 → va_S A s.heap H1 locs1 → xFr V G G1 H H1 → W p l e R s m args below meth c H1 locs1 cells slots Z (F0 m (pc + 3) ls (va_rf r :: rest))) : W p l e R s m args below meth c H locs cells slots Z (F0 m pc ls (va_rf o :: rest)) := by
  subst ho
  obtain ⟨fs, hG⟩ := gCi_of hcv
  exact rg_q3w (va_runV (As := []) (rest := rest) C.1 (hM V H.size G Q1 x0) (cwV 0 C.1.2.2.2.2 (lw_V hlink q1646 q1647 q64 q1648) rfl rfl rfl (by decide +kernel) ⟨hRf, hRl⟩) ⟨fun a U g mk q => by obtain ⟨q0, q1, qW, qK, qZ, qw⟩ := q; exact ⟨q0, q1, qW, xK.same (u := U) (U := U.calling g mk a) rfl qK, xZ.moved (u := U) (U := U.calling g mk a) (Vm.Alike.refl U.vm) qZ, qw⟩, (hW.recv C.2.1 hG (r := (RJ4, TJ4, 4)) (by rw [hci]; rfl)), fun U hU hWm => ⟨rfl, by rw [hU], by rw [hU]; exact hW.self _, C.2.1.warm hWm, xZ.call C.2.2.1 hW hS C.2.2.2 hU hWm.alike, h⟩⟩ rfl rfl hz rfl (lv_room hr8) hdg hcs) hW hS C.2.2.2 (fun r G1 H1 locs1 hp hW1 hS1 hF1 => kk r G1 H1 locs1 hp hW1 hS1 hF1)
def w_J4_reverse (V : XV) (Q : Option Nat → GM → Prop) (x0 : Nat) (G : GM) : Prop := gRcv G (some x0) (fun a1 c2 => (c2 % 64 = 16) ∧ (w_J3_reverse V (fun r3 G4 => Q (some x0) G4) a1 G))
set_option maxRecDepth 100000 in
set_option maxHeartbeats 4000000 in
theorem wk_J4_reverse {p : Program} {l : Launch} {e : Env} {R : Room} {s : State} {m : MethodId} {args : Array Value} {below : List Frame} {meth : Method} {c : Code} {cells slots : Nat} {Z : State → Prop} {A : Nat → Prop} {V : XV} (Q : Option Nat → GM → Prop) (C : xC p m c s args cJ4_reverse 1 RJ4 V A) (hRf : 3 ≤ R.frames) (hRl : 66 ≤ R.locals) (hcs : cells ≤ R.cells ∧ slots ≤ R.slots) (G : GM) (hret : ∀ (v : Option Nat) (G : GM) (pc : Nat) (ls : Array Slot) (H : Heap) (locs : List Loc), decode cJ4_reverse pc = .ok (.areturn, 1) → xW V A G H → va_S A s.heap H locs → Q v G → W p l e R s m args below meth c H locs cells slots Z (F0 m pc ls [va_rf v])) (x0 : Nat) : w_J4_reverse V Q x0 G → ∀ (ls : Array Slot) (H : Heap) (locs : List Loc), lv_has ls 1 [(0, va_rf (some x0))] → xW V A G H → va_S A s.heap H locs → W p l e R s m args below meth c H locs cells slots Z (F0 m 0 ls []) := by
  have hx := C.1.1; have hb := C.1.2.1; have hml := C.1.2.2.1; have hown := C.1.2.2.2.1; have hts := C.1.2.2.2.2
  intro h
  intro ls H locs hl hW hS
  refine sh_aload_n hx hb dJ4_reverse_0 rfl (lv_at hl 0 rfl) ?_
  obtain ⟨a1, c2, ho1, hcv1, h⟩ := h
  have hcc := h.1
  have h := h.2
  refine call_J3_reverse_SU_StringBuilder (ct_J3_reverse l) C hW hS q1649 ho1 hcv1 hcc (le_lit hRf rfl) (le_lit hRl rfl) hcs hl.1 (Nat.le_of_ble_eq_true rfl) dJ4_reverse_1 h (fun r3 G4 H locs h hW hS _ => ?_)
  refine lv_pop hx hb dJ4_reverse_4 (va_rf_cat _) ?_
  refine sh_aload_n hx hb dJ4_reverse_5 rfl (lv_at hl 0 rfl) ?_
  exact hret _ _ _ _ _ _ dJ4_reverse_6 hW hS h
theorem ct_J4_reverse (l : Launch) : CT_J4_reverse l 3 66 w_J4_reverse := by
  intro V sz G Q x0
  refine Met.ofW (cc := cJ4_reverse) (maxL := 1) (ret := (some (.object "java/lang/StringBuilder"))) (by decide) rfl ?_
  intro p e s m args below meth c s₁ B hml hv
  obtain ⟨rfl, hsz, hW, hK, hZ, h⟩ := hv
  subst hsz
  have hts := atoms_spec (ws := (ws_ yJ4_reverse cJ4_reverse 1 (some (.object "java/lang/StringBuilder")))) B.pre
  have hts : ∀ w ∈ lw_all, w.before _ s = true := fun w h => hts w (List.mem_cons_of_mem _ h)
  have hl := lv_entry ([.ref x0]) (n := 1) (Nat.le_of_ble_eq_true rfl)
  rw [lg_entry_eq]
  generalize (lg_sl ([.ref x0]) ++ List.replicate (1 - (lg_sl ([.ref x0])).length) Slot.unset).toArray = ls at hl ⊢
  exact wk_J4_reverse Q ⟨⟨B.exec, B.bytes, hml, findClass_of_methodNamed B.named, hts⟩, hK, hZ, fun q h => Or.inr h⟩ (Nat.le_refl _) (Nat.le_refl _) ⟨Nat.le_refl _, Nat.le_refl _⟩ G (fun v G pc ls H locs hd hW1 hS hQ => W.aret (v := va_rf v) B.exec B.bytes B.returns (Or.inl ⟨_, rfl⟩) (va_rf_or v) (fun t ht _ => ⟨⟨v, G, rfl, hQ, by rw [← ht] at hW1; exact hW1⟩, hS.F ht⟩) hS.2.2 hd) x0 h ls _ [] hl hW va_S.rf
def CT_J4_insert (l : Launch) (fr lo : Nat) (w : XV → (Option Nat → GM → Prop) → Nat → Int32 → (Option Nat) → GM → Nat → Nat → Prop) : Prop := ∀ (V : XV) (sz : Nat) (G : GM) (Q : Option Nat → GM → Prop) (x0 : Nat) (x1 : Int32) (x2 : Option Nat) (kc ks : Nat), Met l yJ4_insert (ws_ yJ4_insert cJ4_insert 3 (some (.object "java/lang/StringBuilder"))) { frames := fr, cells := kc, slots := ks, locals := lo } (va_Pc [.ref x0, .int x1, va_rf x2] (fun U => U.heap.size = sz ∧ xW V (xA G sz) G U.heap ∧ xK V U ∧ xZ V (xA G sz) U U.heap ∧ w V Q x0 x1 x2 G kc ks)) (va_Qq (fun r (u : GM) => Q r u) (fun u t => xW V (xA G sz) u t.heap) (xA G sz)) kc ks (xA G sz)
theorem call_J4_insert_V {p : Program} {l : Launch} {e : Env} {R : Room} {s : State} {m : MethodId} {args : Array Value} {below : List Frame} {meth : Method} {c : Code} {H : Heap} {locs : List Loc} {cells slots : Nat} {Z : State → Prop} {A : Nat → Prop} {cc : ByteArray} {nL pc : Nat} {ls : Array Slot} {rest : List Value} {own : String} {index fr lo : Nat} {w : XV → (Option Nat → GM → Prop) → Nat → Int32 → (Option Nat) → GM → Nat → Nat → Prop} {V : XV} {G : GM} {o : Option Nat} {ci : Nat} {kc ks c1 s1 : Nat} {x0 : Nat} {x1 : Int32} {x2 : Option Nat} (hM : CT_J4_insert l fr lo w) (C : xC p m c s args cc nL own V A) (hW : xW V A G H) (hS : va_S A s.heap H locs) (hlink : Cond.methodLink own index yJ4_insert ∈ lw_all) (ho : o = some x0) (hcv : gCi G (some x0) = some ci) (hci : ci % 64 = 16) (hRf : fr + 1 ≤ R.frames) (hRl : 8 + (3 + 11) + lo ≤ R.locals) (hc1 : c1 ≤ kc) (hs1 : s1 ≤ ks) (hkc : cells + kc ≤ R.cells) (hks : slots + ks ≤ R.slots) (hz : ls.size = nL) (hr8 : (rest.map fun v => v.category).sum ≤ 8) (hdg : decode cc pc = .ok (.invokevirtual index, 3)) {Q1 : Option Nat → GM → Prop} (h : w V Q1 x0 x1 x2 G c1 s1) (kk : ∀ (r : Option Nat) (G1 : GM) (H1 : Heap) (locs1 : List Loc), Q1 r G1 → xW V A G1 H1 → va_S A s.heap H1 locs1 → xFr V G G1 H H1 → (cells + c1) + (kc - c1) ≤ R.cells → (slots + s1) + (ks - s1) ≤ R.slots → W p l e R s m args below meth c H1 locs1 (cells + c1) (slots + s1) Z (F0 m (pc + 3) ls (va_rf r :: rest))) : W p l e R s m args below meth c H locs cells slots Z (F0 m pc ls (va_rf x2 :: .int x1 :: va_rf o :: rest)) := by
  subst ho
  obtain ⟨fs, hG⟩ := gCi_of hcv
  exact rg_q3w (va_runV (As := [.int x1, va_rf x2]) (rest := rest) C.1 (hM V H.size G Q1 x0 x1 x2 c1 s1) (cwV 2 C.1.2.2.2.2 (lw_V hlink q1775 q1776 q64 q1777) rfl rfl rfl (by decide +kernel) ⟨hRf, hRl⟩) ⟨fun a U g mk q => by obtain ⟨q0, q1, qW, qK, qZ, qw⟩ := q; exact ⟨q0, q1, qW, xK.same (u := U) (U := U.calling g mk a) rfl qK, xZ.moved (u := U) (U := U.calling g mk a) (Vm.Alike.refl U.vm) qZ, qw⟩, (hW.recv C.2.1 hG (r := (RJ4, TJ4, 4)) (by rw [hci]; rfl)), fun U hU hWm => ⟨rfl, by rw [hU], by rw [hU]; exact hW.self _, C.2.1.warm hWm, xZ.call C.2.2.1 hW hS C.2.2.2 hU hWm.alike, h⟩⟩ rfl rfl hz rfl (lv_room hr8) hdg ⟨by omega, by omega⟩) hW hS C.2.2.2 (fun r G1 H1 locs1 hp hW1 hS1 hF1 => kk r G1 H1 locs1 hp hW1 hS1 hF1 (by omega) (by omega))
def w_J4_insert (V : XV) (Q : Option Nat → GM → Prop) (x0 : Nat) (x1 : Int32) (x2 : Option Nat) (G : GM) (kc : Nat) (ks : Nat) : Prop := gRcv G (some x0) (fun a1 c2 => (c2 % 64 = 16) ∧ (∃ c5 s6 : Nat, c5 ≤ kc ∧ s6 ≤ ks ∧ (w_J3_insert V (fun r3 G4 => Q (some x0) G4) a1 x1 x2 G c5 s6)))
set_option maxRecDepth 100000 in
set_option maxHeartbeats 4000000 in
theorem wk_J4_insert {p : Program} {l : Launch} {e : Env} {R : Room} {s : State} {m : MethodId} {args : Array Value} {below : List Frame} {meth : Method} {c : Code} {Z : State → Prop} {A : Nat → Prop} {V : XV} (Q : Option Nat → GM → Prop) (C : xC p m c s args cJ4_insert 3 RJ4 V A) (hRf : 15 ≤ R.frames) (hRl : 270 ≤ R.locals) (G : GM) (hret : ∀ (v : Option Nat) (G : GM) (pc : Nat) (ls : Array Slot) (H : Heap) (locs : List Loc) (cells slots : Nat) {k1 k2 : Nat}, decode cJ4_insert pc = .ok (.areturn, 1) → xW V A G H → va_S A s.heap H locs → cells + k1 ≤ R.cells → slots + k2 ≤ R.slots → Q v G → W p l e R s m args below meth c H locs cells slots Z (F0 m pc ls [va_rf v])) (x0 : Nat) (x1 : Int32) (x2 : Option Nat) (kc ks : Nat) : w_J4_insert V Q x0 x1 x2 G kc ks → ∀ (ls : Array Slot) (H : Heap) (locs : List Loc) (cells slots : Nat), lv_has ls 3 [(0, va_rf (some x0)), (1, .int x1), (2, va_rf x2)] → xW V A G H → va_S A s.heap H locs → cells + kc ≤ R.cells → slots + ks ≤ R.slots → W p l e R s m args below meth c H locs cells slots Z (F0 m 0 ls []) := by
  have hx := C.1.1; have hb := C.1.2.1; have hml := C.1.2.2.1; have hown := C.1.2.2.2.1; have hts := C.1.2.2.2.2
  intro h
  intro ls H locs cells slots hl hW hS hkc hks
  refine sh_aload_n hx hb dJ4_insert_0 rfl (lv_at hl 0 rfl) ?_
  refine lv_iload_n hx hb dJ4_insert_1 rfl (lv_at hl 1 rfl) ?_
  refine sh_aload_n hx hb dJ4_insert_2 rfl (lv_at hl 2 rfl) ?_
  obtain ⟨a1, c2, ho3, hcv3, h⟩ := h
  have hcc := h.1
  have h := h.2
  obtain ⟨c5, s6, hc3, hs3, h⟩ := h
  refine call_J3_insert_SU_StringBuilder (ct_J3_insert l) C hW hS q1778 ho3 hcv3 hcc (le_lit hRf rfl) (le_lit hRl rfl) hc3 hs3 hkc hks hl.1 (Nat.le_of_ble_eq_true rfl) dJ4_insert_3 h (fun r3 G4 H locs h hW hS _ hkc hks => ?_)
  refine lv_pop hx hb dJ4_insert_6 (va_rf_cat _) ?_
  refine sh_aload_n hx hb dJ4_insert_7 rfl (lv_at hl 0 rfl) ?_
  exact hret _ _ _ _ _ _ _ _ dJ4_insert_8 hW hS hkc hks h
theorem ct_J4_insert (l : Launch) : CT_J4_insert l 15 270 w_J4_insert := by
  intro V sz G Q x0 x1 x2 kc ks
  refine Met.ofW (cc := cJ4_insert) (maxL := 3) (ret := (some (.object "java/lang/StringBuilder"))) (by decide) rfl ?_
  intro p e s m args below meth c s₁ B hml hv
  obtain ⟨rfl, hsz, hW, hK, hZ, h⟩ := hv
  subst hsz
  have hts := atoms_spec (ws := (ws_ yJ4_insert cJ4_insert 3 (some (.object "java/lang/StringBuilder")))) B.pre
  have hts : ∀ w ∈ lw_all, w.before _ s = true := fun w h => hts w (List.mem_cons_of_mem _ h)
  have key : ∃ ls : Array Slot, entryFrame m ([.ref x0, .int x1, va_rf x2] : List Value).toArray 3 = F0 m 0 ls [] ∧ lv_has ls 3 [(0, va_rf (some x0)), (1, .int x1), (2, va_rf x2)] := by
    cases x2 <;> (refine ⟨_, by rw [lg_entry_eq], ?_⟩; exact lv_entry _ (Nat.le_of_ble_eq_true rfl))
  obtain ⟨ls, hfr, hl⟩ := key
  rw [hfr]
  exact wk_J4_insert Q ⟨⟨B.exec, B.bytes, hml, findClass_of_methodNamed B.named, hts⟩, hK, hZ, fun q h => Or.inr h⟩ (Nat.le_refl _) (Nat.le_refl _) G (fun v G pc ls H locs cells slots _ _ hd hW1 hS hkc hks hQ => W.widen (k := kc) (n := ks) (Nat.le_trans (Nat.le_add_right _ _) hkc) (Nat.le_trans (Nat.le_add_right _ _) hks) (W.aret (v := va_rf v) B.exec B.bytes B.returns (Or.inl ⟨_, rfl⟩) (va_rf_or v) (fun t ht _ => ⟨⟨v, G, rfl, hQ, by rw [← ht] at hW1; exact hW1⟩, hS.F ht⟩) hS.2.2 hd)) x0 x1 x2 kc ks h ls _ [] 0 0 hl hW va_S.rf (by show 0 + kc ≤ kc; omega) (by show 0 + ks ≤ ks; omega)
def CT_X1_checkState (l : Launch) (fr lo : Nat) (w : XV → (Prop) → (String → GM → Prop) → Int32 → GM → Nat → Nat → Prop) : Prop := ∀ (V : XV) (sz : Nat) (G : GM) (Q : Prop) (X : String → GM → Prop) (x0 : Int32) (kc ks : Nat), vx_Met l yX1_checkState (ws_ yX1_checkState cX1_checkState 1 none) { frames := fr, cells := kc, slots := ks, locals := lo } (va_Pc [.int x0] (fun U => U.heap.size = sz ∧ xW V (xA G sz) G U.heap ∧ xK V U ∧ xZ V (xA G sz) U U.heap ∧ w V Q X x0 G kc ks)) (va_Qv (fun (u : GM) => u = G ∧ Q) (fun u t => xW V (xA G sz) u t.heap) (xA G sz)) (vx_X (fun u : String × GM => X u.1 u.2) (fun E u t => E = u.1 ∧ xW V (xA G sz) u.2 t.heap) (xA G sz)) kc ks (xA G sz)
theorem call_X1_checkState_S {p : Program} {l : Launch} {e : Env} {R : Room} {s : State} {m : MethodId} {args : Array Value} {below : List Frame} {meth : Method} {c : Code} {H : Heap} {locs : List Loc} {cells slots : Nat} {Z : State → Prop} {A : Nat → Prop} {cc : ByteArray} {nL pc : Nat} {ls : Array Slot} {rest : List Value} {own : String} {index fr lo : Nat} {w : XV → (Prop) → (String → GM → Prop) → Int32 → GM → Nat → Nat → Prop} {V : XV} {G : GM} {kc ks c1 s1 : Nat} {x0 : Int32} (hM : CT_X1_checkState l fr lo w) (C : xC p m c s args cc nL own V A) (hW : xW V A G H) (hS : va_S A s.heap H locs) (hlink : Cond.methodLink own index yX1_checkState ∈ lw_all) (hRf : fr + 1 ≤ R.frames) (hRl : 8 + (1 + 11) + lo ≤ R.locals) (hc1 : c1 ≤ kc) (hs1 : s1 ≤ ks) (hkc : cells + kc ≤ R.cells) (hks : slots + ks ≤ R.slots) (hz : ls.size = nL) (hr8 : (rest.map fun v => v.category).sum ≤ 8) (hdg : decode cc pc = .ok (.invokestatic index, 3)) {Q1 : Prop} {X1 : String → GM → Prop} (h : w V Q1 X1 x0 G c1 s1) (kx : ∀ (E : String) (G1 : GM) (ce : Cell) (q9 : Addr) (H1 : Heap) (locs1 : List Loc), X1 E G1 → xW V A G1 H1 → va_S A s.heap H1 locs1 → H1[q9]? = some ce → ce.vm = .none → s.vm.findClass E = some ce.cls → xFr V G G1 H H1 → vx_W p l e R s m args below meth c H1 locs1 (cells + c1) (slots + s1) Z (F0 m pc ls rest) q9) (kk : ∀ (H1 : Heap) (locs1 : List Loc), Q1 → xW V A G H1 → va_S A s.heap H1 locs1 → xFr V G G H H1 → (cells + c1) + (kc - c1) ≤ R.cells → (slots + s1) + (ks - s1) ≤ R.slots → W p l e R s m args below meth c H1 locs1 (cells + c1) (slots + s1) Z (F0 m (pc + 3) ls (rest))) : W p l e R s m args below meth c H locs cells slots Z (F0 m pc ls (.int x0 :: rest)) := by
  exact rx_v3r (vx_runS (As := [.int x0]) (rest := rest) C.1 (hM V H.size G Q1 X1 x0 c1 s1) (va_cwS 1 C.1.2.2.2.2 (lw_S hlink q634 q59 q635) rfl rfl rfl (by decide +kernel) ⟨hRf, hRl⟩) ⟨fun a U g mk q => by obtain ⟨q0, q1, qW, qK, qZ, qw⟩ := q; exact ⟨q0, q1, qW, xK.same (u := U) (U := U.calling g mk a) rfl qK, xZ.moved (u := U) (U := U.calling g mk a) (Vm.Alike.refl U.vm) qZ, qw⟩, fun U hU hWm => ⟨rfl, by rw [hU], by rw [hU]; exact hW.self _, C.2.1.warm hWm, xZ.call C.2.2.1 hW hS C.2.2.2 hU hWm.alike, h⟩⟩ rfl rfl hz rfl (lv_room hr8) hdg ⟨by omega, by omega⟩) hW hS C.2.2.2 kx (fun H1 locs1 hp hW1 hS1 hF1 => kk H1 locs1 hp hW1 hS1 hF1 (by omega) (by omega))
def w_X1_checkState (V : XV) (Q : Prop) (X : String → GM → Prop) (x0 : Int32) (G : GM) (kc : Nat) (ks : Nat) : Prop := if x0 = 0 then (1 ≤ kc ∧ 6 ≤ ks ∧ X "java/lang/IllegalStateException" G) else (Q)
set_option maxRecDepth 100000 in
set_option maxHeartbeats 4000000 in
theorem wk_X1_checkState {p : Program} {l : Launch} {e : Env} {R : Room} {s : State} {m : MethodId} {args : Array Value} {below : List Frame} {meth : Method} {c : Code} {Z : State → Prop} {A : Nat → Prop} {V : XV} (Q : Prop) (X : String → GM → Prop) (C : xC p m c s args cX1_checkState 1 RX1 V A) (hfl : l.stackTraces = false) (hRf : 12 ≤ R.frames) (hRl : 200 ≤ R.locals) (G : GM) (hret : ∀ (pc : Nat) (ls : Array Slot) (H : Heap) (locs : List Loc) (cells slots : Nat) {k1 k2 : Nat}, decode cX1_checkState pc = .ok (.return_, 1) → xW V A G H → va_S A s.heap H locs → cells + k1 ≤ R.cells → slots + k2 ≤ R.slots → Q → W p l e R s m args below meth c H locs cells slots Z (F0 m pc ls [])) (hxo : ∀ (E : String) (G : GM) (ce : Cell) (q : Addr) (pc : Nat) (ls : Array Slot) (H : Heap) (locs : List Loc) (cells slots : Nat) (rest : List Value), xW V A G H → va_S A s.heap H locs → X E G → H[q]? = some ce → ce.vm = .none → s.vm.findClass E = some ce.cls → cells ≤ R.cells → slots ≤ R.slots → vx_W p l e R s m args below meth c H locs cells slots Z (F0 m pc ls rest) q) (hth4 : ∀ (G : GM) (ls : Array Slot) (H : Heap) (locs : List Loc) (cells slots : Nat) {k1 k2 : Nat}, ls.size = 1 → xW V A G H → va_S A s.heap H locs → cells + k1 ≤ R.cells → slots + k2 ≤ R.slots → 1 ≤ k1 → 6 ≤ k2 → X "java/lang/IllegalStateException" G → W p l e R s m args below meth c H locs cells slots Z (F0 m 4 ls [])) (x0 : Int32) (kc ks : Nat) : w_X1_checkState V Q X x0 G kc ks → ∀ (ls : Array Slot) (H : Heap) (locs : List Loc) (cells slots : Nat), lv_has ls 1 [(0, .int x0)] → xW V A G H → va_S A s.heap H locs → cells + kc ≤ R.cells → slots + ks ≤ R.slots → W p l e R s m args below meth c H locs cells slots Z (F0 m 0 ls []) := by
  have hx := C.1.1; have hb := C.1.2.1; have hml := C.1.2.2.1; have hown := C.1.2.2.2.1; have hts := C.1.2.2.2.2
  intro h
  intro ls H locs cells slots hl hW hS hkc hks
  refine lv_iload_n hx hb dX1_checkState_0 rfl (lv_at hl 0 rfl) ?_
  refine lv_if_ne (tgt := 12) hx hb dX1_checkState_1 (by decide) (fun c1 => ?_) (fun c1 => ?_)
  · have h := wif_f h c1
    exact hret  _ _ _ _ _ _ dX1_checkState_12 hW hS hkc hks h
  · have h := wif_t h c1
    exact hth4 _ ls H locs _ _ hl.1 hW hS hkc hks h.1 h.2.1 h.2.2
theorem ct_X1_checkState (l : Launch) (hfl : l.stackTraces = false) : CT_X1_checkState l 12 200 w_X1_checkState := by
  intro V sz G Q X x0 kc ks
  refine vx_ofW (cc := cX1_checkState) (maxL := 1) (ret := none) (by decide) rfl ?_
  intro p e s m args below meth c s₁ B hml hext hv
  obtain ⟨rfl, hsz, hW, hK, hZ, h⟩ := hv
  subst hsz
  have hts := atoms_spec (ws := (ws_ yX1_checkState cX1_checkState 1 none)) B.pre
  have hts : ∀ w ∈ lw_all, w.before _ s = true := fun w h => hts w (List.mem_cons_of_mem _ h)
  have hl := lv_entry ([.int x0]) (n := 1) (Nat.le_of_ble_eq_true rfl)
  rw [lg_entry_eq]
  generalize (lg_sl ([.int x0]) ++ List.replicate (1 - (lg_sl ([.int x0])).length) Slot.unset).toArray = ls at hl ⊢
  exact wk_X1_checkState Q X ⟨⟨B.exec, B.bytes, hml, findClass_of_methodNamed B.named, hts⟩, hK, hZ, fun q h => Or.inr h⟩ hfl (Nat.le_refl _) (Nat.le_refl _) G (fun pc ls H locs cells slots _ _ hd hW1 hS hkc hks hQ => W.widen (k := kc) (n := ks) (Nat.le_trans (Nat.le_add_right _ _) hkc) (Nat.le_trans (Nat.le_add_right _ _) hks) (vx_ret (W.vret B.exec B.bytes B.returns (fun t ht _ => ⟨⟨G, rfl, ⟨rfl, hQ⟩, by rw [← ht] at hW1; exact hW1⟩, hS.F ht⟩) hS.2.2 hd))) (fun E G9 ce q pc ls H locs cells slots rest hW1 hS hX h1 h2 h3 hc hs => vx_out (fun x hx => absurd (hext x hx) id) B.notSynchronized h1 h2 h3 (fun t ht _ => ⟨(E, G9), hX, ⟨rfl, by rw [← ht] at hW1; exact hW1⟩, hS.F ht⟩) hS.2.2 hc hs) (fun G9 ls H locs cells slots _ _ hz hW1 hS hkc hks h1 h6 hX => sh_throw ⟨⟨B.exec, B.bytes, hml, findClass_of_methodNamed B.named, hts⟩, hK, hZ, fun q h => Or.inr h⟩ hfl (fun x hx => (hext x hx).elim) B.notSynchronized xEx_ise hz hW1 hS (by show 12 ≤ 12; decide) (by show 200 ≤ 200; decide) (Nat.le_trans (Nat.add_le_add_left h1 _) hkc) (Nat.le_trans (Nat.add_le_add_left h6 _) hks) (Nat.le_refl _) (Nat.le_refl _) dX1_checkState_4 dX1_checkState_7 dX1_checkState_8 dX1_checkState_11 hX) x0 kc ks h ls _ [] 0 0 hl hW va_S.rf (by show 0 + kc ≤ kc; omega) (by show 0 + ks ≤ ks; omega)
def CT_X4_init (l : Launch) (fr lo : Nat) (w : XV → (GM → Prop) → Nat → Int32 → GM → Nat → Nat → Prop) : Prop := ∀ (V : XV) (sz : Nat) (G : GM) (Q : GM → Prop) (x0 : Nat) (x1 : Int32) (kc ks : Nat), Met l yX4_init (ws_ yX4_init cX4_init 2 none) { frames := fr, cells := kc, slots := ks, locals := lo } (va_Pc [.ref x0, .int x1] (fun U => U.heap.size = sz ∧ xW V (xA G sz) G U.heap ∧ xK V U ∧ xZ V (xA G sz) U U.heap ∧ w V Q x0 x1 G kc ks)) (va_Qv (fun (u : GM) => Q u) (fun u t => xW V (xA G sz) u t.heap) (xA G sz)) kc ks (xA G sz)
theorem call_X4_init_I {p : Program} {l : Launch} {e : Env} {R : Room} {s : State} {m : MethodId} {args : Array Value} {below : List Frame} {meth : Method} {c : Code} {H : Heap} {locs : List Loc} {cells slots : Nat} {Z : State → Prop} {A : Nat → Prop} {cc : ByteArray} {nL pc : Nat} {ls : Array Slot} {rest : List Value} {own : String} {index fr lo : Nat} {w : XV → (GM → Prop) → Nat → Int32 → GM → Nat → Nat → Prop} {V : XV} {G : GM} {o : Option Nat} {kc ks c1 s1 : Nat} {x0 : Nat} {x1 : Int32} (hM : CT_X4_init l fr lo w) (C : xC p m c s args cc nL own V A) (hW : xW V A G H) (hS : va_S A s.heap H locs) (hlink : Cond.methodLink own index yX4_init ∈ lw_all) (ho : o = some x0) (hRf : fr + 1 ≤ R.frames) (hRl : 8 + (2 + 11) + lo ≤ R.locals) (hc1 : c1 ≤ kc) (hs1 : s1 ≤ ks) (hkc : cells + kc ≤ R.cells) (hks : slots + ks ≤ R.slots) (hz : ls.size = nL) (hr8 : (rest.map fun v => v.category).sum ≤ 8) (hdg : decode cc pc = .ok (.invokespecial index, 3)) {Q1 : GM → Prop} (h : w V Q1 x0 x1 G c1 s1) (kk : ∀ (G1 : GM) (H1 : Heap) (locs1 : List Loc), Q1 G1 → xW V A G1 H1 → va_S A s.heap H1 locs1 → xFr V G G1 H H1 → (cells + c1) + (kc - c1) ≤ R.cells → (slots + s1) + (ks - s1) ≤ R.slots → W p l e R s m args below meth c H1 locs1 (cells + c1) (slots + s1) Z (F0 m (pc + 3) ls (rest))) : W p l e R s m args below meth c H locs cells slots Z (F0 m pc ls (.int x1 :: va_rf o :: rest)) := by
  subst ho
  exact rg_v3w (va_runI (As := [.int x1]) (rest := rest) C.1 (hM V H.size G Q1 x0 x1 c1 s1) (cwI 1 C.1.2.2.2.2 (lw_meth q661) rfl rfl rfl (C.1.2.2.2.2 _ q85) (C.1.2.2.2.2 _ hlink) (C.1.2.2.2.2 _ q660) rfl (by decide +kernel) ⟨hRf, hRl⟩) ⟨fun a U g mk q => by obtain ⟨q0, q1, qW, qK, qZ, qw⟩ := q; exact ⟨q0, q1, qW, xK.same (u := U) (U := U.calling g mk a) rfl qK, xZ.moved (u := U) (U := U.calling g mk a) (Vm.Alike.refl U.vm) qZ, qw⟩, fun U hU hWm => ⟨rfl, by rw [hU], by rw [hU]; exact hW.self _, C.2.1.warm hWm, xZ.call C.2.2.1 hW hS C.2.2.2 hU hWm.alike, h⟩⟩ rfl rfl hz rfl (lv_room hr8) hdg ⟨by omega, by omega⟩) hW hS C.2.2.2 (fun G1 H1 locs1 hp hW1 hS1 hF1 => kk G1 H1 locs1 hp hW1 hS1 hF1 (by omega) (by omega))
def w_X4_init (V : XV) (Q : GM → Prop) (x0 : Nat) (x1 : Int32) (G : GM) (kc : Nat) (ks : Nat) : Prop := gNw G 15 3 xdf_J2 kc ks (fun q1 G2 => w_J2_init V (fun G3 => gPF G3 12 (some x0) (va_rf (some q1)) (fun G4 => gPF G4 11 (some x0) (.int x1) (fun G5 => Q G5))) q1 G2)
set_option maxRecDepth 100000 in
set_option maxHeartbeats 4000000 in
theorem wk_X4_init {p : Program} {l : Launch} {e : Env} {R : Room} {s : State} {m : MethodId} {args : Array Value} {below : List Frame} {meth : Method} {c : Code} {Z : State → Prop} {A : Nat → Prop} {V : XV} (Q : GM → Prop) (C : xC p m c s args cX4_init 2 RX4 V A) (hin : meth.name = "<init>") (hRf : 4 ≤ R.frames) (hRl : 80 ≤ R.locals) (G : GM) (hret : ∀ (G : GM) (pc : Nat) (ls : Array Slot) (H : Heap) (locs : List Loc) (cells slots : Nat) {k1 k2 : Nat}, decode cX4_init pc = .ok (.return_, 1) → xW V A G H → va_S A s.heap H locs → cells + k1 ≤ R.cells → slots + k2 ≤ R.slots → Q G → W p l e R s m args below meth c H locs cells slots Z (F0 m pc ls [])) (x0 : Nat) (x1 : Int32) (kc ks : Nat) : w_X4_init V Q x0 x1 G kc ks → ∀ (ls : Array Slot) (H : Heap) (locs : List Loc) (cells slots : Nat), lv_has ls 2 [(0, va_rf (some x0)), (1, .int x1)] → xW V A G H → va_S A s.heap H locs → cells + kc ≤ R.cells → slots + ks ≤ R.slots → W p l e R s m args below meth c H locs cells slots Z (F0 m 0 ls []) := by
  have hx := C.1.1; have hb := C.1.2.1; have hml := C.1.2.2.1; have hown := C.1.2.2.2.1; have hts := C.1.2.2.2.2
  intro h
  intro ls H locs cells slots hl hW hS hkc hks
  refine sh_aload_n hx hb dX4_init_0 rfl (lv_at hl 0 rfl) ?_
  refine sh_objInit C q662 q110 q111 hl.1 (le_lit hRf rfl) (le_lit hRl rfl) (Nat.le_of_ble_eq_true rfl) dX4_init_1 ?_
  refine sh_aload_n hx hb dX4_init_4 rfl (lv_at hl 0 rfl) ?_
  refine sh_new C hW hS (ci := 15) rfl (by decide) q663 q113 q62 tyJ2_ok xdf_J2_ok h hkc hks dX4_init_5 (fun q1 G2 H hW hS h hkc hks => ?_)
  refine lv_dup hx hb dX4_init_8 (va_rf_cat _) ?_
  refine call_J2_init_I (ct_J2_init l) C hW hS q664 rfl (le_lit hRf rfl) (le_lit hRl rfl) ⟨Nat.le_trans (Nat.le_add_right _ _) hkc, Nat.le_trans (Nat.le_add_right _ _) hks⟩ hl.1 (Nat.le_of_ble_eq_true rfl) dX4_init_9 h (fun G3 H locs h hW hS _ => ?_)
  refine sh_putF C hW hS xFb_12 q667 (fun _ h => h) hin rfl xFd_12 (rf_nar_o _ _) (rf_fit_o _ _) h dX4_init_12 (fun G4 H locs hW hS h => ?_)
  refine sh_aload_n hx hb dX4_init_15 rfl (lv_at hl 0 rfl) ?_
  refine lv_iload_n hx hb dX4_init_16 rfl (lv_at hl 1 rfl) ?_
  refine sh_putF C hW hS xFb_11 q665 (fun _ h => h) hin rfl xFd_11 rfl rfl h dX4_init_17 (fun G5 H locs hW hS h => ?_)
  exact hret _ _ _ _ _ _ _ dX4_init_20 hW hS hkc hks h
theorem ct_X4_init (l : Launch) : CT_X4_init l 4 80 w_X4_init := by
  intro V sz G Q x0 x1 kc ks
  refine Met.ofW (cc := cX4_init) (maxL := 2) (ret := none) (by decide) rfl ?_
  intro p e s m args below meth c s₁ B hml hv
  obtain ⟨rfl, hsz, hW, hK, hZ, h⟩ := hv
  subst hsz
  have hts := atoms_spec (ws := (ws_ yX4_init cX4_init 2 none)) B.pre
  have hts : ∀ w ∈ lw_all, w.before _ s = true := fun w h => hts w (List.mem_cons_of_mem _ h)
  have hl := lv_entry ([.ref x0, .int x1]) (n := 2) (Nat.le_of_ble_eq_true rfl)
  rw [lg_entry_eq]
  generalize (lg_sl ([.ref x0, .int x1]) ++ List.replicate (2 - (lg_sl ([.ref x0, .int x1])).length) Slot.unset).toArray = ls at hl ⊢
  exact wk_X4_init Q ⟨⟨B.exec, B.bytes, hml, findClass_of_methodNamed B.named, hts⟩, hK, hZ, fun q h => Or.inr h⟩ (name_of_methodNamed B.named B.method).1 (Nat.le_refl _) (Nat.le_refl _) G (fun G pc ls H locs cells slots _ _ hd hW1 hS hkc hks hQ => W.widen (k := kc) (n := ks) (Nat.le_trans (Nat.le_add_right _ _) hkc) (Nat.le_trans (Nat.le_add_right _ _) hks) (W.vret B.exec B.bytes B.returns (fun t ht _ => ⟨⟨G, rfl, hQ, by rw [← ht] at hW1; exact hW1⟩, hS.F ht⟩) hS.2.2 hd)) x0 x1 kc ks h ls _ [] 0 0 hl hW va_S.rf (by show 0 + kc ≤ kc; omega) (by show 0 + ks ≤ ks; omega)
def CT_X1_addComposition (l : Launch) (fr lo : Nat) (w : XV → (Int32 → GM → Prop) → (String → GM → Prop) → Nat → GM → Nat → Nat → Prop) : Prop := ∀ (V : XV) (sz : Nat) (G : GM) (Q : Int32 → GM → Prop) (X : String → GM → Prop) (x0 : Nat) (kc ks : Nat), vx_Met l yX1_addComposition (ws_ yX1_addComposition cX1_addComposition 1 (some .int)) { frames := fr, cells := kc, slots := ks, locals := lo } (va_Pc [.ref x0] (fun U => U.heap.size = sz ∧ xW V (xA G sz) G U.heap ∧ xK V U ∧ xZ V (xA G sz) U U.heap ∧ w V Q X x0 G kc ks)) (va_Qi (fun r (u : GM) => Q r u) (fun u t => xW V (xA G sz) u t.heap) (xA G sz)) (vx_X (fun u : String × GM => X u.1 u.2) (fun E u t => E = u.1 ∧ xW V (xA G sz) u.2 t.heap) (xA G sz)) kc ks (xA G sz)
theorem call_X1_addComposition_V {p : Program} {l : Launch} {e : Env} {R : Room} {s : State} {m : MethodId} {args : Array Value} {below : List Frame} {meth : Method} {c : Code} {H : Heap} {locs : List Loc} {cells slots : Nat} {Z : State → Prop} {A : Nat → Prop} {cc : ByteArray} {nL pc : Nat} {ls : Array Slot} {rest : List Value} {own : String} {index fr lo : Nat} {w : XV → (Int32 → GM → Prop) → (String → GM → Prop) → Nat → GM → Nat → Nat → Prop} {V : XV} {G : GM} {o : Option Nat} {ci : Nat} {kc ks c1 s1 : Nat} {x0 : Nat} (hM : CT_X1_addComposition l fr lo w) (C : xC p m c s args cc nL own V A) (hW : xW V A G H) (hS : va_S A s.heap H locs) (hlink : Cond.methodLink own index yX1_addComposition ∈ lw_all) (ho : o = some x0) (hcv : gCi G (some x0) = some ci) (hci : ci % 64 = 0) (hRf : fr + 1 ≤ R.frames) (hRl : 8 + (1 + 11) + lo ≤ R.locals) (hc1 : c1 ≤ kc) (hs1 : s1 ≤ ks) (hkc : cells + kc ≤ R.cells) (hks : slots + ks ≤ R.slots) (hz : ls.size = nL) (hr8 : (rest.map fun v => v.category).sum ≤ 8) (hdg : decode cc pc = .ok (.invokevirtual index, 3)) {Q1 : Int32 → GM → Prop} {X1 : String → GM → Prop} (h : w V Q1 X1 x0 G c1 s1) (kx : ∀ (E : String) (G1 : GM) (ce : Cell) (q9 : Addr) (H1 : Heap) (locs1 : List Loc), X1 E G1 → xW V A G1 H1 → va_S A s.heap H1 locs1 → H1[q9]? = some ce → ce.vm = .none → s.vm.findClass E = some ce.cls → xFr V G G1 H H1 → vx_W p l e R s m args below meth c H1 locs1 (cells + c1) (slots + s1) Z (F0 m pc ls rest) q9) (kk : ∀ (r : Int32) (G1 : GM) (H1 : Heap) (locs1 : List Loc), Q1 r G1 → xW V A G1 H1 → va_S A s.heap H1 locs1 → xFr V G G1 H H1 → (cells + c1) + (kc - c1) ≤ R.cells → (slots + s1) + (ks - s1) ≤ R.slots → W p l e R s m args below meth c H1 locs1 (cells + c1) (slots + s1) Z (F0 m (pc + 3) ls (.int r :: rest))) : W p l e R s m args below meth c H locs cells slots Z (F0 m pc ls (va_rf o :: rest)) := by
  subst ho
  obtain ⟨fs, hG⟩ := gCi_of hcv
  exact rx_i3w (vx_runV (As := []) (rest := rest) C.1 (hM V H.size G Q1 X1 x0 c1 s1) (cwV 0 C.1.2.2.2.2 (lw_V hlink q630 q631 q59 q632) rfl rfl rfl (by decide +kernel) ⟨hRf, hRl⟩) ⟨fun a U g mk q => by obtain ⟨q0, q1, qW, qK, qZ, qw⟩ := q; exact ⟨q0, q1, qW, xK.same (u := U) (U := U.calling g mk a) rfl qK, xZ.moved (u := U) (U := U.calling g mk a) (Vm.Alike.refl U.vm) qZ, qw⟩, (hW.recv C.2.1 hG (r := (RX1, TX1, 6)) (by rw [hci]; rfl)), fun U hU hWm => ⟨rfl, by rw [hU], by rw [hU]; exact hW.self _, C.2.1.warm hWm, xZ.call C.2.2.1 hW hS C.2.2.2 hU hWm.alike, h⟩⟩ rfl rfl hz rfl (lv_room hr8) hdg ⟨by omega, by omega⟩) hW hS C.2.2.2 kx (fun r G1 H1 locs1 hp hW1 hS1 hF1 => kk r G1 H1 locs1 hp hW1 hS1 hF1 (by omega) (by omega))
def w_X1_addComposition_18 (V : XV) (Q : Int32 → GM → Prop) (X : String → GM → Prop) (x0 : Nat) (y0 : Int32) (G : GM) (kc : Nat) (ks : Nat) : Prop := ∃ c1 s2 : Nat, c1 ≤ kc ∧ s2 ≤ ks ∧ (w_X1_checkState V (gGR G 0 (some x0) (fun v3 => gNw G 2 2 xdf_X4 (kc - c1) (ks - s2) (fun q4 G5 => gGR G5 0 (some x0) (fun v6 => gRcv G5 v6 (fun a7 c8 => (c8 % 64 = 15) ∧ (w_J2_size V (fun r9 => ∃ c11 s12 : Nat, c11 ≤ ((kc - c1) - 1) ∧ s12 ≤ ((ks - s2) - 2) ∧ (w_X4_init V (fun G10 => gRcv G10 v3 (fun a13 c14 => (c14 % 64 = 15) ∧ (∃ c17 s18 : Nat, c17 ≤ (((kc - c1) - 1) - c11) ∧ s18 ≤ (((ks - s2) - 2) - s12) ∧ (w_J2_add V (fun r15 G16 => gGR G16 0 (some x0) (fun v19 => gRcv G16 v19 (fun a20 c21 => (c21 % 64 = 15) ∧ (w_J2_size V (fun r22 => Q (r22 - (1 : Int32)) G16) a20 G16)))) a13 (some q4) G10 c17 s18)))) q4 r9 G5 c11 s12)) a7 G5)))))) X y0 G c1 s2)
def w_X1_addComposition (V : XV) (Q : Int32 → GM → Prop) (X : String → GM → Prop) (x0 : Nat) (G : GM) (kc : Nat) (ks : Nat) : Prop := gGR G 0 (some x0) (fun v23 => gRcv G v23 (fun a24 c25 => (c25 % 64 = 15) ∧ (w_J2_size V (fun r26 => if (4 : Int32) ≤ r26 then (w_X1_addComposition_18 V Q X x0 (0 : Int32) G kc ks) else (w_X1_addComposition_18 V Q X x0 (1 : Int32) G kc ks)) a24 G)))
set_option maxRecDepth 100000 in
set_option maxHeartbeats 4000000 in
theorem wk_X1_addComposition {p : Program} {l : Launch} {e : Env} {R : Room} {s : State} {m : MethodId} {args : Array Value} {below : List Frame} {meth : Method} {c : Code} {Z : State → Prop} {A : Nat → Prop} {V : XV} (Q : Int32 → GM → Prop) (X : String → GM → Prop) (C : xC p m c s args cX1_addComposition 1 RX1 V A) (hfl : l.stackTraces = false) (hRf : 13 ≤ R.frames) (hRl : 220 ≤ R.locals) (G : GM) (hret : ∀ (v : Int32) (G : GM) (pc : Nat) (ls : Array Slot) (H : Heap) (locs : List Loc) (cells slots : Nat) {k1 k2 : Nat}, decode cX1_addComposition pc = .ok (.ireturn, 1) → xW V A G H → va_S A s.heap H locs → cells + k1 ≤ R.cells → slots + k2 ≤ R.slots → Q v G → W p l e R s m args below meth c H locs cells slots Z (F0 m pc ls [.int v])) (hxo : ∀ (E : String) (G : GM) (ce : Cell) (q : Addr) (pc : Nat) (ls : Array Slot) (H : Heap) (locs : List Loc) (cells slots : Nat) (rest : List Value), xW V A G H → va_S A s.heap H locs → X E G → H[q]? = some ce → ce.vm = .none → s.vm.findClass E = some ce.cls → cells ≤ R.cells → slots ≤ R.slots → vx_W p l e R s m args below meth c H locs cells slots Z (F0 m pc ls rest) q) (x0 : Nat) (kc ks : Nat) : w_X1_addComposition V Q X x0 G kc ks → ∀ (ls : Array Slot) (H : Heap) (locs : List Loc) (cells slots : Nat), lv_has ls 1 [(0, va_rf (some x0))] → xW V A G H → va_S A s.heap H locs → cells + kc ≤ R.cells → slots + ks ≤ R.slots → W p l e R s m args below meth c H locs cells slots Z (F0 m 0 ls []) := by
  have hx := C.1.1; have hb := C.1.2.1; have hml := C.1.2.2.1; have hown := C.1.2.2.2.1; have hts := C.1.2.2.2.2
  have hb18 : ∀ (y0 : Int32) (G : GM) (kc : Nat) (ks : Nat), w_X1_addComposition_18 V Q X x0 y0 G kc ks → ∀ (ls : Array Slot) (H : Heap) (locs : List Loc) (cells slots : Nat), lv_has ls 1 [(0, va_rf (some x0))] → xW V A G H → va_S A s.heap H locs → cells + kc ≤ R.cells → slots + ks ≤ R.slots → W p l e R s m args below meth c H locs cells slots Z (F0 m 18 ls [.int y0]) := by
    intro y0 G kc ks h
    intro ls H locs cells slots hl hW hS hkc hks
    obtain ⟨c1, s2, hc18, hs18, h⟩ := h
    refine call_X1_checkState_S (ct_X1_checkState l hfl) C hW hS q633 (le_lit hRf rfl) (le_lit hRl rfl) hc18 hs18 hkc hks hl.1 (Nat.le_of_ble_eq_true rfl) dX1_addComposition_18 h (fun E G9 ce q9 H locs hX hW hS h1 h2 h3 _ => hxo E G9 ce q9 18 ls H locs _ _ _ hW hS hX h1 h2 h3 (by omega) (by omega)) (fun  H locs h hW hS _ hkc hks => ?_)
    refine sh_aload_n hx hb dX1_addComposition_21 rfl (lv_at hl 0 rfl) ?_
    obtain ⟨v3, h1, h⟩ := h
    refine sh_get C hW xFb_0 q201 (fun _ h => h) h1 dX1_addComposition_22 ?_
    refine sh_new C hW hS (ci := 2) rfl (by decide) q657 q658 q85 tyX4_ok xdf_X4_ok h hkc hks dX1_addComposition_25 (fun q4 G5 H hW hS h hkc hks => ?_)
    refine lv_dup hx hb dX1_addComposition_28 (va_rf_cat _) ?_
    refine sh_aload_n hx hb dX1_addComposition_29 rfl (lv_at hl 0 rfl) ?_
    obtain ⟨v6, h1, h⟩ := h
    refine sh_get C hW xFb_0 q201 (fun _ h => h) h1 dX1_addComposition_30 ?_
    obtain ⟨a7, c8, ho33, hcv33, h⟩ := h
    have hcc := h.1
    have h := h.2
    refine call_J2_size_F15_List (ct_J2_size l) C hW hS q225 ho33 hcv33 hcc (le_lit hRf rfl) (le_lit hRl rfl) ⟨Nat.le_trans (Nat.le_add_right _ _) hkc, Nat.le_trans (Nat.le_add_right _ _) hks⟩ hl.1 (by simp only [List.map_cons, List.map_nil, va_rf_cat]; exact Nat.le_of_ble_eq_true rfl) dX1_addComposition_33 h (fun r9 H locs h hW hS _ => ?_)
    obtain ⟨c11, s12, hc38, hs38, h⟩ := h
    refine call_X4_init_I (ct_X4_init l) C hW hS q659 rfl (le_lit hRf rfl) (le_lit hRl rfl) hc38 hs38 hkc hks hl.1 (by simp only [List.map_cons, List.map_nil, va_rf_cat]; exact Nat.le_of_ble_eq_true rfl) dX1_addComposition_38 h (fun G10 H locs h hW hS _ hkc hks => ?_)
    obtain ⟨a13, c14, ho41, hcv41, h⟩ := h
    have hcc := h.1
    have h := h.2
    obtain ⟨c17, s18, hc41, hs41, h⟩ := h
    refine call_J2_add_F15_List (ct_J2_add l) C hW hS q676 ho41 hcv41 hcc (le_lit hRf rfl) (le_lit hRl rfl) hc41 hs41 hkc hks hl.1 (Nat.le_of_ble_eq_true rfl) dX1_addComposition_41 h (fun r15 G16 H locs h hW hS _ hkc hks => ?_)
    refine lv_pop hx hb dX1_addComposition_46 rfl ?_
    refine sh_aload_n hx hb dX1_addComposition_47 rfl (lv_at hl 0 rfl) ?_
    obtain ⟨v19, h1, h⟩ := h
    refine sh_get C hW xFb_0 q201 (fun _ h => h) h1 dX1_addComposition_48 ?_
    obtain ⟨a20, c21, ho51, hcv51, h⟩ := h
    have hcc := h.1
    have h := h.2
    refine call_J2_size_F15_List (ct_J2_size l) C hW hS q225 ho51 hcv51 hcc (le_lit hRf rfl) (le_lit hRl rfl) ⟨Nat.le_trans (Nat.le_add_right _ _) hkc, Nat.le_trans (Nat.le_add_right _ _) hks⟩ hl.1 (Nat.le_of_ble_eq_true rfl) dX1_addComposition_51 h (fun r22 H locs h hW hS _ => ?_)
    refine lv_iconst (v := 1) hx hb dX1_addComposition_56 (by decide) ?_
    refine lv_isub hx hb dX1_addComposition_57 ?_
    exact hret _ _ _ _ _ _ _ _ dX1_addComposition_58 hW hS hkc hks h
  intro h
  intro ls H locs cells slots hl hW hS hkc hks
  refine sh_aload_n hx hb dX1_addComposition_0 rfl (lv_at hl 0 rfl) ?_
  obtain ⟨v23, h1, h⟩ := h
  refine sh_get C hW xFb_0 q201 (fun _ h => h) h1 dX1_addComposition_1 ?_
  obtain ⟨a24, c25, ho4, hcv4, h⟩ := h
  have hcc := h.1
  have h := h.2
  refine call_J2_size_F15_List (ct_J2_size l) C hW hS q225 ho4 hcv4 hcc (le_lit hRf rfl) (le_lit hRl rfl) ⟨Nat.le_trans (Nat.le_add_right _ _) hkc, Nat.le_trans (Nat.le_add_right _ _) hks⟩ hl.1 (Nat.le_of_ble_eq_true rfl) dX1_addComposition_4 h (fun r26 H locs h hW hS _ => ?_)
  refine lv_iconst (v := 4) hx hb dX1_addComposition_9 (by decide) ?_
  refine lv_icmp_ge (tgt := 17) hx hb dX1_addComposition_10 (by decide) (fun c27 => ?_) (fun c27 => ?_)
  · have h := wif_t h c27
    refine lv_iconst (v := 0) hx hb dX1_addComposition_17 (by decide) ?_
    exact hb18 _ _ _ _ h ls H locs _ _ (lv_sub hl [0] rfl) hW hS hkc hks
  · have h := wif_f h c27
    refine lv_iconst (v := 1) hx hb dX1_addComposition_13 (by decide) ?_
    refine lv_goto (tgt := 18) hx hb dX1_addComposition_14 (by decide) ?_
    exact hb18 _ _ _ _ h ls H locs _ _ (lv_sub hl [0] rfl) hW hS hkc hks
theorem ct_X1_addComposition (l : Launch) (hfl : l.stackTraces = false) : CT_X1_addComposition l 13 220 w_X1_addComposition := by
  intro V sz G Q X x0 kc ks
  refine vx_ofW (cc := cX1_addComposition) (maxL := 1) (ret := (some .int)) (by decide) rfl ?_
  intro p e s m args below meth c s₁ B hml hext hv
  obtain ⟨rfl, hsz, hW, hK, hZ, h⟩ := hv
  subst hsz
  have hts := atoms_spec (ws := (ws_ yX1_addComposition cX1_addComposition 1 (some .int))) B.pre
  have hts : ∀ w ∈ lw_all, w.before _ s = true := fun w h => hts w (List.mem_cons_of_mem _ h)
  have hl := lv_entry ([.ref x0]) (n := 1) (Nat.le_of_ble_eq_true rfl)
  rw [lg_entry_eq]
  generalize (lg_sl ([.ref x0]) ++ List.replicate (1 - (lg_sl ([.ref x0])).length) Slot.unset).toArray = ls at hl ⊢
  exact wk_X1_addComposition Q X ⟨⟨B.exec, B.bytes, hml, findClass_of_methodNamed B.named, hts⟩, hK, hZ, fun q h => Or.inr h⟩ hfl (Nat.le_refl _) (Nat.le_refl _) G (fun v G pc ls H locs cells slots _ _ hd hW1 hS hkc hks hQ => W.widen (k := kc) (n := ks) (Nat.le_trans (Nat.le_add_right _ _) hkc) (Nat.le_trans (Nat.le_add_right _ _) hks) (vx_ret (W.iret (v := v) B.exec B.bytes B.returns (fun t ht _ => ⟨⟨v, G, rfl, hQ, by rw [← ht] at hW1; exact hW1⟩, hS.F ht⟩) hS.2.2 hd))) (fun E G9 ce q pc ls H locs cells slots rest hW1 hS hX h1 h2 h3 hc hs => vx_out (fun x hx => absurd (hext x hx) id) B.notSynchronized h1 h2 h3 (fun t ht _ => ⟨(E, G9), hX, ⟨rfl, by rw [← ht] at hW1; exact hW1⟩, hS.F ht⟩) hS.2.2 hc hs) x0 kc ks h ls _ [] 0 0 hl hW va_S.rf (by show 0 + kc ≤ kc; omega) (by show 0 + ks ≤ ks; omega)
def CT_X0_addComposition (l : Launch) (fr lo : Nat) (w : XV → (Int32 → GM → Prop) → (Option Nat) → (Option Nat) → GM → Nat → Nat → Prop) : Prop := ∀ (V : XV) (sz : Nat) (G : GM) (Q : Int32 → GM → Prop) (x0 : Option Nat) (x1 : Option Nat) (kc ks : Nat), Met l yX0_addComposition (wsW_ yX0_addComposition cX0_addComposition 3 (some .int) [(0, 8, 11, 13)]) { frames := fr, cells := kc, slots := ks, locals := lo } (va_Pc [va_rf x0, va_rf x1] (fun U => U.heap.size = sz ∧ xW V (xA G sz) G U.heap ∧ xK V U ∧ xZ V (xA G sz) U U.heap ∧ w V Q x0 x1 G kc ks)) (va_Qi (fun r (u : GM) => Q r u) (fun u t => xW V (xA G sz) u t.heap) (xA G sz)) kc ks (xA G sz)
def w_X0_addComposition (V : XV) (Q : Int32 → GM → Prop) (x0 : Option Nat) (x1 : Option Nat) (G : GM) (kc : Nat) (ks : Nat) : Prop := gRcv G x0 (fun a1 c2 => (c2 % 64 = 0) ∧ (∃ c5 s6 : Nat, c5 ≤ kc ∧ s6 ≤ ks ∧ (w_X1_addComposition V (fun r3 G4 => gJS G4 1 x1 (0 : Int32) (r3.toInt64) (fun G7 => Q (0 : Int32) G7)) (fun E G9 => if E = "java/lang/IllegalStateException" then Q (1 : Int32) G9 else (False)) a1 G c5 s6)))
set_option maxRecDepth 100000 in
set_option maxHeartbeats 4000000 in
theorem wk_X0_addComposition {p : Program} {l : Launch} {e : Env} {R : Room} {s : State} {m : MethodId} {args : Array Value} {below : List Frame} {meth : Method} {c : Code} {Z : State → Prop} {A : Nat → Prop} {V : XV} (Q : Int32 → GM → Prop) (C : xC p m c s args cX0_addComposition 3 RX0 V A) (hfl : l.stackTraces = false) (htab : c.exceptionTable.toList = tableOf [(0, 8, 11, 13)]) (hRf : 14 ≤ R.frames) (hRl : 240 ≤ R.locals) (G : GM) (hret : ∀ (v : Int32) (G : GM) (pc : Nat) (ls : Array Slot) (H : Heap) (locs : List Loc) (cells slots : Nat) {k1 k2 : Nat}, decode cX0_addComposition pc = .ok (.ireturn, 1) → xW V A G H → va_S A s.heap H locs → cells + k1 ≤ R.cells → slots + k2 ≤ R.slots → Q v G → W p l e R s m args below meth c H locs cells slots Z (F0 m pc ls [.int v])) (x0 : Option Nat) (x1 : Option Nat) (kc ks : Nat) : w_X0_addComposition V Q x0 x1 G kc ks → ∀ (ls : Array Slot) (H : Heap) (locs : List Loc) (cells slots : Nat), lv_has ls 3 [(0, va_rf x0), (1, va_rf x1)] → xW V A G H → va_S A s.heap H locs → cells + kc ≤ R.cells → slots + ks ≤ R.slots → W p l e R s m args below meth c H locs cells slots Z (F0 m 0 ls []) := by
  have hx := C.1.1; have hb := C.1.2.1; have hml := C.1.2.2.1; have hown := C.1.2.2.2.1; have hts := C.1.2.2.2.2
  intro h
  intro ls H locs cells slots hl hW hS hkc hks
  refine sh_aload_n hx hb dX0_addComposition_0 rfl (lv_at hl 1 rfl) ?_
  refine lv_iconst (v := 0) hx hb dX0_addComposition_1 (by decide) ?_
  refine sh_aload_n hx hb dX0_addComposition_2 rfl (lv_at hl 0 rfl) ?_
  obtain ⟨a1, c2, ho3, hcv3, h⟩ := h
  have hcc := h.1
  have h := h.2
  obtain ⟨c5, s6, hc3, hs3, h⟩ := h
  refine call_X1_addComposition_V (ct_X1_addComposition l hfl) C hW hS q629 ho3 hcv3 hcc (le_lit hRf rfl) (le_lit hRl rfl) hc3 hs3 hkc hks hl.1 (by simp only [List.map_cons, List.map_nil, va_rf_cat]; exact Nat.le_of_ble_eq_true rfl) dX0_addComposition_3 h (fun E G9 ce q9 H locs hX hW hS h1 h2 h3 _ => by
      by_cases c900 : E = "java/lang/IllegalStateException"
      · have hX := wif_t hX c900
        subst c900
        refine vx_catch hown [] ⟨0, 8, 11, 13⟩ [] (htab.trans rfl) (fun z hz => absurd hz List.not_mem_nil) rfl (by decide) (hts _ q628) (va_Nw.use rfl (C.2.1.2.2.1 _ q638 rfl)) h1 h2 h3 ?_
        refine sh_astore_n (lv' := [(2, va_rf (some q9)), (0, va_rf x0), (1, va_rf x1)]) hx hb dX0_addComposition_11 rfl hl (by decide) (by simp only [List.filter_cons, List.filter_nil, va_rf_cat]; rfl) (fun ls hl => ?_)
        refine lv_iconst (v := 1) hx hb dX0_addComposition_12 (by decide) ?_
        exact hret _ _ _ _ _ _ _ _ (k1 := 0) (k2 := 0) dX0_addComposition_13 hW hS (by omega) (by omega) hX
      have hX := wif_f hX c900
      exact False.elim hX) (fun r3 G4 H locs h hW hS _ hkc hks => ?_)
  refine lv_i2l hx hb dX0_addComposition_6 rfl ?_
  refine sh_last C hW hS h dX0_addComposition_7 (fun G7 H locs hW hS h => ?_)
  refine lv_goto (tgt := 14) hx hb dX0_addComposition_8 (by decide) ?_
  refine lv_iconst (v := 0) hx hb dX0_addComposition_14 (by decide) ?_
  exact hret _ _ _ _ _ _ _ _ dX0_addComposition_15 hW hS hkc hks h
theorem ct_X0_addComposition (l : Launch) (hfl : l.stackTraces = false) : CT_X0_addComposition l 14 240 w_X0_addComposition := by
  intro V sz G Q x0 x1 kc ks
  refine gx_ofWH (cc := cX0_addComposition) (maxL := 3) (ret := (some .int)) (hh := [(0, 8, 11, 13)]) (by decide) rfl ?_
  intro p e s m args below meth c s₁ B hml htab hv
  obtain ⟨rfl, hsz, hW, hK, hZ, h⟩ := hv
  subst hsz
  have hts := atoms_spec (ws := (wsW_ yX0_addComposition cX0_addComposition 3 (some .int) [(0, 8, 11, 13)])) B.pre
  have hts : ∀ w ∈ lw_all, w.before _ s = true := fun w h => hts w (List.mem_cons_of_mem _ h)
  have key : ∃ ls : Array Slot, entryFrame m ([va_rf x0, va_rf x1] : List Value).toArray 3 = F0 m 0 ls [] ∧ lv_has ls 3 [(0, va_rf x0), (1, va_rf x1)] := by
    cases x0 <;> cases x1 <;> (refine ⟨_, by rw [lg_entry_eq], ?_⟩; exact lv_entry _ (Nat.le_of_ble_eq_true rfl))
  obtain ⟨ls, hfr, hl⟩ := key
  rw [hfr]
  exact wk_X0_addComposition Q ⟨⟨B.exec, B.bytes, hml, findClass_of_methodNamed B.named, hts⟩, hK, hZ, fun q h => Or.inr h⟩ hfl htab (Nat.le_refl _) (Nat.le_refl _) G (fun v G pc ls H locs cells slots _ _ hd hW1 hS hkc hks hQ => W.widen (k := kc) (n := ks) (Nat.le_trans (Nat.le_add_right _ _) hkc) (Nat.le_trans (Nat.le_add_right _ _) hks) (W.iret (v := v) B.exec B.bytes B.returns (fun t ht _ => ⟨⟨v, G, rfl, hQ, by rw [← ht] at hW1; exact hW1⟩, hS.F ht⟩) hS.2.2 hd)) x0 x1 kc ks h ls _ [] 0 0 hl hW va_S.rf (by show 0 + kc ≤ kc; omega) (by show 0 + ks ≤ ks; omega)
def CT_X1_isBetween (l : Launch) (fr lo : Nat) (w : XV → (Int32 → Prop) → Int32 → Int32 → Int32 → GM → Prop) : Prop := ∀ (V : XV) (sz : Nat) (G : GM) (Q : Int32 → Prop) (x0 : Int32) (x1 : Int32) (x2 : Int32), Met l yX1_isBetween (ws_ yX1_isBetween cX1_isBetween 3 (some .boolean)) { frames := fr, cells := 0, slots := 0, locals := lo } (va_Pc [.int x0, .int x1, .int x2] (fun U => U.heap.size = sz ∧ xW V (xA G sz) G U.heap ∧ xK V U ∧ xZ V (xA G sz) U U.heap ∧ w V Q x0 x1 x2 G)) (va_Qi (fun r (u : GM) => u = G ∧ Q r) (fun u t => xW V (xA G sz) u t.heap) (xA G sz)) 0 0 (xA G sz)
theorem call_X1_isBetween_S {p : Program} {l : Launch} {e : Env} {R : Room} {s : State} {m : MethodId} {args : Array Value} {below : List Frame} {meth : Method} {c : Code} {H : Heap} {locs : List Loc} {cells slots : Nat} {Z : State → Prop} {A : Nat → Prop} {cc : ByteArray} {nL pc : Nat} {ls : Array Slot} {rest : List Value} {own : String} {index fr lo : Nat} {w : XV → (Int32 → Prop) → Int32 → Int32 → Int32 → GM → Prop} {V : XV} {G : GM} {x0 : Int32} {x1 : Int32} {x2 : Int32} (hM : CT_X1_isBetween l fr lo w) (C : xC p m c s args cc nL own V A) (hW : xW V A G H) (hS : va_S A s.heap H locs) (hlink : Cond.methodLink own index yX1_isBetween ∈ lw_all) (hRf : fr + 1 ≤ R.frames) (hRl : 8 + (3 + 11) + lo ≤ R.locals) (hcs : cells ≤ R.cells ∧ slots ≤ R.slots) (hz : ls.size = nL) (hr8 : (rest.map fun v => v.category).sum ≤ 8) (hdg : decode cc pc = .ok (.invokestatic index, 3)) {Q1 : Int32 → Prop} (h : w V Q1 x0 x1 x2 G) (kk : ∀ (r : Int32) (H1 : Heap) (locs1 : List Loc), Q1 r → xW V A G H1 → va_S A s.heap H1 locs1 → xFr V G G H H1 → W p l e R s m args below meth c H1 locs1 cells slots Z (F0 m (pc + 3) ls (.int r :: rest))) : W p l e R s m args below meth c H locs cells slots Z (F0 m pc ls (.int x2 :: .int x1 :: .int x0 :: rest)) := by
  exact rg_i3r (va_runS (As := [.int x0, .int x1, .int x2]) (rest := rest) C.1 (hM V H.size G Q1 x0 x1 x2) (va_cwS 3 C.1.2.2.2.2 (lw_S hlink q594 q59 q595) rfl rfl rfl (by decide +kernel) ⟨hRf, hRl⟩) ⟨fun a U g mk q => by obtain ⟨q0, q1, qW, qK, qZ, qw⟩ := q; exact ⟨q0, q1, qW, xK.same (u := U) (U := U.calling g mk a) rfl qK, xZ.moved (u := U) (U := U.calling g mk a) (Vm.Alike.refl U.vm) qZ, qw⟩, fun U hU hWm => ⟨rfl, by rw [hU], by rw [hU]; exact hW.self _, C.2.1.warm hWm, xZ.call C.2.2.1 hW hS C.2.2.2 hU hWm.alike, h⟩⟩ rfl rfl hz rfl (lv_room hr8) hdg hcs) hW hS C.2.2.2 (fun r H1 locs1 hp hW1 hS1 hF1 => kk r H1 locs1 hp hW1 hS1 hF1)
theorem call_X1_isBetween_SN {p : Program} {l : Launch} {e : Env} {R : Room} {s : State} {m : MethodId} {args : Array Value} {below : List Frame} {meth : Method} {c : Code} {H : Heap} {locs : List Loc} {cells slots : Nat} {Z : State → Prop} {A : Nat → Prop} {cc : ByteArray} {nL pc : Nat} {ls : Array Slot} {rest : List Value} {own : String} {index fr lo : Nat} {w : XV → (Int32 → Prop) → Int32 → Int32 → Int32 → GM → Prop} {V : XV} {G : GM} {x0 : Int32} {x1 : Int32} {x2 : Int32} (hM : CT_X1_isBetween l fr lo w) (C : xC p m c s args cc nL own V A) (hW : xW V A G H) (hS : va_S A s.heap H locs) (hlink : Cond.methodLinkNest own index yX1_isBetween "Shapelayer" ∈ lw_tbl) (hRf : fr + 1 ≤ R.frames) (hRl : 8 + (3 + 11) + lo ≤ R.locals) (hcs : cells ≤ R.cells ∧ slots ≤ R.slots) (hz : ls.size = nL) (hr8 : (rest.map fun v => v.category).sum ≤ 8) (hdg : decode cc pc = .ok (.invokestatic index, 3)) {Q1 : Int32 → Prop} (h : w V Q1 x0 x1 x2 G) (kk : ∀ (r : Int32) (H1 : Heap) (locs1 : List Loc), Q1 r → xW V A G H1 → va_S A s.heap H1 locs1 → xFr V G G H H1 → W p l e R s m args below meth c H1 locs1 cells slots Z (F0 m (pc + 3) ls (.int r :: rest))) : W p l e R s m args below meth c H locs cells slots Z (F0 m pc ls (.int x2 :: .int x1 :: .int x0 :: rest)) := by
  exact rg_i3r (va_runSN (As := [.int x0, .int x1, .int x2]) (rest := rest) C.1 (hM V H.size G Q1 x0 x1 x2) ⟨va_cnB (host := "Shapelayer") 3 C.1.2.2.2.2 (lw_meth q595) rfl rfl rfl (C.2.1.2.2.1 _ hlink rfl) (C.1.2.2.2.2 _ q59) (by decide +kernel) ⟨hRf, hRl⟩, C.1.2.2.2.2 _ q594, trivial⟩ ⟨fun a U g mk q => by obtain ⟨q0, q1, qW, qK, qZ, qw⟩ := q; exact ⟨q0, q1, qW, xK.same (u := U) (U := U.calling g mk a) rfl qK, xZ.moved (u := U) (U := U.calling g mk a) (Vm.Alike.refl U.vm) qZ, qw⟩, fun U hU hWm => ⟨rfl, by rw [hU], by rw [hU]; exact hW.self _, C.2.1.warm hWm, xZ.call C.2.2.1 hW hS C.2.2.2 hU hWm.alike, h⟩⟩ rfl rfl hz rfl (lv_room hr8) hdg hcs) hW hS C.2.2.2 (fun r H1 locs1 hp hW1 hS1 hF1 => kk r H1 locs1 hp hW1 hS1 hF1)
def w_X1_isBetween (V : XV) (Q : Int32 → Prop) (x0 : Int32) (x1 : Int32) (x2 : Int32) (G : GM) : Prop := if x0 < x1 then (Q (0 : Int32)) else (if x2 < x0 then (Q (0 : Int32)) else (Q (1 : Int32)))
set_option maxRecDepth 100000 in
set_option maxHeartbeats 4000000 in
theorem wk_X1_isBetween {p : Program} {l : Launch} {e : Env} {R : Room} {s : State} {m : MethodId} {args : Array Value} {below : List Frame} {meth : Method} {c : Code} {cells slots : Nat} {Z : State → Prop} {A : Nat → Prop} {V : XV} (Q : Int32 → Prop) (C : xC p m c s args cX1_isBetween 3 RX1 V A) (hRf : 1 ≤ R.frames) (hRl : 20 ≤ R.locals) (hcs : cells ≤ R.cells ∧ slots ≤ R.slots) (G : GM) (hret : ∀ (v : Int32) (pc : Nat) (ls : Array Slot) (H : Heap) (locs : List Loc), decode cX1_isBetween pc = .ok (.ireturn, 1) → xW V A G H → va_S A s.heap H locs → isZ v → Q v → W p l e R s m args below meth c H locs cells slots Z (F0 m pc ls [.int v])) (x0 : Int32) (x1 : Int32) (x2 : Int32) : w_X1_isBetween V Q x0 x1 x2 G → ∀ (ls : Array Slot) (H : Heap) (locs : List Loc), lv_has ls 3 [(0, .int x0), (1, .int x1), (2, .int x2)] → xW V A G H → va_S A s.heap H locs → W p l e R s m args below meth c H locs cells slots Z (F0 m 0 ls []) := by
  have hx := C.1.1; have hb := C.1.2.1; have hml := C.1.2.2.1; have hown := C.1.2.2.2.1; have hts := C.1.2.2.2.2
  intro h
  intro ls H locs hl hW hS
  refine lv_iload_n hx hb dX1_isBetween_0 rfl (lv_at hl 0 rfl) ?_
  refine lv_iload_n hx hb dX1_isBetween_1 rfl (lv_at hl 1 rfl) ?_
  refine lv_icmp_lt (tgt := 14) hx hb dX1_isBetween_2 (by decide) (fun c2 => ?_) (fun c2 => ?_)
  · have h := wif_t h c2
    refine lv_iconst (v := 0) hx hb dX1_isBetween_14 (by decide) ?_
    exact hret _ _ _ _ _ dX1_isBetween_15 hW hS isZ_0 h
  · have h := wif_f h c2
    refine lv_iload_n hx hb dX1_isBetween_5 rfl (lv_at hl 0 rfl) ?_
    refine lv_iload_n hx hb dX1_isBetween_6 rfl (lv_at hl 2 rfl) ?_
    refine lv_icmp_gt (tgt := 14) hx hb dX1_isBetween_7 (by decide) (fun c1 => ?_) (fun c1 => ?_)
    · have h := wif_t h c1
      refine lv_iconst (v := 0) hx hb dX1_isBetween_14 (by decide) ?_
      exact hret _ _ _ _ _ dX1_isBetween_15 hW hS isZ_0 h
    · have h := wif_f h c1
      refine lv_iconst (v := 1) hx hb dX1_isBetween_10 (by decide) ?_
      refine lv_goto (tgt := 15) hx hb dX1_isBetween_11 (by decide) ?_
      exact hret _ _ _ _ _ dX1_isBetween_15 hW hS isZ_1 h
theorem ct_X1_isBetween (l : Launch) : CT_X1_isBetween l 1 20 w_X1_isBetween := by
  intro V sz G Q x0 x1 x2
  refine Met.ofW (cc := cX1_isBetween) (maxL := 3) (ret := (some .boolean)) (by decide) rfl ?_
  intro p e s m args below meth c s₁ B hml hv
  obtain ⟨rfl, hsz, hW, hK, hZ, h⟩ := hv
  subst hsz
  have hts := atoms_spec (ws := (ws_ yX1_isBetween cX1_isBetween 3 (some .boolean))) B.pre
  have hts : ∀ w ∈ lw_all, w.before _ s = true := fun w h => hts w (List.mem_cons_of_mem _ h)
  have hl := lv_entry ([.int x0, .int x1, .int x2]) (n := 3) (Nat.le_of_ble_eq_true rfl)
  rw [lg_entry_eq]
  generalize (lg_sl ([.int x0, .int x1, .int x2]) ++ List.replicate (3 - (lg_sl ([.int x0, .int x1, .int x2])).length) Slot.unset).toArray = ls at hl ⊢
  exact wk_X1_isBetween Q ⟨⟨B.exec, B.bytes, hml, findClass_of_methodNamed B.named, hts⟩, hK, hZ, fun q h => Or.inr h⟩ (Nat.le_refl _) (Nat.le_refl _) ⟨Nat.le_refl _, Nat.le_refl _⟩ G (fun v pc ls H locs hd hW1 hS hz hQ => W.zret (v := v) B.exec B.bytes B.returns hz.nar (fun t ht _ => ⟨⟨v, G, rfl, ⟨rfl, hQ⟩, by rw [← ht] at hW1; exact hW1⟩, hS.F ht⟩) hS.2.2 hd) x0 x1 x2 h ls _ [] hl hW va_S.rf
def CT_X1_checkIndex (l : Launch) (fr lo : Nat) (w : XV → (Prop) → (String → GM → Prop) → Int32 → GM → Nat → Nat → Prop) : Prop := ∀ (V : XV) (sz : Nat) (G : GM) (Q : Prop) (X : String → GM → Prop) (x0 : Int32) (kc ks : Nat), vx_Met l yX1_checkIndex (ws_ yX1_checkIndex cX1_checkIndex 1 none) { frames := fr, cells := kc, slots := ks, locals := lo } (va_Pc [.int x0] (fun U => U.heap.size = sz ∧ xW V (xA G sz) G U.heap ∧ xK V U ∧ xZ V (xA G sz) U U.heap ∧ w V Q X x0 G kc ks)) (va_Qv (fun (u : GM) => u = G ∧ Q) (fun u t => xW V (xA G sz) u t.heap) (xA G sz)) (vx_X (fun u : String × GM => X u.1 u.2) (fun E u t => E = u.1 ∧ xW V (xA G sz) u.2 t.heap) (xA G sz)) kc ks (xA G sz)
theorem call_X1_checkIndex_S {p : Program} {l : Launch} {e : Env} {R : Room} {s : State} {m : MethodId} {args : Array Value} {below : List Frame} {meth : Method} {c : Code} {H : Heap} {locs : List Loc} {cells slots : Nat} {Z : State → Prop} {A : Nat → Prop} {cc : ByteArray} {nL pc : Nat} {ls : Array Slot} {rest : List Value} {own : String} {index fr lo : Nat} {w : XV → (Prop) → (String → GM → Prop) → Int32 → GM → Nat → Nat → Prop} {V : XV} {G : GM} {kc ks c1 s1 : Nat} {x0 : Int32} (hM : CT_X1_checkIndex l fr lo w) (C : xC p m c s args cc nL own V A) (hW : xW V A G H) (hS : va_S A s.heap H locs) (hlink : Cond.methodLink own index yX1_checkIndex ∈ lw_all) (hRf : fr + 1 ≤ R.frames) (hRl : 8 + (1 + 11) + lo ≤ R.locals) (hc1 : c1 ≤ kc) (hs1 : s1 ≤ ks) (hkc : cells + kc ≤ R.cells) (hks : slots + ks ≤ R.slots) (hz : ls.size = nL) (hr8 : (rest.map fun v => v.category).sum ≤ 8) (hdg : decode cc pc = .ok (.invokestatic index, 3)) {Q1 : Prop} {X1 : String → GM → Prop} (h : w V Q1 X1 x0 G c1 s1) (kx : ∀ (E : String) (G1 : GM) (ce : Cell) (q9 : Addr) (H1 : Heap) (locs1 : List Loc), X1 E G1 → xW V A G1 H1 → va_S A s.heap H1 locs1 → H1[q9]? = some ce → ce.vm = .none → s.vm.findClass E = some ce.cls → xFr V G G1 H H1 → vx_W p l e R s m args below meth c H1 locs1 (cells + c1) (slots + s1) Z (F0 m pc ls rest) q9) (kk : ∀ (H1 : Heap) (locs1 : List Loc), Q1 → xW V A G H1 → va_S A s.heap H1 locs1 → xFr V G G H H1 → (cells + c1) + (kc - c1) ≤ R.cells → (slots + s1) + (ks - s1) ≤ R.slots → W p l e R s m args below meth c H1 locs1 (cells + c1) (slots + s1) Z (F0 m (pc + 3) ls (rest))) : W p l e R s m args below meth c H locs cells slots Z (F0 m pc ls (.int x0 :: rest)) := by
  exact rx_v3r (vx_runS (As := [.int x0]) (rest := rest) C.1 (hM V H.size G Q1 X1 x0 c1 s1) (va_cwS 1 C.1.2.2.2.2 (lw_S hlink q753 q59 q754) rfl rfl rfl (by decide +kernel) ⟨hRf, hRl⟩) ⟨fun a U g mk q => by obtain ⟨q0, q1, qW, qK, qZ, qw⟩ := q; exact ⟨q0, q1, qW, xK.same (u := U) (U := U.calling g mk a) rfl qK, xZ.moved (u := U) (U := U.calling g mk a) (Vm.Alike.refl U.vm) qZ, qw⟩, fun U hU hWm => ⟨rfl, by rw [hU], by rw [hU]; exact hW.self _, C.2.1.warm hWm, xZ.call C.2.2.1 hW hS C.2.2.2 hU hWm.alike, h⟩⟩ rfl rfl hz rfl (lv_room hr8) hdg ⟨by omega, by omega⟩) hW hS C.2.2.2 kx (fun H1 locs1 hp hW1 hS1 hF1 => kk H1 locs1 hp hW1 hS1 hF1 (by omega) (by omega))
def w_X1_checkIndex (V : XV) (Q : Prop) (X : String → GM → Prop) (x0 : Int32) (G : GM) (kc : Nat) (ks : Nat) : Prop := if x0 = 0 then (1 ≤ kc ∧ 6 ≤ ks ∧ X "java/lang/IndexOutOfBoundsException" G) else (Q)
set_option maxRecDepth 100000 in
set_option maxHeartbeats 4000000 in
theorem wk_X1_checkIndex {p : Program} {l : Launch} {e : Env} {R : Room} {s : State} {m : MethodId} {args : Array Value} {below : List Frame} {meth : Method} {c : Code} {Z : State → Prop} {A : Nat → Prop} {V : XV} (Q : Prop) (X : String → GM → Prop) (C : xC p m c s args cX1_checkIndex 1 RX1 V A) (hfl : l.stackTraces = false) (hRf : 12 ≤ R.frames) (hRl : 200 ≤ R.locals) (G : GM) (hret : ∀ (pc : Nat) (ls : Array Slot) (H : Heap) (locs : List Loc) (cells slots : Nat) {k1 k2 : Nat}, decode cX1_checkIndex pc = .ok (.return_, 1) → xW V A G H → va_S A s.heap H locs → cells + k1 ≤ R.cells → slots + k2 ≤ R.slots → Q → W p l e R s m args below meth c H locs cells slots Z (F0 m pc ls [])) (hxo : ∀ (E : String) (G : GM) (ce : Cell) (q : Addr) (pc : Nat) (ls : Array Slot) (H : Heap) (locs : List Loc) (cells slots : Nat) (rest : List Value), xW V A G H → va_S A s.heap H locs → X E G → H[q]? = some ce → ce.vm = .none → s.vm.findClass E = some ce.cls → cells ≤ R.cells → slots ≤ R.slots → vx_W p l e R s m args below meth c H locs cells slots Z (F0 m pc ls rest) q) (hth4 : ∀ (G : GM) (ls : Array Slot) (H : Heap) (locs : List Loc) (cells slots : Nat) {k1 k2 : Nat}, ls.size = 1 → xW V A G H → va_S A s.heap H locs → cells + k1 ≤ R.cells → slots + k2 ≤ R.slots → 1 ≤ k1 → 6 ≤ k2 → X "java/lang/IndexOutOfBoundsException" G → W p l e R s m args below meth c H locs cells slots Z (F0 m 4 ls [])) (x0 : Int32) (kc ks : Nat) : w_X1_checkIndex V Q X x0 G kc ks → ∀ (ls : Array Slot) (H : Heap) (locs : List Loc) (cells slots : Nat), lv_has ls 1 [(0, .int x0)] → xW V A G H → va_S A s.heap H locs → cells + kc ≤ R.cells → slots + ks ≤ R.slots → W p l e R s m args below meth c H locs cells slots Z (F0 m 0 ls []) := by
  have hx := C.1.1; have hb := C.1.2.1; have hml := C.1.2.2.1; have hown := C.1.2.2.2.1; have hts := C.1.2.2.2.2
  intro h
  intro ls H locs cells slots hl hW hS hkc hks
  refine lv_iload_n hx hb dX1_checkIndex_0 rfl (lv_at hl 0 rfl) ?_
  refine lv_if_ne (tgt := 12) hx hb dX1_checkIndex_1 (by decide) (fun c1 => ?_) (fun c1 => ?_)
  · have h := wif_f h c1
    exact hret  _ _ _ _ _ _ dX1_checkIndex_12 hW hS hkc hks h
  · have h := wif_t h c1
    exact hth4 _ ls H locs _ _ hl.1 hW hS hkc hks h.1 h.2.1 h.2.2
theorem ct_X1_checkIndex (l : Launch) (hfl : l.stackTraces = false) : CT_X1_checkIndex l 12 200 w_X1_checkIndex := by
  intro V sz G Q X x0 kc ks
  refine vx_ofW (cc := cX1_checkIndex) (maxL := 1) (ret := none) (by decide) rfl ?_
  intro p e s m args below meth c s₁ B hml hext hv
  obtain ⟨rfl, hsz, hW, hK, hZ, h⟩ := hv
  subst hsz
  have hts := atoms_spec (ws := (ws_ yX1_checkIndex cX1_checkIndex 1 none)) B.pre
  have hts : ∀ w ∈ lw_all, w.before _ s = true := fun w h => hts w (List.mem_cons_of_mem _ h)
  have hl := lv_entry ([.int x0]) (n := 1) (Nat.le_of_ble_eq_true rfl)
  rw [lg_entry_eq]
  generalize (lg_sl ([.int x0]) ++ List.replicate (1 - (lg_sl ([.int x0])).length) Slot.unset).toArray = ls at hl ⊢
  exact wk_X1_checkIndex Q X ⟨⟨B.exec, B.bytes, hml, findClass_of_methodNamed B.named, hts⟩, hK, hZ, fun q h => Or.inr h⟩ hfl (Nat.le_refl _) (Nat.le_refl _) G (fun pc ls H locs cells slots _ _ hd hW1 hS hkc hks hQ => W.widen (k := kc) (n := ks) (Nat.le_trans (Nat.le_add_right _ _) hkc) (Nat.le_trans (Nat.le_add_right _ _) hks) (vx_ret (W.vret B.exec B.bytes B.returns (fun t ht _ => ⟨⟨G, rfl, ⟨rfl, hQ⟩, by rw [← ht] at hW1; exact hW1⟩, hS.F ht⟩) hS.2.2 hd))) (fun E G9 ce q pc ls H locs cells slots rest hW1 hS hX h1 h2 h3 hc hs => vx_out (fun x hx => absurd (hext x hx) id) B.notSynchronized h1 h2 h3 (fun t ht _ => ⟨(E, G9), hX, ⟨rfl, by rw [← ht] at hW1; exact hW1⟩, hS.F ht⟩) hS.2.2 hc hs) (fun G9 ls H locs cells slots _ _ hz hW1 hS hkc hks h1 h6 hX => sh_throw ⟨⟨B.exec, B.bytes, hml, findClass_of_methodNamed B.named, hts⟩, hK, hZ, fun q h => Or.inr h⟩ hfl (fun x hx => (hext x hx).elim) B.notSynchronized xEx_ioobe hz hW1 hS (by show 12 ≤ 12; decide) (by show 200 ≤ 200; decide) (Nat.le_trans (Nat.add_le_add_left h1 _) hkc) (Nat.le_trans (Nat.add_le_add_left h6 _) hks) (Nat.le_refl _) (Nat.le_refl _) dX1_checkIndex_4 dX1_checkIndex_7 dX1_checkIndex_8 dX1_checkIndex_11 hX) x0 kc ks h ls _ [] 0 0 hl hW va_S.rf (by show 0 + kc ≤ kc; omega) (by show 0 + ks ≤ ks; omega)
def CT_X1_composition (l : Launch) (fr lo : Nat) (w : XV → (Option Nat → Prop) → (String → GM → Prop) → Nat → Int32 → GM → Nat → Nat → Prop) : Prop := ∀ (V : XV) (sz : Nat) (G : GM) (Q : Option Nat → Prop) (X : String → GM → Prop) (x0 : Nat) (x1 : Int32) (kc ks : Nat), vx_Met l yX1_composition (ws_ yX1_composition cX1_composition 2 (some (.object "Shapelayer$Composition"))) { frames := fr, cells := kc, slots := ks, locals := lo } (va_Pc [.ref x0, .int x1] (fun U => U.heap.size = sz ∧ xW V (xA G sz) G U.heap ∧ xK V U ∧ xZ V (xA G sz) U U.heap ∧ w V Q X x0 x1 G kc ks)) (va_Qq (fun r (u : GM) => u = G ∧ Q r) (fun u t => xW V (xA G sz) u t.heap) (xA G sz)) (vx_X (fun u : String × GM => X u.1 u.2) (fun E u t => E = u.1 ∧ xW V (xA G sz) u.2 t.heap) (xA G sz)) kc ks (xA G sz)
theorem call_X1_composition_V {p : Program} {l : Launch} {e : Env} {R : Room} {s : State} {m : MethodId} {args : Array Value} {below : List Frame} {meth : Method} {c : Code} {H : Heap} {locs : List Loc} {cells slots : Nat} {Z : State → Prop} {A : Nat → Prop} {cc : ByteArray} {nL pc : Nat} {ls : Array Slot} {rest : List Value} {own : String} {index fr lo : Nat} {w : XV → (Option Nat → Prop) → (String → GM → Prop) → Nat → Int32 → GM → Nat → Nat → Prop} {V : XV} {G : GM} {o : Option Nat} {ci : Nat} {kc ks c1 s1 : Nat} {x0 : Nat} {x1 : Int32} (hM : CT_X1_composition l fr lo w) (C : xC p m c s args cc nL own V A) (hW : xW V A G H) (hS : va_S A s.heap H locs) (hlink : Cond.methodLink own index yX1_composition ∈ lw_all) (ho : o = some x0) (hcv : gCi G (some x0) = some ci) (hci : ci % 64 = 0) (hRf : fr + 1 ≤ R.frames) (hRl : 8 + (2 + 11) + lo ≤ R.locals) (hc1 : c1 ≤ kc) (hs1 : s1 ≤ ks) (hkc : cells + kc ≤ R.cells) (hks : slots + ks ≤ R.slots) (hz : ls.size = nL) (hr8 : (rest.map fun v => v.category).sum ≤ 8) (hdg : decode cc pc = .ok (.invokevirtual index, 3)) {Q1 : Option Nat → Prop} {X1 : String → GM → Prop} (h : w V Q1 X1 x0 x1 G c1 s1) (kx : ∀ (E : String) (G1 : GM) (ce : Cell) (q9 : Addr) (H1 : Heap) (locs1 : List Loc), X1 E G1 → xW V A G1 H1 → va_S A s.heap H1 locs1 → H1[q9]? = some ce → ce.vm = .none → s.vm.findClass E = some ce.cls → xFr V G G1 H H1 → vx_W p l e R s m args below meth c H1 locs1 (cells + c1) (slots + s1) Z (F0 m pc ls rest) q9) (kk : ∀ (r : Option Nat) (H1 : Heap) (locs1 : List Loc), Q1 r → xW V A G H1 → va_S A s.heap H1 locs1 → xFr V G G H H1 → (cells + c1) + (kc - c1) ≤ R.cells → (slots + s1) + (ks - s1) ≤ R.slots → W p l e R s m args below meth c H1 locs1 (cells + c1) (slots + s1) Z (F0 m (pc + 3) ls (va_rf r :: rest))) : W p l e R s m args below meth c H locs cells slots Z (F0 m pc ls (.int x1 :: va_rf o :: rest)) := by
  subst ho
  obtain ⟨fs, hG⟩ := gCi_of hcv
  exact rx_q3r (vx_runV (As := [.int x1]) (rest := rest) C.1 (hM V H.size G Q1 X1 x0 x1 c1 s1) (cwV 1 C.1.2.2.2.2 (lw_V hlink q750 qs4 q59 q751) rfl rfl rfl (by decide +kernel) ⟨hRf, hRl⟩) ⟨fun a U g mk q => by obtain ⟨q0, q1, qW, qK, qZ, qw⟩ := q; exact ⟨q0, q1, qW, xK.same (u := U) (U := U.calling g mk a) rfl qK, xZ.moved (u := U) (U := U.calling g mk a) (Vm.Alike.refl U.vm) qZ, qw⟩, (hW.recv C.2.1 hG (r := (RX1, TX1, 6)) (by rw [hci]; rfl)), fun U hU hWm => ⟨rfl, by rw [hU], by rw [hU]; exact hW.self _, C.2.1.warm hWm, xZ.call C.2.2.1 hW hS C.2.2.2 hU hWm.alike, h⟩⟩ rfl rfl hz rfl (lv_room hr8) hdg ⟨by omega, by omega⟩) hW hS C.2.2.2 kx (fun r H1 locs1 hp hW1 hS1 hF1 => kk r H1 locs1 hp hW1 hS1 hF1 (by omega) (by omega))
def w_X1_composition (V : XV) (Q : Option Nat → Prop) (X : String → GM → Prop) (x0 : Nat) (x1 : Int32) (G : GM) (kc : Nat) (ks : Nat) : Prop := gGR G 0 (some x0) (fun v1 => gRcv G v1 (fun a2 c3 => (c3 % 64 = 15) ∧ (w_J2_size V (fun r4 => w_X1_isBetween V (fun r5 => ∃ c6 s7 : Nat, c6 ≤ kc ∧ s7 ≤ ks ∧ (w_X1_checkIndex V (gGR G 0 (some x0) (fun v8 => gRcv G v8 (fun a9 c10 => (c10 % 64 = 15) ∧ (w_J2_get V (fun r11 => gCk G [2] r11 (Q r11)) a9 x1 G)))) X r5 G c6 s7)) x1 (0 : Int32) (r4 - (1 : Int32)) G) a2 G)))
set_option maxRecDepth 100000 in
set_option maxHeartbeats 4000000 in
theorem wk_X1_composition {p : Program} {l : Launch} {e : Env} {R : Room} {s : State} {m : MethodId} {args : Array Value} {below : List Frame} {meth : Method} {c : Code} {Z : State → Prop} {A : Nat → Prop} {V : XV} (Q : Option Nat → Prop) (X : String → GM → Prop) (C : xC p m c s args cX1_composition 2 RX1 V A) (hfl : l.stackTraces = false) (hRf : 13 ≤ R.frames) (hRl : 220 ≤ R.locals) (G : GM) (hret : ∀ (v : Option Nat) (pc : Nat) (ls : Array Slot) (H : Heap) (locs : List Loc) (cells slots : Nat) {k1 k2 : Nat}, decode cX1_composition pc = .ok (.areturn, 1) → xW V A G H → va_S A s.heap H locs → cells + k1 ≤ R.cells → slots + k2 ≤ R.slots → Q v → W p l e R s m args below meth c H locs cells slots Z (F0 m pc ls [va_rf v])) (hxo : ∀ (E : String) (G : GM) (ce : Cell) (q : Addr) (pc : Nat) (ls : Array Slot) (H : Heap) (locs : List Loc) (cells slots : Nat) (rest : List Value), xW V A G H → va_S A s.heap H locs → X E G → H[q]? = some ce → ce.vm = .none → s.vm.findClass E = some ce.cls → cells ≤ R.cells → slots ≤ R.slots → vx_W p l e R s m args below meth c H locs cells slots Z (F0 m pc ls rest) q) (x0 : Nat) (x1 : Int32) (kc ks : Nat) : w_X1_composition V Q X x0 x1 G kc ks → ∀ (ls : Array Slot) (H : Heap) (locs : List Loc) (cells slots : Nat), lv_has ls 2 [(0, va_rf (some x0)), (1, .int x1)] → xW V A G H → va_S A s.heap H locs → cells + kc ≤ R.cells → slots + ks ≤ R.slots → W p l e R s m args below meth c H locs cells slots Z (F0 m 0 ls []) := by
  have hx := C.1.1; have hb := C.1.2.1; have hml := C.1.2.2.1; have hown := C.1.2.2.2.1; have hts := C.1.2.2.2.2
  intro h
  intro ls H locs cells slots hl hW hS hkc hks
  refine lv_iload_n hx hb dX1_composition_0 rfl (lv_at hl 1 rfl) ?_
  refine lv_iconst (v := 0) hx hb dX1_composition_1 (by decide) ?_
  refine sh_aload_n hx hb dX1_composition_2 rfl (lv_at hl 0 rfl) ?_
  obtain ⟨v1, h1, h⟩ := h
  refine sh_get C hW xFb_0 q201 (fun _ h => h) h1 dX1_composition_3 ?_
  obtain ⟨a2, c3, ho6, hcv6, h⟩ := h
  have hcc := h.1
  have h := h.2
  refine call_J2_size_F15_List (ct_J2_size l) C hW hS q225 ho6 hcv6 hcc (le_lit hRf rfl) (le_lit hRl rfl) ⟨Nat.le_trans (Nat.le_add_right _ _) hkc, Nat.le_trans (Nat.le_add_right _ _) hks⟩ hl.1 (Nat.le_of_ble_eq_true rfl) dX1_composition_6 h (fun r4 H locs h hW hS _ => ?_)
  refine lv_iconst (v := 1) hx hb dX1_composition_11 (by decide) ?_
  refine lv_isub hx hb dX1_composition_12 ?_
  refine call_X1_isBetween_S (ct_X1_isBetween l) C hW hS q593 (le_lit hRf rfl) (le_lit hRl rfl) ⟨Nat.le_trans (Nat.le_add_right _ _) hkc, Nat.le_trans (Nat.le_add_right _ _) hks⟩ hl.1 (Nat.le_of_ble_eq_true rfl) dX1_composition_13 h (fun r5 H locs h hW hS _ => ?_)
  obtain ⟨c6, s7, hc16, hs16, h⟩ := h
  refine call_X1_checkIndex_S (ct_X1_checkIndex l hfl) C hW hS q752 (le_lit hRf rfl) (le_lit hRl rfl) hc16 hs16 hkc hks hl.1 (Nat.le_of_ble_eq_true rfl) dX1_composition_16 h (fun E G9 ce q9 H locs hX hW hS h1 h2 h3 _ => hxo E G9 ce q9 16 ls H locs _ _ _ hW hS hX h1 h2 h3 (by omega) (by omega)) (fun  H locs h hW hS _ hkc hks => ?_)
  refine sh_aload_n hx hb dX1_composition_19 rfl (lv_at hl 0 rfl) ?_
  obtain ⟨v8, h1, h⟩ := h
  refine sh_get C hW xFb_0 q201 (fun _ h => h) h1 dX1_composition_20 ?_
  refine lv_iload_n hx hb dX1_composition_23 rfl (lv_at hl 1 rfl) ?_
  obtain ⟨a9, c10, ho24, hcv24, h⟩ := h
  have hcc := h.1
  have h := h.2
  refine call_J2_get_F15_List (ct_J2_get l) C hW hS q771 ho24 hcv24 hcc (le_lit hRf rfl) (le_lit hRl rfl) ⟨Nat.le_trans (Nat.le_add_right _ _) hkc, Nat.le_trans (Nat.le_add_right _ _) hks⟩ hl.1 (Nat.le_of_ble_eq_true rfl) dX1_composition_24 h (fun r11 H locs h hW hS _ => ?_)
  refine sh_cast C hW q657 xCa_Shapelayer_Composition h dX1_composition_29 (fun h => ?_)
  exact hret _ _ _ _ _ _ _ dX1_composition_32 hW hS hkc hks h
theorem ct_X1_composition (l : Launch) (hfl : l.stackTraces = false) : CT_X1_composition l 13 220 w_X1_composition := by
  intro V sz G Q X x0 x1 kc ks
  refine vx_ofW (cc := cX1_composition) (maxL := 2) (ret := (some (.object "Shapelayer$Composition"))) (by decide) rfl ?_
  intro p e s m args below meth c s₁ B hml hext hv
  obtain ⟨rfl, hsz, hW, hK, hZ, h⟩ := hv
  subst hsz
  have hts := atoms_spec (ws := (ws_ yX1_composition cX1_composition 2 (some (.object "Shapelayer$Composition")))) B.pre
  have hts : ∀ w ∈ lw_all, w.before _ s = true := fun w h => hts w (List.mem_cons_of_mem _ h)
  have hl := lv_entry ([.ref x0, .int x1]) (n := 2) (Nat.le_of_ble_eq_true rfl)
  rw [lg_entry_eq]
  generalize (lg_sl ([.ref x0, .int x1]) ++ List.replicate (2 - (lg_sl ([.ref x0, .int x1])).length) Slot.unset).toArray = ls at hl ⊢
  exact wk_X1_composition Q X ⟨⟨B.exec, B.bytes, hml, findClass_of_methodNamed B.named, hts⟩, hK, hZ, fun q h => Or.inr h⟩ hfl (Nat.le_refl _) (Nat.le_refl _) G (fun v pc ls H locs cells slots _ _ hd hW1 hS hkc hks hQ => W.widen (k := kc) (n := ks) (Nat.le_trans (Nat.le_add_right _ _) hkc) (Nat.le_trans (Nat.le_add_right _ _) hks) (vx_ret (W.aret (v := va_rf v) B.exec B.bytes B.returns (Or.inl ⟨_, rfl⟩) (va_rf_or v) (fun t ht _ => ⟨⟨v, G, rfl, ⟨rfl, hQ⟩, by rw [← ht] at hW1; exact hW1⟩, hS.F ht⟩) hS.2.2 hd))) (fun E G9 ce q pc ls H locs cells slots rest hW1 hS hX h1 h2 h3 hc hs => vx_out (fun x hx => absurd (hext x hx) id) B.notSynchronized h1 h2 h3 (fun t ht _ => ⟨(E, G9), hX, ⟨rfl, by rw [← ht] at hW1; exact hW1⟩, hS.F ht⟩) hS.2.2 hc hs) x0 x1 kc ks h ls _ [] 0 0 hl hW va_S.rf (by show 0 + kc ≤ kc; omega) (by show 0 + ks ≤ ks; omega)
def CT_X1_checkArgument (l : Launch) (fr lo : Nat) (w : XV → (Prop) → (String → GM → Prop) → Int32 → GM → Nat → Nat → Prop) : Prop := ∀ (V : XV) (sz : Nat) (G : GM) (Q : Prop) (X : String → GM → Prop) (x0 : Int32) (kc ks : Nat), vx_Met l yX1_checkArgument (ws_ yX1_checkArgument cX1_checkArgument 1 none) { frames := fr, cells := kc, slots := ks, locals := lo } (va_Pc [.int x0] (fun U => U.heap.size = sz ∧ xW V (xA G sz) G U.heap ∧ xK V U ∧ xZ V (xA G sz) U U.heap ∧ w V Q X x0 G kc ks)) (va_Qv (fun (u : GM) => u = G ∧ Q) (fun u t => xW V (xA G sz) u t.heap) (xA G sz)) (vx_X (fun u : String × GM => X u.1 u.2) (fun E u t => E = u.1 ∧ xW V (xA G sz) u.2 t.heap) (xA G sz)) kc ks (xA G sz)
theorem call_X1_checkArgument_S {p : Program} {l : Launch} {e : Env} {R : Room} {s : State} {m : MethodId} {args : Array Value} {below : List Frame} {meth : Method} {c : Code} {H : Heap} {locs : List Loc} {cells slots : Nat} {Z : State → Prop} {A : Nat → Prop} {cc : ByteArray} {nL pc : Nat} {ls : Array Slot} {rest : List Value} {own : String} {index fr lo : Nat} {w : XV → (Prop) → (String → GM → Prop) → Int32 → GM → Nat → Nat → Prop} {V : XV} {G : GM} {kc ks c1 s1 : Nat} {x0 : Int32} (hM : CT_X1_checkArgument l fr lo w) (C : xC p m c s args cc nL own V A) (hW : xW V A G H) (hS : va_S A s.heap H locs) (hlink : Cond.methodLink own index yX1_checkArgument ∈ lw_all) (hRf : fr + 1 ≤ R.frames) (hRl : 8 + (1 + 11) + lo ≤ R.locals) (hc1 : c1 ≤ kc) (hs1 : s1 ≤ ks) (hkc : cells + kc ≤ R.cells) (hks : slots + ks ≤ R.slots) (hz : ls.size = nL) (hr8 : (rest.map fun v => v.category).sum ≤ 8) (hdg : decode cc pc = .ok (.invokestatic index, 3)) {Q1 : Prop} {X1 : String → GM → Prop} (h : w V Q1 X1 x0 G c1 s1) (kx : ∀ (E : String) (G1 : GM) (ce : Cell) (q9 : Addr) (H1 : Heap) (locs1 : List Loc), X1 E G1 → xW V A G1 H1 → va_S A s.heap H1 locs1 → H1[q9]? = some ce → ce.vm = .none → s.vm.findClass E = some ce.cls → xFr V G G1 H H1 → vx_W p l e R s m args below meth c H1 locs1 (cells + c1) (slots + s1) Z (F0 m pc ls rest) q9) (kk : ∀ (H1 : Heap) (locs1 : List Loc), Q1 → xW V A G H1 → va_S A s.heap H1 locs1 → xFr V G G H H1 → (cells + c1) + (kc - c1) ≤ R.cells → (slots + s1) + (ks - s1) ≤ R.slots → W p l e R s m args below meth c H1 locs1 (cells + c1) (slots + s1) Z (F0 m (pc + 3) ls (rest))) : W p l e R s m args below meth c H locs cells slots Z (F0 m pc ls (.int x0 :: rest)) := by
  exact rx_v3r (vx_runS (As := [.int x0]) (rest := rest) C.1 (hM V H.size G Q1 X1 x0 c1 s1) (va_cwS 1 C.1.2.2.2.2 (lw_S hlink q788 q59 q789) rfl rfl rfl (by decide +kernel) ⟨hRf, hRl⟩) ⟨fun a U g mk q => by obtain ⟨q0, q1, qW, qK, qZ, qw⟩ := q; exact ⟨q0, q1, qW, xK.same (u := U) (U := U.calling g mk a) rfl qK, xZ.moved (u := U) (U := U.calling g mk a) (Vm.Alike.refl U.vm) qZ, qw⟩, fun U hU hWm => ⟨rfl, by rw [hU], by rw [hU]; exact hW.self _, C.2.1.warm hWm, xZ.call C.2.2.1 hW hS C.2.2.2 hU hWm.alike, h⟩⟩ rfl rfl hz rfl (lv_room hr8) hdg ⟨by omega, by omega⟩) hW hS C.2.2.2 kx (fun H1 locs1 hp hW1 hS1 hF1 => kk H1 locs1 hp hW1 hS1 hF1 (by omega) (by omega))
def w_X1_checkArgument (V : XV) (Q : Prop) (X : String → GM → Prop) (x0 : Int32) (G : GM) (kc : Nat) (ks : Nat) : Prop := if x0 = 0 then (1 ≤ kc ∧ 6 ≤ ks ∧ X "java/lang/IllegalArgumentException" G) else (Q)
set_option maxRecDepth 100000 in
set_option maxHeartbeats 4000000 in
theorem wk_X1_checkArgument {p : Program} {l : Launch} {e : Env} {R : Room} {s : State} {m : MethodId} {args : Array Value} {below : List Frame} {meth : Method} {c : Code} {Z : State → Prop} {A : Nat → Prop} {V : XV} (Q : Prop) (X : String → GM → Prop) (C : xC p m c s args cX1_checkArgument 1 RX1 V A) (hfl : l.stackTraces = false) (hRf : 12 ≤ R.frames) (hRl : 200 ≤ R.locals) (G : GM) (hret : ∀ (pc : Nat) (ls : Array Slot) (H : Heap) (locs : List Loc) (cells slots : Nat) {k1 k2 : Nat}, decode cX1_checkArgument pc = .ok (.return_, 1) → xW V A G H → va_S A s.heap H locs → cells + k1 ≤ R.cells → slots + k2 ≤ R.slots → Q → W p l e R s m args below meth c H locs cells slots Z (F0 m pc ls [])) (hxo : ∀ (E : String) (G : GM) (ce : Cell) (q : Addr) (pc : Nat) (ls : Array Slot) (H : Heap) (locs : List Loc) (cells slots : Nat) (rest : List Value), xW V A G H → va_S A s.heap H locs → X E G → H[q]? = some ce → ce.vm = .none → s.vm.findClass E = some ce.cls → cells ≤ R.cells → slots ≤ R.slots → vx_W p l e R s m args below meth c H locs cells slots Z (F0 m pc ls rest) q) (hth4 : ∀ (G : GM) (ls : Array Slot) (H : Heap) (locs : List Loc) (cells slots : Nat) {k1 k2 : Nat}, ls.size = 1 → xW V A G H → va_S A s.heap H locs → cells + k1 ≤ R.cells → slots + k2 ≤ R.slots → 1 ≤ k1 → 6 ≤ k2 → X "java/lang/IllegalArgumentException" G → W p l e R s m args below meth c H locs cells slots Z (F0 m 4 ls [])) (x0 : Int32) (kc ks : Nat) : w_X1_checkArgument V Q X x0 G kc ks → ∀ (ls : Array Slot) (H : Heap) (locs : List Loc) (cells slots : Nat), lv_has ls 1 [(0, .int x0)] → xW V A G H → va_S A s.heap H locs → cells + kc ≤ R.cells → slots + ks ≤ R.slots → W p l e R s m args below meth c H locs cells slots Z (F0 m 0 ls []) := by
  have hx := C.1.1; have hb := C.1.2.1; have hml := C.1.2.2.1; have hown := C.1.2.2.2.1; have hts := C.1.2.2.2.2
  intro h
  intro ls H locs cells slots hl hW hS hkc hks
  refine lv_iload_n hx hb dX1_checkArgument_0 rfl (lv_at hl 0 rfl) ?_
  refine lv_if_ne (tgt := 12) hx hb dX1_checkArgument_1 (by decide) (fun c1 => ?_) (fun c1 => ?_)
  · have h := wif_f h c1
    exact hret  _ _ _ _ _ _ dX1_checkArgument_12 hW hS hkc hks h
  · have h := wif_t h c1
    exact hth4 _ ls H locs _ _ hl.1 hW hS hkc hks h.1 h.2.1 h.2.2
theorem ct_X1_checkArgument (l : Launch) (hfl : l.stackTraces = false) : CT_X1_checkArgument l 12 200 w_X1_checkArgument := by
  intro V sz G Q X x0 kc ks
  refine vx_ofW (cc := cX1_checkArgument) (maxL := 1) (ret := none) (by decide) rfl ?_
  intro p e s m args below meth c s₁ B hml hext hv
  obtain ⟨rfl, hsz, hW, hK, hZ, h⟩ := hv
  subst hsz
  have hts := atoms_spec (ws := (ws_ yX1_checkArgument cX1_checkArgument 1 none)) B.pre
  have hts : ∀ w ∈ lw_all, w.before _ s = true := fun w h => hts w (List.mem_cons_of_mem _ h)
  have hl := lv_entry ([.int x0]) (n := 1) (Nat.le_of_ble_eq_true rfl)
  rw [lg_entry_eq]
  generalize (lg_sl ([.int x0]) ++ List.replicate (1 - (lg_sl ([.int x0])).length) Slot.unset).toArray = ls at hl ⊢
  exact wk_X1_checkArgument Q X ⟨⟨B.exec, B.bytes, hml, findClass_of_methodNamed B.named, hts⟩, hK, hZ, fun q h => Or.inr h⟩ hfl (Nat.le_refl _) (Nat.le_refl _) G (fun pc ls H locs cells slots _ _ hd hW1 hS hkc hks hQ => W.widen (k := kc) (n := ks) (Nat.le_trans (Nat.le_add_right _ _) hkc) (Nat.le_trans (Nat.le_add_right _ _) hks) (vx_ret (W.vret B.exec B.bytes B.returns (fun t ht _ => ⟨⟨G, rfl, ⟨rfl, hQ⟩, by rw [← ht] at hW1; exact hW1⟩, hS.F ht⟩) hS.2.2 hd))) (fun E G9 ce q pc ls H locs cells slots rest hW1 hS hX h1 h2 h3 hc hs => vx_out (fun x hx => absurd (hext x hx) id) B.notSynchronized h1 h2 h3 (fun t ht _ => ⟨(E, G9), hX, ⟨rfl, by rw [← ht] at hW1; exact hW1⟩, hS.F ht⟩) hS.2.2 hc hs) (fun G9 ls H locs cells slots _ _ hz hW1 hS hkc hks h1 h6 hX => sh_throw ⟨⟨B.exec, B.bytes, hml, findClass_of_methodNamed B.named, hts⟩, hK, hZ, fun q h => Or.inr h⟩ hfl (fun x hx => (hext x hx).elim) B.notSynchronized xEx_iae hz hW1 hS (by show 12 ≤ 12; decide) (by show 200 ≤ 200; decide) (Nat.le_trans (Nat.add_le_add_left h1 _) hkc) (Nat.le_trans (Nat.add_le_add_left h6 _) hks) (Nat.le_refl _) (Nat.le_refl _) dX1_checkArgument_4 dX1_checkArgument_7 dX1_checkArgument_8 dX1_checkArgument_11 hX) x0 kc ks h ls _ [] 0 0 hl hW va_S.rf (by show 0 + kc ≤ kc; omega) (by show 0 + ks ≤ ks; omega)
def CT_X8_init (l : Launch) (fr lo : Nat) (w : XV → (GM → Prop) → Nat → Int32 → GM → Nat → Nat → Prop) : Prop := ∀ (V : XV) (sz : Nat) (G : GM) (Q : GM → Prop) (x0 : Nat) (x1 : Int32) (kc ks : Nat), Met l yX8_init (ws_ yX8_init cX8_init 2 none) { frames := fr, cells := kc, slots := ks, locals := lo } (va_Pc [.ref x0, .int x1] (fun U => U.heap.size = sz ∧ xW V (xA G sz) G U.heap ∧ xK V U ∧ xZ V (xA G sz) U U.heap ∧ w V Q x0 x1 G kc ks)) (va_Qv (fun (u : GM) => Q u) (fun u t => xW V (xA G sz) u t.heap) (xA G sz)) kc ks (xA G sz)
theorem call_X8_init_I {p : Program} {l : Launch} {e : Env} {R : Room} {s : State} {m : MethodId} {args : Array Value} {below : List Frame} {meth : Method} {c : Code} {H : Heap} {locs : List Loc} {cells slots : Nat} {Z : State → Prop} {A : Nat → Prop} {cc : ByteArray} {nL pc : Nat} {ls : Array Slot} {rest : List Value} {own : String} {index fr lo : Nat} {w : XV → (GM → Prop) → Nat → Int32 → GM → Nat → Nat → Prop} {V : XV} {G : GM} {o : Option Nat} {kc ks c1 s1 : Nat} {x0 : Nat} {x1 : Int32} (hM : CT_X8_init l fr lo w) (C : xC p m c s args cc nL own V A) (hW : xW V A G H) (hS : va_S A s.heap H locs) (hlink : Cond.methodLink own index yX8_init ∈ lw_all) (ho : o = some x0) (hRf : fr + 1 ≤ R.frames) (hRl : 8 + (2 + 11) + lo ≤ R.locals) (hc1 : c1 ≤ kc) (hs1 : s1 ≤ ks) (hkc : cells + kc ≤ R.cells) (hks : slots + ks ≤ R.slots) (hz : ls.size = nL) (hr8 : (rest.map fun v => v.category).sum ≤ 8) (hdg : decode cc pc = .ok (.invokespecial index, 3)) {Q1 : GM → Prop} (h : w V Q1 x0 x1 G c1 s1) (kk : ∀ (G1 : GM) (H1 : Heap) (locs1 : List Loc), Q1 G1 → xW V A G1 H1 → va_S A s.heap H1 locs1 → xFr V G G1 H H1 → (cells + c1) + (kc - c1) ≤ R.cells → (slots + s1) + (ks - s1) ≤ R.slots → W p l e R s m args below meth c H1 locs1 (cells + c1) (slots + s1) Z (F0 m (pc + 3) ls (rest))) : W p l e R s m args below meth c H locs cells slots Z (F0 m pc ls (.int x1 :: va_rf o :: rest)) := by
  subst ho
  exact rg_v3w (va_runI (As := [.int x1]) (rest := rest) C.1 (hM V H.size G Q1 x0 x1 c1 s1) (cwI 1 C.1.2.2.2.2 (lw_meth q814) rfl rfl rfl (C.1.2.2.2.2 _ q90) (C.1.2.2.2.2 _ hlink) (C.1.2.2.2.2 _ q813) rfl (by decide +kernel) ⟨hRf, hRl⟩) ⟨fun a U g mk q => by obtain ⟨q0, q1, qW, qK, qZ, qw⟩ := q; exact ⟨q0, q1, qW, xK.same (u := U) (U := U.calling g mk a) rfl qK, xZ.moved (u := U) (U := U.calling g mk a) (Vm.Alike.refl U.vm) qZ, qw⟩, fun U hU hWm => ⟨rfl, by rw [hU], by rw [hU]; exact hW.self _, C.2.1.warm hWm, xZ.call C.2.2.1 hW hS C.2.2.2 hU hWm.alike, h⟩⟩ rfl rfl hz rfl (lv_room hr8) hdg ⟨by omega, by omega⟩) hW hS C.2.2.2 (fun G1 H1 locs1 hp hW1 hS1 hF1 => kk G1 H1 locs1 hp hW1 hS1 hF1 (by omega) (by omega))
def w_X8_init (V : XV) (Q : GM → Prop) (x0 : Nat) (x1 : Int32) (G : GM) (kc : Nat) (ks : Nat) : Prop := gNw G 15 3 xdf_J2 kc ks (fun q1 G2 => w_J2_init V (fun G3 => gPF G3 28 (some x0) (va_rf (some q1)) (fun G4 => gPF G4 27 (some x0) (.int x1) (fun G5 => Q G5))) q1 G2)
set_option maxRecDepth 100000 in
set_option maxHeartbeats 4000000 in
theorem wk_X8_init {p : Program} {l : Launch} {e : Env} {R : Room} {s : State} {m : MethodId} {args : Array Value} {below : List Frame} {meth : Method} {c : Code} {Z : State → Prop} {A : Nat → Prop} {V : XV} (Q : GM → Prop) (C : xC p m c s args cX8_init 2 RX8 V A) (hin : meth.name = "<init>") (hRf : 4 ≤ R.frames) (hRl : 80 ≤ R.locals) (G : GM) (hret : ∀ (G : GM) (pc : Nat) (ls : Array Slot) (H : Heap) (locs : List Loc) (cells slots : Nat) {k1 k2 : Nat}, decode cX8_init pc = .ok (.return_, 1) → xW V A G H → va_S A s.heap H locs → cells + k1 ≤ R.cells → slots + k2 ≤ R.slots → Q G → W p l e R s m args below meth c H locs cells slots Z (F0 m pc ls [])) (x0 : Nat) (x1 : Int32) (kc ks : Nat) : w_X8_init V Q x0 x1 G kc ks → ∀ (ls : Array Slot) (H : Heap) (locs : List Loc) (cells slots : Nat), lv_has ls 2 [(0, va_rf (some x0)), (1, .int x1)] → xW V A G H → va_S A s.heap H locs → cells + kc ≤ R.cells → slots + ks ≤ R.slots → W p l e R s m args below meth c H locs cells slots Z (F0 m 0 ls []) := by
  have hx := C.1.1; have hb := C.1.2.1; have hml := C.1.2.2.1; have hown := C.1.2.2.2.1; have hts := C.1.2.2.2.2
  intro h
  intro ls H locs cells slots hl hW hS hkc hks
  refine sh_aload_n hx hb dX8_init_0 rfl (lv_at hl 0 rfl) ?_
  refine sh_objInit C q815 q110 q111 hl.1 (le_lit hRf rfl) (le_lit hRl rfl) (Nat.le_of_ble_eq_true rfl) dX8_init_1 ?_
  refine sh_aload_n hx hb dX8_init_4 rfl (lv_at hl 0 rfl) ?_
  refine sh_new C hW hS (ci := 15) rfl (by decide) q816 q113 q62 tyJ2_ok xdf_J2_ok h hkc hks dX8_init_5 (fun q1 G2 H hW hS h hkc hks => ?_)
  refine lv_dup hx hb dX8_init_8 (va_rf_cat _) ?_
  refine call_J2_init_I (ct_J2_init l) C hW hS q817 rfl (le_lit hRf rfl) (le_lit hRl rfl) ⟨Nat.le_trans (Nat.le_add_right _ _) hkc, Nat.le_trans (Nat.le_add_right _ _) hks⟩ hl.1 (Nat.le_of_ble_eq_true rfl) dX8_init_9 h (fun G3 H locs h hW hS _ => ?_)
  refine sh_putF C hW hS xFb_28 q819 (fun _ h => h) hin rfl xFd_28 (rf_nar_o _ _) (rf_fit_o _ _) h dX8_init_12 (fun G4 H locs hW hS h => ?_)
  refine sh_aload_n hx hb dX8_init_15 rfl (lv_at hl 0 rfl) ?_
  refine lv_iload_n hx hb dX8_init_16 rfl (lv_at hl 1 rfl) ?_
  refine sh_putF C hW hS xFb_27 q818 (fun _ h => h) hin rfl xFd_27 rfl rfl h dX8_init_17 (fun G5 H locs hW hS h => ?_)
  exact hret _ _ _ _ _ _ _ dX8_init_20 hW hS hkc hks h
theorem ct_X8_init (l : Launch) : CT_X8_init l 4 80 w_X8_init := by
  intro V sz G Q x0 x1 kc ks
  refine Met.ofW (cc := cX8_init) (maxL := 2) (ret := none) (by decide) rfl ?_
  intro p e s m args below meth c s₁ B hml hv
  obtain ⟨rfl, hsz, hW, hK, hZ, h⟩ := hv
  subst hsz
  have hts := atoms_spec (ws := (ws_ yX8_init cX8_init 2 none)) B.pre
  have hts : ∀ w ∈ lw_all, w.before _ s = true := fun w h => hts w (List.mem_cons_of_mem _ h)
  have hl := lv_entry ([.ref x0, .int x1]) (n := 2) (Nat.le_of_ble_eq_true rfl)
  rw [lg_entry_eq]
  generalize (lg_sl ([.ref x0, .int x1]) ++ List.replicate (2 - (lg_sl ([.ref x0, .int x1])).length) Slot.unset).toArray = ls at hl ⊢
  exact wk_X8_init Q ⟨⟨B.exec, B.bytes, hml, findClass_of_methodNamed B.named, hts⟩, hK, hZ, fun q h => Or.inr h⟩ (name_of_methodNamed B.named B.method).1 (Nat.le_refl _) (Nat.le_refl _) G (fun G pc ls H locs cells slots _ _ hd hW1 hS hkc hks hQ => W.widen (k := kc) (n := ks) (Nat.le_trans (Nat.le_add_right _ _) hkc) (Nat.le_trans (Nat.le_add_right _ _) hks) (W.vret B.exec B.bytes B.returns (fun t ht _ => ⟨⟨G, rfl, hQ, by rw [← ht] at hW1; exact hW1⟩, hS.F ht⟩) hS.2.2 hd)) x0 x1 kc ks h ls _ [] 0 0 hl hW va_S.rf (by show 0 + kc ≤ kc; omega) (by show 0 + ks ≤ ks; omega)
def CT_X5_init (l : Launch) (fr lo : Nat) (w : XV → (GM → Prop) → Nat → Int32 → (Option Nat) → GM → Nat → Nat → Prop) : Prop := ∀ (V : XV) (sz : Nat) (G : GM) (Q : GM → Prop) (x0 : Nat) (x1 : Int32) (x2 : Option Nat) (kc ks : Nat), Met l yX5_init (ws_ yX5_init cX5_init 4 none) { frames := fr, cells := kc, slots := ks, locals := lo } (va_Pc [.ref x0, .int x1, va_rf x2] (fun U => U.heap.size = sz ∧ xW V (xA G sz) G U.heap ∧ xK V U ∧ xZ V (xA G sz) U U.heap ∧ w V Q x0 x1 x2 G kc ks)) (va_Qv (fun (u : GM) => Q u) (fun u t => xW V (xA G sz) u t.heap) (xA G sz)) kc ks (xA G sz)
theorem call_X5_init_I {p : Program} {l : Launch} {e : Env} {R : Room} {s : State} {m : MethodId} {args : Array Value} {below : List Frame} {meth : Method} {c : Code} {H : Heap} {locs : List Loc} {cells slots : Nat} {Z : State → Prop} {A : Nat → Prop} {cc : ByteArray} {nL pc : Nat} {ls : Array Slot} {rest : List Value} {own : String} {index fr lo : Nat} {w : XV → (GM → Prop) → Nat → Int32 → (Option Nat) → GM → Nat → Nat → Prop} {V : XV} {G : GM} {o : Option Nat} {kc ks c1 s1 : Nat} {x0 : Nat} {x1 : Int32} {x2 : Option Nat} (hM : CT_X5_init l fr lo w) (C : xC p m c s args cc nL own V A) (hW : xW V A G H) (hS : va_S A s.heap H locs) (hlink : Cond.methodLink own index yX5_init ∈ lw_all) (ho : o = some x0) (hRf : fr + 1 ≤ R.frames) (hRl : 8 + (4 + 11) + lo ≤ R.locals) (hc1 : c1 ≤ kc) (hs1 : s1 ≤ ks) (hkc : cells + kc ≤ R.cells) (hks : slots + ks ≤ R.slots) (hz : ls.size = nL) (hr8 : (rest.map fun v => v.category).sum ≤ 8) (hdg : decode cc pc = .ok (.invokespecial index, 3)) {Q1 : GM → Prop} (h : w V Q1 x0 x1 x2 G c1 s1) (kk : ∀ (G1 : GM) (H1 : Heap) (locs1 : List Loc), Q1 G1 → xW V A G1 H1 → va_S A s.heap H1 locs1 → xFr V G G1 H H1 → (cells + c1) + (kc - c1) ≤ R.cells → (slots + s1) + (ks - s1) ≤ R.slots → W p l e R s m args below meth c H1 locs1 (cells + c1) (slots + s1) Z (F0 m (pc + 3) ls (rest))) : W p l e R s m args below meth c H locs cells slots Z (F0 m pc ls (va_rf x2 :: .int x1 :: va_rf o :: rest)) := by
  subst ho
  exact rg_v3w (va_runI (As := [.int x1, va_rf x2]) (rest := rest) C.1 (hM V H.size G Q1 x0 x1 x2 c1 s1) (cwI 2 C.1.2.2.2.2 (lw_meth q805) rfl rfl rfl (C.1.2.2.2.2 _ q87) (C.1.2.2.2.2 _ hlink) (C.1.2.2.2.2 _ q804) rfl (by decide +kernel) ⟨hRf, hRl⟩) ⟨fun a U g mk q => by obtain ⟨q0, q1, qW, qK, qZ, qw⟩ := q; exact ⟨q0, q1, qW, xK.same (u := U) (U := U.calling g mk a) rfl qK, xZ.moved (u := U) (U := U.calling g mk a) (Vm.Alike.refl U.vm) qZ, qw⟩, fun U hU hWm => ⟨rfl, by rw [hU], by rw [hU]; exact hW.self _, C.2.1.warm hWm, xZ.call C.2.2.1 hW hS C.2.2.2 hU hWm.alike, h⟩⟩ rfl rfl hz rfl (lv_room hr8) hdg ⟨by omega, by omega⟩) hW hS C.2.2.2 (fun G1 H1 locs1 hp hW1 hS1 hF1 => kk G1 H1 locs1 hp hW1 hS1 hF1 (by omega) (by omega))
def w_X5_init_h22 (V : XV) (Q : GM → Prop) (x0 : Nat) (x1 : Int32) (x2 : Option Nat) (rec22 : Int32 → GM → Nat → Nat → Prop) (x3 : Int32) (G : GM) (kc : Nat) (ks : Nat) : Prop := if (8 : Int32) ≤ x3 then (gPF G 13 (some x0) (.int x1) (fun G1 => gPF G1 14 (some x0) (va_rf x2) (fun G2 => Q G2))) else (gGR G 15 (some x0) (fun v3 => gNw G 7 2 xdf_X8 kc ks (fun q4 G5 => ∃ v6, xst V "Shapelayer" "FIRST" = va_rf v6 ∧ (gIL G5 0 v6 x3 (fun v7 => ∃ c9 s10 : Nat, c9 ≤ (kc - 1) ∧ s10 ≤ (ks - 2) ∧ (w_X8_init V (fun G8 => gRS G8 v3 x3 (some q4) (fun G11 => rec22 (x3 + (1 : Int32)) G11 ((kc - 1) - c9) ((ks - 2) - s10))) q4 v7 G5 c9 s10))))))
def w_X5_init_L22 (V : XV) (Q : GM → Prop) (x0 : Nat) (x1 : Int32) (x2 : Option Nat) (x3 : Int32) (G : GM) (kc : Nat) (ks : Nat) : Prop := wLoop (fun (rec : (Int32 × GM × Nat × Nat) → Prop) (s : Int32 × GM × Nat × Nat) => w_X5_init_h22 V Q x0 x1 x2 (fun x3 G kc ks => rec (x3, G, kc, ks)) s.1 s.2.1 s.2.2.1 s.2.2.2) (x3, G, kc, ks)
def w_X5_init (V : XV) (Q : GM → Prop) (x0 : Nat) (x1 : Int32) (x2 : Option Nat) (G : GM) (kc : Nat) (ks : Nat) : Prop := gNa G 7 (fun N => (N, .inr (.inr (.inr (.inr (fun _ => none)))))) (8 : Int32) kc ks (fun q13 n14 G15 => gPF G15 15 (some x0) (va_rf (some q13)) (fun G16 => gPF G16 20 (some x0) (.int (1000 : Int32)) (fun G17 => w_X5_init_L22 V Q x0 x1 x2 (0 : Int32) G17 (kc - 1) (ks - n14))))
set_option maxRecDepth 100000 in
set_option maxHeartbeats 4000000 in
theorem wk_X5_init {p : Program} {l : Launch} {e : Env} {R : Room} {s : State} {m : MethodId} {args : Array Value} {below : List Frame} {meth : Method} {c : Code} {Z : State → Prop} {A : Nat → Prop} {V : XV} (Q : GM → Prop) (C : xC p m c s args cX5_init 4 RX5 V A) (hin : meth.name = "<init>") (hRf : 5 ≤ R.frames) (hRl : 101 ≤ R.locals) (G : GM) (hret : ∀ (G : GM) (pc : Nat) (ls : Array Slot) (H : Heap) (locs : List Loc) (cells slots : Nat) {k1 k2 : Nat}, decode cX5_init pc = .ok (.return_, 1) → xW V A G H → va_S A s.heap H locs → cells + k1 ≤ R.cells → slots + k2 ≤ R.slots → Q G → W p l e R s m args below meth c H locs cells slots Z (F0 m pc ls [])) (x0 : Nat) (x1 : Int32) (x2 : Option Nat) (kc ks : Nat) : w_X5_init V Q x0 x1 x2 G kc ks → ∀ (ls : Array Slot) (H : Heap) (locs : List Loc) (cells slots : Nat), lv_has ls 4 [(0, va_rf (some x0)), (1, .int x1), (2, va_rf x2)] → xW V A G H → va_S A s.heap H locs → cells + kc ≤ R.cells → slots + ks ≤ R.slots → W p l e R s m args below meth c H locs cells slots Z (F0 m 0 ls []) := by
  have hx := C.1.1; have hb := C.1.2.1; have hml := C.1.2.2.1; have hown := C.1.2.2.2.1; have hts := C.1.2.2.2.2
  have hL22 : ∀ (x3 : Int32) (G : GM) (kc : Nat) (ks : Nat), w_X5_init_L22 V Q x0 x1 x2 x3 G kc ks → ∀ (ls : Array Slot) (H : Heap) (locs : List Loc) (cells slots : Nat), lv_has ls 4 [(0, va_rf (some x0)), (1, .int x1), (2, va_rf x2), (3, .int x3)] → xW V A G H → va_S A s.heap H locs → cells + kc ≤ R.cells → slots + ks ≤ R.slots → W p l e R s m args below meth c H locs cells slots Z (F0 m 22 ls []) := by
    obtain ⟨GG22, hG22⟩ : ∃ GG : Int32 → GM → Nat → Nat → Prop, ∀ (x3 : Int32) (G : GM) (kc : Nat) (ks : Nat), GG x3 G kc ks ↔ (∀ (ls : Array Slot) (H : Heap) (locs : List Loc) (cells slots : Nat), lv_has ls 4 [(0, va_rf (some x0)), (1, .int x1), (2, va_rf x2), (3, .int x3)] → xW V A G H → va_S A s.heap H locs → cells + kc ≤ R.cells → slots + ks ≤ R.slots → W p l e R s m args below meth c H locs cells slots Z (F0 m 22 ls [])) := ⟨fun x3 G kc ks => _, fun x3 G kc ks => Iff.rfl⟩
    have hB22 : ∀ (rec22 : Int32 → GM → Nat → Nat → Prop), (∀ (x3 : Int32) (G : GM) (kc : Nat) (ks : Nat), rec22 x3 G kc ks → GG22 x3 G kc ks) → ∀ (x3 : Int32) (G : GM) (kc : Nat) (ks : Nat), w_X5_init_h22 V Q x0 x1 x2 rec22 x3 G kc ks → GG22 x3 G kc ks := by
      intro rec22 hrec22
      intro x3 G kc ks h
      rw [hG22]
      intro ls H locs cells slots hl hW hS hkc hks
      refine lv_iload_n hx hb dX5_init_22 rfl (lv_at hl 3 rfl) ?_
      refine lv_bipush (v := 8) hx hb dX5_init_23 (by decide) ?_
      refine lv_icmp_ge (tgt := 52) hx hb dX5_init_25 (by decide) (fun c12 => ?_) (fun c12 => ?_)
      · have h := wif_t h c12
        refine sh_aload_n hx hb dX5_init_52 rfl (lv_at hl 0 rfl) ?_
        refine lv_iload_n hx hb dX5_init_53 rfl (lv_at hl 1 rfl) ?_
        refine sh_putF C hW hS xFb_13 q835 (fun _ h => h) hin rfl xFd_13 rfl rfl h dX5_init_54 (fun G1 H locs hW hS h => ?_)
        refine sh_aload_n hx hb dX5_init_57 rfl (lv_at hl 0 rfl) ?_
        refine sh_aload_n hx hb dX5_init_58 rfl (lv_at hl 2 rfl) ?_
        refine sh_putF C hW hS xFb_14 q837 (fun _ h => h) hin rfl xFd_14 (rf_nar_o _ _) (rf_fit_o _ _) h dX5_init_59 (fun G2 H locs hW hS h => ?_)
        exact hret _ _ _ _ _ _ _ dX5_init_62 hW hS hkc hks h
      · have h := wif_f h c12
        refine sh_aload_n hx hb dX5_init_28 rfl (lv_at hl 0 rfl) ?_
        obtain ⟨v3, h1, h⟩ := h
        refine sh_get C hW xFb_15 q839 (fun _ h => h) h1 dX5_init_29 ?_
        refine lv_iload_n hx hb dX5_init_32 rfl (lv_at hl 3 rfl) ?_
        refine sh_new C hW hS (ci := 7) rfl (by decide) q807 q809 q90 tyX8_ok xdf_X8_ok h hkc hks dX5_init_33 (fun q4 G5 H hW hS h hkc hks => ?_)
        refine lv_dup hx hb dX5_init_36 (va_rf_cat _) ?_
        refine sh_getsRN C hS q811 q810 (fun _ h => h) h dX5_init_37 (fun v6 h => ?_)
        refine lv_iload_n hx hb dX5_init_40 rfl (lv_at hl 3 rfl) ?_
        refine sh_iald C hW h dX5_init_41 (fun v7 h => ?_)
        obtain ⟨c9, s10, hc42, hs42, h⟩ := h
        refine call_X8_init_I (ct_X8_init l) C hW hS q812 rfl (le_lit hRf rfl) (le_lit hRl rfl) hc42 hs42 hkc hks hl.1 (by simp only [List.map_cons, List.map_nil, va_rf_cat]; exact Nat.le_of_ble_eq_true rfl) dX5_init_42 h (fun G8 H locs h hW hS _ hkc hks => ?_)
        refine sh_aast C hW hS h dX5_init_45 (fun G11 H locs hW hS h => ?_)
        refine lv_iinc (v := x3 + (1 : Int32)) (lv' := [(3, .int (x3 + (1 : Int32))), (0, va_rf (some x0)), (1, .int x1), (2, va_rf x2)]) hx hb dX5_init_46 hl (k := 3) rfl (congrArg (fun z => x3 + z) (by decide)) (by decide) (by simp only [List.filter_cons, List.filter_nil, va_rf_cat]; rfl) (fun ls hl => ?_)
        refine lv_goto (tgt := 22) hx hb dX5_init_49 (by decide) ?_
        exact (hG22 _ _ _ _).mp (hrec22 _ _ _ _ h) ls H locs _ _ (lv_sub hl [1, 2, 3, 0] rfl) hW hS hkc hks
    intro x3 G kc ks h
    exact (hG22 x3 G kc ks).mp (loop_walk (fun s => GG22 s.1 s.2.1 s.2.2.1 s.2.2.2) (fun rec hrec s h => hB22 (fun x3 G kc ks => rec (x3, G, kc, ks)) (fun x3 G kc ks h => hrec (x3, G, kc, ks) h) s.1 s.2.1 s.2.2.1 s.2.2.2 h) (x3, G, kc, ks) h)
  intro h
  intro ls H locs cells slots hl hW hS hkc hks
  refine sh_aload_n hx hb dX5_init_0 rfl (lv_at hl 0 rfl) ?_
  refine sh_objInit C q806 q110 q111 hl.1 (le_lit hRf rfl) (le_lit hRl rfl) (Nat.le_of_ble_eq_true rfl) dX5_init_1 ?_
  refine sh_aload_n hx hb dX5_init_4 rfl (lv_at hl 0 rfl) ?_
  refine lv_bipush (v := 8) hx hb dX5_init_5 (by decide) ?_
  refine sh_newq C hW hS (t := 7) rfl (by decide) q807 q808 h hkc hks dX5_init_7 (fun q13 n14 G15 H hW hS h hN hkc hks => ?_)
  refine sh_putF C hW hS xFb_15 q839 (fun _ h => h) hin rfl xFd_15 (rf_nar_a _ _) (rf_fit_a _ _) h dX5_init_10 (fun G16 H locs hW hS h => ?_)
  refine sh_aload_n hx hb dX5_init_13 rfl (lv_at hl 0 rfl) ?_
  refine lv_sipush (v := 1000) hx hb dX5_init_14 (by decide) ?_
  refine sh_put C hW hS xFb_20 q853 (fun _ h => h) xFd_20 rfl rfl h dX5_init_17 (fun G17 H locs hW hS h => ?_)
  refine lv_iconst (v := 0) hx hb dX5_init_20 (by decide) ?_
  refine lv_istore_n (lv' := [(3, .int (0 : Int32)), (0, va_rf (some x0)), (1, .int x1), (2, va_rf x2)]) hx hb dX5_init_21 rfl hl (by decide) (by simp only [List.filter_cons, List.filter_nil, va_rf_cat]; rfl) (fun ls hl => ?_)
  exact hL22 _ _ _ _ h ls H locs _ _ (lv_sub hl [1, 2, 3, 0] rfl) hW hS hkc hks
theorem ct_X5_init (l : Launch) : CT_X5_init l 5 101 w_X5_init := by
  intro V sz G Q x0 x1 x2 kc ks
  refine Met.ofW (cc := cX5_init) (maxL := 4) (ret := none) (by decide) rfl ?_
  intro p e s m args below meth c s₁ B hml hv
  obtain ⟨rfl, hsz, hW, hK, hZ, h⟩ := hv
  subst hsz
  have hts := atoms_spec (ws := (ws_ yX5_init cX5_init 4 none)) B.pre
  have hts : ∀ w ∈ lw_all, w.before _ s = true := fun w h => hts w (List.mem_cons_of_mem _ h)
  have key : ∃ ls : Array Slot, entryFrame m ([.ref x0, .int x1, va_rf x2] : List Value).toArray 4 = F0 m 0 ls [] ∧ lv_has ls 4 [(0, va_rf (some x0)), (1, .int x1), (2, va_rf x2)] := by
    cases x2 <;> (refine ⟨_, by rw [lg_entry_eq], ?_⟩; exact lv_entry _ (Nat.le_of_ble_eq_true rfl))
  obtain ⟨ls, hfr, hl⟩ := key
  rw [hfr]
  exact wk_X5_init Q ⟨⟨B.exec, B.bytes, hml, findClass_of_methodNamed B.named, hts⟩, hK, hZ, fun q h => Or.inr h⟩ (name_of_methodNamed B.named B.method).1 (Nat.le_refl _) (Nat.le_refl _) G (fun G pc ls H locs cells slots _ _ hd hW1 hS hkc hks hQ => W.widen (k := kc) (n := ks) (Nat.le_trans (Nat.le_add_right _ _) hkc) (Nat.le_trans (Nat.le_add_right _ _) hks) (W.vret B.exec B.bytes B.returns (fun t ht _ => ⟨⟨G, rfl, hQ, by rw [← ht] at hW1; exact hW1⟩, hS.F ht⟩) hS.2.2 hd)) x0 x1 x2 kc ks h ls _ [] 0 0 hl hW va_S.rf (by show 0 + kc ≤ kc; omega) (by show 0 + ks ≤ ks; omega)
def CT_X6_init (l : Launch) (fr lo : Nat) (w : XV → (GM → Prop) → Nat → Int32 → (Option Nat) → Int32 → GM → Nat → Nat → Prop) : Prop := ∀ (V : XV) (sz : Nat) (G : GM) (Q : GM → Prop) (x0 : Nat) (x1 : Int32) (x2 : Option Nat) (x3 : Int32) (kc ks : Nat), Met l yX6_init (ws_ yX6_init cX6_init 4 none) { frames := fr, cells := kc, slots := ks, locals := lo } (va_Pc [.ref x0, .int x1, va_rf x2, .int x3] (fun U => U.heap.size = sz ∧ xW V (xA G sz) G U.heap ∧ xK V U ∧ xZ V (xA G sz) U U.heap ∧ w V Q x0 x1 x2 x3 G kc ks)) (va_Qv (fun (u : GM) => Q u) (fun u t => xW V (xA G sz) u t.heap) (xA G sz)) kc ks (xA G sz)
theorem call_X6_init_I {p : Program} {l : Launch} {e : Env} {R : Room} {s : State} {m : MethodId} {args : Array Value} {below : List Frame} {meth : Method} {c : Code} {H : Heap} {locs : List Loc} {cells slots : Nat} {Z : State → Prop} {A : Nat → Prop} {cc : ByteArray} {nL pc : Nat} {ls : Array Slot} {rest : List Value} {own : String} {index fr lo : Nat} {w : XV → (GM → Prop) → Nat → Int32 → (Option Nat) → Int32 → GM → Nat → Nat → Prop} {V : XV} {G : GM} {o : Option Nat} {kc ks c1 s1 : Nat} {x0 : Nat} {x1 : Int32} {x2 : Option Nat} {x3 : Int32} (hM : CT_X6_init l fr lo w) (C : xC p m c s args cc nL own V A) (hW : xW V A G H) (hS : va_S A s.heap H locs) (hlink : Cond.methodLink own index yX6_init ∈ lw_all) (ho : o = some x0) (hRf : fr + 1 ≤ R.frames) (hRl : 8 + (4 + 11) + lo ≤ R.locals) (hc1 : c1 ≤ kc) (hs1 : s1 ≤ ks) (hkc : cells + kc ≤ R.cells) (hks : slots + ks ≤ R.slots) (hz : ls.size = nL) (hr8 : (rest.map fun v => v.category).sum ≤ 8) (hdg : decode cc pc = .ok (.invokespecial index, 3)) {Q1 : GM → Prop} (h : w V Q1 x0 x1 x2 x3 G c1 s1) (kk : ∀ (G1 : GM) (H1 : Heap) (locs1 : List Loc), Q1 G1 → xW V A G1 H1 → va_S A s.heap H1 locs1 → xFr V G G1 H H1 → (cells + c1) + (kc - c1) ≤ R.cells → (slots + s1) + (ks - s1) ≤ R.slots → W p l e R s m args below meth c H1 locs1 (cells + c1) (slots + s1) Z (F0 m (pc + 3) ls (rest))) : W p l e R s m args below meth c H locs cells slots Z (F0 m pc ls (.int x3 :: va_rf x2 :: .int x1 :: va_rf o :: rest)) := by
  subst ho
  exact rg_v3w (va_runI (As := [.int x1, va_rf x2, .int x3]) (rest := rest) C.1 (hM V H.size G Q1 x0 x1 x2 x3 c1 s1) (cwI 3 C.1.2.2.2.2 (lw_meth q802) rfl rfl rfl (C.1.2.2.2.2 _ q88) (C.1.2.2.2.2 _ hlink) (C.1.2.2.2.2 _ q801) rfl (by decide +kernel) ⟨hRf, hRl⟩) ⟨fun a U g mk q => by obtain ⟨q0, q1, qW, qK, qZ, qw⟩ := q; exact ⟨q0, q1, qW, xK.same (u := U) (U := U.calling g mk a) rfl qK, xZ.moved (u := U) (U := U.calling g mk a) (Vm.Alike.refl U.vm) qZ, qw⟩, fun U hU hWm => ⟨rfl, by rw [hU], by rw [hU]; exact hW.self _, C.2.1.warm hWm, xZ.call C.2.2.1 hW hS C.2.2.2 hU hWm.alike, h⟩⟩ rfl rfl hz rfl (lv_room hr8) hdg ⟨by omega, by omega⟩) hW hS C.2.2.2 (fun G1 H1 locs1 hp hW1 hS1 hF1 => kk G1 H1 locs1 hp hW1 hS1 hF1 (by omega) (by omega))
def w_X6_init (V : XV) (Q : GM → Prop) (x0 : Nat) (x1 : Int32) (x2 : Option Nat) (x3 : Int32) (G : GM) (kc : Nat) (ks : Nat) : Prop := ∃ c2 s3 : Nat, c2 ≤ kc ∧ s3 ≤ ks ∧ (w_X5_init V (fun G1 => gPF G1 21 (some x0) (.int x3) (fun G4 => Q G4)) x0 x1 x2 G c2 s3)
set_option maxRecDepth 100000 in
set_option maxHeartbeats 4000000 in
theorem wk_X6_init {p : Program} {l : Launch} {e : Env} {R : Room} {s : State} {m : MethodId} {args : Array Value} {below : List Frame} {meth : Method} {c : Code} {Z : State → Prop} {A : Nat → Prop} {V : XV} (Q : GM → Prop) (C : xC p m c s args cX6_init 4 RX6 V A) (hin : meth.name = "<init>") (hRf : 6 ≤ R.frames) (hRl : 124 ≤ R.locals) (G : GM) (hret : ∀ (G : GM) (pc : Nat) (ls : Array Slot) (H : Heap) (locs : List Loc) (cells slots : Nat) {k1 k2 : Nat}, decode cX6_init pc = .ok (.return_, 1) → xW V A G H → va_S A s.heap H locs → cells + k1 ≤ R.cells → slots + k2 ≤ R.slots → Q G → W p l e R s m args below meth c H locs cells slots Z (F0 m pc ls [])) (x0 : Nat) (x1 : Int32) (x2 : Option Nat) (x3 : Int32) (kc ks : Nat) : w_X6_init V Q x0 x1 x2 x3 G kc ks → ∀ (ls : Array Slot) (H : Heap) (locs : List Loc) (cells slots : Nat), lv_has ls 4 [(0, va_rf (some x0)), (1, .int x1), (2, va_rf x2), (3, .int x3)] → xW V A G H → va_S A s.heap H locs → cells + kc ≤ R.cells → slots + ks ≤ R.slots → W p l e R s m args below meth c H locs cells slots Z (F0 m 0 ls []) := by
  have hx := C.1.1; have hb := C.1.2.1; have hml := C.1.2.2.1; have hown := C.1.2.2.2.1; have hts := C.1.2.2.2.2
  intro h
  intro ls H locs cells slots hl hW hS hkc hks
  refine sh_aload_n hx hb dX6_init_0 rfl (lv_at hl 0 rfl) ?_
  refine lv_iload_n hx hb dX6_init_1 rfl (lv_at hl 1 rfl) ?_
  refine sh_aload_n hx hb dX6_init_2 rfl (lv_at hl 2 rfl) ?_
  obtain ⟨c2, s3, hc3, hs3, h⟩ := h
  refine call_X5_init_I (ct_X5_init l) C hW hS q803 rfl (le_lit hRf rfl) (le_lit hRl rfl) hc3 hs3 hkc hks hl.1 (Nat.le_of_ble_eq_true rfl) dX6_init_3 h (fun G1 H locs h hW hS _ hkc hks => ?_)
  refine sh_aload_n hx hb dX6_init_6 rfl (lv_at hl 0 rfl) ?_
  refine lv_iload_n hx hb dX6_init_7 rfl (lv_at hl 3 rfl) ?_
  refine sh_putF C hW hS xFb_21 q830 (fun _ h => h) hin rfl xFd_21 rfl rfl h dX6_init_8 (fun G4 H locs hW hS h => ?_)
  exact hret _ _ _ _ _ _ _ dX6_init_11 hW hS hkc hks h
theorem ct_X6_init (l : Launch) : CT_X6_init l 6 124 w_X6_init := by
  intro V sz G Q x0 x1 x2 x3 kc ks
  refine Met.ofW (cc := cX6_init) (maxL := 4) (ret := none) (by decide) rfl ?_
  intro p e s m args below meth c s₁ B hml hv
  obtain ⟨rfl, hsz, hW, hK, hZ, h⟩ := hv
  subst hsz
  have hts := atoms_spec (ws := (ws_ yX6_init cX6_init 4 none)) B.pre
  have hts : ∀ w ∈ lw_all, w.before _ s = true := fun w h => hts w (List.mem_cons_of_mem _ h)
  have key : ∃ ls : Array Slot, entryFrame m ([.ref x0, .int x1, va_rf x2, .int x3] : List Value).toArray 4 = F0 m 0 ls [] ∧ lv_has ls 4 [(0, va_rf (some x0)), (1, .int x1), (2, va_rf x2), (3, .int x3)] := by
    cases x2 <;> (refine ⟨_, by rw [lg_entry_eq], ?_⟩; exact lv_entry _ (Nat.le_of_ble_eq_true rfl))
  obtain ⟨ls, hfr, hl⟩ := key
  rw [hfr]
  exact wk_X6_init Q ⟨⟨B.exec, B.bytes, hml, findClass_of_methodNamed B.named, hts⟩, hK, hZ, fun q h => Or.inr h⟩ (name_of_methodNamed B.named B.method).1 (Nat.le_refl _) (Nat.le_refl _) G (fun G pc ls H locs cells slots _ _ hd hW1 hS hkc hks hQ => W.widen (k := kc) (n := ks) (Nat.le_trans (Nat.le_add_right _ _) hkc) (Nat.le_trans (Nat.le_add_right _ _) hks) (W.vret B.exec B.bytes B.returns (fun t ht _ => ⟨⟨G, rfl, hQ, by rw [← ht] at hW1; exact hW1⟩, hS.F ht⟩) hS.2.2 hd)) x0 x1 x2 x3 kc ks h ls _ [] 0 0 hl hW va_S.rf (by show 0 + kc ≤ kc; omega) (by show 0 + ks ≤ ks; omega)
def CT_X7_init (l : Launch) (fr lo : Nat) (w : XV → (GM → Prop) → Nat → Int32 → (Option Nat) → Int32 → (Option Nat) → GM → Nat → Nat → Prop) : Prop := ∀ (V : XV) (sz : Nat) (G : GM) (Q : GM → Prop) (x0 : Nat) (x1 : Int32) (x2 : Option Nat) (x3 : Int32) (x4 : Option Nat) (kc ks : Nat), Met l yX7_init (ws_ yX7_init cX7_init 5 none) { frames := fr, cells := kc, slots := ks, locals := lo } (va_Pc [.ref x0, .int x1, va_rf x2, .int x3, va_rf x4] (fun U => U.heap.size = sz ∧ xW V (xA G sz) G U.heap ∧ xK V U ∧ xZ V (xA G sz) U U.heap ∧ w V Q x0 x1 x2 x3 x4 G kc ks)) (va_Qv (fun (u : GM) => Q u) (fun u t => xW V (xA G sz) u t.heap) (xA G sz)) kc ks (xA G sz)
theorem call_X7_init_I {p : Program} {l : Launch} {e : Env} {R : Room} {s : State} {m : MethodId} {args : Array Value} {below : List Frame} {meth : Method} {c : Code} {H : Heap} {locs : List Loc} {cells slots : Nat} {Z : State → Prop} {A : Nat → Prop} {cc : ByteArray} {nL pc : Nat} {ls : Array Slot} {rest : List Value} {own : String} {index fr lo : Nat} {w : XV → (GM → Prop) → Nat → Int32 → (Option Nat) → Int32 → (Option Nat) → GM → Nat → Nat → Prop} {V : XV} {G : GM} {o : Option Nat} {kc ks c1 s1 : Nat} {x0 : Nat} {x1 : Int32} {x2 : Option Nat} {x3 : Int32} {x4 : Option Nat} (hM : CT_X7_init l fr lo w) (C : xC p m c s args cc nL own V A) (hW : xW V A G H) (hS : va_S A s.heap H locs) (hlink : Cond.methodLink own index yX7_init ∈ lw_all) (ho : o = some x0) (hRf : fr + 1 ≤ R.frames) (hRl : 8 + (5 + 11) + lo ≤ R.locals) (hc1 : c1 ≤ kc) (hs1 : s1 ≤ ks) (hkc : cells + kc ≤ R.cells) (hks : slots + ks ≤ R.slots) (hz : ls.size = nL) (hr8 : (rest.map fun v => v.category).sum ≤ 8) (hdg : decode cc pc = .ok (.invokespecial index, 3)) {Q1 : GM → Prop} (h : w V Q1 x0 x1 x2 x3 x4 G c1 s1) (kk : ∀ (G1 : GM) (H1 : Heap) (locs1 : List Loc), Q1 G1 → xW V A G1 H1 → va_S A s.heap H1 locs1 → xFr V G G1 H H1 → (cells + c1) + (kc - c1) ≤ R.cells → (slots + s1) + (ks - s1) ≤ R.slots → W p l e R s m args below meth c H1 locs1 (cells + c1) (slots + s1) Z (F0 m (pc + 3) ls (rest))) : W p l e R s m args below meth c H locs cells slots Z (F0 m pc ls (va_rf x4 :: .int x3 :: va_rf x2 :: .int x1 :: va_rf o :: rest)) := by
  subst ho
  exact rg_v3w (va_runI (As := [.int x1, va_rf x2, .int x3, va_rf x4]) (rest := rest) C.1 (hM V H.size G Q1 x0 x1 x2 x3 x4 c1 s1) (cwI 4 C.1.2.2.2.2 (lw_meth q799) rfl rfl rfl (C.1.2.2.2.2 _ q89) (C.1.2.2.2.2 _ hlink) (C.1.2.2.2.2 _ q798) rfl (by decide +kernel) ⟨hRf, hRl⟩) ⟨fun a U g mk q => by obtain ⟨q0, q1, qW, qK, qZ, qw⟩ := q; exact ⟨q0, q1, qW, xK.same (u := U) (U := U.calling g mk a) rfl qK, xZ.moved (u := U) (U := U.calling g mk a) (Vm.Alike.refl U.vm) qZ, qw⟩, fun U hU hWm => ⟨rfl, by rw [hU], by rw [hU]; exact hW.self _, C.2.1.warm hWm, xZ.call C.2.2.1 hW hS C.2.2.2 hU hWm.alike, h⟩⟩ rfl rfl hz rfl (lv_room hr8) hdg ⟨by omega, by omega⟩) hW hS C.2.2.2 (fun G1 H1 locs1 hp hW1 hS1 hF1 => kk G1 H1 locs1 hp hW1 hS1 hF1 (by omega) (by omega))
def w_X7_init (V : XV) (Q : GM → Prop) (x0 : Nat) (x1 : Int32) (x2 : Option Nat) (x3 : Int32) (x4 : Option Nat) (G : GM) (kc : Nat) (ks : Nat) : Prop := ∃ c2 s3 : Nat, c2 ≤ kc ∧ s3 ≤ ks ∧ (w_X6_init V (fun G1 => gIL G1 0 x4 (0 : Int32) (fun v4 => gPF G1 22 (some x0) (.int v4) (fun G5 => gIL G5 0 x4 (1 : Int32) (fun v6 => gPF G5 23 (some x0) (.int v6) (fun G7 => Q G7))))) x0 x1 x2 x3 G c2 s3)
set_option maxRecDepth 100000 in
set_option maxHeartbeats 4000000 in
theorem wk_X7_init {p : Program} {l : Launch} {e : Env} {R : Room} {s : State} {m : MethodId} {args : Array Value} {below : List Frame} {meth : Method} {c : Code} {Z : State → Prop} {A : Nat → Prop} {V : XV} (Q : GM → Prop) (C : xC p m c s args cX7_init 5 RX7 V A) (hin : meth.name = "<init>") (hRf : 7 ≤ R.frames) (hRl : 147 ≤ R.locals) (G : GM) (hret : ∀ (G : GM) (pc : Nat) (ls : Array Slot) (H : Heap) (locs : List Loc) (cells slots : Nat) {k1 k2 : Nat}, decode cX7_init pc = .ok (.return_, 1) → xW V A G H → va_S A s.heap H locs → cells + k1 ≤ R.cells → slots + k2 ≤ R.slots → Q G → W p l e R s m args below meth c H locs cells slots Z (F0 m pc ls [])) (x0 : Nat) (x1 : Int32) (x2 : Option Nat) (x3 : Int32) (x4 : Option Nat) (kc ks : Nat) : w_X7_init V Q x0 x1 x2 x3 x4 G kc ks → ∀ (ls : Array Slot) (H : Heap) (locs : List Loc) (cells slots : Nat), lv_has ls 5 [(0, va_rf (some x0)), (1, .int x1), (2, va_rf x2), (3, .int x3), (4, va_rf x4)] → xW V A G H → va_S A s.heap H locs → cells + kc ≤ R.cells → slots + ks ≤ R.slots → W p l e R s m args below meth c H locs cells slots Z (F0 m 0 ls []) := by
  have hx := C.1.1; have hb := C.1.2.1; have hml := C.1.2.2.1; have hown := C.1.2.2.2.1; have hts := C.1.2.2.2.2
  intro h
  intro ls H locs cells slots hl hW hS hkc hks
  refine sh_aload_n hx hb dX7_init_0 rfl (lv_at hl 0 rfl) ?_
  refine lv_iload_n hx hb dX7_init_1 rfl (lv_at hl 1 rfl) ?_
  refine sh_aload_n hx hb dX7_init_2 rfl (lv_at hl 2 rfl) ?_
  refine lv_iload_n hx hb dX7_init_3 rfl (lv_at hl 3 rfl) ?_
  obtain ⟨c2, s3, hc4, hs4, h⟩ := h
  refine call_X6_init_I (ct_X6_init l) C hW hS q800 rfl (le_lit hRf rfl) (le_lit hRl rfl) hc4 hs4 hkc hks hl.1 (Nat.le_of_ble_eq_true rfl) dX7_init_4 h (fun G1 H locs h hW hS _ hkc hks => ?_)
  refine sh_aload_n hx hb dX7_init_7 rfl (lv_at hl 0 rfl) ?_
  refine sh_aload hx hb dX7_init_8 (lv_at hl 4 rfl) ?_
  refine lv_iconst (v := 0) hx hb dX7_init_10 (by decide) ?_
  refine sh_iald C hW h dX7_init_11 (fun v4 h => ?_)
  refine sh_putF C hW hS xFb_22 q828 (fun _ h => h) hin rfl xFd_22 rfl rfl h dX7_init_12 (fun G5 H locs hW hS h => ?_)
  refine sh_aload_n hx hb dX7_init_15 rfl (lv_at hl 0 rfl) ?_
  refine sh_aload hx hb dX7_init_16 (lv_at hl 4 rfl) ?_
  refine lv_iconst (v := 1) hx hb dX7_init_18 (by decide) ?_
  refine sh_iald C hW h dX7_init_19 (fun v6 h => ?_)
  refine sh_putF C hW hS xFb_23 q829 (fun _ h => h) hin rfl xFd_23 rfl rfl h dX7_init_20 (fun G7 H locs hW hS h => ?_)
  exact hret _ _ _ _ _ _ _ dX7_init_23 hW hS hkc hks h
theorem ct_X7_init (l : Launch) : CT_X7_init l 7 147 w_X7_init := by
  intro V sz G Q x0 x1 x2 x3 x4 kc ks
  refine Met.ofW (cc := cX7_init) (maxL := 5) (ret := none) (by decide) rfl ?_
  intro p e s m args below meth c s₁ B hml hv
  obtain ⟨rfl, hsz, hW, hK, hZ, h⟩ := hv
  subst hsz
  have hts := atoms_spec (ws := (ws_ yX7_init cX7_init 5 none)) B.pre
  have hts : ∀ w ∈ lw_all, w.before _ s = true := fun w h => hts w (List.mem_cons_of_mem _ h)
  have key : ∃ ls : Array Slot, entryFrame m ([.ref x0, .int x1, va_rf x2, .int x3, va_rf x4] : List Value).toArray 5 = F0 m 0 ls [] ∧ lv_has ls 5 [(0, va_rf (some x0)), (1, .int x1), (2, va_rf x2), (3, .int x3), (4, va_rf x4)] := by
    cases x2 <;> cases x4 <;> (refine ⟨_, by rw [lg_entry_eq], ?_⟩; exact lv_entry _ (Nat.le_of_ble_eq_true rfl))
  obtain ⟨ls, hfr, hl⟩ := key
  rw [hfr]
  exact wk_X7_init Q ⟨⟨B.exec, B.bytes, hml, findClass_of_methodNamed B.named, hts⟩, hK, hZ, fun q h => Or.inr h⟩ (name_of_methodNamed B.named B.method).1 (Nat.le_refl _) (Nat.le_refl _) G (fun G pc ls H locs cells slots _ _ hd hW1 hS hkc hks hQ => W.widen (k := kc) (n := ks) (Nat.le_trans (Nat.le_add_right _ _) hkc) (Nat.le_trans (Nat.le_add_right _ _) hks) (W.vret B.exec B.bytes B.returns (fun t ht _ => ⟨⟨G, rfl, hQ, by rw [← ht] at hW1; exact hW1⟩, hS.F ht⟩) hS.2.2 hd)) x0 x1 x2 x3 x4 kc ks h ls _ [] 0 0 hl hW va_S.rf (by show 0 + kc ≤ kc; omega) (by show 0 + ks ≤ ks; omega)
def CT_X1_put (l : Launch) (fr lo : Nat) (w : XV → (Int32 → GM → Prop) → Nat → (Option Nat) → GM → Nat → Nat → Prop) : Prop := ∀ (V : XV) (sz : Nat) (G : GM) (Q : Int32 → GM → Prop) (x0 : Nat) (x1 : Option Nat) (kc ks : Nat), Met l yX1_put (ws_ yX1_put cX1_put 2 (some .int)) { frames := fr, cells := kc, slots := ks, locals := lo } (va_Pc [.ref x0, va_rf x1] (fun U => U.heap.size = sz ∧ xW V (xA G sz) G U.heap ∧ xK V U ∧ xZ V (xA G sz) U U.heap ∧ w V Q x0 x1 G kc ks)) (va_Qi (fun r (u : GM) => Q r u) (fun u t => xW V (xA G sz) u t.heap) (xA G sz)) kc ks (xA G sz)
theorem call_X1_put_V {p : Program} {l : Launch} {e : Env} {R : Room} {s : State} {m : MethodId} {args : Array Value} {below : List Frame} {meth : Method} {c : Code} {H : Heap} {locs : List Loc} {cells slots : Nat} {Z : State → Prop} {A : Nat → Prop} {cc : ByteArray} {nL pc : Nat} {ls : Array Slot} {rest : List Value} {own : String} {index fr lo : Nat} {w : XV → (Int32 → GM → Prop) → Nat → (Option Nat) → GM → Nat → Nat → Prop} {V : XV} {G : GM} {o : Option Nat} {ci : Nat} {kc ks c1 s1 : Nat} {x0 : Nat} {x1 : Option Nat} (hM : CT_X1_put l fr lo w) (C : xC p m c s args cc nL own V A) (hW : xW V A G H) (hS : va_S A s.heap H locs) (hlink : Cond.methodLink own index yX1_put ∈ lw_all) (ho : o = some x0) (hcv : gCi G (some x0) = some ci) (hci : ci % 64 = 0) (hRf : fr + 1 ≤ R.frames) (hRl : 8 + (2 + 11) + lo ≤ R.locals) (hc1 : c1 ≤ kc) (hs1 : s1 ≤ ks) (hkc : cells + kc ≤ R.cells) (hks : slots + ks ≤ R.slots) (hz : ls.size = nL) (hr8 : (rest.map fun v => v.category).sum ≤ 8) (hdg : decode cc pc = .ok (.invokevirtual index, 3)) {Q1 : Int32 → GM → Prop} (h : w V Q1 x0 x1 G c1 s1) (kk : ∀ (r : Int32) (G1 : GM) (H1 : Heap) (locs1 : List Loc), Q1 r G1 → xW V A G1 H1 → va_S A s.heap H1 locs1 → xFr V G G1 H H1 → (cells + c1) + (kc - c1) ≤ R.cells → (slots + s1) + (ks - s1) ≤ R.slots → W p l e R s m args below meth c H1 locs1 (cells + c1) (slots + s1) Z (F0 m (pc + 3) ls (.int r :: rest))) : W p l e R s m args below meth c H locs cells slots Z (F0 m pc ls (va_rf x1 :: va_rf o :: rest)) := by
  subst ho
  obtain ⟨fs, hG⟩ := gCi_of hcv
  exact rg_i3w (va_runV (As := [va_rf x1]) (rest := rest) C.1 (hM V H.size G Q1 x0 x1 c1 s1) (cwV 1 C.1.2.2.2.2 (lw_V hlink q880 qs5 q59 q881) rfl rfl rfl (by decide +kernel) ⟨hRf, hRl⟩) ⟨fun a U g mk q => by obtain ⟨q0, q1, qW, qK, qZ, qw⟩ := q; exact ⟨q0, q1, qW, xK.same (u := U) (U := U.calling g mk a) rfl qK, xZ.moved (u := U) (U := U.calling g mk a) (Vm.Alike.refl U.vm) qZ, qw⟩, (hW.recv C.2.1 hG (r := (RX1, TX1, 6)) (by rw [hci]; rfl)), fun U hU hWm => ⟨rfl, by rw [hU], by rw [hU]; exact hW.self _, C.2.1.warm hWm, xZ.call C.2.2.1 hW hS C.2.2.2 hU hWm.alike, h⟩⟩ rfl rfl hz rfl (lv_room hr8) hdg ⟨by omega, by omega⟩) hW hS C.2.2.2 (fun r G1 H1 locs1 hp hW1 hS1 hF1 => kk r G1 H1 locs1 hp hW1 hS1 hF1 (by omega) (by omega))
def w_X1_put (V : XV) (Q : Int32 → GM → Prop) (x0 : Nat) (x1 : Option Nat) (G : GM) (kc : Nat) (ks : Nat) : Prop := gGR G 1 (some x0) (fun v1 => gGI G 2 (some x0) (fun v2 => gRS G v1 v2 x1 (fun G3 => gGI G3 2 (some x0) (fun v4 => gPF G3 2 (some x0) (.int (v4 + (1 : Int32))) (fun G5 => gGR G5 14 x1 (fun v6 => gGR G5 12 v6 (fun v7 => gRcv G5 v7 (fun a8 c9 => (c9 % 64 = 15) ∧ (∃ c12 s13 : Nat, c12 ≤ kc ∧ s13 ≤ ks ∧ (w_J2_add V (fun r10 G11 => gGR G11 3 (some x0) (fun v14 => gRcv G11 v14 (fun a15 c16 => (c16 % 64 = 15) ∧ (w_J2_clear V (fun G17 => gGI G17 13 x1 (fun v18 => Q v18 G17)) a15 G11)))) a8 x1 G5 c12 s13))))))))))
set_option maxRecDepth 100000 in
set_option maxHeartbeats 4000000 in
theorem wk_X1_put {p : Program} {l : Launch} {e : Env} {R : Room} {s : State} {m : MethodId} {args : Array Value} {below : List Frame} {meth : Method} {c : Code} {Z : State → Prop} {A : Nat → Prop} {V : XV} (Q : Int32 → GM → Prop) (C : xC p m c s args cX1_put 2 RX1 V A) (hRf : 7 ≤ R.frames) (hRl : 191 ≤ R.locals) (G : GM) (hret : ∀ (v : Int32) (G : GM) (pc : Nat) (ls : Array Slot) (H : Heap) (locs : List Loc) (cells slots : Nat) {k1 k2 : Nat}, decode cX1_put pc = .ok (.ireturn, 1) → xW V A G H → va_S A s.heap H locs → cells + k1 ≤ R.cells → slots + k2 ≤ R.slots → Q v G → W p l e R s m args below meth c H locs cells slots Z (F0 m pc ls [.int v])) (x0 : Nat) (x1 : Option Nat) (kc ks : Nat) : w_X1_put V Q x0 x1 G kc ks → ∀ (ls : Array Slot) (H : Heap) (locs : List Loc) (cells slots : Nat), lv_has ls 2 [(0, va_rf (some x0)), (1, va_rf x1)] → xW V A G H → va_S A s.heap H locs → cells + kc ≤ R.cells → slots + ks ≤ R.slots → W p l e R s m args below meth c H locs cells slots Z (F0 m 0 ls []) := by
  have hx := C.1.1; have hb := C.1.2.1; have hml := C.1.2.2.1; have hown := C.1.2.2.2.1; have hts := C.1.2.2.2.2
  intro h
  intro ls H locs cells slots hl hW hS hkc hks
  refine sh_aload_n hx hb dX1_put_0 rfl (lv_at hl 0 rfl) ?_
  obtain ⟨v1, h1, h⟩ := h
  refine sh_get C hW xFb_1 q202 (fun _ h => h) h1 dX1_put_1 ?_
  refine sh_aload_n hx hb dX1_put_4 rfl (lv_at hl 0 rfl) ?_
  obtain ⟨v2, h1, h⟩ := h
  refine sh_get C hW xFb_2 q203 (fun _ h => h) h1 dX1_put_5 ?_
  refine sh_aload_n hx hb dX1_put_8 rfl (lv_at hl 1 rfl) ?_
  refine sh_aast C hW hS h dX1_put_9 (fun G3 H locs hW hS h => ?_)
  refine sh_aload_n hx hb dX1_put_10 rfl (lv_at hl 0 rfl) ?_
  refine lv_dup hx hb dX1_put_11 (va_rf_cat _) ?_
  obtain ⟨v4, h1, h⟩ := h
  refine sh_get C hW xFb_2 q203 (fun _ h => h) h1 dX1_put_12 ?_
  refine lv_iconst (v := 1) hx hb dX1_put_15 (by decide) ?_
  refine lv_iadd hx hb dX1_put_16 ?_
  refine sh_put C hW hS xFb_2 q203 (fun _ h => h) xFd_2 rfl rfl h dX1_put_17 (fun G5 H locs hW hS h => ?_)
  refine sh_aload_n hx hb dX1_put_20 rfl (lv_at hl 1 rfl) ?_
  obtain ⟨v6, h1, h⟩ := h
  refine sh_get C hW xFb_14 q838 (fun _ h => h) h1 dX1_put_21 ?_
  obtain ⟨v7, h1, h⟩ := h
  refine sh_getN C hW xFb_12 q669 (fun _ h => h) (by decide) h1 dX1_put_24 ?_
  refine sh_aload_n hx hb dX1_put_27 rfl (lv_at hl 1 rfl) ?_
  obtain ⟨a8, c9, ho28, hcv28, h⟩ := h
  have hcc := h.1
  have h := h.2
  obtain ⟨c12, s13, hc28, hs28, h⟩ := h
  refine call_J2_add_F15_List (ct_J2_add l) C hW hS q676 ho28 hcv28 hcc (le_lit hRf rfl) (le_lit hRl rfl) hc28 hs28 hkc hks hl.1 (Nat.le_of_ble_eq_true rfl) dX1_put_28 h (fun r10 G11 H locs h hW hS _ hkc hks => ?_)
  refine lv_pop hx hb dX1_put_33 rfl ?_
  refine sh_aload_n hx hb dX1_put_34 rfl (lv_at hl 0 rfl) ?_
  obtain ⟨v14, h1, h⟩ := h
  refine sh_get C hW xFb_3 q204 (fun _ h => h) h1 dX1_put_35 ?_
  obtain ⟨a15, c16, ho38, hcv38, h⟩ := h
  have hcc := h.1
  have h := h.2
  refine call_J2_clear_F15_List (ct_J2_clear l) C hW hS q235 ho38 hcv38 hcc (le_lit hRf rfl) (le_lit hRl rfl) ⟨Nat.le_trans (Nat.le_add_right _ _) hkc, Nat.le_trans (Nat.le_add_right _ _) hks⟩ hl.1 (Nat.le_of_ble_eq_true rfl) dX1_put_38 h (fun G17 H locs h hW hS _ => ?_)
  refine sh_aload_n hx hb dX1_put_43 rfl (lv_at hl 1 rfl) ?_
  obtain ⟨v18, h1, h⟩ := h
  refine sh_get C hW xFb_13 q836 (fun _ h => h) h1 dX1_put_44 ?_
  exact hret _ _ _ _ _ _ _ _ dX1_put_47 hW hS hkc hks h
theorem ct_X1_put (l : Launch) : CT_X1_put l 7 191 w_X1_put := by
  intro V sz G Q x0 x1 kc ks
  refine Met.ofW (cc := cX1_put) (maxL := 2) (ret := (some .int)) (by decide) rfl ?_
  intro p e s m args below meth c s₁ B hml hv
  obtain ⟨rfl, hsz, hW, hK, hZ, h⟩ := hv
  subst hsz
  have hts := atoms_spec (ws := (ws_ yX1_put cX1_put 2 (some .int))) B.pre
  have hts : ∀ w ∈ lw_all, w.before _ s = true := fun w h => hts w (List.mem_cons_of_mem _ h)
  have key : ∃ ls : Array Slot, entryFrame m ([.ref x0, va_rf x1] : List Value).toArray 2 = F0 m 0 ls [] ∧ lv_has ls 2 [(0, va_rf (some x0)), (1, va_rf x1)] := by
    cases x1 <;> (refine ⟨_, by rw [lg_entry_eq], ?_⟩; exact lv_entry _ (Nat.le_of_ble_eq_true rfl))
  obtain ⟨ls, hfr, hl⟩ := key
  rw [hfr]
  exact wk_X1_put Q ⟨⟨B.exec, B.bytes, hml, findClass_of_methodNamed B.named, hts⟩, hK, hZ, fun q h => Or.inr h⟩ (Nat.le_refl _) (Nat.le_refl _) G (fun v G pc ls H locs cells slots _ _ hd hW1 hS hkc hks hQ => W.widen (k := kc) (n := ks) (Nat.le_trans (Nat.le_add_right _ _) hkc) (Nat.le_trans (Nat.le_add_right _ _) hks) (W.iret (v := v) B.exec B.bytes B.returns (fun t ht _ => ⟨⟨v, G, rfl, hQ, by rw [← ht] at hW1; exact hW1⟩, hS.F ht⟩) hS.2.2 hd)) x0 x1 kc ks h ls _ [] 0 0 hl hW va_S.rf (by show 0 + kc ≤ kc; omega) (by show 0 + ks ≤ ks; omega)
def CT_X1_addRect (l : Launch) (fr lo : Nat) (w : XV → (Int32 → GM → Prop) → (String → GM → Prop) → Nat → Int32 → Int32 → Int32 → Int32 → GM → Nat → Nat → Prop) : Prop := ∀ (V : XV) (sz : Nat) (G : GM) (Q : Int32 → GM → Prop) (X : String → GM → Prop) (x0 : Nat) (x1 : Int32) (x2 : Int32) (x3 : Int32) (x4 : Int32) (kc ks : Nat), vx_Met l yX1_addRect (ws_ yX1_addRect cX1_addRect 6 (some .int)) { frames := fr, cells := kc, slots := ks, locals := lo } (va_Pc [.ref x0, .int x1, .int x2, .int x3, .int x4] (fun U => U.heap.size = sz ∧ xW V (xA G sz) G U.heap ∧ xK V U ∧ xZ V (xA G sz) U U.heap ∧ w V Q X x0 x1 x2 x3 x4 G kc ks)) (va_Qi (fun r (u : GM) => Q r u) (fun u t => xW V (xA G sz) u t.heap) (xA G sz)) (vx_X (fun u : String × GM => X u.1 u.2) (fun E u t => E = u.1 ∧ xW V (xA G sz) u.2 t.heap) (xA G sz)) kc ks (xA G sz)
theorem call_X1_addRect_V {p : Program} {l : Launch} {e : Env} {R : Room} {s : State} {m : MethodId} {args : Array Value} {below : List Frame} {meth : Method} {c : Code} {H : Heap} {locs : List Loc} {cells slots : Nat} {Z : State → Prop} {A : Nat → Prop} {cc : ByteArray} {nL pc : Nat} {ls : Array Slot} {rest : List Value} {own : String} {index fr lo : Nat} {w : XV → (Int32 → GM → Prop) → (String → GM → Prop) → Nat → Int32 → Int32 → Int32 → Int32 → GM → Nat → Nat → Prop} {V : XV} {G : GM} {o : Option Nat} {ci : Nat} {kc ks c1 s1 : Nat} {x0 : Nat} {x1 : Int32} {x2 : Int32} {x3 : Int32} {x4 : Int32} (hM : CT_X1_addRect l fr lo w) (C : xC p m c s args cc nL own V A) (hW : xW V A G H) (hS : va_S A s.heap H locs) (hlink : Cond.methodLink own index yX1_addRect ∈ lw_all) (ho : o = some x0) (hcv : gCi G (some x0) = some ci) (hci : ci % 64 = 0) (hRf : fr + 1 ≤ R.frames) (hRl : 8 + (6 + 11) + lo ≤ R.locals) (hc1 : c1 ≤ kc) (hs1 : s1 ≤ ks) (hkc : cells + kc ≤ R.cells) (hks : slots + ks ≤ R.slots) (hz : ls.size = nL) (hr8 : (rest.map fun v => v.category).sum ≤ 8) (hdg : decode cc pc = .ok (.invokevirtual index, 3)) {Q1 : Int32 → GM → Prop} {X1 : String → GM → Prop} (h : w V Q1 X1 x0 x1 x2 x3 x4 G c1 s1) (kx : ∀ (E : String) (G1 : GM) (ce : Cell) (q9 : Addr) (H1 : Heap) (locs1 : List Loc), X1 E G1 → xW V A G1 H1 → va_S A s.heap H1 locs1 → H1[q9]? = some ce → ce.vm = .none → s.vm.findClass E = some ce.cls → xFr V G G1 H H1 → vx_W p l e R s m args below meth c H1 locs1 (cells + c1) (slots + s1) Z (F0 m pc ls rest) q9) (kk : ∀ (r : Int32) (G1 : GM) (H1 : Heap) (locs1 : List Loc), Q1 r G1 → xW V A G1 H1 → va_S A s.heap H1 locs1 → xFr V G G1 H H1 → (cells + c1) + (kc - c1) ≤ R.cells → (slots + s1) + (ks - s1) ≤ R.slots → W p l e R s m args below meth c H1 locs1 (cells + c1) (slots + s1) Z (F0 m (pc + 3) ls (.int r :: rest))) : W p l e R s m args below meth c H locs cells slots Z (F0 m pc ls (.int x4 :: .int x3 :: .int x2 :: .int x1 :: va_rf o :: rest)) := by
  subst ho
  obtain ⟨fs, hG⟩ := gCi_of hcv
  exact rx_i3w (vx_runV (As := [.int x1, .int x2, .int x3, .int x4]) (rest := rest) C.1 (hM V H.size G Q1 X1 x0 x1 x2 x3 x4 c1 s1) (cwV 4 C.1.2.2.2.2 (lw_V hlink q745 q746 q59 q747) rfl rfl rfl (by decide +kernel) ⟨hRf, hRl⟩) ⟨fun a U g mk q => by obtain ⟨q0, q1, qW, qK, qZ, qw⟩ := q; exact ⟨q0, q1, qW, xK.same (u := U) (U := U.calling g mk a) rfl qK, xZ.moved (u := U) (U := U.calling g mk a) (Vm.Alike.refl U.vm) qZ, qw⟩, (hW.recv C.2.1 hG (r := (RX1, TX1, 6)) (by rw [hci]; rfl)), fun U hU hWm => ⟨rfl, by rw [hU], by rw [hU]; exact hW.self _, C.2.1.warm hWm, xZ.call C.2.2.1 hW hS C.2.2.2 hU hWm.alike, h⟩⟩ rfl rfl hz rfl (lv_room hr8) hdg ⟨by omega, by omega⟩) hW hS C.2.2.2 kx (fun r G1 H1 locs1 hp hW1 hS1 hF1 => kk r G1 H1 locs1 hp hW1 hS1 hF1 (by omega) (by omega))
def w_X1_addRect_60 (V : XV) (Q : Int32 → GM → Prop) (X : String → GM → Prop) (x0 : Nat) (x2 : Int32) (x3 : Int32) (x4 : Int32) (x5 : Option Nat) (y0 : Int32) (G : GM) (kc : Nat) (ks : Nat) : Prop := ∃ c1 s2 : Nat, c1 ≤ kc ∧ s2 ≤ ks ∧ (w_X1_checkState V (gNw G 3 11 xdf_X7 (kc - c1) (ks - s2) (fun q3 G4 => gGI G4 2 (some x0) (fun v5 => gNa G4 0 (fun N => (N, .inl (fun _ => 0))) (2 : Int32) ((kc - c1) - 1) ((ks - s2) - 11) (fun q6 n7 G8 => gIS G8 0 (some q6) (0 : Int32) x2 (fun G9 => gIS G9 0 (some q6) (1 : Int32) x3 (fun G10 => ∃ c12 s13 : Nat, c12 ≤ (((kc - c1) - 1) - 1) ∧ s13 ≤ (((ks - s2) - 11) - n7) ∧ (w_X7_init V (fun G11 => gRcv G11 (some x0) (fun a14 c15 => (c15 % 64 = 0) ∧ (∃ c18 s19 : Nat, c18 ≤ ((((kc - c1) - 1) - 1) - c12) ∧ s19 ≤ ((((ks - s2) - 11) - n7) - s13) ∧ (w_X1_put V (fun r16 G17 => Q r16 G17) a14 (some q3) G11 c18 s19)))) q3 v5 x5 x4 (some q6) G10 c12 s13))))))) X y0 G c1 s2)
def w_X1_addRect_43 (V : XV) (Q : Int32 → GM → Prop) (X : String → GM → Prop) (x0 : Nat) (x2 : Int32) (x3 : Int32) (x4 : Int32) (x5 : Option Nat) (y0 : Int32) (G : GM) (kc : Nat) (ks : Nat) : Prop := ∃ c20 s21 : Nat, c20 ≤ kc ∧ s21 ≤ ks ∧ (w_X1_checkArgument V (gGI G 2 (some x0) (fun v22 => if (12 : Int32) ≤ v22 then (w_X1_addRect_60 V Q X x0 x2 x3 x4 x5 (0 : Int32) G (kc - c20) (ks - s21)) else (w_X1_addRect_60 V Q X x0 x2 x3 x4 x5 (1 : Int32) G (kc - c20) (ks - s21)))) X y0 G c20 s21)
def w_X1_addRect_42 (V : XV) (Q : Int32 → GM → Prop) (X : String → GM → Prop) (x0 : Nat) (x2 : Int32) (x3 : Int32) (x4 : Int32) (x5 : Option Nat) (G : GM) (kc : Nat) (ks : Nat) : Prop := w_X1_addRect_43 V Q X x0 x2 x3 x4 x5 (0 : Int32) G kc ks
def w_X1_addRect (V : XV) (Q : Int32 → GM → Prop) (X : String → GM → Prop) (x0 : Nat) (x1 : Int32) (x2 : Int32) (x3 : Int32) (x4 : Int32) (G : GM) (kc : Nat) (ks : Nat) : Prop := gRcv G (some x0) (fun a24 c25 => (c25 % 64 = 0) ∧ (∃ c27 s28 : Nat, c27 ≤ kc ∧ s28 ≤ ks ∧ (w_X1_composition V (fun r26 => w_X1_isBetween V (fun r29 => if r29 = 0 then (w_X1_addRect_42 V Q X x0 x2 x3 x4 r26 G (kc - c27) (ks - s28)) else (w_X1_isBetween V (fun r30 => if r30 = 0 then (w_X1_addRect_42 V Q X x0 x2 x3 x4 r26 G (kc - c27) (ks - s28)) else (w_X1_isBetween V (fun r31 => if r31 = 0 then (w_X1_addRect_42 V Q X x0 x2 x3 x4 r26 G (kc - c27) (ks - s28)) else (w_X1_addRect_43 V Q X x0 x2 x3 x4 r26 (1 : Int32) G (kc - c27) (ks - s28))) x4 (1 : Int32) (9 : Int32) G)) x3 (1 : Int32) (20 : Int32) G)) x2 (1 : Int32) (20 : Int32) G) X a24 x1 G c27 s28)))
set_option maxRecDepth 100000 in
set_option maxHeartbeats 4000000 in
theorem wk_X1_addRect {p : Program} {l : Launch} {e : Env} {R : Room} {s : State} {m : MethodId} {args : Array Value} {below : List Frame} {meth : Method} {c : Code} {Z : State → Prop} {A : Nat → Prop} {V : XV} (Q : Int32 → GM → Prop) (X : String → GM → Prop) (C : xC p m c s args cX1_addRect 6 RX1 V A) (hfl : l.stackTraces = false) (hRf : 14 ≤ R.frames) (hRl : 241 ≤ R.locals) (G : GM) (hret : ∀ (v : Int32) (G : GM) (pc : Nat) (ls : Array Slot) (H : Heap) (locs : List Loc) (cells slots : Nat) {k1 k2 : Nat}, decode cX1_addRect pc = .ok (.ireturn, 1) → xW V A G H → va_S A s.heap H locs → cells + k1 ≤ R.cells → slots + k2 ≤ R.slots → Q v G → W p l e R s m args below meth c H locs cells slots Z (F0 m pc ls [.int v])) (hxo : ∀ (E : String) (G : GM) (ce : Cell) (q : Addr) (pc : Nat) (ls : Array Slot) (H : Heap) (locs : List Loc) (cells slots : Nat) (rest : List Value), xW V A G H → va_S A s.heap H locs → X E G → H[q]? = some ce → ce.vm = .none → s.vm.findClass E = some ce.cls → cells ≤ R.cells → slots ≤ R.slots → vx_W p l e R s m args below meth c H locs cells slots Z (F0 m pc ls rest) q) (x0 : Nat) (x1 : Int32) (x2 : Int32) (x3 : Int32) (x4 : Int32) (kc ks : Nat) : w_X1_addRect V Q X x0 x1 x2 x3 x4 G kc ks → ∀ (ls : Array Slot) (H : Heap) (locs : List Loc) (cells slots : Nat), lv_has ls 6 [(0, va_rf (some x0)), (1, .int x1), (2, .int x2), (3, .int x3), (4, .int x4)] → xW V A G H → va_S A s.heap H locs → cells + kc ≤ R.cells → slots + ks ≤ R.slots → W p l e R s m args below meth c H locs cells slots Z (F0 m 0 ls []) := by
  have hx := C.1.1; have hb := C.1.2.1; have hml := C.1.2.2.1; have hown := C.1.2.2.2.1; have hts := C.1.2.2.2.2
  have hb60 : ∀ (x5 : Option Nat) (y0 : Int32) (G : GM) (kc : Nat) (ks : Nat), w_X1_addRect_60 V Q X x0 x2 x3 x4 x5 y0 G kc ks → ∀ (ls : Array Slot) (H : Heap) (locs : List Loc) (cells slots : Nat), lv_has ls 6 [(0, va_rf (some x0)), (2, .int x2), (3, .int x3), (4, .int x4), (5, va_rf x5)] → xW V A G H → va_S A s.heap H locs → cells + kc ≤ R.cells → slots + ks ≤ R.slots → W p l e R s m args below meth c H locs cells slots Z (F0 m 60 ls [.int y0]) := by
    intro x5 y0 G kc ks h
    intro ls H locs cells slots hl hW hS hkc hks
    obtain ⟨c1, s2, hc60, hs60, h⟩ := h
    refine call_X1_checkState_S (ct_X1_checkState l hfl) C hW hS q633 (le_lit hRf rfl) (le_lit hRl rfl) hc60 hs60 hkc hks hl.1 (Nat.le_of_ble_eq_true rfl) dX1_addRect_60 h (fun E G9 ce q9 H locs hX hW hS h1 h2 h3 _ => hxo E G9 ce q9 60 ls H locs _ _ _ hW hS hX h1 h2 h3 (by omega) (by omega)) (fun  H locs h hW hS _ hkc hks => ?_)
    refine sh_aload_n hx hb dX1_addRect_63 rfl (lv_at hl 0 rfl) ?_
    refine sh_new C hW hS (ci := 3) rfl (by decide) q795 q796 q89 tyX7_ok xdf_X7_ok h hkc hks dX1_addRect_64 (fun q3 G4 H hW hS h hkc hks => ?_)
    refine lv_dup hx hb dX1_addRect_67 (va_rf_cat _) ?_
    refine sh_aload_n hx hb dX1_addRect_68 rfl (lv_at hl 0 rfl) ?_
    obtain ⟨v5, h1, h⟩ := h
    refine sh_get C hW xFb_2 q203 (fun _ h => h) h1 dX1_addRect_69 ?_
    refine sh_aload hx hb dX1_addRect_72 (lv_at hl 4 rfl) ?_
    refine lv_iload hx hb dX1_addRect_74 (lv_at hl 3 rfl) ?_
    refine lv_iconst (v := 2) hx hb dX1_addRect_76 (by decide) ?_
    refine sh_newa C hW hS (atype := .int) (t := 0) rfl (by decide) q827 (fun _ _ => rfl) (by decide) h hkc hks dX1_addRect_77 (fun q6 n7 G8 H hW hS h hN hkc hks => ?_)
    refine lv_dup hx hb dX1_addRect_79 (va_rf_cat _) ?_
    refine lv_iconst (v := 0) hx hb dX1_addRect_80 (by decide) ?_
    refine lv_iload_n hx hb dX1_addRect_81 rfl (lv_at hl 1 rfl) ?_
    refine sh_iast C hW hS h dX1_addRect_82 (fun G9 H locs hW hS h => ?_)
    refine lv_dup hx hb dX1_addRect_83 (va_rf_cat _) ?_
    refine lv_iconst (v := 1) hx hb dX1_addRect_84 (by decide) ?_
    refine lv_iload_n hx hb dX1_addRect_85 rfl (lv_at hl 2 rfl) ?_
    refine sh_iast C hW hS h dX1_addRect_86 (fun G10 H locs hW hS h => ?_)
    obtain ⟨c12, s13, hc87, hs87, h⟩ := h
    refine call_X7_init_I (ct_X7_init l) C hW hS q797 rfl (le_lit hRf rfl) (le_lit hRl rfl) hc87 hs87 hkc hks hl.1 (Nat.le_of_ble_eq_true rfl) dX1_addRect_87 h (fun G11 H locs h hW hS _ hkc hks => ?_)
    obtain ⟨a14, c15, ho90, hcv90, h⟩ := h
    have hcc := h.1
    have h := h.2
    obtain ⟨c18, s19, hc90, hs90, h⟩ := h
    refine call_X1_put_V (ct_X1_put l) C hW hS q878 ho90 hcv90 hcc (le_lit hRf rfl) (le_lit hRl rfl) hc90 hs90 hkc hks hl.1 (Nat.le_of_ble_eq_true rfl) dX1_addRect_90 h (fun r16 G17 H locs h hW hS _ hkc hks => ?_)
    exact hret _ _ _ _ _ _ _ _ dX1_addRect_93 hW hS hkc hks h
  have hb43 : ∀ (x5 : Option Nat) (y0 : Int32) (G : GM) (kc : Nat) (ks : Nat), w_X1_addRect_43 V Q X x0 x2 x3 x4 x5 y0 G kc ks → ∀ (ls : Array Slot) (H : Heap) (locs : List Loc) (cells slots : Nat), lv_has ls 6 [(0, va_rf (some x0)), (2, .int x2), (3, .int x3), (4, .int x4), (5, va_rf x5)] → xW V A G H → va_S A s.heap H locs → cells + kc ≤ R.cells → slots + ks ≤ R.slots → W p l e R s m args below meth c H locs cells slots Z (F0 m 43 ls [.int y0]) := by
    intro x5 y0 G kc ks h
    intro ls H locs cells slots hl hW hS hkc hks
    obtain ⟨c20, s21, hc43, hs43, h⟩ := h
    refine call_X1_checkArgument_S (ct_X1_checkArgument l hfl) C hW hS q787 (le_lit hRf rfl) (le_lit hRl rfl) hc43 hs43 hkc hks hl.1 (Nat.le_of_ble_eq_true rfl) dX1_addRect_43 h (fun E G9 ce q9 H locs hX hW hS h1 h2 h3 _ => hxo E G9 ce q9 43 ls H locs _ _ _ hW hS hX h1 h2 h3 (by omega) (by omega)) (fun  H locs h hW hS _ hkc hks => ?_)
    refine sh_aload_n hx hb dX1_addRect_46 rfl (lv_at hl 0 rfl) ?_
    obtain ⟨v22, h1, h⟩ := h
    refine sh_get C hW xFb_2 q203 (fun _ h => h) h1 dX1_addRect_47 ?_
    refine lv_bipush (v := 12) hx hb dX1_addRect_50 (by decide) ?_
    refine lv_icmp_ge (tgt := 59) hx hb dX1_addRect_52 (by decide) (fun c23 => ?_) (fun c23 => ?_)
    · have h := wif_t h c23
      refine lv_iconst (v := 0) hx hb dX1_addRect_59 (by decide) ?_
      exact hb60 _ _ _ _ _ h ls H locs _ _ (lv_sub hl [0, 1, 2, 3, 4] rfl) hW hS hkc hks
    · have h := wif_f h c23
      refine lv_iconst (v := 1) hx hb dX1_addRect_55 (by decide) ?_
      refine lv_goto (tgt := 60) hx hb dX1_addRect_56 (by decide) ?_
      exact hb60 _ _ _ _ _ h ls H locs _ _ (lv_sub hl [0, 1, 2, 3, 4] rfl) hW hS hkc hks
  have hb42 : ∀ (x5 : Option Nat) (G : GM) (kc : Nat) (ks : Nat), w_X1_addRect_42 V Q X x0 x2 x3 x4 x5 G kc ks → ∀ (ls : Array Slot) (H : Heap) (locs : List Loc) (cells slots : Nat), lv_has ls 6 [(0, va_rf (some x0)), (2, .int x2), (3, .int x3), (4, .int x4), (5, va_rf x5)] → xW V A G H → va_S A s.heap H locs → cells + kc ≤ R.cells → slots + ks ≤ R.slots → W p l e R s m args below meth c H locs cells slots Z (F0 m 42 ls []) := by
    intro x5 G kc ks h
    intro ls H locs cells slots hl hW hS hkc hks
    refine lv_iconst (v := 0) hx hb dX1_addRect_42 (by decide) ?_
    exact hb43 _ _ _ _ _ h ls H locs _ _ (lv_sub hl [0, 1, 2, 3, 4] rfl) hW hS hkc hks
  intro h
  intro ls H locs cells slots hl hW hS hkc hks
  refine sh_aload_n hx hb dX1_addRect_0 rfl (lv_at hl 0 rfl) ?_
  refine lv_iload_n hx hb dX1_addRect_1 rfl (lv_at hl 1 rfl) ?_
  obtain ⟨a24, c25, ho2, hcv2, h⟩ := h
  have hcc := h.1
  have h := h.2
  obtain ⟨c27, s28, hc2, hs2, h⟩ := h
  refine call_X1_composition_V (ct_X1_composition l hfl) C hW hS q748 ho2 hcv2 hcc (le_lit hRf rfl) (le_lit hRl rfl) hc2 hs2 hkc hks hl.1 (Nat.le_of_ble_eq_true rfl) dX1_addRect_2 h (fun E G9 ce q9 H locs hX hW hS h1 h2 h3 _ => hxo E G9 ce q9 2 ls H locs _ _ _ hW hS hX h1 h2 h3 (by omega) (by omega)) (fun r26 H locs h hW hS _ hkc hks => ?_)
  refine sh_astore (lv' := [(5, va_rf r26), (0, va_rf (some x0)), (1, .int x1), (2, .int x2), (3, .int x3), (4, .int x4)]) hx hb dX1_addRect_5 hl (by decide) rfl (fun ls hl => ?_)
  refine lv_iload_n hx hb dX1_addRect_7 rfl (lv_at hl 3 rfl) ?_
  refine lv_iconst (v := 1) hx hb dX1_addRect_8 (by decide) ?_
  refine lv_bipush (v := 20) hx hb dX1_addRect_9 (by decide) ?_
  refine call_X1_isBetween_S (ct_X1_isBetween l) C hW hS q593 (le_lit hRf rfl) (le_lit hRl rfl) ⟨Nat.le_trans (Nat.le_add_right _ _) hkc, Nat.le_trans (Nat.le_add_right _ _) hks⟩ hl.1 (Nat.le_of_ble_eq_true rfl) dX1_addRect_11 h (fun r29 H locs h hW hS _ => ?_)
  refine lv_if_eq (tgt := 42) hx hb dX1_addRect_14 (by decide) (fun c34 => ?_) (fun c34 => ?_)
  · have h := wif_t h c34
    exact hb42 _ _ _ _ h ls H locs _ _ (lv_sub hl [1, 3, 4, 5, 0] rfl) hW hS hkc hks
  · have h := wif_f h c34
    refine lv_iload_n hx hb dX1_addRect_17 rfl (lv_at hl 4 rfl) ?_
    refine lv_iconst (v := 1) hx hb dX1_addRect_18 (by decide) ?_
    refine lv_bipush (v := 20) hx hb dX1_addRect_19 (by decide) ?_
    refine call_X1_isBetween_S (ct_X1_isBetween l) C hW hS q593 (le_lit hRf rfl) (le_lit hRl rfl) ⟨Nat.le_trans (Nat.le_add_right _ _) hkc, Nat.le_trans (Nat.le_add_right _ _) hks⟩ hl.1 (Nat.le_of_ble_eq_true rfl) dX1_addRect_21 h (fun r30 H locs h hW hS _ => ?_)
    refine lv_if_eq (tgt := 42) hx hb dX1_addRect_24 (by decide) (fun c33 => ?_) (fun c33 => ?_)
    · have h := wif_t h c33
      exact hb42 _ _ _ _ h ls H locs _ _ (lv_sub hl [1, 3, 4, 5, 0] rfl) hW hS hkc hks
    · have h := wif_f h c33
      refine lv_iload hx hb dX1_addRect_27 (lv_at hl 5 rfl) ?_
      refine lv_iconst (v := 1) hx hb dX1_addRect_29 (by decide) ?_
      refine lv_bipush (v := 9) hx hb dX1_addRect_30 (by decide) ?_
      refine call_X1_isBetween_S (ct_X1_isBetween l) C hW hS q593 (le_lit hRf rfl) (le_lit hRl rfl) ⟨Nat.le_trans (Nat.le_add_right _ _) hkc, Nat.le_trans (Nat.le_add_right _ _) hks⟩ hl.1 (Nat.le_of_ble_eq_true rfl) dX1_addRect_32 h (fun r31 H locs h hW hS _ => ?_)
      refine lv_if_eq (tgt := 42) hx hb dX1_addRect_35 (by decide) (fun c32 => ?_) (fun c32 => ?_)
      · have h := wif_t h c32
        exact hb42 _ _ _ _ h ls H locs _ _ (lv_sub hl [1, 3, 4, 5, 0] rfl) hW hS hkc hks
      · have h := wif_f h c32
        refine lv_iconst (v := 1) hx hb dX1_addRect_38 (by decide) ?_
        refine lv_goto (tgt := 43) hx hb dX1_addRect_39 (by decide) ?_
        exact hb43 _ _ _ _ _ h ls H locs _ _ (lv_sub hl [1, 3, 4, 5, 0] rfl) hW hS hkc hks
theorem ct_X1_addRect (l : Launch) (hfl : l.stackTraces = false) : CT_X1_addRect l 14 241 w_X1_addRect := by
  intro V sz G Q X x0 x1 x2 x3 x4 kc ks
  refine vx_ofW (cc := cX1_addRect) (maxL := 6) (ret := (some .int)) (by decide) rfl ?_
  intro p e s m args below meth c s₁ B hml hext hv
  obtain ⟨rfl, hsz, hW, hK, hZ, h⟩ := hv
  subst hsz
  have hts := atoms_spec (ws := (ws_ yX1_addRect cX1_addRect 6 (some .int))) B.pre
  have hts : ∀ w ∈ lw_all, w.before _ s = true := fun w h => hts w (List.mem_cons_of_mem _ h)
  have hl := lv_entry ([.ref x0, .int x1, .int x2, .int x3, .int x4]) (n := 6) (Nat.le_of_ble_eq_true rfl)
  rw [lg_entry_eq]
  generalize (lg_sl ([.ref x0, .int x1, .int x2, .int x3, .int x4]) ++ List.replicate (6 - (lg_sl ([.ref x0, .int x1, .int x2, .int x3, .int x4])).length) Slot.unset).toArray = ls at hl ⊢
  exact wk_X1_addRect Q X ⟨⟨B.exec, B.bytes, hml, findClass_of_methodNamed B.named, hts⟩, hK, hZ, fun q h => Or.inr h⟩ hfl (Nat.le_refl _) (Nat.le_refl _) G (fun v G pc ls H locs cells slots _ _ hd hW1 hS hkc hks hQ => W.widen (k := kc) (n := ks) (Nat.le_trans (Nat.le_add_right _ _) hkc) (Nat.le_trans (Nat.le_add_right _ _) hks) (vx_ret (W.iret (v := v) B.exec B.bytes B.returns (fun t ht _ => ⟨⟨v, G, rfl, hQ, by rw [← ht] at hW1; exact hW1⟩, hS.F ht⟩) hS.2.2 hd))) (fun E G9 ce q pc ls H locs cells slots rest hW1 hS hX h1 h2 h3 hc hs => vx_out (fun x hx => absurd (hext x hx) id) B.notSynchronized h1 h2 h3 (fun t ht _ => ⟨(E, G9), hX, ⟨rfl, by rw [← ht] at hW1; exact hW1⟩, hS.F ht⟩) hS.2.2 hc hs) x0 x1 x2 x3 x4 kc ks h ls _ [] 0 0 hl hW va_S.rf (by show 0 + kc ≤ kc; omega) (by show 0 + ks ≤ ks; omega)
def CT_X0_addRect (l : Launch) (fr lo : Nat) (w : XV → (Int32 → GM → Prop) → (Option Nat) → Int32 → Int32 → Int32 → Int32 → (Option Nat) → GM → Nat → Nat → Prop) : Prop := ∀ (V : XV) (sz : Nat) (G : GM) (Q : Int32 → GM → Prop) (x0 : Option Nat) (x1 : Int32) (x2 : Int32) (x3 : Int32) (x4 : Int32) (x5 : Option Nat) (kc ks : Nat), Met l yX0_addRect (wsW_ yX0_addRect cX0_addRect 7 (some .int) [(0, 14, 17, 19), (0, 14, 21, 21), (0, 14, 25, 13)]) { frames := fr, cells := kc, slots := ks, locals := lo } (va_Pc [va_rf x0, .int x1, .int x2, .int x3, .int x4, va_rf x5] (fun U => U.heap.size = sz ∧ xW V (xA G sz) G U.heap ∧ xK V U ∧ xZ V (xA G sz) U U.heap ∧ w V Q x0 x1 x2 x3 x4 x5 G kc ks)) (va_Qi (fun r (u : GM) => Q r u) (fun u t => xW V (xA G sz) u t.heap) (xA G sz)) kc ks (xA G sz)
def w_X0_addRect (V : XV) (Q : Int32 → GM → Prop) (x0 : Option Nat) (x1 : Int32) (x2 : Int32) (x3 : Int32) (x4 : Int32) (x5 : Option Nat) (G : GM) (kc : Nat) (ks : Nat) : Prop := gRcv G x0 (fun a1 c2 => (c2 % 64 = 0) ∧ (∃ c5 s6 : Nat, c5 ≤ kc ∧ s6 ≤ ks ∧ (w_X1_addRect V (fun r3 G4 => gJS G4 1 x5 (0 : Int32) (r3.toInt64) (fun G7 => Q (0 : Int32) G7)) (fun E G9 => if E = "java/lang/IndexOutOfBoundsException" then Q (1 : Int32) G9 else (if E = "java/lang/IllegalArgumentException" then Q (2 : Int32) G9 else (if E = "java/lang/IllegalStateException" then Q (3 : Int32) G9 else (False)))) a1 x1 x2 x3 x4 G c5 s6)))
set_option maxRecDepth 100000 in
set_option maxHeartbeats 4000000 in
theorem wk_X0_addRect {p : Program} {l : Launch} {e : Env} {R : Room} {s : State} {m : MethodId} {args : Array Value} {below : List Frame} {meth : Method} {c : Code} {Z : State → Prop} {A : Nat → Prop} {V : XV} (Q : Int32 → GM → Prop) (C : xC p m c s args cX0_addRect 7 RX0 V A) (hfl : l.stackTraces = false) (htab : c.exceptionTable.toList = tableOf [(0, 14, 17, 19), (0, 14, 21, 21), (0, 14, 25, 13)]) (hRf : 15 ≤ R.frames) (hRl : 266 ≤ R.locals) (G : GM) (hret : ∀ (v : Int32) (G : GM) (pc : Nat) (ls : Array Slot) (H : Heap) (locs : List Loc) (cells slots : Nat) {k1 k2 : Nat}, decode cX0_addRect pc = .ok (.ireturn, 1) → xW V A G H → va_S A s.heap H locs → cells + k1 ≤ R.cells → slots + k2 ≤ R.slots → Q v G → W p l e R s m args below meth c H locs cells slots Z (F0 m pc ls [.int v])) (x0 : Option Nat) (x1 : Int32) (x2 : Int32) (x3 : Int32) (x4 : Int32) (x5 : Option Nat) (kc ks : Nat) : w_X0_addRect V Q x0 x1 x2 x3 x4 x5 G kc ks → ∀ (ls : Array Slot) (H : Heap) (locs : List Loc) (cells slots : Nat), lv_has ls 7 [(0, va_rf x0), (1, .int x1), (2, .int x2), (3, .int x3), (4, .int x4), (5, va_rf x5)] → xW V A G H → va_S A s.heap H locs → cells + kc ≤ R.cells → slots + ks ≤ R.slots → W p l e R s m args below meth c H locs cells slots Z (F0 m 0 ls []) := by
  have hx := C.1.1; have hb := C.1.2.1; have hml := C.1.2.2.1; have hown := C.1.2.2.2.1; have hts := C.1.2.2.2.2
  intro h
  intro ls H locs cells slots hl hW hS hkc hks
  refine sh_aload hx hb dX0_addRect_0 (lv_at hl 5 rfl) ?_
  refine lv_iconst (v := 0) hx hb dX0_addRect_2 (by decide) ?_
  refine sh_aload_n hx hb dX0_addRect_3 rfl (lv_at hl 0 rfl) ?_
  refine lv_iload_n hx hb dX0_addRect_4 rfl (lv_at hl 1 rfl) ?_
  refine lv_iload_n hx hb dX0_addRect_5 rfl (lv_at hl 2 rfl) ?_
  refine lv_iload_n hx hb dX0_addRect_6 rfl (lv_at hl 3 rfl) ?_
  refine lv_iload hx hb dX0_addRect_7 (lv_at hl 4 rfl) ?_
  obtain ⟨a1, c2, ho9, hcv9, h⟩ := h
  have hcc := h.1
  have h := h.2
  obtain ⟨c5, s6, hc9, hs9, h⟩ := h
  refine call_X1_addRect_V (ct_X1_addRect l hfl) C hW hS q744 ho9 hcv9 hcc (le_lit hRf rfl) (le_lit hRl rfl) hc9 hs9 hkc hks hl.1 (by simp only [List.map_cons, List.map_nil, va_rf_cat]; exact Nat.le_of_ble_eq_true rfl) dX0_addRect_9 h (fun E G9 ce q9 H locs hX hW hS h1 h2 h3 _ => by
      by_cases c900 : E = "java/lang/IndexOutOfBoundsException"
      · have hX := wif_t hX c900
        subst c900
        refine vx_catch hown [] ⟨0, 14, 17, 19⟩ [⟨0, 14, 21, 21⟩, ⟨0, 14, 25, 13⟩] (htab.trans rfl) (fun z hz => absurd hz List.not_mem_nil) rfl (by decide) (hts _ q740) (va_Nw.use rfl (C.2.1.2.2.1 _ q757 rfl)) h1 h2 h3 ?_
        refine sh_astore (lv' := [(6, va_rf (some q9)), (0, va_rf x0), (1, .int x1), (2, .int x2), (3, .int x3), (4, .int x4), (5, va_rf x5)]) hx hb dX0_addRect_17 hl (by decide) (by simp only [List.filter_cons, List.filter_nil, va_rf_cat]; rfl) (fun ls hl => ?_)
        refine lv_iconst (v := 1) hx hb dX0_addRect_19 (by decide) ?_
        exact hret _ _ _ _ _ _ _ _ (k1 := 0) (k2 := 0) dX0_addRect_20 hW hS (by omega) (by omega) hX
      have hX := wif_f hX c900
      by_cases c901 : E = "java/lang/IllegalArgumentException"
      · have hX := wif_t hX c901
        subst c901
        refine vx_catch hown [⟨0, 14, 17, 19⟩] ⟨0, 14, 21, 21⟩ [⟨0, 14, 25, 13⟩] (htab.trans rfl) (by intro z hz; simp only [List.mem_cons, List.not_mem_nil, or_false] at hz; rcases hz with rfl <;> first | (exact Or.inr ⟨by decide, "java/lang/IndexOutOfBoundsException", hts _ q740, C.2.1.2.2.2.2.2.2.1 ("java/lang/IllegalArgumentException", "java/lang/IndexOutOfBoundsException") (by decide)⟩)) rfl (by decide) (hts _ q743) (va_Nw.use rfl (C.2.1.2.2.1 _ q441 rfl)) h1 h2 h3 ?_
        refine sh_astore (lv' := [(6, va_rf (some q9)), (0, va_rf x0), (1, .int x1), (2, .int x2), (3, .int x3), (4, .int x4), (5, va_rf x5)]) hx hb dX0_addRect_21 hl (by decide) (by simp only [List.filter_cons, List.filter_nil, va_rf_cat]; rfl) (fun ls hl => ?_)
        refine lv_iconst (v := 2) hx hb dX0_addRect_23 (by decide) ?_
        exact hret _ _ _ _ _ _ _ _ (k1 := 0) (k2 := 0) dX0_addRect_24 hW hS (by omega) (by omega) hX
      have hX := wif_f hX c901
      by_cases c902 : E = "java/lang/IllegalStateException"
      · have hX := wif_t hX c902
        subst c902
        refine vx_catch hown [⟨0, 14, 17, 19⟩, ⟨0, 14, 21, 21⟩] ⟨0, 14, 25, 13⟩ [] (htab.trans rfl) (by intro z hz; simp only [List.mem_cons, List.not_mem_nil, or_false] at hz; rcases hz with rfl | rfl <;> first | (exact Or.inr ⟨by decide, "java/lang/IndexOutOfBoundsException", hts _ q740, C.2.1.2.2.2.2.2.2.1 ("java/lang/IllegalStateException", "java/lang/IndexOutOfBoundsException") (by decide)⟩) | (exact Or.inr ⟨by decide, "java/lang/IllegalArgumentException", hts _ q743, C.2.1.2.2.2.2.2.2.1 ("java/lang/IllegalStateException", "java/lang/IllegalArgumentException") (by decide)⟩)) rfl (by decide) (hts _ q628) (va_Nw.use rfl (C.2.1.2.2.1 _ q638 rfl)) h1 h2 h3 ?_
        refine sh_astore (lv' := [(6, va_rf (some q9)), (0, va_rf x0), (1, .int x1), (2, .int x2), (3, .int x3), (4, .int x4), (5, va_rf x5)]) hx hb dX0_addRect_25 hl (by decide) (by simp only [List.filter_cons, List.filter_nil, va_rf_cat]; rfl) (fun ls hl => ?_)
        refine lv_iconst (v := 3) hx hb dX0_addRect_27 (by decide) ?_
        exact hret _ _ _ _ _ _ _ _ (k1 := 0) (k2 := 0) dX0_addRect_28 hW hS (by omega) (by omega) hX
      have hX := wif_f hX c902
      exact False.elim hX) (fun r3 G4 H locs h hW hS _ hkc hks => ?_)
  refine lv_i2l hx hb dX0_addRect_12 rfl ?_
  refine sh_last C hW hS h dX0_addRect_13 (fun G7 H locs hW hS h => ?_)
  refine lv_goto (tgt := 29) hx hb dX0_addRect_14 (by decide) ?_
  refine lv_iconst (v := 0) hx hb dX0_addRect_29 (by decide) ?_
  exact hret _ _ _ _ _ _ _ _ dX0_addRect_30 hW hS hkc hks h
theorem ct_X0_addRect (l : Launch) (hfl : l.stackTraces = false) : CT_X0_addRect l 15 266 w_X0_addRect := by
  intro V sz G Q x0 x1 x2 x3 x4 x5 kc ks
  refine gx_ofWH (cc := cX0_addRect) (maxL := 7) (ret := (some .int)) (hh := [(0, 14, 17, 19), (0, 14, 21, 21), (0, 14, 25, 13)]) (by decide) rfl ?_
  intro p e s m args below meth c s₁ B hml htab hv
  obtain ⟨rfl, hsz, hW, hK, hZ, h⟩ := hv
  subst hsz
  have hts := atoms_spec (ws := (wsW_ yX0_addRect cX0_addRect 7 (some .int) [(0, 14, 17, 19), (0, 14, 21, 21), (0, 14, 25, 13)])) B.pre
  have hts : ∀ w ∈ lw_all, w.before _ s = true := fun w h => hts w (List.mem_cons_of_mem _ h)
  have key : ∃ ls : Array Slot, entryFrame m ([va_rf x0, .int x1, .int x2, .int x3, .int x4, va_rf x5] : List Value).toArray 7 = F0 m 0 ls [] ∧ lv_has ls 7 [(0, va_rf x0), (1, .int x1), (2, .int x2), (3, .int x3), (4, .int x4), (5, va_rf x5)] := by
    cases x0 <;> cases x5 <;> (refine ⟨_, by rw [lg_entry_eq], ?_⟩; exact lv_entry _ (Nat.le_of_ble_eq_true rfl))
  obtain ⟨ls, hfr, hl⟩ := key
  rw [hfr]
  exact wk_X0_addRect Q ⟨⟨B.exec, B.bytes, hml, findClass_of_methodNamed B.named, hts⟩, hK, hZ, fun q h => Or.inr h⟩ hfl htab (Nat.le_refl _) (Nat.le_refl _) G (fun v G pc ls H locs cells slots _ _ hd hW1 hS hkc hks hQ => W.widen (k := kc) (n := ks) (Nat.le_trans (Nat.le_add_right _ _) hkc) (Nat.le_trans (Nat.le_add_right _ _) hks) (W.iret (v := v) B.exec B.bytes B.returns (fun t ht _ => ⟨⟨v, G, rfl, hQ, by rw [← ht] at hW1; exact hW1⟩, hS.F ht⟩) hS.2.2 hd)) x0 x1 x2 x3 x4 x5 kc ks h ls _ [] 0 0 hl hW va_S.rf (by show 0 + kc ≤ kc; omega) (by show 0 + ks ≤ ks; omega)
def CT_X9_init (l : Launch) (fr lo : Nat) (w : XV → (GM → Prop) → Nat → Int32 → (Option Nat) → Int32 → GM → Nat → Nat → Prop) : Prop := ∀ (V : XV) (sz : Nat) (G : GM) (Q : GM → Prop) (x0 : Nat) (x1 : Int32) (x2 : Option Nat) (x3 : Int32) (kc ks : Nat), Met l yX9_init (ws_ yX9_init cX9_init 4 none) { frames := fr, cells := kc, slots := ks, locals := lo } (va_Pc [.ref x0, .int x1, va_rf x2, .int x3] (fun U => U.heap.size = sz ∧ xW V (xA G sz) G U.heap ∧ xK V U ∧ xZ V (xA G sz) U U.heap ∧ w V Q x0 x1 x2 x3 G kc ks)) (va_Qv (fun (u : GM) => Q u) (fun u t => xW V (xA G sz) u t.heap) (xA G sz)) kc ks (xA G sz)
theorem call_X9_init_I {p : Program} {l : Launch} {e : Env} {R : Room} {s : State} {m : MethodId} {args : Array Value} {below : List Frame} {meth : Method} {c : Code} {H : Heap} {locs : List Loc} {cells slots : Nat} {Z : State → Prop} {A : Nat → Prop} {cc : ByteArray} {nL pc : Nat} {ls : Array Slot} {rest : List Value} {own : String} {index fr lo : Nat} {w : XV → (GM → Prop) → Nat → Int32 → (Option Nat) → Int32 → GM → Nat → Nat → Prop} {V : XV} {G : GM} {o : Option Nat} {kc ks c1 s1 : Nat} {x0 : Nat} {x1 : Int32} {x2 : Option Nat} {x3 : Int32} (hM : CT_X9_init l fr lo w) (C : xC p m c s args cc nL own V A) (hW : xW V A G H) (hS : va_S A s.heap H locs) (hlink : Cond.methodLink own index yX9_init ∈ lw_all) (ho : o = some x0) (hRf : fr + 1 ≤ R.frames) (hRl : 8 + (4 + 11) + lo ≤ R.locals) (hc1 : c1 ≤ kc) (hs1 : s1 ≤ ks) (hkc : cells + kc ≤ R.cells) (hks : slots + ks ≤ R.slots) (hz : ls.size = nL) (hr8 : (rest.map fun v => v.category).sum ≤ 8) (hdg : decode cc pc = .ok (.invokespecial index, 3)) {Q1 : GM → Prop} (h : w V Q1 x0 x1 x2 x3 G c1 s1) (kk : ∀ (G1 : GM) (H1 : Heap) (locs1 : List Loc), Q1 G1 → xW V A G1 H1 → va_S A s.heap H1 locs1 → xFr V G G1 H H1 → (cells + c1) + (kc - c1) ≤ R.cells → (slots + s1) + (ks - s1) ≤ R.slots → W p l e R s m args below meth c H1 locs1 (cells + c1) (slots + s1) Z (F0 m (pc + 3) ls (rest))) : W p l e R s m args below meth c H locs cells slots Z (F0 m pc ls (.int x3 :: va_rf x2 :: .int x1 :: va_rf o :: rest)) := by
  subst ho
  exact rg_v3w (va_runI (As := [.int x1, va_rf x2, .int x3]) (rest := rest) C.1 (hM V H.size G Q1 x0 x1 x2 x3 c1 s1) (cwI 3 C.1.2.2.2.2 (lw_meth q893) rfl rfl rfl (C.1.2.2.2.2 _ q91) (C.1.2.2.2.2 _ hlink) (C.1.2.2.2.2 _ q892) rfl (by decide +kernel) ⟨hRf, hRl⟩) ⟨fun a U g mk q => by obtain ⟨q0, q1, qW, qK, qZ, qw⟩ := q; exact ⟨q0, q1, qW, xK.same (u := U) (U := U.calling g mk a) rfl qK, xZ.moved (u := U) (U := U.calling g mk a) (Vm.Alike.refl U.vm) qZ, qw⟩, fun U hU hWm => ⟨rfl, by rw [hU], by rw [hU]; exact hW.self _, C.2.1.warm hWm, xZ.call C.2.2.1 hW hS C.2.2.2 hU hWm.alike, h⟩⟩ rfl rfl hz rfl (lv_room hr8) hdg ⟨by omega, by omega⟩) hW hS C.2.2.2 (fun G1 H1 locs1 hp hW1 hS1 hF1 => kk G1 H1 locs1 hp hW1 hS1 hF1 (by omega) (by omega))
def w_X9_init (V : XV) (Q : GM → Prop) (x0 : Nat) (x1 : Int32) (x2 : Option Nat) (x3 : Int32) (G : GM) (kc : Nat) (ks : Nat) : Prop := ∃ c2 s3 : Nat, c2 ≤ kc ∧ s3 ≤ ks ∧ (w_X6_init V (fun G1 => gNw G1 15 3 xdf_J2 (kc - c2) (ks - s3) (fun q4 G5 => w_J2_init V (fun G6 => gPF G6 24 (some x0) (va_rf (some q4)) (fun G7 => Q G7)) q4 G5)) x0 x1 x2 x3 G c2 s3)
set_option maxRecDepth 100000 in
set_option maxHeartbeats 4000000 in
theorem wk_X9_init {p : Program} {l : Launch} {e : Env} {R : Room} {s : State} {m : MethodId} {args : Array Value} {below : List Frame} {meth : Method} {c : Code} {Z : State → Prop} {A : Nat → Prop} {V : XV} (Q : GM → Prop) (C : xC p m c s args cX9_init 4 RX9 V A) (hin : meth.name = "<init>") (hRf : 7 ≤ R.frames) (hRl : 147 ≤ R.locals) (G : GM) (hret : ∀ (G : GM) (pc : Nat) (ls : Array Slot) (H : Heap) (locs : List Loc) (cells slots : Nat) {k1 k2 : Nat}, decode cX9_init pc = .ok (.return_, 1) → xW V A G H → va_S A s.heap H locs → cells + k1 ≤ R.cells → slots + k2 ≤ R.slots → Q G → W p l e R s m args below meth c H locs cells slots Z (F0 m pc ls [])) (x0 : Nat) (x1 : Int32) (x2 : Option Nat) (x3 : Int32) (kc ks : Nat) : w_X9_init V Q x0 x1 x2 x3 G kc ks → ∀ (ls : Array Slot) (H : Heap) (locs : List Loc) (cells slots : Nat), lv_has ls 4 [(0, va_rf (some x0)), (1, .int x1), (2, va_rf x2), (3, .int x3)] → xW V A G H → va_S A s.heap H locs → cells + kc ≤ R.cells → slots + ks ≤ R.slots → W p l e R s m args below meth c H locs cells slots Z (F0 m 0 ls []) := by
  have hx := C.1.1; have hb := C.1.2.1; have hml := C.1.2.2.1; have hown := C.1.2.2.2.1; have hts := C.1.2.2.2.2
  intro h
  intro ls H locs cells slots hl hW hS hkc hks
  refine sh_aload_n hx hb dX9_init_0 rfl (lv_at hl 0 rfl) ?_
  refine lv_iload_n hx hb dX9_init_1 rfl (lv_at hl 1 rfl) ?_
  refine sh_aload_n hx hb dX9_init_2 rfl (lv_at hl 2 rfl) ?_
  refine lv_iload_n hx hb dX9_init_3 rfl (lv_at hl 3 rfl) ?_
  obtain ⟨c2, s3, hc4, hs4, h⟩ := h
  refine call_X6_init_I (ct_X6_init l) C hW hS q894 rfl (le_lit hRf rfl) (le_lit hRl rfl) hc4 hs4 hkc hks hl.1 (Nat.le_of_ble_eq_true rfl) dX9_init_4 h (fun G1 H locs h hW hS _ hkc hks => ?_)
  refine sh_aload_n hx hb dX9_init_7 rfl (lv_at hl 0 rfl) ?_
  refine sh_new C hW hS (ci := 15) rfl (by decide) q895 q113 q62 tyJ2_ok xdf_J2_ok h hkc hks dX9_init_8 (fun q4 G5 H hW hS h hkc hks => ?_)
  refine lv_dup hx hb dX9_init_11 (va_rf_cat _) ?_
  refine call_J2_init_I (ct_J2_init l) C hW hS q896 rfl (le_lit hRf rfl) (le_lit hRl rfl) ⟨Nat.le_trans (Nat.le_add_right _ _) hkc, Nat.le_trans (Nat.le_add_right _ _) hks⟩ hl.1 (Nat.le_of_ble_eq_true rfl) dX9_init_12 h (fun G6 H locs h hW hS _ => ?_)
  refine sh_putF C hW hS xFb_24 q897 (fun _ h => h) hin rfl xFd_24 (rf_nar_o _ _) (rf_fit_o _ _) h dX9_init_15 (fun G7 H locs hW hS h => ?_)
  exact hret _ _ _ _ _ _ _ dX9_init_18 hW hS hkc hks h
theorem ct_X9_init (l : Launch) : CT_X9_init l 7 147 w_X9_init := by
  intro V sz G Q x0 x1 x2 x3 kc ks
  refine Met.ofW (cc := cX9_init) (maxL := 4) (ret := none) (by decide) rfl ?_
  intro p e s m args below meth c s₁ B hml hv
  obtain ⟨rfl, hsz, hW, hK, hZ, h⟩ := hv
  subst hsz
  have hts := atoms_spec (ws := (ws_ yX9_init cX9_init 4 none)) B.pre
  have hts : ∀ w ∈ lw_all, w.before _ s = true := fun w h => hts w (List.mem_cons_of_mem _ h)
  have key : ∃ ls : Array Slot, entryFrame m ([.ref x0, .int x1, va_rf x2, .int x3] : List Value).toArray 4 = F0 m 0 ls [] ∧ lv_has ls 4 [(0, va_rf (some x0)), (1, .int x1), (2, va_rf x2), (3, .int x3)] := by
    cases x2 <;> (refine ⟨_, by rw [lg_entry_eq], ?_⟩; exact lv_entry _ (Nat.le_of_ble_eq_true rfl))
  obtain ⟨ls, hfr, hl⟩ := key
  rw [hfr]
  exact wk_X9_init Q ⟨⟨B.exec, B.bytes, hml, findClass_of_methodNamed B.named, hts⟩, hK, hZ, fun q h => Or.inr h⟩ (name_of_methodNamed B.named B.method).1 (Nat.le_refl _) (Nat.le_refl _) G (fun G pc ls H locs cells slots _ _ hd hW1 hS hkc hks hQ => W.widen (k := kc) (n := ks) (Nat.le_trans (Nat.le_add_right _ _) hkc) (Nat.le_trans (Nat.le_add_right _ _) hks) (W.vret B.exec B.bytes B.returns (fun t ht _ => ⟨⟨G, rfl, hQ, by rw [← ht] at hW1; exact hW1⟩, hS.F ht⟩) hS.2.2 hd)) x0 x1 x2 x3 kc ks h ls _ [] 0 0 hl hW va_S.rf (by show 0 + kc ≤ kc; omega) (by show 0 + ks ≤ ks; omega)
def CT_X1_addStroke (l : Launch) (fr lo : Nat) (w : XV → (Int32 → GM → Prop) → (String → GM → Prop) → Nat → Int32 → Int32 → GM → Nat → Nat → Prop) : Prop := ∀ (V : XV) (sz : Nat) (G : GM) (Q : Int32 → GM → Prop) (X : String → GM → Prop) (x0 : Nat) (x1 : Int32) (x2 : Int32) (kc ks : Nat), vx_Met l yX1_addStroke (ws_ yX1_addStroke cX1_addStroke 4 (some .int)) { frames := fr, cells := kc, slots := ks, locals := lo } (va_Pc [.ref x0, .int x1, .int x2] (fun U => U.heap.size = sz ∧ xW V (xA G sz) G U.heap ∧ xK V U ∧ xZ V (xA G sz) U U.heap ∧ w V Q X x0 x1 x2 G kc ks)) (va_Qi (fun r (u : GM) => Q r u) (fun u t => xW V (xA G sz) u t.heap) (xA G sz)) (vx_X (fun u : String × GM => X u.1 u.2) (fun E u t => E = u.1 ∧ xW V (xA G sz) u.2 t.heap) (xA G sz)) kc ks (xA G sz)
theorem call_X1_addStroke_V {p : Program} {l : Launch} {e : Env} {R : Room} {s : State} {m : MethodId} {args : Array Value} {below : List Frame} {meth : Method} {c : Code} {H : Heap} {locs : List Loc} {cells slots : Nat} {Z : State → Prop} {A : Nat → Prop} {cc : ByteArray} {nL pc : Nat} {ls : Array Slot} {rest : List Value} {own : String} {index fr lo : Nat} {w : XV → (Int32 → GM → Prop) → (String → GM → Prop) → Nat → Int32 → Int32 → GM → Nat → Nat → Prop} {V : XV} {G : GM} {o : Option Nat} {ci : Nat} {kc ks c1 s1 : Nat} {x0 : Nat} {x1 : Int32} {x2 : Int32} (hM : CT_X1_addStroke l fr lo w) (C : xC p m c s args cc nL own V A) (hW : xW V A G H) (hS : va_S A s.heap H locs) (hlink : Cond.methodLink own index yX1_addStroke ∈ lw_all) (ho : o = some x0) (hcv : gCi G (some x0) = some ci) (hci : ci % 64 = 0) (hRf : fr + 1 ≤ R.frames) (hRl : 8 + (4 + 11) + lo ≤ R.locals) (hc1 : c1 ≤ kc) (hs1 : s1 ≤ ks) (hkc : cells + kc ≤ R.cells) (hks : slots + ks ≤ R.slots) (hz : ls.size = nL) (hr8 : (rest.map fun v => v.category).sum ≤ 8) (hdg : decode cc pc = .ok (.invokevirtual index, 3)) {Q1 : Int32 → GM → Prop} {X1 : String → GM → Prop} (h : w V Q1 X1 x0 x1 x2 G c1 s1) (kx : ∀ (E : String) (G1 : GM) (ce : Cell) (q9 : Addr) (H1 : Heap) (locs1 : List Loc), X1 E G1 → xW V A G1 H1 → va_S A s.heap H1 locs1 → H1[q9]? = some ce → ce.vm = .none → s.vm.findClass E = some ce.cls → xFr V G G1 H H1 → vx_W p l e R s m args below meth c H1 locs1 (cells + c1) (slots + s1) Z (F0 m pc ls rest) q9) (kk : ∀ (r : Int32) (G1 : GM) (H1 : Heap) (locs1 : List Loc), Q1 r G1 → xW V A G1 H1 → va_S A s.heap H1 locs1 → xFr V G G1 H H1 → (cells + c1) + (kc - c1) ≤ R.cells → (slots + s1) + (ks - s1) ≤ R.slots → W p l e R s m args below meth c H1 locs1 (cells + c1) (slots + s1) Z (F0 m (pc + 3) ls (.int r :: rest))) : W p l e R s m args below meth c H locs cells slots Z (F0 m pc ls (.int x2 :: .int x1 :: va_rf o :: rest)) := by
  subst ho
  obtain ⟨fs, hG⟩ := gCi_of hcv
  exact rx_i3w (vx_runV (As := [.int x1, .int x2]) (rest := rest) C.1 (hM V H.size G Q1 X1 x0 x1 x2 c1 s1) (cwV 2 C.1.2.2.2.2 (lw_V hlink q886 q887 q59 q888) rfl rfl rfl (by decide +kernel) ⟨hRf, hRl⟩) ⟨fun a U g mk q => by obtain ⟨q0, q1, qW, qK, qZ, qw⟩ := q; exact ⟨q0, q1, qW, xK.same (u := U) (U := U.calling g mk a) rfl qK, xZ.moved (u := U) (U := U.calling g mk a) (Vm.Alike.refl U.vm) qZ, qw⟩, (hW.recv C.2.1 hG (r := (RX1, TX1, 6)) (by rw [hci]; rfl)), fun U hU hWm => ⟨rfl, by rw [hU], by rw [hU]; exact hW.self _, C.2.1.warm hWm, xZ.call C.2.2.1 hW hS C.2.2.2 hU hWm.alike, h⟩⟩ rfl rfl hz rfl (lv_room hr8) hdg ⟨by omega, by omega⟩) hW hS C.2.2.2 kx (fun r G1 H1 locs1 hp hW1 hS1 hF1 => kk r G1 H1 locs1 hp hW1 hS1 hF1 (by omega) (by omega))
def w_X1_addStroke_30 (V : XV) (Q : Int32 → GM → Prop) (X : String → GM → Prop) (x0 : Nat) (x2 : Int32) (x3 : Option Nat) (y0 : Int32) (G : GM) (kc : Nat) (ks : Nat) : Prop := ∃ c1 s2 : Nat, c1 ≤ kc ∧ s2 ≤ ks ∧ (w_X1_checkState V (gNw G 4 11 xdf_X9 (kc - c1) (ks - s2) (fun q3 G4 => gGI G4 2 (some x0) (fun v5 => ∃ c7 s8 : Nat, c7 ≤ ((kc - c1) - 1) ∧ s8 ≤ ((ks - s2) - 11) ∧ (w_X9_init V (fun G6 => gRcv G6 (some x0) (fun a9 c10 => (c10 % 64 = 0) ∧ (∃ c13 s14 : Nat, c13 ≤ (((kc - c1) - 1) - c7) ∧ s14 ≤ (((ks - s2) - 11) - s8) ∧ (w_X1_put V (fun r11 G12 => Q r11 G12) a9 (some q3) G6 c13 s14)))) q3 v5 x3 x2 G4 c7 s8)))) X y0 G c1 s2)
def w_X1_addStroke (V : XV) (Q : Int32 → GM → Prop) (X : String → GM → Prop) (x0 : Nat) (x1 : Int32) (x2 : Int32) (G : GM) (kc : Nat) (ks : Nat) : Prop := gRcv G (some x0) (fun a15 c16 => (c16 % 64 = 0) ∧ (∃ c18 s19 : Nat, c18 ≤ kc ∧ s19 ≤ ks ∧ (w_X1_composition V (fun r17 => w_X1_isBetween V (fun r20 => ∃ c21 s22 : Nat, c21 ≤ (kc - c18) ∧ s22 ≤ (ks - s19) ∧ (w_X1_checkArgument V (gGI G 2 (some x0) (fun v23 => if (12 : Int32) ≤ v23 then (w_X1_addStroke_30 V Q X x0 x2 r17 (0 : Int32) G ((kc - c18) - c21) ((ks - s19) - s22)) else (w_X1_addStroke_30 V Q X x0 x2 r17 (1 : Int32) G ((kc - c18) - c21) ((ks - s19) - s22)))) X r20 G c21 s22)) x2 (1 : Int32) (9 : Int32) G) X a15 x1 G c18 s19)))
set_option maxRecDepth 100000 in
set_option maxHeartbeats 4000000 in
theorem wk_X1_addStroke {p : Program} {l : Launch} {e : Env} {R : Room} {s : State} {m : MethodId} {args : Array Value} {below : List Frame} {meth : Method} {c : Code} {Z : State → Prop} {A : Nat → Prop} {V : XV} (Q : Int32 → GM → Prop) (X : String → GM → Prop) (C : xC p m c s args cX1_addStroke 4 RX1 V A) (hfl : l.stackTraces = false) (hRf : 14 ≤ R.frames) (hRl : 241 ≤ R.locals) (G : GM) (hret : ∀ (v : Int32) (G : GM) (pc : Nat) (ls : Array Slot) (H : Heap) (locs : List Loc) (cells slots : Nat) {k1 k2 : Nat}, decode cX1_addStroke pc = .ok (.ireturn, 1) → xW V A G H → va_S A s.heap H locs → cells + k1 ≤ R.cells → slots + k2 ≤ R.slots → Q v G → W p l e R s m args below meth c H locs cells slots Z (F0 m pc ls [.int v])) (hxo : ∀ (E : String) (G : GM) (ce : Cell) (q : Addr) (pc : Nat) (ls : Array Slot) (H : Heap) (locs : List Loc) (cells slots : Nat) (rest : List Value), xW V A G H → va_S A s.heap H locs → X E G → H[q]? = some ce → ce.vm = .none → s.vm.findClass E = some ce.cls → cells ≤ R.cells → slots ≤ R.slots → vx_W p l e R s m args below meth c H locs cells slots Z (F0 m pc ls rest) q) (x0 : Nat) (x1 : Int32) (x2 : Int32) (kc ks : Nat) : w_X1_addStroke V Q X x0 x1 x2 G kc ks → ∀ (ls : Array Slot) (H : Heap) (locs : List Loc) (cells slots : Nat), lv_has ls 4 [(0, va_rf (some x0)), (1, .int x1), (2, .int x2)] → xW V A G H → va_S A s.heap H locs → cells + kc ≤ R.cells → slots + ks ≤ R.slots → W p l e R s m args below meth c H locs cells slots Z (F0 m 0 ls []) := by
  have hx := C.1.1; have hb := C.1.2.1; have hml := C.1.2.2.1; have hown := C.1.2.2.2.1; have hts := C.1.2.2.2.2
  have hb30 : ∀ (x3 : Option Nat) (y0 : Int32) (G : GM) (kc : Nat) (ks : Nat), w_X1_addStroke_30 V Q X x0 x2 x3 y0 G kc ks → ∀ (ls : Array Slot) (H : Heap) (locs : List Loc) (cells slots : Nat), lv_has ls 4 [(0, va_rf (some x0)), (2, .int x2), (3, va_rf x3)] → xW V A G H → va_S A s.heap H locs → cells + kc ≤ R.cells → slots + ks ≤ R.slots → W p l e R s m args below meth c H locs cells slots Z (F0 m 30 ls [.int y0]) := by
    intro x3 y0 G kc ks h
    intro ls H locs cells slots hl hW hS hkc hks
    obtain ⟨c1, s2, hc30, hs30, h⟩ := h
    refine call_X1_checkState_S (ct_X1_checkState l hfl) C hW hS q633 (le_lit hRf rfl) (le_lit hRl rfl) hc30 hs30 hkc hks hl.1 (Nat.le_of_ble_eq_true rfl) dX1_addStroke_30 h (fun E G9 ce q9 H locs hX hW hS h1 h2 h3 _ => hxo E G9 ce q9 30 ls H locs _ _ _ hW hS hX h1 h2 h3 (by omega) (by omega)) (fun  H locs h hW hS _ hkc hks => ?_)
    refine sh_aload_n hx hb dX1_addStroke_33 rfl (lv_at hl 0 rfl) ?_
    refine sh_new C hW hS (ci := 4) rfl (by decide) q889 q890 q91 tyX9_ok xdf_X9_ok h hkc hks dX1_addStroke_34 (fun q3 G4 H hW hS h hkc hks => ?_)
    refine lv_dup hx hb dX1_addStroke_37 (va_rf_cat _) ?_
    refine sh_aload_n hx hb dX1_addStroke_38 rfl (lv_at hl 0 rfl) ?_
    obtain ⟨v5, h1, h⟩ := h
    refine sh_get C hW xFb_2 q203 (fun _ h => h) h1 dX1_addStroke_39 ?_
    refine sh_aload_n hx hb dX1_addStroke_42 rfl (lv_at hl 2 rfl) ?_
    refine lv_iload_n hx hb dX1_addStroke_43 rfl (lv_at hl 1 rfl) ?_
    obtain ⟨c7, s8, hc44, hs44, h⟩ := h
    refine call_X9_init_I (ct_X9_init l) C hW hS q891 rfl (le_lit hRf rfl) (le_lit hRl rfl) hc44 hs44 hkc hks hl.1 (Nat.le_of_ble_eq_true rfl) dX1_addStroke_44 h (fun G6 H locs h hW hS _ hkc hks => ?_)
    obtain ⟨a9, c10, ho47, hcv47, h⟩ := h
    have hcc := h.1
    have h := h.2
    obtain ⟨c13, s14, hc47, hs47, h⟩ := h
    refine call_X1_put_V (ct_X1_put l) C hW hS q878 ho47 hcv47 hcc (le_lit hRf rfl) (le_lit hRl rfl) hc47 hs47 hkc hks hl.1 (Nat.le_of_ble_eq_true rfl) dX1_addStroke_47 h (fun r11 G12 H locs h hW hS _ hkc hks => ?_)
    exact hret _ _ _ _ _ _ _ _ dX1_addStroke_50 hW hS hkc hks h
  intro h
  intro ls H locs cells slots hl hW hS hkc hks
  refine sh_aload_n hx hb dX1_addStroke_0 rfl (lv_at hl 0 rfl) ?_
  refine lv_iload_n hx hb dX1_addStroke_1 rfl (lv_at hl 1 rfl) ?_
  obtain ⟨a15, c16, ho2, hcv2, h⟩ := h
  have hcc := h.1
  have h := h.2
  obtain ⟨c18, s19, hc2, hs2, h⟩ := h
  refine call_X1_composition_V (ct_X1_composition l hfl) C hW hS q748 ho2 hcv2 hcc (le_lit hRf rfl) (le_lit hRl rfl) hc2 hs2 hkc hks hl.1 (Nat.le_of_ble_eq_true rfl) dX1_addStroke_2 h (fun E G9 ce q9 H locs hX hW hS h1 h2 h3 _ => hxo E G9 ce q9 2 ls H locs _ _ _ hW hS hX h1 h2 h3 (by omega) (by omega)) (fun r17 H locs h hW hS _ hkc hks => ?_)
  refine sh_astore_n (lv' := [(3, va_rf r17), (0, va_rf (some x0)), (1, .int x1), (2, .int x2)]) hx hb dX1_addStroke_5 rfl hl (by decide) rfl (fun ls hl => ?_)
  refine lv_iload_n hx hb dX1_addStroke_6 rfl (lv_at hl 3 rfl) ?_
  refine lv_iconst (v := 1) hx hb dX1_addStroke_7 (by decide) ?_
  refine lv_bipush (v := 9) hx hb dX1_addStroke_8 (by decide) ?_
  refine call_X1_isBetween_S (ct_X1_isBetween l) C hW hS q593 (le_lit hRf rfl) (le_lit hRl rfl) ⟨Nat.le_trans (Nat.le_add_right _ _) hkc, Nat.le_trans (Nat.le_add_right _ _) hks⟩ hl.1 (Nat.le_of_ble_eq_true rfl) dX1_addStroke_10 h (fun r20 H locs h hW hS _ => ?_)
  obtain ⟨c21, s22, hc13, hs13, h⟩ := h
  refine call_X1_checkArgument_S (ct_X1_checkArgument l hfl) C hW hS q787 (le_lit hRf rfl) (le_lit hRl rfl) hc13 hs13 hkc hks hl.1 (Nat.le_of_ble_eq_true rfl) dX1_addStroke_13 h (fun E G9 ce q9 H locs hX hW hS h1 h2 h3 _ => hxo E G9 ce q9 13 ls H locs _ _ _ hW hS hX h1 h2 h3 (by omega) (by omega)) (fun  H locs h hW hS _ hkc hks => ?_)
  refine sh_aload_n hx hb dX1_addStroke_16 rfl (lv_at hl 1 rfl) ?_
  obtain ⟨v23, h1, h⟩ := h
  refine sh_get C hW xFb_2 q203 (fun _ h => h) h1 dX1_addStroke_17 ?_
  refine lv_bipush (v := 12) hx hb dX1_addStroke_20 (by decide) ?_
  refine lv_icmp_ge (tgt := 29) hx hb dX1_addStroke_22 (by decide) (fun c24 => ?_) (fun c24 => ?_)
  · have h := wif_t h c24
    refine lv_iconst (v := 0) hx hb dX1_addStroke_29 (by decide) ?_
    exact hb30 _ _ _ _ _ h ls H locs _ _ (lv_sub hl [1, 3, 0] rfl) hW hS hkc hks
  · have h := wif_f h c24
    refine lv_iconst (v := 1) hx hb dX1_addStroke_25 (by decide) ?_
    refine lv_goto (tgt := 30) hx hb dX1_addStroke_26 (by decide) ?_
    exact hb30 _ _ _ _ _ h ls H locs _ _ (lv_sub hl [1, 3, 0] rfl) hW hS hkc hks
theorem ct_X1_addStroke (l : Launch) (hfl : l.stackTraces = false) : CT_X1_addStroke l 14 241 w_X1_addStroke := by
  intro V sz G Q X x0 x1 x2 kc ks
  refine vx_ofW (cc := cX1_addStroke) (maxL := 4) (ret := (some .int)) (by decide) rfl ?_
  intro p e s m args below meth c s₁ B hml hext hv
  obtain ⟨rfl, hsz, hW, hK, hZ, h⟩ := hv
  subst hsz
  have hts := atoms_spec (ws := (ws_ yX1_addStroke cX1_addStroke 4 (some .int))) B.pre
  have hts : ∀ w ∈ lw_all, w.before _ s = true := fun w h => hts w (List.mem_cons_of_mem _ h)
  have hl := lv_entry ([.ref x0, .int x1, .int x2]) (n := 4) (Nat.le_of_ble_eq_true rfl)
  rw [lg_entry_eq]
  generalize (lg_sl ([.ref x0, .int x1, .int x2]) ++ List.replicate (4 - (lg_sl ([.ref x0, .int x1, .int x2])).length) Slot.unset).toArray = ls at hl ⊢
  exact wk_X1_addStroke Q X ⟨⟨B.exec, B.bytes, hml, findClass_of_methodNamed B.named, hts⟩, hK, hZ, fun q h => Or.inr h⟩ hfl (Nat.le_refl _) (Nat.le_refl _) G (fun v G pc ls H locs cells slots _ _ hd hW1 hS hkc hks hQ => W.widen (k := kc) (n := ks) (Nat.le_trans (Nat.le_add_right _ _) hkc) (Nat.le_trans (Nat.le_add_right _ _) hks) (vx_ret (W.iret (v := v) B.exec B.bytes B.returns (fun t ht _ => ⟨⟨v, G, rfl, hQ, by rw [← ht] at hW1; exact hW1⟩, hS.F ht⟩) hS.2.2 hd))) (fun E G9 ce q pc ls H locs cells slots rest hW1 hS hX h1 h2 h3 hc hs => vx_out (fun x hx => absurd (hext x hx) id) B.notSynchronized h1 h2 h3 (fun t ht _ => ⟨(E, G9), hX, ⟨rfl, by rw [← ht] at hW1; exact hW1⟩, hS.F ht⟩) hS.2.2 hc hs) x0 x1 x2 kc ks h ls _ [] 0 0 hl hW va_S.rf (by show 0 + kc ≤ kc; omega) (by show 0 + ks ≤ ks; omega)
def CT_X0_addStroke (l : Launch) (fr lo : Nat) (w : XV → (Int32 → GM → Prop) → (Option Nat) → Int32 → Int32 → (Option Nat) → GM → Nat → Nat → Prop) : Prop := ∀ (V : XV) (sz : Nat) (G : GM) (Q : Int32 → GM → Prop) (x0 : Option Nat) (x1 : Int32) (x2 : Int32) (x3 : Option Nat) (kc ks : Nat), Met l yX0_addStroke (wsW_ yX0_addStroke cX0_addStroke 5 (some .int) [(0, 10, 13, 19), (0, 10, 17, 21), (0, 10, 21, 13)]) { frames := fr, cells := kc, slots := ks, locals := lo } (va_Pc [va_rf x0, .int x1, .int x2, va_rf x3] (fun U => U.heap.size = sz ∧ xW V (xA G sz) G U.heap ∧ xK V U ∧ xZ V (xA G sz) U U.heap ∧ w V Q x0 x1 x2 x3 G kc ks)) (va_Qi (fun r (u : GM) => Q r u) (fun u t => xW V (xA G sz) u t.heap) (xA G sz)) kc ks (xA G sz)
def w_X0_addStroke (V : XV) (Q : Int32 → GM → Prop) (x0 : Option Nat) (x1 : Int32) (x2 : Int32) (x3 : Option Nat) (G : GM) (kc : Nat) (ks : Nat) : Prop := gRcv G x0 (fun a1 c2 => (c2 % 64 = 0) ∧ (∃ c5 s6 : Nat, c5 ≤ kc ∧ s6 ≤ ks ∧ (w_X1_addStroke V (fun r3 G4 => gJS G4 1 x3 (0 : Int32) (r3.toInt64) (fun G7 => Q (0 : Int32) G7)) (fun E G9 => if E = "java/lang/IndexOutOfBoundsException" then Q (1 : Int32) G9 else (if E = "java/lang/IllegalArgumentException" then Q (2 : Int32) G9 else (if E = "java/lang/IllegalStateException" then Q (3 : Int32) G9 else (False)))) a1 x1 x2 G c5 s6)))
set_option maxRecDepth 100000 in
set_option maxHeartbeats 4000000 in
theorem wk_X0_addStroke {p : Program} {l : Launch} {e : Env} {R : Room} {s : State} {m : MethodId} {args : Array Value} {below : List Frame} {meth : Method} {c : Code} {Z : State → Prop} {A : Nat → Prop} {V : XV} (Q : Int32 → GM → Prop) (C : xC p m c s args cX0_addStroke 5 RX0 V A) (hfl : l.stackTraces = false) (htab : c.exceptionTable.toList = tableOf [(0, 10, 13, 19), (0, 10, 17, 21), (0, 10, 21, 13)]) (hRf : 15 ≤ R.frames) (hRl : 264 ≤ R.locals) (G : GM) (hret : ∀ (v : Int32) (G : GM) (pc : Nat) (ls : Array Slot) (H : Heap) (locs : List Loc) (cells slots : Nat) {k1 k2 : Nat}, decode cX0_addStroke pc = .ok (.ireturn, 1) → xW V A G H → va_S A s.heap H locs → cells + k1 ≤ R.cells → slots + k2 ≤ R.slots → Q v G → W p l e R s m args below meth c H locs cells slots Z (F0 m pc ls [.int v])) (x0 : Option Nat) (x1 : Int32) (x2 : Int32) (x3 : Option Nat) (kc ks : Nat) : w_X0_addStroke V Q x0 x1 x2 x3 G kc ks → ∀ (ls : Array Slot) (H : Heap) (locs : List Loc) (cells slots : Nat), lv_has ls 5 [(0, va_rf x0), (1, .int x1), (2, .int x2), (3, va_rf x3)] → xW V A G H → va_S A s.heap H locs → cells + kc ≤ R.cells → slots + ks ≤ R.slots → W p l e R s m args below meth c H locs cells slots Z (F0 m 0 ls []) := by
  have hx := C.1.1; have hb := C.1.2.1; have hml := C.1.2.2.1; have hown := C.1.2.2.2.1; have hts := C.1.2.2.2.2
  intro h
  intro ls H locs cells slots hl hW hS hkc hks
  refine sh_aload_n hx hb dX0_addStroke_0 rfl (lv_at hl 3 rfl) ?_
  refine lv_iconst (v := 0) hx hb dX0_addStroke_1 (by decide) ?_
  refine sh_aload_n hx hb dX0_addStroke_2 rfl (lv_at hl 0 rfl) ?_
  refine lv_iload_n hx hb dX0_addStroke_3 rfl (lv_at hl 1 rfl) ?_
  refine lv_iload_n hx hb dX0_addStroke_4 rfl (lv_at hl 2 rfl) ?_
  obtain ⟨a1, c2, ho5, hcv5, h⟩ := h
  have hcc := h.1
  have h := h.2
  obtain ⟨c5, s6, hc5, hs5, h⟩ := h
  refine call_X1_addStroke_V (ct_X1_addStroke l hfl) C hW hS q885 ho5 hcv5 hcc (le_lit hRf rfl) (le_lit hRl rfl) hc5 hs5 hkc hks hl.1 (by simp only [List.map_cons, List.map_nil, va_rf_cat]; exact Nat.le_of_ble_eq_true rfl) dX0_addStroke_5 h (fun E G9 ce q9 H locs hX hW hS h1 h2 h3 _ => by
      by_cases c900 : E = "java/lang/IndexOutOfBoundsException"
      · have hX := wif_t hX c900
        subst c900
        refine vx_catch hown [] ⟨0, 10, 13, 19⟩ [⟨0, 10, 17, 21⟩, ⟨0, 10, 21, 13⟩] (htab.trans rfl) (fun z hz => absurd hz List.not_mem_nil) rfl (by decide) (hts _ q740) (va_Nw.use rfl (C.2.1.2.2.1 _ q757 rfl)) h1 h2 h3 ?_
        refine sh_astore (lv' := [(4, va_rf (some q9)), (0, va_rf x0), (1, .int x1), (2, .int x2), (3, va_rf x3)]) hx hb dX0_addStroke_13 hl (by decide) (by simp only [List.filter_cons, List.filter_nil, va_rf_cat]; rfl) (fun ls hl => ?_)
        refine lv_iconst (v := 1) hx hb dX0_addStroke_15 (by decide) ?_
        exact hret _ _ _ _ _ _ _ _ (k1 := 0) (k2 := 0) dX0_addStroke_16 hW hS (by omega) (by omega) hX
      have hX := wif_f hX c900
      by_cases c901 : E = "java/lang/IllegalArgumentException"
      · have hX := wif_t hX c901
        subst c901
        refine vx_catch hown [⟨0, 10, 13, 19⟩] ⟨0, 10, 17, 21⟩ [⟨0, 10, 21, 13⟩] (htab.trans rfl) (by intro z hz; simp only [List.mem_cons, List.not_mem_nil, or_false] at hz; rcases hz with rfl <;> first | (exact Or.inr ⟨by decide, "java/lang/IndexOutOfBoundsException", hts _ q740, C.2.1.2.2.2.2.2.2.1 ("java/lang/IllegalArgumentException", "java/lang/IndexOutOfBoundsException") (by decide)⟩)) rfl (by decide) (hts _ q743) (va_Nw.use rfl (C.2.1.2.2.1 _ q441 rfl)) h1 h2 h3 ?_
        refine sh_astore (lv' := [(4, va_rf (some q9)), (0, va_rf x0), (1, .int x1), (2, .int x2), (3, va_rf x3)]) hx hb dX0_addStroke_17 hl (by decide) (by simp only [List.filter_cons, List.filter_nil, va_rf_cat]; rfl) (fun ls hl => ?_)
        refine lv_iconst (v := 2) hx hb dX0_addStroke_19 (by decide) ?_
        exact hret _ _ _ _ _ _ _ _ (k1 := 0) (k2 := 0) dX0_addStroke_20 hW hS (by omega) (by omega) hX
      have hX := wif_f hX c901
      by_cases c902 : E = "java/lang/IllegalStateException"
      · have hX := wif_t hX c902
        subst c902
        refine vx_catch hown [⟨0, 10, 13, 19⟩, ⟨0, 10, 17, 21⟩] ⟨0, 10, 21, 13⟩ [] (htab.trans rfl) (by intro z hz; simp only [List.mem_cons, List.not_mem_nil, or_false] at hz; rcases hz with rfl | rfl <;> first | (exact Or.inr ⟨by decide, "java/lang/IndexOutOfBoundsException", hts _ q740, C.2.1.2.2.2.2.2.2.1 ("java/lang/IllegalStateException", "java/lang/IndexOutOfBoundsException") (by decide)⟩) | (exact Or.inr ⟨by decide, "java/lang/IllegalArgumentException", hts _ q743, C.2.1.2.2.2.2.2.2.1 ("java/lang/IllegalStateException", "java/lang/IllegalArgumentException") (by decide)⟩)) rfl (by decide) (hts _ q628) (va_Nw.use rfl (C.2.1.2.2.1 _ q638 rfl)) h1 h2 h3 ?_
        refine sh_astore (lv' := [(4, va_rf (some q9)), (0, va_rf x0), (1, .int x1), (2, .int x2), (3, va_rf x3)]) hx hb dX0_addStroke_21 hl (by decide) (by simp only [List.filter_cons, List.filter_nil, va_rf_cat]; rfl) (fun ls hl => ?_)
        refine lv_iconst (v := 3) hx hb dX0_addStroke_23 (by decide) ?_
        exact hret _ _ _ _ _ _ _ _ (k1 := 0) (k2 := 0) dX0_addStroke_24 hW hS (by omega) (by omega) hX
      have hX := wif_f hX c902
      exact False.elim hX) (fun r3 G4 H locs h hW hS _ hkc hks => ?_)
  refine lv_i2l hx hb dX0_addStroke_8 rfl ?_
  refine sh_last C hW hS h dX0_addStroke_9 (fun G7 H locs hW hS h => ?_)
  refine lv_goto (tgt := 25) hx hb dX0_addStroke_10 (by decide) ?_
  refine lv_iconst (v := 0) hx hb dX0_addStroke_25 (by decide) ?_
  exact hret _ _ _ _ _ _ _ _ dX0_addStroke_26 hW hS hkc hks h
theorem ct_X0_addStroke (l : Launch) (hfl : l.stackTraces = false) : CT_X0_addStroke l 15 264 w_X0_addStroke := by
  intro V sz G Q x0 x1 x2 x3 kc ks
  refine gx_ofWH (cc := cX0_addStroke) (maxL := 5) (ret := (some .int)) (hh := [(0, 10, 13, 19), (0, 10, 17, 21), (0, 10, 21, 13)]) (by decide) rfl ?_
  intro p e s m args below meth c s₁ B hml htab hv
  obtain ⟨rfl, hsz, hW, hK, hZ, h⟩ := hv
  subst hsz
  have hts := atoms_spec (ws := (wsW_ yX0_addStroke cX0_addStroke 5 (some .int) [(0, 10, 13, 19), (0, 10, 17, 21), (0, 10, 21, 13)])) B.pre
  have hts : ∀ w ∈ lw_all, w.before _ s = true := fun w h => hts w (List.mem_cons_of_mem _ h)
  have key : ∃ ls : Array Slot, entryFrame m ([va_rf x0, .int x1, .int x2, va_rf x3] : List Value).toArray 5 = F0 m 0 ls [] ∧ lv_has ls 5 [(0, va_rf x0), (1, .int x1), (2, .int x2), (3, va_rf x3)] := by
    cases x0 <;> cases x3 <;> (refine ⟨_, by rw [lg_entry_eq], ?_⟩; exact lv_entry _ (Nat.le_of_ble_eq_true rfl))
  obtain ⟨ls, hfr, hl⟩ := key
  rw [hfr]
  exact wk_X0_addStroke Q ⟨⟨B.exec, B.bytes, hml, findClass_of_methodNamed B.named, hts⟩, hK, hZ, fun q h => Or.inr h⟩ hfl htab (Nat.le_refl _) (Nat.le_refl _) G (fun v G pc ls H locs cells slots _ _ hd hW1 hS hkc hks hQ => W.widen (k := kc) (n := ks) (Nat.le_trans (Nat.le_add_right _ _) hkc) (Nat.le_trans (Nat.le_add_right _ _) hks) (W.iret (v := v) B.exec B.bytes B.returns (fun t ht _ => ⟨⟨v, G, rfl, hQ, by rw [← ht] at hW1; exact hW1⟩, hS.F ht⟩) hS.2.2 hd)) x0 x1 x2 x3 kc ks h ls _ [] 0 0 hl hW va_S.rf (by show 0 + kc ≤ kc; omega) (by show 0 + ks ≤ ks; omega)
