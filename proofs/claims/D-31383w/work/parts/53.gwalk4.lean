def CT_X1_layer (l : Launch) (fr lo : Nat) (w : XV → (Option Nat → Prop) → (String → GM → Prop) → Nat → Int32 → GM → Nat → Nat → Prop) : Prop := ∀ (V : XV) (sz : Nat) (G : GM) (Q : Option Nat → Prop) (X : String → GM → Prop) (x0 : Nat) (x1 : Int32) (kc ks : Nat), vx_Met l yX1_layer (ws_ yX1_layer cX1_layer 2 (some (.object "Shapelayer$Layer"))) { frames := fr, cells := kc, slots := ks, locals := lo } (va_Pc [.ref x0, .int x1] (fun U => U.heap.size = sz ∧ xW V (xA G sz) G U.heap ∧ xK V U ∧ xZ V (xA G sz) U U.heap ∧ w V Q X x0 x1 G kc ks)) (va_Qq (fun r (u : GM) => u = G ∧ Q r) (fun u t => xW V (xA G sz) u t.heap) (xA G sz)) (vx_X (fun u : String × GM => X u.1 u.2) (fun E u t => E = u.1 ∧ xW V (xA G sz) u.2 t.heap) (xA G sz)) kc ks (xA G sz)
theorem call_X1_layer_V {p : Program} {l : Launch} {e : Env} {R : Room} {s : State} {m : MethodId} {args : Array Value} {below : List Frame} {meth : Method} {c : Code} {H : Heap} {locs : List Loc} {cells slots : Nat} {Z : State → Prop} {A : Nat → Prop} {cc : ByteArray} {nL pc : Nat} {ls : Array Slot} {rest : List Value} {own : String} {index fr lo : Nat} {w : XV → (Option Nat → Prop) → (String → GM → Prop) → Nat → Int32 → GM → Nat → Nat → Prop} {V : XV} {G : GM} {o : Option Nat} {ci : Nat} {kc ks c1 s1 : Nat} {x0 : Nat} {x1 : Int32} (hM : CT_X1_layer l fr lo w) (C : xC p m c s args cc nL own V A) (hW : xW V A G H) (hS : va_S A s.heap H locs) (hlink : Cond.methodLink own index yX1_layer ∈ lw_all) (ho : o = some x0) (hcv : gCi G (some x0) = some ci) (hci : ci % 64 = 0) (hRf : fr + 1 ≤ R.frames) (hRl : 8 + (2 + 11) + lo ≤ R.locals) (hc1 : c1 ≤ kc) (hs1 : s1 ≤ ks) (hkc : cells + kc ≤ R.cells) (hks : slots + ks ≤ R.slots) (hz : ls.size = nL) (hr8 : (rest.map fun v => v.category).sum ≤ 8) (hdg : decode cc pc = .ok (.invokevirtual index, 3)) {Q1 : Option Nat → Prop} {X1 : String → GM → Prop} (h : w V Q1 X1 x0 x1 G c1 s1) (kx : ∀ (E : String) (G1 : GM) (ce : Cell) (q9 : Addr) (H1 : Heap) (locs1 : List Loc), X1 E G1 → xW V A G1 H1 → va_S A s.heap H1 locs1 → H1[q9]? = some ce → ce.vm = .none → s.vm.findClass E = some ce.cls → xFr V G G1 H H1 → vx_W p l e R s m args below meth c H1 locs1 (cells + c1) (slots + s1) Z (F0 m pc ls rest) q9) (kk : ∀ (r : Option Nat) (H1 : Heap) (locs1 : List Loc), Q1 r → xW V A G H1 → va_S A s.heap H1 locs1 → xFr V G G H H1 → (cells + c1) + (kc - c1) ≤ R.cells → (slots + s1) + (ks - s1) ≤ R.slots → W p l e R s m args below meth c H1 locs1 (cells + c1) (slots + s1) Z (F0 m (pc + 3) ls (va_rf r :: rest))) : W p l e R s m args below meth c H locs cells slots Z (F0 m pc ls (.int x1 :: va_rf o :: rest)) := by
  subst ho
  obtain ⟨fs, hG⟩ := gCi_of hcv
  exact rx_q3r (vx_runV (As := [.int x1]) (rest := rest) C.1 (hM V H.size G Q1 X1 x0 x1 c1 s1) (cwV 1 C.1.2.2.2.2 (lw_V hlink q923 qs6 q59 q924) rfl rfl rfl (by decide +kernel) ⟨hRf, hRl⟩) ⟨fun a U g mk q => by obtain ⟨q0, q1, qW, qK, qZ, qw⟩ := q; exact ⟨q0, q1, qW, xK.same (u := U) (U := U.calling g mk a) rfl qK, xZ.moved (u := U) (U := U.calling g mk a) (Vm.Alike.refl U.vm) qZ, qw⟩, (hW.recv C.2.1 hG (r := (RX1, TX1, 6)) (by rw [hci]; rfl)), fun U hU hWm => ⟨rfl, by rw [hU], by rw [hU]; exact hW.self _, C.2.1.warm hWm, xZ.call C.2.2.1 hW hS C.2.2.2 hU hWm.alike, h⟩⟩ rfl rfl hz rfl (lv_room hr8) hdg ⟨by omega, by omega⟩) hW hS C.2.2.2 kx (fun r H1 locs1 hp hW1 hS1 hF1 => kk r H1 locs1 hp hW1 hS1 hF1 (by omega) (by omega))
def w_X1_layer_28 (V : XV) (Q : Option Nat → Prop) (X : String → GM → Prop) (x0 : Nat) (x1 : Int32) (y0 : Int32) (G : GM) (kc : Nat) (ks : Nat) : Prop := ∃ c1 s2 : Nat, c1 ≤ kc ∧ s2 ≤ ks ∧ (w_X1_checkIndex V (gGR G 1 (some x0) (fun v3 => gRL G v3 x1 (fun v4 => Q v4))) X y0 G c1 s2)
def w_X1_layer_27 (V : XV) (Q : Option Nat → Prop) (X : String → GM → Prop) (x0 : Nat) (x1 : Int32) (G : GM) (kc : Nat) (ks : Nat) : Prop := w_X1_layer_28 V Q X x0 x1 (0 : Int32) G kc ks
def w_X1_layer (V : XV) (Q : Option Nat → Prop) (X : String → GM → Prop) (x0 : Nat) (x1 : Int32) (G : GM) (kc : Nat) (ks : Nat) : Prop := gGI G 2 (some x0) (fun v5 => w_X1_isBetween V (fun r6 => if r6 = 0 then (w_X1_layer_27 V Q X x0 x1 G kc ks) else (gGR G 1 (some x0) (fun v7 => gRL G v7 x1 (fun v8 => if v8 = none then (w_X1_layer_27 V Q X x0 x1 G kc ks) else (w_X1_layer_28 V Q X x0 x1 (1 : Int32) G kc ks))))) x1 (0 : Int32) (v5 - (1 : Int32)) G)
set_option maxRecDepth 100000 in
set_option maxHeartbeats 4000000 in
theorem wk_X1_layer {p : Program} {l : Launch} {e : Env} {R : Room} {s : State} {m : MethodId} {args : Array Value} {below : List Frame} {meth : Method} {c : Code} {Z : State → Prop} {A : Nat → Prop} {V : XV} (Q : Option Nat → Prop) (X : String → GM → Prop) (C : xC p m c s args cX1_layer 2 RX1 V A) (hfl : l.stackTraces = false) (hRf : 13 ≤ R.frames) (hRl : 220 ≤ R.locals) (G : GM) (hret : ∀ (v : Option Nat) (pc : Nat) (ls : Array Slot) (H : Heap) (locs : List Loc) (cells slots : Nat) {k1 k2 : Nat}, decode cX1_layer pc = .ok (.areturn, 1) → xW V A G H → va_S A s.heap H locs → cells + k1 ≤ R.cells → slots + k2 ≤ R.slots → Q v → W p l e R s m args below meth c H locs cells slots Z (F0 m pc ls [va_rf v])) (hxo : ∀ (E : String) (G : GM) (ce : Cell) (q : Addr) (pc : Nat) (ls : Array Slot) (H : Heap) (locs : List Loc) (cells slots : Nat) (rest : List Value), xW V A G H → va_S A s.heap H locs → X E G → H[q]? = some ce → ce.vm = .none → s.vm.findClass E = some ce.cls → cells ≤ R.cells → slots ≤ R.slots → vx_W p l e R s m args below meth c H locs cells slots Z (F0 m pc ls rest) q) (x0 : Nat) (x1 : Int32) (kc ks : Nat) : w_X1_layer V Q X x0 x1 G kc ks → ∀ (ls : Array Slot) (H : Heap) (locs : List Loc) (cells slots : Nat), lv_has ls 2 [(0, va_rf (some x0)), (1, .int x1)] → xW V A G H → va_S A s.heap H locs → cells + kc ≤ R.cells → slots + ks ≤ R.slots → W p l e R s m args below meth c H locs cells slots Z (F0 m 0 ls []) := by
  have hx := C.1.1; have hb := C.1.2.1; have hml := C.1.2.2.1; have hown := C.1.2.2.2.1; have hts := C.1.2.2.2.2
  have hb28 : ∀ (y0 : Int32) (kc : Nat) (ks : Nat), w_X1_layer_28 V Q X x0 x1 y0 G kc ks → ∀ (ls : Array Slot) (H : Heap) (locs : List Loc) (cells slots : Nat), lv_has ls 2 [(0, va_rf (some x0)), (1, .int x1)] → xW V A G H → va_S A s.heap H locs → cells + kc ≤ R.cells → slots + ks ≤ R.slots → W p l e R s m args below meth c H locs cells slots Z (F0 m 28 ls [.int y0]) := by
    intro y0 kc ks h
    intro ls H locs cells slots hl hW hS hkc hks
    obtain ⟨c1, s2, hc28, hs28, h⟩ := h
    refine call_X1_checkIndex_S (ct_X1_checkIndex l hfl) C hW hS q752 (le_lit hRf rfl) (le_lit hRl rfl) hc28 hs28 hkc hks hl.1 (Nat.le_of_ble_eq_true rfl) dX1_layer_28 h (fun E G9 ce q9 H locs hX hW hS h1 h2 h3 _ => hxo E G9 ce q9 28 ls H locs _ _ _ hW hS hX h1 h2 h3 (by omega) (by omega)) (fun  H locs h hW hS _ hkc hks => ?_)
    refine sh_aload_n hx hb dX1_layer_31 rfl (lv_at hl 0 rfl) ?_
    obtain ⟨v3, h1, h⟩ := h
    refine sh_get C hW xFb_1 q202 (fun _ h => h) h1 dX1_layer_32 ?_
    refine lv_iload_n hx hb dX1_layer_35 rfl (lv_at hl 1 rfl) ?_
    refine sh_aald C hW h dX1_layer_36 (fun v4 h => ?_)
    exact hret _ _ _ _ _ _ _ dX1_layer_37 hW hS hkc hks h
  have hb27 : ∀ (kc : Nat) (ks : Nat), w_X1_layer_27 V Q X x0 x1 G kc ks → ∀ (ls : Array Slot) (H : Heap) (locs : List Loc) (cells slots : Nat), lv_has ls 2 [(0, va_rf (some x0)), (1, .int x1)] → xW V A G H → va_S A s.heap H locs → cells + kc ≤ R.cells → slots + ks ≤ R.slots → W p l e R s m args below meth c H locs cells slots Z (F0 m 27 ls []) := by
    intro kc ks h
    intro ls H locs cells slots hl hW hS hkc hks
    refine lv_iconst (v := 0) hx hb dX1_layer_27 (by decide) ?_
    exact hb28 _ _ _ h ls H locs _ _ (lv_sub hl [0, 1] rfl) hW hS hkc hks
  intro h
  intro ls H locs cells slots hl hW hS hkc hks
  refine lv_iload_n hx hb dX1_layer_0 rfl (lv_at hl 1 rfl) ?_
  refine lv_iconst (v := 0) hx hb dX1_layer_1 (by decide) ?_
  refine sh_aload_n hx hb dX1_layer_2 rfl (lv_at hl 0 rfl) ?_
  obtain ⟨v5, h1, h⟩ := h
  refine sh_get C hW xFb_2 q203 (fun _ h => h) h1 dX1_layer_3 ?_
  refine lv_iconst (v := 1) hx hb dX1_layer_6 (by decide) ?_
  refine lv_isub hx hb dX1_layer_7 ?_
  refine call_X1_isBetween_S (ct_X1_isBetween l) C hW hS q593 (le_lit hRf rfl) (le_lit hRl rfl) ⟨Nat.le_trans (Nat.le_add_right _ _) hkc, Nat.le_trans (Nat.le_add_right _ _) hks⟩ hl.1 (Nat.le_of_ble_eq_true rfl) dX1_layer_8 h (fun r6 H locs h hW hS _ => ?_)
  refine lv_if_eq (tgt := 27) hx hb dX1_layer_11 (by decide) (fun c10 => ?_) (fun c10 => ?_)
  · have h := wif_t h c10
    exact hb27 _ _ h ls H locs _ _ (lv_sub hl [0, 1] rfl) hW hS hkc hks
  · have h := wif_f h c10
    refine sh_aload_n hx hb dX1_layer_14 rfl (lv_at hl 0 rfl) ?_
    obtain ⟨v7, h1, h⟩ := h
    refine sh_get C hW xFb_1 q202 (fun _ h => h) h1 dX1_layer_15 ?_
    refine lv_iload_n hx hb dX1_layer_18 rfl (lv_at hl 1 rfl) ?_
    refine sh_aald C hW h dX1_layer_19 (fun v8 h => ?_)
    refine sh_ifnull (tgt := 27) hx hb dX1_layer_20 (by decide) (fun c9 => ?_) (fun c9 => ?_)
    · have h := wif_t h c9
      exact hb27 _ _ h ls H locs _ _ (lv_sub hl [0, 1] rfl) hW hS hkc hks
    · have h := wif_f h c9
      refine lv_iconst (v := 1) hx hb dX1_layer_23 (by decide) ?_
      refine lv_goto (tgt := 28) hx hb dX1_layer_24 (by decide) ?_
      exact hb28 _ _ _ h ls H locs _ _ (lv_sub hl [0, 1] rfl) hW hS hkc hks
theorem ct_X1_layer (l : Launch) (hfl : l.stackTraces = false) : CT_X1_layer l 13 220 w_X1_layer := by
  intro V sz G Q X x0 x1 kc ks
  refine vx_ofW (cc := cX1_layer) (maxL := 2) (ret := (some (.object "Shapelayer$Layer"))) (by decide) rfl ?_
  intro p e s m args below meth c s₁ B hml hext hv
  obtain ⟨rfl, hsz, hW, hK, hZ, h⟩ := hv
  subst hsz
  have hts := atoms_spec (ws := (ws_ yX1_layer cX1_layer 2 (some (.object "Shapelayer$Layer")))) B.pre
  have hts : ∀ w ∈ lw_all, w.before _ s = true := fun w h => hts w (List.mem_cons_of_mem _ h)
  have hl := lv_entry ([.ref x0, .int x1]) (n := 2) (Nat.le_of_ble_eq_true rfl)
  rw [lg_entry_eq]
  generalize (lg_sl ([.ref x0, .int x1]) ++ List.replicate (2 - (lg_sl ([.ref x0, .int x1])).length) Slot.unset).toArray = ls at hl ⊢
  exact wk_X1_layer Q X ⟨⟨B.exec, B.bytes, hml, findClass_of_methodNamed B.named, hts⟩, hK, hZ, fun q h => Or.inr h⟩ hfl (Nat.le_refl _) (Nat.le_refl _) G (fun v pc ls H locs cells slots _ _ hd hW1 hS hkc hks hQ => W.widen (k := kc) (n := ks) (Nat.le_trans (Nat.le_add_right _ _) hkc) (Nat.le_trans (Nat.le_add_right _ _) hks) (vx_ret (W.aret (v := va_rf v) B.exec B.bytes B.returns (Or.inl ⟨_, rfl⟩) (va_rf_or v) (fun t ht _ => ⟨⟨v, G, rfl, ⟨rfl, hQ⟩, by rw [← ht] at hW1; exact hW1⟩, hS.F ht⟩) hS.2.2 hd))) (fun E G9 ce q pc ls H locs cells slots rest hW1 hS hX h1 h2 h3 hc hs => vx_out (fun x hx => absurd (hext x hx) id) B.notSynchronized h1 h2 h3 (fun t ht _ => ⟨(E, G9), hX, ⟨rfl, by rw [← ht] at hW1; exact hW1⟩, hS.F ht⟩) hS.2.2 hc hs) x0 x1 kc ks h ls _ [] 0 0 hl hW va_S.rf (by show 0 + kc ≤ kc; omega) (by show 0 + ks ≤ ks; omega)
def CT_X9_lengthOf (l : Launch) (fr lo : Nat) (w : XV → (Int64 → Prop) → Nat → Int32 → GM → Prop) : Prop := ∀ (V : XV) (sz : Nat) (G : GM) (Q : Int64 → Prop) (x0 : Nat) (x1 : Int32), Met l yX9_lengthOf (ws_ yX9_lengthOf cX9_lengthOf 4 (some .long)) { frames := fr, cells := 0, slots := 0, locals := lo } (va_Pc [.ref x0, .int x1] (fun U => U.heap.size = sz ∧ xW V (xA G sz) G U.heap ∧ xK V U ∧ xZ V (xA G sz) U U.heap ∧ w V Q x0 x1 G)) (va_Ql (fun r (u : GM) => u = G ∧ Q r) (fun u t => xW V (xA G sz) u t.heap) (xA G sz)) 0 0 (xA G sz)
theorem call_X9_lengthOf_V {p : Program} {l : Launch} {e : Env} {R : Room} {s : State} {m : MethodId} {args : Array Value} {below : List Frame} {meth : Method} {c : Code} {H : Heap} {locs : List Loc} {cells slots : Nat} {Z : State → Prop} {A : Nat → Prop} {cc : ByteArray} {nL pc : Nat} {ls : Array Slot} {rest : List Value} {own : String} {index fr lo : Nat} {w : XV → (Int64 → Prop) → Nat → Int32 → GM → Prop} {V : XV} {G : GM} {o : Option Nat} {ci : Nat} {x0 : Nat} {x1 : Int32} (hM : CT_X9_lengthOf l fr lo w) (C : xC p m c s args cc nL own V A) (hW : xW V A G H) (hS : va_S A s.heap H locs) (hlink : Cond.methodLink own index yX9_lengthOf ∈ lw_all) (ho : o = some x0) (hcv : gCi G (some x0) = some ci) (hci : ci % 64 = 4) (hRf : fr + 1 ≤ R.frames) (hRl : 8 + (4 + 11) + lo ≤ R.locals) (hcs : cells ≤ R.cells ∧ slots ≤ R.slots) (hz : ls.size = nL) (hr8 : (rest.map fun v => v.category).sum ≤ 8) (hdg : decode cc pc = .ok (.invokevirtual index, 3)) {Q1 : Int64 → Prop} (h : w V Q1 x0 x1 G) (kk : ∀ (r : Int64) (H1 : Heap) (locs1 : List Loc), Q1 r → xW V A G H1 → va_S A s.heap H1 locs1 → xFr V G G H H1 → W p l e R s m args below meth c H1 locs1 cells slots Z (F0 m (pc + 3) ls (.long r :: rest))) : W p l e R s m args below meth c H locs cells slots Z (F0 m pc ls (.int x1 :: va_rf o :: rest)) := by
  subst ho
  obtain ⟨fs, hG⟩ := gCi_of hcv
  exact rg_l3r (va_runV (As := [.int x1]) (rest := rest) C.1 (hM V H.size G Q1 x0 x1) (cwV 1 C.1.2.2.2.2 (lw_V hlink q945 qs7 q91 q946) rfl rfl rfl (by decide +kernel) ⟨hRf, hRl⟩) ⟨fun a U g mk q => by obtain ⟨q0, q1, qW, qK, qZ, qw⟩ := q; exact ⟨q0, q1, qW, xK.same (u := U) (U := U.calling g mk a) rfl qK, xZ.moved (u := U) (U := U.calling g mk a) (Vm.Alike.refl U.vm) qZ, qw⟩, (hW.recv C.2.1 hG (r := (RX9, TX9, 11)) (by rw [hci]; rfl)), fun U hU hWm => ⟨rfl, by rw [hU], by rw [hU]; exact hW.self _, C.2.1.warm hWm, xZ.call C.2.2.1 hW hS C.2.2.2 hU hWm.alike, h⟩⟩ rfl rfl hz rfl (lv_room hr8) hdg hcs) hW hS C.2.2.2 (fun r H1 locs1 hp hW1 hS1 hF1 => kk r H1 locs1 hp hW1 hS1 hF1)
def w_X9_lengthOf (V : XV) (Q : Int64 → Prop) (x0 : Nat) (x1 : Int32) (G : GM) : Prop := gGR G 24 (some x0) (fun v1 => gRcv G v1 (fun a2 c3 => (c3 % 64 = 15) ∧ (w_J2_get V (fun r4 => gCkA G 0 r4 (gGR G 24 (some x0) (fun v5 => gRcv G v5 (fun a6 c7 => (c7 % 64 = 15) ∧ (w_J2_get V (fun r8 => gCkA G 0 r8 (gIL G 0 r8 (0 : Int32) (fun v9 => gIL G 0 r4 (0 : Int32) (fun v10 => w_J13_abs (fun r11 => gIL G 0 r8 (1 : Int32) (fun v12 => gIL G 0 r4 (1 : Int32) (fun v13 => w_J13_abs (fun r14 => Q ((1000 : Int64) * ((r11 + r14).toInt64))) (v12 - v13)))) (v9 - v10))))) a6 x1 G))))) a2 (x1 - (1 : Int32)) G)))
set_option maxRecDepth 100000 in
set_option maxHeartbeats 4000000 in
theorem wk_X9_lengthOf {p : Program} {l : Launch} {e : Env} {R : Room} {s : State} {m : MethodId} {args : Array Value} {below : List Frame} {meth : Method} {c : Code} {cells slots : Nat} {Z : State → Prop} {A : Nat → Prop} {V : XV} (Q : Int64 → Prop) (C : xC p m c s args cX9_lengthOf 4 RX9 V A) (hRf : 4 ≤ R.frames) (hRl : 84 ≤ R.locals) (hcs : cells ≤ R.cells ∧ slots ≤ R.slots) (G : GM) (hret : ∀ (v : Int64) (pc : Nat) (ls : Array Slot) (H : Heap) (locs : List Loc), decode cX9_lengthOf pc = .ok (.lreturn, 1) → xW V A G H → va_S A s.heap H locs → Q v → W p l e R s m args below meth c H locs cells slots Z (F0 m pc ls [.long v])) (x0 : Nat) (x1 : Int32) : w_X9_lengthOf V Q x0 x1 G → ∀ (ls : Array Slot) (H : Heap) (locs : List Loc), lv_has ls 4 [(0, va_rf (some x0)), (1, .int x1)] → xW V A G H → va_S A s.heap H locs → W p l e R s m args below meth c H locs cells slots Z (F0 m 0 ls []) := by
  have hx := C.1.1; have hb := C.1.2.1; have hml := C.1.2.2.1; have hown := C.1.2.2.2.1; have hts := C.1.2.2.2.2
  intro h
  intro ls H locs hl hW hS
  refine sh_aload_n hx hb dX9_lengthOf_0 rfl (lv_at hl 0 rfl) ?_
  obtain ⟨v1, h1, h⟩ := h
  refine sh_get C hW xFb_24 q897 (fun _ h => h) h1 dX9_lengthOf_1 ?_
  refine lv_iload_n hx hb dX9_lengthOf_4 rfl (lv_at hl 1 rfl) ?_
  refine lv_iconst (v := 1) hx hb dX9_lengthOf_5 (by decide) ?_
  refine lv_isub hx hb dX9_lengthOf_6 ?_
  obtain ⟨a2, c3, ho7, hcv7, h⟩ := h
  have hcc := h.1
  have h := h.2
  refine call_J2_get_F15_List (ct_J2_get l) C hW hS q948 ho7 hcv7 hcc (le_lit hRf rfl) (le_lit hRl rfl) hcs hl.1 (Nat.le_of_ble_eq_true rfl) dX9_lengthOf_7 h (fun r4 H locs h hW hS _ => ?_)
  refine sh_castA C hW (t := 0) (by decide) q949 (by have := (C.2.1.2.1 0 (by decide)).2; exact this) h dX9_lengthOf_12 (fun h => ?_)
  refine sh_astore_n (lv' := [(2, va_rf r4), (0, va_rf (some x0)), (1, .int x1)]) hx hb dX9_lengthOf_15 rfl hl (by decide) rfl (fun ls hl => ?_)
  refine sh_aload_n hx hb dX9_lengthOf_16 rfl (lv_at hl 1 rfl) ?_
  obtain ⟨v5, h1, h⟩ := h
  refine sh_get C hW xFb_24 q897 (fun _ h => h) h1 dX9_lengthOf_17 ?_
  refine lv_iload_n hx hb dX9_lengthOf_20 rfl (lv_at hl 2 rfl) ?_
  obtain ⟨a6, c7, ho21, hcv21, h⟩ := h
  have hcc := h.1
  have h := h.2
  refine call_J2_get_F15_List (ct_J2_get l) C hW hS q948 ho21 hcv21 hcc (le_lit hRf rfl) (le_lit hRl rfl) hcs hl.1 (Nat.le_of_ble_eq_true rfl) dX9_lengthOf_21 h (fun r8 H locs h hW hS _ => ?_)
  refine sh_castA C hW (t := 0) (by decide) q949 (by have := (C.2.1.2.1 0 (by decide)).2; exact this) h dX9_lengthOf_26 (fun h => ?_)
  refine sh_astore_n (lv' := [(3, va_rf r8), (2, va_rf r4), (0, va_rf (some x0)), (1, .int x1)]) hx hb dX9_lengthOf_29 rfl hl (by decide) (by simp only [List.filter_cons, List.filter_nil, va_rf_cat]; rfl) (fun ls hl => ?_)
  refine lv_ldc2 hx hb hown (hts _ q950) dX9_lengthOf_30 ?_
  refine sh_aload_n hx hb dX9_lengthOf_33 rfl (lv_at hl 0 rfl) ?_
  refine lv_iconst (v := 0) hx hb dX9_lengthOf_34 (by decide) ?_
  refine sh_iald C hW h dX9_lengthOf_35 (fun v9 h => ?_)
  refine sh_aload_n hx hb dX9_lengthOf_36 rfl (lv_at hl 1 rfl) ?_
  refine lv_iconst (v := 0) hx hb dX9_lengthOf_37 (by decide) ?_
  refine sh_iald C hW h dX9_lengthOf_38 (fun v10 h => ?_)
  refine lv_isub hx hb dX9_lengthOf_39 ?_
  refine call_J13_abs (ct_J13_abs l) C.1 hS C.2.2.2 q951 (le_lit hRf rfl) (le_lit hRl rfl) hcs hl.1 (Nat.le_of_ble_eq_true rfl) dX9_lengthOf_40 h (fun r11 H locs h hk hS => ?_)
  have hW := hW.kept hk
  refine sh_aload_n hx hb dX9_lengthOf_43 rfl (lv_at hl 0 rfl) ?_
  refine lv_iconst (v := 1) hx hb dX9_lengthOf_44 (by decide) ?_
  refine sh_iald C hW h dX9_lengthOf_45 (fun v12 h => ?_)
  refine sh_aload_n hx hb dX9_lengthOf_46 rfl (lv_at hl 1 rfl) ?_
  refine lv_iconst (v := 1) hx hb dX9_lengthOf_47 (by decide) ?_
  refine sh_iald C hW h dX9_lengthOf_48 (fun v13 h => ?_)
  refine lv_isub hx hb dX9_lengthOf_49 ?_
  refine call_J13_abs (ct_J13_abs l) C.1 hS C.2.2.2 q951 (le_lit hRf rfl) (le_lit hRl rfl) hcs hl.1 (Nat.le_of_ble_eq_true rfl) dX9_lengthOf_50 h (fun r14 H locs h hk hS => ?_)
  have hW := hW.kept hk
  refine lv_iadd hx hb dX9_lengthOf_53 ?_
  refine lv_i2l hx hb dX9_lengthOf_54 rfl ?_
  refine lv_lmul hx hb dX9_lengthOf_55 ?_
  exact hret _ _ _ _ _ dX9_lengthOf_56 hW hS h
theorem ct_X9_lengthOf (l : Launch) : CT_X9_lengthOf l 4 84 w_X9_lengthOf := by
  intro V sz G Q x0 x1
  refine Met.ofW (cc := cX9_lengthOf) (maxL := 4) (ret := (some .long)) (by decide) rfl ?_
  intro p e s m args below meth c s₁ B hml hv
  obtain ⟨rfl, hsz, hW, hK, hZ, h⟩ := hv
  subst hsz
  have hts := atoms_spec (ws := (ws_ yX9_lengthOf cX9_lengthOf 4 (some .long))) B.pre
  have hts : ∀ w ∈ lw_all, w.before _ s = true := fun w h => hts w (List.mem_cons_of_mem _ h)
  have hl := lv_entry ([.ref x0, .int x1]) (n := 4) (Nat.le_of_ble_eq_true rfl)
  rw [lg_entry_eq]
  generalize (lg_sl ([.ref x0, .int x1]) ++ List.replicate (4 - (lg_sl ([.ref x0, .int x1])).length) Slot.unset).toArray = ls at hl ⊢
  exact wk_X9_lengthOf Q ⟨⟨B.exec, B.bytes, hml, findClass_of_methodNamed B.named, hts⟩, hK, hZ, fun q h => Or.inr h⟩ (Nat.le_refl _) (Nat.le_refl _) ⟨Nat.le_refl _, Nat.le_refl _⟩ G (fun v pc ls H locs hd hW1 hS hQ => W.lret (v := v) B.exec B.bytes B.returns (fun t ht _ => ⟨⟨v, G, rfl, ⟨rfl, hQ⟩, by rw [← ht] at hW1; exact hW1⟩, hS.F ht⟩) hS.2.2 hd) x0 x1 h ls _ [] hl hW va_S.rf
def CT_X9_add (l : Launch) (fr lo : Nat) (w : XV → (Int32 → GM → Prop) → Nat → Int32 → Int32 → GM → Nat → Nat → Prop) : Prop := ∀ (V : XV) (sz : Nat) (G : GM) (Q : Int32 → GM → Prop) (x0 : Nat) (x1 : Int32) (x2 : Int32) (kc ks : Nat), Met l yX9_add (ws_ yX9_add cX9_add 3 (some .int)) { frames := fr, cells := kc, slots := ks, locals := lo } (va_Pc [.ref x0, .int x1, .int x2] (fun U => U.heap.size = sz ∧ xW V (xA G sz) G U.heap ∧ xK V U ∧ xZ V (xA G sz) U U.heap ∧ w V Q x0 x1 x2 G kc ks)) (va_Qi (fun r (u : GM) => Q r u) (fun u t => xW V (xA G sz) u t.heap) (xA G sz)) kc ks (xA G sz)
theorem call_X9_add_V {p : Program} {l : Launch} {e : Env} {R : Room} {s : State} {m : MethodId} {args : Array Value} {below : List Frame} {meth : Method} {c : Code} {H : Heap} {locs : List Loc} {cells slots : Nat} {Z : State → Prop} {A : Nat → Prop} {cc : ByteArray} {nL pc : Nat} {ls : Array Slot} {rest : List Value} {own : String} {index fr lo : Nat} {w : XV → (Int32 → GM → Prop) → Nat → Int32 → Int32 → GM → Nat → Nat → Prop} {V : XV} {G : GM} {o : Option Nat} {ci : Nat} {kc ks c1 s1 : Nat} {x0 : Nat} {x1 : Int32} {x2 : Int32} (hM : CT_X9_add l fr lo w) (C : xC p m c s args cc nL own V A) (hW : xW V A G H) (hS : va_S A s.heap H locs) (hlink : Cond.methodLink own index yX9_add ∈ lw_all) (ho : o = some x0) (hcv : gCi G (some x0) = some ci) (hci : ci % 64 = 4) (hRf : fr + 1 ≤ R.frames) (hRl : 8 + (3 + 11) + lo ≤ R.locals) (hc1 : c1 ≤ kc) (hs1 : s1 ≤ ks) (hkc : cells + kc ≤ R.cells) (hks : slots + ks ≤ R.slots) (hz : ls.size = nL) (hr8 : (rest.map fun v => v.category).sum ≤ 8) (hdg : decode cc pc = .ok (.invokevirtual index, 3)) {Q1 : Int32 → GM → Prop} (h : w V Q1 x0 x1 x2 G c1 s1) (kk : ∀ (r : Int32) (G1 : GM) (H1 : Heap) (locs1 : List Loc), Q1 r G1 → xW V A G1 H1 → va_S A s.heap H1 locs1 → xFr V G G1 H H1 → (cells + c1) + (kc - c1) ≤ R.cells → (slots + s1) + (ks - s1) ≤ R.slots → W p l e R s m args below meth c H1 locs1 (cells + c1) (slots + s1) Z (F0 m (pc + 3) ls (.int r :: rest))) : W p l e R s m args below meth c H locs cells slots Z (F0 m pc ls (.int x2 :: .int x1 :: va_rf o :: rest)) := by
  subst ho
  obtain ⟨fs, hG⟩ := gCi_of hcv
  exact rg_i3w (va_runV (As := [.int x1, .int x2]) (rest := rest) C.1 (hM V H.size G Q1 x0 x1 x2 c1 s1) (cwV 2 C.1.2.2.2.2 (lw_V hlink q936 q937 q91 q938) rfl rfl rfl (by decide +kernel) ⟨hRf, hRl⟩) ⟨fun a U g mk q => by obtain ⟨q0, q1, qW, qK, qZ, qw⟩ := q; exact ⟨q0, q1, qW, xK.same (u := U) (U := U.calling g mk a) rfl qK, xZ.moved (u := U) (U := U.calling g mk a) (Vm.Alike.refl U.vm) qZ, qw⟩, (hW.recv C.2.1 hG (r := (RX9, TX9, 11)) (by rw [hci]; rfl)), fun U hU hWm => ⟨rfl, by rw [hU], by rw [hU]; exact hW.self _, C.2.1.warm hWm, xZ.call C.2.2.1 hW hS C.2.2.2 hU hWm.alike, h⟩⟩ rfl rfl hz rfl (lv_room hr8) hdg ⟨by omega, by omega⟩) hW hS C.2.2.2 (fun r G1 H1 locs1 hp hW1 hS1 hF1 => kk r G1 H1 locs1 hp hW1 hS1 hF1 (by omega) (by omega))
def w_X9_add (V : XV) (Q : Int32 → GM → Prop) (x0 : Nat) (x1 : Int32) (x2 : Int32) (G : GM) (kc : Nat) (ks : Nat) : Prop := gGR G 24 (some x0) (fun v1 => gNa G 0 (fun N => (N, .inl (fun _ => 0))) (2 : Int32) kc ks (fun q2 n3 G4 => gIS G4 0 (some q2) (0 : Int32) x1 (fun G5 => gIS G5 0 (some q2) (1 : Int32) x2 (fun G6 => gRcv G6 v1 (fun a7 c8 => (c8 % 64 = 15) ∧ (∃ c11 s12 : Nat, c11 ≤ (kc - 1) ∧ s12 ≤ (ks - n3) ∧ (w_J2_add V (fun r9 G10 => gGR G10 24 (some x0) (fun v13 => gRcv G10 v13 (fun a14 c15 => (c15 % 64 = 15) ∧ (w_J2_size V (fun r16 => if r16 ≤ (1 : Int32) then (gGR G10 24 (some x0) (fun v17 => gRcv G10 v17 (fun a18 c19 => (c19 % 64 = 15) ∧ (w_J2_size V (fun r20 => Q r20 G10) a18 G10)))) else (gGJ G10 25 (some x0) (fun v21 => gGR G10 24 (some x0) (fun v22 => gRcv G10 v22 (fun a23 c24 => (c24 % 64 = 15) ∧ (w_J2_size V (fun r25 => gRcv G10 (some x0) (fun a26 c27 => (c27 % 64 = 4) ∧ (w_X9_lengthOf V (fun r28 => gPF G10 25 (some x0) (.long (v21 + r28)) (fun G29 => gGR G29 24 (some x0) (fun v30 => gRcv G29 v30 (fun a31 c32 => (c32 % 64 = 15) ∧ (w_J2_size V (fun r33 => Q r33 G29) a31 G29))))) a26 (r25 - (1 : Int32)) G10))) a23 G10)))))) a14 G10)))) a7 (some q2) G6 c11 s12)))))))
set_option maxRecDepth 100000 in
set_option maxHeartbeats 4000000 in
theorem wk_X9_add {p : Program} {l : Launch} {e : Env} {R : Room} {s : State} {m : MethodId} {args : Array Value} {below : List Frame} {meth : Method} {c : Code} {Z : State → Prop} {A : Nat → Prop} {V : XV} (Q : Int32 → GM → Prop) (C : xC p m c s args cX9_add 3 RX9 V A) (hRf : 7 ≤ R.frames) (hRl : 191 ≤ R.locals) (G : GM) (hret : ∀ (v : Int32) (G : GM) (pc : Nat) (ls : Array Slot) (H : Heap) (locs : List Loc) (cells slots : Nat) {k1 k2 : Nat}, decode cX9_add pc = .ok (.ireturn, 1) → xW V A G H → va_S A s.heap H locs → cells + k1 ≤ R.cells → slots + k2 ≤ R.slots → Q v G → W p l e R s m args below meth c H locs cells slots Z (F0 m pc ls [.int v])) (x0 : Nat) (x1 : Int32) (x2 : Int32) (kc ks : Nat) : w_X9_add V Q x0 x1 x2 G kc ks → ∀ (ls : Array Slot) (H : Heap) (locs : List Loc) (cells slots : Nat), lv_has ls 3 [(0, va_rf (some x0)), (1, .int x1), (2, .int x2)] → xW V A G H → va_S A s.heap H locs → cells + kc ≤ R.cells → slots + ks ≤ R.slots → W p l e R s m args below meth c H locs cells slots Z (F0 m 0 ls []) := by
  have hx := C.1.1; have hb := C.1.2.1; have hml := C.1.2.2.1; have hown := C.1.2.2.2.1; have hts := C.1.2.2.2.2
  intro h
  intro ls H locs cells slots hl hW hS hkc hks
  refine sh_aload_n hx hb dX9_add_0 rfl (lv_at hl 0 rfl) ?_
  obtain ⟨v1, h1, h⟩ := h
  refine sh_get C hW xFb_24 q897 (fun _ h => h) h1 dX9_add_1 ?_
  refine lv_iconst (v := 2) hx hb dX9_add_4 (by decide) ?_
  refine sh_newa C hW hS (atype := .int) (t := 0) rfl (by decide) q827 (fun _ _ => rfl) (by decide) h hkc hks dX9_add_5 (fun q2 n3 G4 H hW hS h hN hkc hks => ?_)
  refine lv_dup hx hb dX9_add_7 (va_rf_cat _) ?_
  refine lv_iconst (v := 0) hx hb dX9_add_8 (by decide) ?_
  refine lv_iload_n hx hb dX9_add_9 rfl (lv_at hl 1 rfl) ?_
  refine sh_iast C hW hS h dX9_add_10 (fun G5 H locs hW hS h => ?_)
  refine lv_dup hx hb dX9_add_11 (va_rf_cat _) ?_
  refine lv_iconst (v := 1) hx hb dX9_add_12 (by decide) ?_
  refine lv_iload_n hx hb dX9_add_13 rfl (lv_at hl 2 rfl) ?_
  refine sh_iast C hW hS h dX9_add_14 (fun G6 H locs hW hS h => ?_)
  obtain ⟨a7, c8, ho15, hcv15, h⟩ := h
  have hcc := h.1
  have h := h.2
  obtain ⟨c11, s12, hc15, hs15, h⟩ := h
  refine call_J2_add_F15_List (ct_J2_add l) C hW hS q940 ho15 hcv15 hcc (le_lit hRf rfl) (le_lit hRl rfl) hc15 hs15 hkc hks hl.1 (Nat.le_of_ble_eq_true rfl) dX9_add_15 h (fun r9 G10 H locs h hW hS _ hkc hks => ?_)
  refine lv_pop hx hb dX9_add_20 rfl ?_
  refine sh_aload_n hx hb dX9_add_21 rfl (lv_at hl 0 rfl) ?_
  obtain ⟨v13, h1, h⟩ := h
  refine sh_get C hW xFb_24 q897 (fun _ h => h) h1 dX9_add_22 ?_
  obtain ⟨a14, c15, ho25, hcv25, h⟩ := h
  have hcc := h.1
  have h := h.2
  refine call_J2_size_F15_List (ct_J2_size l) C hW hS q942 ho25 hcv25 hcc (le_lit hRf rfl) (le_lit hRl rfl) ⟨Nat.le_trans (Nat.le_add_right _ _) hkc, Nat.le_trans (Nat.le_add_right _ _) hks⟩ hl.1 (Nat.le_of_ble_eq_true rfl) dX9_add_25 h (fun r16 H locs h hW hS _ => ?_)
  refine lv_iconst (v := 1) hx hb dX9_add_30 (by decide) ?_
  refine lv_icmp_le (tgt := 58) hx hb dX9_add_31 (by decide) (fun c34 => ?_) (fun c34 => ?_)
  · have h := wif_t h c34
    refine sh_aload_n hx hb dX9_add_58 rfl (lv_at hl 0 rfl) ?_
    obtain ⟨v17, h1, h⟩ := h
    refine sh_get C hW xFb_24 q897 (fun _ h => h) h1 dX9_add_59 ?_
    obtain ⟨a18, c19, ho62, hcv62, h⟩ := h
    have hcc := h.1
    have h := h.2
    refine call_J2_size_F15_List (ct_J2_size l) C hW hS q942 ho62 hcv62 hcc (le_lit hRf rfl) (le_lit hRl rfl) ⟨Nat.le_trans (Nat.le_add_right _ _) hkc, Nat.le_trans (Nat.le_add_right _ _) hks⟩ hl.1 (Nat.le_of_ble_eq_true rfl) dX9_add_62 h (fun r20 H locs h hW hS _ => ?_)
    exact hret _ _ _ _ _ _ _ _ dX9_add_67 hW hS hkc hks h
  · have h := wif_f h c34
    refine sh_aload_n hx hb dX9_add_34 rfl (lv_at hl 0 rfl) ?_
    refine lv_dup hx hb dX9_add_35 (va_rf_cat _) ?_
    obtain ⟨v21, h1, h⟩ := h
    refine sh_get C hW xFb_25 q899 (fun _ h => h) h1 dX9_add_36 ?_
    refine sh_aload_n hx hb dX9_add_39 rfl (lv_at hl 0 rfl) ?_
    refine sh_aload_n hx hb dX9_add_40 rfl (lv_at hl 0 rfl) ?_
    obtain ⟨v22, h1, h⟩ := h
    refine sh_get C hW xFb_24 q897 (fun _ h => h) h1 dX9_add_41 ?_
    obtain ⟨a23, c24, ho44, hcv44, h⟩ := h
    have hcc := h.1
    have h := h.2
    refine call_J2_size_F15_List (ct_J2_size l) C hW hS q942 ho44 hcv44 hcc (le_lit hRf rfl) (le_lit hRl rfl) ⟨Nat.le_trans (Nat.le_add_right _ _) hkc, Nat.le_trans (Nat.le_add_right _ _) hks⟩ hl.1 (Nat.le_of_ble_eq_true rfl) dX9_add_44 h (fun r25 H locs h hW hS _ => ?_)
    refine lv_iconst (v := 1) hx hb dX9_add_49 (by decide) ?_
    refine lv_isub hx hb dX9_add_50 ?_
    obtain ⟨a26, c27, ho51, hcv51, h⟩ := h
    have hcc := h.1
    have h := h.2
    refine call_X9_lengthOf_V (ct_X9_lengthOf l) C hW hS q943 ho51 hcv51 hcc (le_lit hRf rfl) (le_lit hRl rfl) ⟨Nat.le_trans (Nat.le_add_right _ _) hkc, Nat.le_trans (Nat.le_add_right _ _) hks⟩ hl.1 (Nat.le_of_ble_eq_true rfl) dX9_add_51 h (fun r28 H locs h hW hS _ => ?_)
    refine lv_ladd hx hb dX9_add_54 ?_
    refine sh_put C hW hS xFb_25 q899 (fun _ h => h) xFd_25 rfl rfl h dX9_add_55 (fun G29 H locs hW hS h => ?_)
    refine sh_aload_n hx hb dX9_add_58 rfl (lv_at hl 0 rfl) ?_
    obtain ⟨v30, h1, h⟩ := h
    refine sh_get C hW xFb_24 q897 (fun _ h => h) h1 dX9_add_59 ?_
    obtain ⟨a31, c32, ho62, hcv62, h⟩ := h
    have hcc := h.1
    have h := h.2
    refine call_J2_size_F15_List (ct_J2_size l) C hW hS q942 ho62 hcv62 hcc (le_lit hRf rfl) (le_lit hRl rfl) ⟨Nat.le_trans (Nat.le_add_right _ _) hkc, Nat.le_trans (Nat.le_add_right _ _) hks⟩ hl.1 (Nat.le_of_ble_eq_true rfl) dX9_add_62 h (fun r33 H locs h hW hS _ => ?_)
    exact hret _ _ _ _ _ _ _ _ dX9_add_67 hW hS hkc hks h
theorem ct_X9_add (l : Launch) : CT_X9_add l 7 191 w_X9_add := by
  intro V sz G Q x0 x1 x2 kc ks
  refine Met.ofW (cc := cX9_add) (maxL := 3) (ret := (some .int)) (by decide) rfl ?_
  intro p e s m args below meth c s₁ B hml hv
  obtain ⟨rfl, hsz, hW, hK, hZ, h⟩ := hv
  subst hsz
  have hts := atoms_spec (ws := (ws_ yX9_add cX9_add 3 (some .int))) B.pre
  have hts : ∀ w ∈ lw_all, w.before _ s = true := fun w h => hts w (List.mem_cons_of_mem _ h)
  have hl := lv_entry ([.ref x0, .int x1, .int x2]) (n := 3) (Nat.le_of_ble_eq_true rfl)
  rw [lg_entry_eq]
  generalize (lg_sl ([.ref x0, .int x1, .int x2]) ++ List.replicate (3 - (lg_sl ([.ref x0, .int x1, .int x2])).length) Slot.unset).toArray = ls at hl ⊢
  exact wk_X9_add Q ⟨⟨B.exec, B.bytes, hml, findClass_of_methodNamed B.named, hts⟩, hK, hZ, fun q h => Or.inr h⟩ (Nat.le_refl _) (Nat.le_refl _) G (fun v G pc ls H locs cells slots _ _ hd hW1 hS hkc hks hQ => W.widen (k := kc) (n := ks) (Nat.le_trans (Nat.le_add_right _ _) hkc) (Nat.le_trans (Nat.le_add_right _ _) hks) (W.iret (v := v) B.exec B.bytes B.returns (fun t ht _ => ⟨⟨v, G, rfl, hQ, by rw [← ht] at hW1; exact hW1⟩, hS.F ht⟩) hS.2.2 hd)) x0 x1 x2 kc ks h ls _ [] 0 0 hl hW va_S.rf (by show 0 + kc ≤ kc; omega) (by show 0 + ks ≤ ks; omega)
def CT_X1_addPoint (l : Launch) (fr lo : Nat) (w : XV → (Int32 → GM → Prop) → (String → GM → Prop) → Nat → Int32 → Int32 → Int32 → GM → Nat → Nat → Prop) : Prop := ∀ (V : XV) (sz : Nat) (G : GM) (Q : Int32 → GM → Prop) (X : String → GM → Prop) (x0 : Nat) (x1 : Int32) (x2 : Int32) (x3 : Int32) (kc ks : Nat), vx_Met l yX1_addPoint (ws_ yX1_addPoint cX1_addPoint 7 (some .int)) { frames := fr, cells := kc, slots := ks, locals := lo } (va_Pc [.ref x0, .int x1, .int x2, .int x3] (fun U => U.heap.size = sz ∧ xW V (xA G sz) G U.heap ∧ xK V U ∧ xZ V (xA G sz) U U.heap ∧ w V Q X x0 x1 x2 x3 G kc ks)) (va_Qi (fun r (u : GM) => Q r u) (fun u t => xW V (xA G sz) u t.heap) (xA G sz)) (vx_X (fun u : String × GM => X u.1 u.2) (fun E u t => E = u.1 ∧ xW V (xA G sz) u.2 t.heap) (xA G sz)) kc ks (xA G sz)
theorem call_X1_addPoint_V {p : Program} {l : Launch} {e : Env} {R : Room} {s : State} {m : MethodId} {args : Array Value} {below : List Frame} {meth : Method} {c : Code} {H : Heap} {locs : List Loc} {cells slots : Nat} {Z : State → Prop} {A : Nat → Prop} {cc : ByteArray} {nL pc : Nat} {ls : Array Slot} {rest : List Value} {own : String} {index fr lo : Nat} {w : XV → (Int32 → GM → Prop) → (String → GM → Prop) → Nat → Int32 → Int32 → Int32 → GM → Nat → Nat → Prop} {V : XV} {G : GM} {o : Option Nat} {ci : Nat} {kc ks c1 s1 : Nat} {x0 : Nat} {x1 : Int32} {x2 : Int32} {x3 : Int32} (hM : CT_X1_addPoint l fr lo w) (C : xC p m c s args cc nL own V A) (hW : xW V A G H) (hS : va_S A s.heap H locs) (hlink : Cond.methodLink own index yX1_addPoint ∈ lw_all) (ho : o = some x0) (hcv : gCi G (some x0) = some ci) (hci : ci % 64 = 0) (hRf : fr + 1 ≤ R.frames) (hRl : 8 + (7 + 11) + lo ≤ R.locals) (hc1 : c1 ≤ kc) (hs1 : s1 ≤ ks) (hkc : cells + kc ≤ R.cells) (hks : slots + ks ≤ R.slots) (hz : ls.size = nL) (hr8 : (rest.map fun v => v.category).sum ≤ 8) (hdg : decode cc pc = .ok (.invokevirtual index, 3)) {Q1 : Int32 → GM → Prop} {X1 : String → GM → Prop} (h : w V Q1 X1 x0 x1 x2 x3 G c1 s1) (kx : ∀ (E : String) (G1 : GM) (ce : Cell) (q9 : Addr) (H1 : Heap) (locs1 : List Loc), X1 E G1 → xW V A G1 H1 → va_S A s.heap H1 locs1 → H1[q9]? = some ce → ce.vm = .none → s.vm.findClass E = some ce.cls → xFr V G G1 H H1 → vx_W p l e R s m args below meth c H1 locs1 (cells + c1) (slots + s1) Z (F0 m pc ls rest) q9) (kk : ∀ (r : Int32) (G1 : GM) (H1 : Heap) (locs1 : List Loc), Q1 r G1 → xW V A G1 H1 → va_S A s.heap H1 locs1 → xFr V G G1 H H1 → (cells + c1) + (kc - c1) ≤ R.cells → (slots + s1) + (ks - s1) ≤ R.slots → W p l e R s m args below meth c H1 locs1 (cells + c1) (slots + s1) Z (F0 m (pc + 3) ls (.int r :: rest))) : W p l e R s m args below meth c H locs cells slots Z (F0 m pc ls (.int x3 :: .int x2 :: .int x1 :: va_rf o :: rest)) := by
  subst ho
  obtain ⟨fs, hG⟩ := gCi_of hcv
  exact rx_i3w (vx_runV (As := [.int x1, .int x2, .int x3]) (rest := rest) C.1 (hM V H.size G Q1 X1 x0 x1 x2 x3 c1 s1) (cwV 3 C.1.2.2.2.2 (lw_V hlink q918 q919 q59 q920) rfl rfl rfl (by decide +kernel) ⟨hRf, hRl⟩) ⟨fun a U g mk q => by obtain ⟨q0, q1, qW, qK, qZ, qw⟩ := q; exact ⟨q0, q1, qW, xK.same (u := U) (U := U.calling g mk a) rfl qK, xZ.moved (u := U) (U := U.calling g mk a) (Vm.Alike.refl U.vm) qZ, qw⟩, (hW.recv C.2.1 hG (r := (RX1, TX1, 6)) (by rw [hci]; rfl)), fun U hU hWm => ⟨rfl, by rw [hU], by rw [hU]; exact hW.self _, C.2.1.warm hWm, xZ.call C.2.2.1 hW hS C.2.2.2 hU hWm.alike, h⟩⟩ rfl rfl hz rfl (lv_room hr8) hdg ⟨by omega, by omega⟩) hW hS C.2.2.2 kx (fun r G1 H1 locs1 hp hW1 hS1 hF1 => kk r G1 H1 locs1 hp hW1 hS1 hF1 (by omega) (by omega))
def w_X1_addPoint_143 (V : XV) (Q : Int32 → GM → Prop) (X : String → GM → Prop) (x0 : Nat) (x2 : Int32) (x3 : Int32) (x4 : Option Nat) (G : GM) (kc : Nat) (ks : Nat) : Prop := gGR G 3 (some x0) (fun v1 => gRcv G v1 (fun a2 c3 => (c3 % 64 = 15) ∧ (w_J2_clear V (fun G4 => gCk G4 [4] x4 (gRcv G4 x4 (fun a5 c6 => (c6 % 64 = 4) ∧ (∃ c9 s10 : Nat, c9 ≤ kc ∧ s10 ≤ ks ∧ (w_X9_add V (fun r7 G8 => Q r7 G8) a5 x2 x3 G4 c9 s10))))) a2 G)))
def w_X1_addPoint_140 (V : XV) (Q : Int32 → GM → Prop) (X : String → GM → Prop) (x0 : Nat) (x2 : Int32) (x3 : Int32) (x4 : Option Nat) (y0 : Int32) (G : GM) (kc : Nat) (ks : Nat) : Prop := ∃ c11 s12 : Nat, c11 ≤ kc ∧ s12 ≤ ks ∧ (w_X1_checkState V (w_X1_addPoint_143 V Q X x0 x2 x3 x4 G (kc - c11) (ks - s12)) X y0 G c11 s12)
def w_X1_addPoint_132 (V : XV) (Q : Int32 → GM → Prop) (X : String → GM → Prop) (x0 : Nat) (x2 : Int32) (x3 : Int32) (x4 : Option Nat) (y0 : Int32) (y1 : Int32) (G : GM) (kc : Nat) (ks : Nat) : Prop := if y1 = y0 then (w_X1_addPoint_140 V Q X x0 x2 x3 x4 (0 : Int32) G kc ks) else (w_X1_addPoint_140 V Q X x0 x2 x3 x4 (1 : Int32) G kc ks)
def w_X1_addPoint_119 (V : XV) (Q : Int32 → GM → Prop) (X : String → GM → Prop) (x0 : Nat) (x2 : Int32) (x3 : Int32) (x4 : Option Nat) (x6 : Option Nat) (y0 : Int32) (G : GM) (kc : Nat) (ks : Nat) : Prop := gIL G 0 x6 (1 : Int32) (fun v14 => if v14 = x3 then (w_X1_addPoint_132 V Q X x0 x2 x3 x4 (1 : Int32) y0 G kc ks) else (w_X1_addPoint_132 V Q X x0 x2 x3 x4 (0 : Int32) y0 G kc ks))
def w_X1_addPoint_72 (V : XV) (Q : Int32 → GM → Prop) (X : String → GM → Prop) (x0 : Nat) (x2 : Int32) (x3 : Int32) (x4 : Option Nat) (x5 : Option Nat) (y0 : Int32) (G : GM) (kc : Nat) (ks : Nat) : Prop := ∃ c16 s17 : Nat, c16 ≤ kc ∧ s17 ≤ ks ∧ (w_X1_checkState V (gRcv G x5 (fun a18 c19 => (c19 % 64 = 15) ∧ (w_J2_isEmpty V (fun r20 => if r20 = 0 then (gRcv G x5 (fun a21 c22 => (c22 % 64 = 15) ∧ (w_J2_size V (fun r23 => gRcv G x5 (fun a24 c25 => (c25 % 64 = 15) ∧ (w_J2_get V (fun r26 => gCkA G 0 r26 (gIL G 0 r26 (0 : Int32) (fun v27 => if v27 = x2 then (w_X1_addPoint_119 V Q X x0 x2 x3 x4 r26 (1 : Int32) G (kc - c16) (ks - s17)) else (w_X1_addPoint_119 V Q X x0 x2 x3 x4 r26 (0 : Int32) G (kc - c16) (ks - s17))))) a24 (r23 - (1 : Int32)) G))) a21 G))) else (w_X1_addPoint_143 V Q X x0 x2 x3 x4 G (kc - c16) (ks - s17))) a18 G))) X y0 G c16 s17)
def w_X1_addPoint_34 (V : XV) (Q : Int32 → GM → Prop) (X : String → GM → Prop) (x0 : Nat) (x2 : Int32) (x3 : Int32) (x4 : Option Nat) (y0 : Int32) (G : GM) (kc : Nat) (ks : Nat) : Prop := ∃ c30 s31 : Nat, c30 ≤ kc ∧ s31 ≤ ks ∧ (w_X1_checkArgument V (gIo G [4] [3, 5, 6] x4 (fun v32 => ∃ c33 s34 : Nat, c33 ≤ (kc - c30) ∧ s34 ≤ (ks - s31) ∧ (w_X1_checkState V (gCk G [4] x4 (gGR G 24 x4 (fun v35 => gRcv G v35 (fun a36 c37 => (c37 % 64 = 15) ∧ (w_J2_size V (fun r38 => if (6 : Int32) ≤ r38 then (w_X1_addPoint_72 V Q X x0 x2 x3 x4 v35 (0 : Int32) G ((kc - c30) - c33) ((ks - s31) - s34)) else (w_X1_addPoint_72 V Q X x0 x2 x3 x4 v35 (1 : Int32) G ((kc - c30) - c33) ((ks - s31) - s34))) a36 G))))) X v32 G c33 s34))) X y0 G c30 s31)
def w_X1_addPoint_33 (V : XV) (Q : Int32 → GM → Prop) (X : String → GM → Prop) (x0 : Nat) (x2 : Int32) (x3 : Int32) (x4 : Option Nat) (G : GM) (kc : Nat) (ks : Nat) : Prop := w_X1_addPoint_34 V Q X x0 x2 x3 x4 (0 : Int32) G kc ks
def w_X1_addPoint (V : XV) (Q : Int32 → GM → Prop) (X : String → GM → Prop) (x0 : Nat) (x1 : Int32) (x2 : Int32) (x3 : Int32) (G : GM) (kc : Nat) (ks : Nat) : Prop := gRcv G (some x0) (fun a40 c41 => (c41 % 64 = 0) ∧ (∃ c43 s44 : Nat, c43 ≤ kc ∧ s44 ≤ ks ∧ (w_X1_layer V (fun r42 => w_X1_isBetween V (fun r45 => if r45 = 0 then (w_X1_addPoint_33 V Q X x0 x2 x3 r42 G (kc - c43) (ks - s44)) else (w_X1_isBetween V (fun r46 => if r46 = 0 then (w_X1_addPoint_33 V Q X x0 x2 x3 r42 G (kc - c43) (ks - s44)) else (w_X1_addPoint_34 V Q X x0 x2 x3 r42 (1 : Int32) G (kc - c43) (ks - s44))) x3 (-20 : Int32) (40 : Int32) G)) x2 (-20 : Int32) (40 : Int32) G) X a40 x1 G c43 s44)))
set_option maxRecDepth 100000 in
set_option maxHeartbeats 4000000 in
theorem wk_X1_addPoint {p : Program} {l : Launch} {e : Env} {R : Room} {s : State} {m : MethodId} {args : Array Value} {below : List Frame} {meth : Method} {c : Code} {Z : State → Prop} {A : Nat → Prop} {V : XV} (Q : Int32 → GM → Prop) (X : String → GM → Prop) (C : xC p m c s args cX1_addPoint 7 RX1 V A) (hfl : l.stackTraces = false) (hRf : 14 ≤ R.frames) (hRl : 241 ≤ R.locals) (G : GM) (hret : ∀ (v : Int32) (G : GM) (pc : Nat) (ls : Array Slot) (H : Heap) (locs : List Loc) (cells slots : Nat) {k1 k2 : Nat}, decode cX1_addPoint pc = .ok (.ireturn, 1) → xW V A G H → va_S A s.heap H locs → cells + k1 ≤ R.cells → slots + k2 ≤ R.slots → Q v G → W p l e R s m args below meth c H locs cells slots Z (F0 m pc ls [.int v])) (hxo : ∀ (E : String) (G : GM) (ce : Cell) (q : Addr) (pc : Nat) (ls : Array Slot) (H : Heap) (locs : List Loc) (cells slots : Nat) (rest : List Value), xW V A G H → va_S A s.heap H locs → X E G → H[q]? = some ce → ce.vm = .none → s.vm.findClass E = some ce.cls → cells ≤ R.cells → slots ≤ R.slots → vx_W p l e R s m args below meth c H locs cells slots Z (F0 m pc ls rest) q) (x0 : Nat) (x1 : Int32) (x2 : Int32) (x3 : Int32) (kc ks : Nat) : w_X1_addPoint V Q X x0 x1 x2 x3 G kc ks → ∀ (ls : Array Slot) (H : Heap) (locs : List Loc) (cells slots : Nat), lv_has ls 7 [(0, va_rf (some x0)), (1, .int x1), (2, .int x2), (3, .int x3)] → xW V A G H → va_S A s.heap H locs → cells + kc ≤ R.cells → slots + ks ≤ R.slots → W p l e R s m args below meth c H locs cells slots Z (F0 m 0 ls []) := by
  have hx := C.1.1; have hb := C.1.2.1; have hml := C.1.2.2.1; have hown := C.1.2.2.2.1; have hts := C.1.2.2.2.2
  have hb143 : ∀ (x4 : Option Nat) (G : GM) (kc : Nat) (ks : Nat), w_X1_addPoint_143 V Q X x0 x2 x3 x4 G kc ks → ∀ (ls : Array Slot) (H : Heap) (locs : List Loc) (cells slots : Nat), lv_has ls 7 [(0, va_rf (some x0)), (2, .int x2), (3, .int x3), (4, va_rf x4)] → xW V A G H → va_S A s.heap H locs → cells + kc ≤ R.cells → slots + ks ≤ R.slots → W p l e R s m args below meth c H locs cells slots Z (F0 m 143 ls []) := by
    intro x4 G kc ks h
    intro ls H locs cells slots hl hW hS hkc hks
    refine sh_aload_n hx hb dX1_addPoint_143 rfl (lv_at hl 0 rfl) ?_
    obtain ⟨v1, h1, h⟩ := h
    refine sh_get C hW xFb_3 q204 (fun _ h => h) h1 dX1_addPoint_144 ?_
    obtain ⟨a2, c3, ho147, hcv147, h⟩ := h
    have hcc := h.1
    have h := h.2
    refine call_J2_clear_F15_List (ct_J2_clear l) C hW hS q235 ho147 hcv147 hcc (le_lit hRf rfl) (le_lit hRl rfl) ⟨Nat.le_trans (Nat.le_add_right _ _) hkc, Nat.le_trans (Nat.le_add_right _ _) hks⟩ hl.1 (Nat.le_of_ble_eq_true rfl) dX1_addPoint_147 h (fun G4 H locs h hW hS _ => ?_)
    refine sh_aload hx hb dX1_addPoint_152 (lv_at hl 3 rfl) ?_
    refine sh_cast C hW q889 xCa_Shapelayer_Stroke h dX1_addPoint_154 (fun h => ?_)
    refine lv_iload_n hx hb dX1_addPoint_157 rfl (lv_at hl 1 rfl) ?_
    refine lv_iload_n hx hb dX1_addPoint_158 rfl (lv_at hl 2 rfl) ?_
    obtain ⟨a5, c6, ho159, hcv159, h⟩ := h
    have hcc := h.1
    have h := h.2
    obtain ⟨c9, s10, hc159, hs159, h⟩ := h
    refine call_X9_add_V (ct_X9_add l) C hW hS q935 ho159 hcv159 hcc (le_lit hRf rfl) (le_lit hRl rfl) hc159 hs159 hkc hks hl.1 (Nat.le_of_ble_eq_true rfl) dX1_addPoint_159 h (fun r7 G8 H locs h hW hS _ hkc hks => ?_)
    exact hret _ _ _ _ _ _ _ _ dX1_addPoint_162 hW hS hkc hks h
  have hb140 : ∀ (x4 : Option Nat) (y0 : Int32) (G : GM) (kc : Nat) (ks : Nat), w_X1_addPoint_140 V Q X x0 x2 x3 x4 y0 G kc ks → ∀ (ls : Array Slot) (H : Heap) (locs : List Loc) (cells slots : Nat), lv_has ls 7 [(0, va_rf (some x0)), (2, .int x2), (3, .int x3), (4, va_rf x4)] → xW V A G H → va_S A s.heap H locs → cells + kc ≤ R.cells → slots + ks ≤ R.slots → W p l e R s m args below meth c H locs cells slots Z (F0 m 140 ls [.int y0]) := by
    intro x4 y0 G kc ks h
    intro ls H locs cells slots hl hW hS hkc hks
    obtain ⟨c11, s12, hc140, hs140, h⟩ := h
    refine call_X1_checkState_S (ct_X1_checkState l hfl) C hW hS q633 (le_lit hRf rfl) (le_lit hRl rfl) hc140 hs140 hkc hks hl.1 (Nat.le_of_ble_eq_true rfl) dX1_addPoint_140 h (fun E G9 ce q9 H locs hX hW hS h1 h2 h3 _ => hxo E G9 ce q9 140 ls H locs _ _ _ hW hS hX h1 h2 h3 (by omega) (by omega)) (fun  H locs h hW hS _ hkc hks => ?_)
    exact hb143 _ _ _ _ h ls H locs _ _ (lv_sub hl [0, 1, 2, 3] rfl) hW hS hkc hks
  have hb132 : ∀ (x4 : Option Nat) (y0 : Int32) (y1 : Int32) (G : GM) (kc : Nat) (ks : Nat), w_X1_addPoint_132 V Q X x0 x2 x3 x4 y0 y1 G kc ks → ∀ (ls : Array Slot) (H : Heap) (locs : List Loc) (cells slots : Nat), lv_has ls 7 [(0, va_rf (some x0)), (2, .int x2), (3, .int x3), (4, va_rf x4)] → xW V A G H → va_S A s.heap H locs → cells + kc ≤ R.cells → slots + ks ≤ R.slots → W p l e R s m args below meth c H locs cells slots Z (F0 m 132 ls [.int y0, .int y1]) := by
    intro x4 y0 y1 G kc ks h
    intro ls H locs cells slots hl hW hS hkc hks
    refine lv_icmp_eq (tgt := 139) hx hb dX1_addPoint_132 (by decide) (fun c13 => ?_) (fun c13 => ?_)
    · have h := wif_t h c13
      refine lv_iconst (v := 0) hx hb dX1_addPoint_139 (by decide) ?_
      exact hb140 _ _ _ _ _ h ls H locs _ _ (lv_sub hl [0, 1, 2, 3] rfl) hW hS hkc hks
    · have h := wif_f h c13
      refine lv_iconst (v := 1) hx hb dX1_addPoint_135 (by decide) ?_
      refine lv_goto (tgt := 140) hx hb dX1_addPoint_136 (by decide) ?_
      exact hb140 _ _ _ _ _ h ls H locs _ _ (lv_sub hl [0, 1, 2, 3] rfl) hW hS hkc hks
  have hb119 : ∀ (x4 : Option Nat) (x6 : Option Nat) (y0 : Int32) (G : GM) (kc : Nat) (ks : Nat), w_X1_addPoint_119 V Q X x0 x2 x3 x4 x6 y0 G kc ks → ∀ (ls : Array Slot) (H : Heap) (locs : List Loc) (cells slots : Nat), lv_has ls 7 [(0, va_rf (some x0)), (2, .int x2), (3, .int x3), (4, va_rf x4), (6, va_rf x6)] → xW V A G H → va_S A s.heap H locs → cells + kc ≤ R.cells → slots + ks ≤ R.slots → W p l e R s m args below meth c H locs cells slots Z (F0 m 119 ls [.int y0]) := by
    intro x4 x6 y0 G kc ks h
    intro ls H locs cells slots hl hW hS hkc hks
    refine sh_aload hx hb dX1_addPoint_119 (lv_at hl 4 rfl) ?_
    refine lv_iconst (v := 1) hx hb dX1_addPoint_121 (by decide) ?_
    refine sh_iald C hW h dX1_addPoint_122 (fun v14 h => ?_)
    refine lv_iload_n hx hb dX1_addPoint_123 rfl (lv_at hl 2 rfl) ?_
    refine lv_icmp_ne (tgt := 131) hx hb dX1_addPoint_124 (by decide) (fun c15 => ?_) (fun c15 => ?_)
    · have h := wif_f h c15
      refine lv_iconst (v := 0) hx hb dX1_addPoint_131 (by decide) ?_
      exact hb132 _ _ _ _ _ _ h ls H locs _ _ (lv_sub hl [0, 1, 2, 3] rfl) hW hS hkc hks
    · have h := wif_t h c15
      refine lv_iconst (v := 1) hx hb dX1_addPoint_127 (by decide) ?_
      refine lv_goto (tgt := 132) hx hb dX1_addPoint_128 (by decide) ?_
      exact hb132 _ _ _ _ _ _ h ls H locs _ _ (lv_sub hl [0, 1, 2, 3] rfl) hW hS hkc hks
  have hb72 : ∀ (x4 : Option Nat) (x5 : Option Nat) (y0 : Int32) (G : GM) (kc : Nat) (ks : Nat), w_X1_addPoint_72 V Q X x0 x2 x3 x4 x5 y0 G kc ks → ∀ (ls : Array Slot) (H : Heap) (locs : List Loc) (cells slots : Nat), lv_has ls 7 [(0, va_rf (some x0)), (2, .int x2), (3, .int x3), (4, va_rf x4), (5, va_rf x5)] → xW V A G H → va_S A s.heap H locs → cells + kc ≤ R.cells → slots + ks ≤ R.slots → W p l e R s m args below meth c H locs cells slots Z (F0 m 72 ls [.int y0]) := by
    intro x4 x5 y0 G kc ks h
    intro ls H locs cells slots hl hW hS hkc hks
    obtain ⟨c16, s17, hc72, hs72, h⟩ := h
    refine call_X1_checkState_S (ct_X1_checkState l hfl) C hW hS q633 (le_lit hRf rfl) (le_lit hRl rfl) hc72 hs72 hkc hks hl.1 (Nat.le_of_ble_eq_true rfl) dX1_addPoint_72 h (fun E G9 ce q9 H locs hX hW hS h1 h2 h3 _ => hxo E G9 ce q9 72 ls H locs _ _ _ hW hS hX h1 h2 h3 (by omega) (by omega)) (fun  H locs h hW hS _ hkc hks => ?_)
    refine sh_aload hx hb dX1_addPoint_75 (lv_at hl 4 rfl) ?_
    obtain ⟨a18, c19, ho77, hcv77, h⟩ := h
    have hcc := h.1
    have h := h.2
    refine call_J2_isEmpty_F15_List (ct_J2_isEmpty l) C hW hS q926 ho77 hcv77 hcc (le_lit hRf rfl) (le_lit hRl rfl) ⟨Nat.le_trans (Nat.le_add_right _ _) hkc, Nat.le_trans (Nat.le_add_right _ _) hks⟩ hl.1 (Nat.le_of_ble_eq_true rfl) dX1_addPoint_77 h (fun r20 H locs h hW hS _ => ?_)
    refine lv_if_ne (tgt := 143) hx hb dX1_addPoint_82 (by decide) (fun c29 => ?_) (fun c29 => ?_)
    · have h := wif_f h c29
      exact hb143 _ _ _ _ h ls H locs _ _ (lv_sub hl [0, 1, 2, 3] rfl) hW hS hkc hks
    · have h := wif_t h c29
      refine sh_aload hx hb dX1_addPoint_85 (lv_at hl 4 rfl) ?_
      refine sh_aload hx hb dX1_addPoint_87 (lv_at hl 4 rfl) ?_
      obtain ⟨a21, c22, ho89, hcv89, h⟩ := h
      have hcc := h.1
      have h := h.2
      refine call_J2_size_F15_List (ct_J2_size l) C hW hS q225 ho89 hcv89 hcc (le_lit hRf rfl) (le_lit hRl rfl) ⟨Nat.le_trans (Nat.le_add_right _ _) hkc, Nat.le_trans (Nat.le_add_right _ _) hks⟩ hl.1 (by simp only [List.map_cons, List.map_nil, va_rf_cat]; exact Nat.le_of_ble_eq_true rfl) dX1_addPoint_89 h (fun r23 H locs h hW hS _ => ?_)
      refine lv_iconst (v := 1) hx hb dX1_addPoint_94 (by decide) ?_
      refine lv_isub hx hb dX1_addPoint_95 ?_
      obtain ⟨a24, c25, ho96, hcv96, h⟩ := h
      have hcc := h.1
      have h := h.2
      refine call_J2_get_F15_List (ct_J2_get l) C hW hS q771 ho96 hcv96 hcc (le_lit hRf rfl) (le_lit hRl rfl) ⟨Nat.le_trans (Nat.le_add_right _ _) hkc, Nat.le_trans (Nat.le_add_right _ _) hks⟩ hl.1 (Nat.le_of_ble_eq_true rfl) dX1_addPoint_96 h (fun r26 H locs h hW hS _ => ?_)
      refine sh_castA C hW (t := 0) (by decide) q934 (by have := (C.2.1.2.1 0 (by decide)).2; exact this) h dX1_addPoint_101 (fun h => ?_)
      refine sh_astore (lv' := [(6, va_rf r26), (0, va_rf (some x0)), (2, .int x2), (3, .int x3), (4, va_rf x4), (5, va_rf x5)]) hx hb dX1_addPoint_104 hl (by decide) (by simp only [List.filter_cons, List.filter_nil, va_rf_cat]; rfl) (fun ls hl => ?_)
      refine sh_aload hx hb dX1_addPoint_106 (lv_at hl 0 rfl) ?_
      refine lv_iconst (v := 0) hx hb dX1_addPoint_108 (by decide) ?_
      refine sh_iald C hW h dX1_addPoint_109 (fun v27 h => ?_)
      refine lv_iload_n hx hb dX1_addPoint_110 rfl (lv_at hl 2 rfl) ?_
      refine lv_icmp_ne (tgt := 118) hx hb dX1_addPoint_111 (by decide) (fun c28 => ?_) (fun c28 => ?_)
      · have h := wif_f h c28
        refine lv_iconst (v := 0) hx hb dX1_addPoint_118 (by decide) ?_
        exact hb119 _ _ _ _ _ _ h ls H locs _ _ (lv_sub hl [1, 2, 3, 4, 0] rfl) hW hS hkc hks
      · have h := wif_t h c28
        refine lv_iconst (v := 1) hx hb dX1_addPoint_114 (by decide) ?_
        refine lv_goto (tgt := 119) hx hb dX1_addPoint_115 (by decide) ?_
        exact hb119 _ _ _ _ _ _ h ls H locs _ _ (lv_sub hl [1, 2, 3, 4, 0] rfl) hW hS hkc hks
  have hb34 : ∀ (x4 : Option Nat) (y0 : Int32) (G : GM) (kc : Nat) (ks : Nat), w_X1_addPoint_34 V Q X x0 x2 x3 x4 y0 G kc ks → ∀ (ls : Array Slot) (H : Heap) (locs : List Loc) (cells slots : Nat), lv_has ls 7 [(0, va_rf (some x0)), (2, .int x2), (3, .int x3), (4, va_rf x4)] → xW V A G H → va_S A s.heap H locs → cells + kc ≤ R.cells → slots + ks ≤ R.slots → W p l e R s m args below meth c H locs cells slots Z (F0 m 34 ls [.int y0]) := by
    intro x4 y0 G kc ks h
    intro ls H locs cells slots hl hW hS hkc hks
    obtain ⟨c30, s31, hc34, hs34, h⟩ := h
    refine call_X1_checkArgument_S (ct_X1_checkArgument l hfl) C hW hS q787 (le_lit hRf rfl) (le_lit hRl rfl) hc34 hs34 hkc hks hl.1 (Nat.le_of_ble_eq_true rfl) dX1_addPoint_34 h (fun E G9 ce q9 H locs hX hW hS h1 h2 h3 _ => hxo E G9 ce q9 34 ls H locs _ _ _ hW hS hX h1 h2 h3 (by omega) (by omega)) (fun  H locs h hW hS _ hkc hks => ?_)
    refine sh_aload hx hb dX1_addPoint_37 (lv_at hl 3 rfl) ?_
    refine sh_inst C hW q889 xCa_Shapelayer_Stroke xCn_Shapelayer_Stroke h dX1_addPoint_39 (fun v32 h => ?_)
    obtain ⟨c33, s34, hc42, hs42, h⟩ := h
    refine call_X1_checkState_S (ct_X1_checkState l hfl) C hW hS q633 (le_lit hRf rfl) (le_lit hRl rfl) hc42 hs42 hkc hks hl.1 (Nat.le_of_ble_eq_true rfl) dX1_addPoint_42 h (fun E G9 ce q9 H locs hX hW hS h1 h2 h3 _ => hxo E G9 ce q9 42 ls H locs _ _ _ hW hS hX h1 h2 h3 (by omega) (by omega)) (fun  H locs h hW hS _ hkc hks => ?_)
    refine sh_aload hx hb dX1_addPoint_45 (lv_at hl 3 rfl) ?_
    refine sh_cast C hW q889 xCa_Shapelayer_Stroke h dX1_addPoint_47 (fun h => ?_)
    obtain ⟨v35, h1, h⟩ := h
    refine sh_getN C hW xFb_24 q898 (fun _ h => h) (by decide) h1 dX1_addPoint_50 ?_
    refine sh_astore (lv' := [(5, va_rf v35), (0, va_rf (some x0)), (2, .int x2), (3, .int x3), (4, va_rf x4)]) hx hb dX1_addPoint_53 hl (by decide) (by simp only [List.filter_cons, List.filter_nil, va_rf_cat]; rfl) (fun ls hl => ?_)
    refine sh_aload hx hb dX1_addPoint_55 (lv_at hl 0 rfl) ?_
    obtain ⟨a36, c37, ho57, hcv57, h⟩ := h
    have hcc := h.1
    have h := h.2
    refine call_J2_size_F15_List (ct_J2_size l) C hW hS q225 ho57 hcv57 hcc (le_lit hRf rfl) (le_lit hRl rfl) ⟨Nat.le_trans (Nat.le_add_right _ _) hkc, Nat.le_trans (Nat.le_add_right _ _) hks⟩ hl.1 (Nat.le_of_ble_eq_true rfl) dX1_addPoint_57 h (fun r38 H locs h hW hS _ => ?_)
    refine lv_bipush (v := 6) hx hb dX1_addPoint_62 (by decide) ?_
    refine lv_icmp_ge (tgt := 71) hx hb dX1_addPoint_64 (by decide) (fun c39 => ?_) (fun c39 => ?_)
    · have h := wif_t h c39
      refine lv_iconst (v := 0) hx hb dX1_addPoint_71 (by decide) ?_
      exact hb72 _ _ _ _ _ _ h ls H locs _ _ (lv_sub hl [1, 2, 3, 4, 0] rfl) hW hS hkc hks
    · have h := wif_f h c39
      refine lv_iconst (v := 1) hx hb dX1_addPoint_67 (by decide) ?_
      refine lv_goto (tgt := 72) hx hb dX1_addPoint_68 (by decide) ?_
      exact hb72 _ _ _ _ _ _ h ls H locs _ _ (lv_sub hl [1, 2, 3, 4, 0] rfl) hW hS hkc hks
  have hb33 : ∀ (x4 : Option Nat) (G : GM) (kc : Nat) (ks : Nat), w_X1_addPoint_33 V Q X x0 x2 x3 x4 G kc ks → ∀ (ls : Array Slot) (H : Heap) (locs : List Loc) (cells slots : Nat), lv_has ls 7 [(0, va_rf (some x0)), (2, .int x2), (3, .int x3), (4, va_rf x4)] → xW V A G H → va_S A s.heap H locs → cells + kc ≤ R.cells → slots + ks ≤ R.slots → W p l e R s m args below meth c H locs cells slots Z (F0 m 33 ls []) := by
    intro x4 G kc ks h
    intro ls H locs cells slots hl hW hS hkc hks
    refine lv_iconst (v := 0) hx hb dX1_addPoint_33 (by decide) ?_
    exact hb34 _ _ _ _ _ h ls H locs _ _ (lv_sub hl [0, 1, 2, 3] rfl) hW hS hkc hks
  intro h
  intro ls H locs cells slots hl hW hS hkc hks
  refine sh_aload_n hx hb dX1_addPoint_0 rfl (lv_at hl 0 rfl) ?_
  refine lv_iload_n hx hb dX1_addPoint_1 rfl (lv_at hl 1 rfl) ?_
  obtain ⟨a40, c41, ho2, hcv2, h⟩ := h
  have hcc := h.1
  have h := h.2
  obtain ⟨c43, s44, hc2, hs2, h⟩ := h
  refine call_X1_layer_V (ct_X1_layer l hfl) C hW hS q921 ho2 hcv2 hcc (le_lit hRf rfl) (le_lit hRl rfl) hc2 hs2 hkc hks hl.1 (Nat.le_of_ble_eq_true rfl) dX1_addPoint_2 h (fun E G9 ce q9 H locs hX hW hS h1 h2 h3 _ => hxo E G9 ce q9 2 ls H locs _ _ _ hW hS hX h1 h2 h3 (by omega) (by omega)) (fun r42 H locs h hW hS _ hkc hks => ?_)
  refine sh_astore (lv' := [(4, va_rf r42), (0, va_rf (some x0)), (1, .int x1), (2, .int x2), (3, .int x3)]) hx hb dX1_addPoint_5 hl (by decide) rfl (fun ls hl => ?_)
  refine lv_iload_n hx hb dX1_addPoint_7 rfl (lv_at hl 3 rfl) ?_
  refine lv_bipush (v := -20) hx hb dX1_addPoint_8 (by decide) ?_
  refine lv_bipush (v := 40) hx hb dX1_addPoint_10 (by decide) ?_
  refine call_X1_isBetween_S (ct_X1_isBetween l) C hW hS q593 (le_lit hRf rfl) (le_lit hRl rfl) ⟨Nat.le_trans (Nat.le_add_right _ _) hkc, Nat.le_trans (Nat.le_add_right _ _) hks⟩ hl.1 (Nat.le_of_ble_eq_true rfl) dX1_addPoint_12 h (fun r45 H locs h hW hS _ => ?_)
  refine lv_if_eq (tgt := 33) hx hb dX1_addPoint_15 (by decide) (fun c48 => ?_) (fun c48 => ?_)
  · have h := wif_t h c48
    exact hb33 _ _ _ _ h ls H locs _ _ (lv_sub hl [1, 3, 4, 0] rfl) hW hS hkc hks
  · have h := wif_f h c48
    refine lv_iload_n hx hb dX1_addPoint_18 rfl (lv_at hl 4 rfl) ?_
    refine lv_bipush (v := -20) hx hb dX1_addPoint_19 (by decide) ?_
    refine lv_bipush (v := 40) hx hb dX1_addPoint_21 (by decide) ?_
    refine call_X1_isBetween_S (ct_X1_isBetween l) C hW hS q593 (le_lit hRf rfl) (le_lit hRl rfl) ⟨Nat.le_trans (Nat.le_add_right _ _) hkc, Nat.le_trans (Nat.le_add_right _ _) hks⟩ hl.1 (Nat.le_of_ble_eq_true rfl) dX1_addPoint_23 h (fun r46 H locs h hW hS _ => ?_)
    refine lv_if_eq (tgt := 33) hx hb dX1_addPoint_26 (by decide) (fun c47 => ?_) (fun c47 => ?_)
    · have h := wif_t h c47
      exact hb33 _ _ _ _ h ls H locs _ _ (lv_sub hl [1, 3, 4, 0] rfl) hW hS hkc hks
    · have h := wif_f h c47
      refine lv_iconst (v := 1) hx hb dX1_addPoint_29 (by decide) ?_
      refine lv_goto (tgt := 34) hx hb dX1_addPoint_30 (by decide) ?_
      exact hb34 _ _ _ _ _ h ls H locs _ _ (lv_sub hl [1, 3, 4, 0] rfl) hW hS hkc hks
theorem ct_X1_addPoint (l : Launch) (hfl : l.stackTraces = false) : CT_X1_addPoint l 14 241 w_X1_addPoint := by
  intro V sz G Q X x0 x1 x2 x3 kc ks
  refine vx_ofW (cc := cX1_addPoint) (maxL := 7) (ret := (some .int)) (by decide) rfl ?_
  intro p e s m args below meth c s₁ B hml hext hv
  obtain ⟨rfl, hsz, hW, hK, hZ, h⟩ := hv
  subst hsz
  have hts := atoms_spec (ws := (ws_ yX1_addPoint cX1_addPoint 7 (some .int))) B.pre
  have hts : ∀ w ∈ lw_all, w.before _ s = true := fun w h => hts w (List.mem_cons_of_mem _ h)
  have hl := lv_entry ([.ref x0, .int x1, .int x2, .int x3]) (n := 7) (Nat.le_of_ble_eq_true rfl)
  rw [lg_entry_eq]
  generalize (lg_sl ([.ref x0, .int x1, .int x2, .int x3]) ++ List.replicate (7 - (lg_sl ([.ref x0, .int x1, .int x2, .int x3])).length) Slot.unset).toArray = ls at hl ⊢
  exact wk_X1_addPoint Q X ⟨⟨B.exec, B.bytes, hml, findClass_of_methodNamed B.named, hts⟩, hK, hZ, fun q h => Or.inr h⟩ hfl (Nat.le_refl _) (Nat.le_refl _) G (fun v G pc ls H locs cells slots _ _ hd hW1 hS hkc hks hQ => W.widen (k := kc) (n := ks) (Nat.le_trans (Nat.le_add_right _ _) hkc) (Nat.le_trans (Nat.le_add_right _ _) hks) (vx_ret (W.iret (v := v) B.exec B.bytes B.returns (fun t ht _ => ⟨⟨v, G, rfl, hQ, by rw [← ht] at hW1; exact hW1⟩, hS.F ht⟩) hS.2.2 hd))) (fun E G9 ce q pc ls H locs cells slots rest hW1 hS hX h1 h2 h3 hc hs => vx_out (fun x hx => absurd (hext x hx) id) B.notSynchronized h1 h2 h3 (fun t ht _ => ⟨(E, G9), hX, ⟨rfl, by rw [← ht] at hW1; exact hW1⟩, hS.F ht⟩) hS.2.2 hc hs) x0 x1 x2 x3 kc ks h ls _ [] 0 0 hl hW va_S.rf (by show 0 + kc ≤ kc; omega) (by show 0 + ks ≤ ks; omega)
def CT_X0_addPoint (l : Launch) (fr lo : Nat) (w : XV → (Int32 → GM → Prop) → (Option Nat) → Int32 → Int32 → Int32 → (Option Nat) → GM → Nat → Nat → Prop) : Prop := ∀ (V : XV) (sz : Nat) (G : GM) (Q : Int32 → GM → Prop) (x0 : Option Nat) (x1 : Int32) (x2 : Int32) (x3 : Int32) (x4 : Option Nat) (kc ks : Nat), Met l yX0_addPoint (wsW_ yX0_addPoint cX0_addPoint 6 (some .int) [(0, 12, 15, 19), (0, 12, 19, 21), (0, 12, 23, 13)]) { frames := fr, cells := kc, slots := ks, locals := lo } (va_Pc [va_rf x0, .int x1, .int x2, .int x3, va_rf x4] (fun U => U.heap.size = sz ∧ xW V (xA G sz) G U.heap ∧ xK V U ∧ xZ V (xA G sz) U U.heap ∧ w V Q x0 x1 x2 x3 x4 G kc ks)) (va_Qi (fun r (u : GM) => Q r u) (fun u t => xW V (xA G sz) u t.heap) (xA G sz)) kc ks (xA G sz)
def w_X0_addPoint (V : XV) (Q : Int32 → GM → Prop) (x0 : Option Nat) (x1 : Int32) (x2 : Int32) (x3 : Int32) (x4 : Option Nat) (G : GM) (kc : Nat) (ks : Nat) : Prop := gRcv G x0 (fun a1 c2 => (c2 % 64 = 0) ∧ (∃ c5 s6 : Nat, c5 ≤ kc ∧ s6 ≤ ks ∧ (w_X1_addPoint V (fun r3 G4 => gJS G4 1 x4 (0 : Int32) (r3.toInt64) (fun G7 => Q (0 : Int32) G7)) (fun E G9 => if E = "java/lang/IndexOutOfBoundsException" then Q (1 : Int32) G9 else (if E = "java/lang/IllegalArgumentException" then Q (2 : Int32) G9 else (if E = "java/lang/IllegalStateException" then Q (3 : Int32) G9 else (False)))) a1 x1 x2 x3 G c5 s6)))
set_option maxRecDepth 100000 in
set_option maxHeartbeats 4000000 in
theorem wk_X0_addPoint {p : Program} {l : Launch} {e : Env} {R : Room} {s : State} {m : MethodId} {args : Array Value} {below : List Frame} {meth : Method} {c : Code} {Z : State → Prop} {A : Nat → Prop} {V : XV} (Q : Int32 → GM → Prop) (C : xC p m c s args cX0_addPoint 6 RX0 V A) (hfl : l.stackTraces = false) (htab : c.exceptionTable.toList = tableOf [(0, 12, 15, 19), (0, 12, 19, 21), (0, 12, 23, 13)]) (hRf : 15 ≤ R.frames) (hRl : 267 ≤ R.locals) (G : GM) (hret : ∀ (v : Int32) (G : GM) (pc : Nat) (ls : Array Slot) (H : Heap) (locs : List Loc) (cells slots : Nat) {k1 k2 : Nat}, decode cX0_addPoint pc = .ok (.ireturn, 1) → xW V A G H → va_S A s.heap H locs → cells + k1 ≤ R.cells → slots + k2 ≤ R.slots → Q v G → W p l e R s m args below meth c H locs cells slots Z (F0 m pc ls [.int v])) (x0 : Option Nat) (x1 : Int32) (x2 : Int32) (x3 : Int32) (x4 : Option Nat) (kc ks : Nat) : w_X0_addPoint V Q x0 x1 x2 x3 x4 G kc ks → ∀ (ls : Array Slot) (H : Heap) (locs : List Loc) (cells slots : Nat), lv_has ls 6 [(0, va_rf x0), (1, .int x1), (2, .int x2), (3, .int x3), (4, va_rf x4)] → xW V A G H → va_S A s.heap H locs → cells + kc ≤ R.cells → slots + ks ≤ R.slots → W p l e R s m args below meth c H locs cells slots Z (F0 m 0 ls []) := by
  have hx := C.1.1; have hb := C.1.2.1; have hml := C.1.2.2.1; have hown := C.1.2.2.2.1; have hts := C.1.2.2.2.2
  intro h
  intro ls H locs cells slots hl hW hS hkc hks
  refine sh_aload hx hb dX0_addPoint_0 (lv_at hl 4 rfl) ?_
  refine lv_iconst (v := 0) hx hb dX0_addPoint_2 (by decide) ?_
  refine sh_aload_n hx hb dX0_addPoint_3 rfl (lv_at hl 0 rfl) ?_
  refine lv_iload_n hx hb dX0_addPoint_4 rfl (lv_at hl 1 rfl) ?_
  refine lv_iload_n hx hb dX0_addPoint_5 rfl (lv_at hl 2 rfl) ?_
  refine lv_iload_n hx hb dX0_addPoint_6 rfl (lv_at hl 3 rfl) ?_
  obtain ⟨a1, c2, ho7, hcv7, h⟩ := h
  have hcc := h.1
  have h := h.2
  obtain ⟨c5, s6, hc7, hs7, h⟩ := h
  refine call_X1_addPoint_V (ct_X1_addPoint l hfl) C hW hS q917 ho7 hcv7 hcc (le_lit hRf rfl) (le_lit hRl rfl) hc7 hs7 hkc hks hl.1 (by simp only [List.map_cons, List.map_nil, va_rf_cat]; exact Nat.le_of_ble_eq_true rfl) dX0_addPoint_7 h (fun E G9 ce q9 H locs hX hW hS h1 h2 h3 _ => by
      by_cases c900 : E = "java/lang/IndexOutOfBoundsException"
      · have hX := wif_t hX c900
        subst c900
        refine vx_catch hown [] ⟨0, 12, 15, 19⟩ [⟨0, 12, 19, 21⟩, ⟨0, 12, 23, 13⟩] (htab.trans rfl) (fun z hz => absurd hz List.not_mem_nil) rfl (by decide) (hts _ q740) (va_Nw.use rfl (C.2.1.2.2.1 _ q757 rfl)) h1 h2 h3 ?_
        refine sh_astore (lv' := [(5, va_rf (some q9)), (0, va_rf x0), (1, .int x1), (2, .int x2), (3, .int x3), (4, va_rf x4)]) hx hb dX0_addPoint_15 hl (by decide) (by simp only [List.filter_cons, List.filter_nil, va_rf_cat]; rfl) (fun ls hl => ?_)
        refine lv_iconst (v := 1) hx hb dX0_addPoint_17 (by decide) ?_
        exact hret _ _ _ _ _ _ _ _ (k1 := 0) (k2 := 0) dX0_addPoint_18 hW hS (by omega) (by omega) hX
      have hX := wif_f hX c900
      by_cases c901 : E = "java/lang/IllegalArgumentException"
      · have hX := wif_t hX c901
        subst c901
        refine vx_catch hown [⟨0, 12, 15, 19⟩] ⟨0, 12, 19, 21⟩ [⟨0, 12, 23, 13⟩] (htab.trans rfl) (by intro z hz; simp only [List.mem_cons, List.not_mem_nil, or_false] at hz; rcases hz with rfl <;> first | (exact Or.inr ⟨by decide, "java/lang/IndexOutOfBoundsException", hts _ q740, C.2.1.2.2.2.2.2.2.1 ("java/lang/IllegalArgumentException", "java/lang/IndexOutOfBoundsException") (by decide)⟩)) rfl (by decide) (hts _ q743) (va_Nw.use rfl (C.2.1.2.2.1 _ q441 rfl)) h1 h2 h3 ?_
        refine sh_astore (lv' := [(5, va_rf (some q9)), (0, va_rf x0), (1, .int x1), (2, .int x2), (3, .int x3), (4, va_rf x4)]) hx hb dX0_addPoint_19 hl (by decide) (by simp only [List.filter_cons, List.filter_nil, va_rf_cat]; rfl) (fun ls hl => ?_)
        refine lv_iconst (v := 2) hx hb dX0_addPoint_21 (by decide) ?_
        exact hret _ _ _ _ _ _ _ _ (k1 := 0) (k2 := 0) dX0_addPoint_22 hW hS (by omega) (by omega) hX
      have hX := wif_f hX c901
      by_cases c902 : E = "java/lang/IllegalStateException"
      · have hX := wif_t hX c902
        subst c902
        refine vx_catch hown [⟨0, 12, 15, 19⟩, ⟨0, 12, 19, 21⟩] ⟨0, 12, 23, 13⟩ [] (htab.trans rfl) (by intro z hz; simp only [List.mem_cons, List.not_mem_nil, or_false] at hz; rcases hz with rfl | rfl <;> first | (exact Or.inr ⟨by decide, "java/lang/IndexOutOfBoundsException", hts _ q740, C.2.1.2.2.2.2.2.2.1 ("java/lang/IllegalStateException", "java/lang/IndexOutOfBoundsException") (by decide)⟩) | (exact Or.inr ⟨by decide, "java/lang/IllegalArgumentException", hts _ q743, C.2.1.2.2.2.2.2.2.1 ("java/lang/IllegalStateException", "java/lang/IllegalArgumentException") (by decide)⟩)) rfl (by decide) (hts _ q628) (va_Nw.use rfl (C.2.1.2.2.1 _ q638 rfl)) h1 h2 h3 ?_
        refine sh_astore (lv' := [(5, va_rf (some q9)), (0, va_rf x0), (1, .int x1), (2, .int x2), (3, .int x3), (4, va_rf x4)]) hx hb dX0_addPoint_23 hl (by decide) (by simp only [List.filter_cons, List.filter_nil, va_rf_cat]; rfl) (fun ls hl => ?_)
        refine lv_iconst (v := 3) hx hb dX0_addPoint_25 (by decide) ?_
        exact hret _ _ _ _ _ _ _ _ (k1 := 0) (k2 := 0) dX0_addPoint_26 hW hS (by omega) (by omega) hX
      have hX := wif_f hX c902
      exact False.elim hX) (fun r3 G4 H locs h hW hS _ hkc hks => ?_)
  refine lv_i2l hx hb dX0_addPoint_10 rfl ?_
  refine sh_last C hW hS h dX0_addPoint_11 (fun G7 H locs hW hS h => ?_)
  refine lv_goto (tgt := 27) hx hb dX0_addPoint_12 (by decide) ?_
  refine lv_iconst (v := 0) hx hb dX0_addPoint_27 (by decide) ?_
  exact hret _ _ _ _ _ _ _ _ dX0_addPoint_28 hW hS hkc hks h
theorem ct_X0_addPoint (l : Launch) (hfl : l.stackTraces = false) : CT_X0_addPoint l 15 267 w_X0_addPoint := by
  intro V sz G Q x0 x1 x2 x3 x4 kc ks
  refine gx_ofWH (cc := cX0_addPoint) (maxL := 6) (ret := (some .int)) (hh := [(0, 12, 15, 19), (0, 12, 19, 21), (0, 12, 23, 13)]) (by decide) rfl ?_
  intro p e s m args below meth c s₁ B hml htab hv
  obtain ⟨rfl, hsz, hW, hK, hZ, h⟩ := hv
  subst hsz
  have hts := atoms_spec (ws := (wsW_ yX0_addPoint cX0_addPoint 6 (some .int) [(0, 12, 15, 19), (0, 12, 19, 21), (0, 12, 23, 13)])) B.pre
  have hts : ∀ w ∈ lw_all, w.before _ s = true := fun w h => hts w (List.mem_cons_of_mem _ h)
  have key : ∃ ls : Array Slot, entryFrame m ([va_rf x0, .int x1, .int x2, .int x3, va_rf x4] : List Value).toArray 6 = F0 m 0 ls [] ∧ lv_has ls 6 [(0, va_rf x0), (1, .int x1), (2, .int x2), (3, .int x3), (4, va_rf x4)] := by
    cases x0 <;> cases x4 <;> (refine ⟨_, by rw [lg_entry_eq], ?_⟩; exact lv_entry _ (Nat.le_of_ble_eq_true rfl))
  obtain ⟨ls, hfr, hl⟩ := key
  rw [hfr]
  exact wk_X0_addPoint Q ⟨⟨B.exec, B.bytes, hml, findClass_of_methodNamed B.named, hts⟩, hK, hZ, fun q h => Or.inr h⟩ hfl htab (Nat.le_refl _) (Nat.le_refl _) G (fun v G pc ls H locs cells slots _ _ hd hW1 hS hkc hks hQ => W.widen (k := kc) (n := ks) (Nat.le_trans (Nat.le_add_right _ _) hkc) (Nat.le_trans (Nat.le_add_right _ _) hks) (W.iret (v := v) B.exec B.bytes B.returns (fun t ht _ => ⟨⟨v, G, rfl, hQ, by rw [← ht] at hW1; exact hW1⟩, hS.F ht⟩) hS.2.2 hd)) x0 x1 x2 x3 x4 kc ks h ls _ [] 0 0 hl hW va_S.rf (by show 0 + kc ≤ kc; omega) (by show 0 + ks ≤ ks; omega)
def CT_X10_init (l : Launch) (fr lo : Nat) (w : XV → (GM → Prop) → Nat → (Option Nat) → GM → Prop) : Prop := ∀ (V : XV) (sz : Nat) (G : GM) (Q : GM → Prop) (x0 : Nat) (x1 : Option Nat), Met l yX10_init (ws_ yX10_init cX10_init 2 none) { frames := fr, cells := 0, slots := 0, locals := lo } (va_Pc [.ref x0, va_rf x1] (fun U => U.heap.size = sz ∧ xW V (xA G sz) G U.heap ∧ xK V U ∧ xZ V (xA G sz) U U.heap ∧ w V Q x0 x1 G)) (va_Qv (fun (u : GM) => Q u) (fun u t => xW V (xA G sz) u t.heap) (xA G sz)) 0 0 (xA G sz)
theorem call_X10_init_I {p : Program} {l : Launch} {e : Env} {R : Room} {s : State} {m : MethodId} {args : Array Value} {below : List Frame} {meth : Method} {c : Code} {H : Heap} {locs : List Loc} {cells slots : Nat} {Z : State → Prop} {A : Nat → Prop} {cc : ByteArray} {nL pc : Nat} {ls : Array Slot} {rest : List Value} {own : String} {index fr lo : Nat} {w : XV → (GM → Prop) → Nat → (Option Nat) → GM → Prop} {V : XV} {G : GM} {o : Option Nat} {x0 : Nat} {x1 : Option Nat} (hM : CT_X10_init l fr lo w) (C : xC p m c s args cc nL own V A) (hW : xW V A G H) (hS : va_S A s.heap H locs) (hlink : Cond.methodLink own index yX10_init ∈ lw_all) (ho : o = some x0) (hRf : fr + 1 ≤ R.frames) (hRl : 8 + (2 + 11) + lo ≤ R.locals) (hcs : cells ≤ R.cells ∧ slots ≤ R.slots) (hz : ls.size = nL) (hr8 : (rest.map fun v => v.category).sum ≤ 8) (hdg : decode cc pc = .ok (.invokespecial index, 3)) {Q1 : GM → Prop} (h : w V Q1 x0 x1 G) (kk : ∀ (G1 : GM) (H1 : Heap) (locs1 : List Loc), Q1 G1 → xW V A G1 H1 → va_S A s.heap H1 locs1 → xFr V G G1 H H1 → W p l e R s m args below meth c H1 locs1 cells slots Z (F0 m (pc + 3) ls (rest))) : W p l e R s m args below meth c H locs cells slots Z (F0 m pc ls (va_rf x1 :: va_rf o :: rest)) := by
  subst ho
  exact rg_v3w (va_runI (As := [va_rf x1]) (rest := rest) C.1 (hM V H.size G Q1 x0 x1) (cwI 1 C.1.2.2.2.2 (lw_meth q973) rfl rfl rfl (C.1.2.2.2.2 _ q92) (C.1.2.2.2.2 _ hlink) (C.1.2.2.2.2 _ q972) rfl (by decide +kernel) ⟨hRf, hRl⟩) ⟨fun a U g mk q => by obtain ⟨q0, q1, qW, qK, qZ, qw⟩ := q; exact ⟨q0, q1, qW, xK.same (u := U) (U := U.calling g mk a) rfl qK, xZ.moved (u := U) (U := U.calling g mk a) (Vm.Alike.refl U.vm) qZ, qw⟩, fun U hU hWm => ⟨rfl, by rw [hU], by rw [hU]; exact hW.self _, C.2.1.warm hWm, xZ.call C.2.2.1 hW hS C.2.2.2 hU hWm.alike, h⟩⟩ rfl rfl hz rfl (lv_room hr8) hdg hcs) hW hS C.2.2.2 (fun G1 H1 locs1 hp hW1 hS1 hF1 => kk G1 H1 locs1 hp hW1 hS1 hF1)
def w_X10_init (V : XV) (Q : GM → Prop) (x0 : Nat) (x1 : Option Nat) (G : GM) : Prop := gPF G 33 (some x0) (va_rf x1) (fun G1 => gGR G1 33 (some x0) (fun v2 => gGR G1 12 v2 (fun v3 => gRcv G1 v3 (fun a4 c5 => (c5 % 64 = 15) ∧ (w_J2_size V (fun r6 => gPF G1 32 (some x0) (.int r6) (fun G7 => Q G7)) a4 G1)))))
set_option maxRecDepth 100000 in
set_option maxHeartbeats 4000000 in
theorem wk_X10_init {p : Program} {l : Launch} {e : Env} {R : Room} {s : State} {m : MethodId} {args : Array Value} {below : List Frame} {meth : Method} {c : Code} {cells slots : Nat} {Z : State → Prop} {A : Nat → Prop} {V : XV} (Q : GM → Prop) (C : xC p m c s args cX10_init 2 RX10 V A) (hin : meth.name = "<init>") (hRf : 2 ≤ R.frames) (hRl : 40 ≤ R.locals) (hcs : cells ≤ R.cells ∧ slots ≤ R.slots) (G : GM) (hret : ∀ (G : GM) (pc : Nat) (ls : Array Slot) (H : Heap) (locs : List Loc), decode cX10_init pc = .ok (.return_, 1) → xW V A G H → va_S A s.heap H locs → Q G → W p l e R s m args below meth c H locs cells slots Z (F0 m pc ls [])) (x0 : Nat) (x1 : Option Nat) : w_X10_init V Q x0 x1 G → ∀ (ls : Array Slot) (H : Heap) (locs : List Loc), lv_has ls 2 [(0, va_rf (some x0)), (1, va_rf x1)] → xW V A G H → va_S A s.heap H locs → W p l e R s m args below meth c H locs cells slots Z (F0 m 0 ls []) := by
  have hx := C.1.1; have hb := C.1.2.1; have hml := C.1.2.2.1; have hown := C.1.2.2.2.1; have hts := C.1.2.2.2.2
  intro h
  intro ls H locs hl hW hS
  refine sh_aload_n hx hb dX10_init_0 rfl (lv_at hl 0 rfl) ?_
  refine sh_aload_n hx hb dX10_init_1 rfl (lv_at hl 1 rfl) ?_
  refine sh_putF C hW hS xFb_33 q978 (fun _ h => h) hin rfl xFd_33 (rf_nar_o _ _) (rf_fit_o _ _) h dX10_init_2 (fun G1 H locs hW hS h => ?_)
  refine sh_aload_n hx hb dX10_init_5 rfl (lv_at hl 0 rfl) ?_
  refine sh_objInit C q974 q110 q111 hl.1 (le_lit hRf rfl) (le_lit hRl rfl) (Nat.le_of_ble_eq_true rfl) dX10_init_6 ?_
  refine sh_aload_n hx hb dX10_init_9 rfl (lv_at hl 0 rfl) ?_
  refine sh_aload_n hx hb dX10_init_10 rfl (lv_at hl 0 rfl) ?_
  obtain ⟨v2, h1, h⟩ := h
  refine sh_get C hW xFb_33 q978 (fun _ h => h) h1 dX10_init_11 ?_
  obtain ⟨v3, h1, h⟩ := h
  refine sh_getN C hW xFb_12 q668 (fun _ h => h) (by decide) h1 dX10_init_14 ?_
  obtain ⟨a4, c5, ho17, hcv17, h⟩ := h
  have hcc := h.1
  have h := h.2
  refine call_J2_size_F15_List (ct_J2_size l) C hW hS q976 ho17 hcv17 hcc (le_lit hRf rfl) (le_lit hRl rfl) hcs hl.1 (Nat.le_of_ble_eq_true rfl) dX10_init_17 h (fun r6 H locs h hW hS _ => ?_)
  refine sh_put C hW hS xFb_32 q977 (fun _ h => h) xFd_32 rfl rfl h dX10_init_22 (fun G7 H locs hW hS h => ?_)
  exact hret _ _ _ _ _ dX10_init_25 hW hS h
theorem ct_X10_init (l : Launch) : CT_X10_init l 2 40 w_X10_init := by
  intro V sz G Q x0 x1
  refine Met.ofW (cc := cX10_init) (maxL := 2) (ret := none) (by decide) rfl ?_
  intro p e s m args below meth c s₁ B hml hv
  obtain ⟨rfl, hsz, hW, hK, hZ, h⟩ := hv
  subst hsz
  have hts := atoms_spec (ws := (ws_ yX10_init cX10_init 2 none)) B.pre
  have hts : ∀ w ∈ lw_all, w.before _ s = true := fun w h => hts w (List.mem_cons_of_mem _ h)
  have key : ∃ ls : Array Slot, entryFrame m ([.ref x0, va_rf x1] : List Value).toArray 2 = F0 m 0 ls [] ∧ lv_has ls 2 [(0, va_rf (some x0)), (1, va_rf x1)] := by
    cases x1 <;> (refine ⟨_, by rw [lg_entry_eq], ?_⟩; exact lv_entry _ (Nat.le_of_ble_eq_true rfl))
  obtain ⟨ls, hfr, hl⟩ := key
  rw [hfr]
  exact wk_X10_init Q ⟨⟨B.exec, B.bytes, hml, findClass_of_methodNamed B.named, hts⟩, hK, hZ, fun q h => Or.inr h⟩ (name_of_methodNamed B.named B.method).1 (Nat.le_refl _) (Nat.le_refl _) ⟨Nat.le_refl _, Nat.le_refl _⟩ G (fun G pc ls H locs hd hW1 hS hQ => W.vret B.exec B.bytes B.returns (fun t ht _ => ⟨⟨G, rfl, hQ, by rw [← ht] at hW1; exact hW1⟩, hS.F ht⟩) hS.2.2 hd) x0 x1 h ls _ [] hl hW va_S.rf
def CT_X4_iterator (l : Launch) (fr lo : Nat) (w : XV → (Option Nat → GM → Prop) → Nat → GM → Nat → Nat → Prop) : Prop := ∀ (V : XV) (sz : Nat) (G : GM) (Q : Option Nat → GM → Prop) (x0 : Nat) (kc ks : Nat), Met l yX4_iterator (ws_ yX4_iterator cX4_iterator 1 (some (.object "java/util/Iterator"))) { frames := fr, cells := kc, slots := ks, locals := lo } (va_Pc [.ref x0] (fun U => U.heap.size = sz ∧ xW V (xA G sz) G U.heap ∧ xK V U ∧ xZ V (xA G sz) U U.heap ∧ w V Q x0 G kc ks)) (va_Qq (fun r (u : GM) => Q r u) (fun u t => xW V (xA G sz) u t.heap) (xA G sz)) kc ks (xA G sz)
theorem call_X4_iterator_V {p : Program} {l : Launch} {e : Env} {R : Room} {s : State} {m : MethodId} {args : Array Value} {below : List Frame} {meth : Method} {c : Code} {H : Heap} {locs : List Loc} {cells slots : Nat} {Z : State → Prop} {A : Nat → Prop} {cc : ByteArray} {nL pc : Nat} {ls : Array Slot} {rest : List Value} {own : String} {index fr lo : Nat} {w : XV → (Option Nat → GM → Prop) → Nat → GM → Nat → Nat → Prop} {V : XV} {G : GM} {o : Option Nat} {ci : Nat} {kc ks c1 s1 : Nat} {x0 : Nat} (hM : CT_X4_iterator l fr lo w) (C : xC p m c s args cc nL own V A) (hW : xW V A G H) (hS : va_S A s.heap H locs) (hlink : Cond.methodLink own index yX4_iterator ∈ lw_all) (ho : o = some x0) (hcv : gCi G (some x0) = some ci) (hci : ci % 64 = 2) (hRf : fr + 1 ≤ R.frames) (hRl : 8 + (1 + 11) + lo ≤ R.locals) (hc1 : c1 ≤ kc) (hs1 : s1 ≤ ks) (hkc : cells + kc ≤ R.cells) (hks : slots + ks ≤ R.slots) (hz : ls.size = nL) (hr8 : (rest.map fun v => v.category).sum ≤ 8) (hdg : decode cc pc = .ok (.invokevirtual index, 3)) {Q1 : Option Nat → GM → Prop} (h : w V Q1 x0 G c1 s1) (kk : ∀ (r : Option Nat) (G1 : GM) (H1 : Heap) (locs1 : List Loc), Q1 r G1 → xW V A G1 H1 → va_S A s.heap H1 locs1 → xFr V G G1 H H1 → (cells + c1) + (kc - c1) ≤ R.cells → (slots + s1) + (ks - s1) ≤ R.slots → W p l e R s m args below meth c H1 locs1 (cells + c1) (slots + s1) Z (F0 m (pc + 3) ls (va_rf r :: rest))) : W p l e R s m args below meth c H locs cells slots Z (F0 m pc ls (va_rf o :: rest)) := by
  subst ho
  obtain ⟨fs, hG⟩ := gCi_of hcv
  exact rg_q3w (va_runV (As := []) (rest := rest) C.1 (hM V H.size G Q1 x0 c1 s1) (cwV 0 C.1.2.2.2.2 (lw_V hlink q966 q967 q85 q968) rfl rfl rfl (by decide +kernel) ⟨hRf, hRl⟩) ⟨fun a U g mk q => by obtain ⟨q0, q1, qW, qK, qZ, qw⟩ := q; exact ⟨q0, q1, qW, xK.same (u := U) (U := U.calling g mk a) rfl qK, xZ.moved (u := U) (U := U.calling g mk a) (Vm.Alike.refl U.vm) qZ, qw⟩, (hW.recv C.2.1 hG (r := (RX4, TX4, 2)) (by rw [hci]; rfl)), fun U hU hWm => ⟨rfl, by rw [hU], by rw [hU]; exact hW.self _, C.2.1.warm hWm, xZ.call C.2.2.1 hW hS C.2.2.2 hU hWm.alike, h⟩⟩ rfl rfl hz rfl (lv_room hr8) hdg ⟨by omega, by omega⟩) hW hS C.2.2.2 (fun r G1 H1 locs1 hp hW1 hS1 hF1 => kk r G1 H1 locs1 hp hW1 hS1 hF1 (by omega) (by omega))
def w_X4_iterator (V : XV) (Q : Option Nat → GM → Prop) (x0 : Nat) (G : GM) (kc : Nat) (ks : Nat) : Prop := gNw G 12 2 xdf_X10 kc ks (fun q1 G2 => w_X10_init V (fun G3 => Q (some q1) G3) q1 (some x0) G2)
set_option maxRecDepth 100000 in
set_option maxHeartbeats 4000000 in
theorem wk_X4_iterator {p : Program} {l : Launch} {e : Env} {R : Room} {s : State} {m : MethodId} {args : Array Value} {below : List Frame} {meth : Method} {c : Code} {Z : State → Prop} {A : Nat → Prop} {V : XV} (Q : Option Nat → GM → Prop) (C : xC p m c s args cX4_iterator 1 RX4 V A) (hRf : 3 ≤ R.frames) (hRl : 61 ≤ R.locals) (G : GM) (hret : ∀ (v : Option Nat) (G : GM) (pc : Nat) (ls : Array Slot) (H : Heap) (locs : List Loc) (cells slots : Nat) {k1 k2 : Nat}, decode cX4_iterator pc = .ok (.areturn, 1) → xW V A G H → va_S A s.heap H locs → cells + k1 ≤ R.cells → slots + k2 ≤ R.slots → Q v G → W p l e R s m args below meth c H locs cells slots Z (F0 m pc ls [va_rf v])) (x0 : Nat) (kc ks : Nat) : w_X4_iterator V Q x0 G kc ks → ∀ (ls : Array Slot) (H : Heap) (locs : List Loc) (cells slots : Nat), lv_has ls 1 [(0, va_rf (some x0))] → xW V A G H → va_S A s.heap H locs → cells + kc ≤ R.cells → slots + ks ≤ R.slots → W p l e R s m args below meth c H locs cells slots Z (F0 m 0 ls []) := by
  have hx := C.1.1; have hb := C.1.2.1; have hml := C.1.2.2.1; have hown := C.1.2.2.2.1; have hts := C.1.2.2.2.2
  intro h
  intro ls H locs cells slots hl hW hS hkc hks
  refine sh_new C hW hS (ci := 12) rfl (by decide) q969 q970 q92 tyX10_ok xdf_X10_ok h hkc hks dX4_iterator_0 (fun q1 G2 H hW hS h hkc hks => ?_)
  refine lv_dup hx hb dX4_iterator_3 (va_rf_cat _) ?_
  refine sh_aload_n hx hb dX4_iterator_4 rfl (lv_at hl 0 rfl) ?_
  refine call_X10_init_I (ct_X10_init l) C hW hS q971 rfl (le_lit hRf rfl) (le_lit hRl rfl) ⟨Nat.le_trans (Nat.le_add_right _ _) hkc, Nat.le_trans (Nat.le_add_right _ _) hks⟩ hl.1 (Nat.le_of_ble_eq_true rfl) dX4_iterator_5 h (fun G3 H locs h hW hS _ => ?_)
  exact hret _ _ _ _ _ _ _ _ dX4_iterator_8 hW hS hkc hks h
theorem ct_X4_iterator (l : Launch) : CT_X4_iterator l 3 61 w_X4_iterator := by
  intro V sz G Q x0 kc ks
  refine Met.ofW (cc := cX4_iterator) (maxL := 1) (ret := (some (.object "java/util/Iterator"))) (by decide) rfl ?_
  intro p e s m args below meth c s₁ B hml hv
  obtain ⟨rfl, hsz, hW, hK, hZ, h⟩ := hv
  subst hsz
  have hts := atoms_spec (ws := (ws_ yX4_iterator cX4_iterator 1 (some (.object "java/util/Iterator")))) B.pre
  have hts : ∀ w ∈ lw_all, w.before _ s = true := fun w h => hts w (List.mem_cons_of_mem _ h)
  have hl := lv_entry ([.ref x0]) (n := 1) (Nat.le_of_ble_eq_true rfl)
  rw [lg_entry_eq]
  generalize (lg_sl ([.ref x0]) ++ List.replicate (1 - (lg_sl ([.ref x0])).length) Slot.unset).toArray = ls at hl ⊢
  exact wk_X4_iterator Q ⟨⟨B.exec, B.bytes, hml, findClass_of_methodNamed B.named, hts⟩, hK, hZ, fun q h => Or.inr h⟩ (Nat.le_refl _) (Nat.le_refl _) G (fun v G pc ls H locs cells slots _ _ hd hW1 hS hkc hks hQ => W.widen (k := kc) (n := ks) (Nat.le_trans (Nat.le_add_right _ _) hkc) (Nat.le_trans (Nat.le_add_right _ _) hks) (W.aret (v := va_rf v) B.exec B.bytes B.returns (Or.inl ⟨_, rfl⟩) (va_rf_or v) (fun t ht _ => ⟨⟨v, G, rfl, hQ, by rw [← ht] at hW1; exact hW1⟩, hS.F ht⟩) hS.2.2 hd)) x0 kc ks h ls _ [] 0 0 hl hW va_S.rf (by show 0 + kc ≤ kc; omega) (by show 0 + ks ≤ ks; omega)
def CT_X10_hasNext (l : Launch) (fr lo : Nat) (w : XV → (Int32 → Prop) → Nat → GM → Prop) : Prop := ∀ (V : XV) (sz : Nat) (G : GM) (Q : Int32 → Prop) (x0 : Nat), Met l yX10_hasNext (ws_ yX10_hasNext cX10_hasNext 1 (some .boolean)) { frames := fr, cells := 0, slots := 0, locals := lo } (va_Pc [.ref x0] (fun U => U.heap.size = sz ∧ xW V (xA G sz) G U.heap ∧ xK V U ∧ xZ V (xA G sz) U U.heap ∧ w V Q x0 G)) (va_Qi (fun r (u : GM) => u = G ∧ Q r) (fun u t => xW V (xA G sz) u t.heap) (xA G sz)) 0 0 (xA G sz)
theorem call_X10_hasNext_V {p : Program} {l : Launch} {e : Env} {R : Room} {s : State} {m : MethodId} {args : Array Value} {below : List Frame} {meth : Method} {c : Code} {H : Heap} {locs : List Loc} {cells slots : Nat} {Z : State → Prop} {A : Nat → Prop} {cc : ByteArray} {nL pc : Nat} {ls : Array Slot} {rest : List Value} {own : String} {index fr lo : Nat} {w : XV → (Int32 → Prop) → Nat → GM → Prop} {V : XV} {G : GM} {o : Option Nat} {ci : Nat} {x0 : Nat} (hM : CT_X10_hasNext l fr lo w) (C : xC p m c s args cc nL own V A) (hW : xW V A G H) (hS : va_S A s.heap H locs) (hlink : Cond.methodLink own index yX10_hasNext ∈ lw_all) (ho : o = some x0) (hcv : gCi G (some x0) = some ci) (hci : ci % 64 = 12) (hRf : fr + 1 ≤ R.frames) (hRl : 8 + (1 + 11) + lo ≤ R.locals) (hcs : cells ≤ R.cells ∧ slots ≤ R.slots) (hz : ls.size = nL) (hr8 : (rest.map fun v => v.category).sum ≤ 8) (hdg : decode cc pc = .ok (.invokevirtual index, 3)) {Q1 : Int32 → Prop} (h : w V Q1 x0 G) (kk : ∀ (r : Int32) (H1 : Heap) (locs1 : List Loc), Q1 r → xW V A G H1 → va_S A s.heap H1 locs1 → xFr V G G H H1 → W p l e R s m args below meth c H1 locs1 cells slots Z (F0 m (pc + 3) ls (.int r :: rest))) : W p l e R s m args below meth c H locs cells slots Z (F0 m pc ls (va_rf o :: rest)) := by
  subst ho
  obtain ⟨fs, hG⟩ := gCi_of hcv
  exact rg_i3r (va_runV (As := []) (rest := rest) C.1 (hM V H.size G Q1 x0) (cwV 0 C.1.2.2.2.2 (lw_V hlink q991 q2212 q92 q993) rfl rfl rfl (by decide +kernel) ⟨hRf, hRl⟩) ⟨fun a U g mk q => by obtain ⟨q0, q1, qW, qK, qZ, qw⟩ := q; exact ⟨q0, q1, qW, xK.same (u := U) (U := U.calling g mk a) rfl qK, xZ.moved (u := U) (U := U.calling g mk a) (Vm.Alike.refl U.vm) qZ, qw⟩, (hW.recv C.2.1 hG (r := (RX10, TX10, 2)) (by rw [hci]; rfl)), fun U hU hWm => ⟨rfl, by rw [hU], by rw [hU]; exact hW.self _, C.2.1.warm hWm, xZ.call C.2.2.1 hW hS C.2.2.2 hU hWm.alike, h⟩⟩ rfl rfl hz rfl (lv_room hr8) hdg hcs) hW hS C.2.2.2 (fun r H1 locs1 hp hW1 hS1 hF1 => kk r H1 locs1 hp hW1 hS1 hF1)
theorem call_X10_hasNext_F12_Iterator {p : Program} {l : Launch} {e : Env} {R : Room} {s : State} {m : MethodId} {args : Array Value} {below : List Frame} {meth : Method} {c : Code} {H : Heap} {locs : List Loc} {cells slots : Nat} {Z : State → Prop} {A : Nat → Prop} {cc : ByteArray} {nL pc : Nat} {ls : Array Slot} {rest : List Value} {own : String} {index fr lo : Nat} {w : XV → (Int32 → Prop) → Nat → GM → Prop} {V : XV} {G : GM} {count : Nat} {o : Option Nat} {ci : Nat} {x0 : Nat} (hM : CT_X10_hasNext l fr lo w) (C : xC p m c s args cc nL own V A) (hW : xW V A G H) (hS : va_S A s.heap H locs) (hlink : Cond.methodLink own index ⟨"java/util/Iterator", "hasNext", "()Z"⟩ ∈ lw_all) (ho : o = some x0) (hcv : gCi G (some x0) = some ci) (hci : ci % 64 = 12) (hRf : fr + 1 ≤ R.frames) (hRl : 8 + (1 + 11) + lo ≤ R.locals) (hcs : cells ≤ R.cells ∧ slots ≤ R.slots) (hz : ls.size = nL) (hr8 : (rest.map fun v => v.category).sum ≤ 8) (hdg : decode cc pc = .ok (.invokeinterface index count, 5)) {Q1 : Int32 → Prop} (h : w V Q1 x0 G) (kk : ∀ (r : Int32) (H1 : Heap) (locs1 : List Loc), Q1 r → xW V A G H1 → va_S A s.heap H1 locs1 → xFr V G G H H1 → W p l e R s m args below meth c H1 locs1 cells slots Z (F0 m (pc + 5) ls (.int r :: rest))) : W p l e R s m args below meth c H locs cells slots Z (F0 m pc ls (va_rf o :: rest)) := by
  subst ho
  obtain ⟨fs, hG⟩ := gCi_of hcv
  exact rg_i5r (va_runF (As := []) (rest := rest) (C.2.1.1 12 _ rfl).2 C.1 (hM V H.size G Q1 x0) (va_cwF (C := "Shapelayer$Composition$1") 0 C.1.2.2.2.2 (lw_F hlink q989 q991 q92 q993) rfl rfl rfl (C.2.1.2.2.2.1 "Shapelayer$Composition$1" ⟨"java/util/Iterator", "hasNext", "()Z"⟩ yX10_hasNext ⟨by decide, q987, q986, q992, q990, q988⟩) (by decide +kernel) ⟨hRf, hRl⟩) ⟨fun a U g mk q => by obtain ⟨q0, q1, qW, qK, qZ, qw⟩ := q; exact ⟨q0, q1, qW, xK.same (u := U) (U := U.calling g mk a) rfl qK, xZ.moved (u := U) (U := U.calling g mk a) (Vm.Alike.refl U.vm) qZ, qw⟩, (hW.recv C.2.1 hG (r := (RX10, TX10, 2)) (by rw [hci]; rfl)), fun U hU hWm => ⟨rfl, by rw [hU], by rw [hU]; exact hW.self _, C.2.1.warm hWm, xZ.call C.2.2.1 hW hS C.2.2.2 hU hWm.alike, h⟩⟩ rfl rfl hz rfl (lv_room hr8) hdg hcs) hW hS C.2.2.2 (fun r H1 locs1 hp hW1 hS1 hF1 => kk r H1 locs1 hp hW1 hS1 hF1)
def w_X10_hasNext (V : XV) (Q : Int32 → Prop) (x0 : Nat) (G : GM) : Prop := gGI G 32 (some x0) (fun v1 => if v1 ≤ 0 then (Q (0 : Int32)) else (Q (1 : Int32)))
set_option maxRecDepth 100000 in
set_option maxHeartbeats 4000000 in
theorem wk_X10_hasNext {p : Program} {l : Launch} {e : Env} {R : Room} {s : State} {m : MethodId} {args : Array Value} {below : List Frame} {meth : Method} {c : Code} {cells slots : Nat} {Z : State → Prop} {A : Nat → Prop} {V : XV} (Q : Int32 → Prop) (C : xC p m c s args cX10_hasNext 1 RX10 V A) (hRf : 1 ≤ R.frames) (hRl : 20 ≤ R.locals) (hcs : cells ≤ R.cells ∧ slots ≤ R.slots) (G : GM) (hret : ∀ (v : Int32) (pc : Nat) (ls : Array Slot) (H : Heap) (locs : List Loc), decode cX10_hasNext pc = .ok (.ireturn, 1) → xW V A G H → va_S A s.heap H locs → isZ v → Q v → W p l e R s m args below meth c H locs cells slots Z (F0 m pc ls [.int v])) (x0 : Nat) : w_X10_hasNext V Q x0 G → ∀ (ls : Array Slot) (H : Heap) (locs : List Loc), lv_has ls 1 [(0, va_rf (some x0))] → xW V A G H → va_S A s.heap H locs → W p l e R s m args below meth c H locs cells slots Z (F0 m 0 ls []) := by
  have hx := C.1.1; have hb := C.1.2.1; have hml := C.1.2.2.1; have hown := C.1.2.2.2.1; have hts := C.1.2.2.2.2
  intro h
  intro ls H locs hl hW hS
  refine sh_aload_n hx hb dX10_hasNext_0 rfl (lv_at hl 0 rfl) ?_
  obtain ⟨v1, h1, h⟩ := h
  refine sh_get C hW xFb_32 q977 (fun _ h => h) h1 dX10_hasNext_1 ?_
  refine lv_if_le (tgt := 11) hx hb dX10_hasNext_4 (by decide) (fun c2 => ?_) (fun c2 => ?_)
  · have h := wif_t h c2
    refine lv_iconst (v := 0) hx hb dX10_hasNext_11 (by decide) ?_
    exact hret _ _ _ _ _ dX10_hasNext_12 hW hS isZ_0 h
  · have h := wif_f h c2
    refine lv_iconst (v := 1) hx hb dX10_hasNext_7 (by decide) ?_
    refine lv_goto (tgt := 12) hx hb dX10_hasNext_8 (by decide) ?_
    exact hret _ _ _ _ _ dX10_hasNext_12 hW hS isZ_1 h
theorem ct_X10_hasNext (l : Launch) : CT_X10_hasNext l 1 20 w_X10_hasNext := by
  intro V sz G Q x0
  refine Met.ofW (cc := cX10_hasNext) (maxL := 1) (ret := (some .boolean)) (by decide) rfl ?_
  intro p e s m args below meth c s₁ B hml hv
  obtain ⟨rfl, hsz, hW, hK, hZ, h⟩ := hv
  subst hsz
  have hts := atoms_spec (ws := (ws_ yX10_hasNext cX10_hasNext 1 (some .boolean))) B.pre
  have hts : ∀ w ∈ lw_all, w.before _ s = true := fun w h => hts w (List.mem_cons_of_mem _ h)
  have hl := lv_entry ([.ref x0]) (n := 1) (Nat.le_of_ble_eq_true rfl)
  rw [lg_entry_eq]
  generalize (lg_sl ([.ref x0]) ++ List.replicate (1 - (lg_sl ([.ref x0])).length) Slot.unset).toArray = ls at hl ⊢
  exact wk_X10_hasNext Q ⟨⟨B.exec, B.bytes, hml, findClass_of_methodNamed B.named, hts⟩, hK, hZ, fun q h => Or.inr h⟩ (Nat.le_refl _) (Nat.le_refl _) ⟨Nat.le_refl _, Nat.le_refl _⟩ G (fun v pc ls H locs hd hW1 hS hz hQ => W.zret (v := v) B.exec B.bytes B.returns hz.nar (fun t ht _ => ⟨⟨v, G, rfl, ⟨rfl, hQ⟩, by rw [← ht] at hW1; exact hW1⟩, hS.F ht⟩) hS.2.2 hd) x0 h ls _ [] hl hW va_S.rf
def CT_X10_next_2 (l : Launch) (fr lo : Nat) (w : XV → (Option Nat → GM → Prop) → Nat → GM → Prop) : Prop := ∀ (V : XV) (sz : Nat) (G : GM) (Q : Option Nat → GM → Prop) (x0 : Nat), Met l yX10_next_2 (ws_ yX10_next_2 cX10_next_2 1 (some (.object "Shapelayer$Layer"))) { frames := fr, cells := 0, slots := 0, locals := lo } (va_Pc [.ref x0] (fun U => U.heap.size = sz ∧ xW V (xA G sz) G U.heap ∧ xK V U ∧ xZ V (xA G sz) U U.heap ∧ w V Q x0 G)) (va_Qq (fun r (u : GM) => Q r u) (fun u t => xW V (xA G sz) u t.heap) (xA G sz)) 0 0 (xA G sz)
theorem call_X10_next_2_V {p : Program} {l : Launch} {e : Env} {R : Room} {s : State} {m : MethodId} {args : Array Value} {below : List Frame} {meth : Method} {c : Code} {H : Heap} {locs : List Loc} {cells slots : Nat} {Z : State → Prop} {A : Nat → Prop} {cc : ByteArray} {nL pc : Nat} {ls : Array Slot} {rest : List Value} {own : String} {index fr lo : Nat} {w : XV → (Option Nat → GM → Prop) → Nat → GM → Prop} {V : XV} {G : GM} {o : Option Nat} {ci : Nat} {x0 : Nat} (hM : CT_X10_next_2 l fr lo w) (C : xC p m c s args cc nL own V A) (hW : xW V A G H) (hS : va_S A s.heap H locs) (hlink : Cond.methodLink own index yX10_next_2 ∈ lw_all) (ho : o = some x0) (hcv : gCi G (some x0) = some ci) (hci : ci % 64 = 12) (hRf : fr + 1 ≤ R.frames) (hRl : 8 + (1 + 11) + lo ≤ R.locals) (hcs : cells ≤ R.cells ∧ slots ≤ R.slots) (hz : ls.size = nL) (hr8 : (rest.map fun v => v.category).sum ≤ 8) (hdg : decode cc pc = .ok (.invokevirtual index, 3)) {Q1 : Option Nat → GM → Prop} (h : w V Q1 x0 G) (kk : ∀ (r : Option Nat) (G1 : GM) (H1 : Heap) (locs1 : List Loc), Q1 r G1 → xW V A G1 H1 → va_S A s.heap H1 locs1 → xFr V G G1 H H1 → W p l e R s m args below meth c H1 locs1 cells slots Z (F0 m (pc + 3) ls (va_rf r :: rest))) : W p l e R s m args below meth c H locs cells slots Z (F0 m pc ls (va_rf o :: rest)) := by
  subst ho
  obtain ⟨fs, hG⟩ := gCi_of hcv
  exact rg_q3w (va_runV (As := []) (rest := rest) C.1 (hM V H.size G Q1 x0) (cwV 0 C.1.2.2.2.2 (lw_V hlink q1004 q1005 q92 q1006) rfl rfl rfl (by decide +kernel) ⟨hRf, hRl⟩) ⟨fun a U g mk q => by obtain ⟨q0, q1, qW, qK, qZ, qw⟩ := q; exact ⟨q0, q1, qW, xK.same (u := U) (U := U.calling g mk a) rfl qK, xZ.moved (u := U) (U := U.calling g mk a) (Vm.Alike.refl U.vm) qZ, qw⟩, (hW.recv C.2.1 hG (r := (RX10, TX10, 2)) (by rw [hci]; rfl)), fun U hU hWm => ⟨rfl, by rw [hU], by rw [hU]; exact hW.self _, C.2.1.warm hWm, xZ.call C.2.2.1 hW hS C.2.2.2 hU hWm.alike, h⟩⟩ rfl rfl hz rfl (lv_room hr8) hdg hcs) hW hS C.2.2.2 (fun r G1 H1 locs1 hp hW1 hS1 hF1 => kk r G1 H1 locs1 hp hW1 hS1 hF1)
def w_X10_next_2 (V : XV) (Q : Option Nat → GM → Prop) (x0 : Nat) (G : GM) : Prop := gRcv G (some x0) (fun a1 c2 => (c2 % 64 = 12) ∧ (w_X10_hasNext V (fun r3 => if r3 = 0 then (False) else (gGI G 32 (some x0) (fun v4 => gPF G 32 (some x0) (.int (v4 - (1 : Int32))) (fun G5 => gGR G5 33 (some x0) (fun v6 => gGR G5 12 v6 (fun v7 => gGI G5 32 (some x0) (fun v8 => gRcv G5 v7 (fun a9 c10 => (c10 % 64 = 15) ∧ (w_J2_get V (fun r11 => gCk G5 [3, 4, 5, 6] r11 (Q r11 G5)) a9 v8 G5))))))))) a1 G))
set_option maxRecDepth 100000 in
set_option maxHeartbeats 4000000 in
theorem wk_X10_next_2 {p : Program} {l : Launch} {e : Env} {R : Room} {s : State} {m : MethodId} {args : Array Value} {below : List Frame} {meth : Method} {c : Code} {cells slots : Nat} {Z : State → Prop} {A : Nat → Prop} {V : XV} (Q : Option Nat → GM → Prop) (C : xC p m c s args cX10_next_2 1 RX10 V A) (hRf : 12 ≤ R.frames) (hRl : 200 ≤ R.locals) (hcs : cells ≤ R.cells ∧ slots ≤ R.slots) (G : GM) (hret : ∀ (v : Option Nat) (G : GM) (pc : Nat) (ls : Array Slot) (H : Heap) (locs : List Loc), decode cX10_next_2 pc = .ok (.areturn, 1) → xW V A G H → va_S A s.heap H locs → Q v G → W p l e R s m args below meth c H locs cells slots Z (F0 m pc ls [va_rf v])) (x0 : Nat) : w_X10_next_2 V Q x0 G → ∀ (ls : Array Slot) (H : Heap) (locs : List Loc), lv_has ls 1 [(0, va_rf (some x0))] → xW V A G H → va_S A s.heap H locs → W p l e R s m args below meth c H locs cells slots Z (F0 m 0 ls []) := by
  have hx := C.1.1; have hb := C.1.2.1; have hml := C.1.2.2.1; have hown := C.1.2.2.2.1; have hts := C.1.2.2.2.2
  intro h
  intro ls H locs hl hW hS
  refine sh_aload_n hx hb dX10_next_2_0 rfl (lv_at hl 0 rfl) ?_
  obtain ⟨a1, c2, ho1, hcv1, h⟩ := h
  have hcc := h.1
  have h := h.2
  refine call_X10_hasNext_V (ct_X10_hasNext l) C hW hS q1007 ho1 hcv1 hcc (le_lit hRf rfl) (le_lit hRl rfl) hcs hl.1 (Nat.le_of_ble_eq_true rfl) dX10_next_2_1 h (fun r3 H locs h hW hS _ => ?_)
  refine lv_if_ne (tgt := 15) hx hb dX10_next_2_4 (by decide) (fun c12 => ?_) (fun c12 => ?_)
  · have h := wif_f h c12
    refine sh_aload_n hx hb dX10_next_2_15 rfl (lv_at hl 0 rfl) ?_
    refine lv_dup hx hb dX10_next_2_16 (va_rf_cat _) ?_
    obtain ⟨v4, h1, h⟩ := h
    refine sh_get C hW xFb_32 q977 (fun _ h => h) h1 dX10_next_2_17 ?_
    refine lv_iconst (v := 1) hx hb dX10_next_2_20 (by decide) ?_
    refine lv_isub hx hb dX10_next_2_21 ?_
    refine sh_put C hW hS xFb_32 q977 (fun _ h => h) xFd_32 rfl rfl h dX10_next_2_22 (fun G5 H locs hW hS h => ?_)
    refine sh_aload_n hx hb dX10_next_2_25 rfl (lv_at hl 0 rfl) ?_
    obtain ⟨v6, h1, h⟩ := h
    refine sh_get C hW xFb_33 q978 (fun _ h => h) h1 dX10_next_2_26 ?_
    obtain ⟨v7, h1, h⟩ := h
    refine sh_getN C hW xFb_12 q668 (fun _ h => h) (by decide) h1 dX10_next_2_29 ?_
    refine sh_aload_n hx hb dX10_next_2_32 rfl (lv_at hl 0 rfl) ?_
    obtain ⟨v8, h1, h⟩ := h
    refine sh_get C hW xFb_32 q977 (fun _ h => h) h1 dX10_next_2_33 ?_
    obtain ⟨a9, c10, ho36, hcv36, h⟩ := h
    have hcc := h.1
    have h := h.2
    refine call_J2_get_F15_List (ct_J2_get l) C hW hS q1024 ho36 hcv36 hcc (le_lit hRf rfl) (le_lit hRl rfl) hcs hl.1 (Nat.le_of_ble_eq_true rfl) dX10_next_2_36 h (fun r11 H locs h hW hS _ => ?_)
    refine sh_cast C hW q1025 xCa_Shapelayer_Layer h dX10_next_2_41 (fun h => ?_)
    exact hret _ _ _ _ _ _ dX10_next_2_44 hW hS h
  · have h := wif_t h c12
    exact False.elim h
theorem ct_X10_next_2 (l : Launch) : CT_X10_next_2 l 12 200 w_X10_next_2 := by
  intro V sz G Q x0
  refine Met.ofW (cc := cX10_next_2) (maxL := 1) (ret := (some (.object "Shapelayer$Layer"))) (by decide) rfl ?_
  intro p e s m args below meth c s₁ B hml hv
  obtain ⟨rfl, hsz, hW, hK, hZ, h⟩ := hv
  subst hsz
  have hts := atoms_spec (ws := (ws_ yX10_next_2 cX10_next_2 1 (some (.object "Shapelayer$Layer")))) B.pre
  have hts : ∀ w ∈ lw_all, w.before _ s = true := fun w h => hts w (List.mem_cons_of_mem _ h)
  have hl := lv_entry ([.ref x0]) (n := 1) (Nat.le_of_ble_eq_true rfl)
  rw [lg_entry_eq]
  generalize (lg_sl ([.ref x0]) ++ List.replicate (1 - (lg_sl ([.ref x0])).length) Slot.unset).toArray = ls at hl ⊢
  exact wk_X10_next_2 Q ⟨⟨B.exec, B.bytes, hml, findClass_of_methodNamed B.named, hts⟩, hK, hZ, fun q h => Or.inr h⟩ (Nat.le_refl _) (Nat.le_refl _) ⟨Nat.le_refl _, Nat.le_refl _⟩ G (fun v G pc ls H locs hd hW1 hS hQ => W.aret (v := va_rf v) B.exec B.bytes B.returns (Or.inl ⟨_, rfl⟩) (va_rf_or v) (fun t ht _ => ⟨⟨v, G, rfl, hQ, by rw [← ht] at hW1; exact hW1⟩, hS.F ht⟩) hS.2.2 hd) x0 h ls _ [] hl hW va_S.rf
def CT_X10_next (l : Launch) (fr lo : Nat) (w : XV → (Option Nat → GM → Prop) → Nat → GM → Prop) : Prop := ∀ (V : XV) (sz : Nat) (G : GM) (Q : Option Nat → GM → Prop) (x0 : Nat), Met l yX10_next (ws_ yX10_next cX10_next 1 (some (.object "java/lang/Object"))) { frames := fr, cells := 0, slots := 0, locals := lo } (va_Pc [.ref x0] (fun U => U.heap.size = sz ∧ xW V (xA G sz) G U.heap ∧ xK V U ∧ xZ V (xA G sz) U U.heap ∧ w V Q x0 G)) (va_Qq (fun r (u : GM) => Q r u) (fun u t => xW V (xA G sz) u t.heap) (xA G sz)) 0 0 (xA G sz)
theorem call_X10_next_F12_Iterator {p : Program} {l : Launch} {e : Env} {R : Room} {s : State} {m : MethodId} {args : Array Value} {below : List Frame} {meth : Method} {c : Code} {H : Heap} {locs : List Loc} {cells slots : Nat} {Z : State → Prop} {A : Nat → Prop} {cc : ByteArray} {nL pc : Nat} {ls : Array Slot} {rest : List Value} {own : String} {index fr lo : Nat} {w : XV → (Option Nat → GM → Prop) → Nat → GM → Prop} {V : XV} {G : GM} {count : Nat} {o : Option Nat} {ci : Nat} {x0 : Nat} (hM : CT_X10_next l fr lo w) (C : xC p m c s args cc nL own V A) (hW : xW V A G H) (hS : va_S A s.heap H locs) (hlink : Cond.methodLink own index ⟨"java/util/Iterator", "next", "()Ljava/lang/Object;"⟩ ∈ lw_all) (ho : o = some x0) (hcv : gCi G (some x0) = some ci) (hci : ci % 64 = 12) (hRf : fr + 1 ≤ R.frames) (hRl : 8 + (1 + 11) + lo ≤ R.locals) (hcs : cells ≤ R.cells ∧ slots ≤ R.slots) (hz : ls.size = nL) (hr8 : (rest.map fun v => v.category).sum ≤ 8) (hdg : decode cc pc = .ok (.invokeinterface index count, 5)) {Q1 : Option Nat → GM → Prop} (h : w V Q1 x0 G) (kk : ∀ (r : Option Nat) (G1 : GM) (H1 : Heap) (locs1 : List Loc), Q1 r G1 → xW V A G1 H1 → va_S A s.heap H1 locs1 → xFr V G G1 H H1 → W p l e R s m args below meth c H1 locs1 cells slots Z (F0 m (pc + 5) ls (va_rf r :: rest))) : W p l e R s m args below meth c H locs cells slots Z (F0 m pc ls (va_rf o :: rest)) := by
  subst ho
  obtain ⟨fs, hG⟩ := gCi_of hcv
  exact rg_q5w (va_runF (As := []) (rest := rest) (C.2.1.1 12 _ rfl).2 C.1 (hM V H.size G Q1 x0) (va_cwF (C := "Shapelayer$Composition$1") 0 C.1.2.2.2.2 (lw_F hlink q998 q1000 q92 q1002) rfl rfl rfl (C.2.1.2.2.2.1 "Shapelayer$Composition$1" ⟨"java/util/Iterator", "next", "()Ljava/lang/Object;"⟩ yX10_next ⟨by decide, q997, q996, q1001, q999, q988⟩) (by decide +kernel) ⟨hRf, hRl⟩) ⟨fun a U g mk q => by obtain ⟨q0, q1, qW, qK, qZ, qw⟩ := q; exact ⟨q0, q1, qW, xK.same (u := U) (U := U.calling g mk a) rfl qK, xZ.moved (u := U) (U := U.calling g mk a) (Vm.Alike.refl U.vm) qZ, qw⟩, (hW.recv C.2.1 hG (r := (RX10, TX10, 2)) (by rw [hci]; rfl)), fun U hU hWm => ⟨rfl, by rw [hU], by rw [hU]; exact hW.self _, C.2.1.warm hWm, xZ.call C.2.2.1 hW hS C.2.2.2 hU hWm.alike, h⟩⟩ rfl rfl hz rfl (lv_room hr8) hdg hcs) hW hS C.2.2.2 (fun r G1 H1 locs1 hp hW1 hS1 hF1 => kk r G1 H1 locs1 hp hW1 hS1 hF1)
def w_X10_next (V : XV) (Q : Option Nat → GM → Prop) (x0 : Nat) (G : GM) : Prop := gRcv G (some x0) (fun a1 c2 => (c2 % 64 = 12) ∧ (w_X10_next_2 V (fun r3 G4 => Q r3 G4) a1 G))
set_option maxRecDepth 100000 in
set_option maxHeartbeats 4000000 in
theorem wk_X10_next {p : Program} {l : Launch} {e : Env} {R : Room} {s : State} {m : MethodId} {args : Array Value} {below : List Frame} {meth : Method} {c : Code} {cells slots : Nat} {Z : State → Prop} {A : Nat → Prop} {V : XV} (Q : Option Nat → GM → Prop) (C : xC p m c s args cX10_next 1 RX10 V A) (hRf : 13 ≤ R.frames) (hRl : 220 ≤ R.locals) (hcs : cells ≤ R.cells ∧ slots ≤ R.slots) (G : GM) (hret : ∀ (v : Option Nat) (G : GM) (pc : Nat) (ls : Array Slot) (H : Heap) (locs : List Loc), decode cX10_next pc = .ok (.areturn, 1) → xW V A G H → va_S A s.heap H locs → Q v G → W p l e R s m args below meth c H locs cells slots Z (F0 m pc ls [va_rf v])) (x0 : Nat) : w_X10_next V Q x0 G → ∀ (ls : Array Slot) (H : Heap) (locs : List Loc), lv_has ls 1 [(0, va_rf (some x0))] → xW V A G H → va_S A s.heap H locs → W p l e R s m args below meth c H locs cells slots Z (F0 m 0 ls []) := by
  have hx := C.1.1; have hb := C.1.2.1; have hml := C.1.2.2.1; have hown := C.1.2.2.2.1; have hts := C.1.2.2.2.2
  intro h
  intro ls H locs hl hW hS
  refine sh_aload_n hx hb dX10_next_0 rfl (lv_at hl 0 rfl) ?_
  obtain ⟨a1, c2, ho1, hcv1, h⟩ := h
  have hcc := h.1
  have h := h.2
  refine call_X10_next_2_V (ct_X10_next_2 l) C hW hS q1003 ho1 hcv1 hcc (le_lit hRf rfl) (le_lit hRl rfl) hcs hl.1 (Nat.le_of_ble_eq_true rfl) dX10_next_1 h (fun r3 G4 H locs h hW hS _ => ?_)
  exact hret _ _ _ _ _ _ dX10_next_4 hW hS h
theorem ct_X10_next (l : Launch) : CT_X10_next l 13 220 w_X10_next := by
  intro V sz G Q x0
  refine Met.ofW (cc := cX10_next) (maxL := 1) (ret := (some (.object "java/lang/Object"))) (by decide) rfl ?_
  intro p e s m args below meth c s₁ B hml hv
  obtain ⟨rfl, hsz, hW, hK, hZ, h⟩ := hv
  subst hsz
  have hts := atoms_spec (ws := (ws_ yX10_next cX10_next 1 (some (.object "java/lang/Object")))) B.pre
  have hts : ∀ w ∈ lw_all, w.before _ s = true := fun w h => hts w (List.mem_cons_of_mem _ h)
  have hl := lv_entry ([.ref x0]) (n := 1) (Nat.le_of_ble_eq_true rfl)
  rw [lg_entry_eq]
  generalize (lg_sl ([.ref x0]) ++ List.replicate (1 - (lg_sl ([.ref x0])).length) Slot.unset).toArray = ls at hl ⊢
  exact wk_X10_next Q ⟨⟨B.exec, B.bytes, hml, findClass_of_methodNamed B.named, hts⟩, hK, hZ, fun q h => Or.inr h⟩ (Nat.le_refl _) (Nat.le_refl _) ⟨Nat.le_refl _, Nat.le_refl _⟩ G (fun v G pc ls H locs hd hW1 hS hQ => W.aret (v := va_rf v) B.exec B.bytes B.returns (Or.inl ⟨_, rfl⟩) (va_rf_or v) (fun t ht _ => ⟨⟨v, G, rfl, hQ, by rw [← ht] at hW1; exact hW1⟩, hS.F ht⟩) hS.2.2 hd) x0 h ls _ [] hl hW va_S.rf
def CT_X4_has (l : Launch) (fr lo : Nat) (w : XV → (Int32 → GM → Prop) → Nat → (Option Nat) → GM → Nat → Nat → Prop) : Prop := ∀ (V : XV) (sz : Nat) (G : GM) (Q : Int32 → GM → Prop) (x0 : Nat) (x1 : Option Nat) (kc ks : Nat), Met l yX4_has (ws_ yX4_has cX4_has 5 (some .boolean)) { frames := fr, cells := kc, slots := ks, locals := lo } (va_Pc [.ref x0, va_rf x1] (fun U => U.heap.size = sz ∧ xW V (xA G sz) G U.heap ∧ xK V U ∧ xZ V (xA G sz) U U.heap ∧ w V Q x0 x1 G kc ks)) (va_Qi (fun r (u : GM) => Q r u) (fun u t => xW V (xA G sz) u t.heap) (xA G sz)) kc ks (xA G sz)
theorem call_X4_has_V {p : Program} {l : Launch} {e : Env} {R : Room} {s : State} {m : MethodId} {args : Array Value} {below : List Frame} {meth : Method} {c : Code} {H : Heap} {locs : List Loc} {cells slots : Nat} {Z : State → Prop} {A : Nat → Prop} {cc : ByteArray} {nL pc : Nat} {ls : Array Slot} {rest : List Value} {own : String} {index fr lo : Nat} {w : XV → (Int32 → GM → Prop) → Nat → (Option Nat) → GM → Nat → Nat → Prop} {V : XV} {G : GM} {o : Option Nat} {ci : Nat} {kc ks c1 s1 : Nat} {x0 : Nat} {x1 : Option Nat} (hM : CT_X4_has l fr lo w) (C : xC p m c s args cc nL own V A) (hW : xW V A G H) (hS : va_S A s.heap H locs) (hlink : Cond.methodLink own index yX4_has ∈ lw_all) (ho : o = some x0) (hcv : gCi G (some x0) = some ci) (hci : ci % 64 = 2) (hRf : fr + 1 ≤ R.frames) (hRl : 8 + (5 + 11) + lo ≤ R.locals) (hc1 : c1 ≤ kc) (hs1 : s1 ≤ ks) (hkc : cells + kc ≤ R.cells) (hks : slots + ks ≤ R.slots) (hz : ls.size = nL) (hr8 : (rest.map fun v => v.category).sum ≤ 8) (hdg : decode cc pc = .ok (.invokevirtual index, 3)) {Q1 : Int32 → GM → Prop} (h : w V Q1 x0 x1 G c1 s1) (kk : ∀ (r : Int32) (G1 : GM) (H1 : Heap) (locs1 : List Loc), Q1 r G1 → xW V A G1 H1 → va_S A s.heap H1 locs1 → xFr V G G1 H H1 → (cells + c1) + (kc - c1) ≤ R.cells → (slots + s1) + (ks - s1) ≤ R.slots → W p l e R s m args below meth c H1 locs1 (cells + c1) (slots + s1) Z (F0 m (pc + 3) ls (.int r :: rest))) : W p l e R s m args below meth c H locs cells slots Z (F0 m pc ls (va_rf x1 :: va_rf o :: rest)) := by
  subst ho
  obtain ⟨fs, hG⟩ := gCi_of hcv
  exact rg_i3w (va_runV (As := [va_rf x1]) (rest := rest) C.1 (hM V H.size G Q1 x0 x1 c1 s1) (cwV 1 C.1.2.2.2.2 (lw_V hlink q962 q963 q85 q964) rfl rfl rfl (by decide +kernel) ⟨hRf, hRl⟩) ⟨fun a U g mk q => by obtain ⟨q0, q1, qW, qK, qZ, qw⟩ := q; exact ⟨q0, q1, qW, xK.same (u := U) (U := U.calling g mk a) rfl qK, xZ.moved (u := U) (U := U.calling g mk a) (Vm.Alike.refl U.vm) qZ, qw⟩, (hW.recv C.2.1 hG (r := (RX4, TX4, 2)) (by rw [hci]; rfl)), fun U hU hWm => ⟨rfl, by rw [hU], by rw [hU]; exact hW.self _, C.2.1.warm hWm, xZ.call C.2.2.1 hW hS C.2.2.2 hU hWm.alike, h⟩⟩ rfl rfl hz rfl (lv_room hr8) hdg ⟨by omega, by omega⟩) hW hS C.2.2.2 (fun r G1 H1 locs1 hp hW1 hS1 hF1 => kk r G1 H1 locs1 hp hW1 hS1 hF1 (by omega) (by omega))
def w_X4_has_58 (rc : XV → (Int32 → GM → Prop) → Nat → (Option Nat) → GM → Nat → Nat → Prop) (V : XV) (Q : Int32 → GM → Prop) (rec12 : GM → Nat → Nat → Prop) (x1 : Option Nat) (x2 : Option Nat) (G : GM) (kc : Nat) (ks : Nat) : Prop := rec12 G kc ks
def w_X4_has_h12 (rc : XV → (Int32 → GM → Prop) → Nat → (Option Nat) → GM → Nat → Nat → Prop) (V : XV) (Q : Int32 → GM → Prop) (x1 : Option Nat) (x2 : Option Nat) (rec12 : GM → Nat → Nat → Prop) (G : GM) (kc : Nat) (ks : Nat) : Prop := gRcv G x2 (fun a1 c2 => (c2 % 64 = 12) ∧ (w_X10_hasNext V (fun r3 => if r3 = 0 then (Q (0 : Int32) G) else (gRcv G x2 (fun a4 c5 => (c5 % 64 = 12) ∧ (w_X10_next V (fun r6 G7 => gCk G7 [3, 4, 5, 6] r6 (gIo G7 [5] [3, 4, 6] r6 (fun v8 => if v8 = 0 then (w_X4_has_58 rc V Q rec12 x1 x2 G7 kc ks) else (gCk G7 [5] r6 (gGR G7 26 r6 (fun v9 => gRcv G7 v9 (fun a10 c11 => (c11 % 64 = 2) ∧ (∃ c14 s15 : Nat, c14 ≤ kc ∧ s15 ≤ ks ∧ (rc V (fun r12 G13 => if r12 = 0 then (w_X4_has_58 rc V Q rec12 x1 x2 G13 (kc - c14) (ks - s15)) else (Q (1 : Int32) G13)) a10 x1 G7 c14 s15))))))))) a4 G)))) a1 G))
def w_X4_has_L12 (rc : XV → (Int32 → GM → Prop) → Nat → (Option Nat) → GM → Nat → Nat → Prop) (V : XV) (Q : Int32 → GM → Prop) (x1 : Option Nat) (x2 : Option Nat) (G : GM) (kc : Nat) (ks : Nat) : Prop := wLoop (fun (rec : (GM × Nat × Nat) → Prop) (s : GM × Nat × Nat) => w_X4_has_h12 rc V Q x1 x2 (fun G kc ks => rec (G, kc, ks)) s.1 s.2.1 s.2.2) (G, kc, ks)
def w_X4_has_B (rc : XV → (Int32 → GM → Prop) → Nat → (Option Nat) → GM → Nat → Nat → Prop) (V : XV) (Q : Int32 → GM → Prop) (x0 : Nat) (x1 : Option Nat) (G : GM) (kc : Nat) (ks : Nat) : Prop := if (some x0) = x1 then (Q (1 : Int32) G) else (gRcv G (some x0) (fun a19 c20 => (c20 % 64 = 2) ∧ (∃ c23 s24 : Nat, c23 ≤ kc ∧ s24 ≤ ks ∧ (w_X4_iterator V (fun r21 G22 => w_X4_has_L12 rc V Q x1 r21 G22 (kc - c23) (ks - s24)) a19 G c23 s24))))
def w_X4_has : Nat → XV → (Int32 → GM → Prop) → Nat → (Option Nat) → GM → Nat → Nat → Prop
  | 0 => fun _ _ _ _ _ _ _ => False
  | n + 1 => w_X4_has_B (w_X4_has n)
set_option maxRecDepth 100000 in
set_option maxHeartbeats 4000000 in
theorem wk_X4_has {p : Program} {l : Launch} {e : Env} {R : Room} {s : State} {m : MethodId} {args : Array Value} {below : List Frame} {meth : Method} {c : Code} {Z : State → Prop} {A : Nat → Prop} {V : XV} {fr lo : Nat} (hB1 : 14 ≤ fr) (hB2 : 240 ≤ lo) {rc : XV → (Int32 → GM → Prop) → Nat → (Option Nat) → GM → Nat → Nat → Prop} (hrc : CT_X4_has l fr lo rc) (Q : Int32 → GM → Prop) (C : xC p m c s args cX4_has 5 RX4 V A) (hRf : fr + 1 ≤ R.frames) (hRl : lo + 24 ≤ R.locals) (G : GM) (hret : ∀ (v : Int32) (G : GM) (pc : Nat) (ls : Array Slot) (H : Heap) (locs : List Loc) (cells slots : Nat) {k1 k2 : Nat}, decode cX4_has pc = .ok (.ireturn, 1) → xW V A G H → va_S A s.heap H locs → cells + k1 ≤ R.cells → slots + k2 ≤ R.slots → isZ v → Q v G → W p l e R s m args below meth c H locs cells slots Z (F0 m pc ls [.int v])) (x0 : Nat) (x1 : Option Nat) (kc ks : Nat) : w_X4_has_B rc V Q x0 x1 G kc ks → ∀ (ls : Array Slot) (H : Heap) (locs : List Loc) (cells slots : Nat), lv_has ls 5 [(0, va_rf (some x0)), (1, va_rf x1)] → xW V A G H → va_S A s.heap H locs → cells + kc ≤ R.cells → slots + ks ≤ R.slots → W p l e R s m args below meth c H locs cells slots Z (F0 m 0 ls []) := by
  have hx := C.1.1; have hb := C.1.2.1; have hml := C.1.2.2.1; have hown := C.1.2.2.2.1; have hts := C.1.2.2.2.2
  have hL12 : ∀ (x2 : Option Nat) (G : GM) (kc : Nat) (ks : Nat), w_X4_has_L12 rc V Q x1 x2 G kc ks → ∀ (ls : Array Slot) (H : Heap) (locs : List Loc) (cells slots : Nat), lv_has ls 5 [(1, va_rf x1), (2, va_rf x2)] → xW V A G H → va_S A s.heap H locs → cells + kc ≤ R.cells → slots + ks ≤ R.slots → W p l e R s m args below meth c H locs cells slots Z (F0 m 12 ls []) := by
    intro x2
    obtain ⟨GG12, hG12⟩ : ∃ GG : GM → Nat → Nat → Prop, ∀ (G : GM) (kc : Nat) (ks : Nat), GG G kc ks ↔ (∀ (ls : Array Slot) (H : Heap) (locs : List Loc) (cells slots : Nat), lv_has ls 5 [(1, va_rf x1), (2, va_rf x2)] → xW V A G H → va_S A s.heap H locs → cells + kc ≤ R.cells → slots + ks ≤ R.slots → W p l e R s m args below meth c H locs cells slots Z (F0 m 12 ls [])) := ⟨fun G kc ks => _, fun G kc ks => Iff.rfl⟩
    have hB12 : ∀ (rec12 : GM → Nat → Nat → Prop), (∀ (G : GM) (kc : Nat) (ks : Nat), rec12 G kc ks → GG12 G kc ks) → ∀ (G : GM) (kc : Nat) (ks : Nat), w_X4_has_h12 rc V Q x1 x2 rec12 G kc ks → GG12 G kc ks := by
      intro rec12 hrec12
      have hb58 : ∀ (G : GM) (kc : Nat) (ks : Nat), w_X4_has_58 rc V Q rec12 x1 x2 G kc ks → ∀ (ls : Array Slot) (H : Heap) (locs : List Loc) (cells slots : Nat), lv_has ls 5 [(1, va_rf x1), (2, va_rf x2)] → xW V A G H → va_S A s.heap H locs → cells + kc ≤ R.cells → slots + ks ≤ R.slots → W p l e R s m args below meth c H locs cells slots Z (F0 m 58 ls []) := by
        intro G kc ks h
        intro ls H locs cells slots hl hW hS hkc hks
        refine lv_goto (tgt := 12) hx hb dX4_has_58 (by decide) ?_
        exact (hG12 _ _ _).mp (hrec12 _ _ _ h) ls H locs _ _ (lv_sub hl [0, 1] rfl) hW hS hkc hks
      intro G kc ks h
      rw [hG12]
      intro ls H locs cells slots hl hW hS hkc hks
      refine sh_aload_n hx hb dX4_has_12 rfl (lv_at hl 1 rfl) ?_
      obtain ⟨a1, c2, ho13, hcv13, h⟩ := h
      have hcc := h.1
      have h := h.2
      refine call_X10_hasNext_F12_Iterator (ct_X10_hasNext l) C hW hS q985 ho13 hcv13 hcc (by omega) (by omega) ⟨Nat.le_trans (Nat.le_add_right _ _) hkc, Nat.le_trans (Nat.le_add_right _ _) hks⟩ hl.1 (Nat.le_of_ble_eq_true rfl) dX4_has_13 h (fun r3 H locs h hW hS _ => ?_)
      refine lv_if_eq (tgt := 61) hx hb dX4_has_18 (by decide) (fun c18 => ?_) (fun c18 => ?_)
      · have h := wif_t h c18
        refine lv_iconst (v := 0) hx hb dX4_has_61 (by decide) ?_
        exact hret _ _ _ _ _ _ _ _ dX4_has_62 hW hS hkc hks isZ_0 h
      · have h := wif_f h c18
        refine sh_aload_n hx hb dX4_has_21 rfl (lv_at hl 1 rfl) ?_
        obtain ⟨a4, c5, ho22, hcv22, h⟩ := h
        have hcc := h.1
        have h := h.2
        refine call_X10_next_F12_Iterator (ct_X10_next l) C hW hS q995 ho22 hcv22 hcc (by omega) (by omega) ⟨Nat.le_trans (Nat.le_add_right _ _) hkc, Nat.le_trans (Nat.le_add_right _ _) hks⟩ hl.1 (Nat.le_of_ble_eq_true rfl) dX4_has_22 h (fun r6 G7 H locs h hW hS _ => ?_)
        refine sh_cast C hW q1026 xCa_Shapelayer_Layer h dX4_has_27 (fun h => ?_)
        refine sh_astore_n (lv' := [(3, va_rf r6), (1, va_rf x1), (2, va_rf x2)]) hx hb dX4_has_30 rfl hl (by decide) (by simp only [List.filter_cons, List.filter_nil, va_rf_cat]; rfl) (fun ls hl => ?_)
        refine sh_aload_n hx hb dX4_has_31 rfl (lv_at hl 0 rfl) ?_
        refine sh_inst C hW q1027 xCa_Shapelayer_Nested xCn_Shapelayer_Nested h dX4_has_32 (fun v8 h => ?_)
        refine lv_if_eq (tgt := 58) hx hb dX4_has_35 (by decide) (fun c17 => ?_) (fun c17 => ?_)
        · have h := wif_t h c17
          exact hb58 _ _ _ h ls H locs _ _ (lv_sub hl [1, 2] rfl) hW hS hkc hks
        · have h := wif_f h c17
          refine sh_aload_n hx hb dX4_has_38 rfl (lv_at hl 0 rfl) ?_
          refine sh_cast C hW q1027 xCa_Shapelayer_Nested h dX4_has_39 (fun h => ?_)
          refine sh_astore (lv' := [(4, va_rf r6), (3, va_rf r6), (1, va_rf x1), (2, va_rf x2)]) hx hb dX4_has_42 hl (by decide) (by simp only [List.filter_cons, List.filter_nil, va_rf_cat]; rfl) (fun ls hl => ?_)
          refine sh_aload hx hb dX4_has_44 (lv_at hl 0 rfl) ?_
          obtain ⟨v9, h1, h⟩ := h
          refine sh_getN C hW xFb_26 q1036 (fun _ h => h) (by decide) h1 dX4_has_46 ?_
          refine sh_aload_n hx hb dX4_has_49 rfl (lv_at hl 2 rfl) ?_
          obtain ⟨a10, c11, ho50, hcv50, h⟩ := h
          have hcc := h.1
          have h := h.2
          obtain ⟨c14, s15, hc50, hs50, h⟩ := h
          refine call_X4_has_V hrc C hW hS q1028 ho50 hcv50 hcc (by omega) (by omega) hc50 hs50 hkc hks hl.1 (Nat.le_of_ble_eq_true rfl) dX4_has_50 h (fun r12 G13 H locs h hW hS _ hkc hks => ?_)
          refine lv_if_eq (tgt := 58) hx hb dX4_has_53 (by decide) (fun c16 => ?_) (fun c16 => ?_)
          · have h := wif_t h c16
            exact hb58 _ _ _ h ls H locs _ _ (lv_sub hl [2, 3] rfl) hW hS hkc hks
          · have h := wif_f h c16
            refine lv_iconst (v := 1) hx hb dX4_has_56 (by decide) ?_
            exact hret _ _ _ _ _ _ _ _ dX4_has_57 hW hS hkc hks isZ_1 h
    intro G kc ks h
    exact (hG12 G kc ks).mp (loop_walk (fun s => GG12 s.1 s.2.1 s.2.2) (fun rec hrec s h => hB12 (fun G kc ks => rec (G, kc, ks)) (fun G kc ks h => hrec (G, kc, ks) h) s.1 s.2.1 s.2.2 h) (G, kc, ks) h)
  intro h
  intro ls H locs cells slots hl hW hS hkc hks
  refine sh_aload_n hx hb dX4_has_0 rfl (lv_at hl 0 rfl) ?_
  refine sh_aload_n hx hb dX4_has_1 rfl (lv_at hl 1 rfl) ?_
  refine lv_acmp_ne (tgt := 7) hx hb dX4_has_2 (by decide) (fun c25 => ?_) (fun c25 => ?_)
  · have h := wif_f h c25
    refine sh_aload_n hx hb dX4_has_7 rfl (lv_at hl 0 rfl) ?_
    obtain ⟨a19, c20, ho8, hcv8, h⟩ := h
    have hcc := h.1
    have h := h.2
    obtain ⟨c23, s24, hc8, hs8, h⟩ := h
    refine call_X4_iterator_V (ct_X4_iterator l) C hW hS q965 ho8 hcv8 hcc (by omega) (by omega) hc8 hs8 hkc hks hl.1 (Nat.le_of_ble_eq_true rfl) dX4_has_8 h (fun r21 G22 H locs h hW hS _ hkc hks => ?_)
    refine sh_astore_n (lv' := [(2, va_rf r21), (0, va_rf (some x0)), (1, va_rf x1)]) hx hb dX4_has_11 rfl hl (by decide) (by simp only [List.filter_cons, List.filter_nil, va_rf_cat]; rfl) (fun ls hl => ?_)
    exact hL12 _ _ _ _ h ls H locs _ _ (lv_sub hl [2, 0] rfl) hW hS hkc hks
  · have h := wif_t h c25
    refine lv_iconst (v := 1) hx hb dX4_has_5 (by decide) ?_
    exact hret _ _ _ _ _ _ _ _ dX4_has_6 hW hS hkc hks isZ_1 h
theorem ctB_X4_has (l : Launch) {fr lo : Nat} (hB1 : 14 ≤ fr) (hB2 : 240 ≤ lo) {rc : XV → (Int32 → GM → Prop) → Nat → (Option Nat) → GM → Nat → Nat → Prop} (hrc : CT_X4_has l fr lo rc) : CT_X4_has l (fr + 1) (lo + 24) (w_X4_has_B rc) := by
  intro V sz G Q x0 x1 kc ks
  refine Met.ofW (cc := cX4_has) (maxL := 5) (ret := (some .boolean)) (by decide) rfl ?_
  intro p e s m args below meth c s₁ B hml hv
  obtain ⟨rfl, hsz, hW, hK, hZ, h⟩ := hv
  subst hsz
  have hts := atoms_spec (ws := (ws_ yX4_has cX4_has 5 (some .boolean))) B.pre
  have hts : ∀ w ∈ lw_all, w.before _ s = true := fun w h => hts w (List.mem_cons_of_mem _ h)
  have key : ∃ ls : Array Slot, entryFrame m ([.ref x0, va_rf x1] : List Value).toArray 5 = F0 m 0 ls [] ∧ lv_has ls 5 [(0, va_rf (some x0)), (1, va_rf x1)] := by
    cases x1 <;> (refine ⟨_, by rw [lg_entry_eq], ?_⟩; exact lv_entry _ (Nat.le_of_ble_eq_true rfl))
  obtain ⟨ls, hfr, hl⟩ := key
  rw [hfr]
  exact wk_X4_has (hB1 := hB1) (hB2 := hB2) (hrc := hrc) Q ⟨⟨B.exec, B.bytes, hml, findClass_of_methodNamed B.named, hts⟩, hK, hZ, fun q h => Or.inr h⟩ (Nat.le_refl _) (Nat.le_refl _) G (fun v G pc ls H locs cells slots _ _ hd hW1 hS hkc hks hz hQ => W.widen (k := kc) (n := ks) (Nat.le_trans (Nat.le_add_right _ _) hkc) (Nat.le_trans (Nat.le_add_right _ _) hks) (W.zret (v := v) B.exec B.bytes B.returns hz.nar (fun t ht _ => ⟨⟨v, G, rfl, hQ, by rw [← ht] at hW1; exact hW1⟩, hS.F ht⟩) hS.2.2 hd)) x0 x1 kc ks h ls _ [] 0 0 hl hW va_S.rf (by show 0 + kc ≤ kc; omega) (by show 0 + ks ≤ ks; omega)
theorem ct_X4_has (l : Launch) : ∀ n, CT_X4_has l (14 + n * 1) (240 + n * 24) (w_X4_has n) := by
  intro n
  induction n with
  | zero =>
    intro V sz G Q x0 x1 kc ks
    refine Met.ofW (cc := cX4_has) (maxL := 5) (ret := (some .boolean)) (by decide) rfl ?_
    intro p e s m args below meth c s₁ B hml hv
    obtain ⟨rfl, hsz, hW, hK, hZ, h⟩ := hv
    exact False.elim h
  | succ n ih =>
    have h := ctB_X4_has l (fr := 14 + n * 1) (lo := 240 + n * 24) (by omega) (by omega) ih
    rw [show 14 + n * 1 + 1 = 14 + (n + 1) * 1 by omega, show 240 + n * 24 + 24 = 240 + (n + 1) * 24 by omega] at h
    exact h
def CT_X11_init (l : Launch) (fr lo : Nat) (w : XV → (GM → Prop) → Nat → Int32 → (Option Nat) → (Option Nat) → GM → Nat → Nat → Prop) : Prop := ∀ (V : XV) (sz : Nat) (G : GM) (Q : GM → Prop) (x0 : Nat) (x1 : Int32) (x2 : Option Nat) (x3 : Option Nat) (kc ks : Nat), Met l yX11_init (ws_ yX11_init cX11_init 4 none) { frames := fr, cells := kc, slots := ks, locals := lo } (va_Pc [.ref x0, .int x1, va_rf x2, va_rf x3] (fun U => U.heap.size = sz ∧ xW V (xA G sz) G U.heap ∧ xK V U ∧ xZ V (xA G sz) U U.heap ∧ w V Q x0 x1 x2 x3 G kc ks)) (va_Qv (fun (u : GM) => Q u) (fun u t => xW V (xA G sz) u t.heap) (xA G sz)) kc ks (xA G sz)
theorem call_X11_init_I {p : Program} {l : Launch} {e : Env} {R : Room} {s : State} {m : MethodId} {args : Array Value} {below : List Frame} {meth : Method} {c : Code} {H : Heap} {locs : List Loc} {cells slots : Nat} {Z : State → Prop} {A : Nat → Prop} {cc : ByteArray} {nL pc : Nat} {ls : Array Slot} {rest : List Value} {own : String} {index fr lo : Nat} {w : XV → (GM → Prop) → Nat → Int32 → (Option Nat) → (Option Nat) → GM → Nat → Nat → Prop} {V : XV} {G : GM} {o : Option Nat} {kc ks c1 s1 : Nat} {x0 : Nat} {x1 : Int32} {x2 : Option Nat} {x3 : Option Nat} (hM : CT_X11_init l fr lo w) (C : xC p m c s args cc nL own V A) (hW : xW V A G H) (hS : va_S A s.heap H locs) (hlink : Cond.methodLink own index yX11_init ∈ lw_all) (ho : o = some x0) (hRf : fr + 1 ≤ R.frames) (hRl : 8 + (4 + 11) + lo ≤ R.locals) (hc1 : c1 ≤ kc) (hs1 : s1 ≤ ks) (hkc : cells + kc ≤ R.cells) (hks : slots + ks ≤ R.slots) (hz : ls.size = nL) (hr8 : (rest.map fun v => v.category).sum ≤ 8) (hdg : decode cc pc = .ok (.invokespecial index, 3)) {Q1 : GM → Prop} (h : w V Q1 x0 x1 x2 x3 G c1 s1) (kk : ∀ (G1 : GM) (H1 : Heap) (locs1 : List Loc), Q1 G1 → xW V A G1 H1 → va_S A s.heap H1 locs1 → xFr V G G1 H H1 → (cells + c1) + (kc - c1) ≤ R.cells → (slots + s1) + (ks - s1) ≤ R.slots → W p l e R s m args below meth c H1 locs1 (cells + c1) (slots + s1) Z (F0 m (pc + 3) ls (rest))) : W p l e R s m args below meth c H locs cells slots Z (F0 m pc ls (va_rf x3 :: va_rf x2 :: .int x1 :: va_rf o :: rest)) := by
  subst ho
  exact rg_v3w (va_runI (As := [.int x1, va_rf x2, va_rf x3]) (rest := rest) C.1 (hM V H.size G Q1 x0 x1 x2 x3 c1 s1) (cwI 3 C.1.2.2.2.2 (lw_meth q1033) rfl rfl rfl (C.1.2.2.2.2 _ q94) (C.1.2.2.2.2 _ hlink) (C.1.2.2.2.2 _ q1032) rfl (by decide +kernel) ⟨hRf, hRl⟩) ⟨fun a U g mk q => by obtain ⟨q0, q1, qW, qK, qZ, qw⟩ := q; exact ⟨q0, q1, qW, xK.same (u := U) (U := U.calling g mk a) rfl qK, xZ.moved (u := U) (U := U.calling g mk a) (Vm.Alike.refl U.vm) qZ, qw⟩, fun U hU hWm => ⟨rfl, by rw [hU], by rw [hU]; exact hW.self _, C.2.1.warm hWm, xZ.call C.2.2.1 hW hS C.2.2.2 hU hWm.alike, h⟩⟩ rfl rfl hz rfl (lv_room hr8) hdg ⟨by omega, by omega⟩) hW hS C.2.2.2 (fun G1 H1 locs1 hp hW1 hS1 hF1 => kk G1 H1 locs1 hp hW1 hS1 hF1 (by omega) (by omega))
def w_X11_init (V : XV) (Q : GM → Prop) (x0 : Nat) (x1 : Int32) (x2 : Option Nat) (x3 : Option Nat) (G : GM) (kc : Nat) (ks : Nat) : Prop := ∃ c2 s3 : Nat, c2 ≤ kc ∧ s3 ≤ ks ∧ (w_X5_init V (fun G1 => gPF G1 26 (some x0) (va_rf x3) (fun G4 => Q G4)) x0 x1 x2 G c2 s3)
set_option maxRecDepth 100000 in
set_option maxHeartbeats 4000000 in
theorem wk_X11_init {p : Program} {l : Launch} {e : Env} {R : Room} {s : State} {m : MethodId} {args : Array Value} {below : List Frame} {meth : Method} {c : Code} {Z : State → Prop} {A : Nat → Prop} {V : XV} (Q : GM → Prop) (C : xC p m c s args cX11_init 4 RX11 V A) (hin : meth.name = "<init>") (hRf : 6 ≤ R.frames) (hRl : 124 ≤ R.locals) (G : GM) (hret : ∀ (G : GM) (pc : Nat) (ls : Array Slot) (H : Heap) (locs : List Loc) (cells slots : Nat) {k1 k2 : Nat}, decode cX11_init pc = .ok (.return_, 1) → xW V A G H → va_S A s.heap H locs → cells + k1 ≤ R.cells → slots + k2 ≤ R.slots → Q G → W p l e R s m args below meth c H locs cells slots Z (F0 m pc ls [])) (x0 : Nat) (x1 : Int32) (x2 : Option Nat) (x3 : Option Nat) (kc ks : Nat) : w_X11_init V Q x0 x1 x2 x3 G kc ks → ∀ (ls : Array Slot) (H : Heap) (locs : List Loc) (cells slots : Nat), lv_has ls 4 [(0, va_rf (some x0)), (1, .int x1), (2, va_rf x2), (3, va_rf x3)] → xW V A G H → va_S A s.heap H locs → cells + kc ≤ R.cells → slots + ks ≤ R.slots → W p l e R s m args below meth c H locs cells slots Z (F0 m 0 ls []) := by
  have hx := C.1.1; have hb := C.1.2.1; have hml := C.1.2.2.1; have hown := C.1.2.2.2.1; have hts := C.1.2.2.2.2
  intro h
  intro ls H locs cells slots hl hW hS hkc hks
  refine sh_aload_n hx hb dX11_init_0 rfl (lv_at hl 0 rfl) ?_
  refine lv_iload_n hx hb dX11_init_1 rfl (lv_at hl 1 rfl) ?_
  refine sh_aload_n hx hb dX11_init_2 rfl (lv_at hl 2 rfl) ?_
  obtain ⟨c2, s3, hc3, hs3, h⟩ := h
  refine call_X5_init_I (ct_X5_init l) C hW hS q1034 rfl (le_lit hRf rfl) (le_lit hRl rfl) hc3 hs3 hkc hks hl.1 (Nat.le_of_ble_eq_true rfl) dX11_init_3 h (fun G1 H locs h hW hS _ hkc hks => ?_)
  refine sh_aload_n hx hb dX11_init_6 rfl (lv_at hl 0 rfl) ?_
  refine sh_aload_n hx hb dX11_init_7 rfl (lv_at hl 3 rfl) ?_
  refine sh_putF C hW hS xFb_26 q1035 (fun _ h => h) hin rfl xFd_26 (rf_nar_o _ _) (rf_fit_o _ _) h dX11_init_8 (fun G4 H locs hW hS h => ?_)
  exact hret _ _ _ _ _ _ _ dX11_init_11 hW hS hkc hks h
theorem ct_X11_init (l : Launch) : CT_X11_init l 6 124 w_X11_init := by
  intro V sz G Q x0 x1 x2 x3 kc ks
  refine Met.ofW (cc := cX11_init) (maxL := 4) (ret := none) (by decide) rfl ?_
  intro p e s m args below meth c s₁ B hml hv
  obtain ⟨rfl, hsz, hW, hK, hZ, h⟩ := hv
  subst hsz
  have hts := atoms_spec (ws := (ws_ yX11_init cX11_init 4 none)) B.pre
  have hts : ∀ w ∈ lw_all, w.before _ s = true := fun w h => hts w (List.mem_cons_of_mem _ h)
  have key : ∃ ls : Array Slot, entryFrame m ([.ref x0, .int x1, va_rf x2, va_rf x3] : List Value).toArray 4 = F0 m 0 ls [] ∧ lv_has ls 4 [(0, va_rf (some x0)), (1, .int x1), (2, va_rf x2), (3, va_rf x3)] := by
    cases x2 <;> cases x3 <;> (refine ⟨_, by rw [lg_entry_eq], ?_⟩; exact lv_entry _ (Nat.le_of_ble_eq_true rfl))
  obtain ⟨ls, hfr, hl⟩ := key
  rw [hfr]
  exact wk_X11_init Q ⟨⟨B.exec, B.bytes, hml, findClass_of_methodNamed B.named, hts⟩, hK, hZ, fun q h => Or.inr h⟩ (name_of_methodNamed B.named B.method).1 (Nat.le_refl _) (Nat.le_refl _) G (fun G pc ls H locs cells slots _ _ hd hW1 hS hkc hks hQ => W.widen (k := kc) (n := ks) (Nat.le_trans (Nat.le_add_right _ _) hkc) (Nat.le_trans (Nat.le_add_right _ _) hks) (W.vret B.exec B.bytes B.returns (fun t ht _ => ⟨⟨G, rfl, hQ, by rw [← ht] at hW1; exact hW1⟩, hS.F ht⟩) hS.2.2 hd)) x0 x1 x2 x3 kc ks h ls _ [] 0 0 hl hW va_S.rf (by show 0 + kc ≤ kc; omega) (by show 0 + ks ≤ ks; omega)
def CT_X1_addNested (l : Launch) (fr lo : Nat) (w : XV → (Int32 → GM → Prop) → (String → GM → Prop) → Nat → Int32 → Int32 → GM → Nat → Nat → Prop) : Prop := ∀ (V : XV) (sz : Nat) (G : GM) (Q : Int32 → GM → Prop) (X : String → GM → Prop) (x0 : Nat) (x1 : Int32) (x2 : Int32) (kc ks : Nat), vx_Met l yX1_addNested (ws_ yX1_addNested cX1_addNested 5 (some .int)) { frames := fr, cells := kc, slots := ks, locals := lo } (va_Pc [.ref x0, .int x1, .int x2] (fun U => U.heap.size = sz ∧ xW V (xA G sz) G U.heap ∧ xK V U ∧ xZ V (xA G sz) U U.heap ∧ w V Q X x0 x1 x2 G kc ks)) (va_Qi (fun r (u : GM) => Q r u) (fun u t => xW V (xA G sz) u t.heap) (xA G sz)) (vx_X (fun u : String × GM => X u.1 u.2) (fun E u t => E = u.1 ∧ xW V (xA G sz) u.2 t.heap) (xA G sz)) kc ks (xA G sz)
theorem call_X1_addNested_V {p : Program} {l : Launch} {e : Env} {R : Room} {s : State} {m : MethodId} {args : Array Value} {below : List Frame} {meth : Method} {c : Code} {H : Heap} {locs : List Loc} {cells slots : Nat} {Z : State → Prop} {A : Nat → Prop} {cc : ByteArray} {nL pc : Nat} {ls : Array Slot} {rest : List Value} {own : String} {index fr lo : Nat} {w : XV → (Int32 → GM → Prop) → (String → GM → Prop) → Nat → Int32 → Int32 → GM → Nat → Nat → Prop} {V : XV} {G : GM} {o : Option Nat} {ci : Nat} {kc ks c1 s1 : Nat} {x0 : Nat} {x1 : Int32} {x2 : Int32} (hM : CT_X1_addNested l fr lo w) (C : xC p m c s args cc nL own V A) (hW : xW V A G H) (hS : va_S A s.heap H locs) (hlink : Cond.methodLink own index yX1_addNested ∈ lw_all) (ho : o = some x0) (hcv : gCi G (some x0) = some ci) (hci : ci % 64 = 0) (hRf : fr + 1 ≤ R.frames) (hRl : 8 + (5 + 11) + lo ≤ R.locals) (hc1 : c1 ≤ kc) (hs1 : s1 ≤ ks) (hkc : cells + kc ≤ R.cells) (hks : slots + ks ≤ R.slots) (hz : ls.size = nL) (hr8 : (rest.map fun v => v.category).sum ≤ 8) (hdg : decode cc pc = .ok (.invokevirtual index, 3)) {Q1 : Int32 → GM → Prop} {X1 : String → GM → Prop} (h : w V Q1 X1 x0 x1 x2 G c1 s1) (kx : ∀ (E : String) (G1 : GM) (ce : Cell) (q9 : Addr) (H1 : Heap) (locs1 : List Loc), X1 E G1 → xW V A G1 H1 → va_S A s.heap H1 locs1 → H1[q9]? = some ce → ce.vm = .none → s.vm.findClass E = some ce.cls → xFr V G G1 H H1 → vx_W p l e R s m args below meth c H1 locs1 (cells + c1) (slots + s1) Z (F0 m pc ls rest) q9) (kk : ∀ (r : Int32) (G1 : GM) (H1 : Heap) (locs1 : List Loc), Q1 r G1 → xW V A G1 H1 → va_S A s.heap H1 locs1 → xFr V G G1 H H1 → (cells + c1) + (kc - c1) ≤ R.cells → (slots + s1) + (ks - s1) ≤ R.slots → W p l e R s m args below meth c H1 locs1 (cells + c1) (slots + s1) Z (F0 m (pc + 3) ls (.int r :: rest))) : W p l e R s m args below meth c H locs cells slots Z (F0 m pc ls (.int x2 :: .int x1 :: va_rf o :: rest)) := by
  subst ho
  obtain ⟨fs, hG⟩ := gCi_of hcv
  exact rx_i3w (vx_runV (As := [.int x1, .int x2]) (rest := rest) C.1 (hM V H.size G Q1 X1 x0 x1 x2 c1 s1) (cwV 2 C.1.2.2.2.2 (lw_V hlink q958 q959 q59 q960) rfl rfl rfl (by decide +kernel) ⟨hRf, hRl⟩) ⟨fun a U g mk q => by obtain ⟨q0, q1, qW, qK, qZ, qw⟩ := q; exact ⟨q0, q1, qW, xK.same (u := U) (U := U.calling g mk a) rfl qK, xZ.moved (u := U) (U := U.calling g mk a) (Vm.Alike.refl U.vm) qZ, qw⟩, (hW.recv C.2.1 hG (r := (RX1, TX1, 6)) (by rw [hci]; rfl)), fun U hU hWm => ⟨rfl, by rw [hU], by rw [hU]; exact hW.self _, C.2.1.warm hWm, xZ.call C.2.2.1 hW hS C.2.2.2 hU hWm.alike, h⟩⟩ rfl rfl hz rfl (lv_room hr8) hdg ⟨by omega, by omega⟩) hW hS C.2.2.2 kx (fun r G1 H1 locs1 hp hW1 hS1 hF1 => kk r G1 H1 locs1 hp hW1 hS1 hF1 (by omega) (by omega))
def w_X1_addNested_36 (V : XV) (Q : Int32 → GM → Prop) (X : String → GM → Prop) (x0 : Nat) (x3 : Option Nat) (x4 : Option Nat) (y0 : Int32) (G : GM) (kc : Nat) (ks : Nat) : Prop := ∃ c1 s2 : Nat, c1 ≤ kc ∧ s2 ≤ ks ∧ (w_X1_checkState V (gNw G 5 9 xdf_X11 (kc - c1) (ks - s2) (fun q3 G4 => gGI G4 2 (some x0) (fun v5 => ∃ c7 s8 : Nat, c7 ≤ ((kc - c1) - 1) ∧ s8 ≤ ((ks - s2) - 9) ∧ (w_X11_init V (fun G6 => gRcv G6 (some x0) (fun a9 c10 => (c10 % 64 = 0) ∧ (∃ c13 s14 : Nat, c13 ≤ (((kc - c1) - 1) - c7) ∧ s14 ≤ (((ks - s2) - 9) - s8) ∧ (w_X1_put V (fun r11 G12 => Q r11 G12) a9 (some q3) G6 c13 s14)))) q3 v5 x3 x4 G4 c7 s8)))) X y0 G c1 s2)
def w_X1_addNested_35 (V : XV) (Q : Int32 → GM → Prop) (X : String → GM → Prop) (x0 : Nat) (x3 : Option Nat) (x4 : Option Nat) (G : GM) (kc : Nat) (ks : Nat) : Prop := w_X1_addNested_36 V Q X x0 x3 x4 (0 : Int32) G kc ks
def w_X1_addNested (V : XV) (Q : Int32 → GM → Prop) (X : String → GM → Prop) (x0 : Nat) (x1 : Int32) (x2 : Int32) (G : GM) (kc : Nat) (ks : Nat) : Prop := gRcv G (some x0) (fun a15 c16 => (c16 % 64 = 0) ∧ (∃ c18 s19 : Nat, c18 ≤ kc ∧ s19 ≤ ks ∧ (w_X1_composition V (fun r17 => gRcv G (some x0) (fun a20 c21 => (c21 % 64 = 0) ∧ (∃ c23 s24 : Nat, c23 ≤ (kc - c18) ∧ s24 ≤ (ks - s19) ∧ (w_X1_composition V (fun r22 => gGI G 2 (some x0) (fun v25 => if (12 : Int32) ≤ v25 then (w_X1_addNested_35 V Q X x0 r17 r22 G ((kc - c18) - c23) ((ks - s19) - s24)) else (gRcv G r22 (fun a26 c27 => (c27 % 64 = 2) ∧ (∃ c30 s31 : Nat, c30 ≤ ((kc - c18) - c23) ∧ s31 ≤ ((ks - s19) - s24) ∧ (w_X4_has 8 V (fun r28 G29 => if r28 = 0 then (w_X1_addNested_36 V Q X x0 r17 r22 (1 : Int32) G29 (((kc - c18) - c23) - c30) (((ks - s19) - s24) - s31)) else (w_X1_addNested_35 V Q X x0 r17 r22 G29 (((kc - c18) - c23) - c30) (((ks - s19) - s24) - s31))) a26 r17 G c30 s31)))))) X a20 x2 G c23 s24)))) X a15 x1 G c18 s19)))
set_option maxRecDepth 100000 in
set_option maxHeartbeats 4000000 in
theorem wk_X1_addNested {p : Program} {l : Launch} {e : Env} {R : Room} {s : State} {m : MethodId} {args : Array Value} {below : List Frame} {meth : Method} {c : Code} {Z : State → Prop} {A : Nat → Prop} {V : XV} (Q : Int32 → GM → Prop) (X : String → GM → Prop) (C : xC p m c s args cX1_addNested 5 RX1 V A) (hfl : l.stackTraces = false) (hRf : 23 ≤ R.frames) (hRl : 456 ≤ R.locals) (G : GM) (hret : ∀ (v : Int32) (G : GM) (pc : Nat) (ls : Array Slot) (H : Heap) (locs : List Loc) (cells slots : Nat) {k1 k2 : Nat}, decode cX1_addNested pc = .ok (.ireturn, 1) → xW V A G H → va_S A s.heap H locs → cells + k1 ≤ R.cells → slots + k2 ≤ R.slots → Q v G → W p l e R s m args below meth c H locs cells slots Z (F0 m pc ls [.int v])) (hxo : ∀ (E : String) (G : GM) (ce : Cell) (q : Addr) (pc : Nat) (ls : Array Slot) (H : Heap) (locs : List Loc) (cells slots : Nat) (rest : List Value), xW V A G H → va_S A s.heap H locs → X E G → H[q]? = some ce → ce.vm = .none → s.vm.findClass E = some ce.cls → cells ≤ R.cells → slots ≤ R.slots → vx_W p l e R s m args below meth c H locs cells slots Z (F0 m pc ls rest) q) (x0 : Nat) (x1 : Int32) (x2 : Int32) (kc ks : Nat) : w_X1_addNested V Q X x0 x1 x2 G kc ks → ∀ (ls : Array Slot) (H : Heap) (locs : List Loc) (cells slots : Nat), lv_has ls 5 [(0, va_rf (some x0)), (1, .int x1), (2, .int x2)] → xW V A G H → va_S A s.heap H locs → cells + kc ≤ R.cells → slots + ks ≤ R.slots → W p l e R s m args below meth c H locs cells slots Z (F0 m 0 ls []) := by
  have hx := C.1.1; have hb := C.1.2.1; have hml := C.1.2.2.1; have hown := C.1.2.2.2.1; have hts := C.1.2.2.2.2
  have hb36 : ∀ (x3 : Option Nat) (x4 : Option Nat) (y0 : Int32) (G : GM) (kc : Nat) (ks : Nat), w_X1_addNested_36 V Q X x0 x3 x4 y0 G kc ks → ∀ (ls : Array Slot) (H : Heap) (locs : List Loc) (cells slots : Nat), lv_has ls 5 [(0, va_rf (some x0)), (3, va_rf x3), (4, va_rf x4)] → xW V A G H → va_S A s.heap H locs → cells + kc ≤ R.cells → slots + ks ≤ R.slots → W p l e R s m args below meth c H locs cells slots Z (F0 m 36 ls [.int y0]) := by
    intro x3 x4 y0 G kc ks h
    intro ls H locs cells slots hl hW hS hkc hks
    obtain ⟨c1, s2, hc36, hs36, h⟩ := h
    refine call_X1_checkState_S (ct_X1_checkState l hfl) C hW hS q633 (le_lit hRf rfl) (le_lit hRl rfl) hc36 hs36 hkc hks hl.1 (Nat.le_of_ble_eq_true rfl) dX1_addNested_36 h (fun E G9 ce q9 H locs hX hW hS h1 h2 h3 _ => hxo E G9 ce q9 36 ls H locs _ _ _ hW hS hX h1 h2 h3 (by omega) (by omega)) (fun  H locs h hW hS _ hkc hks => ?_)
    refine sh_aload_n hx hb dX1_addNested_39 rfl (lv_at hl 0 rfl) ?_
    refine sh_new C hW hS (ci := 5) rfl (by decide) q1029 q1030 q94 tyX11_ok xdf_X11_ok h hkc hks dX1_addNested_40 (fun q3 G4 H hW hS h hkc hks => ?_)
    refine lv_dup hx hb dX1_addNested_43 (va_rf_cat _) ?_
    refine sh_aload_n hx hb dX1_addNested_44 rfl (lv_at hl 0 rfl) ?_
    obtain ⟨v5, h1, h⟩ := h
    refine sh_get C hW xFb_2 q203 (fun _ h => h) h1 dX1_addNested_45 ?_
    refine sh_aload_n hx hb dX1_addNested_48 rfl (lv_at hl 1 rfl) ?_
    refine sh_aload hx hb dX1_addNested_49 (lv_at hl 2 rfl) ?_
    obtain ⟨c7, s8, hc51, hs51, h⟩ := h
    refine call_X11_init_I (ct_X11_init l) C hW hS q1031 rfl (le_lit hRf rfl) (le_lit hRl rfl) hc51 hs51 hkc hks hl.1 (Nat.le_of_ble_eq_true rfl) dX1_addNested_51 h (fun G6 H locs h hW hS _ hkc hks => ?_)
    obtain ⟨a9, c10, ho54, hcv54, h⟩ := h
    have hcc := h.1
    have h := h.2
    obtain ⟨c13, s14, hc54, hs54, h⟩ := h
    refine call_X1_put_V (ct_X1_put l) C hW hS q878 ho54 hcv54 hcc (le_lit hRf rfl) (le_lit hRl rfl) hc54 hs54 hkc hks hl.1 (Nat.le_of_ble_eq_true rfl) dX1_addNested_54 h (fun r11 G12 H locs h hW hS _ hkc hks => ?_)
    exact hret _ _ _ _ _ _ _ _ dX1_addNested_57 hW hS hkc hks h
  have hb35 : ∀ (x3 : Option Nat) (x4 : Option Nat) (G : GM) (kc : Nat) (ks : Nat), w_X1_addNested_35 V Q X x0 x3 x4 G kc ks → ∀ (ls : Array Slot) (H : Heap) (locs : List Loc) (cells slots : Nat), lv_has ls 5 [(0, va_rf (some x0)), (3, va_rf x3), (4, va_rf x4)] → xW V A G H → va_S A s.heap H locs → cells + kc ≤ R.cells → slots + ks ≤ R.slots → W p l e R s m args below meth c H locs cells slots Z (F0 m 35 ls []) := by
    intro x3 x4 G kc ks h
    intro ls H locs cells slots hl hW hS hkc hks
    refine lv_iconst (v := 0) hx hb dX1_addNested_35 (by decide) ?_
    exact hb36 _ _ _ _ _ _ h ls H locs _ _ (lv_sub hl [0, 1, 2] rfl) hW hS hkc hks
  intro h
  intro ls H locs cells slots hl hW hS hkc hks
  refine sh_aload_n hx hb dX1_addNested_0 rfl (lv_at hl 0 rfl) ?_
  refine lv_iload_n hx hb dX1_addNested_1 rfl (lv_at hl 1 rfl) ?_
  obtain ⟨a15, c16, ho2, hcv2, h⟩ := h
  have hcc := h.1
  have h := h.2
  obtain ⟨c18, s19, hc2, hs2, h⟩ := h
  refine call_X1_composition_V (ct_X1_composition l hfl) C hW hS q748 ho2 hcv2 hcc (le_lit hRf rfl) (le_lit hRl rfl) hc2 hs2 hkc hks hl.1 (Nat.le_of_ble_eq_true rfl) dX1_addNested_2 h (fun E G9 ce q9 H locs hX hW hS h1 h2 h3 _ => hxo E G9 ce q9 2 ls H locs _ _ _ hW hS hX h1 h2 h3 (by omega) (by omega)) (fun r17 H locs h hW hS _ hkc hks => ?_)
  refine sh_astore_n (lv' := [(3, va_rf r17), (0, va_rf (some x0)), (1, .int x1), (2, .int x2)]) hx hb dX1_addNested_5 rfl hl (by decide) rfl (fun ls hl => ?_)
  refine sh_aload_n hx hb dX1_addNested_6 rfl (lv_at hl 1 rfl) ?_
  refine lv_iload_n hx hb dX1_addNested_7 rfl (lv_at hl 3 rfl) ?_
  obtain ⟨a20, c21, ho8, hcv8, h⟩ := h
  have hcc := h.1
  have h := h.2
  obtain ⟨c23, s24, hc8, hs8, h⟩ := h
  refine call_X1_composition_V (ct_X1_composition l hfl) C hW hS q748 ho8 hcv8 hcc (le_lit hRf rfl) (le_lit hRl rfl) hc8 hs8 hkc hks hl.1 (Nat.le_of_ble_eq_true rfl) dX1_addNested_8 h (fun E G9 ce q9 H locs hX hW hS h1 h2 h3 _ => hxo E G9 ce q9 8 ls H locs _ _ _ hW hS hX h1 h2 h3 (by omega) (by omega)) (fun r22 H locs h hW hS _ hkc hks => ?_)
  refine sh_astore (lv' := [(4, va_rf r22), (3, va_rf r17), (0, va_rf (some x0)), (1, .int x1), (2, .int x2)]) hx hb dX1_addNested_11 hl (by decide) (by simp only [List.filter_cons, List.filter_nil, va_rf_cat]; rfl) (fun ls hl => ?_)
  refine sh_aload_n hx hb dX1_addNested_13 rfl (lv_at hl 2 rfl) ?_
  obtain ⟨v25, h1, h⟩ := h
  refine sh_get C hW xFb_2 q203 (fun _ h => h) h1 dX1_addNested_14 ?_
  refine lv_bipush (v := 12) hx hb dX1_addNested_17 (by decide) ?_
  refine lv_icmp_ge (tgt := 35) hx hb dX1_addNested_19 (by decide) (fun c33 => ?_) (fun c33 => ?_)
  · have h := wif_t h c33
    exact hb35 _ _ _ _ _ h ls H locs _ _ (lv_sub hl [2, 1, 0] rfl) hW hS hkc hks
  · have h := wif_f h c33
    refine sh_aload hx hb dX1_addNested_22 (lv_at hl 0 rfl) ?_
    refine sh_aload_n hx hb dX1_addNested_24 rfl (lv_at hl 1 rfl) ?_
    obtain ⟨a26, c27, ho25, hcv25, h⟩ := h
    have hcc := h.1
    have h := h.2
    obtain ⟨c30, s31, hc25, hs25, h⟩ := h
    refine call_X4_has_V (ct_X4_has l 8) C hW hS q961 ho25 hcv25 hcc (le_lit hRf rfl) (le_lit hRl rfl) hc25 hs25 hkc hks hl.1 (Nat.le_of_ble_eq_true rfl) dX1_addNested_25 h (fun r28 G29 H locs h hW hS _ hkc hks => ?_)
    refine lv_if_ne (tgt := 35) hx hb dX1_addNested_28 (by decide) (fun c32 => ?_) (fun c32 => ?_)
    · have h := wif_f h c32
      exact hb35 _ _ _ _ _ h ls H locs _ _ (lv_sub hl [2, 1, 0] rfl) hW hS hkc hks
    · have h := wif_t h c32
      refine lv_iconst (v := 1) hx hb dX1_addNested_31 (by decide) ?_
      refine lv_goto (tgt := 36) hx hb dX1_addNested_32 (by decide) ?_
      exact hb36 _ _ _ _ _ _ h ls H locs _ _ (lv_sub hl [2, 1, 0] rfl) hW hS hkc hks
theorem ct_X1_addNested (l : Launch) (hfl : l.stackTraces = false) : CT_X1_addNested l 23 456 w_X1_addNested := by
  intro V sz G Q X x0 x1 x2 kc ks
  refine vx_ofW (cc := cX1_addNested) (maxL := 5) (ret := (some .int)) (by decide) rfl ?_
  intro p e s m args below meth c s₁ B hml hext hv
  obtain ⟨rfl, hsz, hW, hK, hZ, h⟩ := hv
  subst hsz
  have hts := atoms_spec (ws := (ws_ yX1_addNested cX1_addNested 5 (some .int))) B.pre
  have hts : ∀ w ∈ lw_all, w.before _ s = true := fun w h => hts w (List.mem_cons_of_mem _ h)
  have hl := lv_entry ([.ref x0, .int x1, .int x2]) (n := 5) (Nat.le_of_ble_eq_true rfl)
  rw [lg_entry_eq]
  generalize (lg_sl ([.ref x0, .int x1, .int x2]) ++ List.replicate (5 - (lg_sl ([.ref x0, .int x1, .int x2])).length) Slot.unset).toArray = ls at hl ⊢
  exact wk_X1_addNested Q X ⟨⟨B.exec, B.bytes, hml, findClass_of_methodNamed B.named, hts⟩, hK, hZ, fun q h => Or.inr h⟩ hfl (Nat.le_refl _) (Nat.le_refl _) G (fun v G pc ls H locs cells slots _ _ hd hW1 hS hkc hks hQ => W.widen (k := kc) (n := ks) (Nat.le_trans (Nat.le_add_right _ _) hkc) (Nat.le_trans (Nat.le_add_right _ _) hks) (vx_ret (W.iret (v := v) B.exec B.bytes B.returns (fun t ht _ => ⟨⟨v, G, rfl, hQ, by rw [← ht] at hW1; exact hW1⟩, hS.F ht⟩) hS.2.2 hd))) (fun E G9 ce q pc ls H locs cells slots rest hW1 hS hX h1 h2 h3 hc hs => vx_out (fun x hx => absurd (hext x hx) id) B.notSynchronized h1 h2 h3 (fun t ht _ => ⟨(E, G9), hX, ⟨rfl, by rw [← ht] at hW1; exact hW1⟩, hS.F ht⟩) hS.2.2 hc hs) x0 x1 x2 kc ks h ls _ [] 0 0 hl hW va_S.rf (by show 0 + kc ≤ kc; omega) (by show 0 + ks ≤ ks; omega)
def CT_X0_addNested (l : Launch) (fr lo : Nat) (w : XV → (Int32 → GM → Prop) → (Option Nat) → Int32 → Int32 → (Option Nat) → GM → Nat → Nat → Prop) : Prop := ∀ (V : XV) (sz : Nat) (G : GM) (Q : Int32 → GM → Prop) (x0 : Option Nat) (x1 : Int32) (x2 : Int32) (x3 : Option Nat) (kc ks : Nat), Met l yX0_addNested (wsW_ yX0_addNested cX0_addNested 5 (some .int) [(0, 10, 13, 19), (0, 10, 17, 13)]) { frames := fr, cells := kc, slots := ks, locals := lo } (va_Pc [va_rf x0, .int x1, .int x2, va_rf x3] (fun U => U.heap.size = sz ∧ xW V (xA G sz) G U.heap ∧ xK V U ∧ xZ V (xA G sz) U U.heap ∧ w V Q x0 x1 x2 x3 G kc ks)) (va_Qi (fun r (u : GM) => Q r u) (fun u t => xW V (xA G sz) u t.heap) (xA G sz)) kc ks (xA G sz)
def w_X0_addNested (V : XV) (Q : Int32 → GM → Prop) (x0 : Option Nat) (x1 : Int32) (x2 : Int32) (x3 : Option Nat) (G : GM) (kc : Nat) (ks : Nat) : Prop := gRcv G x0 (fun a1 c2 => (c2 % 64 = 0) ∧ (∃ c5 s6 : Nat, c5 ≤ kc ∧ s6 ≤ ks ∧ (w_X1_addNested V (fun r3 G4 => gJS G4 1 x3 (0 : Int32) (r3.toInt64) (fun G7 => Q (0 : Int32) G7)) (fun E G9 => if E = "java/lang/IndexOutOfBoundsException" then Q (1 : Int32) G9 else (if E = "java/lang/IllegalStateException" then Q (2 : Int32) G9 else (False))) a1 x1 x2 G c5 s6)))
set_option maxRecDepth 100000 in
set_option maxHeartbeats 4000000 in
theorem wk_X0_addNested {p : Program} {l : Launch} {e : Env} {R : Room} {s : State} {m : MethodId} {args : Array Value} {below : List Frame} {meth : Method} {c : Code} {Z : State → Prop} {A : Nat → Prop} {V : XV} (Q : Int32 → GM → Prop) (C : xC p m c s args cX0_addNested 5 RX0 V A) (hfl : l.stackTraces = false) (htab : c.exceptionTable.toList = tableOf [(0, 10, 13, 19), (0, 10, 17, 13)]) (hRf : 24 ≤ R.frames) (hRl : 480 ≤ R.locals) (G : GM) (hret : ∀ (v : Int32) (G : GM) (pc : Nat) (ls : Array Slot) (H : Heap) (locs : List Loc) (cells slots : Nat) {k1 k2 : Nat}, decode cX0_addNested pc = .ok (.ireturn, 1) → xW V A G H → va_S A s.heap H locs → cells + k1 ≤ R.cells → slots + k2 ≤ R.slots → Q v G → W p l e R s m args below meth c H locs cells slots Z (F0 m pc ls [.int v])) (x0 : Option Nat) (x1 : Int32) (x2 : Int32) (x3 : Option Nat) (kc ks : Nat) : w_X0_addNested V Q x0 x1 x2 x3 G kc ks → ∀ (ls : Array Slot) (H : Heap) (locs : List Loc) (cells slots : Nat), lv_has ls 5 [(0, va_rf x0), (1, .int x1), (2, .int x2), (3, va_rf x3)] → xW V A G H → va_S A s.heap H locs → cells + kc ≤ R.cells → slots + ks ≤ R.slots → W p l e R s m args below meth c H locs cells slots Z (F0 m 0 ls []) := by
  have hx := C.1.1; have hb := C.1.2.1; have hml := C.1.2.2.1; have hown := C.1.2.2.2.1; have hts := C.1.2.2.2.2
  intro h
  intro ls H locs cells slots hl hW hS hkc hks
  refine sh_aload_n hx hb dX0_addNested_0 rfl (lv_at hl 3 rfl) ?_
  refine lv_iconst (v := 0) hx hb dX0_addNested_1 (by decide) ?_
  refine sh_aload_n hx hb dX0_addNested_2 rfl (lv_at hl 0 rfl) ?_
  refine lv_iload_n hx hb dX0_addNested_3 rfl (lv_at hl 1 rfl) ?_
  refine lv_iload_n hx hb dX0_addNested_4 rfl (lv_at hl 2 rfl) ?_
  obtain ⟨a1, c2, ho5, hcv5, h⟩ := h
  have hcc := h.1
  have h := h.2
  obtain ⟨c5, s6, hc5, hs5, h⟩ := h
  refine call_X1_addNested_V (ct_X1_addNested l hfl) C hW hS q957 ho5 hcv5 hcc (le_lit hRf rfl) (le_lit hRl rfl) hc5 hs5 hkc hks hl.1 (by simp only [List.map_cons, List.map_nil, va_rf_cat]; exact Nat.le_of_ble_eq_true rfl) dX0_addNested_5 h (fun E G9 ce q9 H locs hX hW hS h1 h2 h3 _ => by
      by_cases c900 : E = "java/lang/IndexOutOfBoundsException"
      · have hX := wif_t hX c900
        subst c900
        refine vx_catch hown [] ⟨0, 10, 13, 19⟩ [⟨0, 10, 17, 13⟩] (htab.trans rfl) (fun z hz => absurd hz List.not_mem_nil) rfl (by decide) (hts _ q740) (va_Nw.use rfl (C.2.1.2.2.1 _ q757 rfl)) h1 h2 h3 ?_
        refine sh_astore (lv' := [(4, va_rf (some q9)), (0, va_rf x0), (1, .int x1), (2, .int x2), (3, va_rf x3)]) hx hb dX0_addNested_13 hl (by decide) (by simp only [List.filter_cons, List.filter_nil, va_rf_cat]; rfl) (fun ls hl => ?_)
        refine lv_iconst (v := 1) hx hb dX0_addNested_15 (by decide) ?_
        exact hret _ _ _ _ _ _ _ _ (k1 := 0) (k2 := 0) dX0_addNested_16 hW hS (by omega) (by omega) hX
      have hX := wif_f hX c900
      by_cases c901 : E = "java/lang/IllegalStateException"
      · have hX := wif_t hX c901
        subst c901
        refine vx_catch hown [⟨0, 10, 13, 19⟩] ⟨0, 10, 17, 13⟩ [] (htab.trans rfl) (by intro z hz; simp only [List.mem_cons, List.not_mem_nil, or_false] at hz; rcases hz with rfl <;> first | (exact Or.inr ⟨by decide, "java/lang/IndexOutOfBoundsException", hts _ q740, C.2.1.2.2.2.2.2.2.1 ("java/lang/IllegalStateException", "java/lang/IndexOutOfBoundsException") (by decide)⟩)) rfl (by decide) (hts _ q628) (va_Nw.use rfl (C.2.1.2.2.1 _ q638 rfl)) h1 h2 h3 ?_
        refine sh_astore (lv' := [(4, va_rf (some q9)), (0, va_rf x0), (1, .int x1), (2, .int x2), (3, va_rf x3)]) hx hb dX0_addNested_17 hl (by decide) (by simp only [List.filter_cons, List.filter_nil, va_rf_cat]; rfl) (fun ls hl => ?_)
        refine lv_iconst (v := 2) hx hb dX0_addNested_19 (by decide) ?_
        exact hret _ _ _ _ _ _ _ _ (k1 := 0) (k2 := 0) dX0_addNested_20 hW hS (by omega) (by omega) hX
      have hX := wif_f hX c901
      exact False.elim hX) (fun r3 G4 H locs h hW hS _ hkc hks => ?_)
  refine lv_i2l hx hb dX0_addNested_8 rfl ?_
  refine sh_last C hW hS h dX0_addNested_9 (fun G7 H locs hW hS h => ?_)
  refine lv_goto (tgt := 21) hx hb dX0_addNested_10 (by decide) ?_
  refine lv_iconst (v := 0) hx hb dX0_addNested_21 (by decide) ?_
  exact hret _ _ _ _ _ _ _ _ dX0_addNested_22 hW hS hkc hks h
theorem ct_X0_addNested (l : Launch) (hfl : l.stackTraces = false) : CT_X0_addNested l 24 480 w_X0_addNested := by
  intro V sz G Q x0 x1 x2 x3 kc ks
  refine gx_ofWH (cc := cX0_addNested) (maxL := 5) (ret := (some .int)) (hh := [(0, 10, 13, 19), (0, 10, 17, 13)]) (by decide) rfl ?_
  intro p e s m args below meth c s₁ B hml htab hv
  obtain ⟨rfl, hsz, hW, hK, hZ, h⟩ := hv
  subst hsz
  have hts := atoms_spec (ws := (wsW_ yX0_addNested cX0_addNested 5 (some .int) [(0, 10, 13, 19), (0, 10, 17, 13)])) B.pre
  have hts : ∀ w ∈ lw_all, w.before _ s = true := fun w h => hts w (List.mem_cons_of_mem _ h)
  have key : ∃ ls : Array Slot, entryFrame m ([va_rf x0, .int x1, .int x2, va_rf x3] : List Value).toArray 5 = F0 m 0 ls [] ∧ lv_has ls 5 [(0, va_rf x0), (1, .int x1), (2, .int x2), (3, va_rf x3)] := by
    cases x0 <;> cases x3 <;> (refine ⟨_, by rw [lg_entry_eq], ?_⟩; exact lv_entry _ (Nat.le_of_ble_eq_true rfl))
  obtain ⟨ls, hfr, hl⟩ := key
  rw [hfr]
  exact wk_X0_addNested Q ⟨⟨B.exec, B.bytes, hml, findClass_of_methodNamed B.named, hts⟩, hK, hZ, fun q h => Or.inr h⟩ hfl htab (Nat.le_refl _) (Nat.le_refl _) G (fun v G pc ls H locs cells slots _ _ hd hW1 hS hkc hks hQ => W.widen (k := kc) (n := ks) (Nat.le_trans (Nat.le_add_right _ _) hkc) (Nat.le_trans (Nat.le_add_right _ _) hks) (W.iret (v := v) B.exec B.bytes B.returns (fun t ht _ => ⟨⟨v, G, rfl, hQ, by rw [← ht] at hW1; exact hW1⟩, hS.F ht⟩) hS.2.2 hd)) x0 x1 x2 x3 kc ks h ls _ [] 0 0 hl hW va_S.rf (by show 0 + kc ≤ kc; omega) (by show 0 + ks ≤ ks; omega)
def CT_X12_init (l : Launch) (fr lo : Nat) (w : XV → (GM → Prop) → Nat → Int32 → (Option Nat) → GM → Nat → Nat → Prop) : Prop := ∀ (V : XV) (sz : Nat) (G : GM) (Q : GM → Prop) (x0 : Nat) (x1 : Int32) (x2 : Option Nat) (kc ks : Nat), Met l yX12_init (ws_ yX12_init cX12_init 3 none) { frames := fr, cells := kc, slots := ks, locals := lo } (va_Pc [.ref x0, .int x1, va_rf x2] (fun U => U.heap.size = sz ∧ xW V (xA G sz) G U.heap ∧ xK V U ∧ xZ V (xA G sz) U U.heap ∧ w V Q x0 x1 x2 G kc ks)) (va_Qv (fun (u : GM) => Q u) (fun u t => xW V (xA G sz) u t.heap) (xA G sz)) kc ks (xA G sz)
theorem call_X12_init_I {p : Program} {l : Launch} {e : Env} {R : Room} {s : State} {m : MethodId} {args : Array Value} {below : List Frame} {meth : Method} {c : Code} {H : Heap} {locs : List Loc} {cells slots : Nat} {Z : State → Prop} {A : Nat → Prop} {cc : ByteArray} {nL pc : Nat} {ls : Array Slot} {rest : List Value} {own : String} {index fr lo : Nat} {w : XV → (GM → Prop) → Nat → Int32 → (Option Nat) → GM → Nat → Nat → Prop} {V : XV} {G : GM} {o : Option Nat} {kc ks c1 s1 : Nat} {x0 : Nat} {x1 : Int32} {x2 : Option Nat} (hM : CT_X12_init l fr lo w) (C : xC p m c s args cc nL own V A) (hW : xW V A G H) (hS : va_S A s.heap H locs) (hlink : Cond.methodLink own index yX12_init ∈ lw_all) (ho : o = some x0) (hRf : fr + 1 ≤ R.frames) (hRl : 8 + (3 + 11) + lo ≤ R.locals) (hc1 : c1 ≤ kc) (hs1 : s1 ≤ ks) (hkc : cells + kc ≤ R.cells) (hks : slots + ks ≤ R.slots) (hz : ls.size = nL) (hr8 : (rest.map fun v => v.category).sum ≤ 8) (hdg : decode cc pc = .ok (.invokespecial index, 3)) {Q1 : GM → Prop} (h : w V Q1 x0 x1 x2 G c1 s1) (kk : ∀ (G1 : GM) (H1 : Heap) (locs1 : List Loc), Q1 G1 → xW V A G1 H1 → va_S A s.heap H1 locs1 → xFr V G G1 H H1 → (cells + c1) + (kc - c1) ≤ R.cells → (slots + s1) + (ks - s1) ≤ R.slots → W p l e R s m args below meth c H1 locs1 (cells + c1) (slots + s1) Z (F0 m (pc + 3) ls (rest))) : W p l e R s m args below meth c H locs cells slots Z (F0 m pc ls (va_rf x2 :: .int x1 :: va_rf o :: rest)) := by
  subst ho
  exact rg_v3w (va_runI (As := [.int x1, va_rf x2]) (rest := rest) C.1 (hM V H.size G Q1 x0 x1 x2 c1 s1) (cwI 2 C.1.2.2.2.2 (lw_meth q1059) rfl rfl rfl (C.1.2.2.2.2 _ q95) (C.1.2.2.2.2 _ hlink) (C.1.2.2.2.2 _ q1058) rfl (by decide +kernel) ⟨hRf, hRl⟩) ⟨fun a U g mk q => by obtain ⟨q0, q1, qW, qK, qZ, qw⟩ := q; exact ⟨q0, q1, qW, xK.same (u := U) (U := U.calling g mk a) rfl qK, xZ.moved (u := U) (U := U.calling g mk a) (Vm.Alike.refl U.vm) qZ, qw⟩, fun U hU hWm => ⟨rfl, by rw [hU], by rw [hU]; exact hW.self _, C.2.1.warm hWm, xZ.call C.2.2.1 hW hS C.2.2.2 hU hWm.alike, h⟩⟩ rfl rfl hz rfl (lv_room hr8) hdg ⟨by omega, by omega⟩) hW hS C.2.2.2 (fun G1 H1 locs1 hp hW1 hS1 hF1 => kk G1 H1 locs1 hp hW1 hS1 hF1 (by omega) (by omega))
def w_X12_init (V : XV) (Q : GM → Prop) (x0 : Nat) (x1 : Int32) (x2 : Option Nat) (G : GM) (kc : Nat) (ks : Nat) : Prop := ∃ c2 s3 : Nat, c2 ≤ kc ∧ s3 ≤ ks ∧ (w_X5_init V (fun G1 => Q G1) x0 x1 x2 G c2 s3)
set_option maxRecDepth 100000 in
set_option maxHeartbeats 4000000 in
theorem wk_X12_init {p : Program} {l : Launch} {e : Env} {R : Room} {s : State} {m : MethodId} {args : Array Value} {below : List Frame} {meth : Method} {c : Code} {Z : State → Prop} {A : Nat → Prop} {V : XV} (Q : GM → Prop) (C : xC p m c s args cX12_init 3 RX12 V A) (hin : meth.name = "<init>") (hRf : 6 ≤ R.frames) (hRl : 124 ≤ R.locals) (G : GM) (hret : ∀ (G : GM) (pc : Nat) (ls : Array Slot) (H : Heap) (locs : List Loc) (cells slots : Nat) {k1 k2 : Nat}, decode cX12_init pc = .ok (.return_, 1) → xW V A G H → va_S A s.heap H locs → cells + k1 ≤ R.cells → slots + k2 ≤ R.slots → Q G → W p l e R s m args below meth c H locs cells slots Z (F0 m pc ls [])) (x0 : Nat) (x1 : Int32) (x2 : Option Nat) (kc ks : Nat) : w_X12_init V Q x0 x1 x2 G kc ks → ∀ (ls : Array Slot) (H : Heap) (locs : List Loc) (cells slots : Nat), lv_has ls 3 [(0, va_rf (some x0)), (1, .int x1), (2, va_rf x2)] → xW V A G H → va_S A s.heap H locs → cells + kc ≤ R.cells → slots + ks ≤ R.slots → W p l e R s m args below meth c H locs cells slots Z (F0 m 0 ls []) := by
  have hx := C.1.1; have hb := C.1.2.1; have hml := C.1.2.2.1; have hown := C.1.2.2.2.1; have hts := C.1.2.2.2.2
  intro h
  intro ls H locs cells slots hl hW hS hkc hks
  refine sh_aload_n hx hb dX12_init_0 rfl (lv_at hl 0 rfl) ?_
  refine lv_iload_n hx hb dX12_init_1 rfl (lv_at hl 1 rfl) ?_
  refine sh_aload_n hx hb dX12_init_2 rfl (lv_at hl 2 rfl) ?_
  obtain ⟨c2, s3, hc3, hs3, h⟩ := h
  refine call_X5_init_I (ct_X5_init l) C hW hS q1060 rfl (le_lit hRf rfl) (le_lit hRl rfl) hc3 hs3 hkc hks hl.1 (Nat.le_of_ble_eq_true rfl) dX12_init_3 h (fun G1 H locs h hW hS _ hkc hks => ?_)
  exact hret _ _ _ _ _ _ _ dX12_init_6 hW hS hkc hks h
theorem ct_X12_init (l : Launch) : CT_X12_init l 6 124 w_X12_init := by
  intro V sz G Q x0 x1 x2 kc ks
  refine Met.ofW (cc := cX12_init) (maxL := 3) (ret := none) (by decide) rfl ?_
  intro p e s m args below meth c s₁ B hml hv
  obtain ⟨rfl, hsz, hW, hK, hZ, h⟩ := hv
  subst hsz
  have hts := atoms_spec (ws := (ws_ yX12_init cX12_init 3 none)) B.pre
  have hts : ∀ w ∈ lw_all, w.before _ s = true := fun w h => hts w (List.mem_cons_of_mem _ h)
  have key : ∃ ls : Array Slot, entryFrame m ([.ref x0, .int x1, va_rf x2] : List Value).toArray 3 = F0 m 0 ls [] ∧ lv_has ls 3 [(0, va_rf (some x0)), (1, .int x1), (2, va_rf x2)] := by
    cases x2 <;> (refine ⟨_, by rw [lg_entry_eq], ?_⟩; exact lv_entry _ (Nat.le_of_ble_eq_true rfl))
  obtain ⟨ls, hfr, hl⟩ := key
  rw [hfr]
  exact wk_X12_init Q ⟨⟨B.exec, B.bytes, hml, findClass_of_methodNamed B.named, hts⟩, hK, hZ, fun q h => Or.inr h⟩ (name_of_methodNamed B.named B.method).1 (Nat.le_refl _) (Nat.le_refl _) G (fun G pc ls H locs cells slots _ _ hd hW1 hS hkc hks hQ => W.widen (k := kc) (n := ks) (Nat.le_trans (Nat.le_add_right _ _) hkc) (Nat.le_trans (Nat.le_add_right _ _) hks) (W.vret B.exec B.bytes B.returns (fun t ht _ => ⟨⟨G, rfl, hQ, by rw [← ht] at hW1; exact hW1⟩, hS.F ht⟩) hS.2.2 hd)) x0 x1 x2 kc ks h ls _ [] 0 0 hl hW va_S.rf (by show 0 + kc ≤ kc; omega) (by show 0 + ks ≤ ks; omega)
def CT_X1_addNull (l : Launch) (fr lo : Nat) (w : XV → (Int32 → GM → Prop) → (String → GM → Prop) → Nat → Int32 → GM → Nat → Nat → Prop) : Prop := ∀ (V : XV) (sz : Nat) (G : GM) (Q : Int32 → GM → Prop) (X : String → GM → Prop) (x0 : Nat) (x1 : Int32) (kc ks : Nat), vx_Met l yX1_addNull (ws_ yX1_addNull cX1_addNull 3 (some .int)) { frames := fr, cells := kc, slots := ks, locals := lo } (va_Pc [.ref x0, .int x1] (fun U => U.heap.size = sz ∧ xW V (xA G sz) G U.heap ∧ xK V U ∧ xZ V (xA G sz) U U.heap ∧ w V Q X x0 x1 G kc ks)) (va_Qi (fun r (u : GM) => Q r u) (fun u t => xW V (xA G sz) u t.heap) (xA G sz)) (vx_X (fun u : String × GM => X u.1 u.2) (fun E u t => E = u.1 ∧ xW V (xA G sz) u.2 t.heap) (xA G sz)) kc ks (xA G sz)
theorem call_X1_addNull_V {p : Program} {l : Launch} {e : Env} {R : Room} {s : State} {m : MethodId} {args : Array Value} {below : List Frame} {meth : Method} {c : Code} {H : Heap} {locs : List Loc} {cells slots : Nat} {Z : State → Prop} {A : Nat → Prop} {cc : ByteArray} {nL pc : Nat} {ls : Array Slot} {rest : List Value} {own : String} {index fr lo : Nat} {w : XV → (Int32 → GM → Prop) → (String → GM → Prop) → Nat → Int32 → GM → Nat → Nat → Prop} {V : XV} {G : GM} {o : Option Nat} {ci : Nat} {kc ks c1 s1 : Nat} {x0 : Nat} {x1 : Int32} (hM : CT_X1_addNull l fr lo w) (C : xC p m c s args cc nL own V A) (hW : xW V A G H) (hS : va_S A s.heap H locs) (hlink : Cond.methodLink own index yX1_addNull ∈ lw_all) (ho : o = some x0) (hcv : gCi G (some x0) = some ci) (hci : ci % 64 = 0) (hRf : fr + 1 ≤ R.frames) (hRl : 8 + (3 + 11) + lo ≤ R.locals) (hc1 : c1 ≤ kc) (hs1 : s1 ≤ ks) (hkc : cells + kc ≤ R.cells) (hks : slots + ks ≤ R.slots) (hz : ls.size = nL) (hr8 : (rest.map fun v => v.category).sum ≤ 8) (hdg : decode cc pc = .ok (.invokevirtual index, 3)) {Q1 : Int32 → GM → Prop} {X1 : String → GM → Prop} (h : w V Q1 X1 x0 x1 G c1 s1) (kx : ∀ (E : String) (G1 : GM) (ce : Cell) (q9 : Addr) (H1 : Heap) (locs1 : List Loc), X1 E G1 → xW V A G1 H1 → va_S A s.heap H1 locs1 → H1[q9]? = some ce → ce.vm = .none → s.vm.findClass E = some ce.cls → xFr V G G1 H H1 → vx_W p l e R s m args below meth c H1 locs1 (cells + c1) (slots + s1) Z (F0 m pc ls rest) q9) (kk : ∀ (r : Int32) (G1 : GM) (H1 : Heap) (locs1 : List Loc), Q1 r G1 → xW V A G1 H1 → va_S A s.heap H1 locs1 → xFr V G G1 H H1 → (cells + c1) + (kc - c1) ≤ R.cells → (slots + s1) + (ks - s1) ≤ R.slots → W p l e R s m args below meth c H1 locs1 (cells + c1) (slots + s1) Z (F0 m (pc + 3) ls (.int r :: rest))) : W p l e R s m args below meth c H locs cells slots Z (F0 m pc ls (.int x1 :: va_rf o :: rest)) := by
  subst ho
  obtain ⟨fs, hG⟩ := gCi_of hcv
  exact rx_i3w (vx_runV (As := [.int x1]) (rest := rest) C.1 (hM V H.size G Q1 X1 x0 x1 c1 s1) (cwV 1 C.1.2.2.2.2 (lw_V hlink q1052 q1053 q59 q1054) rfl rfl rfl (by decide +kernel) ⟨hRf, hRl⟩) ⟨fun a U g mk q => by obtain ⟨q0, q1, qW, qK, qZ, qw⟩ := q; exact ⟨q0, q1, qW, xK.same (u := U) (U := U.calling g mk a) rfl qK, xZ.moved (u := U) (U := U.calling g mk a) (Vm.Alike.refl U.vm) qZ, qw⟩, (hW.recv C.2.1 hG (r := (RX1, TX1, 6)) (by rw [hci]; rfl)), fun U hU hWm => ⟨rfl, by rw [hU], by rw [hU]; exact hW.self _, C.2.1.warm hWm, xZ.call C.2.2.1 hW hS C.2.2.2 hU hWm.alike, h⟩⟩ rfl rfl hz rfl (lv_room hr8) hdg ⟨by omega, by omega⟩) hW hS C.2.2.2 kx (fun r G1 H1 locs1 hp hW1 hS1 hF1 => kk r G1 H1 locs1 hp hW1 hS1 hF1 (by omega) (by omega))
def w_X1_addNull_20 (V : XV) (Q : Int32 → GM → Prop) (X : String → GM → Prop) (x0 : Nat) (x2 : Option Nat) (y0 : Int32) (G : GM) (kc : Nat) (ks : Nat) : Prop := ∃ c1 s2 : Nat, c1 ≤ kc ∧ s2 ≤ ks ∧ (w_X1_checkState V (gNw G 6 8 xdf_X12 (kc - c1) (ks - s2) (fun q3 G4 => gGI G4 2 (some x0) (fun v5 => ∃ c7 s8 : Nat, c7 ≤ ((kc - c1) - 1) ∧ s8 ≤ ((ks - s2) - 8) ∧ (w_X12_init V (fun G6 => gRcv G6 (some x0) (fun a9 c10 => (c10 % 64 = 0) ∧ (∃ c13 s14 : Nat, c13 ≤ (((kc - c1) - 1) - c7) ∧ s14 ≤ (((ks - s2) - 8) - s8) ∧ (w_X1_put V (fun r11 G12 => Q r11 G12) a9 (some q3) G6 c13 s14)))) q3 v5 x2 G4 c7 s8)))) X y0 G c1 s2)
def w_X1_addNull (V : XV) (Q : Int32 → GM → Prop) (X : String → GM → Prop) (x0 : Nat) (x1 : Int32) (G : GM) (kc : Nat) (ks : Nat) : Prop := gRcv G (some x0) (fun a15 c16 => (c16 % 64 = 0) ∧ (∃ c18 s19 : Nat, c18 ≤ kc ∧ s19 ≤ ks ∧ (w_X1_composition V (fun r17 => gGI G 2 (some x0) (fun v20 => if (12 : Int32) ≤ v20 then (w_X1_addNull_20 V Q X x0 r17 (0 : Int32) G (kc - c18) (ks - s19)) else (w_X1_addNull_20 V Q X x0 r17 (1 : Int32) G (kc - c18) (ks - s19)))) X a15 x1 G c18 s19)))
set_option maxRecDepth 100000 in
set_option maxHeartbeats 4000000 in
theorem wk_X1_addNull {p : Program} {l : Launch} {e : Env} {R : Room} {s : State} {m : MethodId} {args : Array Value} {below : List Frame} {meth : Method} {c : Code} {Z : State → Prop} {A : Nat → Prop} {V : XV} (Q : Int32 → GM → Prop) (X : String → GM → Prop) (C : xC p m c s args cX1_addNull 3 RX1 V A) (hfl : l.stackTraces = false) (hRf : 14 ≤ R.frames) (hRl : 241 ≤ R.locals) (G : GM) (hret : ∀ (v : Int32) (G : GM) (pc : Nat) (ls : Array Slot) (H : Heap) (locs : List Loc) (cells slots : Nat) {k1 k2 : Nat}, decode cX1_addNull pc = .ok (.ireturn, 1) → xW V A G H → va_S A s.heap H locs → cells + k1 ≤ R.cells → slots + k2 ≤ R.slots → Q v G → W p l e R s m args below meth c H locs cells slots Z (F0 m pc ls [.int v])) (hxo : ∀ (E : String) (G : GM) (ce : Cell) (q : Addr) (pc : Nat) (ls : Array Slot) (H : Heap) (locs : List Loc) (cells slots : Nat) (rest : List Value), xW V A G H → va_S A s.heap H locs → X E G → H[q]? = some ce → ce.vm = .none → s.vm.findClass E = some ce.cls → cells ≤ R.cells → slots ≤ R.slots → vx_W p l e R s m args below meth c H locs cells slots Z (F0 m pc ls rest) q) (x0 : Nat) (x1 : Int32) (kc ks : Nat) : w_X1_addNull V Q X x0 x1 G kc ks → ∀ (ls : Array Slot) (H : Heap) (locs : List Loc) (cells slots : Nat), lv_has ls 3 [(0, va_rf (some x0)), (1, .int x1)] → xW V A G H → va_S A s.heap H locs → cells + kc ≤ R.cells → slots + ks ≤ R.slots → W p l e R s m args below meth c H locs cells slots Z (F0 m 0 ls []) := by
  have hx := C.1.1; have hb := C.1.2.1; have hml := C.1.2.2.1; have hown := C.1.2.2.2.1; have hts := C.1.2.2.2.2
  have hb20 : ∀ (x2 : Option Nat) (y0 : Int32) (G : GM) (kc : Nat) (ks : Nat), w_X1_addNull_20 V Q X x0 x2 y0 G kc ks → ∀ (ls : Array Slot) (H : Heap) (locs : List Loc) (cells slots : Nat), lv_has ls 3 [(0, va_rf (some x0)), (2, va_rf x2)] → xW V A G H → va_S A s.heap H locs → cells + kc ≤ R.cells → slots + ks ≤ R.slots → W p l e R s m args below meth c H locs cells slots Z (F0 m 20 ls [.int y0]) := by
    intro x2 y0 G kc ks h
    intro ls H locs cells slots hl hW hS hkc hks
    obtain ⟨c1, s2, hc20, hs20, h⟩ := h
    refine call_X1_checkState_S (ct_X1_checkState l hfl) C hW hS q633 (le_lit hRf rfl) (le_lit hRl rfl) hc20 hs20 hkc hks hl.1 (Nat.le_of_ble_eq_true rfl) dX1_addNull_20 h (fun E G9 ce q9 H locs hX hW hS h1 h2 h3 _ => hxo E G9 ce q9 20 ls H locs _ _ _ hW hS hX h1 h2 h3 (by omega) (by omega)) (fun  H locs h hW hS _ hkc hks => ?_)
    refine sh_aload_n hx hb dX1_addNull_23 rfl (lv_at hl 0 rfl) ?_
    refine sh_new C hW hS (ci := 6) rfl (by decide) q1055 q1056 q95 tyX12_ok xdf_X12_ok h hkc hks dX1_addNull_24 (fun q3 G4 H hW hS h hkc hks => ?_)
    refine lv_dup hx hb dX1_addNull_27 (va_rf_cat _) ?_
    refine sh_aload_n hx hb dX1_addNull_28 rfl (lv_at hl 0 rfl) ?_
    obtain ⟨v5, h1, h⟩ := h
    refine sh_get C hW xFb_2 q203 (fun _ h => h) h1 dX1_addNull_29 ?_
    refine sh_aload_n hx hb dX1_addNull_32 rfl (lv_at hl 1 rfl) ?_
    obtain ⟨c7, s8, hc33, hs33, h⟩ := h
    refine call_X12_init_I (ct_X12_init l) C hW hS q1057 rfl (le_lit hRf rfl) (le_lit hRl rfl) hc33 hs33 hkc hks hl.1 (Nat.le_of_ble_eq_true rfl) dX1_addNull_33 h (fun G6 H locs h hW hS _ hkc hks => ?_)
    obtain ⟨a9, c10, ho36, hcv36, h⟩ := h
    have hcc := h.1
    have h := h.2
    obtain ⟨c13, s14, hc36, hs36, h⟩ := h
    refine call_X1_put_V (ct_X1_put l) C hW hS q878 ho36 hcv36 hcc (le_lit hRf rfl) (le_lit hRl rfl) hc36 hs36 hkc hks hl.1 (Nat.le_of_ble_eq_true rfl) dX1_addNull_36 h (fun r11 G12 H locs h hW hS _ hkc hks => ?_)
    exact hret _ _ _ _ _ _ _ _ dX1_addNull_39 hW hS hkc hks h
  intro h
  intro ls H locs cells slots hl hW hS hkc hks
  refine sh_aload_n hx hb dX1_addNull_0 rfl (lv_at hl 0 rfl) ?_
  refine lv_iload_n hx hb dX1_addNull_1 rfl (lv_at hl 1 rfl) ?_
  obtain ⟨a15, c16, ho2, hcv2, h⟩ := h
  have hcc := h.1
  have h := h.2
  obtain ⟨c18, s19, hc2, hs2, h⟩ := h
  refine call_X1_composition_V (ct_X1_composition l hfl) C hW hS q748 ho2 hcv2 hcc (le_lit hRf rfl) (le_lit hRl rfl) hc2 hs2 hkc hks hl.1 (Nat.le_of_ble_eq_true rfl) dX1_addNull_2 h (fun E G9 ce q9 H locs hX hW hS h1 h2 h3 _ => hxo E G9 ce q9 2 ls H locs _ _ _ hW hS hX h1 h2 h3 (by omega) (by omega)) (fun r17 H locs h hW hS _ hkc hks => ?_)
  refine sh_astore_n (lv' := [(2, va_rf r17), (0, va_rf (some x0)), (1, .int x1)]) hx hb dX1_addNull_5 rfl hl (by decide) rfl (fun ls hl => ?_)
  refine sh_aload_n hx hb dX1_addNull_6 rfl (lv_at hl 1 rfl) ?_
  obtain ⟨v20, h1, h⟩ := h
  refine sh_get C hW xFb_2 q203 (fun _ h => h) h1 dX1_addNull_7 ?_
  refine lv_bipush (v := 12) hx hb dX1_addNull_10 (by decide) ?_
  refine lv_icmp_ge (tgt := 19) hx hb dX1_addNull_12 (by decide) (fun c21 => ?_) (fun c21 => ?_)
  · have h := wif_t h c21
    refine lv_iconst (v := 0) hx hb dX1_addNull_19 (by decide) ?_
    exact hb20 _ _ _ _ _ h ls H locs _ _ (lv_sub hl [1, 0] rfl) hW hS hkc hks
  · have h := wif_f h c21
    refine lv_iconst (v := 1) hx hb dX1_addNull_15 (by decide) ?_
    refine lv_goto (tgt := 20) hx hb dX1_addNull_16 (by decide) ?_
    exact hb20 _ _ _ _ _ h ls H locs _ _ (lv_sub hl [1, 0] rfl) hW hS hkc hks
theorem ct_X1_addNull (l : Launch) (hfl : l.stackTraces = false) : CT_X1_addNull l 14 241 w_X1_addNull := by
  intro V sz G Q X x0 x1 kc ks
  refine vx_ofW (cc := cX1_addNull) (maxL := 3) (ret := (some .int)) (by decide) rfl ?_
  intro p e s m args below meth c s₁ B hml hext hv
  obtain ⟨rfl, hsz, hW, hK, hZ, h⟩ := hv
  subst hsz
  have hts := atoms_spec (ws := (ws_ yX1_addNull cX1_addNull 3 (some .int))) B.pre
  have hts : ∀ w ∈ lw_all, w.before _ s = true := fun w h => hts w (List.mem_cons_of_mem _ h)
  have hl := lv_entry ([.ref x0, .int x1]) (n := 3) (Nat.le_of_ble_eq_true rfl)
  rw [lg_entry_eq]
  generalize (lg_sl ([.ref x0, .int x1]) ++ List.replicate (3 - (lg_sl ([.ref x0, .int x1])).length) Slot.unset).toArray = ls at hl ⊢
  exact wk_X1_addNull Q X ⟨⟨B.exec, B.bytes, hml, findClass_of_methodNamed B.named, hts⟩, hK, hZ, fun q h => Or.inr h⟩ hfl (Nat.le_refl _) (Nat.le_refl _) G (fun v G pc ls H locs cells slots _ _ hd hW1 hS hkc hks hQ => W.widen (k := kc) (n := ks) (Nat.le_trans (Nat.le_add_right _ _) hkc) (Nat.le_trans (Nat.le_add_right _ _) hks) (vx_ret (W.iret (v := v) B.exec B.bytes B.returns (fun t ht _ => ⟨⟨v, G, rfl, hQ, by rw [← ht] at hW1; exact hW1⟩, hS.F ht⟩) hS.2.2 hd))) (fun E G9 ce q pc ls H locs cells slots rest hW1 hS hX h1 h2 h3 hc hs => vx_out (fun x hx => absurd (hext x hx) id) B.notSynchronized h1 h2 h3 (fun t ht _ => ⟨(E, G9), hX, ⟨rfl, by rw [← ht] at hW1; exact hW1⟩, hS.F ht⟩) hS.2.2 hc hs) x0 x1 kc ks h ls _ [] 0 0 hl hW va_S.rf (by show 0 + kc ≤ kc; omega) (by show 0 + ks ≤ ks; omega)
def CT_X0_addNull (l : Launch) (fr lo : Nat) (w : XV → (Int32 → GM → Prop) → (Option Nat) → Int32 → (Option Nat) → GM → Nat → Nat → Prop) : Prop := ∀ (V : XV) (sz : Nat) (G : GM) (Q : Int32 → GM → Prop) (x0 : Option Nat) (x1 : Int32) (x2 : Option Nat) (kc ks : Nat), Met l yX0_addNull (wsW_ yX0_addNull cX0_addNull 4 (some .int) [(0, 9, 12, 19), (0, 9, 15, 13)]) { frames := fr, cells := kc, slots := ks, locals := lo } (va_Pc [va_rf x0, .int x1, va_rf x2] (fun U => U.heap.size = sz ∧ xW V (xA G sz) G U.heap ∧ xK V U ∧ xZ V (xA G sz) U U.heap ∧ w V Q x0 x1 x2 G kc ks)) (va_Qi (fun r (u : GM) => Q r u) (fun u t => xW V (xA G sz) u t.heap) (xA G sz)) kc ks (xA G sz)
def w_X0_addNull (V : XV) (Q : Int32 → GM → Prop) (x0 : Option Nat) (x1 : Int32) (x2 : Option Nat) (G : GM) (kc : Nat) (ks : Nat) : Prop := gRcv G x0 (fun a1 c2 => (c2 % 64 = 0) ∧ (∃ c5 s6 : Nat, c5 ≤ kc ∧ s6 ≤ ks ∧ (w_X1_addNull V (fun r3 G4 => gJS G4 1 x2 (0 : Int32) (r3.toInt64) (fun G7 => Q (0 : Int32) G7)) (fun E G9 => if E = "java/lang/IndexOutOfBoundsException" then Q (1 : Int32) G9 else (if E = "java/lang/IllegalStateException" then Q (2 : Int32) G9 else (False))) a1 x1 G c5 s6)))
set_option maxRecDepth 100000 in
set_option maxHeartbeats 4000000 in
theorem wk_X0_addNull {p : Program} {l : Launch} {e : Env} {R : Room} {s : State} {m : MethodId} {args : Array Value} {below : List Frame} {meth : Method} {c : Code} {Z : State → Prop} {A : Nat → Prop} {V : XV} (Q : Int32 → GM → Prop) (C : xC p m c s args cX0_addNull 4 RX0 V A) (hfl : l.stackTraces = false) (htab : c.exceptionTable.toList = tableOf [(0, 9, 12, 19), (0, 9, 15, 13)]) (hRf : 15 ≤ R.frames) (hRl : 263 ≤ R.locals) (G : GM) (hret : ∀ (v : Int32) (G : GM) (pc : Nat) (ls : Array Slot) (H : Heap) (locs : List Loc) (cells slots : Nat) {k1 k2 : Nat}, decode cX0_addNull pc = .ok (.ireturn, 1) → xW V A G H → va_S A s.heap H locs → cells + k1 ≤ R.cells → slots + k2 ≤ R.slots → Q v G → W p l e R s m args below meth c H locs cells slots Z (F0 m pc ls [.int v])) (x0 : Option Nat) (x1 : Int32) (x2 : Option Nat) (kc ks : Nat) : w_X0_addNull V Q x0 x1 x2 G kc ks → ∀ (ls : Array Slot) (H : Heap) (locs : List Loc) (cells slots : Nat), lv_has ls 4 [(0, va_rf x0), (1, .int x1), (2, va_rf x2)] → xW V A G H → va_S A s.heap H locs → cells + kc ≤ R.cells → slots + ks ≤ R.slots → W p l e R s m args below meth c H locs cells slots Z (F0 m 0 ls []) := by
  have hx := C.1.1; have hb := C.1.2.1; have hml := C.1.2.2.1; have hown := C.1.2.2.2.1; have hts := C.1.2.2.2.2
  intro h
  intro ls H locs cells slots hl hW hS hkc hks
  refine sh_aload_n hx hb dX0_addNull_0 rfl (lv_at hl 2 rfl) ?_
  refine lv_iconst (v := 0) hx hb dX0_addNull_1 (by decide) ?_
  refine sh_aload_n hx hb dX0_addNull_2 rfl (lv_at hl 0 rfl) ?_
  refine lv_iload_n hx hb dX0_addNull_3 rfl (lv_at hl 1 rfl) ?_
  obtain ⟨a1, c2, ho4, hcv4, h⟩ := h
  have hcc := h.1
  have h := h.2
  obtain ⟨c5, s6, hc4, hs4, h⟩ := h
  refine call_X1_addNull_V (ct_X1_addNull l hfl) C hW hS q1051 ho4 hcv4 hcc (le_lit hRf rfl) (le_lit hRl rfl) hc4 hs4 hkc hks hl.1 (by simp only [List.map_cons, List.map_nil, va_rf_cat]; exact Nat.le_of_ble_eq_true rfl) dX0_addNull_4 h (fun E G9 ce q9 H locs hX hW hS h1 h2 h3 _ => by
      by_cases c900 : E = "java/lang/IndexOutOfBoundsException"
      · have hX := wif_t hX c900
        subst c900
        refine vx_catch hown [] ⟨0, 9, 12, 19⟩ [⟨0, 9, 15, 13⟩] (htab.trans rfl) (fun z hz => absurd hz List.not_mem_nil) rfl (by decide) (hts _ q740) (va_Nw.use rfl (C.2.1.2.2.1 _ q757 rfl)) h1 h2 h3 ?_
        refine sh_astore_n (lv' := [(3, va_rf (some q9)), (0, va_rf x0), (1, .int x1), (2, va_rf x2)]) hx hb dX0_addNull_12 rfl hl (by decide) (by simp only [List.filter_cons, List.filter_nil, va_rf_cat]; rfl) (fun ls hl => ?_)
        refine lv_iconst (v := 1) hx hb dX0_addNull_13 (by decide) ?_
        exact hret _ _ _ _ _ _ _ _ (k1 := 0) (k2 := 0) dX0_addNull_14 hW hS (by omega) (by omega) hX
      have hX := wif_f hX c900
      by_cases c901 : E = "java/lang/IllegalStateException"
      · have hX := wif_t hX c901
        subst c901
        refine vx_catch hown [⟨0, 9, 12, 19⟩] ⟨0, 9, 15, 13⟩ [] (htab.trans rfl) (by intro z hz; simp only [List.mem_cons, List.not_mem_nil, or_false] at hz; rcases hz with rfl <;> first | (exact Or.inr ⟨by decide, "java/lang/IndexOutOfBoundsException", hts _ q740, C.2.1.2.2.2.2.2.2.1 ("java/lang/IllegalStateException", "java/lang/IndexOutOfBoundsException") (by decide)⟩)) rfl (by decide) (hts _ q628) (va_Nw.use rfl (C.2.1.2.2.1 _ q638 rfl)) h1 h2 h3 ?_
        refine sh_astore_n (lv' := [(3, va_rf (some q9)), (0, va_rf x0), (1, .int x1), (2, va_rf x2)]) hx hb dX0_addNull_15 rfl hl (by decide) (by simp only [List.filter_cons, List.filter_nil, va_rf_cat]; rfl) (fun ls hl => ?_)
        refine lv_iconst (v := 2) hx hb dX0_addNull_16 (by decide) ?_
        exact hret _ _ _ _ _ _ _ _ (k1 := 0) (k2 := 0) dX0_addNull_17 hW hS (by omega) (by omega) hX
      have hX := wif_f hX c901
      exact False.elim hX) (fun r3 G4 H locs h hW hS _ hkc hks => ?_)
  refine lv_i2l hx hb dX0_addNull_7 rfl ?_
  refine sh_last C hW hS h dX0_addNull_8 (fun G7 H locs hW hS h => ?_)
  refine lv_goto (tgt := 18) hx hb dX0_addNull_9 (by decide) ?_
  refine lv_iconst (v := 0) hx hb dX0_addNull_18 (by decide) ?_
  exact hret _ _ _ _ _ _ _ _ dX0_addNull_19 hW hS hkc hks h
theorem ct_X0_addNull (l : Launch) (hfl : l.stackTraces = false) : CT_X0_addNull l 15 263 w_X0_addNull := by
  intro V sz G Q x0 x1 x2 kc ks
  refine gx_ofWH (cc := cX0_addNull) (maxL := 4) (ret := (some .int)) (hh := [(0, 9, 12, 19), (0, 9, 15, 13)]) (by decide) rfl ?_
  intro p e s m args below meth c s₁ B hml htab hv
  obtain ⟨rfl, hsz, hW, hK, hZ, h⟩ := hv
  subst hsz
  have hts := atoms_spec (ws := (wsW_ yX0_addNull cX0_addNull 4 (some .int) [(0, 9, 12, 19), (0, 9, 15, 13)])) B.pre
  have hts : ∀ w ∈ lw_all, w.before _ s = true := fun w h => hts w (List.mem_cons_of_mem _ h)
  have key : ∃ ls : Array Slot, entryFrame m ([va_rf x0, .int x1, va_rf x2] : List Value).toArray 4 = F0 m 0 ls [] ∧ lv_has ls 4 [(0, va_rf x0), (1, .int x1), (2, va_rf x2)] := by
    cases x0 <;> cases x2 <;> (refine ⟨_, by rw [lg_entry_eq], ?_⟩; exact lv_entry _ (Nat.le_of_ble_eq_true rfl))
  obtain ⟨ls, hfr, hl⟩ := key
  rw [hfr]
  exact wk_X0_addNull Q ⟨⟨B.exec, B.bytes, hml, findClass_of_methodNamed B.named, hts⟩, hK, hZ, fun q h => Or.inr h⟩ hfl htab (Nat.le_refl _) (Nat.le_refl _) G (fun v G pc ls H locs cells slots _ _ hd hW1 hS hkc hks hQ => W.widen (k := kc) (n := ks) (Nat.le_trans (Nat.le_add_right _ _) hkc) (Nat.le_trans (Nat.le_add_right _ _) hks) (W.iret (v := v) B.exec B.bytes B.returns (fun t ht _ => ⟨⟨v, G, rfl, hQ, by rw [← ht] at hW1; exact hW1⟩, hS.F ht⟩) hS.2.2 hd)) x0 x1 x2 kc ks h ls _ [] 0 0 hl hW va_S.rf (by show 0 + kc ≤ kc; omega) (by show 0 + ks ≤ ks; omega)
def CT_X1_remove (l : Launch) (fr lo : Nat) (w : XV → (Int32 → GM → Prop) → (String → GM → Prop) → Nat → Int32 → GM → Nat → Nat → Prop) : Prop := ∀ (V : XV) (sz : Nat) (G : GM) (Q : Int32 → GM → Prop) (X : String → GM → Prop) (x0 : Nat) (x1 : Int32) (kc ks : Nat), vx_Met l yX1_remove (ws_ yX1_remove cX1_remove 6 (some .int)) { frames := fr, cells := kc, slots := ks, locals := lo } (va_Pc [.ref x0, .int x1] (fun U => U.heap.size = sz ∧ xW V (xA G sz) G U.heap ∧ xK V U ∧ xZ V (xA G sz) U U.heap ∧ w V Q X x0 x1 G kc ks)) (va_Qi (fun r (u : GM) => Q r u) (fun u t => xW V (xA G sz) u t.heap) (xA G sz)) (vx_X (fun u : String × GM => X u.1 u.2) (fun E u t => E = u.1 ∧ xW V (xA G sz) u.2 t.heap) (xA G sz)) kc ks (xA G sz)
theorem call_X1_remove_V {p : Program} {l : Launch} {e : Env} {R : Room} {s : State} {m : MethodId} {args : Array Value} {below : List Frame} {meth : Method} {c : Code} {H : Heap} {locs : List Loc} {cells slots : Nat} {Z : State → Prop} {A : Nat → Prop} {cc : ByteArray} {nL pc : Nat} {ls : Array Slot} {rest : List Value} {own : String} {index fr lo : Nat} {w : XV → (Int32 → GM → Prop) → (String → GM → Prop) → Nat → Int32 → GM → Nat → Nat → Prop} {V : XV} {G : GM} {o : Option Nat} {ci : Nat} {kc ks c1 s1 : Nat} {x0 : Nat} {x1 : Int32} (hM : CT_X1_remove l fr lo w) (C : xC p m c s args cc nL own V A) (hW : xW V A G H) (hS : va_S A s.heap H locs) (hlink : Cond.methodLink own index yX1_remove ∈ lw_all) (ho : o = some x0) (hcv : gCi G (some x0) = some ci) (hci : ci % 64 = 0) (hRf : fr + 1 ≤ R.frames) (hRl : 8 + (6 + 11) + lo ≤ R.locals) (hc1 : c1 ≤ kc) (hs1 : s1 ≤ ks) (hkc : cells + kc ≤ R.cells) (hks : slots + ks ≤ R.slots) (hz : ls.size = nL) (hr8 : (rest.map fun v => v.category).sum ≤ 8) (hdg : decode cc pc = .ok (.invokevirtual index, 3)) {Q1 : Int32 → GM → Prop} {X1 : String → GM → Prop} (h : w V Q1 X1 x0 x1 G c1 s1) (kx : ∀ (E : String) (G1 : GM) (ce : Cell) (q9 : Addr) (H1 : Heap) (locs1 : List Loc), X1 E G1 → xW V A G1 H1 → va_S A s.heap H1 locs1 → H1[q9]? = some ce → ce.vm = .none → s.vm.findClass E = some ce.cls → xFr V G G1 H H1 → vx_W p l e R s m args below meth c H1 locs1 (cells + c1) (slots + s1) Z (F0 m pc ls rest) q9) (kk : ∀ (r : Int32) (G1 : GM) (H1 : Heap) (locs1 : List Loc), Q1 r G1 → xW V A G1 H1 → va_S A s.heap H1 locs1 → xFr V G G1 H H1 → (cells + c1) + (kc - c1) ≤ R.cells → (slots + s1) + (ks - s1) ≤ R.slots → W p l e R s m args below meth c H1 locs1 (cells + c1) (slots + s1) Z (F0 m (pc + 3) ls (.int r :: rest))) : W p l e R s m args below meth c H locs cells slots Z (F0 m pc ls (.int x1 :: va_rf o :: rest)) := by
  subst ho
  obtain ⟨fs, hG⟩ := gCi_of hcv
  exact rx_i3w (vx_runV (As := [.int x1]) (rest := rest) C.1 (hM V H.size G Q1 X1 x0 x1 c1 s1) (cwV 1 C.1.2.2.2.2 (lw_V hlink q1074 q1075 q59 q1076) rfl rfl rfl (by decide +kernel) ⟨hRf, hRl⟩) ⟨fun a U g mk q => by obtain ⟨q0, q1, qW, qK, qZ, qw⟩ := q; exact ⟨q0, q1, qW, xK.same (u := U) (U := U.calling g mk a) rfl qK, xZ.moved (u := U) (U := U.calling g mk a) (Vm.Alike.refl U.vm) qZ, qw⟩, (hW.recv C.2.1 hG (r := (RX1, TX1, 6)) (by rw [hci]; rfl)), fun U hU hWm => ⟨rfl, by rw [hU], by rw [hU]; exact hW.self _, C.2.1.warm hWm, xZ.call C.2.2.1 hW hS C.2.2.2 hU hWm.alike, h⟩⟩ rfl rfl hz rfl (lv_room hr8) hdg ⟨by omega, by omega⟩) hW hS C.2.2.2 kx (fun r G1 H1 locs1 hp hW1 hS1 hF1 => kk r G1 H1 locs1 hp hW1 hS1 hF1 (by omega) (by omega))
def w_X1_remove_88 (V : XV) (Q : Int32 → GM → Prop) (X : String → GM → Prop) (rec36 : GM → Prop) (x0 : Nat) (x2 : Option Nat) (x4 : Option Nat) (G : GM) (kc : Nat) (ks : Nat) : Prop := rec36 G
def w_X1_remove_73 (V : XV) (Q : Int32 → GM → Prop) (X : String → GM → Prop) (rec36 : GM → Prop) (x0 : Nat) (x2 : Option Nat) (x4 : Option Nat) (x5 : Option Nat) (G : GM) (kc : Nat) (ks : Nat) : Prop := gGR G 17 x5 (fun v1 => if v1 = x2 then (gPF G 17 x5 (va_rf none) (fun G2 => w_X1_remove_88 V Q X rec36 x0 x2 x4 G2 kc ks)) else (w_X1_remove_88 V Q X rec36 x0 x2 x4 G kc ks))
def w_X1_remove_h36 (V : XV) (Q : Int32 → GM → Prop) (X : String → GM → Prop) (x0 : Nat) (x2 : Option Nat) (x4 : Option Nat) (kc : Nat) (ks : Nat) (rec36 : GM → Prop) (G : GM) : Prop := gRcv G x4 (fun a4 c5 => (c5 % 64 = 12) ∧ (w_X10_hasNext V (fun r6 => if r6 = 0 then (gGR G 3 (some x0) (fun v7 => gRcv G v7 (fun a8 c9 => (c9 % 64 = 15) ∧ (w_J2_clear V (fun G10 => gGR G10 14 x2 (fun v11 => gGR G10 12 v11 (fun v12 => gRcv G10 v12 (fun a13 c14 => (c14 % 64 = 15) ∧ (w_J2_size V (fun r15 => Q r15 G10) a13 G10))))) a8 G)))) else (gRcv G x4 (fun a16 c17 => (c17 % 64 = 12) ∧ (w_X10_next V (fun r18 G19 => gCk G19 [3, 4, 5, 6] r18 (gGR G19 16 r18 (fun v20 => if v20 = x2 then (gPF G19 16 r18 (va_rf none) (fun G21 => w_X1_remove_73 V Q X rec36 x0 x2 x4 r18 G21 kc ks)) else (w_X1_remove_73 V Q X rec36 x0 x2 x4 r18 G19 kc ks)))) a16 G)))) a4 G))
def w_X1_remove_L36 (V : XV) (Q : Int32 → GM → Prop) (X : String → GM → Prop) (x0 : Nat) (x2 : Option Nat) (x4 : Option Nat) (kc : Nat) (ks : Nat) (G : GM) : Prop := wLoop (fun (rec : GM → Prop) (s : GM) => w_X1_remove_h36 V Q X x0 x2 x4 kc ks (fun G => rec G) s) G
def w_X1_remove (V : XV) (Q : Int32 → GM → Prop) (X : String → GM → Prop) (x0 : Nat) (x1 : Int32) (G : GM) (kc : Nat) (ks : Nat) : Prop := gRcv G (some x0) (fun a24 c25 => (c25 % 64 = 0) ∧ (∃ c27 s28 : Nat, c27 ≤ kc ∧ s28 ≤ ks ∧ (w_X1_layer V (fun r26 => gGR G 1 (some x0) (fun v29 => gRS G v29 x1 none (fun G30 => gGR G30 14 r26 (fun v31 => gGR G30 12 v31 (fun v32 => gRcv G30 v32 (fun a33 c34 => (c34 % 64 = 15) ∧ (w_J2_remove V (fun r35 G36 => gGR G36 14 r26 (fun v37 => gRcv G36 v37 (fun a38 c39 => (c39 % 64 = 2) ∧ (∃ c42 s43 : Nat, c42 ≤ (kc - c27) ∧ s43 ≤ (ks - s28) ∧ (w_X4_iterator V (fun r40 G41 => w_X1_remove_L36 V Q X x0 r26 r40 ((kc - c27) - c42) ((ks - s28) - s43) G41) a38 G36 c42 s43))))) a33 r26 G30))))))) X a24 x1 G c27 s28)))
set_option maxRecDepth 100000 in
set_option maxHeartbeats 4000000 in
theorem wk_X1_remove {p : Program} {l : Launch} {e : Env} {R : Room} {s : State} {m : MethodId} {args : Array Value} {below : List Frame} {meth : Method} {c : Code} {Z : State → Prop} {A : Nat → Prop} {V : XV} (Q : Int32 → GM → Prop) (X : String → GM → Prop) (C : xC p m c s args cX1_remove 6 RX1 V A) (hfl : l.stackTraces = false) (hRf : 14 ≤ R.frames) (hRl : 241 ≤ R.locals) (G : GM) (hret : ∀ (v : Int32) (G : GM) (pc : Nat) (ls : Array Slot) (H : Heap) (locs : List Loc) (cells slots : Nat) {k1 k2 : Nat}, decode cX1_remove pc = .ok (.ireturn, 1) → xW V A G H → va_S A s.heap H locs → cells + k1 ≤ R.cells → slots + k2 ≤ R.slots → Q v G → W p l e R s m args below meth c H locs cells slots Z (F0 m pc ls [.int v])) (hxo : ∀ (E : String) (G : GM) (ce : Cell) (q : Addr) (pc : Nat) (ls : Array Slot) (H : Heap) (locs : List Loc) (cells slots : Nat) (rest : List Value), xW V A G H → va_S A s.heap H locs → X E G → H[q]? = some ce → ce.vm = .none → s.vm.findClass E = some ce.cls → cells ≤ R.cells → slots ≤ R.slots → vx_W p l e R s m args below meth c H locs cells slots Z (F0 m pc ls rest) q) (x0 : Nat) (x1 : Int32) (kc ks : Nat) : w_X1_remove V Q X x0 x1 G kc ks → ∀ (ls : Array Slot) (H : Heap) (locs : List Loc) (cells slots : Nat), lv_has ls 6 [(0, va_rf (some x0)), (1, .int x1)] → xW V A G H → va_S A s.heap H locs → cells + kc ≤ R.cells → slots + ks ≤ R.slots → W p l e R s m args below meth c H locs cells slots Z (F0 m 0 ls []) := by
  have hx := C.1.1; have hb := C.1.2.1; have hml := C.1.2.2.1; have hown := C.1.2.2.2.1; have hts := C.1.2.2.2.2
  have hL36 : ∀ (x2 : Option Nat) (x4 : Option Nat) (kc : Nat) (ks : Nat) (G : GM), w_X1_remove_L36 V Q X x0 x2 x4 kc ks G → ∀ (ls : Array Slot) (H : Heap) (locs : List Loc) (cells slots : Nat), lv_has ls 6 [(0, va_rf (some x0)), (2, va_rf x2), (4, va_rf x4)] → xW V A G H → va_S A s.heap H locs → cells + kc ≤ R.cells → slots + ks ≤ R.slots → W p l e R s m args below meth c H locs cells slots Z (F0 m 36 ls []) := by
    intro x2 x4 kc ks
    obtain ⟨GG36, hG36⟩ : ∃ GG : GM → Prop, ∀ (G : GM), GG G ↔ (∀ (ls : Array Slot) (H : Heap) (locs : List Loc) (cells slots : Nat), lv_has ls 6 [(0, va_rf (some x0)), (2, va_rf x2), (4, va_rf x4)] → xW V A G H → va_S A s.heap H locs → cells + kc ≤ R.cells → slots + ks ≤ R.slots → W p l e R s m args below meth c H locs cells slots Z (F0 m 36 ls [])) := ⟨fun G => _, fun G => Iff.rfl⟩
    have hB36 : ∀ (rec36 : GM → Prop), (∀ (G : GM), rec36 G → GG36 G) → ∀ (G : GM), w_X1_remove_h36 V Q X x0 x2 x4 kc ks rec36 G → GG36 G := by
      intro rec36 hrec36
      have hb88 : ∀ (G : GM), w_X1_remove_88 V Q X rec36 x0 x2 x4 G kc ks → ∀ (ls : Array Slot) (H : Heap) (locs : List Loc) (cells slots : Nat), lv_has ls 6 [(0, va_rf (some x0)), (2, va_rf x2), (4, va_rf x4)] → xW V A G H → va_S A s.heap H locs → cells + kc ≤ R.cells → slots + ks ≤ R.slots → W p l e R s m args below meth c H locs cells slots Z (F0 m 88 ls []) := by
        intro G h
        intro ls H locs cells slots hl hW hS hkc hks
        refine lv_goto (tgt := 36) hx hb dX1_remove_88 (by decide) ?_
        exact (hG36 _).mp (hrec36 _ h) ls H locs _ _ (lv_sub hl [0, 1, 2] rfl) hW hS hkc hks
      have hb73 : ∀ (x5 : Option Nat) (G : GM), w_X1_remove_73 V Q X rec36 x0 x2 x4 x5 G kc ks → ∀ (ls : Array Slot) (H : Heap) (locs : List Loc) (cells slots : Nat), lv_has ls 6 [(0, va_rf (some x0)), (2, va_rf x2), (4, va_rf x4), (5, va_rf x5)] → xW V A G H → va_S A s.heap H locs → cells + kc ≤ R.cells → slots + ks ≤ R.slots → W p l e R s m args below meth c H locs cells slots Z (F0 m 73 ls []) := by
        intro x5 G h
        intro ls H locs cells slots hl hW hS hkc hks
        refine sh_aload hx hb dX1_remove_73 (lv_at hl 3 rfl) ?_
        obtain ⟨v1, h1, h⟩ := h
        refine sh_getN C hW xFb_17 q845 (fun _ h => h) (by decide) h1 dX1_remove_75 ?_
        refine sh_aload_n hx hb dX1_remove_78 rfl (lv_at hl 1 rfl) ?_
        refine lv_acmp_ne (tgt := 88) hx hb dX1_remove_79 (by decide) (fun c3 => ?_) (fun c3 => ?_)
        · have h := wif_f h c3
          exact hb88 _ h ls H locs _ _ (lv_sub hl [0, 1, 2] rfl) hW hS hkc hks
        · have h := wif_t h c3
          refine sh_aload hx hb dX1_remove_82 (lv_at hl 3 rfl) ?_
          refine sh_null hx hb dX1_remove_84 ?_
          refine sh_putN C hW hS xFb_17 q845 (fun _ h => h) xFd_17 (rf_nar_o _ _) (rf_fit_o _ _) h dX1_remove_85 (fun G2 H locs hW hS h => ?_)
          exact hb88 _ h ls H locs _ _ (lv_sub hl [0, 1, 2] rfl) hW hS hkc hks
      intro G h
      rw [hG36]
      intro ls H locs cells slots hl hW hS hkc hks
      refine sh_aload hx hb dX1_remove_36 (lv_at hl 2 rfl) ?_
      obtain ⟨a4, c5, ho38, hcv38, h⟩ := h
      have hcc := h.1
      have h := h.2
      refine call_X10_hasNext_F12_Iterator (ct_X10_hasNext l) C hW hS q1127 ho38 hcv38 hcc (le_lit hRf rfl) (le_lit hRl rfl) ⟨Nat.le_trans (Nat.le_add_right _ _) hkc, Nat.le_trans (Nat.le_add_right _ _) hks⟩ hl.1 (Nat.le_of_ble_eq_true rfl) dX1_remove_38 h (fun r6 H locs h hW hS _ => ?_)
      refine lv_if_eq (tgt := 91) hx hb dX1_remove_43 (by decide) (fun c23 => ?_) (fun c23 => ?_)
      · have h := wif_t h c23
        refine sh_aload_n hx hb dX1_remove_91 rfl (lv_at hl 0 rfl) ?_
        obtain ⟨v7, h1, h⟩ := h
        refine sh_get C hW xFb_3 q204 (fun _ h => h) h1 dX1_remove_92 ?_
        obtain ⟨a8, c9, ho95, hcv95, h⟩ := h
        have hcc := h.1
        have h := h.2
        refine call_J2_clear_F15_List (ct_J2_clear l) C hW hS q235 ho95 hcv95 hcc (le_lit hRf rfl) (le_lit hRl rfl) ⟨Nat.le_trans (Nat.le_add_right _ _) hkc, Nat.le_trans (Nat.le_add_right _ _) hks⟩ hl.1 (Nat.le_of_ble_eq_true rfl) dX1_remove_95 h (fun G10 H locs h hW hS _ => ?_)
        refine sh_aload_n hx hb dX1_remove_100 rfl (lv_at hl 1 rfl) ?_
        obtain ⟨v11, h1, h⟩ := h
        refine sh_get C hW xFb_14 q838 (fun _ h => h) h1 dX1_remove_101 ?_
        obtain ⟨v12, h1, h⟩ := h
        refine sh_getN C hW xFb_12 q669 (fun _ h => h) (by decide) h1 dX1_remove_104 ?_
        obtain ⟨a13, c14, ho107, hcv107, h⟩ := h
        have hcc := h.1
        have h := h.2
        refine call_J2_size_F15_List (ct_J2_size l) C hW hS q225 ho107 hcv107 hcc (le_lit hRf rfl) (le_lit hRl rfl) ⟨Nat.le_trans (Nat.le_add_right _ _) hkc, Nat.le_trans (Nat.le_add_right _ _) hks⟩ hl.1 (Nat.le_of_ble_eq_true rfl) dX1_remove_107 h (fun r15 H locs h hW hS _ => ?_)
        exact hret _ _ _ _ _ _ _ _ dX1_remove_112 hW hS hkc hks h
      · have h := wif_f h c23
        refine sh_aload hx hb dX1_remove_46 (lv_at hl 2 rfl) ?_
        obtain ⟨a16, c17, ho48, hcv48, h⟩ := h
        have hcc := h.1
        have h := h.2
        refine call_X10_next_F12_Iterator (ct_X10_next l) C hW hS q1129 ho48 hcv48 hcc (le_lit hRf rfl) (le_lit hRl rfl) ⟨Nat.le_trans (Nat.le_add_right _ _) hkc, Nat.le_trans (Nat.le_add_right _ _) hks⟩ hl.1 (Nat.le_of_ble_eq_true rfl) dX1_remove_48 h (fun r18 G19 H locs h hW hS _ => ?_)
        refine sh_cast C hW q138 xCa_Shapelayer_Layer h dX1_remove_53 (fun h => ?_)
        refine sh_astore (lv' := [(5, va_rf r18), (0, va_rf (some x0)), (2, va_rf x2), (4, va_rf x4)]) hx hb dX1_remove_56 hl (by decide) (by simp only [List.filter_cons, List.filter_nil, va_rf_cat]; rfl) (fun ls hl => ?_)
        refine sh_aload hx hb dX1_remove_58 (lv_at hl 0 rfl) ?_
        obtain ⟨v20, h1, h⟩ := h
        refine sh_getN C hW xFb_16 q842 (fun _ h => h) (by decide) h1 dX1_remove_60 ?_
        refine sh_aload_n hx hb dX1_remove_63 rfl (lv_at hl 2 rfl) ?_
        refine lv_acmp_ne (tgt := 73) hx hb dX1_remove_64 (by decide) (fun c22 => ?_) (fun c22 => ?_)
        · have h := wif_f h c22
          exact hb73 _ _ h ls H locs _ _ (lv_sub hl [1, 2, 3, 0] rfl) hW hS hkc hks
        · have h := wif_t h c22
          refine sh_aload hx hb dX1_remove_67 (lv_at hl 0 rfl) ?_
          refine sh_null hx hb dX1_remove_69 ?_
          refine sh_putN C hW hS xFb_16 q842 (fun _ h => h) xFd_16 (rf_nar_o _ _) (rf_fit_o _ _) h dX1_remove_70 (fun G21 H locs hW hS h => ?_)
          exact hb73 _ _ h ls H locs _ _ (lv_sub hl [1, 2, 3, 0] rfl) hW hS hkc hks
    intro G h
    exact (hG36 G).mp (loop_walk (fun s => GG36 s) (fun rec hrec s h => hB36 (fun G => rec G) (fun G h => hrec G h) s h) G h)
  intro h
  intro ls H locs cells slots hl hW hS hkc hks
  refine sh_aload_n hx hb dX1_remove_0 rfl (lv_at hl 0 rfl) ?_
  refine lv_iload_n hx hb dX1_remove_1 rfl (lv_at hl 1 rfl) ?_
  obtain ⟨a24, c25, ho2, hcv2, h⟩ := h
  have hcc := h.1
  have h := h.2
  obtain ⟨c27, s28, hc2, hs2, h⟩ := h
  refine call_X1_layer_V (ct_X1_layer l hfl) C hW hS q921 ho2 hcv2 hcc (le_lit hRf rfl) (le_lit hRl rfl) hc2 hs2 hkc hks hl.1 (Nat.le_of_ble_eq_true rfl) dX1_remove_2 h (fun E G9 ce q9 H locs hX hW hS h1 h2 h3 _ => hxo E G9 ce q9 2 ls H locs _ _ _ hW hS hX h1 h2 h3 (by omega) (by omega)) (fun r26 H locs h hW hS _ hkc hks => ?_)
  refine sh_astore_n (lv' := [(2, va_rf r26), (0, va_rf (some x0)), (1, .int x1)]) hx hb dX1_remove_5 rfl hl (by decide) rfl (fun ls hl => ?_)
  refine sh_aload_n hx hb dX1_remove_6 rfl (lv_at hl 1 rfl) ?_
  obtain ⟨v29, h1, h⟩ := h
  refine sh_get C hW xFb_1 q202 (fun _ h => h) h1 dX1_remove_7 ?_
  refine lv_iload_n hx hb dX1_remove_10 rfl (lv_at hl 2 rfl) ?_
  refine sh_null hx hb dX1_remove_11 ?_
  refine sh_aast C hW hS h dX1_remove_12 (fun G30 H locs hW hS h => ?_)
  refine sh_aload_n hx hb dX1_remove_13 rfl (lv_at hl 0 rfl) ?_
  obtain ⟨v31, h1, h⟩ := h
  refine sh_get C hW xFb_14 q838 (fun _ h => h) h1 dX1_remove_14 ?_
  obtain ⟨v32, h1, h⟩ := h
  refine sh_getN C hW xFb_12 q669 (fun _ h => h) (by decide) h1 dX1_remove_17 ?_
  refine sh_aload_n hx hb dX1_remove_20 rfl (lv_at hl 0 rfl) ?_
  obtain ⟨a33, c34, ho21, hcv21, h⟩ := h
  have hcc := h.1
  have h := h.2
  refine call_J2_remove_F15_List (ct_J2_remove l) C hW hS q1078 ho21 hcv21 hcc (le_lit hRf rfl) (le_lit hRl rfl) ⟨Nat.le_trans (Nat.le_add_right _ _) hkc, Nat.le_trans (Nat.le_add_right _ _) hks⟩ hl.1 (Nat.le_of_ble_eq_true rfl) dX1_remove_21 h (fun r35 G36 H locs h hW hS _ => ?_)
  refine lv_istore_n (lv' := [(3, .int r35), (2, va_rf r26), (0, va_rf (some x0)), (1, .int x1)]) hx hb dX1_remove_26 rfl hl (by decide) (by simp only [List.filter_cons, List.filter_nil, va_rf_cat]; rfl) (fun ls hl => ?_)
  refine sh_aload_n hx hb dX1_remove_27 rfl (lv_at hl 1 rfl) ?_
  obtain ⟨v37, h1, h⟩ := h
  refine sh_get C hW xFb_14 q838 (fun _ h => h) h1 dX1_remove_28 ?_
  obtain ⟨a38, c39, ho31, hcv31, h⟩ := h
  have hcc := h.1
  have h := h.2
  obtain ⟨c42, s43, hc31, hs31, h⟩ := h
  refine call_X4_iterator_V (ct_X4_iterator l) C hW hS q1125 ho31 hcv31 hcc (le_lit hRf rfl) (le_lit hRl rfl) hc31 hs31 hkc hks hl.1 (Nat.le_of_ble_eq_true rfl) dX1_remove_31 h (fun r40 G41 H locs h hW hS _ hkc hks => ?_)
  refine sh_astore (lv' := [(4, va_rf r40), (3, .int r35), (2, va_rf r26), (0, va_rf (some x0)), (1, .int x1)]) hx hb dX1_remove_34 hl (by decide) rfl (fun ls hl => ?_)
  exact hL36 _ _ _ _ _ h ls H locs _ _ (lv_sub hl [3, 2, 0] rfl) hW hS hkc hks
theorem ct_X1_remove (l : Launch) (hfl : l.stackTraces = false) : CT_X1_remove l 14 241 w_X1_remove := by
  intro V sz G Q X x0 x1 kc ks
  refine vx_ofW (cc := cX1_remove) (maxL := 6) (ret := (some .int)) (by decide) rfl ?_
  intro p e s m args below meth c s₁ B hml hext hv
  obtain ⟨rfl, hsz, hW, hK, hZ, h⟩ := hv
  subst hsz
  have hts := atoms_spec (ws := (ws_ yX1_remove cX1_remove 6 (some .int))) B.pre
  have hts : ∀ w ∈ lw_all, w.before _ s = true := fun w h => hts w (List.mem_cons_of_mem _ h)
  have hl := lv_entry ([.ref x0, .int x1]) (n := 6) (Nat.le_of_ble_eq_true rfl)
  rw [lg_entry_eq]
  generalize (lg_sl ([.ref x0, .int x1]) ++ List.replicate (6 - (lg_sl ([.ref x0, .int x1])).length) Slot.unset).toArray = ls at hl ⊢
  exact wk_X1_remove Q X ⟨⟨B.exec, B.bytes, hml, findClass_of_methodNamed B.named, hts⟩, hK, hZ, fun q h => Or.inr h⟩ hfl (Nat.le_refl _) (Nat.le_refl _) G (fun v G pc ls H locs cells slots _ _ hd hW1 hS hkc hks hQ => W.widen (k := kc) (n := ks) (Nat.le_trans (Nat.le_add_right _ _) hkc) (Nat.le_trans (Nat.le_add_right _ _) hks) (vx_ret (W.iret (v := v) B.exec B.bytes B.returns (fun t ht _ => ⟨⟨v, G, rfl, hQ, by rw [← ht] at hW1; exact hW1⟩, hS.F ht⟩) hS.2.2 hd))) (fun E G9 ce q pc ls H locs cells slots rest hW1 hS hX h1 h2 h3 hc hs => vx_out (fun x hx => absurd (hext x hx) id) B.notSynchronized h1 h2 h3 (fun t ht _ => ⟨(E, G9), hX, ⟨rfl, by rw [← ht] at hW1; exact hW1⟩, hS.F ht⟩) hS.2.2 hc hs) x0 x1 kc ks h ls _ [] 0 0 hl hW va_S.rf (by show 0 + kc ≤ kc; omega) (by show 0 + ks ≤ ks; omega)
def CT_X0_remove (l : Launch) (fr lo : Nat) (w : XV → (Int32 → GM → Prop) → (Option Nat) → Int32 → (Option Nat) → GM → Nat → Nat → Prop) : Prop := ∀ (V : XV) (sz : Nat) (G : GM) (Q : Int32 → GM → Prop) (x0 : Option Nat) (x1 : Int32) (x2 : Option Nat) (kc ks : Nat), Met l yX0_remove (wsW_ yX0_remove cX0_remove 4 (some .int) [(0, 9, 12, 19)]) { frames := fr, cells := kc, slots := ks, locals := lo } (va_Pc [va_rf x0, .int x1, va_rf x2] (fun U => U.heap.size = sz ∧ xW V (xA G sz) G U.heap ∧ xK V U ∧ xZ V (xA G sz) U U.heap ∧ w V Q x0 x1 x2 G kc ks)) (va_Qi (fun r (u : GM) => Q r u) (fun u t => xW V (xA G sz) u t.heap) (xA G sz)) kc ks (xA G sz)
def w_X0_remove (V : XV) (Q : Int32 → GM → Prop) (x0 : Option Nat) (x1 : Int32) (x2 : Option Nat) (G : GM) (kc : Nat) (ks : Nat) : Prop := gRcv G x0 (fun a1 c2 => (c2 % 64 = 0) ∧ (∃ c5 s6 : Nat, c5 ≤ kc ∧ s6 ≤ ks ∧ (w_X1_remove V (fun r3 G4 => gJS G4 1 x2 (0 : Int32) (r3.toInt64) (fun G7 => Q (0 : Int32) G7)) (fun E G9 => if E = "java/lang/IndexOutOfBoundsException" then Q (1 : Int32) G9 else (False)) a1 x1 G c5 s6)))
set_option maxRecDepth 100000 in
set_option maxHeartbeats 4000000 in
theorem wk_X0_remove {p : Program} {l : Launch} {e : Env} {R : Room} {s : State} {m : MethodId} {args : Array Value} {below : List Frame} {meth : Method} {c : Code} {Z : State → Prop} {A : Nat → Prop} {V : XV} (Q : Int32 → GM → Prop) (C : xC p m c s args cX0_remove 4 RX0 V A) (hfl : l.stackTraces = false) (htab : c.exceptionTable.toList = tableOf [(0, 9, 12, 19)]) (hRf : 15 ≤ R.frames) (hRl : 266 ≤ R.locals) (G : GM) (hret : ∀ (v : Int32) (G : GM) (pc : Nat) (ls : Array Slot) (H : Heap) (locs : List Loc) (cells slots : Nat) {k1 k2 : Nat}, decode cX0_remove pc = .ok (.ireturn, 1) → xW V A G H → va_S A s.heap H locs → cells + k1 ≤ R.cells → slots + k2 ≤ R.slots → Q v G → W p l e R s m args below meth c H locs cells slots Z (F0 m pc ls [.int v])) (x0 : Option Nat) (x1 : Int32) (x2 : Option Nat) (kc ks : Nat) : w_X0_remove V Q x0 x1 x2 G kc ks → ∀ (ls : Array Slot) (H : Heap) (locs : List Loc) (cells slots : Nat), lv_has ls 4 [(0, va_rf x0), (1, .int x1), (2, va_rf x2)] → xW V A G H → va_S A s.heap H locs → cells + kc ≤ R.cells → slots + ks ≤ R.slots → W p l e R s m args below meth c H locs cells slots Z (F0 m 0 ls []) := by
  have hx := C.1.1; have hb := C.1.2.1; have hml := C.1.2.2.1; have hown := C.1.2.2.2.1; have hts := C.1.2.2.2.2
  intro h
  intro ls H locs cells slots hl hW hS hkc hks
  refine sh_aload_n hx hb dX0_remove_0 rfl (lv_at hl 2 rfl) ?_
  refine lv_iconst (v := 0) hx hb dX0_remove_1 (by decide) ?_
  refine sh_aload_n hx hb dX0_remove_2 rfl (lv_at hl 0 rfl) ?_
  refine lv_iload_n hx hb dX0_remove_3 rfl (lv_at hl 1 rfl) ?_
  obtain ⟨a1, c2, ho4, hcv4, h⟩ := h
  have hcc := h.1
  have h := h.2
  obtain ⟨c5, s6, hc4, hs4, h⟩ := h
  refine call_X1_remove_V (ct_X1_remove l hfl) C hW hS q1073 ho4 hcv4 hcc (le_lit hRf rfl) (le_lit hRl rfl) hc4 hs4 hkc hks hl.1 (by simp only [List.map_cons, List.map_nil, va_rf_cat]; exact Nat.le_of_ble_eq_true rfl) dX0_remove_4 h (fun E G9 ce q9 H locs hX hW hS h1 h2 h3 _ => by
      by_cases c900 : E = "java/lang/IndexOutOfBoundsException"
      · have hX := wif_t hX c900
        subst c900
        refine vx_catch hown [] ⟨0, 9, 12, 19⟩ [] (htab.trans rfl) (fun z hz => absurd hz List.not_mem_nil) rfl (by decide) (hts _ q740) (va_Nw.use rfl (C.2.1.2.2.1 _ q757 rfl)) h1 h2 h3 ?_
        refine sh_astore_n (lv' := [(3, va_rf (some q9)), (0, va_rf x0), (1, .int x1), (2, va_rf x2)]) hx hb dX0_remove_12 rfl hl (by decide) (by simp only [List.filter_cons, List.filter_nil, va_rf_cat]; rfl) (fun ls hl => ?_)
        refine lv_iconst (v := 1) hx hb dX0_remove_13 (by decide) ?_
        exact hret _ _ _ _ _ _ _ _ (k1 := 0) (k2 := 0) dX0_remove_14 hW hS (by omega) (by omega) hX
      have hX := wif_f hX c900
      exact False.elim hX) (fun r3 G4 H locs h hW hS _ hkc hks => ?_)
  refine lv_i2l hx hb dX0_remove_7 rfl ?_
  refine sh_last C hW hS h dX0_remove_8 (fun G7 H locs hW hS h => ?_)
  refine lv_goto (tgt := 15) hx hb dX0_remove_9 (by decide) ?_
  refine lv_iconst (v := 0) hx hb dX0_remove_15 (by decide) ?_
  exact hret _ _ _ _ _ _ _ _ dX0_remove_16 hW hS hkc hks h
theorem ct_X0_remove (l : Launch) (hfl : l.stackTraces = false) : CT_X0_remove l 15 266 w_X0_remove := by
  intro V sz G Q x0 x1 x2 kc ks
  refine gx_ofWH (cc := cX0_remove) (maxL := 4) (ret := (some .int)) (hh := [(0, 9, 12, 19)]) (by decide) rfl ?_
  intro p e s m args below meth c s₁ B hml htab hv
  obtain ⟨rfl, hsz, hW, hK, hZ, h⟩ := hv
  subst hsz
  have hts := atoms_spec (ws := (wsW_ yX0_remove cX0_remove 4 (some .int) [(0, 9, 12, 19)])) B.pre
  have hts : ∀ w ∈ lw_all, w.before _ s = true := fun w h => hts w (List.mem_cons_of_mem _ h)
  have key : ∃ ls : Array Slot, entryFrame m ([va_rf x0, .int x1, va_rf x2] : List Value).toArray 4 = F0 m 0 ls [] ∧ lv_has ls 4 [(0, va_rf x0), (1, .int x1), (2, va_rf x2)] := by
    cases x0 <;> cases x2 <;> (refine ⟨_, by rw [lg_entry_eq], ?_⟩; exact lv_entry _ (Nat.le_of_ble_eq_true rfl))
  obtain ⟨ls, hfr, hl⟩ := key
  rw [hfr]
  exact wk_X0_remove Q ⟨⟨B.exec, B.bytes, hml, findClass_of_methodNamed B.named, hts⟩, hK, hZ, fun q h => Or.inr h⟩ hfl htab (Nat.le_refl _) (Nat.le_refl _) G (fun v G pc ls H locs cells slots _ _ hd hW1 hS hkc hks hQ => W.widen (k := kc) (n := ks) (Nat.le_trans (Nat.le_add_right _ _) hkc) (Nat.le_trans (Nat.le_add_right _ _) hks) (W.iret (v := v) B.exec B.bytes B.returns (fun t ht _ => ⟨⟨v, G, rfl, hQ, by rw [← ht] at hW1; exact hW1⟩, hS.F ht⟩) hS.2.2 hd)) x0 x1 x2 kc ks h ls _ [] 0 0 hl hW va_S.rf (by show 0 + kc ≤ kc; omega) (by show 0 + ks ≤ ks; omega)
def CT_X1_order (l : Launch) (fr lo : Nat) (w : XV → (Int32 → GM → Prop) → (String → GM → Prop) → Nat → Int32 → Int32 → GM → Nat → Nat → Prop) : Prop := ∀ (V : XV) (sz : Nat) (G : GM) (Q : Int32 → GM → Prop) (X : String → GM → Prop) (x0 : Nat) (x1 : Int32) (x2 : Int32) (kc ks : Nat), vx_Met l yX1_order (ws_ yX1_order cX1_order 7 (some .int)) { frames := fr, cells := kc, slots := ks, locals := lo } (va_Pc [.ref x0, .int x1, .int x2] (fun U => U.heap.size = sz ∧ xW V (xA G sz) G U.heap ∧ xK V U ∧ xZ V (xA G sz) U U.heap ∧ w V Q X x0 x1 x2 G kc ks)) (va_Qi (fun r (u : GM) => Q r u) (fun u t => xW V (xA G sz) u t.heap) (xA G sz)) (vx_X (fun u : String × GM => X u.1 u.2) (fun E u t => E = u.1 ∧ xW V (xA G sz) u.2 t.heap) (xA G sz)) kc ks (xA G sz)
theorem call_X1_order_V {p : Program} {l : Launch} {e : Env} {R : Room} {s : State} {m : MethodId} {args : Array Value} {below : List Frame} {meth : Method} {c : Code} {H : Heap} {locs : List Loc} {cells slots : Nat} {Z : State → Prop} {A : Nat → Prop} {cc : ByteArray} {nL pc : Nat} {ls : Array Slot} {rest : List Value} {own : String} {index fr lo : Nat} {w : XV → (Int32 → GM → Prop) → (String → GM → Prop) → Nat → Int32 → Int32 → GM → Nat → Nat → Prop} {V : XV} {G : GM} {o : Option Nat} {ci : Nat} {kc ks c1 s1 : Nat} {x0 : Nat} {x1 : Int32} {x2 : Int32} (hM : CT_X1_order l fr lo w) (C : xC p m c s args cc nL own V A) (hW : xW V A G H) (hS : va_S A s.heap H locs) (hlink : Cond.methodLink own index yX1_order ∈ lw_all) (ho : o = some x0) (hcv : gCi G (some x0) = some ci) (hci : ci % 64 = 0) (hRf : fr + 1 ≤ R.frames) (hRl : 8 + (7 + 11) + lo ≤ R.locals) (hc1 : c1 ≤ kc) (hs1 : s1 ≤ ks) (hkc : cells + kc ≤ R.cells) (hks : slots + ks ≤ R.slots) (hz : ls.size = nL) (hr8 : (rest.map fun v => v.category).sum ≤ 8) (hdg : decode cc pc = .ok (.invokevirtual index, 3)) {Q1 : Int32 → GM → Prop} {X1 : String → GM → Prop} (h : w V Q1 X1 x0 x1 x2 G c1 s1) (kx : ∀ (E : String) (G1 : GM) (ce : Cell) (q9 : Addr) (H1 : Heap) (locs1 : List Loc), X1 E G1 → xW V A G1 H1 → va_S A s.heap H1 locs1 → H1[q9]? = some ce → ce.vm = .none → s.vm.findClass E = some ce.cls → xFr V G G1 H H1 → vx_W p l e R s m args below meth c H1 locs1 (cells + c1) (slots + s1) Z (F0 m pc ls rest) q9) (kk : ∀ (r : Int32) (G1 : GM) (H1 : Heap) (locs1 : List Loc), Q1 r G1 → xW V A G1 H1 → va_S A s.heap H1 locs1 → xFr V G G1 H H1 → (cells + c1) + (kc - c1) ≤ R.cells → (slots + s1) + (ks - s1) ≤ R.slots → W p l e R s m args below meth c H1 locs1 (cells + c1) (slots + s1) Z (F0 m (pc + 3) ls (.int r :: rest))) : W p l e R s m args below meth c H locs cells slots Z (F0 m pc ls (.int x2 :: .int x1 :: va_rf o :: rest)) := by
  subst ho
  obtain ⟨fs, hG⟩ := gCi_of hcv
  exact rx_i3w (vx_runV (As := [.int x1, .int x2]) (rest := rest) C.1 (hM V H.size G Q1 X1 x0 x1 x2 c1 s1) (cwV 2 C.1.2.2.2.2 (lw_V hlink q1134 q1135 q59 q1136) rfl rfl rfl (by decide +kernel) ⟨hRf, hRl⟩) ⟨fun a U g mk q => by obtain ⟨q0, q1, qW, qK, qZ, qw⟩ := q; exact ⟨q0, q1, qW, xK.same (u := U) (U := U.calling g mk a) rfl qK, xZ.moved (u := U) (U := U.calling g mk a) (Vm.Alike.refl U.vm) qZ, qw⟩, (hW.recv C.2.1 hG (r := (RX1, TX1, 6)) (by rw [hci]; rfl)), fun U hU hWm => ⟨rfl, by rw [hU], by rw [hU]; exact hW.self _, C.2.1.warm hWm, xZ.call C.2.2.1 hW hS C.2.2.2 hU hWm.alike, h⟩⟩ rfl rfl hz rfl (lv_room hr8) hdg ⟨by omega, by omega⟩) hW hS C.2.2.2 kx (fun r G1 H1 locs1 hp hW1 hS1 hF1 => kk r G1 H1 locs1 hp hW1 hS1 hF1 (by omega) (by omega))
def w_X1_order (V : XV) (Q : Int32 → GM → Prop) (X : String → GM → Prop) (x0 : Nat) (x1 : Int32) (x2 : Int32) (G : GM) (kc : Nat) (ks : Nat) : Prop := gRcv G (some x0) (fun a1 c2 => (c2 % 64 = 0) ∧ (∃ c4 s5 : Nat, c4 ≤ kc ∧ s5 ≤ ks ∧ (w_X1_layer V (fun r3 => gGR G 14 r3 (fun v6 => gGR G 12 v6 (fun v7 => gRcv G v7 (fun a8 c9 => (c9 % 64 = 15) ∧ (w_J2_size V (fun r10 => w_X1_isBetween V (fun r11 => ∃ c12 s13 : Nat, c12 ≤ (kc - c4) ∧ s13 ≤ (ks - s5) ∧ (w_X1_checkArgument V (gRcv G v7 (fun a14 c15 => (c15 % 64 = 15) ∧ (w_J2_indexOf V (fun r16 => gRcv G v7 (fun a17 c18 => (c18 % 64 = 15) ∧ (w_J2_remove_2 V (fun r19 G20 => gCk G20 [3, 4, 5, 6] r19 (gRcv G20 v7 (fun a21 c22 => (c22 % 64 = 15) ∧ (∃ c24 s25 : Nat, c24 ≤ ((kc - c4) - c12) ∧ s25 ≤ ((ks - s5) - s13) ∧ (w_J2_add_3 V (fun G23 => gGR G23 3 (some x0) (fun v26 => gRcv G23 v26 (fun a27 c28 => (c28 % 64 = 15) ∧ (w_J2_clear V (fun G29 => Q r16 G29) a27 G23)))) a21 x2 r19 G20 c24 s25))))) a17 r16 G))) a14 r3 G))) X r11 G c12 s13)) x2 (0 : Int32) (r10 - (1 : Int32)) G) a8 G))))) X a1 x1 G c4 s5)))
set_option maxRecDepth 100000 in
set_option maxHeartbeats 4000000 in
theorem wk_X1_order {p : Program} {l : Launch} {e : Env} {R : Room} {s : State} {m : MethodId} {args : Array Value} {below : List Frame} {meth : Method} {c : Code} {Z : State → Prop} {A : Nat → Prop} {V : XV} (Q : Int32 → GM → Prop) (X : String → GM → Prop) (C : xC p m c s args cX1_order 7 RX1 V A) (hfl : l.stackTraces = false) (hRf : 14 ≤ R.frames) (hRl : 245 ≤ R.locals) (G : GM) (hret : ∀ (v : Int32) (G : GM) (pc : Nat) (ls : Array Slot) (H : Heap) (locs : List Loc) (cells slots : Nat) {k1 k2 : Nat}, decode cX1_order pc = .ok (.ireturn, 1) → xW V A G H → va_S A s.heap H locs → cells + k1 ≤ R.cells → slots + k2 ≤ R.slots → Q v G → W p l e R s m args below meth c H locs cells slots Z (F0 m pc ls [.int v])) (hxo : ∀ (E : String) (G : GM) (ce : Cell) (q : Addr) (pc : Nat) (ls : Array Slot) (H : Heap) (locs : List Loc) (cells slots : Nat) (rest : List Value), xW V A G H → va_S A s.heap H locs → X E G → H[q]? = some ce → ce.vm = .none → s.vm.findClass E = some ce.cls → cells ≤ R.cells → slots ≤ R.slots → vx_W p l e R s m args below meth c H locs cells slots Z (F0 m pc ls rest) q) (x0 : Nat) (x1 : Int32) (x2 : Int32) (kc ks : Nat) : w_X1_order V Q X x0 x1 x2 G kc ks → ∀ (ls : Array Slot) (H : Heap) (locs : List Loc) (cells slots : Nat), lv_has ls 7 [(0, va_rf (some x0)), (1, .int x1), (2, .int x2)] → xW V A G H → va_S A s.heap H locs → cells + kc ≤ R.cells → slots + ks ≤ R.slots → W p l e R s m args below meth c H locs cells slots Z (F0 m 0 ls []) := by
  have hx := C.1.1; have hb := C.1.2.1; have hml := C.1.2.2.1; have hown := C.1.2.2.2.1; have hts := C.1.2.2.2.2
  intro h
  intro ls H locs cells slots hl hW hS hkc hks
  refine sh_aload_n hx hb dX1_order_0 rfl (lv_at hl 0 rfl) ?_
  refine lv_iload_n hx hb dX1_order_1 rfl (lv_at hl 1 rfl) ?_
  obtain ⟨a1, c2, ho2, hcv2, h⟩ := h
  have hcc := h.1
  have h := h.2
  obtain ⟨c4, s5, hc2, hs2, h⟩ := h
  refine call_X1_layer_V (ct_X1_layer l hfl) C hW hS q921 ho2 hcv2 hcc (le_lit hRf rfl) (le_lit hRl rfl) hc2 hs2 hkc hks hl.1 (Nat.le_of_ble_eq_true rfl) dX1_order_2 h (fun E G9 ce q9 H locs hX hW hS h1 h2 h3 _ => hxo E G9 ce q9 2 ls H locs _ _ _ hW hS hX h1 h2 h3 (by omega) (by omega)) (fun r3 H locs h hW hS _ hkc hks => ?_)
  refine sh_astore_n (lv' := [(3, va_rf r3), (0, va_rf (some x0)), (1, .int x1), (2, .int x2)]) hx hb dX1_order_5 rfl hl (by decide) rfl (fun ls hl => ?_)
  refine sh_aload_n hx hb dX1_order_6 rfl (lv_at hl 0 rfl) ?_
  obtain ⟨v6, h1, h⟩ := h
  refine sh_get C hW xFb_14 q838 (fun _ h => h) h1 dX1_order_7 ?_
  obtain ⟨v7, h1, h⟩ := h
  refine sh_getN C hW xFb_12 q669 (fun _ h => h) (by decide) h1 dX1_order_10 ?_
  refine sh_astore (lv' := [(4, va_rf v7), (3, va_rf r3), (0, va_rf (some x0)), (1, .int x1), (2, .int x2)]) hx hb dX1_order_13 hl (by decide) (by simp only [List.filter_cons, List.filter_nil, va_rf_cat]; rfl) (fun ls hl => ?_)
  refine lv_iload_n hx hb dX1_order_15 rfl (lv_at hl 4 rfl) ?_
  refine lv_iconst (v := 0) hx hb dX1_order_16 (by decide) ?_
  refine sh_aload hx hb dX1_order_17 (lv_at hl 0 rfl) ?_
  obtain ⟨a8, c9, ho19, hcv19, h⟩ := h
  have hcc := h.1
  have h := h.2
  refine call_J2_size_F15_List (ct_J2_size l) C hW hS q225 ho19 hcv19 hcc (le_lit hRf rfl) (le_lit hRl rfl) ⟨Nat.le_trans (Nat.le_add_right _ _) hkc, Nat.le_trans (Nat.le_add_right _ _) hks⟩ hl.1 (Nat.le_of_ble_eq_true rfl) dX1_order_19 h (fun r10 H locs h hW hS _ => ?_)
  refine lv_iconst (v := 1) hx hb dX1_order_24 (by decide) ?_
  refine lv_isub hx hb dX1_order_25 ?_
  refine call_X1_isBetween_S (ct_X1_isBetween l) C hW hS q593 (le_lit hRf rfl) (le_lit hRl rfl) ⟨Nat.le_trans (Nat.le_add_right _ _) hkc, Nat.le_trans (Nat.le_add_right _ _) hks⟩ hl.1 (Nat.le_of_ble_eq_true rfl) dX1_order_26 h (fun r11 H locs h hW hS _ => ?_)
  obtain ⟨c12, s13, hc29, hs29, h⟩ := h
  refine call_X1_checkArgument_S (ct_X1_checkArgument l hfl) C hW hS q787 (le_lit hRf rfl) (le_lit hRl rfl) hc29 hs29 hkc hks hl.1 (Nat.le_of_ble_eq_true rfl) dX1_order_29 h (fun E G9 ce q9 H locs hX hW hS h1 h2 h3 _ => hxo E G9 ce q9 29 ls H locs _ _ _ hW hS hX h1 h2 h3 (by omega) (by omega)) (fun  H locs h hW hS _ hkc hks => ?_)
  refine sh_aload hx hb dX1_order_32 (lv_at hl 0 rfl) ?_
  refine sh_aload_n hx hb dX1_order_34 rfl (lv_at hl 1 rfl) ?_
  obtain ⟨a14, c15, ho35, hcv35, h⟩ := h
  have hcc := h.1
  have h := h.2
  refine call_J2_indexOf_F15_List (ct_J2_indexOf l) C hW hS q1138 ho35 hcv35 hcc (le_lit hRf rfl) (le_lit hRl rfl) ⟨Nat.le_trans (Nat.le_add_right _ _) hkc, Nat.le_trans (Nat.le_add_right _ _) hks⟩ hl.1 (Nat.le_of_ble_eq_true rfl) dX1_order_35 h (fun r16 H locs h hW hS _ => ?_)
  refine lv_istore (lv' := [(5, .int r16), (4, va_rf v7), (3, va_rf r3), (0, va_rf (some x0)), (1, .int x1), (2, .int x2)]) hx hb dX1_order_40 hl (by decide) (by simp only [List.filter_cons, List.filter_nil, va_rf_cat]; rfl) (fun ls hl => ?_)
  refine sh_aload hx hb dX1_order_42 (lv_at hl 1 rfl) ?_
  refine lv_iload hx hb dX1_order_44 (lv_at hl 0 rfl) ?_
  obtain ⟨a17, c18, ho46, hcv46, h⟩ := h
  have hcc := h.1
  have h := h.2
  refine call_J2_remove_2_F15_List (ct_J2_remove_2 l) C hW hS q1151 ho46 hcv46 hcc (le_lit hRf rfl) (le_lit hRl rfl) ⟨Nat.le_trans (Nat.le_add_right _ _) hkc, Nat.le_trans (Nat.le_add_right _ _) hks⟩ hl.1 (Nat.le_of_ble_eq_true rfl) dX1_order_46 h (fun r19 G20 H locs h hW hS _ => ?_)
  refine sh_cast C hW q138 xCa_Shapelayer_Layer h dX1_order_51 (fun h => ?_)
  refine sh_astore (lv' := [(6, va_rf r19), (5, .int r16), (4, va_rf v7), (3, va_rf r3), (0, va_rf (some x0)), (1, .int x1), (2, .int x2)]) hx hb dX1_order_54 hl (by decide) rfl (fun ls hl => ?_)
  refine sh_aload hx hb dX1_order_56 (lv_at hl 2 rfl) ?_
  refine lv_iload_n hx hb dX1_order_58 rfl (lv_at hl 6 rfl) ?_
  refine sh_aload hx hb dX1_order_59 (lv_at hl 0 rfl) ?_
  obtain ⟨a21, c22, ho61, hcv61, h⟩ := h
  have hcc := h.1
  have h := h.2
  obtain ⟨c24, s25, hc61, hs61, h⟩ := h
  refine call_J2_add_3_F15_List (ct_J2_add_3 l) C hW hS q1160 ho61 hcv61 hcc (le_lit hRf rfl) (le_lit hRl rfl) hc61 hs61 hkc hks hl.1 (Nat.le_of_ble_eq_true rfl) dX1_order_61 h (fun G23 H locs h hW hS _ hkc hks => ?_)
  refine sh_aload_n hx hb dX1_order_66 rfl (lv_at hl 4 rfl) ?_
  obtain ⟨v26, h1, h⟩ := h
  refine sh_get C hW xFb_3 q204 (fun _ h => h) h1 dX1_order_67 ?_
  obtain ⟨a27, c28, ho70, hcv70, h⟩ := h
  have hcc := h.1
  have h := h.2
  refine call_J2_clear_F15_List (ct_J2_clear l) C hW hS q235 ho70 hcv70 hcc (le_lit hRf rfl) (le_lit hRl rfl) ⟨Nat.le_trans (Nat.le_add_right _ _) hkc, Nat.le_trans (Nat.le_add_right _ _) hks⟩ hl.1 (Nat.le_of_ble_eq_true rfl) dX1_order_70 h (fun G29 H locs h hW hS _ => ?_)
  refine lv_iload hx hb dX1_order_75 (lv_at hl 1 rfl) ?_
  exact hret _ _ _ _ _ _ _ _ dX1_order_77 hW hS hkc hks h
theorem ct_X1_order (l : Launch) (hfl : l.stackTraces = false) : CT_X1_order l 14 245 w_X1_order := by
  intro V sz G Q X x0 x1 x2 kc ks
  refine vx_ofW (cc := cX1_order) (maxL := 7) (ret := (some .int)) (by decide) rfl ?_
  intro p e s m args below meth c s₁ B hml hext hv
  obtain ⟨rfl, hsz, hW, hK, hZ, h⟩ := hv
  subst hsz
  have hts := atoms_spec (ws := (ws_ yX1_order cX1_order 7 (some .int))) B.pre
  have hts : ∀ w ∈ lw_all, w.before _ s = true := fun w h => hts w (List.mem_cons_of_mem _ h)
  have hl := lv_entry ([.ref x0, .int x1, .int x2]) (n := 7) (Nat.le_of_ble_eq_true rfl)
  rw [lg_entry_eq]
  generalize (lg_sl ([.ref x0, .int x1, .int x2]) ++ List.replicate (7 - (lg_sl ([.ref x0, .int x1, .int x2])).length) Slot.unset).toArray = ls at hl ⊢
  exact wk_X1_order Q X ⟨⟨B.exec, B.bytes, hml, findClass_of_methodNamed B.named, hts⟩, hK, hZ, fun q h => Or.inr h⟩ hfl (Nat.le_refl _) (Nat.le_refl _) G (fun v G pc ls H locs cells slots _ _ hd hW1 hS hkc hks hQ => W.widen (k := kc) (n := ks) (Nat.le_trans (Nat.le_add_right _ _) hkc) (Nat.le_trans (Nat.le_add_right _ _) hks) (vx_ret (W.iret (v := v) B.exec B.bytes B.returns (fun t ht _ => ⟨⟨v, G, rfl, hQ, by rw [← ht] at hW1; exact hW1⟩, hS.F ht⟩) hS.2.2 hd))) (fun E G9 ce q pc ls H locs cells slots rest hW1 hS hX h1 h2 h3 hc hs => vx_out (fun x hx => absurd (hext x hx) id) B.notSynchronized h1 h2 h3 (fun t ht _ => ⟨(E, G9), hX, ⟨rfl, by rw [← ht] at hW1; exact hW1⟩, hS.F ht⟩) hS.2.2 hc hs) x0 x1 x2 kc ks h ls _ [] 0 0 hl hW va_S.rf (by show 0 + kc ≤ kc; omega) (by show 0 + ks ≤ ks; omega)
def CT_X0_order (l : Launch) (fr lo : Nat) (w : XV → (Int32 → GM → Prop) → (Option Nat) → Int32 → Int32 → (Option Nat) → GM → Nat → Nat → Prop) : Prop := ∀ (V : XV) (sz : Nat) (G : GM) (Q : Int32 → GM → Prop) (x0 : Option Nat) (x1 : Int32) (x2 : Int32) (x3 : Option Nat) (kc ks : Nat), Met l yX0_order (wsW_ yX0_order cX0_order 5 (some .int) [(0, 10, 13, 19), (0, 10, 17, 21)]) { frames := fr, cells := kc, slots := ks, locals := lo } (va_Pc [va_rf x0, .int x1, .int x2, va_rf x3] (fun U => U.heap.size = sz ∧ xW V (xA G sz) G U.heap ∧ xK V U ∧ xZ V (xA G sz) U U.heap ∧ w V Q x0 x1 x2 x3 G kc ks)) (va_Qi (fun r (u : GM) => Q r u) (fun u t => xW V (xA G sz) u t.heap) (xA G sz)) kc ks (xA G sz)
def w_X0_order (V : XV) (Q : Int32 → GM → Prop) (x0 : Option Nat) (x1 : Int32) (x2 : Int32) (x3 : Option Nat) (G : GM) (kc : Nat) (ks : Nat) : Prop := gRcv G x0 (fun a1 c2 => (c2 % 64 = 0) ∧ (∃ c5 s6 : Nat, c5 ≤ kc ∧ s6 ≤ ks ∧ (w_X1_order V (fun r3 G4 => gJS G4 1 x3 (0 : Int32) (r3.toInt64) (fun G7 => Q (0 : Int32) G7)) (fun E G9 => if E = "java/lang/IndexOutOfBoundsException" then Q (1 : Int32) G9 else (if E = "java/lang/IllegalArgumentException" then Q (2 : Int32) G9 else (False))) a1 x1 x2 G c5 s6)))
set_option maxRecDepth 100000 in
set_option maxHeartbeats 4000000 in
theorem wk_X0_order {p : Program} {l : Launch} {e : Env} {R : Room} {s : State} {m : MethodId} {args : Array Value} {below : List Frame} {meth : Method} {c : Code} {Z : State → Prop} {A : Nat → Prop} {V : XV} (Q : Int32 → GM → Prop) (C : xC p m c s args cX0_order 5 RX0 V A) (hfl : l.stackTraces = false) (htab : c.exceptionTable.toList = tableOf [(0, 10, 13, 19), (0, 10, 17, 21)]) (hRf : 15 ≤ R.frames) (hRl : 271 ≤ R.locals) (G : GM) (hret : ∀ (v : Int32) (G : GM) (pc : Nat) (ls : Array Slot) (H : Heap) (locs : List Loc) (cells slots : Nat) {k1 k2 : Nat}, decode cX0_order pc = .ok (.ireturn, 1) → xW V A G H → va_S A s.heap H locs → cells + k1 ≤ R.cells → slots + k2 ≤ R.slots → Q v G → W p l e R s m args below meth c H locs cells slots Z (F0 m pc ls [.int v])) (x0 : Option Nat) (x1 : Int32) (x2 : Int32) (x3 : Option Nat) (kc ks : Nat) : w_X0_order V Q x0 x1 x2 x3 G kc ks → ∀ (ls : Array Slot) (H : Heap) (locs : List Loc) (cells slots : Nat), lv_has ls 5 [(0, va_rf x0), (1, .int x1), (2, .int x2), (3, va_rf x3)] → xW V A G H → va_S A s.heap H locs → cells + kc ≤ R.cells → slots + ks ≤ R.slots → W p l e R s m args below meth c H locs cells slots Z (F0 m 0 ls []) := by
  have hx := C.1.1; have hb := C.1.2.1; have hml := C.1.2.2.1; have hown := C.1.2.2.2.1; have hts := C.1.2.2.2.2
  intro h
  intro ls H locs cells slots hl hW hS hkc hks
  refine sh_aload_n hx hb dX0_order_0 rfl (lv_at hl 3 rfl) ?_
  refine lv_iconst (v := 0) hx hb dX0_order_1 (by decide) ?_
  refine sh_aload_n hx hb dX0_order_2 rfl (lv_at hl 0 rfl) ?_
  refine lv_iload_n hx hb dX0_order_3 rfl (lv_at hl 1 rfl) ?_
  refine lv_iload_n hx hb dX0_order_4 rfl (lv_at hl 2 rfl) ?_
  obtain ⟨a1, c2, ho5, hcv5, h⟩ := h
  have hcc := h.1
  have h := h.2
  obtain ⟨c5, s6, hc5, hs5, h⟩ := h
  refine call_X1_order_V (ct_X1_order l hfl) C hW hS q1133 ho5 hcv5 hcc (le_lit hRf rfl) (le_lit hRl rfl) hc5 hs5 hkc hks hl.1 (by simp only [List.map_cons, List.map_nil, va_rf_cat]; exact Nat.le_of_ble_eq_true rfl) dX0_order_5 h (fun E G9 ce q9 H locs hX hW hS h1 h2 h3 _ => by
      by_cases c900 : E = "java/lang/IndexOutOfBoundsException"
      · have hX := wif_t hX c900
        subst c900
        refine vx_catch hown [] ⟨0, 10, 13, 19⟩ [⟨0, 10, 17, 21⟩] (htab.trans rfl) (fun z hz => absurd hz List.not_mem_nil) rfl (by decide) (hts _ q740) (va_Nw.use rfl (C.2.1.2.2.1 _ q757 rfl)) h1 h2 h3 ?_
        refine sh_astore (lv' := [(4, va_rf (some q9)), (0, va_rf x0), (1, .int x1), (2, .int x2), (3, va_rf x3)]) hx hb dX0_order_13 hl (by decide) (by simp only [List.filter_cons, List.filter_nil, va_rf_cat]; rfl) (fun ls hl => ?_)
        refine lv_iconst (v := 1) hx hb dX0_order_15 (by decide) ?_
        exact hret _ _ _ _ _ _ _ _ (k1 := 0) (k2 := 0) dX0_order_16 hW hS (by omega) (by omega) hX
      have hX := wif_f hX c900
      by_cases c901 : E = "java/lang/IllegalArgumentException"
      · have hX := wif_t hX c901
        subst c901
        refine vx_catch hown [⟨0, 10, 13, 19⟩] ⟨0, 10, 17, 21⟩ [] (htab.trans rfl) (by intro z hz; simp only [List.mem_cons, List.not_mem_nil, or_false] at hz; rcases hz with rfl <;> first | (exact Or.inr ⟨by decide, "java/lang/IndexOutOfBoundsException", hts _ q740, C.2.1.2.2.2.2.2.2.1 ("java/lang/IllegalArgumentException", "java/lang/IndexOutOfBoundsException") (by decide)⟩)) rfl (by decide) (hts _ q743) (va_Nw.use rfl (C.2.1.2.2.1 _ q441 rfl)) h1 h2 h3 ?_
        refine sh_astore (lv' := [(4, va_rf (some q9)), (0, va_rf x0), (1, .int x1), (2, .int x2), (3, va_rf x3)]) hx hb dX0_order_17 hl (by decide) (by simp only [List.filter_cons, List.filter_nil, va_rf_cat]; rfl) (fun ls hl => ?_)
        refine lv_iconst (v := 2) hx hb dX0_order_19 (by decide) ?_
        exact hret _ _ _ _ _ _ _ _ (k1 := 0) (k2 := 0) dX0_order_20 hW hS (by omega) (by omega) hX
      have hX := wif_f hX c901
      exact False.elim hX) (fun r3 G4 H locs h hW hS _ hkc hks => ?_)
  refine lv_i2l hx hb dX0_order_8 rfl ?_
  refine sh_last C hW hS h dX0_order_9 (fun G7 H locs hW hS h => ?_)
  refine lv_goto (tgt := 21) hx hb dX0_order_10 (by decide) ?_
  refine lv_iconst (v := 0) hx hb dX0_order_21 (by decide) ?_
  exact hret _ _ _ _ _ _ _ _ dX0_order_22 hW hS hkc hks h
theorem ct_X0_order (l : Launch) (hfl : l.stackTraces = false) : CT_X0_order l 15 271 w_X0_order := by
  intro V sz G Q x0 x1 x2 x3 kc ks
  refine gx_ofWH (cc := cX0_order) (maxL := 5) (ret := (some .int)) (hh := [(0, 10, 13, 19), (0, 10, 17, 21)]) (by decide) rfl ?_
  intro p e s m args below meth c s₁ B hml htab hv
  obtain ⟨rfl, hsz, hW, hK, hZ, h⟩ := hv
  subst hsz
  have hts := atoms_spec (ws := (wsW_ yX0_order cX0_order 5 (some .int) [(0, 10, 13, 19), (0, 10, 17, 21)])) B.pre
  have hts : ∀ w ∈ lw_all, w.before _ s = true := fun w h => hts w (List.mem_cons_of_mem _ h)
  have key : ∃ ls : Array Slot, entryFrame m ([va_rf x0, .int x1, .int x2, va_rf x3] : List Value).toArray 5 = F0 m 0 ls [] ∧ lv_has ls 5 [(0, va_rf x0), (1, .int x1), (2, .int x2), (3, va_rf x3)] := by
    cases x0 <;> cases x3 <;> (refine ⟨_, by rw [lg_entry_eq], ?_⟩; exact lv_entry _ (Nat.le_of_ble_eq_true rfl))
  obtain ⟨ls, hfr, hl⟩ := key
  rw [hfr]
  exact wk_X0_order Q ⟨⟨B.exec, B.bytes, hml, findClass_of_methodNamed B.named, hts⟩, hK, hZ, fun q h => Or.inr h⟩ hfl htab (Nat.le_refl _) (Nat.le_refl _) G (fun v G pc ls H locs cells slots _ _ hd hW1 hS hkc hks hQ => W.widen (k := kc) (n := ks) (Nat.le_trans (Nat.le_add_right _ _) hkc) (Nat.le_trans (Nat.le_add_right _ _) hks) (W.iret (v := v) B.exec B.bytes B.returns (fun t ht _ => ⟨⟨v, G, rfl, hQ, by rw [← ht] at hW1; exact hW1⟩, hS.F ht⟩) hS.2.2 hd)) x0 x1 x2 x3 kc ks h ls _ [] 0 0 hl hW va_S.rf (by show 0 + kc ≤ kc; omega) (by show 0 + ks ≤ ks; omega)
def CT_X5_isOn (l : Launch) (fr lo : Nat) (w : XV → (Int32 → Prop) → Nat → (Option Nat) → GM → Prop) : Prop := ∀ (V : XV) (sz : Nat) (G : GM) (Q : Int32 → Prop) (x0 : Nat) (x1 : Option Nat), Met l yX5_isOn (ws_ yX5_isOn cX5_isOn 3 (some .boolean)) { frames := fr, cells := 0, slots := 0, locals := lo } (va_Pc [.ref x0, va_rf x1] (fun U => U.heap.size = sz ∧ xW V (xA G sz) G U.heap ∧ xK V U ∧ xZ V (xA G sz) U U.heap ∧ w V Q x0 x1 G)) (va_Qi (fun r (u : GM) => u = G ∧ Q r) (fun u t => xW V (xA G sz) u t.heap) (xA G sz)) 0 0 (xA G sz)
theorem call_X5_isOn_U3_4_5_6_Layer {p : Program} {l : Launch} {e : Env} {R : Room} {s : State} {m : MethodId} {args : Array Value} {below : List Frame} {meth : Method} {c : Code} {H : Heap} {locs : List Loc} {cells slots : Nat} {Z : State → Prop} {A : Nat → Prop} {cc : ByteArray} {nL pc : Nat} {ls : Array Slot} {rest : List Value} {own : String} {index fr lo : Nat} {w : XV → (Int32 → Prop) → Nat → (Option Nat) → GM → Prop} {V : XV} {G : GM} {o : Option Nat} {ci : Nat} {x0 : Nat} {x1 : Option Nat} (hM : CT_X5_isOn l fr lo w) (C : xC p m c s args cc nL own V A) (hW : xW V A G H) (hS : va_S A s.heap H locs) (hlink : Cond.methodLink own index ⟨"Shapelayer$Layer", "isOn", "(LShapelayer$Layer;)Z"⟩ ∈ lw_all) (ho : o = some x0) (hcv : gCi G (some x0) = some ci) (hci : ci % 64 = 5 ∨ ci % 64 = 6 ∨ ci % 64 = 3 ∨ ci % 64 = 4) (hRf : fr + 1 ≤ R.frames) (hRl : 8 + (3 + 11) + lo ≤ R.locals) (hcs : cells ≤ R.cells ∧ slots ≤ R.slots) (hz : ls.size = nL) (hr8 : (rest.map fun v => v.category).sum ≤ 8) (hdg : decode cc pc = .ok (.invokevirtual index, 3)) {Q1 : Int32 → Prop} (h : w V Q1 x0 x1 G) (kk : ∀ (r : Int32) (H1 : Heap) (locs1 : List Loc), Q1 r → xW V A G H1 → va_S A s.heap H1 locs1 → xFr V G G H H1 → W p l e R s m args below meth c H1 locs1 cells slots Z (F0 m (pc + 3) ls (.int r :: rest))) : W p l e R s m args below meth c H locs cells slots Z (F0 m pc ls (va_rf x1 :: va_rf o :: rest)) := by
  subst ho
  obtain ⟨fs, hG⟩ := gCi_of hcv
  rcases hci with hci | hci | hci | hci
  · exact rg_i3r (va_runU (As := [va_rf x1]) (rest := rest) C.1 (hM V H.size G Q1 x0 x1) (va_cwU (C := "Shapelayer$Nested") 1 C.1.2.2.2.2 (lw_U hlink q1194 q1195 q1193 q87 q1199) rfl rfl rfl rfl (by decide +kernel) ⟨hRf, hRl⟩) ⟨fun a U g mk q => by obtain ⟨q0, q1, qW, qK, qZ, qw⟩ := q; exact ⟨q0, q1, qW, xK.same (u := U) (U := U.calling g mk a) rfl qK, xZ.moved (u := U) (U := U.calling g mk a) (Vm.Alike.refl U.vm) qZ, qw⟩, (hW.recv C.2.1 hG (r := (RX11, TX11, 9)) (by rw [hci]; rfl)), fun U hU hWm => ⟨rfl, by rw [hU], by rw [hU]; exact hW.self _, C.2.1.warm hWm, xZ.call C.2.2.1 hW hS C.2.2.2 hU hWm.alike, h⟩⟩ rfl rfl hz rfl (lv_room hr8) hdg hcs) hW hS C.2.2.2 (fun r H1 locs1 hp hW1 hS1 hF1 => kk r H1 locs1 hp hW1 hS1 hF1)
  · exact rg_i3r (va_runU (As := [va_rf x1]) (rest := rest) C.1 (hM V H.size G Q1 x0 x1) (va_cwU (C := "Shapelayer$Null") 1 C.1.2.2.2.2 (lw_U hlink q1194 q1196 q1193 q87 q1199) rfl rfl rfl rfl (by decide +kernel) ⟨hRf, hRl⟩) ⟨fun a U g mk q => by obtain ⟨q0, q1, qW, qK, qZ, qw⟩ := q; exact ⟨q0, q1, qW, xK.same (u := U) (U := U.calling g mk a) rfl qK, xZ.moved (u := U) (U := U.calling g mk a) (Vm.Alike.refl U.vm) qZ, qw⟩, (hW.recv C.2.1 hG (r := (RX12, TX12, 8)) (by rw [hci]; rfl)), fun U hU hWm => ⟨rfl, by rw [hU], by rw [hU]; exact hW.self _, C.2.1.warm hWm, xZ.call C.2.2.1 hW hS C.2.2.2 hU hWm.alike, h⟩⟩ rfl rfl hz rfl (lv_room hr8) hdg hcs) hW hS C.2.2.2 (fun r H1 locs1 hp hW1 hS1 hF1 => kk r H1 locs1 hp hW1 hS1 hF1)
  · exact rg_i3r (va_runU (As := [va_rf x1]) (rest := rest) C.1 (hM V H.size G Q1 x0 x1) (va_cwU (C := "Shapelayer$Rect") 1 C.1.2.2.2.2 (lw_U hlink q1194 q1197 q1193 q87 q1199) rfl rfl rfl rfl (by decide +kernel) ⟨hRf, hRl⟩) ⟨fun a U g mk q => by obtain ⟨q0, q1, qW, qK, qZ, qw⟩ := q; exact ⟨q0, q1, qW, xK.same (u := U) (U := U.calling g mk a) rfl qK, xZ.moved (u := U) (U := U.calling g mk a) (Vm.Alike.refl U.vm) qZ, qw⟩, (hW.recv C.2.1 hG (r := (RX7, TX7, 11)) (by rw [hci]; rfl)), fun U hU hWm => ⟨rfl, by rw [hU], by rw [hU]; exact hW.self _, C.2.1.warm hWm, xZ.call C.2.2.1 hW hS C.2.2.2 hU hWm.alike, h⟩⟩ rfl rfl hz rfl (lv_room hr8) hdg hcs) hW hS C.2.2.2 (fun r H1 locs1 hp hW1 hS1 hF1 => kk r H1 locs1 hp hW1 hS1 hF1)
  · exact rg_i3r (va_runU (As := [va_rf x1]) (rest := rest) C.1 (hM V H.size G Q1 x0 x1) (va_cwU (C := "Shapelayer$Stroke") 1 C.1.2.2.2.2 (lw_U hlink q1194 q1198 q1193 q87 q1199) rfl rfl rfl rfl (by decide +kernel) ⟨hRf, hRl⟩) ⟨fun a U g mk q => by obtain ⟨q0, q1, qW, qK, qZ, qw⟩ := q; exact ⟨q0, q1, qW, xK.same (u := U) (U := U.calling g mk a) rfl qK, xZ.moved (u := U) (U := U.calling g mk a) (Vm.Alike.refl U.vm) qZ, qw⟩, (hW.recv C.2.1 hG (r := (RX9, TX9, 11)) (by rw [hci]; rfl)), fun U hU hWm => ⟨rfl, by rw [hU], by rw [hU]; exact hW.self _, C.2.1.warm hWm, xZ.call C.2.2.1 hW hS C.2.2.2 hU hWm.alike, h⟩⟩ rfl rfl hz rfl (lv_room hr8) hdg hcs) hW hS C.2.2.2 (fun r H1 locs1 hp hW1 hS1 hF1 => kk r H1 locs1 hp hW1 hS1 hF1)
def w_X5_isOn_h2 (V : XV) (Q : Int32 → Prop) (x1 : Option Nat) (G : GM) (rec2 : (Option Nat) → Prop) (x2 : Option Nat) : Prop := if x2 = none then (Q (0 : Int32)) else (if x2 = x1 then (Q (1 : Int32)) else (gGR G 16 x2 (fun v1 => rec2 v1)))
def w_X5_isOn_L2 (V : XV) (Q : Int32 → Prop) (x1 : Option Nat) (G : GM) (x2 : Option Nat) : Prop := wLoop (fun (rec : (Option Nat) → Prop) (s : (Option Nat)) => w_X5_isOn_h2 V Q x1 G (fun x2 => rec x2) s) x2
def w_X5_isOn (V : XV) (Q : Int32 → Prop) (x0 : Nat) (x1 : Option Nat) (G : GM) : Prop := w_X5_isOn_L2 V Q x1 G (some x0)
set_option maxRecDepth 100000 in
set_option maxHeartbeats 4000000 in
theorem wk_X5_isOn {p : Program} {l : Launch} {e : Env} {R : Room} {s : State} {m : MethodId} {args : Array Value} {below : List Frame} {meth : Method} {c : Code} {cells slots : Nat} {Z : State → Prop} {A : Nat → Prop} {V : XV} (Q : Int32 → Prop) (C : xC p m c s args cX5_isOn 3 RX5 V A) (hRf : 1 ≤ R.frames) (hRl : 20 ≤ R.locals) (hcs : cells ≤ R.cells ∧ slots ≤ R.slots) (G : GM) (hret : ∀ (v : Int32) (pc : Nat) (ls : Array Slot) (H : Heap) (locs : List Loc), decode cX5_isOn pc = .ok (.ireturn, 1) → xW V A G H → va_S A s.heap H locs → isZ v → Q v → W p l e R s m args below meth c H locs cells slots Z (F0 m pc ls [.int v])) (x0 : Nat) (x1 : Option Nat) : w_X5_isOn V Q x0 x1 G → ∀ (ls : Array Slot) (H : Heap) (locs : List Loc), lv_has ls 3 [(0, va_rf (some x0)), (1, va_rf x1)] → xW V A G H → va_S A s.heap H locs → W p l e R s m args below meth c H locs cells slots Z (F0 m 0 ls []) := by
  have hx := C.1.1; have hb := C.1.2.1; have hml := C.1.2.2.1; have hown := C.1.2.2.2.1; have hts := C.1.2.2.2.2
  have hL2 : ∀ (x2 : Option Nat), w_X5_isOn_L2 V Q x1 G x2 → ∀ (ls : Array Slot) (H : Heap) (locs : List Loc), lv_has ls 3 [(1, va_rf x1), (2, va_rf x2)] → xW V A G H → va_S A s.heap H locs → W p l e R s m args below meth c H locs cells slots Z (F0 m 2 ls []) := by
    obtain ⟨GG2, hG2⟩ : ∃ GG : (Option Nat) → Prop, ∀ (x2 : Option Nat), GG x2 ↔ (∀ (ls : Array Slot) (H : Heap) (locs : List Loc), lv_has ls 3 [(1, va_rf x1), (2, va_rf x2)] → xW V A G H → va_S A s.heap H locs → W p l e R s m args below meth c H locs cells slots Z (F0 m 2 ls [])) := ⟨fun x2 => _, fun x2 => Iff.rfl⟩
    have hB2 : ∀ (rec2 : (Option Nat) → Prop), (∀ (x2 : Option Nat), rec2 x2 → GG2 x2) → ∀ (x2 : Option Nat), w_X5_isOn_h2 V Q x1 G rec2 x2 → GG2 x2 := by
      intro rec2 hrec2
      intro x2 h
      rw [hG2]
      intro ls H locs hl hW hS
      refine sh_aload_n hx hb dX5_isOn_2 rfl (lv_at hl 1 rfl) ?_
      refine sh_ifnull (tgt := 21) hx hb dX5_isOn_3 (by decide) (fun c3 => ?_) (fun c3 => ?_)
      · have h := wif_t h c3
        refine lv_iconst (v := 0) hx hb dX5_isOn_21 (by decide) ?_
        exact hret _ _ _ _ _ dX5_isOn_22 hW hS isZ_0 h
      · have h := wif_f h c3
        refine sh_aload_n hx hb dX5_isOn_6 rfl (lv_at hl 1 rfl) ?_
        refine sh_aload_n hx hb dX5_isOn_7 rfl (lv_at hl 0 rfl) ?_
        refine lv_acmp_ne (tgt := 13) hx hb dX5_isOn_8 (by decide) (fun c2 => ?_) (fun c2 => ?_)
        · have h := wif_f h c2
          refine sh_aload_n hx hb dX5_isOn_13 rfl (lv_at hl 1 rfl) ?_
          obtain ⟨v1, h1, h⟩ := h
          refine sh_get C hW xFb_16 q841 (fun _ h => h) h1 dX5_isOn_14 ?_
          refine sh_astore_n (lv' := [(2, va_rf v1), (1, va_rf x1)]) hx hb dX5_isOn_17 rfl hl (by decide) (by simp only [List.filter_cons, List.filter_nil, va_rf_cat]; rfl) (fun ls hl => ?_)
          refine lv_goto (tgt := 2) hx hb dX5_isOn_18 (by decide) ?_
          exact (hG2 _).mp (hrec2 _ h) ls H locs (lv_sub hl [1, 0] rfl) hW hS
        · have h := wif_t h c2
          refine lv_iconst (v := 1) hx hb dX5_isOn_11 (by decide) ?_
          exact hret _ _ _ _ _ dX5_isOn_12 hW hS isZ_1 h
    intro x2 h
    exact (hG2 x2).mp (loop_walk (fun s => GG2 s) (fun rec hrec s h => hB2 (fun x2 => rec x2) (fun x2 h => hrec x2 h) s h) x2 h)
  intro h
  intro ls H locs hl hW hS
  refine sh_aload_n hx hb dX5_isOn_0 rfl (lv_at hl 0 rfl) ?_
  refine sh_astore_n (lv' := [(2, va_rf (some x0)), (0, va_rf (some x0)), (1, va_rf x1)]) hx hb dX5_isOn_1 rfl hl (by decide) (by simp only [List.filter_cons, List.filter_nil, va_rf_cat]; rfl) (fun ls hl => ?_)
  exact hL2 _ h ls H locs (lv_sub hl [2, 0] rfl) hW hS
theorem ct_X5_isOn (l : Launch) : CT_X5_isOn l 1 20 w_X5_isOn := by
  intro V sz G Q x0 x1
  refine Met.ofW (cc := cX5_isOn) (maxL := 3) (ret := (some .boolean)) (by decide) rfl ?_
  intro p e s m args below meth c s₁ B hml hv
  obtain ⟨rfl, hsz, hW, hK, hZ, h⟩ := hv
  subst hsz
  have hts := atoms_spec (ws := (ws_ yX5_isOn cX5_isOn 3 (some .boolean))) B.pre
  have hts : ∀ w ∈ lw_all, w.before _ s = true := fun w h => hts w (List.mem_cons_of_mem _ h)
  have key : ∃ ls : Array Slot, entryFrame m ([.ref x0, va_rf x1] : List Value).toArray 3 = F0 m 0 ls [] ∧ lv_has ls 3 [(0, va_rf (some x0)), (1, va_rf x1)] := by
    cases x1 <;> (refine ⟨_, by rw [lg_entry_eq], ?_⟩; exact lv_entry _ (Nat.le_of_ble_eq_true rfl))
  obtain ⟨ls, hfr, hl⟩ := key
  rw [hfr]
  exact wk_X5_isOn Q ⟨⟨B.exec, B.bytes, hml, findClass_of_methodNamed B.named, hts⟩, hK, hZ, fun q h => Or.inr h⟩ (Nat.le_refl _) (Nat.le_refl _) ⟨Nat.le_refl _, Nat.le_refl _⟩ G (fun v pc ls H locs hd hW1 hS hz hQ => W.zret (v := v) B.exec B.bytes B.returns hz.nar (fun t ht _ => ⟨⟨v, G, rfl, ⟨rfl, hQ⟩, by rw [← ht] at hW1; exact hW1⟩, hS.F ht⟩) hS.2.2 hd) x0 x1 h ls _ [] hl hW va_S.rf
def CT_X1_numberOf (l : Launch) (fr lo : Nat) (w : XV → (Int32 → Prop) → (Option Nat) → GM → Prop) : Prop := ∀ (V : XV) (sz : Nat) (G : GM) (Q : Int32 → Prop) (x0 : Option Nat), Met l yX1_numberOf (ws_ yX1_numberOf cX1_numberOf 1 (some .int)) { frames := fr, cells := 0, slots := 0, locals := lo } (va_Pc [va_rf x0] (fun U => U.heap.size = sz ∧ xW V (xA G sz) G U.heap ∧ xK V U ∧ xZ V (xA G sz) U U.heap ∧ w V Q x0 G)) (va_Qi (fun r (u : GM) => u = G ∧ Q r) (fun u t => xW V (xA G sz) u t.heap) (xA G sz)) 0 0 (xA G sz)
theorem call_X1_numberOf_S {p : Program} {l : Launch} {e : Env} {R : Room} {s : State} {m : MethodId} {args : Array Value} {below : List Frame} {meth : Method} {c : Code} {H : Heap} {locs : List Loc} {cells slots : Nat} {Z : State → Prop} {A : Nat → Prop} {cc : ByteArray} {nL pc : Nat} {ls : Array Slot} {rest : List Value} {own : String} {index fr lo : Nat} {w : XV → (Int32 → Prop) → (Option Nat) → GM → Prop} {V : XV} {G : GM} {x0 : Option Nat} (hM : CT_X1_numberOf l fr lo w) (C : xC p m c s args cc nL own V A) (hW : xW V A G H) (hS : va_S A s.heap H locs) (hlink : Cond.methodLink own index yX1_numberOf ∈ lw_all) (hRf : fr + 1 ≤ R.frames) (hRl : 8 + (1 + 11) + lo ≤ R.locals) (hcs : cells ≤ R.cells ∧ slots ≤ R.slots) (hz : ls.size = nL) (hr8 : (rest.map fun v => v.category).sum ≤ 8) (hdg : decode cc pc = .ok (.invokestatic index, 3)) {Q1 : Int32 → Prop} (h : w V Q1 x0 G) (kk : ∀ (r : Int32) (H1 : Heap) (locs1 : List Loc), Q1 r → xW V A G H1 → va_S A s.heap H1 locs1 → xFr V G G H H1 → W p l e R s m args below meth c H1 locs1 cells slots Z (F0 m (pc + 3) ls (.int r :: rest))) : W p l e R s m args below meth c H locs cells slots Z (F0 m pc ls (va_rf x0 :: rest)) := by
  exact rg_i3r (va_runS (As := [va_rf x0]) (rest := rest) C.1 (hM V H.size G Q1 x0) (va_cwS 1 C.1.2.2.2.2 (lw_S hlink q1201 q59 q1202) rfl rfl rfl (by decide +kernel) ⟨hRf, hRl⟩) ⟨fun a U g mk q => by obtain ⟨q0, q1, qW, qK, qZ, qw⟩ := q; exact ⟨q0, q1, qW, xK.same (u := U) (U := U.calling g mk a) rfl qK, xZ.moved (u := U) (U := U.calling g mk a) (Vm.Alike.refl U.vm) qZ, qw⟩, fun U hU hWm => ⟨rfl, by rw [hU], by rw [hU]; exact hW.self _, C.2.1.warm hWm, xZ.call C.2.2.1 hW hS C.2.2.2 hU hWm.alike, h⟩⟩ rfl rfl hz rfl (lv_room hr8) hdg hcs) hW hS C.2.2.2 (fun r H1 locs1 hp hW1 hS1 hF1 => kk r H1 locs1 hp hW1 hS1 hF1)
def w_X1_numberOf (V : XV) (Q : Int32 → Prop) (x0 : Option Nat) (G : GM) : Prop := if x0 = none then (Q (-1 : Int32)) else (gGI G 13 x0 (fun v1 => Q v1))
set_option maxRecDepth 100000 in
set_option maxHeartbeats 4000000 in
theorem wk_X1_numberOf {p : Program} {l : Launch} {e : Env} {R : Room} {s : State} {m : MethodId} {args : Array Value} {below : List Frame} {meth : Method} {c : Code} {cells slots : Nat} {Z : State → Prop} {A : Nat → Prop} {V : XV} (Q : Int32 → Prop) (C : xC p m c s args cX1_numberOf 1 RX1 V A) (hRf : 1 ≤ R.frames) (hRl : 20 ≤ R.locals) (hcs : cells ≤ R.cells ∧ slots ≤ R.slots) (G : GM) (hret : ∀ (v : Int32) (pc : Nat) (ls : Array Slot) (H : Heap) (locs : List Loc), decode cX1_numberOf pc = .ok (.ireturn, 1) → xW V A G H → va_S A s.heap H locs → Q v → W p l e R s m args below meth c H locs cells slots Z (F0 m pc ls [.int v])) (x0 : Option Nat) : w_X1_numberOf V Q x0 G → ∀ (ls : Array Slot) (H : Heap) (locs : List Loc), lv_has ls 1 [(0, va_rf x0)] → xW V A G H → va_S A s.heap H locs → W p l e R s m args below meth c H locs cells slots Z (F0 m 0 ls []) := by
  have hx := C.1.1; have hb := C.1.2.1; have hml := C.1.2.2.1; have hown := C.1.2.2.2.1; have hts := C.1.2.2.2.2
  intro h
  intro ls H locs hl hW hS
  refine sh_aload_n hx hb dX1_numberOf_0 rfl (lv_at hl 0 rfl) ?_
  refine sh_ifnonnull (tgt := 8) hx hb dX1_numberOf_1 (by decide) (fun c2 => ?_) (fun c2 => ?_)
  · have h := wif_f h c2
    refine sh_aload_n hx hb dX1_numberOf_8 rfl (lv_at hl 0 rfl) ?_
    obtain ⟨v1, h1, h⟩ := h
    refine sh_get C hW xFb_13 q836 (fun _ h => h) h1 dX1_numberOf_9 ?_
    exact hret _ _ _ _ _ dX1_numberOf_12 hW hS h
  · have h := wif_t h c2
    refine lv_iconst (v := -1) hx hb dX1_numberOf_4 (by decide) ?_
    refine lv_goto (tgt := 12) hx hb dX1_numberOf_5 (by decide) ?_
    exact hret _ _ _ _ _ dX1_numberOf_12 hW hS h
theorem ct_X1_numberOf (l : Launch) : CT_X1_numberOf l 1 20 w_X1_numberOf := by
  intro V sz G Q x0
  refine Met.ofW (cc := cX1_numberOf) (maxL := 1) (ret := (some .int)) (by decide) rfl ?_
  intro p e s m args below meth c s₁ B hml hv
  obtain ⟨rfl, hsz, hW, hK, hZ, h⟩ := hv
  subst hsz
  have hts := atoms_spec (ws := (ws_ yX1_numberOf cX1_numberOf 1 (some .int))) B.pre
  have hts : ∀ w ∈ lw_all, w.before _ s = true := fun w h => hts w (List.mem_cons_of_mem _ h)
  have key : ∃ ls : Array Slot, entryFrame m ([va_rf x0] : List Value).toArray 1 = F0 m 0 ls [] ∧ lv_has ls 1 [(0, va_rf x0)] := by
    cases x0 <;> (refine ⟨_, by rw [lg_entry_eq], ?_⟩; exact lv_entry _ (Nat.le_of_ble_eq_true rfl))
  obtain ⟨ls, hfr, hl⟩ := key
  rw [hfr]
  exact wk_X1_numberOf Q ⟨⟨B.exec, B.bytes, hml, findClass_of_methodNamed B.named, hts⟩, hK, hZ, fun q h => Or.inr h⟩ (Nat.le_refl _) (Nat.le_refl _) ⟨Nat.le_refl _, Nat.le_refl _⟩ G (fun v pc ls H locs hd hW1 hS hQ => W.iret (v := v) B.exec B.bytes B.returns (fun t ht _ => ⟨⟨v, G, rfl, ⟨rfl, hQ⟩, by rw [← ht] at hW1; exact hW1⟩, hS.F ht⟩) hS.2.2 hd) x0 h ls _ [] hl hW va_S.rf
