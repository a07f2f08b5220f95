def CT_X3_mapOut (l : Launch) (fr lo : Nat) (w : (ML → Prop) → Int32 → Int32 → Int32 → MM → ML → Prop) : Prop := ∀ (E : mE) (M : MM) (L : ML) (sz : Nat) (Q : ML → Prop) (x1 : Int32) (x2 : Int32) (x3 : Int32), Met l yX3_mapOut (ws_ yX3_mapOut cX3_mapOut 5 none) { frames := fr, cells := 0, slots := 0, locals := lo } (va_Pc [.ref (mh E), .int x1, .int x2, .int x3] (fun U => U.heap.size = sz ∧ mW E M L U.heap ∧ mK E U ∧ w Q x1 x2 x3 M L)) (va_Qv (fun (u : MM × ML) => u.1 = M ∧ Q u.2) (fun u t => mW E u.1 u.2 t.heap) (mA E sz)) 0 0 (mA E sz)
theorem call_X3_mapOut {p : Program} {l : Launch} {e : Env} {R : Room} {s : State} {m : MethodId} {args : Array Value} {below : List Frame} {meth : Method} {c : Code} {H : Heap} {locs : List Loc} {cells slots : Nat} {Z : State → Prop} {A : Nat → Prop} {cc : ByteArray} {nL pc : Nat} {ls : Array Slot} {rest : List Value} {own : String} {index fr lo : Nat} {w : (ML → Prop) → Int32 → Int32 → Int32 → MM → ML → Prop} {E : mE} {M : MM} {L : ML} {x1 : Int32} {x2 : Int32} {x3 : Int32} (hM : CT_X3_mapOut l fr lo w) (S : CallFix p m c cc nL s args lw_all own) (hK : mK E s) (hW : mW E M L H) (hS : va_S A s.heap H locs) (hA : ∀ q, s.heap.size ≤ q → A q) (hAw : ∀ q, mAd E q → A q) (hlink : Cond.methodLink own index yX3_mapOut ∈ lw_all) (hRf : fr + 1 ≤ R.frames) (hRl : 8 + (5 + 11) + lo ≤ R.locals) (hcs : cells ≤ R.cells ∧ slots ≤ R.slots) (hz : ls.size = nL) (hr8 : (rest.map fun v => v.category).sum ≤ 8) (hdg : decode cc pc = .ok (.invokevirtual index, 3)) {Q1 : ML → Prop} (h : w Q1 x1 x2 x3 M L) (kk : ∀ (L1 : ML) (H1 : Heap) (locs1 : List Loc), Q1 L1 → mW E M L1 H1 → va_S A s.heap H1 locs1 → (∀ q : Nat, q < H.size → ¬ mAd E q → H1[q]? = H[q]?) → W p l e R s m args below meth c H1 locs1 cells slots Z (F0 m (pc + 3) ls (rest))) : W p l e R s m args below meth c H locs cells slots Z (F0 m pc ls (.int x3 :: .int x2 :: .int x1 :: .ref (mh E) :: rest)) := by
  refine mw_v (sz := 0) (P := fun M1 L1 => M1 = M ∧ Q1 L1) (va_runV (As := [.int x1, .int x2, .int x3]) (rest := rest) S (hM E M L H.size Q1 x1 x2 x3) (cwV 3 S.2.2.2.2 (lw_V hlink q2112 qs46 q68 q2113) rfl rfl rfl (by decide +kernel) ⟨hRf, hRl⟩) ⟨fun a U g mk q => by obtain ⟨q0, q1, qW, qK, qw⟩ := q; exact ⟨q0, q1, qW, qK.moved (u := U) (U := U.calling g mk a) (Vm.Alike.refl U.vm), qw⟩, hW.recv (hK := hK), fun U hU hWm => ⟨rfl, by rw [hU], by rw [hU]; exact hW, hK.moved hWm.alike, h⟩⟩ rfl rfl hz rfl (lv_room hr8) hdg hcs) hS hA hAw (fun M1 L1 H1 locs1 hp hW1 hz hk hS1 => ?_)
  obtain ⟨rfl, hp⟩ := hp
  exact kk L1 H1 locs1 hp hW1 hS1 hk
def w_X3_mapOut_h11 (Q : ML → Prop) (M : MM) (rec11 : Int32 → ML → Prop) (x4 : Int32) (L : ML) : Prop := if x4 < 0 then (Q L) else (mRd (M 25) 4 x4 (fun v1 => mRd (M 26) 4 x4 (fun v2 => w_X3_mapUp (fun L3 => rec11 (x4 + (-1 : Int32)) L3) v1 v2 M L)))
def w_X3_mapOut_L11 (Q : ML → Prop) (M : MM) (x4 : Int32) (L : ML) : Prop := wLoop (fun (rec : (Int32 × ML) → Prop) (s : Int32 × ML) => w_X3_mapOut_h11 Q M (fun x4 L => rec (x4, L)) s.1 s.2) (x4, L)
def w_X3_mapOut (Q : ML → Prop) (x1 : Int32) (x2 : Int32) (x3 : Int32) (M : MM) (L : ML) : Prop := w_X3_mapUp (fun L5 => w_X3_mapOut_L11 Q M (x3 - (1 : Int32)) L5) x1 x2 M L
set_option maxRecDepth 100000 in
set_option maxHeartbeats 4000000 in
theorem wk_X3_mapOut {p : Program} {l : Launch} {e : Env} {R : Room} {s : State} {m : MethodId} {args : Array Value} {below : List Frame} {meth : Method} {c : Code} {cells slots : Nat} {Z : State → Prop} {A : Nat → Prop} {E : mE} (Q : ML → Prop) (C : mC p m c s args cX3_mapOut 5 E) (hA : ∀ q, s.heap.size ≤ q → A q) (hAw : ∀ q, mAd E q → A q) (hRf : 5 ≤ R.frames) (hRl : 125 ≤ R.locals) (hcs : cells ≤ R.cells ∧ slots ≤ R.slots) (M : MM) (L : ML) (hret : ∀ (L : ML) (pc : Nat) (ls : Array Slot) (H : Heap) (locs : List Loc), decode cX3_mapOut pc = .ok (.return_, 1) → va_S A s.heap H locs → mW E M L H → Q L → W p l e R s m args below meth c H locs cells slots Z (F0 m pc ls [])) (x1 : Int32) (x2 : Int32) (x3 : Int32) : w_X3_mapOut Q x1 x2 x3 M L → ∀ (ls : Array Slot) (H : Heap) (locs : List Loc), lv_has ls 5 [(0, .ref (mh E)), (1, .int x1), (2, .int x2), (3, .int x3)] → mW E M L H → va_S A s.heap H locs → W p l e R s m args below meth c H locs cells slots Z (F0 m 0 ls []) := by
  obtain ⟨⟨hx, hb, hml, hown, hts⟩, hK⟩ := C; have C : mC p m c s args cX3_mapOut 5 E := ⟨⟨hx, hb, hml, hown, hts⟩, hK⟩
  have hL11 : ∀ (x4 : Int32) (L : ML), w_X3_mapOut_L11 Q M x4 L → ∀ (ls : Array Slot) (H : Heap) (locs : List Loc), lv_has ls 5 [(0, .ref (mh E)), (4, .int x4)] → mW E M L H → va_S A s.heap H locs → W p l e R s m args below meth c H locs cells slots Z (F0 m 11 ls []) := by
    obtain ⟨G11, hG11⟩ : ∃ G : Int32 → ML → Prop, ∀ (x4 : Int32) (L : ML), G x4 L ↔ (∀ (ls : Array Slot) (H : Heap) (locs : List Loc), lv_has ls 5 [(0, .ref (mh E)), (4, .int x4)] → mW E M L H → va_S A s.heap H locs → W p l e R s m args below meth c H locs cells slots Z (F0 m 11 ls [])) := ⟨fun x4 L => _, fun x4 L => Iff.rfl⟩
    have hB11 : ∀ (rec11 : Int32 → ML → Prop), (∀ (x4 : Int32) (L : ML), rec11 x4 L → G11 x4 L) → ∀ (x4 : Int32) (L : ML), w_X3_mapOut_h11 Q M rec11 x4 L → G11 x4 L := by
      intro rec11 hrec11
      intro x4 L h
      rw [hG11]
      intro ls H locs hl hW hS
      refine lv_iload hx hb dX3_mapOut_11 (lv_at hl 1 rfl) ?_
      refine lv_if_lt (tgt := 40) hx hb dX3_mapOut_13 (by decide) (fun c4 => ?_) (fun c4 => ?_)
      · have h := wif_t h c4
        exact hret _ _ _ _ _ dX3_mapOut_40 hS hW h
      · have h := wif_f h c4
        refine lv_aload_n hx hb dX3_mapOut_16 rfl (lv_at hl 0 rfl) ?_
        refine lv_aload_n hx hb dX3_mapOut_17 rfl (lv_at hl 0 rfl) ?_
        refine mr_getA C hW 25 rfl rfl q1828 dX3_mapOut_18 ?_
        refine lv_iload hx hb dX3_mapOut_21 (lv_at hl 1 rfl) ?_
        refine mr_iald C hW 25 rfl rfl rfl h dX3_mapOut_23 (fun v1 h => ?_)
        refine lv_aload_n hx hb dX3_mapOut_24 rfl (lv_at hl 0 rfl) ?_
        refine mr_getA C hW 26 rfl rfl q1829 dX3_mapOut_25 ?_
        refine lv_iload hx hb dX3_mapOut_28 (lv_at hl 1 rfl) ?_
        refine mr_iald C hW 26 rfl rfl rfl h dX3_mapOut_30 (fun v2 h => ?_)
        refine call_X3_mapUp (ct_X3_mapUp l) C.1 C.2 hW hS hA hAw q2047 (le_lit hRf rfl) (le_lit hRl rfl) hcs hl.1 (Nat.le_of_ble_eq_true rfl) dX3_mapOut_31 h (fun L3 H locs h hW hS _ => ?_)
        refine lv_iinc (v := x4 + (-1 : Int32)) (lv' := [(4, .int (x4 + (-1 : Int32))), (0, .ref (mh E))]) hx hb dX3_mapOut_34 hl (k := 1) rfl (congrArg (fun z => x4 + z) (by decide)) (by decide) rfl (fun ls hl => ?_)
        refine lv_goto (tgt := 11) hx hb dX3_mapOut_37 (by decide) ?_
        exact (hG11 _ _).mp (hrec11 _ _ h) ls H locs (lv_sub hl [1, 0] rfl) hW hS
    intro x4 L h
    exact (hG11 x4 L).mp (loop_walk (fun s => G11 s.1 s.2) (fun rec hrec s h => hB11 (fun x4 L => rec (x4, L)) (fun x4 L h => hrec (x4, L) h) s.1 s.2 h) (x4, L) h)
  intro h
  intro ls H locs hl hW hS
  refine lv_aload_n hx hb dX3_mapOut_0 rfl (lv_at hl 0 rfl) ?_
  refine lv_iload_n hx hb dX3_mapOut_1 rfl (lv_at hl 1 rfl) ?_
  refine lv_iload_n hx hb dX3_mapOut_2 rfl (lv_at hl 2 rfl) ?_
  refine call_X3_mapUp (ct_X3_mapUp l) C.1 C.2 hW hS hA hAw q2047 (le_lit hRf rfl) (le_lit hRl rfl) hcs hl.1 (Nat.le_of_ble_eq_true rfl) dX3_mapOut_3 h (fun L5 H locs h hW hS _ => ?_)
  refine lv_iload_n hx hb dX3_mapOut_6 rfl (lv_at hl 3 rfl) ?_
  refine lv_iconst (v := 1) hx hb dX3_mapOut_7 (by decide) ?_
  refine lv_isub hx hb dX3_mapOut_8 ?_
  refine lv_istore (lv' := [(4, .int (x3 - (1 : Int32))), (0, .ref (mh E)), (1, .int x1), (2, .int x2), (3, .int x3)]) hx hb dX3_mapOut_9 hl (by decide) rfl (fun ls hl => ?_)
  exact hL11 _ _ h ls H locs (lv_sub hl [1, 0] rfl) hW hS
theorem ct_X3_mapOut (l : Launch) : CT_X3_mapOut l 5 125 w_X3_mapOut := by
  intro E M L sz Q x1 x2 x3
  refine Met.ofW (cc := cX3_mapOut) (maxL := 5) (ret := none) (by decide) rfl ?_
  intro p e s m args below meth c s₁ B hml hv
  obtain ⟨rfl, hsz, hW, hK, h⟩ := hv
  subst hsz
  have hts := atoms_spec (ws := ws_ yX3_mapOut cX3_mapOut 5 none) B.pre
  have hts : ∀ w ∈ lw_all, w.before _ s = true := fun w h => hts w (List.mem_cons_of_mem _ h)
  have hl := lv_entry ([.ref (mh E), .int x1, .int x2, .int x3]) (n := 5) (Nat.le_of_ble_eq_true rfl)
  rw [lg_entry_eq]
  generalize (lg_sl ([.ref (mh E), .int x1, .int x2, .int x3]) ++ List.replicate (5 - (lg_sl ([.ref (mh E), .int x1, .int x2, .int x3])).length) Slot.unset).toArray = ls at hl ⊢
  exact wk_X3_mapOut Q ⟨⟨B.exec, B.bytes, hml, findClass_of_methodNamed B.named, hts⟩, hK⟩ (fun q h => Or.inr h) (fun q h => Or.inl h) (Nat.le_refl _) (Nat.le_refl _) ⟨Nat.le_refl _, Nat.le_refl _⟩ M L (fun L pc ls H locs hd hS hW1 hQ => W.vret B.exec B.bytes B.returns (fun t ht _ => ⟨⟨(M, L), rfl, ⟨rfl, hQ⟩, by rw [← ht] at hW1; exact hW1⟩, hS.F ht⟩) hS.2.2 hd) x1 x2 x3 h ls _ [] hl hW va_S.rf
def CT_X3_paint (l : Launch) (fr lo : Nat) (w : (MM → Prop) → Int32 → Int32 → Int32 → Int32 → MM → Prop) : Prop := ∀ (E : mE) (M : MM) (L : ML) (sz : Nat) (Q : MM → Prop) (x1 : Int32) (x2 : Int32) (x3 : Int32) (x4 : Int32), Met l yX3_paint (ws_ yX3_paint cX3_paint 5 none) { frames := fr, cells := 0, slots := 0, locals := lo } (va_Pc [.ref (mh E), .int x1, .int x2, .int x3, .int x4] (fun U => U.heap.size = sz ∧ mW E M L U.heap ∧ mK E U ∧ w Q x1 x2 x3 x4 M)) (va_Qv (fun (u : MM × ML) => u.2 = L ∧ Q u.1) (fun u t => mW E u.1 u.2 t.heap) (mA E sz)) 0 0 (mA E sz)
theorem call_X3_paint {p : Program} {l : Launch} {e : Env} {R : Room} {s : State} {m : MethodId} {args : Array Value} {below : List Frame} {meth : Method} {c : Code} {H : Heap} {locs : List Loc} {cells slots : Nat} {Z : State → Prop} {A : Nat → Prop} {cc : ByteArray} {nL pc : Nat} {ls : Array Slot} {rest : List Value} {own : String} {index fr lo : Nat} {w : (MM → Prop) → Int32 → Int32 → Int32 → Int32 → MM → Prop} {E : mE} {M : MM} {L : ML} {x1 : Int32} {x2 : Int32} {x3 : Int32} {x4 : Int32} (hM : CT_X3_paint l fr lo w) (S : CallFix p m c cc nL s args lw_all own) (hK : mK E s) (hW : mW E M L H) (hS : va_S A s.heap H locs) (hA : ∀ q, s.heap.size ≤ q → A q) (hAw : ∀ q, mAd E q → A q) (hlink : Cond.methodLink own index yX3_paint ∈ lw_all) (hRf : fr + 1 ≤ R.frames) (hRl : 8 + (5 + 11) + lo ≤ R.locals) (hcs : cells ≤ R.cells ∧ slots ≤ R.slots) (hz : ls.size = nL) (hr8 : (rest.map fun v => v.category).sum ≤ 8) (hdg : decode cc pc = .ok (.invokevirtual index, 3)) {Q1 : MM → Prop} (h : w Q1 x1 x2 x3 x4 M) (kk : ∀ (M1 : MM) (H1 : Heap) (locs1 : List Loc), Q1 M1 → mW E M1 L H1 → va_S A s.heap H1 locs1 → (∀ q : Nat, q < H.size → ¬ mAd E q → H1[q]? = H[q]?) → W p l e R s m args below meth c H1 locs1 cells slots Z (F0 m (pc + 3) ls (rest))) : W p l e R s m args below meth c H locs cells slots Z (F0 m pc ls (.int x4 :: .int x3 :: .int x2 :: .int x1 :: .ref (mh E) :: rest)) := by
  refine mw_v (sz := 0) (P := fun M1 L1 => L1 = L ∧ Q1 M1) (va_runV (As := [.int x1, .int x2, .int x3, .int x4]) (rest := rest) S (hM E M L H.size Q1 x1 x2 x3 x4) (cwV 4 S.2.2.2.2 (lw_V hlink q2117 qs47 q68 q2118) rfl rfl rfl (by decide +kernel) ⟨hRf, hRl⟩) ⟨fun a U g mk q => by obtain ⟨q0, q1, qW, qK, qw⟩ := q; exact ⟨q0, q1, qW, qK.moved (u := U) (U := U.calling g mk a) (Vm.Alike.refl U.vm), qw⟩, hW.recv (hK := hK), fun U hU hWm => ⟨rfl, by rw [hU], by rw [hU]; exact hW, hK.moved hWm.alike, h⟩⟩ rfl rfl hz rfl (lv_room hr8) hdg hcs) hS hA hAw (fun M1 L1 H1 locs1 hp hW1 hz hk hS1 => ?_)
  obtain ⟨rfl, hp⟩ := hp
  exact kk M1 H1 locs1 hp hW1 hS1 hk
def w_X3_paint (Q : MM → Prop) (x1 : Int32) (x2 : Int32) (x3 : Int32) (x4 : Int32) (M : MM) : Prop := w_X3_isWithin (fun r1 => if r1 = 0 then (Q M) else (w_X3_isWithin (fun r2 => if r2 = 0 then (Q M) else (mWr M 27 1728 ((((192 : Int32) * x1) + ((16 : Int32) * x3)) + x2) x4 (fun M3 => Q M3))) x3 (0 : Int32) (11 : Int32))) x2 (0 : Int32) (15 : Int32)
set_option maxRecDepth 100000 in
set_option maxHeartbeats 4000000 in
theorem wk_X3_paint {p : Program} {l : Launch} {e : Env} {R : Room} {s : State} {m : MethodId} {args : Array Value} {below : List Frame} {meth : Method} {c : Code} {cells slots : Nat} {Z : State → Prop} {A : Nat → Prop} {E : mE} (Q : MM → Prop) (C : mC p m c s args cX3_paint 5 E) (hA : ∀ q, s.heap.size ≤ q → A q) (hAw : ∀ q, mAd E q → A q) (hRf : 1 ≤ R.frames) (hRl : 22 ≤ R.locals) (hcs : cells ≤ R.cells ∧ slots ≤ R.slots) (M : MM) (L : ML) (hret : ∀ (M : MM) (pc : Nat) (ls : Array Slot) (H : Heap) (locs : List Loc), decode cX3_paint pc = .ok (.return_, 1) → va_S A s.heap H locs → mW E M L H → Q M → W p l e R s m args below meth c H locs cells slots Z (F0 m pc ls [])) (x1 : Int32) (x2 : Int32) (x3 : Int32) (x4 : Int32) : w_X3_paint Q x1 x2 x3 x4 M → ∀ (ls : Array Slot) (H : Heap) (locs : List Loc), lv_has ls 5 [(0, .ref (mh E)), (1, .int x1), (2, .int x2), (3, .int x3), (4, .int x4)] → mW E M L H → va_S A s.heap H locs → W p l e R s m args below meth c H locs cells slots Z (F0 m 0 ls []) := by
  obtain ⟨⟨hx, hb, hml, hown, hts⟩, hK⟩ := C; have C : mC p m c s args cX3_paint 5 E := ⟨⟨hx, hb, hml, hown, hts⟩, hK⟩
  intro h
  intro ls H locs hl hW hS
  refine lv_iload_n hx hb dX3_paint_0 rfl (lv_at hl 2 rfl) ?_
  refine lv_iconst (v := 0) hx hb dX3_paint_1 (by decide) ?_
  refine lv_bipush (v := 15) hx hb dX3_paint_2 (by decide) ?_
  refine call_X3_isWithin (ct_X3_isWithin l) C.1 hS hA q1915 (le_lit hRf rfl) (le_lit hRl rfl) hcs hl.1 (Nat.le_of_ble_eq_true rfl) dX3_paint_4 h (fun r1 H locs h hk hS => ?_)
  have hW := hW.kept hk
  refine lv_if_eq (tgt := 39) hx hb dX3_paint_7 (by decide) (fun c5 => ?_) (fun c5 => ?_)
  · have h := wif_t h c5
    exact hret _ _ _ _ _ dX3_paint_39 hS hW h
  · have h := wif_f h c5
    refine lv_iload_n hx hb dX3_paint_10 rfl (lv_at hl 3 rfl) ?_
    refine lv_iconst (v := 0) hx hb dX3_paint_11 (by decide) ?_
    refine lv_bipush (v := 11) hx hb dX3_paint_12 (by decide) ?_
    refine call_X3_isWithin (ct_X3_isWithin l) C.1 hS hA q1915 (le_lit hRf rfl) (le_lit hRl rfl) hcs hl.1 (Nat.le_of_ble_eq_true rfl) dX3_paint_14 h (fun r2 H locs h hk hS => ?_)
    have hW := hW.kept hk
    refine lv_if_eq (tgt := 39) hx hb dX3_paint_17 (by decide) (fun c4 => ?_) (fun c4 => ?_)
    · have h := wif_t h c4
      exact hret _ _ _ _ _ dX3_paint_39 hS hW h
    · have h := wif_f h c4
      refine lv_aload_n hx hb dX3_paint_20 rfl (lv_at hl 0 rfl) ?_
      refine mr_getA C hW 27 rfl rfl q1830 dX3_paint_21 ?_
      refine lv_sipush (v := 192) hx hb dX3_paint_24 (by decide) ?_
      refine lv_iload_n hx hb dX3_paint_27 rfl (lv_at hl 1 rfl) ?_
      refine lv_imul hx hb dX3_paint_28 ?_
      refine lv_bipush (v := 16) hx hb dX3_paint_29 (by decide) ?_
      refine lv_iload_n hx hb dX3_paint_31 rfl (lv_at hl 3 rfl) ?_
      refine lv_imul hx hb dX3_paint_32 ?_
      refine lv_iadd hx hb dX3_paint_33 ?_
      refine lv_iload_n hx hb dX3_paint_34 rfl (lv_at hl 2 rfl) ?_
      refine lv_iadd hx hb dX3_paint_35 ?_
      refine lv_iload hx hb dX3_paint_36 (lv_at hl 4 rfl) ?_
      refine mr_iast C hW hS hAw 27 rfl rfl rfl h dX3_paint_38 (fun M3 H locs hW hS h => ?_)
      exact hret _ _ _ _ _ dX3_paint_39 hS hW h
theorem ct_X3_paint (l : Launch) : CT_X3_paint l 1 22 w_X3_paint := by
  intro E M L sz Q x1 x2 x3 x4
  refine Met.ofW (cc := cX3_paint) (maxL := 5) (ret := none) (by decide) rfl ?_
  intro p e s m args below meth c s₁ B hml hv
  obtain ⟨rfl, hsz, hW, hK, h⟩ := hv
  subst hsz
  have hts := atoms_spec (ws := ws_ yX3_paint cX3_paint 5 none) B.pre
  have hts : ∀ w ∈ lw_all, w.before _ s = true := fun w h => hts w (List.mem_cons_of_mem _ h)
  have hl := lv_entry ([.ref (mh E), .int x1, .int x2, .int x3, .int x4]) (n := 5) (Nat.le_of_ble_eq_true rfl)
  rw [lg_entry_eq]
  generalize (lg_sl ([.ref (mh E), .int x1, .int x2, .int x3, .int x4]) ++ List.replicate (5 - (lg_sl ([.ref (mh E), .int x1, .int x2, .int x3, .int x4])).length) Slot.unset).toArray = ls at hl ⊢
  exact wk_X3_paint Q ⟨⟨B.exec, B.bytes, hml, findClass_of_methodNamed B.named, hts⟩, hK⟩ (fun q h => Or.inr h) (fun q h => Or.inl h) (Nat.le_refl _) (Nat.le_refl _) ⟨Nat.le_refl _, Nat.le_refl _⟩ M L (fun M pc ls H locs hd hS hW1 hQ => W.vret B.exec B.bytes B.returns (fun t ht _ => ⟨⟨(M, L), rfl, ⟨rfl, hQ⟩, by rw [← ht] at hW1; exact hW1⟩, hS.F ht⟩) hS.2.2 hd) x1 x2 x3 x4 h ls _ [] hl hW va_S.rf
def CT_X3_paintRect (l : Launch) (fr lo : Nat) (w : (MM → ML → Prop) → Int32 → Int32 → Int32 → Int32 → MM → ML → Prop) : Prop := ∀ (E : mE) (M : MM) (L : ML) (sz : Nat) (Q : MM → ML → Prop) (x1 : Int32) (x2 : Int32) (x3 : Int32) (x4 : Int32), Met l yX3_paintRect (ws_ yX3_paintRect cX3_paintRect 15 none) { frames := fr, cells := 0, slots := 0, locals := lo } (va_Pc [.ref (mh E), .int x1, .int x2, .int x3, .int x4] (fun U => U.heap.size = sz ∧ mW E M L U.heap ∧ mK E U ∧ w Q x1 x2 x3 x4 M L)) (va_Qv (fun (u : MM × ML) => Q u.1 u.2) (fun u t => mW E u.1 u.2 t.heap) (mA E sz)) 0 0 (mA E sz)
theorem call_X3_paintRect {p : Program} {l : Launch} {e : Env} {R : Room} {s : State} {m : MethodId} {args : Array Value} {below : List Frame} {meth : Method} {c : Code} {H : Heap} {locs : List Loc} {cells slots : Nat} {Z : State → Prop} {A : Nat → Prop} {cc : ByteArray} {nL pc : Nat} {ls : Array Slot} {rest : List Value} {own : String} {index fr lo : Nat} {w : (MM → ML → Prop) → Int32 → Int32 → Int32 → Int32 → MM → ML → Prop} {E : mE} {M : MM} {L : ML} {x1 : Int32} {x2 : Int32} {x3 : Int32} {x4 : Int32} (hM : CT_X3_paintRect l fr lo w) (S : CallFix p m c cc nL s args lw_all own) (hK : mK E s) (hW : mW E M L H) (hS : va_S A s.heap H locs) (hA : ∀ q, s.heap.size ≤ q → A q) (hAw : ∀ q, mAd E q → A q) (hlink : Cond.methodLink own index yX3_paintRect ∈ lw_all) (hRf : fr + 1 ≤ R.frames) (hRl : 8 + (15 + 11) + lo ≤ R.locals) (hcs : cells ≤ R.cells ∧ slots ≤ R.slots) (hz : ls.size = nL) (hr8 : (rest.map fun v => v.category).sum ≤ 8) (hdg : decode cc pc = .ok (.invokevirtual index, 3)) {Q1 : MM → ML → Prop} (h : w Q1 x1 x2 x3 x4 M L) (kk : ∀ (M1 : MM) (L1 : ML) (H1 : Heap) (locs1 : List Loc), Q1 M1 L1 → mW E M1 L1 H1 → va_S A s.heap H1 locs1 → (∀ q : Nat, q < H.size → ¬ mAd E q → H1[q]? = H[q]?) → W p l e R s m args below meth c H1 locs1 cells slots Z (F0 m (pc + 3) ls (rest))) : W p l e R s m args below meth c H locs cells slots Z (F0 m pc ls (.int x4 :: .int x3 :: .int x2 :: .int x1 :: .ref (mh E) :: rest)) := by
  refine mw_v (sz := 0) (P := fun M1 L1 => Q1 M1 L1) (va_runV (As := [.int x1, .int x2, .int x3, .int x4]) (rest := rest) S (hM E M L H.size Q1 x1 x2 x3 x4) (cwV 4 S.2.2.2.2 (lw_V hlink q2108 qs45 q68 q2109) rfl rfl rfl (by decide +kernel) ⟨hRf, hRl⟩) ⟨fun a U g mk q => by obtain ⟨q0, q1, qW, qK, qw⟩ := q; exact ⟨q0, q1, qW, qK.moved (u := U) (U := U.calling g mk a) (Vm.Alike.refl U.vm), qw⟩, hW.recv (hK := hK), fun U hU hWm => ⟨rfl, by rw [hU], by rw [hU]; exact hW, hK.moved hWm.alike, h⟩⟩ rfl rfl hz rfl (lv_room hr8) hdg hcs) hS hA hAw (fun M1 L1 H1 locs1 hp hW1 hz hk hS1 => ?_)
  exact kk M1 L1 H1 locs1 hp hW1 hS1 hk
def w_X3_paintRect_195 (Q : MM → ML → Prop) (rec61 : Int32 → MM → Prop) (x1 : Int32) (x4 : Int32) (x5 : Int64) (x7 : Int64) (x9 : Int32) (M : MM) (L : ML) : Prop := rec61 (x9 + (1 : Int32)) M
def w_X3_paintRect_136 (Q : MM → ML → Prop) (rec61 : Int32 → MM → Prop) (x1 : Int32) (x4 : Int32) (x5 : Int64) (x7 : Int64) (x9 : Int32) (x12 : Int64) (y0 : Int32) (M : MM) (L : ML) : Prop := if y0 = 0 then (w_X3_paintRect_195 Q rec61 x1 x4 x5 x7 x9 M L) else (w_J13_min_2 (fun r1 => if (lg_cmp x12 r1) < 0 then (w_X3_paintRect_195 Q rec61 x1 x4 x5 x7 x9 M L) else (w_J13_max_2 (fun r2 => if 0 ≤ (lg_cmp x12 r2) then (w_X3_paintRect_195 Q rec61 x1 x4 x5 x7 x9 M L) else (¬ (16 : Int32) = 0 ∧ (¬ (16 : Int32) = 0 ∧ (mRd (M 8) 12 x1 (fun v3 => w_X3_paint (fun M4 => w_X3_paintRect_195 Q rec61 x1 x4 x5 x7 x9 M4 L) x4 (x9 - x9 / (16 : Int32) * (16 : Int32)) (x9 / (16 : Int32)) v3 M))))) x7 (L 24))) x7 (L 24))
def w_X3_paintRect_135 (Q : MM → ML → Prop) (rec61 : Int32 → MM → Prop) (x1 : Int32) (x4 : Int32) (x5 : Int64) (x7 : Int64) (x9 : Int32) (x12 : Int64) (M : MM) (L : ML) : Prop := w_X3_paintRect_136 Q rec61 x1 x4 x5 x7 x9 x12 (0 : Int32) M L
def w_X3_paintRect_h61 (Q : MM → ML → Prop) (x1 : Int32) (x4 : Int32) (x5 : Int64) (x7 : Int64) (L : ML) (rec61 : Int32 → MM → Prop) (x9 : Int32) (M : MM) : Prop := if (192 : Int32) ≤ x9 then (Q M L) else (¬ (16 : Int32) = 0 ∧ (¬ (16 : Int32) = 0 ∧ (w_J13_min_2 (fun r8 => if (lg_cmp (((1000 : Int64) * ((x9 - x9 / (16 : Int32) * (16 : Int32)).toInt64)) + (500 : Int64)) r8) < 0 then (w_X3_paintRect_135 Q rec61 x1 x4 x5 x7 x9 (((1000 : Int64) * ((x9 / (16 : Int32)).toInt64)) + (500 : Int64)) M L) else (w_J13_max_2 (fun r9 => if 0 ≤ (lg_cmp (((1000 : Int64) * ((x9 - x9 / (16 : Int32) * (16 : Int32)).toInt64)) + (500 : Int64)) r9) then (w_X3_paintRect_135 Q rec61 x1 x4 x5 x7 x9 (((1000 : Int64) * ((x9 / (16 : Int32)).toInt64)) + (500 : Int64)) M L) else (w_X3_paintRect_136 Q rec61 x1 x4 x5 x7 x9 (((1000 : Int64) * ((x9 / (16 : Int32)).toInt64)) + (500 : Int64)) (1 : Int32) M L)) x5 (L 23))) x5 (L 23))))
def w_X3_paintRect_L61 (Q : MM → ML → Prop) (x1 : Int32) (x4 : Int32) (x5 : Int64) (x7 : Int64) (L : ML) (x9 : Int32) (M : MM) : Prop := wLoop (fun (rec : (Int32 × MM) → Prop) (s : Int32 × MM) => w_X3_paintRect_h61 Q x1 x4 x5 x7 L (fun x9 M => rec (x9, M)) s.1 s.2) (x9, M)
def w_X3_paintRect (Q : MM → ML → Prop) (x1 : Int32) (x2 : Int32) (x3 : Int32) (x4 : Int32) (M : MM) (L : ML) : Prop := w_X3_begin (fun L13 => w_X3_mapOut (fun L14 => mRd (M 6) 12 x1 (fun v15 => mRd (M 7) 12 x1 (fun v16 => w_X3_begin (fun L17 => w_X3_mapOut (fun L18 => w_X3_paintRect_L61 Q x1 x4 (L14 23) (L14 24) L18 (0 : Int32) M) x1 x2 x3 M L17) ((1000 : Int64) * (v15.toInt64)) ((1000 : Int64) * (v16.toInt64)) L14))) x1 x2 x3 M L13) (0 : Int64) (0 : Int64) L
set_option maxRecDepth 100000 in
set_option maxHeartbeats 4000000 in
theorem wk_X3_paintRect {p : Program} {l : Launch} {e : Env} {R : Room} {s : State} {m : MethodId} {args : Array Value} {below : List Frame} {meth : Method} {c : Code} {cells slots : Nat} {Z : State → Prop} {A : Nat → Prop} {E : mE} (Q : MM → ML → Prop) (C : mC p m c s args cX3_paintRect 15 E) (hA : ∀ q, s.heap.size ≤ q → A q) (hAw : ∀ q, mAd E q → A q) (hRf : 6 ≤ R.frames) (hRl : 149 ≤ R.locals) (hcs : cells ≤ R.cells ∧ slots ≤ R.slots) (M : MM) (L : ML) (hret : ∀ (M : MM) (L : ML) (pc : Nat) (ls : Array Slot) (H : Heap) (locs : List Loc), decode cX3_paintRect pc = .ok (.return_, 1) → va_S A s.heap H locs → mW E M L H → Q M L → W p l e R s m args below meth c H locs cells slots Z (F0 m pc ls [])) (x1 : Int32) (x2 : Int32) (x3 : Int32) (x4 : Int32) : w_X3_paintRect Q x1 x2 x3 x4 M L → ∀ (ls : Array Slot) (H : Heap) (locs : List Loc), lv_has ls 15 [(0, .ref (mh E)), (1, .int x1), (2, .int x2), (3, .int x3), (4, .int x4)] → mW E M L H → va_S A s.heap H locs → W p l e R s m args below meth c H locs cells slots Z (F0 m 0 ls []) := by
  obtain ⟨⟨hx, hb, hml, hown, hts⟩, hK⟩ := C; have C : mC p m c s args cX3_paintRect 15 E := ⟨⟨hx, hb, hml, hown, hts⟩, hK⟩
  have hL61 : ∀ (x5 : Int64) (x7 : Int64) (L : ML) (x9 : Int32) (M : MM), w_X3_paintRect_L61 Q x1 x4 x5 x7 L x9 M → ∀ (ls : Array Slot) (H : Heap) (locs : List Loc), lv_has ls 15 [(0, .ref (mh E)), (1, .int x1), (4, .int x4), (5, .long x5), (7, .long x7), (9, .int x9)] → mW E M L H → va_S A s.heap H locs → W p l e R s m args below meth c H locs cells slots Z (F0 m 61 ls []) := by
    intro x5 x7 L
    obtain ⟨G61, hG61⟩ : ∃ G : Int32 → MM → Prop, ∀ (x9 : Int32) (M : MM), G x9 M ↔ (∀ (ls : Array Slot) (H : Heap) (locs : List Loc), lv_has ls 15 [(0, .ref (mh E)), (1, .int x1), (4, .int x4), (5, .long x5), (7, .long x7), (9, .int x9)] → mW E M L H → va_S A s.heap H locs → W p l e R s m args below meth c H locs cells slots Z (F0 m 61 ls [])) := ⟨fun x9 M => _, fun x9 M => Iff.rfl⟩
    have hB61 : ∀ (rec61 : Int32 → MM → Prop), (∀ (x9 : Int32) (M : MM), rec61 x9 M → G61 x9 M) → ∀ (x9 : Int32) (M : MM), w_X3_paintRect_h61 Q x1 x4 x5 x7 L rec61 x9 M → G61 x9 M := by
      intro rec61 hrec61
      have hb195 : ∀ (x9 : Int32) (M : MM), w_X3_paintRect_195 Q rec61 x1 x4 x5 x7 x9 M L → ∀ (ls : Array Slot) (H : Heap) (locs : List Loc), lv_has ls 15 [(0, .ref (mh E)), (1, .int x1), (4, .int x4), (5, .long x5), (7, .long x7), (9, .int x9)] → mW E M L H → va_S A s.heap H locs → W p l e R s m args below meth c H locs cells slots Z (F0 m 195 ls []) := by
        intro x9 M h
        intro ls H locs hl hW hS
        refine lv_iinc (v := x9 + (1 : Int32)) (lv' := [(9, .int (x9 + (1 : Int32))), (0, .ref (mh E)), (1, .int x1), (4, .int x4), (5, .long x5), (7, .long x7)]) hx hb dX3_paintRect_195 hl (k := 5) rfl (congrArg (fun z => x9 + z) (by decide)) (by decide) rfl (fun ls hl => ?_)
        refine lv_goto (tgt := 61) hx hb dX3_paintRect_198 (by decide) ?_
        exact (hG61 _ _).mp (hrec61 _ _ h) ls H locs (lv_sub hl [1, 2, 3, 4, 5, 0] rfl) hW hS
      have hb136 : ∀ (x9 : Int32) (x12 : Int64) (y0 : Int32) (M : MM), w_X3_paintRect_136 Q rec61 x1 x4 x5 x7 x9 x12 y0 M L → ∀ (ls : Array Slot) (H : Heap) (locs : List Loc), lv_has ls 15 [(0, .ref (mh E)), (1, .int x1), (4, .int x4), (5, .long x5), (7, .long x7), (9, .int x9), (12, .long x12)] → mW E M L H → va_S A s.heap H locs → W p l e R s m args below meth c H locs cells slots Z (F0 m 136 ls [.int y0]) := by
        intro x9 x12 y0 M h
        intro ls H locs hl hW hS
        refine lv_istore (lv' := [(14, .int y0), (0, .ref (mh E)), (1, .int x1), (4, .int x4), (5, .long x5), (7, .long x7), (9, .int x9), (12, .long x12)]) hx hb dX3_paintRect_136 hl (by decide) rfl (fun ls hl => ?_)
        refine lv_iload hx hb dX3_paintRect_138 (lv_at hl 0 rfl) ?_
        refine lv_if_eq (tgt := 195) hx hb dX3_paintRect_140 (by decide) (fun c7 => ?_) (fun c7 => ?_)
        · have h := wif_t h c7
          exact hb195 _ _ h ls H locs (lv_sub hl [1, 2, 3, 4, 5, 6] rfl) hW hS
        · have h := wif_f h c7
          refine lv_lload hx hb dX3_paintRect_143 (lv_at hl 7 rfl) ?_
          refine lv_lload hx hb dX3_paintRect_145 (lv_at hl 5 rfl) ?_
          refine lv_aload_n hx hb dX3_paintRect_147 rfl (lv_at hl 1 rfl) ?_
          refine mr_getJ C hW 24 rfl rfl q1827 dX3_paintRect_148 ?_
          refine call_J13_min_2 (ct_J13_min_2 l) C.1 hS hA q2075 (le_lit hRf rfl) (le_lit hRl rfl) hcs hl.1 (Nat.le_of_ble_eq_true rfl) dX3_paintRect_151 h (fun r1 H locs h hk hS => ?_)
          have hW := hW.kept hk
          refine W.lcmp hx hb dX3_paintRect_154 ?_
          refine lv_if_lt (tgt := 195) hx hb dX3_paintRect_155 (by decide) (fun c6 => ?_) (fun c6 => ?_)
          · have h := wif_t h c6
            exact hb195 _ _ h ls H locs (lv_sub hl [1, 2, 3, 4, 5, 6] rfl) hW hS
          · have h := wif_f h c6
            refine lv_lload hx hb dX3_paintRect_158 (lv_at hl 7 rfl) ?_
            refine lv_lload hx hb dX3_paintRect_160 (lv_at hl 5 rfl) ?_
            refine lv_aload_n hx hb dX3_paintRect_162 rfl (lv_at hl 1 rfl) ?_
            refine mr_getJ C hW 24 rfl rfl q1827 dX3_paintRect_163 ?_
            refine call_J13_max_2 (ct_J13_max_2 l) C.1 hS hA q2076 (le_lit hRf rfl) (le_lit hRl rfl) hcs hl.1 (Nat.le_of_ble_eq_true rfl) dX3_paintRect_166 h (fun r2 H locs h hk hS => ?_)
            have hW := hW.kept hk
            refine W.lcmp hx hb dX3_paintRect_169 ?_
            refine lv_if_ge (tgt := 195) hx hb dX3_paintRect_170 (by decide) (fun c5 => ?_) (fun c5 => ?_)
            · have h := wif_t h c5
              exact hb195 _ _ h ls H locs (lv_sub hl [1, 2, 3, 4, 5, 6] rfl) hW hS
            · have h := wif_f h c5
              refine lv_aload_n hx hb dX3_paintRect_173 rfl (lv_at hl 1 rfl) ?_
              refine lv_iload hx hb dX3_paintRect_174 (lv_at hl 3 rfl) ?_
              refine lv_iload hx hb dX3_paintRect_176 (lv_at hl 6 rfl) ?_
              refine lv_bipush (v := 16) hx hb dX3_paintRect_178 (by decide) ?_
              refine lv_irem hx hb dX3_paintRect_180 h.1 ?_
              have h := h.2
              refine lv_iload hx hb dX3_paintRect_181 (lv_at hl 6 rfl) ?_
              refine lv_bipush (v := 16) hx hb dX3_paintRect_183 (by decide) ?_
              refine lv_idiv hx hb dX3_paintRect_185 h.1 ?_
              have h := h.2
              refine lv_aload_n hx hb dX3_paintRect_186 rfl (lv_at hl 1 rfl) ?_
              refine mr_getA C hW 8 rfl rfl q1811 dX3_paintRect_187 ?_
              refine lv_iload_n hx hb dX3_paintRect_190 rfl (lv_at hl 2 rfl) ?_
              refine mr_iald C hW 8 rfl rfl rfl h dX3_paintRect_191 (fun v3 h => ?_)
              refine call_X3_paint (ct_X3_paint l) C.1 C.2 hW hS hA hAw q2115 (le_lit hRf rfl) (le_lit hRl rfl) hcs hl.1 (Nat.le_of_ble_eq_true rfl) dX3_paintRect_192 h (fun M4 H locs h hW hS _ => ?_)
              exact hb195 _ _ h ls H locs (lv_sub hl [1, 2, 3, 4, 5, 6] rfl) hW hS
      have hb135 : ∀ (x9 : Int32) (x12 : Int64) (M : MM), w_X3_paintRect_135 Q rec61 x1 x4 x5 x7 x9 x12 M L → ∀ (ls : Array Slot) (H : Heap) (locs : List Loc), lv_has ls 15 [(0, .ref (mh E)), (1, .int x1), (4, .int x4), (5, .long x5), (7, .long x7), (9, .int x9), (12, .long x12)] → mW E M L H → va_S A s.heap H locs → W p l e R s m args below meth c H locs cells slots Z (F0 m 135 ls []) := by
        intro x9 x12 M h
        intro ls H locs hl hW hS
        refine lv_iconst (v := 0) hx hb dX3_paintRect_135 (by decide) ?_
        exact hb136 _ _ _ _ h ls H locs (lv_sub hl [0, 1, 2, 3, 4, 5, 6] rfl) hW hS
      intro x9 M h
      rw [hG61]
      intro ls H locs hl hW hS
      refine lv_iload hx hb dX3_paintRect_61 (lv_at hl 5 rfl) ?_
      refine lv_sipush (v := 192) hx hb dX3_paintRect_63 (by decide) ?_
      refine lv_icmp_ge (tgt := 201) hx hb dX3_paintRect_66 (by decide) (fun c12 => ?_) (fun c12 => ?_)
      · have h := wif_t h c12
        exact hret _ _ _ _ _ _ dX3_paintRect_201 hS hW h
      · have h := wif_f h c12
        refine lv_ldc2 hx hb hown (hts _ q2056) dX3_paintRect_69 ?_
        refine lv_iload hx hb dX3_paintRect_72 (lv_at hl 5 rfl) ?_
        refine lv_bipush (v := 16) hx hb dX3_paintRect_74 (by decide) ?_
        refine lv_irem hx hb dX3_paintRect_76 h.1 ?_
        have h := h.2
        refine lv_i2l hx hb dX3_paintRect_77 rfl ?_
        refine lv_lmul hx hb dX3_paintRect_78 ?_
        refine lv_ldc2 hx hb hown (hts _ q2114) dX3_paintRect_79 ?_
        refine lv_ladd hx hb dX3_paintRect_82 ?_
        refine lv_lstore (lv' := [(10, .long (((1000 : Int64) * ((x9 - x9 / (16 : Int32) * (16 : Int32)).toInt64)) + (500 : Int64))), (0, .ref (mh E)), (1, .int x1), (4, .int x4), (5, .long x5), (7, .long x7), (9, .int x9)]) hx hb dX3_paintRect_83 hl (by decide) rfl (fun ls hl => ?_)
        refine lv_ldc2 hx hb hown (hts _ q2056) dX3_paintRect_85 ?_
        refine lv_iload hx hb dX3_paintRect_88 (lv_at hl 6 rfl) ?_
        refine lv_bipush (v := 16) hx hb dX3_paintRect_90 (by decide) ?_
        refine lv_idiv hx hb dX3_paintRect_92 h.1 ?_
        have h := h.2
        refine lv_i2l hx hb dX3_paintRect_93 rfl ?_
        refine lv_lmul hx hb dX3_paintRect_94 ?_
        refine lv_ldc2 hx hb hown (hts _ q2114) dX3_paintRect_95 ?_
        refine lv_ladd hx hb dX3_paintRect_98 ?_
        refine lv_lstore (lv' := [(12, .long (((1000 : Int64) * ((x9 / (16 : Int32)).toInt64)) + (500 : Int64))), (10, .long (((1000 : Int64) * ((x9 - x9 / (16 : Int32) * (16 : Int32)).toInt64)) + (500 : Int64))), (0, .ref (mh E)), (1, .int x1), (4, .int x4), (5, .long x5), (7, .long x7), (9, .int x9)]) hx hb dX3_paintRect_99 hl (by decide) rfl (fun ls hl => ?_)
        refine lv_lload hx hb dX3_paintRect_101 (lv_at hl 1 rfl) ?_
        refine lv_lload hx hb dX3_paintRect_103 (lv_at hl 5 rfl) ?_
        refine lv_aload_n hx hb dX3_paintRect_105 rfl (lv_at hl 2 rfl) ?_
        refine mr_getJ C hW 23 rfl rfl q1826 dX3_paintRect_106 ?_
        refine call_J13_min_2 (ct_J13_min_2 l) C.1 hS hA q2075 (le_lit hRf rfl) (le_lit hRl rfl) hcs hl.1 (Nat.le_of_ble_eq_true rfl) dX3_paintRect_109 h (fun r8 H locs h hk hS => ?_)
        have hW := hW.kept hk
        refine W.lcmp hx hb dX3_paintRect_112 ?_
        refine lv_if_lt (tgt := 135) hx hb dX3_paintRect_113 (by decide) (fun c11 => ?_) (fun c11 => ?_)
        · have h := wif_t h c11
          exact hb135 _ _ _ h ls H locs (lv_sub hl [2, 3, 4, 5, 6, 7, 0] rfl) hW hS
        · have h := wif_f h c11
          refine lv_lload hx hb dX3_paintRect_116 (lv_at hl 1 rfl) ?_
          refine lv_lload hx hb dX3_paintRect_118 (lv_at hl 5 rfl) ?_
          refine lv_aload_n hx hb dX3_paintRect_120 rfl (lv_at hl 2 rfl) ?_
          refine mr_getJ C hW 23 rfl rfl q1826 dX3_paintRect_121 ?_
          refine call_J13_max_2 (ct_J13_max_2 l) C.1 hS hA q2076 (le_lit hRf rfl) (le_lit hRl rfl) hcs hl.1 (Nat.le_of_ble_eq_true rfl) dX3_paintRect_124 h (fun r9 H locs h hk hS => ?_)
          have hW := hW.kept hk
          refine W.lcmp hx hb dX3_paintRect_127 ?_
          refine lv_if_ge (tgt := 135) hx hb dX3_paintRect_128 (by decide) (fun c10 => ?_) (fun c10 => ?_)
          · have h := wif_t h c10
            exact hb135 _ _ _ h ls H locs (lv_sub hl [2, 3, 4, 5, 6, 7, 0] rfl) hW hS
          · have h := wif_f h c10
            refine lv_iconst (v := 1) hx hb dX3_paintRect_131 (by decide) ?_
            refine lv_goto (tgt := 136) hx hb dX3_paintRect_132 (by decide) ?_
            exact hb136 _ _ _ _ h ls H locs (lv_sub hl [2, 3, 4, 5, 6, 7, 0] rfl) hW hS
    intro x9 M h
    exact (hG61 x9 M).mp (loop_walk (fun s => G61 s.1 s.2) (fun rec hrec s h => hB61 (fun x9 M => rec (x9, M)) (fun x9 M h => hrec (x9, M) h) s.1 s.2 h) (x9, M) h)
  intro h
  intro ls H locs hl hW hS
  refine lv_aload_n hx hb dX3_paintRect_0 rfl (lv_at hl 0 rfl) ?_
  refine lv_lconst (v := 0) hx hb dX3_paintRect_1 (by decide) ?_
  refine lv_lconst (v := 0) hx hb dX3_paintRect_2 (by decide) ?_
  refine call_X3_begin (ct_X3_begin l) C.1 C.2 hW hS hA hAw q2043 (le_lit hRf rfl) (le_lit hRl rfl) hcs hl.1 (Nat.le_of_ble_eq_true rfl) dX3_paintRect_3 h (fun L13 H locs h hW hS _ => ?_)
  refine lv_aload_n hx hb dX3_paintRect_6 rfl (lv_at hl 0 rfl) ?_
  refine lv_iload_n hx hb dX3_paintRect_7 rfl (lv_at hl 1 rfl) ?_
  refine lv_iload_n hx hb dX3_paintRect_8 rfl (lv_at hl 2 rfl) ?_
  refine lv_iload_n hx hb dX3_paintRect_9 rfl (lv_at hl 3 rfl) ?_
  refine call_X3_mapOut (ct_X3_mapOut l) C.1 C.2 hW hS hA hAw q2110 (le_lit hRf rfl) (le_lit hRl rfl) hcs hl.1 (Nat.le_of_ble_eq_true rfl) dX3_paintRect_10 h (fun L14 H locs h hW hS _ => ?_)
  refine lv_aload_n hx hb dX3_paintRect_13 rfl (lv_at hl 0 rfl) ?_
  refine mr_getJ C hW 23 rfl rfl q1826 dX3_paintRect_14 ?_
  refine lv_lstore (lv' := [(5, .long (L14 23)), (0, .ref (mh E)), (1, .int x1), (2, .int x2), (3, .int x3), (4, .int x4)]) hx hb dX3_paintRect_17 hl (by decide) rfl (fun ls hl => ?_)
  refine lv_aload_n hx hb dX3_paintRect_19 rfl (lv_at hl 1 rfl) ?_
  refine mr_getJ C hW 24 rfl rfl q1827 dX3_paintRect_20 ?_
  refine lv_lstore (lv' := [(7, .long (L14 24)), (5, .long (L14 23)), (0, .ref (mh E)), (1, .int x1), (2, .int x2), (3, .int x3), (4, .int x4)]) hx hb dX3_paintRect_23 hl (by decide) rfl (fun ls hl => ?_)
  refine lv_aload_n hx hb dX3_paintRect_25 rfl (lv_at hl 2 rfl) ?_
  refine lv_ldc2 hx hb hown (hts _ q2056) dX3_paintRect_26 ?_
  refine lv_aload_n hx hb dX3_paintRect_29 rfl (lv_at hl 2 rfl) ?_
  refine mr_getA C hW 6 rfl rfl q1809 dX3_paintRect_30 ?_
  refine lv_iload_n hx hb dX3_paintRect_33 rfl (lv_at hl 3 rfl) ?_
  refine mr_iald C hW 6 rfl rfl rfl h dX3_paintRect_34 (fun v15 h => ?_)
  refine lv_i2l hx hb dX3_paintRect_35 rfl ?_
  refine lv_lmul hx hb dX3_paintRect_36 ?_
  refine lv_ldc2 hx hb hown (hts _ q2056) dX3_paintRect_37 ?_
  refine lv_aload_n hx hb dX3_paintRect_40 rfl (lv_at hl 2 rfl) ?_
  refine mr_getA C hW 7 rfl rfl q1810 dX3_paintRect_41 ?_
  refine lv_iload_n hx hb dX3_paintRect_44 rfl (lv_at hl 3 rfl) ?_
  refine mr_iald C hW 7 rfl rfl rfl h dX3_paintRect_45 (fun v16 h => ?_)
  refine lv_i2l hx hb dX3_paintRect_46 rfl ?_
  refine lv_lmul hx hb dX3_paintRect_47 ?_
  refine call_X3_begin (ct_X3_begin l) C.1 C.2 hW hS hA hAw q2043 (le_lit hRf rfl) (le_lit hRl rfl) hcs hl.1 (Nat.le_of_ble_eq_true rfl) dX3_paintRect_48 h (fun L17 H locs h hW hS _ => ?_)
  refine lv_aload_n hx hb dX3_paintRect_51 rfl (lv_at hl 2 rfl) ?_
  refine lv_iload_n hx hb dX3_paintRect_52 rfl (lv_at hl 3 rfl) ?_
  refine lv_iload_n hx hb dX3_paintRect_53 rfl (lv_at hl 4 rfl) ?_
  refine lv_iload_n hx hb dX3_paintRect_54 rfl (lv_at hl 5 rfl) ?_
  refine call_X3_mapOut (ct_X3_mapOut l) C.1 C.2 hW hS hA hAw q2110 (le_lit hRf rfl) (le_lit hRl rfl) hcs hl.1 (Nat.le_of_ble_eq_true rfl) dX3_paintRect_55 h (fun L18 H locs h hW hS _ => ?_)
  refine lv_iconst (v := 0) hx hb dX3_paintRect_58 (by decide) ?_
  refine lv_istore (lv' := [(9, .int (0 : Int32)), (7, .long (L14 24)), (5, .long (L14 23)), (0, .ref (mh E)), (1, .int x1), (2, .int x2), (3, .int x3), (4, .int x4)]) hx hb dX3_paintRect_59 hl (by decide) rfl (fun ls hl => ?_)
  exact hL61 _ _ _ _ _ h ls H locs (lv_sub hl [3, 4, 7, 2, 1, 0] rfl) hW hS
theorem ct_X3_paintRect (l : Launch) : CT_X3_paintRect l 6 149 w_X3_paintRect := by
  intro E M L sz Q x1 x2 x3 x4
  refine Met.ofW (cc := cX3_paintRect) (maxL := 15) (ret := none) (by decide) rfl ?_
  intro p e s m args below meth c s₁ B hml hv
  obtain ⟨rfl, hsz, hW, hK, h⟩ := hv
  subst hsz
  have hts := atoms_spec (ws := ws_ yX3_paintRect cX3_paintRect 15 none) B.pre
  have hts : ∀ w ∈ lw_all, w.before _ s = true := fun w h => hts w (List.mem_cons_of_mem _ h)
  have hl := lv_entry ([.ref (mh E), .int x1, .int x2, .int x3, .int x4]) (n := 15) (Nat.le_of_ble_eq_true rfl)
  rw [lg_entry_eq]
  generalize (lg_sl ([.ref (mh E), .int x1, .int x2, .int x3, .int x4]) ++ List.replicate (15 - (lg_sl ([.ref (mh E), .int x1, .int x2, .int x3, .int x4])).length) Slot.unset).toArray = ls at hl ⊢
  exact wk_X3_paintRect Q ⟨⟨B.exec, B.bytes, hml, findClass_of_methodNamed B.named, hts⟩, hK⟩ (fun q h => Or.inr h) (fun q h => Or.inl h) (Nat.le_refl _) (Nat.le_refl _) ⟨Nat.le_refl _, Nat.le_refl _⟩ M L (fun M L pc ls H locs hd hS hW1 hQ => W.vret B.exec B.bytes B.returns (fun t ht _ => ⟨⟨(M, L), rfl, hQ, by rw [← ht] at hW1; exact hW1⟩, hS.F ht⟩) hS.2.2 hd) x1 x2 x3 x4 h ls _ [] hl hW va_S.rf
def CT_X3_beginAlong (l : Launch) (fr lo : Nat) (w : (ML → Prop) → Int32 → Int32 → Int32 → MM → ML → Prop) : Prop := ∀ (E : mE) (M : MM) (L : ML) (sz : Nat) (Q : ML → Prop) (x1 : Int32) (x2 : Int32) (x3 : Int32), Met l yX3_beginAlong (ws_ yX3_beginAlong cX3_beginAlong 7 none) { frames := fr, cells := 0, slots := 0, locals := lo } (va_Pc [.ref (mh E), .int x1, .int x2, .int x3] (fun U => U.heap.size = sz ∧ mW E M L U.heap ∧ mK E U ∧ w Q x1 x2 x3 M L)) (va_Qv (fun (u : MM × ML) => u.1 = M ∧ Q u.2) (fun u t => mW E u.1 u.2 t.heap) (mA E sz)) 0 0 (mA E sz)
theorem call_X3_beginAlong {p : Program} {l : Launch} {e : Env} {R : Room} {s : State} {m : MethodId} {args : Array Value} {below : List Frame} {meth : Method} {c : Code} {H : Heap} {locs : List Loc} {cells slots : Nat} {Z : State → Prop} {A : Nat → Prop} {cc : ByteArray} {nL pc : Nat} {ls : Array Slot} {rest : List Value} {own : String} {index fr lo : Nat} {w : (ML → Prop) → Int32 → Int32 → Int32 → MM → ML → Prop} {E : mE} {M : MM} {L : ML} {x1 : Int32} {x2 : Int32} {x3 : Int32} (hM : CT_X3_beginAlong l fr lo w) (S : CallFix p m c cc nL s args lw_all own) (hK : mK E s) (hW : mW E M L H) (hS : va_S A s.heap H locs) (hA : ∀ q, s.heap.size ≤ q → A q) (hAw : ∀ q, mAd E q → A q) (hlink : Cond.methodLink own index yX3_beginAlong ∈ lw_all) (hRf : fr + 1 ≤ R.frames) (hRl : 8 + (7 + 11) + lo ≤ R.locals) (hcs : cells ≤ R.cells ∧ slots ≤ R.slots) (hz : ls.size = nL) (hr8 : (rest.map fun v => v.category).sum ≤ 8) (hdg : decode cc pc = .ok (.invokevirtual index, 3)) {Q1 : ML → Prop} (h : w Q1 x1 x2 x3 M L) (kk : ∀ (L1 : ML) (H1 : Heap) (locs1 : List Loc), Q1 L1 → mW E M L1 H1 → va_S A s.heap H1 locs1 → (∀ q : Nat, q < H.size → ¬ mAd E q → H1[q]? = H[q]?) → W p l e R s m args below meth c H1 locs1 cells slots Z (F0 m (pc + 3) ls (rest))) : W p l e R s m args below meth c H locs cells slots Z (F0 m pc ls (.int x3 :: .int x2 :: .int x1 :: .ref (mh E) :: rest)) := by
  refine mw_v (sz := 0) (P := fun M1 L1 => M1 = M ∧ Q1 L1) (va_runV (As := [.int x1, .int x2, .int x3]) (rest := rest) S (hM E M L H.size Q1 x1 x2 x3) (cwV 3 S.2.2.2.2 (lw_V hlink q2126 qs49 q68 q2127) rfl rfl rfl (by decide +kernel) ⟨hRf, hRl⟩) ⟨fun a U g mk q => by obtain ⟨q0, q1, qW, qK, qw⟩ := q; exact ⟨q0, q1, qW, qK.moved (u := U) (U := U.calling g mk a) (Vm.Alike.refl U.vm), qw⟩, hW.recv (hK := hK), fun U hU hWm => ⟨rfl, by rw [hU], by rw [hU]; exact hW, hK.moved hWm.alike, h⟩⟩ rfl rfl hz rfl (lv_room hr8) hdg hcs) hS hA hAw (fun M1 L1 H1 locs1 hp hW1 hz hk hS1 => ?_)
  obtain ⟨rfl, hp⟩ := hp
  exact kk L1 H1 locs1 hp hW1 hS1 hk
def w_X3_beginAlong (Q : ML → Prop) (x1 : Int32) (x2 : Int32) (x3 : Int32) (M : MM) (L : ML) : Prop := mRd (M 16) 72 ((((6 : Int32) * x1) + x2) + (1 : Int32)) (fun v1 => mRd (M 16) 72 (((6 : Int32) * x1) + x2) (fun v2 => w_J17_signum (fun r3 => mRd (M 17) 72 ((((6 : Int32) * x1) + x2) + (1 : Int32)) (fun v4 => mRd (M 17) 72 (((6 : Int32) * x1) + x2) (fun v5 => w_J17_signum (fun r6 => mRd (M 16) 72 (((6 : Int32) * x1) + x2) (fun v7 => mRd (M 17) 72 (((6 : Int32) * x1) + x2) (fun v8 => w_X3_begin (fun L9 => Q L9) (((1000 : Int64) * (v7.toInt64)) + ((r3.toInt64) * (x3.toInt64))) (((1000 : Int64) * (v8.toInt64)) + ((r6.toInt64) * (x3.toInt64))) L))) (v4 - v5)))) (v1 - v2)))
set_option maxRecDepth 100000 in
set_option maxHeartbeats 4000000 in
theorem wk_X3_beginAlong {p : Program} {l : Launch} {e : Env} {R : Room} {s : State} {m : MethodId} {args : Array Value} {below : List Frame} {meth : Method} {c : Code} {cells slots : Nat} {Z : State → Prop} {A : Nat → Prop} {E : mE} (Q : ML → Prop) (C : mC p m c s args cX3_beginAlong 7 E) (hA : ∀ q, s.heap.size ≤ q → A q) (hAw : ∀ q, mAd E q → A q) (hRf : 1 ≤ R.frames) (hRl : 24 ≤ R.locals) (hcs : cells ≤ R.cells ∧ slots ≤ R.slots) (M : MM) (L : ML) (hret : ∀ (L : ML) (pc : Nat) (ls : Array Slot) (H : Heap) (locs : List Loc), decode cX3_beginAlong pc = .ok (.return_, 1) → va_S A s.heap H locs → mW E M L H → Q L → W p l e R s m args below meth c H locs cells slots Z (F0 m pc ls [])) (x1 : Int32) (x2 : Int32) (x3 : Int32) : w_X3_beginAlong Q x1 x2 x3 M L → ∀ (ls : Array Slot) (H : Heap) (locs : List Loc), lv_has ls 7 [(0, .ref (mh E)), (1, .int x1), (2, .int x2), (3, .int x3)] → mW E M L H → va_S A s.heap H locs → W p l e R s m args below meth c H locs cells slots Z (F0 m 0 ls []) := by
  obtain ⟨⟨hx, hb, hml, hown, hts⟩, hK⟩ := C; have C : mC p m c s args cX3_beginAlong 7 E := ⟨⟨hx, hb, hml, hown, hts⟩, hK⟩
  intro h
  intro ls H locs hl hW hS
  refine lv_bipush (v := 6) hx hb dX3_beginAlong_0 (by decide) ?_
  refine lv_iload_n hx hb dX3_beginAlong_2 rfl (lv_at hl 1 rfl) ?_
  refine lv_imul hx hb dX3_beginAlong_3 ?_
  refine lv_iload_n hx hb dX3_beginAlong_4 rfl (lv_at hl 2 rfl) ?_
  refine lv_iadd hx hb dX3_beginAlong_5 ?_
  refine lv_istore (lv' := [(4, .int (((6 : Int32) * x1) + x2)), (0, .ref (mh E)), (1, .int x1), (2, .int x2), (3, .int x3)]) hx hb dX3_beginAlong_6 hl (by decide) rfl (fun ls hl => ?_)
  refine lv_aload_n hx hb dX3_beginAlong_8 rfl (lv_at hl 1 rfl) ?_
  refine mr_getA C hW 16 rfl rfl q1819 dX3_beginAlong_9 ?_
  refine lv_iload hx hb dX3_beginAlong_12 (lv_at hl 0 rfl) ?_
  refine lv_iconst (v := 1) hx hb dX3_beginAlong_14 (by decide) ?_
  refine lv_iadd hx hb dX3_beginAlong_15 ?_
  refine mr_iald C hW 16 rfl rfl rfl h dX3_beginAlong_16 (fun v1 h => ?_)
  refine lv_aload_n hx hb dX3_beginAlong_17 rfl (lv_at hl 1 rfl) ?_
  refine mr_getA C hW 16 rfl rfl q1819 dX3_beginAlong_18 ?_
  refine lv_iload hx hb dX3_beginAlong_21 (lv_at hl 0 rfl) ?_
  refine mr_iald C hW 16 rfl rfl rfl h dX3_beginAlong_23 (fun v2 h => ?_)
  refine lv_isub hx hb dX3_beginAlong_24 ?_
  refine call_J17_signum (ct_J17_signum l) C.1 hS hA q2128 (le_lit hRf rfl) (le_lit hRl rfl) hcs hl.1 (Nat.le_of_ble_eq_true rfl) dX3_beginAlong_25 h (fun r3 H locs h hk hS => ?_)
  have hW := hW.kept hk
  refine lv_istore (lv' := [(5, .int r3), (4, .int (((6 : Int32) * x1) + x2)), (0, .ref (mh E)), (1, .int x1), (2, .int x2), (3, .int x3)]) hx hb dX3_beginAlong_28 hl (by decide) rfl (fun ls hl => ?_)
  refine lv_aload_n hx hb dX3_beginAlong_30 rfl (lv_at hl 2 rfl) ?_
  refine mr_getA C hW 17 rfl rfl q1820 dX3_beginAlong_31 ?_
  refine lv_iload hx hb dX3_beginAlong_34 (lv_at hl 1 rfl) ?_
  refine lv_iconst (v := 1) hx hb dX3_beginAlong_36 (by decide) ?_
  refine lv_iadd hx hb dX3_beginAlong_37 ?_
  refine mr_iald C hW 17 rfl rfl rfl h dX3_beginAlong_38 (fun v4 h => ?_)
  refine lv_aload_n hx hb dX3_beginAlong_39 rfl (lv_at hl 2 rfl) ?_
  refine mr_getA C hW 17 rfl rfl q1820 dX3_beginAlong_40 ?_
  refine lv_iload hx hb dX3_beginAlong_43 (lv_at hl 1 rfl) ?_
  refine mr_iald C hW 17 rfl rfl rfl h dX3_beginAlong_45 (fun v5 h => ?_)
  refine lv_isub hx hb dX3_beginAlong_46 ?_
  refine call_J17_signum (ct_J17_signum l) C.1 hS hA q2128 (le_lit hRf rfl) (le_lit hRl rfl) hcs hl.1 (Nat.le_of_ble_eq_true rfl) dX3_beginAlong_47 h (fun r6 H locs h hk hS => ?_)
  have hW := hW.kept hk
  refine lv_istore (lv' := [(6, .int r6), (5, .int r3), (4, .int (((6 : Int32) * x1) + x2)), (0, .ref (mh E)), (1, .int x1), (2, .int x2), (3, .int x3)]) hx hb dX3_beginAlong_50 hl (by decide) rfl (fun ls hl => ?_)
  refine lv_aload_n hx hb dX3_beginAlong_52 rfl (lv_at hl 3 rfl) ?_
  refine lv_ldc2 hx hb hown (hts _ q2056) dX3_beginAlong_53 ?_
  refine lv_aload_n hx hb dX3_beginAlong_56 rfl (lv_at hl 3 rfl) ?_
  refine mr_getA C hW 16 rfl rfl q1819 dX3_beginAlong_57 ?_
  refine lv_iload hx hb dX3_beginAlong_60 (lv_at hl 2 rfl) ?_
  refine mr_iald C hW 16 rfl rfl rfl h dX3_beginAlong_62 (fun v7 h => ?_)
  refine lv_i2l hx hb dX3_beginAlong_63 rfl ?_
  refine lv_lmul hx hb dX3_beginAlong_64 ?_
  refine lv_iload hx hb dX3_beginAlong_65 (lv_at hl 1 rfl) ?_
  refine lv_i2l hx hb dX3_beginAlong_67 rfl ?_
  refine lv_iload_n hx hb dX3_beginAlong_68 rfl (lv_at hl 6 rfl) ?_
  refine lv_i2l hx hb dX3_beginAlong_69 rfl ?_
  refine lv_lmul hx hb dX3_beginAlong_70 ?_
  refine lv_ladd hx hb dX3_beginAlong_71 ?_
  refine lv_ldc2 hx hb hown (hts _ q2056) dX3_beginAlong_72 ?_
  refine lv_aload_n hx hb dX3_beginAlong_75 rfl (lv_at hl 3 rfl) ?_
  refine mr_getA C hW 17 rfl rfl q1820 dX3_beginAlong_76 ?_
  refine lv_iload hx hb dX3_beginAlong_79 (lv_at hl 2 rfl) ?_
  refine mr_iald C hW 17 rfl rfl rfl h dX3_beginAlong_81 (fun v8 h => ?_)
  refine lv_i2l hx hb dX3_beginAlong_82 rfl ?_
  refine lv_lmul hx hb dX3_beginAlong_83 ?_
  refine lv_iload hx hb dX3_beginAlong_84 (lv_at hl 0 rfl) ?_
  refine lv_i2l hx hb dX3_beginAlong_86 rfl ?_
  refine lv_iload_n hx hb dX3_beginAlong_87 rfl (lv_at hl 6 rfl) ?_
  refine lv_i2l hx hb dX3_beginAlong_88 rfl ?_
  refine lv_lmul hx hb dX3_beginAlong_89 ?_
  refine lv_ladd hx hb dX3_beginAlong_90 ?_
  refine call_X3_begin (ct_X3_begin l) C.1 C.2 hW hS hA hAw q2043 (le_lit hRf rfl) (le_lit hRl rfl) hcs hl.1 (Nat.le_of_ble_eq_true rfl) dX3_beginAlong_91 h (fun L9 H locs h hW hS _ => ?_)
  exact hret _ _ _ _ _ dX3_beginAlong_94 hS hW h
theorem ct_X3_beginAlong (l : Launch) : CT_X3_beginAlong l 1 24 w_X3_beginAlong := by
  intro E M L sz Q x1 x2 x3
  refine Met.ofW (cc := cX3_beginAlong) (maxL := 7) (ret := none) (by decide) rfl ?_
  intro p e s m args below meth c s₁ B hml hv
  obtain ⟨rfl, hsz, hW, hK, h⟩ := hv
  subst hsz
  have hts := atoms_spec (ws := ws_ yX3_beginAlong cX3_beginAlong 7 none) B.pre
  have hts : ∀ w ∈ lw_all, w.before _ s = true := fun w h => hts w (List.mem_cons_of_mem _ h)
  have hl := lv_entry ([.ref (mh E), .int x1, .int x2, .int x3]) (n := 7) (Nat.le_of_ble_eq_true rfl)
  rw [lg_entry_eq]
  generalize (lg_sl ([.ref (mh E), .int x1, .int x2, .int x3]) ++ List.replicate (7 - (lg_sl ([.ref (mh E), .int x1, .int x2, .int x3])).length) Slot.unset).toArray = ls at hl ⊢
  exact wk_X3_beginAlong Q ⟨⟨B.exec, B.bytes, hml, findClass_of_methodNamed B.named, hts⟩, hK⟩ (fun q h => Or.inr h) (fun q h => Or.inl h) (Nat.le_refl _) (Nat.le_refl _) ⟨Nat.le_refl _, Nat.le_refl _⟩ M L (fun L pc ls H locs hd hS hW1 hQ => W.vret B.exec B.bytes B.returns (fun t ht _ => ⟨⟨(M, L), rfl, ⟨rfl, hQ⟩, by rw [← ht] at hW1; exact hW1⟩, hS.F ht⟩) hS.2.2 hd) x1 x2 x3 h ls _ [] hl hW va_S.rf
def CT_X3_cellOf (l : Launch) (fr lo : Nat) (w : (Int32 → Prop) → Int64 → Prop) : Prop := ∀ (sz : Nat) (Q : Int32 → Prop) (x0 : Int64), Met l yX3_cellOf (ws_ yX3_cellOf cX3_cellOf 4 (some .int)) { frames := fr, cells := 0, slots := 0, locals := lo } (va_Pc [.long x0] (fun U => U.heap.size = sz ∧ w Q x0)) (va_Qi (fun r (_ : Unit) => Q r) (fun _ _ => True) (mN sz)) 0 0 (mN sz)
theorem call_X3_cellOf {p : Program} {l : Launch} {e : Env} {R : Room} {s : State} {m : MethodId} {args : Array Value} {below : List Frame} {meth : Method} {c : Code} {H : Heap} {locs : List Loc} {cells slots : Nat} {Z : State → Prop} {A : Nat → Prop} {cc : ByteArray} {nL pc : Nat} {ls : Array Slot} {rest : List Value} {own : String} {index fr lo : Nat} {w : (Int32 → Prop) → Int64 → Prop} {x0 : Int64} (hM : CT_X3_cellOf l fr lo w) (S : CallFix p m c cc nL s args lw_all own) (hS : va_S A s.heap H locs) (hA : ∀ q, s.heap.size ≤ q → A q) (hlink : Cond.methodLink own index yX3_cellOf ∈ lw_all) (hRf : fr + 1 ≤ R.frames) (hRl : 8 + (4 + 11) + lo ≤ R.locals) (hcs : cells ≤ R.cells ∧ slots ≤ R.slots) (hz : ls.size = nL) (hr8 : (rest.map fun v => v.category).sum ≤ 8) (hdg : decode cc pc = .ok (.invokestatic index, 3)) {Q1 : Int32 → Prop} (h : w Q1 x0) (kk : ∀ (r : Int32) (H1 : Heap) (locs1 : List Loc), Q1 r → (∀ q : Nat, q < H.size → H1[q]? = H[q]?) → va_S A s.heap H1 locs1 → W p l e R s m args below meth c H1 locs1 cells slots Z (F0 m (pc + 3) ls (.int r :: rest))) : W p l e R s m args below meth c H locs cells slots Z (F0 m pc ls (.long x0 :: rest)) := by
  exact ro_i (va_runS (As := [.long x0]) (rest := rest) S (hM H.size Q1 x0) (va_cwS 1 S.2.2.2.2 (lw_S hlink q2130 q68 q2131) rfl rfl rfl (by decide +kernel) ⟨hRf, hRl⟩) ⟨fun a U g mk q => by obtain ⟨q0, q1, qw⟩ := q; exact ⟨q0, q1, qw⟩, fun U hU hWm => ⟨rfl, by rw [hU], h⟩⟩ rfl rfl hz rfl (lv_room hr8) hdg hcs) hS hA (fun r H1 locs1 hp hz hk hS1 => kk r H1 locs1 hp hk hS1)
def w_X3_cellOf (Q : Int32 → Prop) (x0 : Int64) : Prop := w_J13_floorDiv (fun r1 => w_J13_min_2 (fun r2 => w_J13_max_2 (fun r3 => Q (r3.toInt32)) (-1 : Int64) r2) (28 : Int64) r1) x0 (1000 : Int64)
set_option maxRecDepth 100000 in
set_option maxHeartbeats 4000000 in
theorem wk_X3_cellOf {p : Program} {l : Launch} {e : Env} {R : Room} {s : State} {m : MethodId} {args : Array Value} {below : List Frame} {meth : Method} {c : Code} {cells slots : Nat} {Z : State → Prop} {A : Nat → Prop}  (Q : Int32 → Prop) (S : CallFix p m c cX3_cellOf 4 s args lw_all RX3) (hA : ∀ q, s.heap.size ≤ q → A q) (hRf : 1 ≤ R.frames) (hRl : 25 ≤ R.locals) (hcs : cells ≤ R.cells ∧ slots ≤ R.slots) (hret : ∀ (v : Int32) (pc : Nat) (ls : Array Slot) (H : Heap) (locs : List Loc), decode cX3_cellOf pc = .ok (.ireturn, 1) → va_S A s.heap H locs → Q v → W p l e R s m args below meth c H locs cells slots Z (F0 m pc ls [.int v])) (x0 : Int64) : w_X3_cellOf Q x0 → ∀ (ls : Array Slot) (H : Heap) (locs : List Loc), lv_has ls 4 [(0, .long x0)] → va_S A s.heap H locs → W p l e R s m args below meth c H locs cells slots Z (F0 m 0 ls []) := by
  obtain ⟨hx, hb, hml, hown, hts⟩ := S; have S : CallFix p m c cX3_cellOf 4 s args lw_all RX3 := ⟨hx, hb, hml, hown, hts⟩
  intro h
  intro ls H locs hl hS
  refine lv_lload_n hx hb dX3_cellOf_0 rfl (lv_at hl 0 rfl) ?_
  refine lv_ldc2 hx hb hown (hts _ q2056) dX3_cellOf_1 ?_
  refine call_J13_floorDiv (ct_J13_floorDiv l) S hS hA q2057 (le_lit hRf rfl) (le_lit hRl rfl) hcs hl.1 (Nat.le_of_ble_eq_true rfl) dX3_cellOf_4 h (fun r1 H locs h hk hS => ?_)
  refine lv_lstore_n (lv' := [(2, .long r1), (0, .long x0)]) hx hb dX3_cellOf_7 rfl hl (by decide) rfl (fun ls hl => ?_)
  refine lv_ldc2 hx hb hown (hts _ q2132) dX3_cellOf_8 ?_
  refine lv_ldc2 hx hb hown (hts _ q2133) dX3_cellOf_11 ?_
  refine lv_lload_n hx hb dX3_cellOf_14 rfl (lv_at hl 0 rfl) ?_
  refine call_J13_min_2 (ct_J13_min_2 l) S hS hA q2075 (le_lit hRf rfl) (le_lit hRl rfl) hcs hl.1 (Nat.le_of_ble_eq_true rfl) dX3_cellOf_15 h (fun r2 H locs h hk hS => ?_)
  refine call_J13_max_2 (ct_J13_max_2 l) S hS hA q2076 (le_lit hRf rfl) (le_lit hRl rfl) hcs hl.1 (Nat.le_of_ble_eq_true rfl) dX3_cellOf_18 h (fun r3 H locs h hk hS => ?_)
  refine lv_l2i hx hb dX3_cellOf_21 rfl ?_
  exact hret _ _ _ _ _ dX3_cellOf_22 hS h
theorem ct_X3_cellOf (l : Launch) : CT_X3_cellOf l 1 25 w_X3_cellOf := by
  intro sz Q x0
  refine Met.ofW (cc := cX3_cellOf) (maxL := 4) (ret := (some .int)) (by decide) rfl ?_
  intro p e s m args below meth c s₁ B hml hv
  obtain ⟨rfl, hsz, h⟩ := hv
  subst hsz
  have hts := atoms_spec (ws := ws_ yX3_cellOf cX3_cellOf 4 (some .int)) B.pre
  have hts : ∀ w ∈ lw_all, w.before _ s = true := fun w h => hts w (List.mem_cons_of_mem _ h)
  have hl := lv_entry ([.long x0]) (n := 4) (Nat.le_of_ble_eq_true rfl)
  rw [lg_entry_eq]
  generalize (lg_sl ([.long x0]) ++ List.replicate (4 - (lg_sl ([.long x0])).length) Slot.unset).toArray = ls at hl ⊢
  exact wk_X3_cellOf Q ⟨B.exec, B.bytes, hml, findClass_of_methodNamed B.named, hts⟩ (fun q h => h) (Nat.le_refl _) (Nat.le_refl _) ⟨Nat.le_refl _, Nat.le_refl _⟩ (fun v pc ls H locs hd hS hQ => W.iret (v := v) B.exec B.bytes B.returns (fun t ht _ => ⟨⟨v, (), rfl, hQ, trivial⟩, hS.F ht⟩) hS.2.2 hd) x0 h ls _ [] hl va_S.rf
def CT_X3_paintBox (l : Launch) (fr lo : Nat) (w : (MM → Prop) → Int32 → Int32 → Int32 → Int32 → MM → ML → Prop) : Prop := ∀ (E : mE) (M : MM) (L : ML) (sz : Nat) (Q : MM → Prop) (x1 : Int32) (x2 : Int32) (x3 : Int32) (x4 : Int32), Met l yX3_paintBox (ws_ yX3_paintBox cX3_paintBox 9 none) { frames := fr, cells := 0, slots := 0, locals := lo } (va_Pc [.ref (mh E), .int x1, .int x2, .int x3, .int x4] (fun U => U.heap.size = sz ∧ mW E M L U.heap ∧ mK E U ∧ w Q x1 x2 x3 x4 M L)) (va_Qv (fun (u : MM × ML) => u.2 = L ∧ Q u.1) (fun u t => mW E u.1 u.2 t.heap) (mA E sz)) 0 0 (mA E sz)
theorem call_X3_paintBox {p : Program} {l : Launch} {e : Env} {R : Room} {s : State} {m : MethodId} {args : Array Value} {below : List Frame} {meth : Method} {c : Code} {H : Heap} {locs : List Loc} {cells slots : Nat} {Z : State → Prop} {A : Nat → Prop} {cc : ByteArray} {nL pc : Nat} {ls : Array Slot} {rest : List Value} {own : String} {index fr lo : Nat} {w : (MM → Prop) → Int32 → Int32 → Int32 → Int32 → MM → ML → Prop} {E : mE} {M : MM} {L : ML} {x1 : Int32} {x2 : Int32} {x3 : Int32} {x4 : Int32} (hM : CT_X3_paintBox l fr lo w) (S : CallFix p m c cc nL s args lw_all own) (hK : mK E s) (hW : mW E M L H) (hS : va_S A s.heap H locs) (hA : ∀ q, s.heap.size ≤ q → A q) (hAw : ∀ q, mAd E q → A q) (hlink : Cond.methodLink own index yX3_paintBox ∈ lw_all) (hRf : fr + 1 ≤ R.frames) (hRl : 8 + (9 + 11) + lo ≤ R.locals) (hcs : cells ≤ R.cells ∧ slots ≤ R.slots) (hz : ls.size = nL) (hr8 : (rest.map fun v => v.category).sum ≤ 8) (hdg : decode cc pc = .ok (.invokevirtual index, 3)) {Q1 : MM → Prop} (h : w Q1 x1 x2 x3 x4 M L) (kk : ∀ (M1 : MM) (H1 : Heap) (locs1 : List Loc), Q1 M1 → mW E M1 L H1 → va_S A s.heap H1 locs1 → (∀ q : Nat, q < H.size → ¬ mAd E q → H1[q]? = H[q]?) → W p l e R s m args below meth c H1 locs1 cells slots Z (F0 m (pc + 3) ls (rest))) : W p l e R s m args below meth c H locs cells slots Z (F0 m pc ls (.int x4 :: .int x3 :: .int x2 :: .int x1 :: .ref (mh E) :: rest)) := by
  refine mw_v (sz := 0) (P := fun M1 L1 => L1 = L ∧ Q1 M1) (va_runV (As := [.int x1, .int x2, .int x3, .int x4]) (rest := rest) S (hM E M L H.size Q1 x1 x2 x3 x4) (cwV 4 S.2.2.2.2 (lw_V hlink q2136 qs50 q68 q2137) rfl rfl rfl (by decide +kernel) ⟨hRf, hRl⟩) ⟨fun a U g mk q => by obtain ⟨q0, q1, qW, qK, qw⟩ := q; exact ⟨q0, q1, qW, qK.moved (u := U) (U := U.calling g mk a) (Vm.Alike.refl U.vm), qw⟩, hW.recv (hK := hK), fun U hU hWm => ⟨rfl, by rw [hU], by rw [hU]; exact hW, hK.moved hWm.alike, h⟩⟩ rfl rfl hz rfl (lv_room hr8) hdg hcs) hS hA hAw (fun M1 L1 H1 locs1 hp hW1 hz hk hS1 => ?_)
  obtain ⟨rfl, hp⟩ := hp
  exact kk M1 H1 locs1 hp hW1 hS1 hk
def w_X3_paintBox_h45 (Q : MM → Prop) (rec26 : Int32 → MM → Prop) (x1 : Int32) (x2 : Int32) (x3 : Int32) (x4 : Int32) (x5 : Int32) (x6 : Int32) (x7 : Int32) (L : ML) (rec45 : Int32 → MM → Prop) (x8 : Int32) (M : MM) : Prop := w_J13_max (fun r1 => if r1 < x8 then (rec26 (x7 + (1 : Int32)) M) else (w_X3_paint (fun M2 => rec45 (x8 + (1 : Int32)) M2) x1 x8 x7 x4 M)) x2 x5
def w_X3_paintBox_L45 (Q : MM → Prop) (rec26 : Int32 → MM → Prop) (x1 : Int32) (x2 : Int32) (x3 : Int32) (x4 : Int32) (x5 : Int32) (x6 : Int32) (x7 : Int32) (L : ML) (x8 : Int32) (M : MM) : Prop := wLoop (fun (rec : (Int32 × MM) → Prop) (s : Int32 × MM) => w_X3_paintBox_h45 Q rec26 x1 x2 x3 x4 x5 x6 x7 L (fun x8 M => rec (x8, M)) s.1 s.2) (x8, M)
def w_X3_paintBox_h26 (Q : MM → Prop) (x1 : Int32) (x2 : Int32) (x3 : Int32) (x4 : Int32) (x5 : Int32) (x6 : Int32) (L : ML) (rec26 : Int32 → MM → Prop) (x7 : Int32) (M : MM) : Prop := w_J13_max (fun r4 => if r4 < x7 then (Q M) else (w_J13_min (fun r5 => w_X3_paintBox_L45 Q rec26 x1 x2 x3 x4 x5 x6 x7 L r5 M) x2 x5)) x3 x6
def w_X3_paintBox_L26 (Q : MM → Prop) (x1 : Int32) (x2 : Int32) (x3 : Int32) (x4 : Int32) (x5 : Int32) (x6 : Int32) (L : ML) (x7 : Int32) (M : MM) : Prop := wLoop (fun (rec : (Int32 × MM) → Prop) (s : Int32 × MM) => w_X3_paintBox_h26 Q x1 x2 x3 x4 x5 x6 L (fun x7 M => rec (x7, M)) s.1 s.2) (x7, M)
def w_X3_paintBox (Q : MM → Prop) (x1 : Int32) (x2 : Int32) (x3 : Int32) (x4 : Int32) (M : MM) (L : ML) : Prop := w_X3_cellOf (fun r7 => w_X3_cellOf (fun r8 => w_J13_min (fun r9 => w_X3_paintBox_L26 Q x1 x2 x3 x4 r7 r8 L r9 M) x3 r8) (L 24)) (L 23)
set_option maxRecDepth 100000 in
set_option maxHeartbeats 4000000 in
theorem wk_X3_paintBox {p : Program} {l : Launch} {e : Env} {R : Room} {s : State} {m : MethodId} {args : Array Value} {below : List Frame} {meth : Method} {c : Code} {cells slots : Nat} {Z : State → Prop} {A : Nat → Prop} {E : mE} (Q : MM → Prop) (C : mC p m c s args cX3_paintBox 9 E) (hA : ∀ q, s.heap.size ≤ q → A q) (hAw : ∀ q, mAd E q → A q) (hRf : 2 ≤ R.frames) (hRl : 48 ≤ R.locals) (hcs : cells ≤ R.cells ∧ slots ≤ R.slots) (M : MM) (L : ML) (hret : ∀ (M : MM) (pc : Nat) (ls : Array Slot) (H : Heap) (locs : List Loc), decode cX3_paintBox pc = .ok (.return_, 1) → va_S A s.heap H locs → mW E M L H → Q M → W p l e R s m args below meth c H locs cells slots Z (F0 m pc ls [])) (x1 : Int32) (x2 : Int32) (x3 : Int32) (x4 : Int32) : w_X3_paintBox Q x1 x2 x3 x4 M L → ∀ (ls : Array Slot) (H : Heap) (locs : List Loc), lv_has ls 9 [(0, .ref (mh E)), (1, .int x1), (2, .int x2), (3, .int x3), (4, .int x4)] → mW E M L H → va_S A s.heap H locs → W p l e R s m args below meth c H locs cells slots Z (F0 m 0 ls []) := by
  obtain ⟨⟨hx, hb, hml, hown, hts⟩, hK⟩ := C; have C : mC p m c s args cX3_paintBox 9 E := ⟨⟨hx, hb, hml, hown, hts⟩, hK⟩
  have hL26 : ∀ (x5 : Int32) (x6 : Int32) (x7 : Int32) (M : MM), w_X3_paintBox_L26 Q x1 x2 x3 x4 x5 x6 L x7 M → ∀ (ls : Array Slot) (H : Heap) (locs : List Loc), lv_has ls 9 [(0, .ref (mh E)), (1, .int x1), (2, .int x2), (3, .int x3), (4, .int x4), (5, .int x5), (6, .int x6), (7, .int x7)] → mW E M L H → va_S A s.heap H locs → W p l e R s m args below meth c H locs cells slots Z (F0 m 26 ls []) := by
    intro x5 x6
    obtain ⟨G26, hG26⟩ : ∃ G : Int32 → MM → Prop, ∀ (x7 : Int32) (M : MM), G x7 M ↔ (∀ (ls : Array Slot) (H : Heap) (locs : List Loc), lv_has ls 9 [(0, .ref (mh E)), (1, .int x1), (2, .int x2), (3, .int x3), (4, .int x4), (5, .int x5), (6, .int x6), (7, .int x7)] → mW E M L H → va_S A s.heap H locs → W p l e R s m args below meth c H locs cells slots Z (F0 m 26 ls [])) := ⟨fun x7 M => _, fun x7 M => Iff.rfl⟩
    have hB26 : ∀ (rec26 : Int32 → MM → Prop), (∀ (x7 : Int32) (M : MM), rec26 x7 M → G26 x7 M) → ∀ (x7 : Int32) (M : MM), w_X3_paintBox_h26 Q x1 x2 x3 x4 x5 x6 L rec26 x7 M → G26 x7 M := by
      intro rec26 hrec26
      have hL45 : ∀ (x7 : Int32) (x8 : Int32) (M : MM), w_X3_paintBox_L45 Q rec26 x1 x2 x3 x4 x5 x6 x7 L x8 M → ∀ (ls : Array Slot) (H : Heap) (locs : List Loc), lv_has ls 9 [(0, .ref (mh E)), (1, .int x1), (2, .int x2), (3, .int x3), (4, .int x4), (5, .int x5), (6, .int x6), (7, .int x7), (8, .int x8)] → mW E M L H → va_S A s.heap H locs → W p l e R s m args below meth c H locs cells slots Z (F0 m 45 ls []) := by
        intro x7
        obtain ⟨G45, hG45⟩ : ∃ G : Int32 → MM → Prop, ∀ (x8 : Int32) (M : MM), G x8 M ↔ (∀ (ls : Array Slot) (H : Heap) (locs : List Loc), lv_has ls 9 [(0, .ref (mh E)), (1, .int x1), (2, .int x2), (3, .int x3), (4, .int x4), (5, .int x5), (6, .int x6), (7, .int x7), (8, .int x8)] → mW E M L H → va_S A s.heap H locs → W p l e R s m args below meth c H locs cells slots Z (F0 m 45 ls [])) := ⟨fun x8 M => _, fun x8 M => Iff.rfl⟩
        have hB45 : ∀ (rec45 : Int32 → MM → Prop), (∀ (x8 : Int32) (M : MM), rec45 x8 M → G45 x8 M) → ∀ (x8 : Int32) (M : MM), w_X3_paintBox_h45 Q rec26 x1 x2 x3 x4 x5 x6 x7 L rec45 x8 M → G45 x8 M := by
          intro rec45 hrec45
          intro x8 M h
          rw [hG45]
          intro ls H locs hl hW hS
          refine lv_iload hx hb dX3_paintBox_45 (lv_at hl 8 rfl) ?_
          refine lv_iload_n hx hb dX3_paintBox_47 rfl (lv_at hl 2 rfl) ?_
          refine lv_iload hx hb dX3_paintBox_48 (lv_at hl 5 rfl) ?_
          refine call_J13_max (ct_J13_max l) C.1 hS hA q2077 (le_lit hRf rfl) (le_lit hRl rfl) hcs hl.1 (Nat.le_of_ble_eq_true rfl) dX3_paintBox_50 h (fun r1 H locs h hk hS => ?_)
          have hW := hW.kept hk
          refine lv_icmp_gt (tgt := 73) hx hb dX3_paintBox_53 (by decide) (fun c3 => ?_) (fun c3 => ?_)
          · have h := wif_t h c3
            refine lv_iinc (v := x7 + (1 : Int32)) (lv' := [(7, .int (x7 + (1 : Int32))), (0, .ref (mh E)), (1, .int x1), (2, .int x2), (3, .int x3), (4, .int x4), (5, .int x5), (6, .int x6), (8, .int x8)]) hx hb dX3_paintBox_73 hl (k := 7) rfl (congrArg (fun z => x7 + z) (by decide)) (by decide) rfl (fun ls hl => ?_)
            refine lv_goto (tgt := 26) hx hb dX3_paintBox_76 (by decide) ?_
            exact (hG26 _ _).mp (hrec26 _ _ h) ls H locs (lv_sub hl [1, 2, 3, 4, 5, 6, 7, 0] rfl) hW hS
          · have h := wif_f h c3
            refine lv_aload_n hx hb dX3_paintBox_56 rfl (lv_at hl 0 rfl) ?_
            refine lv_iload_n hx hb dX3_paintBox_57 rfl (lv_at hl 1 rfl) ?_
            refine lv_iload hx hb dX3_paintBox_58 (lv_at hl 8 rfl) ?_
            refine lv_iload hx hb dX3_paintBox_60 (lv_at hl 7 rfl) ?_
            refine lv_iload hx hb dX3_paintBox_62 (lv_at hl 4 rfl) ?_
            refine call_X3_paint (ct_X3_paint l) C.1 C.2 hW hS hA hAw q2115 (le_lit hRf rfl) (le_lit hRl rfl) hcs hl.1 (Nat.le_of_ble_eq_true rfl) dX3_paintBox_64 h (fun M2 H locs h hW hS _ => ?_)
            refine lv_iinc (v := x8 + (1 : Int32)) (lv' := [(8, .int (x8 + (1 : Int32))), (0, .ref (mh E)), (1, .int x1), (2, .int x2), (3, .int x3), (4, .int x4), (5, .int x5), (6, .int x6), (7, .int x7)]) hx hb dX3_paintBox_67 hl (k := 8) rfl (congrArg (fun z => x8 + z) (by decide)) (by decide) rfl (fun ls hl => ?_)
            refine lv_goto (tgt := 45) hx hb dX3_paintBox_70 (by decide) ?_
            exact (hG45 _ _).mp (hrec45 _ _ h) ls H locs (lv_sub hl [1, 2, 3, 4, 5, 6, 7, 8, 0] rfl) hW hS
        intro x8 M h
        exact (hG45 x8 M).mp (loop_walk (fun s => G45 s.1 s.2) (fun rec hrec s h => hB45 (fun x8 M => rec (x8, M)) (fun x8 M h => hrec (x8, M) h) s.1 s.2 h) (x8, M) h)
      intro x7 M h
      rw [hG26]
      intro ls H locs hl hW hS
      refine lv_iload hx hb dX3_paintBox_26 (lv_at hl 7 rfl) ?_
      refine lv_iload_n hx hb dX3_paintBox_28 rfl (lv_at hl 3 rfl) ?_
      refine lv_iload hx hb dX3_paintBox_29 (lv_at hl 6 rfl) ?_
      refine call_J13_max (ct_J13_max l) C.1 hS hA q2077 (le_lit hRf rfl) (le_lit hRl rfl) hcs hl.1 (Nat.le_of_ble_eq_true rfl) dX3_paintBox_31 h (fun r4 H locs h hk hS => ?_)
      have hW := hW.kept hk
      refine lv_icmp_gt (tgt := 79) hx hb dX3_paintBox_34 (by decide) (fun c6 => ?_) (fun c6 => ?_)
      · have h := wif_t h c6
        exact hret _ _ _ _ _ dX3_paintBox_79 hS hW h
      · have h := wif_f h c6
        refine lv_iload_n hx hb dX3_paintBox_37 rfl (lv_at hl 2 rfl) ?_
        refine lv_iload hx hb dX3_paintBox_38 (lv_at hl 5 rfl) ?_
        refine call_J13_min (ct_J13_min l) C.1 hS hA q2123 (le_lit hRf rfl) (le_lit hRl rfl) hcs hl.1 (Nat.le_of_ble_eq_true rfl) dX3_paintBox_40 h (fun r5 H locs h hk hS => ?_)
        have hW := hW.kept hk
        refine lv_istore (lv' := [(8, .int r5), (0, .ref (mh E)), (1, .int x1), (2, .int x2), (3, .int x3), (4, .int x4), (5, .int x5), (6, .int x6), (7, .int x7)]) hx hb dX3_paintBox_43 hl (by decide) rfl (fun ls hl => ?_)
        exact hL45 _ _ _ h ls H locs (lv_sub hl [1, 2, 3, 4, 5, 6, 7, 8, 0] rfl) hW hS
    intro x7 M h
    exact (hG26 x7 M).mp (loop_walk (fun s => G26 s.1 s.2) (fun rec hrec s h => hB26 (fun x7 M => rec (x7, M)) (fun x7 M h => hrec (x7, M) h) s.1 s.2 h) (x7, M) h)
  intro h
  intro ls H locs hl hW hS
  refine lv_aload_n hx hb dX3_paintBox_0 rfl (lv_at hl 0 rfl) ?_
  refine mr_getJ C hW 23 rfl rfl q1826 dX3_paintBox_1 ?_
  refine call_X3_cellOf (ct_X3_cellOf l) C.1 hS hA q2129 (le_lit hRf rfl) (le_lit hRl rfl) hcs hl.1 (Nat.le_of_ble_eq_true rfl) dX3_paintBox_4 h (fun r7 H locs h hk hS => ?_)
  have hW := hW.kept hk
  refine lv_istore (lv' := [(5, .int r7), (0, .ref (mh E)), (1, .int x1), (2, .int x2), (3, .int x3), (4, .int x4)]) hx hb dX3_paintBox_7 hl (by decide) rfl (fun ls hl => ?_)
  refine lv_aload_n hx hb dX3_paintBox_9 rfl (lv_at hl 1 rfl) ?_
  refine mr_getJ C hW 24 rfl rfl q1827 dX3_paintBox_10 ?_
  refine call_X3_cellOf (ct_X3_cellOf l) C.1 hS hA q2129 (le_lit hRf rfl) (le_lit hRl rfl) hcs hl.1 (Nat.le_of_ble_eq_true rfl) dX3_paintBox_13 h (fun r8 H locs h hk hS => ?_)
  have hW := hW.kept hk
  refine lv_istore (lv' := [(6, .int r8), (5, .int r7), (0, .ref (mh E)), (1, .int x1), (2, .int x2), (3, .int x3), (4, .int x4)]) hx hb dX3_paintBox_16 hl (by decide) rfl (fun ls hl => ?_)
  refine lv_iload_n hx hb dX3_paintBox_18 rfl (lv_at hl 5 rfl) ?_
  refine lv_iload hx hb dX3_paintBox_19 (lv_at hl 0 rfl) ?_
  refine call_J13_min (ct_J13_min l) C.1 hS hA q2123 (le_lit hRf rfl) (le_lit hRl rfl) hcs hl.1 (Nat.le_of_ble_eq_true rfl) dX3_paintBox_21 h (fun r9 H locs h hk hS => ?_)
  have hW := hW.kept hk
  refine lv_istore (lv' := [(7, .int r9), (6, .int r8), (5, .int r7), (0, .ref (mh E)), (1, .int x1), (2, .int x2), (3, .int x3), (4, .int x4)]) hx hb dX3_paintBox_24 hl (by decide) rfl (fun ls hl => ?_)
  exact hL26 _ _ _ _ h ls H locs (lv_sub hl [3, 4, 5, 6, 7, 2, 1, 0] rfl) hW hS
theorem ct_X3_paintBox (l : Launch) : CT_X3_paintBox l 2 48 w_X3_paintBox := by
  intro E M L sz Q x1 x2 x3 x4
  refine Met.ofW (cc := cX3_paintBox) (maxL := 9) (ret := none) (by decide) rfl ?_
  intro p e s m args below meth c s₁ B hml hv
  obtain ⟨rfl, hsz, hW, hK, h⟩ := hv
  subst hsz
  have hts := atoms_spec (ws := ws_ yX3_paintBox cX3_paintBox 9 none) B.pre
  have hts : ∀ w ∈ lw_all, w.before _ s = true := fun w h => hts w (List.mem_cons_of_mem _ h)
  have hl := lv_entry ([.ref (mh E), .int x1, .int x2, .int x3, .int x4]) (n := 9) (Nat.le_of_ble_eq_true rfl)
  rw [lg_entry_eq]
  generalize (lg_sl ([.ref (mh E), .int x1, .int x2, .int x3, .int x4]) ++ List.replicate (9 - (lg_sl ([.ref (mh E), .int x1, .int x2, .int x3, .int x4])).length) Slot.unset).toArray = ls at hl ⊢
  exact wk_X3_paintBox Q ⟨⟨B.exec, B.bytes, hml, findClass_of_methodNamed B.named, hts⟩, hK⟩ (fun q h => Or.inr h) (fun q h => Or.inl h) (Nat.le_refl _) (Nat.le_refl _) ⟨Nat.le_refl _, Nat.le_refl _⟩ M L (fun M pc ls H locs hd hS hW1 hQ => W.vret B.exec B.bytes B.returns (fun t ht _ => ⟨⟨(M, L), rfl, ⟨rfl, hQ⟩, by rw [← ht] at hW1; exact hW1⟩, hS.F ht⟩) hS.2.2 hd) x1 x2 x3 x4 h ls _ [] hl hW va_S.rf
def CT_X3_paintStroke (l : Launch) (fr lo : Nat) (w : (MM → ML → Prop) → Int32 → Int32 → Int32 → Int32 → MM → ML → Prop) : Prop := ∀ (E : mE) (M : MM) (L : ML) (sz : Nat) (Q : MM → ML → Prop) (x1 : Int32) (x2 : Int32) (x3 : Int32) (x4 : Int32), Met l yX3_paintStroke (ws_ yX3_paintStroke cX3_paintStroke 14 none) { frames := fr, cells := 0, slots := 0, locals := lo } (va_Pc [.ref (mh E), .int x1, .int x2, .int x3, .int x4] (fun U => U.heap.size = sz ∧ mW E M L U.heap ∧ mK E U ∧ w Q x1 x2 x3 x4 M L)) (va_Qv (fun (u : MM × ML) => Q u.1 u.2) (fun u t => mW E u.1 u.2 t.heap) (mA E sz)) 0 0 (mA E sz)
theorem call_X3_paintStroke {p : Program} {l : Launch} {e : Env} {R : Room} {s : State} {m : MethodId} {args : Array Value} {below : List Frame} {meth : Method} {c : Code} {H : Heap} {locs : List Loc} {cells slots : Nat} {Z : State → Prop} {A : Nat → Prop} {cc : ByteArray} {nL pc : Nat} {ls : Array Slot} {rest : List Value} {own : String} {index fr lo : Nat} {w : (MM → ML → Prop) → Int32 → Int32 → Int32 → Int32 → MM → ML → Prop} {E : mE} {M : MM} {L : ML} {x1 : Int32} {x2 : Int32} {x3 : Int32} {x4 : Int32} (hM : CT_X3_paintStroke l fr lo w) (S : CallFix p m c cc nL s args lw_all own) (hK : mK E s) (hW : mW E M L H) (hS : va_S A s.heap H locs) (hA : ∀ q, s.heap.size ≤ q → A q) (hAw : ∀ q, mAd E q → A q) (hlink : Cond.methodLink own index yX3_paintStroke ∈ lw_all) (hRf : fr + 1 ≤ R.frames) (hRl : 8 + (14 + 11) + lo ≤ R.locals) (hcs : cells ≤ R.cells ∧ slots ≤ R.slots) (hz : ls.size = nL) (hr8 : (rest.map fun v => v.category).sum ≤ 8) (hdg : decode cc pc = .ok (.invokevirtual index, 3)) {Q1 : MM → ML → Prop} (h : w Q1 x1 x2 x3 x4 M L) (kk : ∀ (M1 : MM) (L1 : ML) (H1 : Heap) (locs1 : List Loc), Q1 M1 L1 → mW E M1 L1 H1 → va_S A s.heap H1 locs1 → (∀ q : Nat, q < H.size → ¬ mAd E q → H1[q]? = H[q]?) → W p l e R s m args below meth c H1 locs1 cells slots Z (F0 m (pc + 3) ls (rest))) : W p l e R s m args below meth c H locs cells slots Z (F0 m pc ls (.int x4 :: .int x3 :: .int x2 :: .int x1 :: .ref (mh E) :: rest)) := by
  refine mw_v (sz := 0) (P := fun M1 L1 => Q1 M1 L1) (va_runV (As := [.int x1, .int x2, .int x3, .int x4]) (rest := rest) S (hM E M L H.size Q1 x1 x2 x3 x4) (cwV 4 S.2.2.2.2 (lw_V hlink q2121 qs48 q68 q2122) rfl rfl rfl (by decide +kernel) ⟨hRf, hRl⟩) ⟨fun a U g mk q => by obtain ⟨q0, q1, qW, qK, qw⟩ := q; exact ⟨q0, q1, qW, qK.moved (u := U) (U := U.calling g mk a) (Vm.Alike.refl U.vm), qw⟩, hW.recv (hK := hK), fun U hU hWm => ⟨rfl, by rw [hU], by rw [hU]; exact hW, hK.moved hWm.alike, h⟩⟩ rfl rfl hz rfl (lv_room hr8) hdg hcs) hS hA hAw (fun M1 L1 H1 locs1 hp hW1 hz hk hS1 => ?_)
  exact kk M1 L1 H1 locs1 hp hW1 hS1 hk
def w_X3_paintStroke_142 (Q : MM → ML → Prop) (rec24 : Int32 → Int32 → MM → ML → Prop) (x1 : Int32) (x2 : Int32) (x3 : Int32) (x4 : Int32) (x5 : Int32) (x6 : Int32) (x7 : Int32) (x8 : Int32) (x9 : Int32) (M : MM) (L : ML) : Prop := rec24 (x7 + x9) (x8 + (1 : Int32)) M L
def w_X3_paintStroke_h24 (Q : MM → ML → Prop) (x1 : Int32) (x2 : Int32) (x3 : Int32) (x4 : Int32) (x5 : Int32) (x6 : Int32) (rec24 : Int32 → Int32 → MM → ML → Prop) (x7 : Int32) (x8 : Int32) (M : MM) (L : ML) : Prop := mRd (M 18) 12 x1 (fun v1 => if (v1 - (1 : Int32)) ≤ x8 then (Q M L) else (w_X3_partLength (fun r2 => w_J13_max (fun r3 => w_J13_min (fun r4 => if r4 ≤ r3 then (w_X3_paintStroke_142 Q rec24 x1 x2 x3 x4 x5 x6 x7 x8 r2 M L) else (w_X3_beginAlong (fun L5 => w_X3_mapOut (fun L6 => w_X3_cellOf (fun r7 => w_X3_cellOf (fun r8 => w_X3_beginAlong (fun L9 => w_X3_mapOut (fun L10 => mRd (M 8) 12 x1 (fun v11 => w_X3_paintBox (fun M12 => w_X3_paintStroke_142 Q rec24 x1 x2 x3 x4 x5 x6 x7 x8 r2 M12 L10) x4 r7 r8 v11 M L10)) x1 x2 x3 M L9) x1 x8 r4 M L6) (L6 24)) (L6 23)) x1 x2 x3 M L5) x1 x8 r3 M L)) r2 (x6 - x7)) (0 : Int32) (x5 - x7)) x1 x8 M))
def w_X3_paintStroke_L24 (Q : MM → ML → Prop) (x1 : Int32) (x2 : Int32) (x3 : Int32) (x4 : Int32) (x5 : Int32) (x6 : Int32) (x7 : Int32) (x8 : Int32) (M : MM) (L : ML) : Prop := wLoop (fun (rec : (Int32 × Int32 × MM × ML) → Prop) (s : Int32 × Int32 × MM × ML) => w_X3_paintStroke_h24 Q x1 x2 x3 x4 x5 x6 (fun x7 x8 M L => rec (x7, x8, M, L)) s.1 s.2.1 s.2.2.1 s.2.2.2) (x7, x8, M, L)
def w_X3_paintStroke (Q : MM → ML → Prop) (x1 : Int32) (x2 : Int32) (x3 : Int32) (x4 : Int32) (M : MM) (L : ML) : Prop := w_X3_trimmed (fun r15 => w_X3_trimmed (fun r16 => w_X3_paintStroke_L24 Q x1 x2 x3 x4 r15 r16 (0 : Int32) (0 : Int32) M L) x1 (5 : Int32) x2 M) x1 (4 : Int32) x2 M
set_option maxRecDepth 100000 in
set_option maxHeartbeats 4000000 in
theorem wk_X3_paintStroke {p : Program} {l : Launch} {e : Env} {R : Room} {s : State} {m : MethodId} {args : Array Value} {below : List Frame} {meth : Method} {c : Code} {cells slots : Nat} {Z : State → Prop} {A : Nat → Prop} {E : mE} (Q : MM → ML → Prop) (C : mC p m c s args cX3_paintStroke 14 E) (hA : ∀ q, s.heap.size ≤ q → A q) (hAw : ∀ q, mAd E q → A q) (hRf : 6 ≤ R.frames) (hRl : 149 ≤ R.locals) (hcs : cells ≤ R.cells ∧ slots ≤ R.slots) (M : MM) (L : ML) (hret : ∀ (M : MM) (L : ML) (pc : Nat) (ls : Array Slot) (H : Heap) (locs : List Loc), decode cX3_paintStroke pc = .ok (.return_, 1) → va_S A s.heap H locs → mW E M L H → Q M L → W p l e R s m args below meth c H locs cells slots Z (F0 m pc ls [])) (x1 : Int32) (x2 : Int32) (x3 : Int32) (x4 : Int32) : w_X3_paintStroke Q x1 x2 x3 x4 M L → ∀ (ls : Array Slot) (H : Heap) (locs : List Loc), lv_has ls 14 [(0, .ref (mh E)), (1, .int x1), (2, .int x2), (3, .int x3), (4, .int x4)] → mW E M L H → va_S A s.heap H locs → W p l e R s m args below meth c H locs cells slots Z (F0 m 0 ls []) := by
  obtain ⟨⟨hx, hb, hml, hown, hts⟩, hK⟩ := C; have C : mC p m c s args cX3_paintStroke 14 E := ⟨⟨hx, hb, hml, hown, hts⟩, hK⟩
  have hL24 : ∀ (x5 : Int32) (x6 : Int32) (x7 : Int32) (x8 : Int32) (M : MM) (L : ML), w_X3_paintStroke_L24 Q x1 x2 x3 x4 x5 x6 x7 x8 M L → ∀ (ls : Array Slot) (H : Heap) (locs : List Loc), lv_has ls 14 [(0, .ref (mh E)), (1, .int x1), (2, .int x2), (3, .int x3), (4, .int x4), (5, .int x5), (6, .int x6), (7, .int x7), (8, .int x8)] → mW E M L H → va_S A s.heap H locs → W p l e R s m args below meth c H locs cells slots Z (F0 m 24 ls []) := by
    intro x5 x6
    obtain ⟨G24, hG24⟩ : ∃ G : Int32 → Int32 → MM → ML → Prop, ∀ (x7 : Int32) (x8 : Int32) (M : MM) (L : ML), G x7 x8 M L ↔ (∀ (ls : Array Slot) (H : Heap) (locs : List Loc), lv_has ls 14 [(0, .ref (mh E)), (1, .int x1), (2, .int x2), (3, .int x3), (4, .int x4), (5, .int x5), (6, .int x6), (7, .int x7), (8, .int x8)] → mW E M L H → va_S A s.heap H locs → W p l e R s m args below meth c H locs cells slots Z (F0 m 24 ls [])) := ⟨fun x7 x8 M L => _, fun x7 x8 M L => Iff.rfl⟩
    have hB24 : ∀ (rec24 : Int32 → Int32 → MM → ML → Prop), (∀ (x7 : Int32) (x8 : Int32) (M : MM) (L : ML), rec24 x7 x8 M L → G24 x7 x8 M L) → ∀ (x7 : Int32) (x8 : Int32) (M : MM) (L : ML), w_X3_paintStroke_h24 Q x1 x2 x3 x4 x5 x6 rec24 x7 x8 M L → G24 x7 x8 M L := by
      intro rec24 hrec24
      have hb142 : ∀ (x7 : Int32) (x8 : Int32) (x9 : Int32) (M : MM) (L : ML), w_X3_paintStroke_142 Q rec24 x1 x2 x3 x4 x5 x6 x7 x8 x9 M L → ∀ (ls : Array Slot) (H : Heap) (locs : List Loc), lv_has ls 14 [(0, .ref (mh E)), (1, .int x1), (2, .int x2), (3, .int x3), (4, .int x4), (5, .int x5), (6, .int x6), (7, .int x7), (8, .int x8), (9, .int x9)] → mW E M L H → va_S A s.heap H locs → W p l e R s m args below meth c H locs cells slots Z (F0 m 142 ls []) := by
        intro x7 x8 x9 M L h
        intro ls H locs hl hW hS
        refine lv_iload hx hb dX3_paintStroke_142 (lv_at hl 7 rfl) ?_
        refine lv_iload hx hb dX3_paintStroke_144 (lv_at hl 9 rfl) ?_
        refine lv_iadd hx hb dX3_paintStroke_146 ?_
        refine lv_istore (lv' := [(7, .int (x7 + x9)), (0, .ref (mh E)), (1, .int x1), (2, .int x2), (3, .int x3), (4, .int x4), (5, .int x5), (6, .int x6), (8, .int x8), (9, .int x9)]) hx hb dX3_paintStroke_147 hl (by decide) rfl (fun ls hl => ?_)
        refine lv_iinc (v := x8 + (1 : Int32)) (lv' := [(8, .int (x8 + (1 : Int32))), (7, .int (x7 + x9)), (0, .ref (mh E)), (1, .int x1), (2, .int x2), (3, .int x3), (4, .int x4), (5, .int x5), (6, .int x6), (9, .int x9)]) hx hb dX3_paintStroke_149 hl (k := 8) rfl (congrArg (fun z => x8 + z) (by decide)) (by decide) rfl (fun ls hl => ?_)
        refine lv_goto (tgt := 24) hx hb dX3_paintStroke_152 (by decide) ?_
        exact (hG24 _ _ _ _).mp (hrec24 _ _ _ _ h) ls H locs (lv_sub hl [2, 3, 4, 5, 6, 7, 8, 1, 0] rfl) hW hS
      intro x7 x8 M L h
      rw [hG24]
      intro ls H locs hl hW hS
      refine lv_iload hx hb dX3_paintStroke_24 (lv_at hl 8 rfl) ?_
      refine lv_aload_n hx hb dX3_paintStroke_26 rfl (lv_at hl 0 rfl) ?_
      refine mr_getA C hW 18 rfl rfl q1821 dX3_paintStroke_27 ?_
      refine lv_iload_n hx hb dX3_paintStroke_30 rfl (lv_at hl 1 rfl) ?_
      refine mr_iald C hW 18 rfl rfl rfl h dX3_paintStroke_31 (fun v1 h => ?_)
      refine lv_iconst (v := 1) hx hb dX3_paintStroke_32 (by decide) ?_
      refine lv_isub hx hb dX3_paintStroke_33 ?_
      refine lv_icmp_ge (tgt := 155) hx hb dX3_paintStroke_34 (by decide) (fun c14 => ?_) (fun c14 => ?_)
      · have h := wif_t h c14
        exact hret _ _ _ _ _ _ dX3_paintStroke_155 hS hW h
      · have h := wif_f h c14
        refine lv_aload_n hx hb dX3_paintStroke_37 rfl (lv_at hl 0 rfl) ?_
        refine lv_iload_n hx hb dX3_paintStroke_38 rfl (lv_at hl 1 rfl) ?_
        refine lv_iload hx hb dX3_paintStroke_39 (lv_at hl 8 rfl) ?_
        refine call_X3_partLength (ct_X3_partLength l) C.1 C.2 hW hS hA q2070 (le_lit hRf rfl) (le_lit hRl rfl) hcs hl.1 (Nat.le_of_ble_eq_true rfl) dX3_paintStroke_41 h (fun r2 H locs h hk hS => ?_)
        have hW := hW.kept hk
        refine lv_istore (lv' := [(9, .int r2), (0, .ref (mh E)), (1, .int x1), (2, .int x2), (3, .int x3), (4, .int x4), (5, .int x5), (6, .int x6), (7, .int x7), (8, .int x8)]) hx hb dX3_paintStroke_44 hl (by decide) rfl (fun ls hl => ?_)
        refine lv_iconst (v := 0) hx hb dX3_paintStroke_46 (by decide) ?_
        refine lv_iload hx hb dX3_paintStroke_47 (lv_at hl 6 rfl) ?_
        refine lv_iload hx hb dX3_paintStroke_49 (lv_at hl 8 rfl) ?_
        refine lv_isub hx hb dX3_paintStroke_51 ?_
        refine call_J13_max (ct_J13_max l) C.1 hS hA q2077 (le_lit hRf rfl) (le_lit hRl rfl) hcs hl.1 (Nat.le_of_ble_eq_true rfl) dX3_paintStroke_52 h (fun r3 H locs h hk hS => ?_)
        have hW := hW.kept hk
        refine lv_istore (lv' := [(10, .int r3), (9, .int r2), (0, .ref (mh E)), (1, .int x1), (2, .int x2), (3, .int x3), (4, .int x4), (5, .int x5), (6, .int x6), (7, .int x7), (8, .int x8)]) hx hb dX3_paintStroke_55 hl (by decide) rfl (fun ls hl => ?_)
        refine lv_iload hx hb dX3_paintStroke_57 (lv_at hl 1 rfl) ?_
        refine lv_iload hx hb dX3_paintStroke_59 (lv_at hl 8 rfl) ?_
        refine lv_iload hx hb dX3_paintStroke_61 (lv_at hl 9 rfl) ?_
        refine lv_isub hx hb dX3_paintStroke_63 ?_
        refine call_J13_min (ct_J13_min l) C.1 hS hA q2123 (le_lit hRf rfl) (le_lit hRl rfl) hcs hl.1 (Nat.le_of_ble_eq_true rfl) dX3_paintStroke_64 h (fun r4 H locs h hk hS => ?_)
        have hW := hW.kept hk
        refine lv_istore (lv' := [(11, .int r4), (10, .int r3), (9, .int r2), (0, .ref (mh E)), (1, .int x1), (2, .int x2), (3, .int x3), (4, .int x4), (5, .int x5), (6, .int x6), (7, .int x7), (8, .int x8)]) hx hb dX3_paintStroke_67 hl (by decide) rfl (fun ls hl => ?_)
        refine lv_iload hx hb dX3_paintStroke_69 (lv_at hl 1 rfl) ?_
        refine lv_iload hx hb dX3_paintStroke_71 (lv_at hl 0 rfl) ?_
        refine lv_icmp_ge (tgt := 142) hx hb dX3_paintStroke_73 (by decide) (fun c13 => ?_) (fun c13 => ?_)
        · have h := wif_t h c13
          exact hb142 _ _ _ _ _ h ls H locs (lv_sub hl [3, 4, 5, 6, 7, 8, 9, 10, 11, 2] rfl) hW hS
        · have h := wif_f h c13
          refine lv_aload_n hx hb dX3_paintStroke_76 rfl (lv_at hl 3 rfl) ?_
          refine lv_iload_n hx hb dX3_paintStroke_77 rfl (lv_at hl 4 rfl) ?_
          refine lv_iload hx hb dX3_paintStroke_78 (lv_at hl 11 rfl) ?_
          refine lv_iload hx hb dX3_paintStroke_80 (lv_at hl 1 rfl) ?_
          refine call_X3_beginAlong (ct_X3_beginAlong l) C.1 C.2 hW hS hA hAw q2124 (le_lit hRf rfl) (le_lit hRl rfl) hcs hl.1 (Nat.le_of_ble_eq_true rfl) dX3_paintStroke_82 h (fun L5 H locs h hW hS _ => ?_)
          refine lv_aload_n hx hb dX3_paintStroke_85 rfl (lv_at hl 3 rfl) ?_
          refine lv_iload_n hx hb dX3_paintStroke_86 rfl (lv_at hl 4 rfl) ?_
          refine lv_iload_n hx hb dX3_paintStroke_87 rfl (lv_at hl 5 rfl) ?_
          refine lv_iload_n hx hb dX3_paintStroke_88 rfl (lv_at hl 6 rfl) ?_
          refine call_X3_mapOut (ct_X3_mapOut l) C.1 C.2 hW hS hA hAw q2110 (le_lit hRf rfl) (le_lit hRl rfl) hcs hl.1 (Nat.le_of_ble_eq_true rfl) dX3_paintStroke_89 h (fun L6 H locs h hW hS _ => ?_)
          refine lv_aload_n hx hb dX3_paintStroke_92 rfl (lv_at hl 3 rfl) ?_
          refine mr_getJ C hW 23 rfl rfl q1826 dX3_paintStroke_93 ?_
          refine call_X3_cellOf (ct_X3_cellOf l) C.1 hS hA q2129 (le_lit hRf rfl) (le_lit hRl rfl) hcs hl.1 (Nat.le_of_ble_eq_true rfl) dX3_paintStroke_96 h (fun r7 H locs h hk hS => ?_)
          have hW := hW.kept hk
          refine lv_istore (lv' := [(12, .int r7), (11, .int r4), (10, .int r3), (9, .int r2), (0, .ref (mh E)), (1, .int x1), (2, .int x2), (3, .int x3), (4, .int x4), (5, .int x5), (6, .int x6), (7, .int x7), (8, .int x8)]) hx hb dX3_paintStroke_99 hl (by decide) rfl (fun ls hl => ?_)
          refine lv_aload_n hx hb dX3_paintStroke_101 rfl (lv_at hl 4 rfl) ?_
          refine mr_getJ C hW 24 rfl rfl q1827 dX3_paintStroke_102 ?_
          refine call_X3_cellOf (ct_X3_cellOf l) C.1 hS hA q2129 (le_lit hRf rfl) (le_lit hRl rfl) hcs hl.1 (Nat.le_of_ble_eq_true rfl) dX3_paintStroke_105 h (fun r8 H locs h hk hS => ?_)
          have hW := hW.kept hk
          refine lv_istore (lv' := [(13, .int r8), (12, .int r7), (11, .int r4), (10, .int r3), (9, .int r2), (0, .ref (mh E)), (1, .int x1), (2, .int x2), (3, .int x3), (4, .int x4), (5, .int x5), (6, .int x6), (7, .int x7), (8, .int x8)]) hx hb dX3_paintStroke_108 hl (by decide) rfl (fun ls hl => ?_)
          refine lv_aload_n hx hb dX3_paintStroke_110 rfl (lv_at hl 5 rfl) ?_
          refine lv_iload_n hx hb dX3_paintStroke_111 rfl (lv_at hl 6 rfl) ?_
          refine lv_iload hx hb dX3_paintStroke_112 (lv_at hl 13 rfl) ?_
          refine lv_iload hx hb dX3_paintStroke_114 (lv_at hl 2 rfl) ?_
          refine call_X3_beginAlong (ct_X3_beginAlong l) C.1 C.2 hW hS hA hAw q2124 (le_lit hRf rfl) (le_lit hRl rfl) hcs hl.1 (Nat.le_of_ble_eq_true rfl) dX3_paintStroke_116 h (fun L9 H locs h hW hS _ => ?_)
          refine lv_aload_n hx hb dX3_paintStroke_119 rfl (lv_at hl 5 rfl) ?_
          refine lv_iload_n hx hb dX3_paintStroke_120 rfl (lv_at hl 6 rfl) ?_
          refine lv_iload_n hx hb dX3_paintStroke_121 rfl (lv_at hl 7 rfl) ?_
          refine lv_iload_n hx hb dX3_paintStroke_122 rfl (lv_at hl 8 rfl) ?_
          refine call_X3_mapOut (ct_X3_mapOut l) C.1 C.2 hW hS hA hAw q2110 (le_lit hRf rfl) (le_lit hRl rfl) hcs hl.1 (Nat.le_of_ble_eq_true rfl) dX3_paintStroke_123 h (fun L10 H locs h hW hS _ => ?_)
          refine lv_aload_n hx hb dX3_paintStroke_126 rfl (lv_at hl 5 rfl) ?_
          refine lv_iload hx hb dX3_paintStroke_127 (lv_at hl 9 rfl) ?_
          refine lv_iload hx hb dX3_paintStroke_129 (lv_at hl 1 rfl) ?_
          refine lv_iload hx hb dX3_paintStroke_131 (lv_at hl 0 rfl) ?_
          refine lv_aload_n hx hb dX3_paintStroke_133 rfl (lv_at hl 5 rfl) ?_
          refine mr_getA C hW 8 rfl rfl q1811 dX3_paintStroke_134 ?_
          refine lv_iload_n hx hb dX3_paintStroke_137 rfl (lv_at hl 6 rfl) ?_
          refine mr_iald C hW 8 rfl rfl rfl h dX3_paintStroke_138 (fun v11 h => ?_)
          refine call_X3_paintBox (ct_X3_paintBox l) C.1 C.2 hW hS hA hAw q2134 (le_lit hRf rfl) (le_lit hRl rfl) hcs hl.1 (Nat.le_of_ble_eq_true rfl) dX3_paintStroke_139 h (fun M12 H locs h hW hS _ => ?_)
          exact hb142 _ _ _ _ _ h ls H locs (lv_sub hl [5, 6, 7, 8, 9, 10, 11, 12, 13, 4] rfl) hW hS
    intro x7 x8 M L h
    exact (hG24 x7 x8 M L).mp (loop_walk (fun s => G24 s.1 s.2.1 s.2.2.1 s.2.2.2) (fun rec hrec s h => hB24 (fun x7 x8 M L => rec (x7, x8, M, L)) (fun x7 x8 M L h => hrec (x7, x8, M, L) h) s.1 s.2.1 s.2.2.1 s.2.2.2 h) (x7, x8, M, L) h)
  intro h
  intro ls H locs hl hW hS
  refine lv_aload_n hx hb dX3_paintStroke_0 rfl (lv_at hl 0 rfl) ?_
  refine lv_iload_n hx hb dX3_paintStroke_1 rfl (lv_at hl 1 rfl) ?_
  refine lv_iconst (v := 4) hx hb dX3_paintStroke_2 (by decide) ?_
  refine lv_iload_n hx hb dX3_paintStroke_3 rfl (lv_at hl 2 rfl) ?_
  refine call_X3_trimmed (ct_X3_trimmed l) C.1 C.2 hW hS hA q2062 (le_lit hRf rfl) (le_lit hRl rfl) hcs hl.1 (Nat.le_of_ble_eq_true rfl) dX3_paintStroke_4 h (fun r15 H locs h hk hS => ?_)
  have hW := hW.kept hk
  refine lv_istore (lv' := [(5, .int r15), (0, .ref (mh E)), (1, .int x1), (2, .int x2), (3, .int x3), (4, .int x4)]) hx hb dX3_paintStroke_7 hl (by decide) rfl (fun ls hl => ?_)
  refine lv_aload_n hx hb dX3_paintStroke_9 rfl (lv_at hl 1 rfl) ?_
  refine lv_iload_n hx hb dX3_paintStroke_10 rfl (lv_at hl 2 rfl) ?_
  refine lv_iconst (v := 5) hx hb dX3_paintStroke_11 (by decide) ?_
  refine lv_iload_n hx hb dX3_paintStroke_12 rfl (lv_at hl 3 rfl) ?_
  refine call_X3_trimmed (ct_X3_trimmed l) C.1 C.2 hW hS hA q2062 (le_lit hRf rfl) (le_lit hRl rfl) hcs hl.1 (Nat.le_of_ble_eq_true rfl) dX3_paintStroke_13 h (fun r16 H locs h hk hS => ?_)
  have hW := hW.kept hk
  refine lv_istore (lv' := [(6, .int r16), (5, .int r15), (0, .ref (mh E)), (1, .int x1), (2, .int x2), (3, .int x3), (4, .int x4)]) hx hb dX3_paintStroke_16 hl (by decide) rfl (fun ls hl => ?_)
  refine lv_iconst (v := 0) hx hb dX3_paintStroke_18 (by decide) ?_
  refine lv_istore (lv' := [(7, .int (0 : Int32)), (6, .int r16), (5, .int r15), (0, .ref (mh E)), (1, .int x1), (2, .int x2), (3, .int x3), (4, .int x4)]) hx hb dX3_paintStroke_19 hl (by decide) rfl (fun ls hl => ?_)
  refine lv_iconst (v := 0) hx hb dX3_paintStroke_21 (by decide) ?_
  refine lv_istore (lv' := [(8, .int (0 : Int32)), (7, .int (0 : Int32)), (6, .int r16), (5, .int r15), (0, .ref (mh E)), (1, .int x1), (2, .int x2), (3, .int x3), (4, .int x4)]) hx hb dX3_paintStroke_22 hl (by decide) rfl (fun ls hl => ?_)
  exact hL24 _ _ _ _ _ _ h ls H locs (lv_sub hl [4, 5, 6, 7, 8, 3, 2, 1, 0] rfl) hW hS
theorem ct_X3_paintStroke (l : Launch) : CT_X3_paintStroke l 6 149 w_X3_paintStroke := by
  intro E M L sz Q x1 x2 x3 x4
  refine Met.ofW (cc := cX3_paintStroke) (maxL := 14) (ret := none) (by decide) rfl ?_
  intro p e s m args below meth c s₁ B hml hv
  obtain ⟨rfl, hsz, hW, hK, h⟩ := hv
  subst hsz
  have hts := atoms_spec (ws := ws_ yX3_paintStroke cX3_paintStroke 14 none) B.pre
  have hts : ∀ w ∈ lw_all, w.before _ s = true := fun w h => hts w (List.mem_cons_of_mem _ h)
  have hl := lv_entry ([.ref (mh E), .int x1, .int x2, .int x3, .int x4]) (n := 14) (Nat.le_of_ble_eq_true rfl)
  rw [lg_entry_eq]
  generalize (lg_sl ([.ref (mh E), .int x1, .int x2, .int x3, .int x4]) ++ List.replicate (14 - (lg_sl ([.ref (mh E), .int x1, .int x2, .int x3, .int x4])).length) Slot.unset).toArray = ls at hl ⊢
  exact wk_X3_paintStroke Q ⟨⟨B.exec, B.bytes, hml, findClass_of_methodNamed B.named, hts⟩, hK⟩ (fun q h => Or.inr h) (fun q h => Or.inl h) (Nat.le_refl _) (Nat.le_refl _) ⟨Nat.le_refl _, Nat.le_refl _⟩ M L (fun M L pc ls H locs hd hS hW1 hQ => W.vret B.exec B.bytes B.returns (fun t ht _ => ⟨⟨(M, L), rfl, hQ, by rw [← ht] at hW1; exact hW1⟩, hS.F ht⟩) hS.2.2 hd) x1 x2 x3 x4 h ls _ [] hl hW va_S.rf
def CT_X3_draw (l : Launch) (fr lo : Nat) (w : (MM → ML → Prop) → Int32 → Int32 → Int32 → Int32 → MM → ML → Prop) : Prop := ∀ (E : mE) (M : MM) (L : ML) (sz : Nat) (Q : MM → ML → Prop) (x1 : Int32) (x2 : Int32) (x3 : Int32) (x4 : Int32), Met l yX3_draw (ws_ yX3_draw cX3_draw 7 none) { frames := fr, cells := 0, slots := 0, locals := lo } (va_Pc [.ref (mh E), .int x1, .int x2, .int x3, .int x4] (fun U => U.heap.size = sz ∧ mW E M L U.heap ∧ mK E U ∧ w Q x1 x2 x3 x4 M L)) (va_Qv (fun (u : MM × ML) => Q u.1 u.2) (fun u t => mW E u.1 u.2 t.heap) (mA E sz)) 0 0 (mA E sz)
theorem call_X3_draw {p : Program} {l : Launch} {e : Env} {R : Room} {s : State} {m : MethodId} {args : Array Value} {below : List Frame} {meth : Method} {c : Code} {H : Heap} {locs : List Loc} {cells slots : Nat} {Z : State → Prop} {A : Nat → Prop} {cc : ByteArray} {nL pc : Nat} {ls : Array Slot} {rest : List Value} {own : String} {index fr lo : Nat} {w : (MM → ML → Prop) → Int32 → Int32 → Int32 → Int32 → MM → ML → Prop} {E : mE} {M : MM} {L : ML} {x1 : Int32} {x2 : Int32} {x3 : Int32} {x4 : Int32} (hM : CT_X3_draw l fr lo w) (S : CallFix p m c cc nL s args lw_all own) (hK : mK E s) (hW : mW E M L H) (hS : va_S A s.heap H locs) (hA : ∀ q, s.heap.size ≤ q → A q) (hAw : ∀ q, mAd E q → A q) (hlink : Cond.methodLink own index yX3_draw ∈ lw_all) (hRf : fr + 1 ≤ R.frames) (hRl : 8 + (7 + 11) + lo ≤ R.locals) (hcs : cells ≤ R.cells ∧ slots ≤ R.slots) (hz : ls.size = nL) (hr8 : (rest.map fun v => v.category).sum ≤ 8) (hdg : decode cc pc = .ok (.invokevirtual index, 3)) {Q1 : MM → ML → Prop} (h : w Q1 x1 x2 x3 x4 M L) (kk : ∀ (M1 : MM) (L1 : ML) (H1 : Heap) (locs1 : List Loc), Q1 M1 L1 → mW E M1 L1 H1 → va_S A s.heap H1 locs1 → (∀ q : Nat, q < H.size → ¬ mAd E q → H1[q]? = H[q]?) → W p l e R s m args below meth c H1 locs1 cells slots Z (F0 m (pc + 3) ls (rest))) : W p l e R s m args below meth c H locs cells slots Z (F0 m pc ls (.int x4 :: .int x3 :: .int x2 :: .int x1 :: .ref (mh E) :: rest)) := by
  refine mw_v (sz := 0) (P := fun M1 L1 => Q1 M1 L1) (va_runV (As := [.int x1, .int x2, .int x3, .int x4]) (rest := rest) S (hM E M L H.size Q1 x1 x2 x3 x4) (cwV 4 S.2.2.2.2 (lw_V hlink q2084 qs39 q68 q2085) rfl rfl rfl (by decide +kernel) ⟨hRf, hRl⟩) ⟨fun a U g mk q => by obtain ⟨q0, q1, qW, qK, qw⟩ := q; exact ⟨q0, q1, qW, qK.moved (u := U) (U := U.calling g mk a) (Vm.Alike.refl U.vm), qw⟩, hW.recv (hK := hK), fun U hU hWm => ⟨rfl, by rw [hU], by rw [hU]; exact hW, hK.moved hWm.alike, h⟩⟩ rfl rfl hz rfl (lv_room hr8) hdg hcs) hS hA hAw (fun M1 L1 H1 locs1 hp hW1 hz hk hS1 => ?_)
  exact kk M1 L1 H1 locs1 hp hW1 hS1 hk
def CT_X3_paintNested (l : Launch) (fr lo : Nat) (w : (MM → ML → Prop) → Int32 → Int32 → Int32 → Int32 → MM → ML → Prop) : Prop := ∀ (E : mE) (M : MM) (L : ML) (sz : Nat) (Q : MM → ML → Prop) (x1 : Int32) (x2 : Int32) (x3 : Int32) (x4 : Int32), Met l yX3_paintNested (ws_ yX3_paintNested cX3_paintNested 7 none) { frames := fr, cells := 0, slots := 0, locals := lo } (va_Pc [.ref (mh E), .int x1, .int x2, .int x3, .int x4] (fun U => U.heap.size = sz ∧ mW E M L U.heap ∧ mK E U ∧ w Q x1 x2 x3 x4 M L)) (va_Qv (fun (u : MM × ML) => Q u.1 u.2) (fun u t => mW E u.1 u.2 t.heap) (mA E sz)) 0 0 (mA E sz)
theorem call_X3_paintNested {p : Program} {l : Launch} {e : Env} {R : Room} {s : State} {m : MethodId} {args : Array Value} {below : List Frame} {meth : Method} {c : Code} {H : Heap} {locs : List Loc} {cells slots : Nat} {Z : State → Prop} {A : Nat → Prop} {cc : ByteArray} {nL pc : Nat} {ls : Array Slot} {rest : List Value} {own : String} {index fr lo : Nat} {w : (MM → ML → Prop) → Int32 → Int32 → Int32 → Int32 → MM → ML → Prop} {E : mE} {M : MM} {L : ML} {x1 : Int32} {x2 : Int32} {x3 : Int32} {x4 : Int32} (hM : CT_X3_paintNested l fr lo w) (S : CallFix p m c cc nL s args lw_all own) (hK : mK E s) (hW : mW E M L H) (hS : va_S A s.heap H locs) (hA : ∀ q, s.heap.size ≤ q → A q) (hAw : ∀ q, mAd E q → A q) (hlink : Cond.methodLink own index yX3_paintNested ∈ lw_all) (hRf : fr + 1 ≤ R.frames) (hRl : 8 + (7 + 11) + lo ≤ R.locals) (hcs : cells ≤ R.cells ∧ slots ≤ R.slots) (hz : ls.size = nL) (hr8 : (rest.map fun v => v.category).sum ≤ 8) (hdg : decode cc pc = .ok (.invokevirtual index, 3)) {Q1 : MM → ML → Prop} (h : w Q1 x1 x2 x3 x4 M L) (kk : ∀ (M1 : MM) (L1 : ML) (H1 : Heap) (locs1 : List Loc), Q1 M1 L1 → mW E M1 L1 H1 → va_S A s.heap H1 locs1 → (∀ q : Nat, q < H.size → ¬ mAd E q → H1[q]? = H[q]?) → W p l e R s m args below meth c H1 locs1 cells slots Z (F0 m (pc + 3) ls (rest))) : W p l e R s m args below meth c H locs cells slots Z (F0 m pc ls (.int x4 :: .int x3 :: .int x2 :: .int x1 :: .ref (mh E) :: rest)) := by
  refine mw_v (sz := 0) (P := fun M1 L1 => Q1 M1 L1) (va_runV (As := [.int x1, .int x2, .int x3, .int x4]) (rest := rest) S (hM E M L H.size Q1 x1 x2 x3 x4) (cwV 4 S.2.2.2.2 (lw_V hlink q2140 qs51 q68 q2141) rfl rfl rfl (by decide +kernel) ⟨hRf, hRl⟩) ⟨fun a U g mk q => by obtain ⟨q0, q1, qW, qK, qw⟩ := q; exact ⟨q0, q1, qW, qK.moved (u := U) (U := U.calling g mk a) (Vm.Alike.refl U.vm), qw⟩, hW.recv (hK := hK), fun U hU hWm => ⟨rfl, by rw [hU], by rw [hU]; exact hW, hK.moved hWm.alike, h⟩⟩ rfl rfl hz rfl (lv_room hr8) hdg hcs) hS hA hAw (fun M1 L1 H1 locs1 hp hW1 hz hk hS1 => ?_)
  exact kk M1 L1 H1 locs1 hp hW1 hS1 hk
def w_X3_paintNested_56 (rc : (MM → ML → Prop) → Int32 → Int32 → Int32 → Int32 → MM → ML → Prop) (Q : MM → ML → Prop) (x1 : Int32) (x2 : Int32) (x3 : Int32) (x4 : Int32) (y0 : Int32) (M : MM) (L : ML) : Prop := mWr M 25 4 x3 x1 (fun M1 => mWr M1 26 4 x3 x2 (fun M2 => mRd (M2 6) 12 x1 (fun v3 => rc (fun M4 L5 => Q M4 L5) v3 y0 (x3 + (1 : Int32)) x4 M2 L)))
def w_X3_paintNested_20 (rc : (MM → ML → Prop) → Int32 → Int32 → Int32 → Int32 → MM → ML → Prop) (Q : MM → ML → Prop) (x1 : Int32) (x2 : Int32) (x3 : Int32) (x4 : Int32) (y0 : Int32) (M : MM) (L : ML) : Prop := if y0 = 0 then (mRd (M 12) 12 x1 (fun v6 => w_X3_paintNested_56 rc Q x1 x2 x3 x4 (x2 - v6) M L)) else (w_X3_valueOf (fun r7 => w_J13_min (fun r8 => w_J13_max (fun r9 => w_X3_paintNested_56 rc Q x1 x2 x3 x4 r9 M L) (0 : Int32) r8) (999 : Int32) r7) x1 (6 : Int32) x2 M)
def w_X3_paintNested (rc : (MM → ML → Prop) → Int32 → Int32 → Int32 → Int32 → MM → ML → Prop) (Q : MM → ML → Prop) (x1 : Int32) (x2 : Int32) (x3 : Int32) (x4 : Int32) (M : MM) (L : ML) : Prop := mRd (M 19) 96 (((8 : Int32) * x1) + (6 : Int32)) (fun v11 => if v11 ≤ 0 then (w_X3_paintNested_20 rc Q x1 x2 x3 x4 (0 : Int32) M L) else (w_X3_paintNested_20 rc Q x1 x2 x3 x4 (1 : Int32) M L))
set_option maxRecDepth 100000 in
set_option maxHeartbeats 4000000 in
theorem wk_X3_paintNested {p : Program} {l : Launch} {e : Env} {R : Room} {s : State} {m : MethodId} {args : Array Value} {below : List Frame} {meth : Method} {c : Code} {cells slots : Nat} {Z : State → Prop} {A : Nat → Prop} {E : mE} {fr lo : Nat} (hB1 : 7 ≤ fr) (hB2 : 183 ≤ lo) {rc : (MM → ML → Prop) → Int32 → Int32 → Int32 → Int32 → MM → ML → Prop} (hrc : CT_X3_draw l fr lo rc) (Q : MM → ML → Prop) (C : mC p m c s args cX3_paintNested 7 E) (hA : ∀ q, s.heap.size ≤ q → A q) (hAw : ∀ q, mAd E q → A q) (hRf : fr + 1 ≤ R.frames) (hRl : lo + 26 ≤ R.locals) (hcs : cells ≤ R.cells ∧ slots ≤ R.slots) (M : MM) (L : ML) (hret : ∀ (M : MM) (L : ML) (pc : Nat) (ls : Array Slot) (H : Heap) (locs : List Loc), decode cX3_paintNested pc = .ok (.return_, 1) → va_S A s.heap H locs → mW E M L H → Q M L → W p l e R s m args below meth c H locs cells slots Z (F0 m pc ls [])) (x1 : Int32) (x2 : Int32) (x3 : Int32) (x4 : Int32) : w_X3_paintNested rc Q x1 x2 x3 x4 M L → ∀ (ls : Array Slot) (H : Heap) (locs : List Loc), lv_has ls 7 [(0, .ref (mh E)), (1, .int x1), (2, .int x2), (3, .int x3), (4, .int x4)] → mW E M L H → va_S A s.heap H locs → W p l e R s m args below meth c H locs cells slots Z (F0 m 0 ls []) := by
  obtain ⟨⟨hx, hb, hml, hown, hts⟩, hK⟩ := C; have C : mC p m c s args cX3_paintNested 7 E := ⟨⟨hx, hb, hml, hown, hts⟩, hK⟩
  have hb56 : ∀ (y0 : Int32) (M : MM) (L : ML), w_X3_paintNested_56 rc Q x1 x2 x3 x4 y0 M L → ∀ (ls : Array Slot) (H : Heap) (locs : List Loc), lv_has ls 7 [(0, .ref (mh E)), (1, .int x1), (2, .int x2), (3, .int x3), (4, .int x4)] → mW E M L H → va_S A s.heap H locs → W p l e R s m args below meth c H locs cells slots Z (F0 m 56 ls [.int y0]) := by
    intro y0 M L h
    intro ls H locs hl hW hS
    refine lv_istore (lv' := [(6, .int y0), (0, .ref (mh E)), (1, .int x1), (2, .int x2), (3, .int x3), (4, .int x4)]) hx hb dX3_paintNested_56 hl (by decide) rfl (fun ls hl => ?_)
    refine lv_aload_n hx hb dX3_paintNested_58 rfl (lv_at hl 1 rfl) ?_
    refine mr_getA C hW 25 rfl rfl q1828 dX3_paintNested_59 ?_
    refine lv_iload_n hx hb dX3_paintNested_62 rfl (lv_at hl 4 rfl) ?_
    refine lv_iload_n hx hb dX3_paintNested_63 rfl (lv_at hl 2 rfl) ?_
    refine mr_iast C hW hS hAw 25 rfl rfl rfl h dX3_paintNested_64 (fun M1 H locs hW hS h => ?_)
    refine lv_aload_n hx hb dX3_paintNested_65 rfl (lv_at hl 1 rfl) ?_
    refine mr_getA C hW 26 rfl rfl q1829 dX3_paintNested_66 ?_
    refine lv_iload_n hx hb dX3_paintNested_69 rfl (lv_at hl 4 rfl) ?_
    refine lv_iload_n hx hb dX3_paintNested_70 rfl (lv_at hl 3 rfl) ?_
    refine mr_iast C hW hS hAw 26 rfl rfl rfl h dX3_paintNested_71 (fun M2 H locs hW hS h => ?_)
    refine lv_aload_n hx hb dX3_paintNested_72 rfl (lv_at hl 1 rfl) ?_
    refine lv_aload_n hx hb dX3_paintNested_73 rfl (lv_at hl 1 rfl) ?_
    refine mr_getA C hW 6 rfl rfl q1809 dX3_paintNested_74 ?_
    refine lv_iload_n hx hb dX3_paintNested_77 rfl (lv_at hl 2 rfl) ?_
    refine mr_iald C hW 6 rfl rfl rfl h dX3_paintNested_78 (fun v3 h => ?_)
    refine lv_iload hx hb dX3_paintNested_79 (lv_at hl 0 rfl) ?_
    refine lv_iload_n hx hb dX3_paintNested_81 rfl (lv_at hl 4 rfl) ?_
    refine lv_iconst (v := 1) hx hb dX3_paintNested_82 (by decide) ?_
    refine lv_iadd hx hb dX3_paintNested_83 ?_
    refine lv_iload hx hb dX3_paintNested_84 (lv_at hl 5 rfl) ?_
    refine call_X3_draw hrc C.1 C.2 hW hS hA hAw q2082 (by omega) (by omega) hcs hl.1 (Nat.le_of_ble_eq_true rfl) dX3_paintNested_86 h (fun M4 L5 H locs h hW hS _ => ?_)
    exact hret _ _ _ _ _ _ dX3_paintNested_89 hS hW h
  have hb20 : ∀ (y0 : Int32) (M : MM) (L : ML), w_X3_paintNested_20 rc Q x1 x2 x3 x4 y0 M L → ∀ (ls : Array Slot) (H : Heap) (locs : List Loc), lv_has ls 7 [(0, .ref (mh E)), (1, .int x1), (2, .int x2), (3, .int x3), (4, .int x4)] → mW E M L H → va_S A s.heap H locs → W p l e R s m args below meth c H locs cells slots Z (F0 m 20 ls [.int y0]) := by
    intro y0 M L h
    intro ls H locs hl hW hS
    refine lv_istore (lv' := [(5, .int y0), (0, .ref (mh E)), (1, .int x1), (2, .int x2), (3, .int x3), (4, .int x4)]) hx hb dX3_paintNested_20 hl (by decide) rfl (fun ls hl => ?_)
    refine lv_iload hx hb dX3_paintNested_22 (lv_at hl 0 rfl) ?_
    refine lv_if_eq (tgt := 48) hx hb dX3_paintNested_24 (by decide) (fun c10 => ?_) (fun c10 => ?_)
    · have h := wif_t h c10
      refine lv_iload_n hx hb dX3_paintNested_48 rfl (lv_at hl 3 rfl) ?_
      refine lv_aload_n hx hb dX3_paintNested_49 rfl (lv_at hl 1 rfl) ?_
      refine mr_getA C hW 12 rfl rfl q1815 dX3_paintNested_50 ?_
      refine lv_iload_n hx hb dX3_paintNested_53 rfl (lv_at hl 2 rfl) ?_
      refine mr_iald C hW 12 rfl rfl rfl h dX3_paintNested_54 (fun v6 h => ?_)
      refine lv_isub hx hb dX3_paintNested_55 ?_
      exact hb56 _ _ _ h ls H locs (lv_sub hl [1, 2, 3, 4, 5] rfl) hW hS
    · have h := wif_f h c10
      refine lv_iconst (v := 0) hx hb dX3_paintNested_27 (by decide) ?_
      refine lv_sipush (v := 999) hx hb dX3_paintNested_28 (by decide) ?_
      refine lv_aload_n hx hb dX3_paintNested_31 rfl (lv_at hl 1 rfl) ?_
      refine lv_iload_n hx hb dX3_paintNested_32 rfl (lv_at hl 2 rfl) ?_
      refine lv_bipush (v := 6) hx hb dX3_paintNested_33 (by decide) ?_
      refine lv_iload_n hx hb dX3_paintNested_35 rfl (lv_at hl 3 rfl) ?_
      refine call_X3_valueOf (ct_X3_valueOf l) C.1 C.2 hW hS hA q2022 (by omega) (by omega) hcs hl.1 (Nat.le_of_ble_eq_true rfl) dX3_paintNested_36 h (fun r7 H locs h hk hS => ?_)
      have hW := hW.kept hk
      refine call_J13_min (ct_J13_min l) C.1 hS hA q2123 (by omega) (by omega) hcs hl.1 (Nat.le_of_ble_eq_true rfl) dX3_paintNested_39 h (fun r8 H locs h hk hS => ?_)
      have hW := hW.kept hk
      refine call_J13_max (ct_J13_max l) C.1 hS hA q2077 (by omega) (by omega) hcs hl.1 (Nat.le_of_ble_eq_true rfl) dX3_paintNested_42 h (fun r9 H locs h hk hS => ?_)
      have hW := hW.kept hk
      refine lv_goto (tgt := 56) hx hb dX3_paintNested_45 (by decide) ?_
      exact hb56 _ _ _ h ls H locs (lv_sub hl [1, 2, 3, 4, 5] rfl) hW hS
  intro h
  intro ls H locs hl hW hS
  refine lv_aload_n hx hb dX3_paintNested_0 rfl (lv_at hl 0 rfl) ?_
  refine mr_getA C hW 19 rfl rfl q1822 dX3_paintNested_1 ?_
  refine lv_bipush (v := 8) hx hb dX3_paintNested_4 (by decide) ?_
  refine lv_iload_n hx hb dX3_paintNested_6 rfl (lv_at hl 1 rfl) ?_
  refine lv_imul hx hb dX3_paintNested_7 ?_
  refine lv_bipush (v := 6) hx hb dX3_paintNested_8 (by decide) ?_
  refine lv_iadd hx hb dX3_paintNested_10 ?_
  refine mr_iald C hW 19 rfl rfl rfl h dX3_paintNested_11 (fun v11 h => ?_)
  refine lv_if_le (tgt := 19) hx hb dX3_paintNested_12 (by decide) (fun c12 => ?_) (fun c12 => ?_)
  · have h := wif_t h c12
    refine lv_iconst (v := 0) hx hb dX3_paintNested_19 (by decide) ?_
    exact hb20 _ _ _ h ls H locs (lv_sub hl [0, 1, 2, 3, 4] rfl) hW hS
  · have h := wif_f h c12
    refine lv_iconst (v := 1) hx hb dX3_paintNested_15 (by decide) ?_
    refine lv_goto (tgt := 20) hx hb dX3_paintNested_16 (by decide) ?_
    exact hb20 _ _ _ h ls H locs (lv_sub hl [0, 1, 2, 3, 4] rfl) hW hS
theorem ct_X3_paintNested (l : Launch) {fr lo : Nat} (hB1 : 7 ≤ fr) (hB2 : 183 ≤ lo) {rc : (MM → ML → Prop) → Int32 → Int32 → Int32 → Int32 → MM → ML → Prop} (hrc : CT_X3_draw l fr lo rc) : CT_X3_paintNested l (fr + 1) (lo + 26) (w_X3_paintNested rc) := by
  intro E M L sz Q x1 x2 x3 x4
  refine Met.ofW (cc := cX3_paintNested) (maxL := 7) (ret := none) (by decide) rfl ?_
  intro p e s m args below meth c s₁ B hml hv
  obtain ⟨rfl, hsz, hW, hK, h⟩ := hv
  subst hsz
  have hts := atoms_spec (ws := ws_ yX3_paintNested cX3_paintNested 7 none) B.pre
  have hts : ∀ w ∈ lw_all, w.before _ s = true := fun w h => hts w (List.mem_cons_of_mem _ h)
  have hl := lv_entry ([.ref (mh E), .int x1, .int x2, .int x3, .int x4]) (n := 7) (Nat.le_of_ble_eq_true rfl)
  rw [lg_entry_eq]
  generalize (lg_sl ([.ref (mh E), .int x1, .int x2, .int x3, .int x4]) ++ List.replicate (7 - (lg_sl ([.ref (mh E), .int x1, .int x2, .int x3, .int x4])).length) Slot.unset).toArray = ls at hl ⊢
  exact wk_X3_paintNested (hB1 := hB1) (hB2 := hB2) (hrc := hrc) Q ⟨⟨B.exec, B.bytes, hml, findClass_of_methodNamed B.named, hts⟩, hK⟩ (fun q h => Or.inr h) (fun q h => Or.inl h) (Nat.le_refl _) (Nat.le_refl _) ⟨Nat.le_refl _, Nat.le_refl _⟩ M L (fun M L pc ls H locs hd hS hW1 hQ => W.vret B.exec B.bytes B.returns (fun t ht _ => ⟨⟨(M, L), rfl, hQ, by rw [← ht] at hW1; exact hW1⟩, hS.F ht⟩) hS.2.2 hd) x1 x2 x3 x4 h ls _ [] hl hW va_S.rf
def CT_X3_paintLayer (l : Launch) (fr lo : Nat) (w : (MM → ML → Prop) → Int32 → Int32 → Int32 → Int32 → MM → ML → Prop) : Prop := ∀ (E : mE) (M : MM) (L : ML) (sz : Nat) (Q : MM → ML → Prop) (x1 : Int32) (x2 : Int32) (x3 : Int32) (x4 : Int32), Met l yX3_paintLayer (ws_ yX3_paintLayer cX3_paintLayer 5 none) { frames := fr, cells := 0, slots := 0, locals := lo } (va_Pc [.ref (mh E), .int x1, .int x2, .int x3, .int x4] (fun U => U.heap.size = sz ∧ mW E M L U.heap ∧ mK E U ∧ w Q x1 x2 x3 x4 M L)) (va_Qv (fun (u : MM × ML) => Q u.1 u.2) (fun u t => mW E u.1 u.2 t.heap) (mA E sz)) 0 0 (mA E sz)
theorem call_X3_paintLayer {p : Program} {l : Launch} {e : Env} {R : Room} {s : State} {m : MethodId} {args : Array Value} {below : List Frame} {meth : Method} {c : Code} {H : Heap} {locs : List Loc} {cells slots : Nat} {Z : State → Prop} {A : Nat → Prop} {cc : ByteArray} {nL pc : Nat} {ls : Array Slot} {rest : List Value} {own : String} {index fr lo : Nat} {w : (MM → ML → Prop) → Int32 → Int32 → Int32 → Int32 → MM → ML → Prop} {E : mE} {M : MM} {L : ML} {x1 : Int32} {x2 : Int32} {x3 : Int32} {x4 : Int32} (hM : CT_X3_paintLayer l fr lo w) (S : CallFix p m c cc nL s args lw_all own) (hK : mK E s) (hW : mW E M L H) (hS : va_S A s.heap H locs) (hA : ∀ q, s.heap.size ≤ q → A q) (hAw : ∀ q, mAd E q → A q) (hlink : Cond.methodLink own index yX3_paintLayer ∈ lw_all) (hRf : fr + 1 ≤ R.frames) (hRl : 8 + (5 + 11) + lo ≤ R.locals) (hcs : cells ≤ R.cells ∧ slots ≤ R.slots) (hz : ls.size = nL) (hr8 : (rest.map fun v => v.category).sum ≤ 8) (hdg : decode cc pc = .ok (.invokevirtual index, 3)) {Q1 : MM → ML → Prop} (h : w Q1 x1 x2 x3 x4 M L) (kk : ∀ (M1 : MM) (L1 : ML) (H1 : Heap) (locs1 : List Loc), Q1 M1 L1 → mW E M1 L1 H1 → va_S A s.heap H1 locs1 → (∀ q : Nat, q < H.size → ¬ mAd E q → H1[q]? = H[q]?) → W p l e R s m args below meth c H1 locs1 cells slots Z (F0 m (pc + 3) ls (rest))) : W p l e R s m args below meth c H locs cells slots Z (F0 m pc ls (.int x4 :: .int x3 :: .int x2 :: .int x1 :: .ref (mh E) :: rest)) := by
  refine mw_v (sz := 0) (P := fun M1 L1 => Q1 M1 L1) (va_runV (As := [.int x1, .int x2, .int x3, .int x4]) (rest := rest) S (hM E M L H.size Q1 x1 x2 x3 x4) (cwV 4 S.2.2.2.2 (lw_V hlink q2104 qs44 q68 q2105) rfl rfl rfl (by decide +kernel) ⟨hRf, hRl⟩) ⟨fun a U g mk q => by obtain ⟨q0, q1, qW, qK, qw⟩ := q; exact ⟨q0, q1, qW, qK.moved (u := U) (U := U.calling g mk a) (Vm.Alike.refl U.vm), qw⟩, hW.recv (hK := hK), fun U hU hWm => ⟨rfl, by rw [hU], by rw [hU]; exact hW, hK.moved hWm.alike, h⟩⟩ rfl rfl hz rfl (lv_room hr8) hdg hcs) hS hA hAw (fun M1 L1 H1 locs1 hp hW1 hz hk hS1 => ?_)
  exact kk M1 L1 H1 locs1 hp hW1 hS1 hk
def w_X3_paintLayer (rc : (MM → ML → Prop) → Int32 → Int32 → Int32 → Int32 → MM → ML → Prop) (Q : MM → ML → Prop) (x1 : Int32) (x2 : Int32) (x3 : Int32) (x4 : Int32) (M : MM) (L : ML) : Prop := w_X3_wipe (fun M1 => w_X3_isShowing (fun r2 => if r2 = 0 then (Q M1 L) else (mRd (M1 4) 12 x1 (fun v3 => if v3 = (0 : Int32) then (w_X3_paintRect (fun M4 L5 => Q M4 L5) x1 x2 x3 x4 M1 L) else (if v3 = (1 : Int32) then (w_X3_paintStroke (fun M7 L8 => Q M7 L8) x1 x2 x3 x4 M1 L) else (if v3 = (2 : Int32) then (w_X3_paintNested rc (fun M10 L11 => Q M10 L11) x1 x2 x3 x4 M1 L) else (Q M1 L)))))) x1 x2 M1) x4 M
set_option maxRecDepth 100000 in
set_option maxHeartbeats 4000000 in
theorem wk_X3_paintLayer {p : Program} {l : Launch} {e : Env} {R : Room} {s : State} {m : MethodId} {args : Array Value} {below : List Frame} {meth : Method} {c : Code} {cells slots : Nat} {Z : State → Prop} {A : Nat → Prop} {E : mE} {fr lo : Nat} (hB1 : 7 ≤ fr) (hB2 : 183 ≤ lo) {rc : (MM → ML → Prop) → Int32 → Int32 → Int32 → Int32 → MM → ML → Prop} (hrc : CT_X3_draw l fr lo rc) (Q : MM → ML → Prop) (C : mC p m c s args cX3_paintLayer 5 E) (hA : ∀ q, s.heap.size ≤ q → A q) (hAw : ∀ q, mAd E q → A q) (hRf : fr + 2 ≤ R.frames) (hRl : lo + 52 ≤ R.locals) (hcs : cells ≤ R.cells ∧ slots ≤ R.slots) (M : MM) (L : ML) (hret : ∀ (M : MM) (L : ML) (pc : Nat) (ls : Array Slot) (H : Heap) (locs : List Loc), decode cX3_paintLayer pc = .ok (.return_, 1) → va_S A s.heap H locs → mW E M L H → Q M L → W p l e R s m args below meth c H locs cells slots Z (F0 m pc ls [])) (x1 : Int32) (x2 : Int32) (x3 : Int32) (x4 : Int32) : w_X3_paintLayer rc Q x1 x2 x3 x4 M L → ∀ (ls : Array Slot) (H : Heap) (locs : List Loc), lv_has ls 5 [(0, .ref (mh E)), (1, .int x1), (2, .int x2), (3, .int x3), (4, .int x4)] → mW E M L H → va_S A s.heap H locs → W p l e R s m args below meth c H locs cells slots Z (F0 m 0 ls []) := by
  obtain ⟨⟨hx, hb, hml, hown, hts⟩, hK⟩ := C; have C : mC p m c s args cX3_paintLayer 5 E := ⟨⟨hx, hb, hml, hown, hts⟩, hK⟩
  intro h
  intro ls H locs hl hW hS
  refine lv_aload_n hx hb dX3_paintLayer_0 rfl (lv_at hl 0 rfl) ?_
  refine lv_iload hx hb dX3_paintLayer_1 (lv_at hl 4 rfl) ?_
  refine call_X3_wipe (ct_X3_wipe l) C.1 C.2 hW hS hA hAw q2086 (by omega) (by omega) hcs hl.1 (Nat.le_of_ble_eq_true rfl) dX3_paintLayer_3 h (fun M1 H locs h hW hS _ => ?_)
  refine lv_aload_n hx hb dX3_paintLayer_6 rfl (lv_at hl 0 rfl) ?_
  refine lv_iload_n hx hb dX3_paintLayer_7 rfl (lv_at hl 1 rfl) ?_
  refine lv_iload_n hx hb dX3_paintLayer_8 rfl (lv_at hl 2 rfl) ?_
  refine call_X3_isShowing (ct_X3_isShowing l) C.1 C.2 hW hS hA q2094 (by omega) (by omega) hcs hl.1 (Nat.le_of_ble_eq_true rfl) dX3_paintLayer_9 h (fun r2 H locs h hk hS => ?_)
  have hW := hW.kept hk
  refine lv_if_ne (tgt := 16) hx hb dX3_paintLayer_12 (by decide) (fun c13 => ?_) (fun c13 => ?_)
  · have h := wif_f h c13
    refine lv_aload_n hx hb dX3_paintLayer_16 rfl (lv_at hl 0 rfl) ?_
    refine mr_getA C hW 4 rfl rfl q1807 dX3_paintLayer_17 ?_
    refine lv_iload_n hx hb dX3_paintLayer_20 rfl (lv_at hl 1 rfl) ?_
    refine mr_iald C hW 4 rfl rfl rfl h dX3_paintLayer_21 (fun v3 h => ?_)
    by_cases c6 : v3 = (0 : Int32)
    · have h := wif_t h c6
      refine lv_tableIn (tgt := 48) (off := 26) hx hb dX3_paintLayer_22 (by rw [c6]; decide) (by rw [c6]; decide) (by rw [c6]; rfl) (by decide) ?_
      refine lv_aload_n hx hb dX3_paintLayer_48 rfl (lv_at hl 0 rfl) ?_
      refine lv_iload_n hx hb dX3_paintLayer_49 rfl (lv_at hl 1 rfl) ?_
      refine lv_iload_n hx hb dX3_paintLayer_50 rfl (lv_at hl 2 rfl) ?_
      refine lv_iload_n hx hb dX3_paintLayer_51 rfl (lv_at hl 3 rfl) ?_
      refine lv_iload hx hb dX3_paintLayer_52 (lv_at hl 4 rfl) ?_
      refine call_X3_paintRect (ct_X3_paintRect l) C.1 C.2 hW hS hA hAw q2106 (by omega) (by omega) hcs hl.1 (Nat.le_of_ble_eq_true rfl) dX3_paintLayer_54 h (fun M4 L5 H locs h hW hS _ => ?_)
      refine lv_goto (tgt := 84) hx hb dX3_paintLayer_57 (by decide) ?_
      exact hret _ _ _ _ _ _ dX3_paintLayer_84 hS hW h
    · have h := wif_f h c6
      by_cases c9 : v3 = (1 : Int32)
      · have h := wif_t h c9
        refine lv_tableIn (tgt := 60) (off := 38) hx hb dX3_paintLayer_22 (by rw [c9]; decide) (by rw [c9]; decide) (by rw [c9]; rfl) (by decide) ?_
        refine lv_aload_n hx hb dX3_paintLayer_60 rfl (lv_at hl 0 rfl) ?_
        refine lv_iload_n hx hb dX3_paintLayer_61 rfl (lv_at hl 1 rfl) ?_
        refine lv_iload_n hx hb dX3_paintLayer_62 rfl (lv_at hl 2 rfl) ?_
        refine lv_iload_n hx hb dX3_paintLayer_63 rfl (lv_at hl 3 rfl) ?_
        refine lv_iload hx hb dX3_paintLayer_64 (lv_at hl 4 rfl) ?_
        refine call_X3_paintStroke (ct_X3_paintStroke l) C.1 C.2 hW hS hA hAw q2119 (by omega) (by omega) hcs hl.1 (Nat.le_of_ble_eq_true rfl) dX3_paintLayer_66 h (fun M7 L8 H locs h hW hS _ => ?_)
        refine lv_goto (tgt := 84) hx hb dX3_paintLayer_69 (by decide) ?_
        exact hret _ _ _ _ _ _ dX3_paintLayer_84 hS hW h
      · have h := wif_f h c9
        by_cases c12 : v3 = (2 : Int32)
        · have h := wif_t h c12
          refine lv_tableIn (tgt := 72) (off := 50) hx hb dX3_paintLayer_22 (by rw [c12]; decide) (by rw [c12]; decide) (by rw [c12]; rfl) (by decide) ?_
          refine lv_aload_n hx hb dX3_paintLayer_72 rfl (lv_at hl 0 rfl) ?_
          refine lv_iload_n hx hb dX3_paintLayer_73 rfl (lv_at hl 1 rfl) ?_
          refine lv_iload_n hx hb dX3_paintLayer_74 rfl (lv_at hl 2 rfl) ?_
          refine lv_iload_n hx hb dX3_paintLayer_75 rfl (lv_at hl 3 rfl) ?_
          refine lv_iload hx hb dX3_paintLayer_76 (lv_at hl 4 rfl) ?_
          refine call_X3_paintNested (ct_X3_paintNested l hB1 hB2 hrc) C.1 C.2 hW hS hA hAw q2138 (by omega) (by omega) hcs hl.1 (Nat.le_of_ble_eq_true rfl) dX3_paintLayer_78 h (fun M10 L11 H locs h hW hS _ => ?_)
          refine lv_goto (tgt := 84) hx hb dX3_paintLayer_81 (by decide) ?_
          exact hret _ _ _ _ _ _ dX3_paintLayer_84 hS hW h
        · have h := wif_f h c12
          refine lv_tableOut (tgt := 84) hx hb dX3_paintLayer_22 (by have ec6 : v3.toInt ≠ 0 := fun q => c6 (Int32.toInt_inj.mp (q.trans (by decide))); have ec9 : v3.toInt ≠ 1 := fun q => c9 (Int32.toInt_inj.mp (q.trans (by decide))); have ec12 : v3.toInt ≠ 2 := fun q => c12 (Int32.toInt_inj.mp (q.trans (by decide))); omega) (by decide) ?_
          exact hret _ _ _ _ _ _ dX3_paintLayer_84 hS hW h
  · have h := wif_t h c13
    exact hret _ _ _ _ _ _ dX3_paintLayer_15 hS hW h
theorem ct_X3_paintLayer (l : Launch) {fr lo : Nat} (hB1 : 7 ≤ fr) (hB2 : 183 ≤ lo) {rc : (MM → ML → Prop) → Int32 → Int32 → Int32 → Int32 → MM → ML → Prop} (hrc : CT_X3_draw l fr lo rc) : CT_X3_paintLayer l (fr + 2) (lo + 52) (w_X3_paintLayer rc) := by
  intro E M L sz Q x1 x2 x3 x4
  refine Met.ofW (cc := cX3_paintLayer) (maxL := 5) (ret := none) (by decide) rfl ?_
  intro p e s m args below meth c s₁ B hml hv
  obtain ⟨rfl, hsz, hW, hK, h⟩ := hv
  subst hsz
  have hts := atoms_spec (ws := ws_ yX3_paintLayer cX3_paintLayer 5 none) B.pre
  have hts : ∀ w ∈ lw_all, w.before _ s = true := fun w h => hts w (List.mem_cons_of_mem _ h)
  have hl := lv_entry ([.ref (mh E), .int x1, .int x2, .int x3, .int x4]) (n := 5) (Nat.le_of_ble_eq_true rfl)
  rw [lg_entry_eq]
  generalize (lg_sl ([.ref (mh E), .int x1, .int x2, .int x3, .int x4]) ++ List.replicate (5 - (lg_sl ([.ref (mh E), .int x1, .int x2, .int x3, .int x4])).length) Slot.unset).toArray = ls at hl ⊢
  exact wk_X3_paintLayer (hB1 := hB1) (hB2 := hB2) (hrc := hrc) Q ⟨⟨B.exec, B.bytes, hml, findClass_of_methodNamed B.named, hts⟩, hK⟩ (fun q h => Or.inr h) (fun q h => Or.inl h) (Nat.le_refl _) (Nat.le_refl _) ⟨Nat.le_refl _, Nat.le_refl _⟩ M L (fun M L pc ls H locs hd hS hW1 hQ => W.vret B.exec B.bytes B.returns (fun t ht _ => ⟨⟨(M, L), rfl, hQ, by rw [← ht] at hW1; exact hW1⟩, hS.F ht⟩) hS.2.2 hd) x1 x2 x3 x4 h ls _ [] hl hW va_S.rf
def CT_X3_drawLayer (l : Launch) (fr lo : Nat) (w : (MM → ML → Prop) → Int32 → Int32 → Int32 → Int32 → MM → ML → Prop) : Prop := ∀ (E : mE) (M : MM) (L : ML) (sz : Nat) (Q : MM → ML → Prop) (x1 : Int32) (x2 : Int32) (x3 : Int32) (x4 : Int32), Met l yX3_drawLayer (ws_ yX3_drawLayer cX3_drawLayer 10 none) { frames := fr, cells := 0, slots := 0, locals := lo } (va_Pc [.ref (mh E), .int x1, .int x2, .int x3, .int x4] (fun U => U.heap.size = sz ∧ mW E M L U.heap ∧ mK E U ∧ w Q x1 x2 x3 x4 M L)) (va_Qv (fun (u : MM × ML) => Q u.1 u.2) (fun u t => mW E u.1 u.2 t.heap) (mA E sz)) 0 0 (mA E sz)
theorem call_X3_drawLayer {p : Program} {l : Launch} {e : Env} {R : Room} {s : State} {m : MethodId} {args : Array Value} {below : List Frame} {meth : Method} {c : Code} {H : Heap} {locs : List Loc} {cells slots : Nat} {Z : State → Prop} {A : Nat → Prop} {cc : ByteArray} {nL pc : Nat} {ls : Array Slot} {rest : List Value} {own : String} {index fr lo : Nat} {w : (MM → ML → Prop) → Int32 → Int32 → Int32 → Int32 → MM → ML → Prop} {E : mE} {M : MM} {L : ML} {x1 : Int32} {x2 : Int32} {x3 : Int32} {x4 : Int32} (hM : CT_X3_drawLayer l fr lo w) (S : CallFix p m c cc nL s args lw_all own) (hK : mK E s) (hW : mW E M L H) (hS : va_S A s.heap H locs) (hA : ∀ q, s.heap.size ≤ q → A q) (hAw : ∀ q, mAd E q → A q) (hlink : Cond.methodLink own index yX3_drawLayer ∈ lw_all) (hRf : fr + 1 ≤ R.frames) (hRl : 8 + (10 + 11) + lo ≤ R.locals) (hcs : cells ≤ R.cells ∧ slots ≤ R.slots) (hz : ls.size = nL) (hr8 : (rest.map fun v => v.category).sum ≤ 8) (hdg : decode cc pc = .ok (.invokevirtual index, 3)) {Q1 : MM → ML → Prop} (h : w Q1 x1 x2 x3 x4 M L) (kk : ∀ (M1 : MM) (L1 : ML) (H1 : Heap) (locs1 : List Loc), Q1 M1 L1 → mW E M1 L1 H1 → va_S A s.heap H1 locs1 → (∀ q : Nat, q < H.size → ¬ mAd E q → H1[q]? = H[q]?) → W p l e R s m args below meth c H1 locs1 cells slots Z (F0 m (pc + 3) ls (rest))) : W p l e R s m args below meth c H locs cells slots Z (F0 m pc ls (.int x4 :: .int x3 :: .int x2 :: .int x1 :: .ref (mh E) :: rest)) := by
  refine mw_v (sz := 0) (P := fun M1 L1 => Q1 M1 L1) (va_runV (As := [.int x1, .int x2, .int x3, .int x4]) (rest := rest) S (hM E M L H.size Q1 x1 x2 x3 x4) (cwV 4 S.2.2.2.2 (lw_V hlink q2100 qs43 q68 q2101) rfl rfl rfl (by decide +kernel) ⟨hRf, hRl⟩) ⟨fun a U g mk q => by obtain ⟨q0, q1, qW, qK, qw⟩ := q; exact ⟨q0, q1, qW, qK.moved (u := U) (U := U.calling g mk a) (Vm.Alike.refl U.vm), qw⟩, hW.recv (hK := hK), fun U hU hWm => ⟨rfl, by rw [hU], by rw [hU]; exact hW, hK.moved hWm.alike, h⟩⟩ rfl rfl hz rfl (lv_room hr8) hdg hcs) hS hA hAw (fun M1 L1 H1 locs1 hp hW1 hz hk hS1 => ?_)
  exact kk M1 L1 H1 locs1 hp hW1 hS1 hk
def w_X3_drawLayer_141 (rc : (MM → ML → Prop) → Int32 → Int32 → Int32 → Int32 → MM → ML → Prop) (Q : MM → ML → Prop) (rec45 : Int32 → MM → Prop) (x1 : Int32) (x4 : Int32) (x5 : Int32) (x6 : Int32) (x7 : Int32) (M : MM) (L : ML) : Prop := rec45 (x7 + (1 : Int32)) M
def w_X3_drawLayer_113 (rc : (MM → ML → Prop) → Int32 → Int32 → Int32 → Int32 → MM → ML → Prop) (Q : MM → ML → Prop) (rec45 : Int32 → MM → Prop) (x1 : Int32) (x4 : Int32) (x5 : Int32) (x6 : Int32) (x7 : Int32) (x8 : Int32) (y0 : Int32) (M : MM) (L : ML) : Prop := if x8 ≤ 0 then (w_X3_drawLayer_141 rc Q rec45 x1 x4 x5 x6 x7 M L) else (if y0 = 0 then (w_X3_drawLayer_141 rc Q rec45 x1 x4 x5 x6 x7 M L) else (mWr M 27 1728 (((192 : Int32) * x4) + x7) x8 (fun M1 => w_X3_drawLayer_141 rc Q rec45 x1 x4 x5 x6 x7 M1 L)))
def w_X3_drawLayer_108 (rc : (MM → ML → Prop) → Int32 → Int32 → Int32 → Int32 → MM → ML → Prop) (Q : MM → ML → Prop) (rec45 : Int32 → MM → Prop) (x1 : Int32) (x4 : Int32) (x5 : Int32) (x6 : Int32) (x7 : Int32) (x8 : Int32) (M : MM) (L : ML) : Prop := w_X3_drawLayer_113 rc Q rec45 x1 x4 x5 x6 x7 x8 (1 : Int32) M L
def w_X3_drawLayer_99 (rc : (MM → ML → Prop) → Int32 → Int32 → Int32 → Int32 → MM → ML → Prop) (Q : MM → ML → Prop) (rec45 : Int32 → MM → Prop) (x1 : Int32) (x4 : Int32) (x5 : Int32) (x6 : Int32) (x7 : Int32) (x8 : Int32) (y0 : Int32) (M : MM) (L : ML) : Prop := mRd (M 11) 12 x1 (fun v4 => if y0 = v4 then (w_X3_drawLayer_113 rc Q rec45 x1 x4 x5 x6 x7 x8 (0 : Int32) M L) else (w_X3_drawLayer_108 rc Q rec45 x1 x4 x5 x6 x7 x8 M L))
def w_X3_drawLayer_h45 (rc : (MM → ML → Prop) → Int32 → Int32 → Int32 → Int32 → MM → ML → Prop) (Q : MM → ML → Prop) (x1 : Int32) (x4 : Int32) (x5 : Int32) (x6 : Int32) (L : ML) (rec45 : Int32 → MM → Prop) (x7 : Int32) (M : MM) : Prop := if (192 : Int32) ≤ x7 then (Q M L) else (mRd (M 27) 1728 (((192 : Int32) * x5) + x7) (fun v6 => if x6 = (-1 : Int32) then (w_X3_drawLayer_108 rc Q rec45 x1 x4 x5 x6 x7 v6 M L) else (mRd (M 27) 1728 (((192 : Int32) * (x5 + (1 : Int32))) + x7) (fun v7 => if v7 ≤ 0 then (w_X3_drawLayer_99 rc Q rec45 x1 x4 x5 x6 x7 v6 (0 : Int32) M L) else (w_X3_drawLayer_99 rc Q rec45 x1 x4 x5 x6 x7 v6 (1 : Int32) M L)))))
def w_X3_drawLayer_L45 (rc : (MM → ML → Prop) → Int32 → Int32 → Int32 → Int32 → MM → ML → Prop) (Q : MM → ML → Prop) (x1 : Int32) (x4 : Int32) (x5 : Int32) (x6 : Int32) (L : ML) (x7 : Int32) (M : MM) : Prop := wLoop (fun (rec : (Int32 × MM) → Prop) (s : Int32 × MM) => w_X3_drawLayer_h45 rc Q x1 x4 x5 x6 L (fun x7 M => rec (x7, M)) s.1 s.2) (x7, M)
def w_X3_drawLayer_42 (rc : (MM → ML → Prop) → Int32 → Int32 → Int32 → Int32 → MM → ML → Prop) (Q : MM → ML → Prop) (x1 : Int32) (x4 : Int32) (x5 : Int32) (x6 : Int32) (M : MM) (L : ML) : Prop := w_X3_drawLayer_L45 rc Q x1 x4 x5 x6 L (0 : Int32) M
def w_X3_drawLayer (rc : (MM → ML → Prop) → Int32 → Int32 → Int32 → Int32 → MM → ML → Prop) (Q : MM → ML → Prop) (x1 : Int32) (x2 : Int32) (x3 : Int32) (x4 : Int32) (M : MM) (L : ML) : Prop := w_X3_paintLayer rc (fun M11 L12 => mRd (M11 10) 12 x1 (fun v13 => if v13 = (-1 : Int32) then (w_X3_drawLayer_42 rc Q x1 x4 ((1 : Int32) + ((2 : Int32) * x3)) v13 M11 L12) else (w_X3_paintLayer rc (fun M14 L15 => w_X3_drawLayer_42 rc Q x1 x4 ((1 : Int32) + ((2 : Int32) * x3)) v13 M14 L15) v13 x2 x3 (((1 : Int32) + ((2 : Int32) * x3)) + (1 : Int32)) M11 L12))) x1 x2 x3 ((1 : Int32) + ((2 : Int32) * x3)) M L
set_option maxRecDepth 100000 in
set_option maxHeartbeats 4000000 in
theorem wk_X3_drawLayer {p : Program} {l : Launch} {e : Env} {R : Room} {s : State} {m : MethodId} {args : Array Value} {below : List Frame} {meth : Method} {c : Code} {cells slots : Nat} {Z : State → Prop} {A : Nat → Prop} {E : mE} {fr lo : Nat} (hB1 : 7 ≤ fr) (hB2 : 183 ≤ lo) {rc : (MM → ML → Prop) → Int32 → Int32 → Int32 → Int32 → MM → ML → Prop} (hrc : CT_X3_draw l fr lo rc) (Q : MM → ML → Prop) (C : mC p m c s args cX3_drawLayer 10 E) (hA : ∀ q, s.heap.size ≤ q → A q) (hAw : ∀ q, mAd E q → A q) (hRf : fr + 3 ≤ R.frames) (hRl : lo + 76 ≤ R.locals) (hcs : cells ≤ R.cells ∧ slots ≤ R.slots) (M : MM) (L : ML) (hret : ∀ (M : MM) (L : ML) (pc : Nat) (ls : Array Slot) (H : Heap) (locs : List Loc), decode cX3_drawLayer pc = .ok (.return_, 1) → va_S A s.heap H locs → mW E M L H → Q M L → W p l e R s m args below meth c H locs cells slots Z (F0 m pc ls [])) (x1 : Int32) (x2 : Int32) (x3 : Int32) (x4 : Int32) : w_X3_drawLayer rc Q x1 x2 x3 x4 M L → ∀ (ls : Array Slot) (H : Heap) (locs : List Loc), lv_has ls 10 [(0, .ref (mh E)), (1, .int x1), (2, .int x2), (3, .int x3), (4, .int x4)] → mW E M L H → va_S A s.heap H locs → W p l e R s m args below meth c H locs cells slots Z (F0 m 0 ls []) := by
  obtain ⟨⟨hx, hb, hml, hown, hts⟩, hK⟩ := C; have C : mC p m c s args cX3_drawLayer 10 E := ⟨⟨hx, hb, hml, hown, hts⟩, hK⟩
  have hL45 : ∀ (x5 : Int32) (x6 : Int32) (L : ML) (x7 : Int32) (M : MM), w_X3_drawLayer_L45 rc Q x1 x4 x5 x6 L x7 M → ∀ (ls : Array Slot) (H : Heap) (locs : List Loc), lv_has ls 10 [(0, .ref (mh E)), (1, .int x1), (4, .int x4), (5, .int x5), (6, .int x6), (7, .int x7)] → mW E M L H → va_S A s.heap H locs → W p l e R s m args below meth c H locs cells slots Z (F0 m 45 ls []) := by
    intro x5 x6 L
    obtain ⟨G45, hG45⟩ : ∃ G : Int32 → MM → Prop, ∀ (x7 : Int32) (M : MM), G x7 M ↔ (∀ (ls : Array Slot) (H : Heap) (locs : List Loc), lv_has ls 10 [(0, .ref (mh E)), (1, .int x1), (4, .int x4), (5, .int x5), (6, .int x6), (7, .int x7)] → mW E M L H → va_S A s.heap H locs → W p l e R s m args below meth c H locs cells slots Z (F0 m 45 ls [])) := ⟨fun x7 M => _, fun x7 M => Iff.rfl⟩
    have hB45 : ∀ (rec45 : Int32 → MM → Prop), (∀ (x7 : Int32) (M : MM), rec45 x7 M → G45 x7 M) → ∀ (x7 : Int32) (M : MM), w_X3_drawLayer_h45 rc Q x1 x4 x5 x6 L rec45 x7 M → G45 x7 M := by
      intro rec45 hrec45
      have hb141 : ∀ (x7 : Int32) (M : MM), w_X3_drawLayer_141 rc Q rec45 x1 x4 x5 x6 x7 M L → ∀ (ls : Array Slot) (H : Heap) (locs : List Loc), lv_has ls 10 [(0, .ref (mh E)), (1, .int x1), (4, .int x4), (5, .int x5), (6, .int x6), (7, .int x7)] → mW E M L H → va_S A s.heap H locs → W p l e R s m args below meth c H locs cells slots Z (F0 m 141 ls []) := by
        intro x7 M h
        intro ls H locs hl hW hS
        refine lv_iinc (v := x7 + (1 : Int32)) (lv' := [(7, .int (x7 + (1 : Int32))), (0, .ref (mh E)), (1, .int x1), (4, .int x4), (5, .int x5), (6, .int x6)]) hx hb dX3_drawLayer_141 hl (k := 5) rfl (congrArg (fun z => x7 + z) (by decide)) (by decide) rfl (fun ls hl => ?_)
        refine lv_goto (tgt := 45) hx hb dX3_drawLayer_144 (by decide) ?_
        exact (hG45 _ _).mp (hrec45 _ _ h) ls H locs (lv_sub hl [1, 2, 3, 4, 5, 0] rfl) hW hS
      have hb113 : ∀ (x7 : Int32) (x8 : Int32) (y0 : Int32) (M : MM), w_X3_drawLayer_113 rc Q rec45 x1 x4 x5 x6 x7 x8 y0 M L → ∀ (ls : Array Slot) (H : Heap) (locs : List Loc), lv_has ls 10 [(0, .ref (mh E)), (1, .int x1), (4, .int x4), (5, .int x5), (6, .int x6), (7, .int x7), (8, .int x8)] → mW E M L H → va_S A s.heap H locs → W p l e R s m args below meth c H locs cells slots Z (F0 m 113 ls [.int y0]) := by
        intro x7 x8 y0 M h
        intro ls H locs hl hW hS
        refine lv_istore (lv' := [(9, .int y0), (0, .ref (mh E)), (1, .int x1), (4, .int x4), (5, .int x5), (6, .int x6), (7, .int x7), (8, .int x8)]) hx hb dX3_drawLayer_113 hl (by decide) rfl (fun ls hl => ?_)
        refine lv_iload hx hb dX3_drawLayer_115 (lv_at hl 7 rfl) ?_
        refine lv_if_le (tgt := 141) hx hb dX3_drawLayer_117 (by decide) (fun c3 => ?_) (fun c3 => ?_)
        · have h := wif_t h c3
          exact hb141 _ _ h ls H locs (lv_sub hl [1, 2, 3, 4, 5, 6] rfl) hW hS
        · have h := wif_f h c3
          refine lv_iload hx hb dX3_drawLayer_120 (lv_at hl 0 rfl) ?_
          refine lv_if_eq (tgt := 141) hx hb dX3_drawLayer_122 (by decide) (fun c2 => ?_) (fun c2 => ?_)
          · have h := wif_t h c2
            exact hb141 _ _ h ls H locs (lv_sub hl [1, 2, 3, 4, 5, 6] rfl) hW hS
          · have h := wif_f h c2
            refine lv_aload_n hx hb dX3_drawLayer_125 rfl (lv_at hl 1 rfl) ?_
            refine mr_getA C hW 27 rfl rfl q1830 dX3_drawLayer_126 ?_
            refine lv_sipush (v := 192) hx hb dX3_drawLayer_129 (by decide) ?_
            refine lv_iload hx hb dX3_drawLayer_132 (lv_at hl 3 rfl) ?_
            refine lv_imul hx hb dX3_drawLayer_134 ?_
            refine lv_iload hx hb dX3_drawLayer_135 (lv_at hl 6 rfl) ?_
            refine lv_iadd hx hb dX3_drawLayer_137 ?_
            refine lv_iload hx hb dX3_drawLayer_138 (lv_at hl 7 rfl) ?_
            refine mr_iast C hW hS hAw 27 rfl rfl rfl h dX3_drawLayer_140 (fun M1 H locs hW hS h => ?_)
            exact hb141 _ _ h ls H locs (lv_sub hl [1, 2, 3, 4, 5, 6] rfl) hW hS
      have hb108 : ∀ (x7 : Int32) (x8 : Int32) (M : MM), w_X3_drawLayer_108 rc Q rec45 x1 x4 x5 x6 x7 x8 M L → ∀ (ls : Array Slot) (H : Heap) (locs : List Loc), lv_has ls 10 [(0, .ref (mh E)), (1, .int x1), (4, .int x4), (5, .int x5), (6, .int x6), (7, .int x7), (8, .int x8)] → mW E M L H → va_S A s.heap H locs → W p l e R s m args below meth c H locs cells slots Z (F0 m 108 ls []) := by
        intro x7 x8 M h
        intro ls H locs hl hW hS
        refine lv_iconst (v := 1) hx hb dX3_drawLayer_108 (by decide) ?_
        refine lv_goto (tgt := 113) hx hb dX3_drawLayer_109 (by decide) ?_
        exact hb113 _ _ _ _ h ls H locs (lv_sub hl [0, 1, 2, 3, 4, 5, 6] rfl) hW hS
      have hb99 : ∀ (x7 : Int32) (x8 : Int32) (y0 : Int32) (M : MM), w_X3_drawLayer_99 rc Q rec45 x1 x4 x5 x6 x7 x8 y0 M L → ∀ (ls : Array Slot) (H : Heap) (locs : List Loc), lv_has ls 10 [(0, .ref (mh E)), (1, .int x1), (4, .int x4), (5, .int x5), (6, .int x6), (7, .int x7), (8, .int x8)] → mW E M L H → va_S A s.heap H locs → W p l e R s m args below meth c H locs cells slots Z (F0 m 99 ls [.int y0]) := by
        intro x7 x8 y0 M h
        intro ls H locs hl hW hS
        refine lv_aload_n hx hb dX3_drawLayer_99 rfl (lv_at hl 0 rfl) ?_
        refine mr_getA C hW 11 rfl rfl q1814 dX3_drawLayer_100 ?_
        refine lv_iload_n hx hb dX3_drawLayer_103 rfl (lv_at hl 1 rfl) ?_
        refine mr_zald C hW 11 rfl rfl rfl h dX3_drawLayer_104 (fun v4 h => ?_)
        refine lv_icmp_eq (tgt := 112) hx hb dX3_drawLayer_105 (by decide) (fun c5 => ?_) (fun c5 => ?_)
        · have h := wif_t h c5
          refine lv_iconst (v := 0) hx hb dX3_drawLayer_112 (by decide) ?_
          exact hb113 _ _ _ _ h ls H locs (lv_sub hl [0, 1, 2, 3, 4, 5, 6] rfl) hW hS
        · have h := wif_f h c5
          exact hb108 _ _ _ h ls H locs (lv_sub hl [0, 1, 2, 3, 4, 5, 6] rfl) hW hS
      intro x7 M h
      rw [hG45]
      intro ls H locs hl hW hS
      refine lv_iload hx hb dX3_drawLayer_45 (lv_at hl 5 rfl) ?_
      refine lv_sipush (v := 192) hx hb dX3_drawLayer_47 (by decide) ?_
      refine lv_icmp_ge (tgt := 147) hx hb dX3_drawLayer_50 (by decide) (fun c10 => ?_) (fun c10 => ?_)
      · have h := wif_t h c10
        exact hret _ _ _ _ _ _ dX3_drawLayer_147 hS hW h
      · have h := wif_f h c10
        refine lv_aload_n hx hb dX3_drawLayer_53 rfl (lv_at hl 0 rfl) ?_
        refine mr_getA C hW 27 rfl rfl q1830 dX3_drawLayer_54 ?_
        refine lv_sipush (v := 192) hx hb dX3_drawLayer_57 (by decide) ?_
        refine lv_iload hx hb dX3_drawLayer_60 (lv_at hl 3 rfl) ?_
        refine lv_imul hx hb dX3_drawLayer_62 ?_
        refine lv_iload hx hb dX3_drawLayer_63 (lv_at hl 5 rfl) ?_
        refine lv_iadd hx hb dX3_drawLayer_65 ?_
        refine mr_iald C hW 27 rfl rfl rfl h dX3_drawLayer_66 (fun v6 h => ?_)
        refine lv_istore (lv' := [(8, .int v6), (0, .ref (mh E)), (1, .int x1), (4, .int x4), (5, .int x5), (6, .int x6), (7, .int x7)]) hx hb dX3_drawLayer_67 hl (by decide) rfl (fun ls hl => ?_)
        refine lv_iload hx hb dX3_drawLayer_69 (lv_at hl 5 rfl) ?_
        refine lv_iconst (v := -1) hx hb dX3_drawLayer_71 (by decide) ?_
        refine lv_icmp_eq (tgt := 108) hx hb dX3_drawLayer_72 (by decide) (fun c9 => ?_) (fun c9 => ?_)
        · have h := wif_t h c9
          exact hb108 _ _ _ h ls H locs (lv_sub hl [1, 2, 3, 4, 5, 6, 0] rfl) hW hS
        · have h := wif_f h c9
          refine lv_aload_n hx hb dX3_drawLayer_75 rfl (lv_at hl 1 rfl) ?_
          refine mr_getA C hW 27 rfl rfl q1830 dX3_drawLayer_76 ?_
          refine lv_sipush (v := 192) hx hb dX3_drawLayer_79 (by decide) ?_
          refine lv_iload hx hb dX3_drawLayer_82 (lv_at hl 4 rfl) ?_
          refine lv_iconst (v := 1) hx hb dX3_drawLayer_84 (by decide) ?_
          refine lv_iadd hx hb dX3_drawLayer_85 ?_
          refine lv_imul hx hb dX3_drawLayer_86 ?_
          refine lv_iload hx hb dX3_drawLayer_87 (lv_at hl 6 rfl) ?_
          refine lv_iadd hx hb dX3_drawLayer_89 ?_
          refine mr_iald C hW 27 rfl rfl rfl h dX3_drawLayer_90 (fun v7 h => ?_)
          refine lv_if_le (tgt := 98) hx hb dX3_drawLayer_91 (by decide) (fun c8 => ?_) (fun c8 => ?_)
          · have h := wif_t h c8
            refine lv_iconst (v := 0) hx hb dX3_drawLayer_98 (by decide) ?_
            exact hb99 _ _ _ _ h ls H locs (lv_sub hl [1, 2, 3, 4, 5, 6, 0] rfl) hW hS
          · have h := wif_f h c8
            refine lv_iconst (v := 1) hx hb dX3_drawLayer_94 (by decide) ?_
            refine lv_goto (tgt := 99) hx hb dX3_drawLayer_95 (by decide) ?_
            exact hb99 _ _ _ _ h ls H locs (lv_sub hl [1, 2, 3, 4, 5, 6, 0] rfl) hW hS
    intro x7 M h
    exact (hG45 x7 M).mp (loop_walk (fun s => G45 s.1 s.2) (fun rec hrec s h => hB45 (fun x7 M => rec (x7, M)) (fun x7 M h => hrec (x7, M) h) s.1 s.2 h) (x7, M) h)
  have hb42 : ∀ (x5 : Int32) (x6 : Int32) (M : MM) (L : ML), w_X3_drawLayer_42 rc Q x1 x4 x5 x6 M L → ∀ (ls : Array Slot) (H : Heap) (locs : List Loc), lv_has ls 10 [(0, .ref (mh E)), (1, .int x1), (4, .int x4), (5, .int x5), (6, .int x6)] → mW E M L H → va_S A s.heap H locs → W p l e R s m args below meth c H locs cells slots Z (F0 m 42 ls []) := by
    intro x5 x6 M L h
    intro ls H locs hl hW hS
    refine lv_iconst (v := 0) hx hb dX3_drawLayer_42 (by decide) ?_
    refine lv_istore (lv' := [(7, .int (0 : Int32)), (0, .ref (mh E)), (1, .int x1), (4, .int x4), (5, .int x5), (6, .int x6)]) hx hb dX3_drawLayer_43 hl (by decide) rfl (fun ls hl => ?_)
    exact hL45 _ _ _ _ _ h ls H locs (lv_sub hl [1, 2, 3, 4, 5, 0] rfl) hW hS
  intro h
  intro ls H locs hl hW hS
  refine lv_iconst (v := 1) hx hb dX3_drawLayer_0 (by decide) ?_
  refine lv_iconst (v := 2) hx hb dX3_drawLayer_1 (by decide) ?_
  refine lv_iload_n hx hb dX3_drawLayer_2 rfl (lv_at hl 3 rfl) ?_
  refine lv_imul hx hb dX3_drawLayer_3 ?_
  refine lv_iadd hx hb dX3_drawLayer_4 ?_
  refine lv_istore (lv' := [(5, .int ((1 : Int32) + ((2 : Int32) * x3))), (0, .ref (mh E)), (1, .int x1), (2, .int x2), (3, .int x3), (4, .int x4)]) hx hb dX3_drawLayer_5 hl (by decide) rfl (fun ls hl => ?_)
  refine lv_aload_n hx hb dX3_drawLayer_7 rfl (lv_at hl 1 rfl) ?_
  refine lv_iload_n hx hb dX3_drawLayer_8 rfl (lv_at hl 2 rfl) ?_
  refine lv_iload_n hx hb dX3_drawLayer_9 rfl (lv_at hl 3 rfl) ?_
  refine lv_iload_n hx hb dX3_drawLayer_10 rfl (lv_at hl 4 rfl) ?_
  refine lv_iload hx hb dX3_drawLayer_11 (lv_at hl 0 rfl) ?_
  refine call_X3_paintLayer (ct_X3_paintLayer l hB1 hB2 hrc) C.1 C.2 hW hS hA hAw q2102 (by omega) (by omega) hcs hl.1 (Nat.le_of_ble_eq_true rfl) dX3_drawLayer_13 h (fun M11 L12 H locs h hW hS _ => ?_)
  refine lv_aload_n hx hb dX3_drawLayer_16 rfl (lv_at hl 1 rfl) ?_
  refine mr_getA C hW 10 rfl rfl q1813 dX3_drawLayer_17 ?_
  refine lv_iload_n hx hb dX3_drawLayer_20 rfl (lv_at hl 2 rfl) ?_
  refine mr_iald C hW 10 rfl rfl rfl h dX3_drawLayer_21 (fun v13 h => ?_)
  refine lv_istore (lv' := [(6, .int v13), (5, .int ((1 : Int32) + ((2 : Int32) * x3))), (0, .ref (mh E)), (1, .int x1), (2, .int x2), (3, .int x3), (4, .int x4)]) hx hb dX3_drawLayer_22 hl (by decide) rfl (fun ls hl => ?_)
  refine lv_iload hx hb dX3_drawLayer_24 (lv_at hl 0 rfl) ?_
  refine lv_iconst (v := -1) hx hb dX3_drawLayer_26 (by decide) ?_
  refine lv_icmp_eq (tgt := 42) hx hb dX3_drawLayer_27 (by decide) (fun c16 => ?_) (fun c16 => ?_)
  · have h := wif_t h c16
    exact hb42 _ _ _ _ h ls H locs (lv_sub hl [2, 3, 6, 1, 0] rfl) hW hS
  · have h := wif_f h c16
    refine lv_aload_n hx hb dX3_drawLayer_30 rfl (lv_at hl 2 rfl) ?_
    refine lv_iload hx hb dX3_drawLayer_31 (lv_at hl 0 rfl) ?_
    refine lv_iload_n hx hb dX3_drawLayer_33 rfl (lv_at hl 4 rfl) ?_
    refine lv_iload_n hx hb dX3_drawLayer_34 rfl (lv_at hl 5 rfl) ?_
    refine lv_iload hx hb dX3_drawLayer_35 (lv_at hl 1 rfl) ?_
    refine lv_iconst (v := 1) hx hb dX3_drawLayer_37 (by decide) ?_
    refine lv_iadd hx hb dX3_drawLayer_38 ?_
    refine call_X3_paintLayer (ct_X3_paintLayer l hB1 hB2 hrc) C.1 C.2 hW hS hA hAw q2102 (by omega) (by omega) hcs hl.1 (Nat.le_of_ble_eq_true rfl) dX3_drawLayer_39 h (fun M14 L15 H locs h hW hS _ => ?_)
    exact hb42 _ _ _ _ h ls H locs (lv_sub hl [2, 3, 6, 1, 0] rfl) hW hS
theorem ct_X3_drawLayer (l : Launch) {fr lo : Nat} (hB1 : 7 ≤ fr) (hB2 : 183 ≤ lo) {rc : (MM → ML → Prop) → Int32 → Int32 → Int32 → Int32 → MM → ML → Prop} (hrc : CT_X3_draw l fr lo rc) : CT_X3_drawLayer l (fr + 3) (lo + 76) (w_X3_drawLayer rc) := by
  intro E M L sz Q x1 x2 x3 x4
  refine Met.ofW (cc := cX3_drawLayer) (maxL := 10) (ret := none) (by decide) rfl ?_
  intro p e s m args below meth c s₁ B hml hv
  obtain ⟨rfl, hsz, hW, hK, h⟩ := hv
  subst hsz
  have hts := atoms_spec (ws := ws_ yX3_drawLayer cX3_drawLayer 10 none) B.pre
  have hts : ∀ w ∈ lw_all, w.before _ s = true := fun w h => hts w (List.mem_cons_of_mem _ h)
  have hl := lv_entry ([.ref (mh E), .int x1, .int x2, .int x3, .int x4]) (n := 10) (Nat.le_of_ble_eq_true rfl)
  rw [lg_entry_eq]
  generalize (lg_sl ([.ref (mh E), .int x1, .int x2, .int x3, .int x4]) ++ List.replicate (10 - (lg_sl ([.ref (mh E), .int x1, .int x2, .int x3, .int x4])).length) Slot.unset).toArray = ls at hl ⊢
  exact wk_X3_drawLayer (hB1 := hB1) (hB2 := hB2) (hrc := hrc) Q ⟨⟨B.exec, B.bytes, hml, findClass_of_methodNamed B.named, hts⟩, hK⟩ (fun q h => Or.inr h) (fun q h => Or.inl h) (Nat.le_refl _) (Nat.le_refl _) ⟨Nat.le_refl _, Nat.le_refl _⟩ M L (fun M L pc ls H locs hd hS hW1 hQ => W.vret B.exec B.bytes B.returns (fun t ht _ => ⟨⟨(M, L), rfl, hQ, by rw [← ht] at hW1; exact hW1⟩, hS.F ht⟩) hS.2.2 hd) x1 x2 x3 x4 h ls _ [] hl hW va_S.rf
def w_X3_draw_63 (rc : (MM → ML → Prop) → Int32 → Int32 → Int32 → Int32 → MM → ML → Prop) (Q : MM → ML → Prop) (rec9 : Int32 → MM → ML → Prop) (x1 : Int32) (x2 : Int32) (x3 : Int32) (x4 : Int32) (x5 : Int32) (M : MM) (L : ML) : Prop := rec9 (x5 + (1 : Int32)) M L
def w_X3_draw_h9 (rc : (MM → ML → Prop) → Int32 → Int32 → Int32 → Int32 → MM → ML → Prop) (Q : MM → ML → Prop) (x1 : Int32) (x2 : Int32) (x3 : Int32) (x4 : Int32) (rec9 : Int32 → MM → ML → Prop) (x5 : Int32) (M : MM) (L : ML) : Prop := mRd (M 3) 4 x1 (fun v1 => if v1 ≤ x5 then (Q M L) else (mRd (M 2) 48 (((12 : Int32) * x1) + x5) (fun v2 => w_X3_isMatte (fun r3 => if r3 = 0 then (w_X3_isShowing (fun r4 => if r4 = 0 then (w_X3_draw_63 rc Q rec9 x1 x2 x3 x4 x5 M L) else (w_X3_drawLayer rc (fun M5 L6 => w_X3_draw_63 rc Q rec9 x1 x2 x3 x4 x5 M5 L6) v2 x2 x3 x4 M L)) v2 x2 M) else (w_X3_draw_63 rc Q rec9 x1 x2 x3 x4 x5 M L)) v2 M)))
def w_X3_draw_L9 (rc : (MM → ML → Prop) → Int32 → Int32 → Int32 → Int32 → MM → ML → Prop) (Q : MM → ML → Prop) (x1 : Int32) (x2 : Int32) (x3 : Int32) (x4 : Int32) (x5 : Int32) (M : MM) (L : ML) : Prop := wLoop (fun (rec : (Int32 × MM × ML) → Prop) (s : Int32 × MM × ML) => w_X3_draw_h9 rc Q x1 x2 x3 x4 (fun x5 M L => rec (x5, M, L)) s.1 s.2.1 s.2.2) (x5, M, L)
def w_X3_draw_B (rc : (MM → ML → Prop) → Int32 → Int32 → Int32 → Int32 → MM → ML → Prop) (Q : MM → ML → Prop) (x1 : Int32) (x2 : Int32) (x3 : Int32) (x4 : Int32) (M : MM) (L : ML) : Prop := w_X3_wipe (fun M10 => w_X3_draw_L9 rc Q x1 x2 x3 x4 (0 : Int32) M10 L) x4 M
def w_X3_draw : Nat → (MM → ML → Prop) → Int32 → Int32 → Int32 → Int32 → MM → ML → Prop
  | 0 => fun _ _ _ _ _ _ _ => False
  | n + 1 => w_X3_draw_B (w_X3_draw n)
set_option maxRecDepth 100000 in
set_option maxHeartbeats 4000000 in
theorem wk_X3_draw {p : Program} {l : Launch} {e : Env} {R : Room} {s : State} {m : MethodId} {args : Array Value} {below : List Frame} {meth : Method} {c : Code} {cells slots : Nat} {Z : State → Prop} {A : Nat → Prop} {E : mE} {fr lo : Nat} (hB1 : 7 ≤ fr) (hB2 : 183 ≤ lo) {rc : (MM → ML → Prop) → Int32 → Int32 → Int32 → Int32 → MM → ML → Prop} (hrc : CT_X3_draw l fr lo rc) (Q : MM → ML → Prop) (C : mC p m c s args cX3_draw 7 E) (hA : ∀ q, s.heap.size ≤ q → A q) (hAw : ∀ q, mAd E q → A q) (hRf : fr + 4 ≤ R.frames) (hRl : lo + 105 ≤ R.locals) (hcs : cells ≤ R.cells ∧ slots ≤ R.slots) (M : MM) (L : ML) (hret : ∀ (M : MM) (L : ML) (pc : Nat) (ls : Array Slot) (H : Heap) (locs : List Loc), decode cX3_draw pc = .ok (.return_, 1) → va_S A s.heap H locs → mW E M L H → Q M L → W p l e R s m args below meth c H locs cells slots Z (F0 m pc ls [])) (x1 : Int32) (x2 : Int32) (x3 : Int32) (x4 : Int32) : w_X3_draw_B rc Q x1 x2 x3 x4 M L → ∀ (ls : Array Slot) (H : Heap) (locs : List Loc), lv_has ls 7 [(0, .ref (mh E)), (1, .int x1), (2, .int x2), (3, .int x3), (4, .int x4)] → mW E M L H → va_S A s.heap H locs → W p l e R s m args below meth c H locs cells slots Z (F0 m 0 ls []) := by
  obtain ⟨⟨hx, hb, hml, hown, hts⟩, hK⟩ := C; have C : mC p m c s args cX3_draw 7 E := ⟨⟨hx, hb, hml, hown, hts⟩, hK⟩
  have hL9 : ∀ (x5 : Int32) (M : MM) (L : ML), w_X3_draw_L9 rc Q x1 x2 x3 x4 x5 M L → ∀ (ls : Array Slot) (H : Heap) (locs : List Loc), lv_has ls 7 [(0, .ref (mh E)), (1, .int x1), (2, .int x2), (3, .int x3), (4, .int x4), (5, .int x5)] → mW E M L H → va_S A s.heap H locs → W p l e R s m args below meth c H locs cells slots Z (F0 m 9 ls []) := by
    obtain ⟨G9, hG9⟩ : ∃ G : Int32 → MM → ML → Prop, ∀ (x5 : Int32) (M : MM) (L : ML), G x5 M L ↔ (∀ (ls : Array Slot) (H : Heap) (locs : List Loc), lv_has ls 7 [(0, .ref (mh E)), (1, .int x1), (2, .int x2), (3, .int x3), (4, .int x4), (5, .int x5)] → mW E M L H → va_S A s.heap H locs → W p l e R s m args below meth c H locs cells slots Z (F0 m 9 ls [])) := ⟨fun x5 M L => _, fun x5 M L => Iff.rfl⟩
    have hB9 : ∀ (rec9 : Int32 → MM → ML → Prop), (∀ (x5 : Int32) (M : MM) (L : ML), rec9 x5 M L → G9 x5 M L) → ∀ (x5 : Int32) (M : MM) (L : ML), w_X3_draw_h9 rc Q x1 x2 x3 x4 rec9 x5 M L → G9 x5 M L := by
      intro rec9 hrec9
      have hb63 : ∀ (x5 : Int32) (M : MM) (L : ML), w_X3_draw_63 rc Q rec9 x1 x2 x3 x4 x5 M L → ∀ (ls : Array Slot) (H : Heap) (locs : List Loc), lv_has ls 7 [(0, .ref (mh E)), (1, .int x1), (2, .int x2), (3, .int x3), (4, .int x4), (5, .int x5)] → mW E M L H → va_S A s.heap H locs → W p l e R s m args below meth c H locs cells slots Z (F0 m 63 ls []) := by
        intro x5 M L h
        intro ls H locs hl hW hS
        refine lv_iinc (v := x5 + (1 : Int32)) (lv' := [(5, .int (x5 + (1 : Int32))), (0, .ref (mh E)), (1, .int x1), (2, .int x2), (3, .int x3), (4, .int x4)]) hx hb dX3_draw_63 hl (k := 5) rfl (congrArg (fun z => x5 + z) (by decide)) (by decide) rfl (fun ls hl => ?_)
        refine lv_goto (tgt := 9) hx hb dX3_draw_66 (by decide) ?_
        exact (hG9 _ _ _).mp (hrec9 _ _ _ h) ls H locs (lv_sub hl [1, 2, 3, 4, 5, 0] rfl) hW hS
      intro x5 M L h
      rw [hG9]
      intro ls H locs hl hW hS
      refine lv_iload hx hb dX3_draw_9 (lv_at hl 5 rfl) ?_
      refine lv_aload_n hx hb dX3_draw_11 rfl (lv_at hl 0 rfl) ?_
      refine mr_getA C hW 3 rfl rfl q1806 dX3_draw_12 ?_
      refine lv_iload_n hx hb dX3_draw_15 rfl (lv_at hl 1 rfl) ?_
      refine mr_iald C hW 3 rfl rfl rfl h dX3_draw_16 (fun v1 h => ?_)
      refine lv_icmp_ge (tgt := 69) hx hb dX3_draw_17 (by decide) (fun c9 => ?_) (fun c9 => ?_)
      · have h := wif_t h c9
        exact hret _ _ _ _ _ _ dX3_draw_69 hS hW h
      · have h := wif_f h c9
        refine lv_aload_n hx hb dX3_draw_20 rfl (lv_at hl 0 rfl) ?_
        refine mr_getA C hW 2 rfl rfl q1805 dX3_draw_21 ?_
        refine lv_bipush (v := 12) hx hb dX3_draw_24 (by decide) ?_
        refine lv_iload_n hx hb dX3_draw_26 rfl (lv_at hl 1 rfl) ?_
        refine lv_imul hx hb dX3_draw_27 ?_
        refine lv_iload hx hb dX3_draw_28 (lv_at hl 5 rfl) ?_
        refine lv_iadd hx hb dX3_draw_30 ?_
        refine mr_iald C hW 2 rfl rfl rfl h dX3_draw_31 (fun v2 h => ?_)
        refine lv_istore (lv' := [(6, .int v2), (0, .ref (mh E)), (1, .int x1), (2, .int x2), (3, .int x3), (4, .int x4), (5, .int x5)]) hx hb dX3_draw_32 hl (by decide) rfl (fun ls hl => ?_)
        refine lv_aload_n hx hb dX3_draw_34 rfl (lv_at hl 1 rfl) ?_
        refine lv_iload hx hb dX3_draw_35 (lv_at hl 0 rfl) ?_
        refine call_X3_isMatte (ct_X3_isMatte l) C.1 C.2 hW hS hA q2090 (by omega) (by omega) hcs hl.1 (Nat.le_of_ble_eq_true rfl) dX3_draw_37 h (fun r3 H locs h hk hS => ?_)
        have hW := hW.kept hk
        refine lv_if_ne (tgt := 63) hx hb dX3_draw_40 (by decide) (fun c8 => ?_) (fun c8 => ?_)
        · have h := wif_f h c8
          exact hb63 _ _ _ h ls H locs (lv_sub hl [1, 2, 3, 4, 5, 6] rfl) hW hS
        · have h := wif_t h c8
          refine lv_aload_n hx hb dX3_draw_43 rfl (lv_at hl 1 rfl) ?_
          refine lv_iload hx hb dX3_draw_44 (lv_at hl 0 rfl) ?_
          refine lv_iload_n hx hb dX3_draw_46 rfl (lv_at hl 3 rfl) ?_
          refine call_X3_isShowing (ct_X3_isShowing l) C.1 C.2 hW hS hA q2094 (by omega) (by omega) hcs hl.1 (Nat.le_of_ble_eq_true rfl) dX3_draw_47 h (fun r4 H locs h hk hS => ?_)
          have hW := hW.kept hk
          refine lv_if_eq (tgt := 63) hx hb dX3_draw_50 (by decide) (fun c7 => ?_) (fun c7 => ?_)
          · have h := wif_t h c7
            exact hb63 _ _ _ h ls H locs (lv_sub hl [1, 2, 3, 4, 5, 6] rfl) hW hS
          · have h := wif_f h c7
            refine lv_aload_n hx hb dX3_draw_53 rfl (lv_at hl 1 rfl) ?_
            refine lv_iload hx hb dX3_draw_54 (lv_at hl 0 rfl) ?_
            refine lv_iload_n hx hb dX3_draw_56 rfl (lv_at hl 3 rfl) ?_
            refine lv_iload_n hx hb dX3_draw_57 rfl (lv_at hl 4 rfl) ?_
            refine lv_iload hx hb dX3_draw_58 (lv_at hl 5 rfl) ?_
            refine call_X3_drawLayer (ct_X3_drawLayer l hB1 hB2 hrc) C.1 C.2 hW hS hA hAw q2098 (by omega) (by omega) hcs hl.1 (Nat.le_of_ble_eq_true rfl) dX3_draw_60 h (fun M5 L6 H locs h hW hS _ => ?_)
            exact hb63 _ _ _ h ls H locs (lv_sub hl [1, 2, 3, 4, 5, 6] rfl) hW hS
    intro x5 M L h
    exact (hG9 x5 M L).mp (loop_walk (fun s => G9 s.1 s.2.1 s.2.2) (fun rec hrec s h => hB9 (fun x5 M L => rec (x5, M, L)) (fun x5 M L h => hrec (x5, M, L) h) s.1 s.2.1 s.2.2 h) (x5, M, L) h)
  intro h
  intro ls H locs hl hW hS
  refine lv_aload_n hx hb dX3_draw_0 rfl (lv_at hl 0 rfl) ?_
  refine lv_iload hx hb dX3_draw_1 (lv_at hl 4 rfl) ?_
  refine call_X3_wipe (ct_X3_wipe l) C.1 C.2 hW hS hA hAw q2086 (by omega) (by omega) hcs hl.1 (Nat.le_of_ble_eq_true rfl) dX3_draw_3 h (fun M10 H locs h hW hS _ => ?_)
  refine lv_iconst (v := 0) hx hb dX3_draw_6 (by decide) ?_
  refine lv_istore (lv' := [(5, .int (0 : Int32)), (0, .ref (mh E)), (1, .int x1), (2, .int x2), (3, .int x3), (4, .int x4)]) hx hb dX3_draw_7 hl (by decide) rfl (fun ls hl => ?_)
  exact hL9 _ _ _ h ls H locs (lv_sub hl [1, 2, 3, 4, 5, 0] rfl) hW hS
theorem ctB_X3_draw (l : Launch) {fr lo : Nat} (hB1 : 7 ≤ fr) (hB2 : 183 ≤ lo) {rc : (MM → ML → Prop) → Int32 → Int32 → Int32 → Int32 → MM → ML → Prop} (hrc : CT_X3_draw l fr lo rc) : CT_X3_draw l (fr + 4) (lo + 105) (w_X3_draw_B rc) := by
  intro E M L sz Q x1 x2 x3 x4
  refine Met.ofW (cc := cX3_draw) (maxL := 7) (ret := none) (by decide) rfl ?_
  intro p e s m args below meth c s₁ B hml hv
  obtain ⟨rfl, hsz, hW, hK, h⟩ := hv
  subst hsz
  have hts := atoms_spec (ws := ws_ yX3_draw cX3_draw 7 none) B.pre
  have hts : ∀ w ∈ lw_all, w.before _ s = true := fun w h => hts w (List.mem_cons_of_mem _ h)
  have hl := lv_entry ([.ref (mh E), .int x1, .int x2, .int x3, .int x4]) (n := 7) (Nat.le_of_ble_eq_true rfl)
  rw [lg_entry_eq]
  generalize (lg_sl ([.ref (mh E), .int x1, .int x2, .int x3, .int x4]) ++ List.replicate (7 - (lg_sl ([.ref (mh E), .int x1, .int x2, .int x3, .int x4])).length) Slot.unset).toArray = ls at hl ⊢
  exact wk_X3_draw (hB1 := hB1) (hB2 := hB2) (hrc := hrc) Q ⟨⟨B.exec, B.bytes, hml, findClass_of_methodNamed B.named, hts⟩, hK⟩ (fun q h => Or.inr h) (fun q h => Or.inl h) (Nat.le_refl _) (Nat.le_refl _) ⟨Nat.le_refl _, Nat.le_refl _⟩ M L (fun M L pc ls H locs hd hS hW1 hQ => W.vret B.exec B.bytes B.returns (fun t ht _ => ⟨⟨(M, L), rfl, hQ, by rw [← ht] at hW1; exact hW1⟩, hS.F ht⟩) hS.2.2 hd) x1 x2 x3 x4 h ls _ [] hl hW va_S.rf
theorem ct_X3_draw (l : Launch) : ∀ n, CT_X3_draw l (7 + n * 4) (183 + n * 105) (w_X3_draw n) := by
  intro n
  induction n with
  | zero =>
    intro E M L sz Q x1 x2 x3 x4
    refine Met.ofW (cc := cX3_draw) (maxL := 7) (ret := none) (by decide) rfl ?_
    intro p e s m args below meth c s₁ B hml hv
    obtain ⟨rfl, hsz, hW, hK, h⟩ := hv
    exact False.elim h
  | succ n ih =>
    have h := ctB_X3_draw l (fr := 7 + n * 4) (lo := 183 + n * 105) (by omega) (by omega) ih
    rw [show 7 + n * 4 + 4 = 7 + (n + 1) * 4 by omega, show 183 + n * 105 + 105 = 183 + (n + 1) * 105 by omega] at h
    exact h
def CT_X3_cell (l : Launch) (fr lo : Nat) (w : (Int32 → MM → ML → Prop) → Int32 → Int32 → Int32 → Int32 → MM → ML → Prop) : Prop := ∀ (E : mE) (M : MM) (L : ML) (sz : Nat) (Q : Int32 → MM → ML → Prop) (x1 : Int32) (x2 : Int32) (x3 : Int32) (x4 : Int32), Met l yX3_cell (ws_ yX3_cell cX3_cell 6 (some .int)) { frames := fr, cells := 0, slots := 0, locals := lo } (va_Pc [.ref (mh E), .int x1, .int x2, .int x3, .int x4] (fun U => U.heap.size = sz ∧ mW E M L U.heap ∧ mK E U ∧ w Q x1 x2 x3 x4 M L)) (va_Qi (fun r (u : MM × ML) => Q r u.1 u.2) (fun u t => mW E u.1 u.2 t.heap) (mA E sz)) 0 0 (mA E sz)
theorem call_X3_cell {p : Program} {l : Launch} {e : Env} {R : Room} {s : State} {m : MethodId} {args : Array Value} {below : List Frame} {meth : Method} {c : Code} {H : Heap} {locs : List Loc} {cells slots : Nat} {Z : State → Prop} {A : Nat → Prop} {cc : ByteArray} {nL pc : Nat} {ls : Array Slot} {rest : List Value} {own : String} {index fr lo : Nat} {w : (Int32 → MM → ML → Prop) → Int32 → Int32 → Int32 → Int32 → MM → ML → Prop} {E : mE} {M : MM} {L : ML} {x1 : Int32} {x2 : Int32} {x3 : Int32} {x4 : Int32} (hM : CT_X3_cell l fr lo w) (S : CallFix p m c cc nL s args lw_all own) (hK : mK E s) (hW : mW E M L H) (hS : va_S A s.heap H locs) (hA : ∀ q, s.heap.size ≤ q → A q) (hAw : ∀ q, mAd E q → A q) (hlink : Cond.methodLink own index yX3_cell ∈ lw_all) (hRf : fr + 1 ≤ R.frames) (hRl : 8 + (6 + 11) + lo ≤ R.locals) (hcs : cells ≤ R.cells ∧ slots ≤ R.slots) (hz : ls.size = nL) (hr8 : (rest.map fun v => v.category).sum ≤ 8) (hdg : decode cc pc = .ok (.invokevirtual index, 3)) {Q1 : Int32 → MM → ML → Prop} (h : w Q1 x1 x2 x3 x4 M L) (kk : ∀ (r : Int32) (M1 : MM) (L1 : ML) (H1 : Heap) (locs1 : List Loc), Q1 r M1 L1 → mW E M1 L1 H1 → va_S A s.heap H1 locs1 → (∀ q : Nat, q < H.size → ¬ mAd E q → H1[q]? = H[q]?) → W p l e R s m args below meth c H1 locs1 cells slots Z (F0 m (pc + 3) ls (.int r :: rest))) : W p l e R s m args below meth c H locs cells slots Z (F0 m pc ls (.int x4 :: .int x3 :: .int x2 :: .int x1 :: .ref (mh E) :: rest)) := by
  refine mw_i (sz := 0) (P := fun r M1 L1 => Q1 r M1 L1) (va_runV (As := [.int x1, .int x2, .int x3, .int x4]) (rest := rest) S (hM E M L H.size Q1 x1 x2 x3 x4) (cwV 4 S.2.2.2.2 (lw_V hlink q2079 q2080 q68 q2081) rfl rfl rfl (by decide +kernel) ⟨hRf, hRl⟩) ⟨fun a U g mk q => by obtain ⟨q0, q1, qW, qK, qw⟩ := q; exact ⟨q0, q1, qW, qK.moved (u := U) (U := U.calling g mk a) (Vm.Alike.refl U.vm), qw⟩, hW.recv (hK := hK), fun U hU hWm => ⟨rfl, by rw [hU], by rw [hU]; exact hW, hK.moved hWm.alike, h⟩⟩ rfl rfl hz rfl (lv_room hr8) hdg hcs) hS hA hAw (fun r M1 L1 H1 locs1 hp hW1 hz hk hS1 => ?_)
  exact kk r M1 L1 H1 locs1 hp hW1 hS1 hk
def w_X3_cell_33 (Q : Int32 → MM → ML → Prop) (x1 : Int32) (x2 : Int32) (x3 : Int32) (x4 : Int32) (y0 : Int32) (M : MM) (L : ML) : Prop := w_X3_isComposition (fun r1 => w_X3_check (fun r2 M3 => if r2 = 0 then (Q (0 : Int32) M3 L) else (w_X3_draw 6 (fun M4 L5 => mRd (M4 27) 1728 (((16 : Int32) * x4) + x3) (fun v6 => Q v6 M4 L5)) x1 x2 (0 : Int32) (0 : Int32) M3 L)) r1 y0 (1 : Int32) M) x1 M
def w_X3_cell_32 (Q : Int32 → MM → ML → Prop) (x1 : Int32) (x2 : Int32) (x3 : Int32) (x4 : Int32) (M : MM) (L : ML) : Prop := w_X3_cell_33 Q x1 x2 x3 x4 (0 : Int32) M L
def w_X3_cell (Q : Int32 → MM → ML → Prop) (x1 : Int32) (x2 : Int32) (x3 : Int32) (x4 : Int32) (M : MM) (L : ML) : Prop := w_X3_isTime (fun r8 => if r8 = 0 then (w_X3_cell_32 Q x1 x2 x3 x4 M L) else (w_X3_isWithin (fun r9 => if r9 = 0 then (w_X3_cell_32 Q x1 x2 x3 x4 M L) else (w_X3_isWithin (fun r10 => if r10 = 0 then (w_X3_cell_32 Q x1 x2 x3 x4 M L) else (w_X3_cell_33 Q x1 x2 x3 x4 (1 : Int32) M L)) x4 (0 : Int32) (11 : Int32))) x3 (0 : Int32) (15 : Int32))) x2
set_option maxRecDepth 100000 in
set_option maxHeartbeats 4000000 in
theorem wk_X3_cell {p : Program} {l : Launch} {e : Env} {R : Room} {s : State} {m : MethodId} {args : Array Value} {below : List Frame} {meth : Method} {c : Code} {cells slots : Nat} {Z : State → Prop} {A : Nat → Prop} {E : mE} (Q : Int32 → MM → ML → Prop) (C : mC p m c s args cX3_cell 6 E) (hA : ∀ q, s.heap.size ≤ q → A q) (hAw : ∀ q, mAd E q → A q) (hRf : 32 ≤ R.frames) (hRl : 839 ≤ R.locals) (hcs : cells ≤ R.cells ∧ slots ≤ R.slots) (M : MM) (L : ML) (hret : ∀ (v : Int32) (M : MM) (L : ML) (pc : Nat) (ls : Array Slot) (H : Heap) (locs : List Loc), decode cX3_cell pc = .ok (.ireturn, 1) → va_S A s.heap H locs → mW E M L H → Q v M L → W p l e R s m args below meth c H locs cells slots Z (F0 m pc ls [.int v])) (x1 : Int32) (x2 : Int32) (x3 : Int32) (x4 : Int32) : w_X3_cell Q x1 x2 x3 x4 M L → ∀ (ls : Array Slot) (H : Heap) (locs : List Loc), lv_has ls 6 [(0, .ref (mh E)), (1, .int x1), (2, .int x2), (3, .int x3), (4, .int x4)] → mW E M L H → va_S A s.heap H locs → W p l e R s m args below meth c H locs cells slots Z (F0 m 0 ls []) := by
  obtain ⟨⟨hx, hb, hml, hown, hts⟩, hK⟩ := C; have C : mC p m c s args cX3_cell 6 E := ⟨⟨hx, hb, hml, hown, hts⟩, hK⟩
  have hb33 : ∀ (y0 : Int32) (M : MM) (L : ML), w_X3_cell_33 Q x1 x2 x3 x4 y0 M L → ∀ (ls : Array Slot) (H : Heap) (locs : List Loc), lv_has ls 6 [(0, .ref (mh E)), (1, .int x1), (2, .int x2), (3, .int x3), (4, .int x4)] → mW E M L H → va_S A s.heap H locs → W p l e R s m args below meth c H locs cells slots Z (F0 m 33 ls [.int y0]) := by
    intro y0 M L h
    intro ls H locs hl hW hS
    refine lv_istore (lv' := [(5, .int y0), (0, .ref (mh E)), (1, .int x1), (2, .int x2), (3, .int x3), (4, .int x4)]) hx hb dX3_cell_33 hl (by decide) rfl (fun ls hl => ?_)
    refine lv_aload_n hx hb dX3_cell_35 rfl (lv_at hl 1 rfl) ?_
    refine lv_aload_n hx hb dX3_cell_36 rfl (lv_at hl 1 rfl) ?_
    refine lv_iload_n hx hb dX3_cell_37 rfl (lv_at hl 2 rfl) ?_
    refine call_X3_isComposition (ct_X3_isComposition l) C.1 C.2 hW hS hA q1918 (le_lit hRf rfl) (le_lit hRl rfl) hcs hl.1 (Nat.le_of_ble_eq_true rfl) dX3_cell_38 h (fun r1 H locs h hk hS => ?_)
    have hW := hW.kept hk
    refine lv_iload hx hb dX3_cell_41 (lv_at hl 0 rfl) ?_
    refine lv_iconst (v := 1) hx hb dX3_cell_43 (by decide) ?_
    refine call_X3_check (ct_X3_check l) C.1 C.2 hW hS hA hAw q1907 (le_lit hRf rfl) (le_lit hRl rfl) hcs hl.1 (Nat.le_of_ble_eq_true rfl) dX3_cell_44 h (fun r2 M3 H locs h hW hS _ => ?_)
    refine lv_if_ne (tgt := 52) hx hb dX3_cell_47 (by decide) (fun c7 => ?_) (fun c7 => ?_)
    · have h := wif_f h c7
      refine lv_aload_n hx hb dX3_cell_52 rfl (lv_at hl 1 rfl) ?_
      refine lv_iload_n hx hb dX3_cell_53 rfl (lv_at hl 2 rfl) ?_
      refine lv_iload_n hx hb dX3_cell_54 rfl (lv_at hl 3 rfl) ?_
      refine lv_iconst (v := 0) hx hb dX3_cell_55 (by decide) ?_
      refine lv_iconst (v := 0) hx hb dX3_cell_56 (by decide) ?_
      refine call_X3_draw (ct_X3_draw l 6) C.1 C.2 hW hS hA hAw q2082 (le_lit hRf rfl) (le_lit hRl rfl) hcs hl.1 (Nat.le_of_ble_eq_true rfl) dX3_cell_57 h (fun M4 L5 H locs h hW hS _ => ?_)
      refine lv_aload_n hx hb dX3_cell_60 rfl (lv_at hl 1 rfl) ?_
      refine mr_getA C hW 27 rfl rfl q1830 dX3_cell_61 ?_
      refine lv_bipush (v := 16) hx hb dX3_cell_64 (by decide) ?_
      refine lv_iload hx hb dX3_cell_66 (lv_at hl 5 rfl) ?_
      refine lv_imul hx hb dX3_cell_68 ?_
      refine lv_iload_n hx hb dX3_cell_69 rfl (lv_at hl 4 rfl) ?_
      refine lv_iadd hx hb dX3_cell_70 ?_
      refine mr_iald C hW 27 rfl rfl rfl h dX3_cell_71 (fun v6 h => ?_)
      exact hret _ _ _ _ _ _ _ dX3_cell_72 hS hW h
    · have h := wif_t h c7
      refine lv_iconst (v := 0) hx hb dX3_cell_50 (by decide) ?_
      exact hret _ _ _ _ _ _ _ dX3_cell_51 hS hW h
  have hb32 : ∀ (M : MM) (L : ML), w_X3_cell_32 Q x1 x2 x3 x4 M L → ∀ (ls : Array Slot) (H : Heap) (locs : List Loc), lv_has ls 6 [(0, .ref (mh E)), (1, .int x1), (2, .int x2), (3, .int x3), (4, .int x4)] → mW E M L H → va_S A s.heap H locs → W p l e R s m args below meth c H locs cells slots Z (F0 m 32 ls []) := by
    intro M L h
    intro ls H locs hl hW hS
    refine lv_iconst (v := 0) hx hb dX3_cell_32 (by decide) ?_
    exact hb33 _ _ _ h ls H locs (lv_sub hl [0, 1, 2, 3, 4] rfl) hW hS
  intro h
  intro ls H locs hl hW hS
  refine lv_iload_n hx hb dX3_cell_0 rfl (lv_at hl 2 rfl) ?_
  refine call_X3_isTime (ct_X3_isTime l) C.1 hS hA q1990 (le_lit hRf rfl) (le_lit hRl rfl) hcs hl.1 (Nat.le_of_ble_eq_true rfl) dX3_cell_1 h (fun r8 H locs h hk hS => ?_)
  have hW := hW.kept hk
  refine lv_if_eq (tgt := 32) hx hb dX3_cell_4 (by decide) (fun c13 => ?_) (fun c13 => ?_)
  · have h := wif_t h c13
    exact hb32 _ _ h ls H locs (lv_sub hl [0, 1, 2, 3, 4] rfl) hW hS
  · have h := wif_f h c13
    refine lv_iload_n hx hb dX3_cell_7 rfl (lv_at hl 3 rfl) ?_
    refine lv_iconst (v := 0) hx hb dX3_cell_8 (by decide) ?_
    refine lv_bipush (v := 15) hx hb dX3_cell_9 (by decide) ?_
    refine call_X3_isWithin (ct_X3_isWithin l) C.1 hS hA q1915 (le_lit hRf rfl) (le_lit hRl rfl) hcs hl.1 (Nat.le_of_ble_eq_true rfl) dX3_cell_11 h (fun r9 H locs h hk hS => ?_)
    have hW := hW.kept hk
    refine lv_if_eq (tgt := 32) hx hb dX3_cell_14 (by decide) (fun c12 => ?_) (fun c12 => ?_)
    · have h := wif_t h c12
      exact hb32 _ _ h ls H locs (lv_sub hl [0, 1, 2, 3, 4] rfl) hW hS
    · have h := wif_f h c12
      refine lv_iload hx hb dX3_cell_17 (lv_at hl 4 rfl) ?_
      refine lv_iconst (v := 0) hx hb dX3_cell_19 (by decide) ?_
      refine lv_bipush (v := 11) hx hb dX3_cell_20 (by decide) ?_
      refine call_X3_isWithin (ct_X3_isWithin l) C.1 hS hA q1915 (le_lit hRf rfl) (le_lit hRl rfl) hcs hl.1 (Nat.le_of_ble_eq_true rfl) dX3_cell_22 h (fun r10 H locs h hk hS => ?_)
      have hW := hW.kept hk
      refine lv_if_eq (tgt := 32) hx hb dX3_cell_25 (by decide) (fun c11 => ?_) (fun c11 => ?_)
      · have h := wif_t h c11
        exact hb32 _ _ h ls H locs (lv_sub hl [0, 1, 2, 3, 4] rfl) hW hS
      · have h := wif_f h c11
        refine lv_iconst (v := 1) hx hb dX3_cell_28 (by decide) ?_
        refine lv_goto (tgt := 33) hx hb dX3_cell_29 (by decide) ?_
        exact hb33 _ _ _ h ls H locs (lv_sub hl [0, 1, 2, 3, 4] rfl) hW hS
theorem ct_X3_cell (l : Launch) : CT_X3_cell l 32 839 w_X3_cell := by
  intro E M L sz Q x1 x2 x3 x4
  refine Met.ofW (cc := cX3_cell) (maxL := 6) (ret := (some .int)) (by decide) rfl ?_
  intro p e s m args below meth c s₁ B hml hv
  obtain ⟨rfl, hsz, hW, hK, h⟩ := hv
  subst hsz
  have hts := atoms_spec (ws := ws_ yX3_cell cX3_cell 6 (some .int)) B.pre
  have hts : ∀ w ∈ lw_all, w.before _ s = true := fun w h => hts w (List.mem_cons_of_mem _ h)
  have hl := lv_entry ([.ref (mh E), .int x1, .int x2, .int x3, .int x4]) (n := 6) (Nat.le_of_ble_eq_true rfl)
  rw [lg_entry_eq]
  generalize (lg_sl ([.ref (mh E), .int x1, .int x2, .int x3, .int x4]) ++ List.replicate (6 - (lg_sl ([.ref (mh E), .int x1, .int x2, .int x3, .int x4])).length) Slot.unset).toArray = ls at hl ⊢
  exact wk_X3_cell Q ⟨⟨B.exec, B.bytes, hml, findClass_of_methodNamed B.named, hts⟩, hK⟩ (fun q h => Or.inr h) (fun q h => Or.inl h) (Nat.le_refl _) (Nat.le_refl _) ⟨Nat.le_refl _, Nat.le_refl _⟩ M L (fun v M L pc ls H locs hd hS hW1 hQ => W.iret (v := v) B.exec B.bytes B.returns (fun t ht _ => ⟨⟨v, (M, L), rfl, hQ, by rw [← ht] at hW1; exact hW1⟩, hS.F ht⟩) hS.2.2 hd) x1 x2 x3 x4 h ls _ [] hl hW va_S.rf
def CT_X3_countCovered (l : Launch) (fr lo : Nat) (w : (Int32 → MM → ML → Prop) → Int32 → Int32 → MM → ML → Prop) : Prop := ∀ (E : mE) (M : MM) (L : ML) (sz : Nat) (Q : Int32 → MM → ML → Prop) (x1 : Int32) (x2 : Int32), Met l yX3_countCovered (ws_ yX3_countCovered cX3_countCovered 5 (some .int)) { frames := fr, cells := 0, slots := 0, locals := lo } (va_Pc [.ref (mh E), .int x1, .int x2] (fun U => U.heap.size = sz ∧ mW E M L U.heap ∧ mK E U ∧ w Q x1 x2 M L)) (va_Qi (fun r (u : MM × ML) => Q r u.1 u.2) (fun u t => mW E u.1 u.2 t.heap) (mA E sz)) 0 0 (mA E sz)
theorem call_X3_countCovered {p : Program} {l : Launch} {e : Env} {R : Room} {s : State} {m : MethodId} {args : Array Value} {below : List Frame} {meth : Method} {c : Code} {H : Heap} {locs : List Loc} {cells slots : Nat} {Z : State → Prop} {A : Nat → Prop} {cc : ByteArray} {nL pc : Nat} {ls : Array Slot} {rest : List Value} {own : String} {index fr lo : Nat} {w : (Int32 → MM → ML → Prop) → Int32 → Int32 → MM → ML → Prop} {E : mE} {M : MM} {L : ML} {x1 : Int32} {x2 : Int32} (hM : CT_X3_countCovered l fr lo w) (S : CallFix p m c cc nL s args lw_all own) (hK : mK E s) (hW : mW E M L H) (hS : va_S A s.heap H locs) (hA : ∀ q, s.heap.size ≤ q → A q) (hAw : ∀ q, mAd E q → A q) (hlink : Cond.methodLink own index yX3_countCovered ∈ lw_all) (hRf : fr + 1 ≤ R.frames) (hRl : 8 + (5 + 11) + lo ≤ R.locals) (hcs : cells ≤ R.cells ∧ slots ≤ R.slots) (hz : ls.size = nL) (hr8 : (rest.map fun v => v.category).sum ≤ 8) (hdg : decode cc pc = .ok (.invokevirtual index, 3)) {Q1 : Int32 → MM → ML → Prop} (h : w Q1 x1 x2 M L) (kk : ∀ (r : Int32) (M1 : MM) (L1 : ML) (H1 : Heap) (locs1 : List Loc), Q1 r M1 L1 → mW E M1 L1 H1 → va_S A s.heap H1 locs1 → (∀ q : Nat, q < H.size → ¬ mAd E q → H1[q]? = H[q]?) → W p l e R s m args below meth c H1 locs1 cells slots Z (F0 m (pc + 3) ls (.int r :: rest))) : W p l e R s m args below meth c H locs cells slots Z (F0 m pc ls (.int x2 :: .int x1 :: .ref (mh E) :: rest)) := by
  refine mw_i (sz := 0) (P := fun r M1 L1 => Q1 r M1 L1) (va_runV (As := [.int x1, .int x2]) (rest := rest) S (hM E M L H.size Q1 x1 x2) (cwV 2 S.2.2.2.2 (lw_V hlink q2148 qs52 q68 q2149) rfl rfl rfl (by decide +kernel) ⟨hRf, hRl⟩) ⟨fun a U g mk q => by obtain ⟨q0, q1, qW, qK, qw⟩ := q; exact ⟨q0, q1, qW, qK.moved (u := U) (U := U.calling g mk a) (Vm.Alike.refl U.vm), qw⟩, hW.recv (hK := hK), fun U hU hWm => ⟨rfl, by rw [hU], by rw [hU]; exact hW, hK.moved hWm.alike, h⟩⟩ rfl rfl hz rfl (lv_room hr8) hdg hcs) hS hA hAw (fun r M1 L1 H1 locs1 hp hW1 hz hk hS1 => ?_)
  exact kk r M1 L1 H1 locs1 hp hW1 hS1 hk
def w_X3_countCovered_37 (Q : Int32 → MM → ML → Prop) (rec13 : Int32 → Int32 → Prop) (x4 : Int32) (y0 : Int32) (y1 : Int32) (M : MM) (L : ML) : Prop := rec13 (y1 + y0) (x4 + (1 : Int32))
def w_X3_countCovered_h13 (Q : Int32 → MM → ML → Prop) (M : MM) (L : ML) (rec13 : Int32 → Int32 → Prop) (x3 : Int32) (x4 : Int32) : Prop := if (192 : Int32) ≤ x4 then (Q x3 M L) else (mRd (M 27) 1728 x4 (fun v1 => if v1 ≤ 0 then (w_X3_countCovered_37 Q rec13 x4 (0 : Int32) x3 M L) else (w_X3_countCovered_37 Q rec13 x4 (1 : Int32) x3 M L)))
def w_X3_countCovered_L13 (Q : Int32 → MM → ML → Prop) (M : MM) (L : ML) (x3 : Int32) (x4 : Int32) : Prop := wLoop (fun (rec : (Int32 × Int32) → Prop) (s : Int32 × Int32) => w_X3_countCovered_h13 Q M L (fun x3 x4 => rec (x3, x4)) s.1 s.2) (x3, x4)
def w_X3_countCovered (Q : Int32 → MM → ML → Prop) (x1 : Int32) (x2 : Int32) (M : MM) (L : ML) : Prop := w_X3_draw 6 (fun M4 L5 => w_X3_countCovered_L13 Q M4 L5 (0 : Int32) (0 : Int32)) x1 x2 (0 : Int32) (0 : Int32) M L
set_option maxRecDepth 100000 in
set_option maxHeartbeats 4000000 in
theorem wk_X3_countCovered {p : Program} {l : Launch} {e : Env} {R : Room} {s : State} {m : MethodId} {args : Array Value} {below : List Frame} {meth : Method} {c : Code} {cells slots : Nat} {Z : State → Prop} {A : Nat → Prop} {E : mE} (Q : Int32 → MM → ML → Prop) (C : mC p m c s args cX3_countCovered 5 E) (hA : ∀ q, s.heap.size ≤ q → A q) (hAw : ∀ q, mAd E q → A q) (hRf : 32 ≤ R.frames) (hRl : 839 ≤ R.locals) (hcs : cells ≤ R.cells ∧ slots ≤ R.slots) (M : MM) (L : ML) (hret : ∀ (v : Int32) (M : MM) (L : ML) (pc : Nat) (ls : Array Slot) (H : Heap) (locs : List Loc), decode cX3_countCovered pc = .ok (.ireturn, 1) → va_S A s.heap H locs → mW E M L H → Q v M L → W p l e R s m args below meth c H locs cells slots Z (F0 m pc ls [.int v])) (x1 : Int32) (x2 : Int32) : w_X3_countCovered Q x1 x2 M L → ∀ (ls : Array Slot) (H : Heap) (locs : List Loc), lv_has ls 5 [(0, .ref (mh E)), (1, .int x1), (2, .int x2)] → mW E M L H → va_S A s.heap H locs → W p l e R s m args below meth c H locs cells slots Z (F0 m 0 ls []) := by
  obtain ⟨⟨hx, hb, hml, hown, hts⟩, hK⟩ := C; have C : mC p m c s args cX3_countCovered 5 E := ⟨⟨hx, hb, hml, hown, hts⟩, hK⟩
  have hL13 : ∀ (M : MM) (L : ML) (x3 : Int32) (x4 : Int32), w_X3_countCovered_L13 Q M L x3 x4 → ∀ (ls : Array Slot) (H : Heap) (locs : List Loc), lv_has ls 5 [(0, .ref (mh E)), (3, .int x3), (4, .int x4)] → mW E M L H → va_S A s.heap H locs → W p l e R s m args below meth c H locs cells slots Z (F0 m 13 ls []) := by
    intro M L
    obtain ⟨G13, hG13⟩ : ∃ G : Int32 → Int32 → Prop, ∀ (x3 : Int32) (x4 : Int32), G x3 x4 ↔ (∀ (ls : Array Slot) (H : Heap) (locs : List Loc), lv_has ls 5 [(0, .ref (mh E)), (3, .int x3), (4, .int x4)] → mW E M L H → va_S A s.heap H locs → W p l e R s m args below meth c H locs cells slots Z (F0 m 13 ls [])) := ⟨fun x3 x4 => _, fun x3 x4 => Iff.rfl⟩
    have hB13 : ∀ (rec13 : Int32 → Int32 → Prop), (∀ (x3 : Int32) (x4 : Int32), rec13 x3 x4 → G13 x3 x4) → ∀ (x3 : Int32) (x4 : Int32), w_X3_countCovered_h13 Q M L rec13 x3 x4 → G13 x3 x4 := by
      intro rec13 hrec13
      have hb37 : ∀ (x4 : Int32) (y0 : Int32) (y1 : Int32), w_X3_countCovered_37 Q rec13 x4 y0 y1 M L → ∀ (ls : Array Slot) (H : Heap) (locs : List Loc), lv_has ls 5 [(0, .ref (mh E)), (4, .int x4)] → mW E M L H → va_S A s.heap H locs → W p l e R s m args below meth c H locs cells slots Z (F0 m 37 ls [.int y0, .int y1]) := by
        intro x4 y0 y1 h
        intro ls H locs hl hW hS
        refine lv_iadd hx hb dX3_countCovered_37 ?_
        refine lv_istore_n (lv' := [(3, .int (y1 + y0)), (0, .ref (mh E)), (4, .int x4)]) hx hb dX3_countCovered_38 rfl hl (by decide) rfl (fun ls hl => ?_)
        refine lv_iinc (v := x4 + (1 : Int32)) (lv' := [(4, .int (x4 + (1 : Int32))), (3, .int (y1 + y0)), (0, .ref (mh E))]) hx hb dX3_countCovered_39 hl (k := 2) rfl (congrArg (fun z => x4 + z) (by decide)) (by decide) rfl (fun ls hl => ?_)
        refine lv_goto (tgt := 13) hx hb dX3_countCovered_42 (by decide) ?_
        exact (hG13 _ _).mp (hrec13 _ _ h) ls H locs (lv_sub hl [2, 1, 0] rfl) hW hS
      intro x3 x4 h
      rw [hG13]
      intro ls H locs hl hW hS
      refine lv_iload hx hb dX3_countCovered_13 (lv_at hl 2 rfl) ?_
      refine lv_sipush (v := 192) hx hb dX3_countCovered_15 (by decide) ?_
      refine lv_icmp_ge (tgt := 45) hx hb dX3_countCovered_18 (by decide) (fun c3 => ?_) (fun c3 => ?_)
      · have h := wif_t h c3
        refine lv_iload_n hx hb dX3_countCovered_45 rfl (lv_at hl 1 rfl) ?_
        exact hret _ _ _ _ _ _ _ dX3_countCovered_46 hS hW h
      · have h := wif_f h c3
        refine lv_iload_n hx hb dX3_countCovered_21 rfl (lv_at hl 1 rfl) ?_
        refine lv_aload_n hx hb dX3_countCovered_22 rfl (lv_at hl 0 rfl) ?_
        refine mr_getA C hW 27 rfl rfl q1830 dX3_countCovered_23 ?_
        refine lv_iload hx hb dX3_countCovered_26 (lv_at hl 2 rfl) ?_
        refine mr_iald C hW 27 rfl rfl rfl h dX3_countCovered_28 (fun v1 h => ?_)
        refine lv_if_le (tgt := 36) hx hb dX3_countCovered_29 (by decide) (fun c2 => ?_) (fun c2 => ?_)
        · have h := wif_t h c2
          refine lv_iconst (v := 0) hx hb dX3_countCovered_36 (by decide) ?_
          exact hb37 _ _ _ h ls H locs (lv_sub hl [0, 2] rfl) hW hS
        · have h := wif_f h c2
          refine lv_iconst (v := 1) hx hb dX3_countCovered_32 (by decide) ?_
          refine lv_goto (tgt := 37) hx hb dX3_countCovered_33 (by decide) ?_
          exact hb37 _ _ _ h ls H locs (lv_sub hl [0, 2] rfl) hW hS
    intro x3 x4 h
    exact (hG13 x3 x4).mp (loop_walk (fun s => G13 s.1 s.2) (fun rec hrec s h => hB13 (fun x3 x4 => rec (x3, x4)) (fun x3 x4 h => hrec (x3, x4) h) s.1 s.2 h) (x3, x4) h)
  intro h
  intro ls H locs hl hW hS
  refine lv_aload_n hx hb dX3_countCovered_0 rfl (lv_at hl 0 rfl) ?_
  refine lv_iload_n hx hb dX3_countCovered_1 rfl (lv_at hl 1 rfl) ?_
  refine lv_iload_n hx hb dX3_countCovered_2 rfl (lv_at hl 2 rfl) ?_
  refine lv_iconst (v := 0) hx hb dX3_countCovered_3 (by decide) ?_
  refine lv_iconst (v := 0) hx hb dX3_countCovered_4 (by decide) ?_
  refine call_X3_draw (ct_X3_draw l 6) C.1 C.2 hW hS hA hAw q2082 (le_lit hRf rfl) (le_lit hRl rfl) hcs hl.1 (Nat.le_of_ble_eq_true rfl) dX3_countCovered_5 h (fun M4 L5 H locs h hW hS _ => ?_)
  refine lv_iconst (v := 0) hx hb dX3_countCovered_8 (by decide) ?_
  refine lv_istore_n (lv' := [(3, .int (0 : Int32)), (0, .ref (mh E)), (1, .int x1), (2, .int x2)]) hx hb dX3_countCovered_9 rfl hl (by decide) rfl (fun ls hl => ?_)
  refine lv_iconst (v := 0) hx hb dX3_countCovered_10 (by decide) ?_
  refine lv_istore (lv' := [(4, .int (0 : Int32)), (3, .int (0 : Int32)), (0, .ref (mh E)), (1, .int x1), (2, .int x2)]) hx hb dX3_countCovered_11 hl (by decide) rfl (fun ls hl => ?_)
  exact hL13 _ _ _ _ h ls H locs (lv_sub hl [2, 1, 0] rfl) hW hS
theorem ct_X3_countCovered (l : Launch) : CT_X3_countCovered l 32 839 w_X3_countCovered := by
  intro E M L sz Q x1 x2
  refine Met.ofW (cc := cX3_countCovered) (maxL := 5) (ret := (some .int)) (by decide) rfl ?_
  intro p e s m args below meth c s₁ B hml hv
  obtain ⟨rfl, hsz, hW, hK, h⟩ := hv
  subst hsz
  have hts := atoms_spec (ws := ws_ yX3_countCovered cX3_countCovered 5 (some .int)) B.pre
  have hts : ∀ w ∈ lw_all, w.before _ s = true := fun w h => hts w (List.mem_cons_of_mem _ h)
  have hl := lv_entry ([.ref (mh E), .int x1, .int x2]) (n := 5) (Nat.le_of_ble_eq_true rfl)
  rw [lg_entry_eq]
  generalize (lg_sl ([.ref (mh E), .int x1, .int x2]) ++ List.replicate (5 - (lg_sl ([.ref (mh E), .int x1, .int x2])).length) Slot.unset).toArray = ls at hl ⊢
  exact wk_X3_countCovered Q ⟨⟨B.exec, B.bytes, hml, findClass_of_methodNamed B.named, hts⟩, hK⟩ (fun q h => Or.inr h) (fun q h => Or.inl h) (Nat.le_refl _) (Nat.le_refl _) ⟨Nat.le_refl _, Nat.le_refl _⟩ M L (fun v M L pc ls H locs hd hS hW1 hQ => W.iret (v := v) B.exec B.bytes B.returns (fun t ht _ => ⟨⟨v, (M, L), rfl, hQ, by rw [← ht] at hW1; exact hW1⟩, hS.F ht⟩) hS.2.2 hd) x1 x2 h ls _ [] hl hW va_S.rf
def CT_X3_covered (l : Launch) (fr lo : Nat) (w : (Int32 → MM → ML → Prop) → Int32 → Int32 → MM → ML → Prop) : Prop := ∀ (E : mE) (M : MM) (L : ML) (sz : Nat) (Q : Int32 → MM → ML → Prop) (x1 : Int32) (x2 : Int32), Met l yX3_covered (ws_ yX3_covered cX3_covered 3 (some .int)) { frames := fr, cells := 0, slots := 0, locals := lo } (va_Pc [.ref (mh E), .int x1, .int x2] (fun U => U.heap.size = sz ∧ mW E M L U.heap ∧ mK E U ∧ w Q x1 x2 M L)) (va_Qi (fun r (u : MM × ML) => Q r u.1 u.2) (fun u t => mW E u.1 u.2 t.heap) (mA E sz)) 0 0 (mA E sz)
theorem call_X3_covered {p : Program} {l : Launch} {e : Env} {R : Room} {s : State} {m : MethodId} {args : Array Value} {below : List Frame} {meth : Method} {c : Code} {H : Heap} {locs : List Loc} {cells slots : Nat} {Z : State → Prop} {A : Nat → Prop} {cc : ByteArray} {nL pc : Nat} {ls : Array Slot} {rest : List Value} {own : String} {index fr lo : Nat} {w : (Int32 → MM → ML → Prop) → Int32 → Int32 → MM → ML → Prop} {E : mE} {M : MM} {L : ML} {x1 : Int32} {x2 : Int32} (hM : CT_X3_covered l fr lo w) (S : CallFix p m c cc nL s args lw_all own) (hK : mK E s) (hW : mW E M L H) (hS : va_S A s.heap H locs) (hA : ∀ q, s.heap.size ≤ q → A q) (hAw : ∀ q, mAd E q → A q) (hlink : Cond.methodLink own index yX3_covered ∈ lw_all) (hRf : fr + 1 ≤ R.frames) (hRl : 8 + (3 + 11) + lo ≤ R.locals) (hcs : cells ≤ R.cells ∧ slots ≤ R.slots) (hz : ls.size = nL) (hr8 : (rest.map fun v => v.category).sum ≤ 8) (hdg : decode cc pc = .ok (.invokevirtual index, 3)) {Q1 : Int32 → MM → ML → Prop} (h : w Q1 x1 x2 M L) (kk : ∀ (r : Int32) (M1 : MM) (L1 : ML) (H1 : Heap) (locs1 : List Loc), Q1 r M1 L1 → mW E M1 L1 H1 → va_S A s.heap H1 locs1 → (∀ q : Nat, q < H.size → ¬ mAd E q → H1[q]? = H[q]?) → W p l e R s m args below meth c H1 locs1 cells slots Z (F0 m (pc + 3) ls (.int r :: rest))) : W p l e R s m args below meth c H locs cells slots Z (F0 m pc ls (.int x2 :: .int x1 :: .ref (mh E) :: rest)) := by
  refine mw_i (sz := 0) (P := fun r M1 L1 => Q1 r M1 L1) (va_runV (As := [.int x1, .int x2]) (rest := rest) S (hM E M L H.size Q1 x1 x2) (cwV 2 S.2.2.2.2 (lw_V hlink q2143 q2144 q68 q2145) rfl rfl rfl (by decide +kernel) ⟨hRf, hRl⟩) ⟨fun a U g mk q => by obtain ⟨q0, q1, qW, qK, qw⟩ := q; exact ⟨q0, q1, qW, qK.moved (u := U) (U := U.calling g mk a) (Vm.Alike.refl U.vm), qw⟩, hW.recv (hK := hK), fun U hU hWm => ⟨rfl, by rw [hU], by rw [hU]; exact hW, hK.moved hWm.alike, h⟩⟩ rfl rfl hz rfl (lv_room hr8) hdg hcs) hS hA hAw (fun r M1 L1 H1 locs1 hp hW1 hz hk hS1 => ?_)
  exact kk r M1 L1 H1 locs1 hp hW1 hS1 hk
def w_X3_covered (Q : Int32 → MM → ML → Prop) (x1 : Int32) (x2 : Int32) (M : MM) (L : ML) : Prop := w_X3_isComposition (fun r1 => w_X3_isTime (fun r2 => w_X3_check (fun r3 M4 => if r3 = 0 then (Q (0 : Int32) M4 L) else (w_X3_countCovered (fun r5 M6 L7 => Q r5 M6 L7) x1 x2 M4 L)) r1 r2 (1 : Int32) M) x2) x1 M
set_option maxRecDepth 100000 in
set_option maxHeartbeats 4000000 in
theorem wk_X3_covered {p : Program} {l : Launch} {e : Env} {R : Room} {s : State} {m : MethodId} {args : Array Value} {below : List Frame} {meth : Method} {c : Code} {cells slots : Nat} {Z : State → Prop} {A : Nat → Prop} {E : mE} (Q : Int32 → MM → ML → Prop) (C : mC p m c s args cX3_covered 3 E) (hA : ∀ q, s.heap.size ≤ q → A q) (hAw : ∀ q, mAd E q → A q) (hRf : 33 ≤ R.frames) (hRl : 863 ≤ R.locals) (hcs : cells ≤ R.cells ∧ slots ≤ R.slots) (M : MM) (L : ML) (hret : ∀ (v : Int32) (M : MM) (L : ML) (pc : Nat) (ls : Array Slot) (H : Heap) (locs : List Loc), decode cX3_covered pc = .ok (.ireturn, 1) → va_S A s.heap H locs → mW E M L H → Q v M L → W p l e R s m args below meth c H locs cells slots Z (F0 m pc ls [.int v])) (x1 : Int32) (x2 : Int32) : w_X3_covered Q x1 x2 M L → ∀ (ls : Array Slot) (H : Heap) (locs : List Loc), lv_has ls 3 [(0, .ref (mh E)), (1, .int x1), (2, .int x2)] → mW E M L H → va_S A s.heap H locs → W p l e R s m args below meth c H locs cells slots Z (F0 m 0 ls []) := by
  obtain ⟨⟨hx, hb, hml, hown, hts⟩, hK⟩ := C; have C : mC p m c s args cX3_covered 3 E := ⟨⟨hx, hb, hml, hown, hts⟩, hK⟩
  intro h
  intro ls H locs hl hW hS
  refine lv_aload_n hx hb dX3_covered_0 rfl (lv_at hl 0 rfl) ?_
  refine lv_aload_n hx hb dX3_covered_1 rfl (lv_at hl 0 rfl) ?_
  refine lv_iload_n hx hb dX3_covered_2 rfl (lv_at hl 1 rfl) ?_
  refine call_X3_isComposition (ct_X3_isComposition l) C.1 C.2 hW hS hA q1918 (le_lit hRf rfl) (le_lit hRl rfl) hcs hl.1 (Nat.le_of_ble_eq_true rfl) dX3_covered_3 h (fun r1 H locs h hk hS => ?_)
  have hW := hW.kept hk
  refine lv_iload_n hx hb dX3_covered_6 rfl (lv_at hl 2 rfl) ?_
  refine call_X3_isTime (ct_X3_isTime l) C.1 hS hA q1990 (le_lit hRf rfl) (le_lit hRl rfl) hcs hl.1 (Nat.le_of_ble_eq_true rfl) dX3_covered_7 h (fun r2 H locs h hk hS => ?_)
  have hW := hW.kept hk
  refine lv_iconst (v := 1) hx hb dX3_covered_10 (by decide) ?_
  refine call_X3_check (ct_X3_check l) C.1 C.2 hW hS hA hAw q1907 (le_lit hRf rfl) (le_lit hRl rfl) hcs hl.1 (Nat.le_of_ble_eq_true rfl) dX3_covered_11 h (fun r3 M4 H locs h hW hS _ => ?_)
  refine lv_if_eq (tgt := 26) hx hb dX3_covered_14 (by decide) (fun c8 => ?_) (fun c8 => ?_)
  · have h := wif_t h c8
    refine lv_iconst (v := 0) hx hb dX3_covered_26 (by decide) ?_
    exact hret _ _ _ _ _ _ _ dX3_covered_27 hS hW h
  · have h := wif_f h c8
    refine lv_aload_n hx hb dX3_covered_17 rfl (lv_at hl 0 rfl) ?_
    refine lv_iload_n hx hb dX3_covered_18 rfl (lv_at hl 1 rfl) ?_
    refine lv_iload_n hx hb dX3_covered_19 rfl (lv_at hl 2 rfl) ?_
    refine call_X3_countCovered (ct_X3_countCovered l) C.1 C.2 hW hS hA hAw q2146 (le_lit hRf rfl) (le_lit hRl rfl) hcs hl.1 (Nat.le_of_ble_eq_true rfl) dX3_covered_20 h (fun r5 M6 L7 H locs h hW hS _ => ?_)
    refine lv_goto (tgt := 27) hx hb dX3_covered_23 (by decide) ?_
    exact hret _ _ _ _ _ _ _ dX3_covered_27 hS hW h
theorem ct_X3_covered (l : Launch) : CT_X3_covered l 33 863 w_X3_covered := by
  intro E M L sz Q x1 x2
  refine Met.ofW (cc := cX3_covered) (maxL := 3) (ret := (some .int)) (by decide) rfl ?_
  intro p e s m args below meth c s₁ B hml hv
  obtain ⟨rfl, hsz, hW, hK, h⟩ := hv
  subst hsz
  have hts := atoms_spec (ws := ws_ yX3_covered cX3_covered 3 (some .int)) B.pre
  have hts : ∀ w ∈ lw_all, w.before _ s = true := fun w h => hts w (List.mem_cons_of_mem _ h)
  have hl := lv_entry ([.ref (mh E), .int x1, .int x2]) (n := 3) (Nat.le_of_ble_eq_true rfl)
  rw [lg_entry_eq]
  generalize (lg_sl ([.ref (mh E), .int x1, .int x2]) ++ List.replicate (3 - (lg_sl ([.ref (mh E), .int x1, .int x2])).length) Slot.unset).toArray = ls at hl ⊢
  exact wk_X3_covered Q ⟨⟨B.exec, B.bytes, hml, findClass_of_methodNamed B.named, hts⟩, hK⟩ (fun q h => Or.inr h) (fun q h => Or.inl h) (Nat.le_refl _) (Nat.le_refl _) ⟨Nat.le_refl _, Nat.le_refl _⟩ M L (fun v M L pc ls H locs hd hS hW1 hQ => W.iret (v := v) B.exec B.bytes B.returns (fun t ht _ => ⟨⟨v, (M, L), rfl, hQ, by rw [← ht] at hW1; exact hW1⟩, hS.F ht⟩) hS.2.2 hd) x1 x2 h ls _ [] hl hW va_S.rf
def CT_X3_checksum (l : Launch) (fr lo : Nat) (w : (Int32 → MM → ML → Prop) → Int32 → Int32 → MM → ML → Prop) : Prop := ∀ (E : mE) (M : MM) (L : ML) (sz : Nat) (Q : Int32 → MM → ML → Prop) (x1 : Int32) (x2 : Int32), Met l yX3_checksum (ws_ yX3_checksum cX3_checksum 5 (some .int)) { frames := fr, cells := 0, slots := 0, locals := lo } (va_Pc [.ref (mh E), .int x1, .int x2] (fun U => U.heap.size = sz ∧ mW E M L U.heap ∧ mK E U ∧ w Q x1 x2 M L)) (va_Qi (fun r (u : MM × ML) => Q r u.1 u.2) (fun u t => mW E u.1 u.2 t.heap) (mA E sz)) 0 0 (mA E sz)
theorem call_X3_checksum {p : Program} {l : Launch} {e : Env} {R : Room} {s : State} {m : MethodId} {args : Array Value} {below : List Frame} {meth : Method} {c : Code} {H : Heap} {locs : List Loc} {cells slots : Nat} {Z : State → Prop} {A : Nat → Prop} {cc : ByteArray} {nL pc : Nat} {ls : Array Slot} {rest : List Value} {own : String} {index fr lo : Nat} {w : (Int32 → MM → ML → Prop) → Int32 → Int32 → MM → ML → Prop} {E : mE} {M : MM} {L : ML} {x1 : Int32} {x2 : Int32} (hM : CT_X3_checksum l fr lo w) (S : CallFix p m c cc nL s args lw_all own) (hK : mK E s) (hW : mW E M L H) (hS : va_S A s.heap H locs) (hA : ∀ q, s.heap.size ≤ q → A q) (hAw : ∀ q, mAd E q → A q) (hlink : Cond.methodLink own index yX3_checksum ∈ lw_all) (hRf : fr + 1 ≤ R.frames) (hRl : 8 + (5 + 11) + lo ≤ R.locals) (hcs : cells ≤ R.cells ∧ slots ≤ R.slots) (hz : ls.size = nL) (hr8 : (rest.map fun v => v.category).sum ≤ 8) (hdg : decode cc pc = .ok (.invokevirtual index, 3)) {Q1 : Int32 → MM → ML → Prop} (h : w Q1 x1 x2 M L) (kk : ∀ (r : Int32) (M1 : MM) (L1 : ML) (H1 : Heap) (locs1 : List Loc), Q1 r M1 L1 → mW E M1 L1 H1 → va_S A s.heap H1 locs1 → (∀ q : Nat, q < H.size → ¬ mAd E q → H1[q]? = H[q]?) → W p l e R s m args below meth c H1 locs1 cells slots Z (F0 m (pc + 3) ls (.int r :: rest))) : W p l e R s m args below meth c H locs cells slots Z (F0 m pc ls (.int x2 :: .int x1 :: .ref (mh E) :: rest)) := by
  refine mw_i (sz := 0) (P := fun r M1 L1 => Q1 r M1 L1) (va_runV (As := [.int x1, .int x2]) (rest := rest) S (hM E M L H.size Q1 x1 x2) (cwV 2 S.2.2.2.2 (lw_V hlink q2151 q2152 q68 q2153) rfl rfl rfl (by decide +kernel) ⟨hRf, hRl⟩) ⟨fun a U g mk q => by obtain ⟨q0, q1, qW, qK, qw⟩ := q; exact ⟨q0, q1, qW, qK.moved (u := U) (U := U.calling g mk a) (Vm.Alike.refl U.vm), qw⟩, hW.recv (hK := hK), fun U hU hWm => ⟨rfl, by rw [hU], by rw [hU]; exact hW, hK.moved hWm.alike, h⟩⟩ rfl rfl hz rfl (lv_room hr8) hdg hcs) hS hA hAw (fun r M1 L1 H1 locs1 hp hW1 hz hk hS1 => ?_)
  exact kk r M1 L1 H1 locs1 hp hW1 hS1 hk
def w_X3_checksum_h32 (Q : Int32 → MM → ML → Prop) (M : MM) (L : ML) (rec32 : Int32 → Int32 → Prop) (x3 : Int32) (x4 : Int32) : Prop := if (192 : Int32) ≤ x4 then (Q x3 M L) else (mRd (M 27) 1728 x4 (fun v1 => rec32 (((31 : Int32) * x3) + v1) (x4 + (1 : Int32))))
def w_X3_checksum_L32 (Q : Int32 → MM → ML → Prop) (M : MM) (L : ML) (x3 : Int32) (x4 : Int32) : Prop := wLoop (fun (rec : (Int32 × Int32) → Prop) (s : Int32 × Int32) => w_X3_checksum_h32 Q M L (fun x3 x4 => rec (x3, x4)) s.1 s.2) (x3, x4)
def w_X3_checksum (Q : Int32 → MM → ML → Prop) (x1 : Int32) (x2 : Int32) (M : MM) (L : ML) : Prop := w_X3_isComposition (fun r3 => w_X3_isTime (fun r4 => w_X3_check (fun r5 M6 => if r5 = 0 then (Q (0 : Int32) M6 L) else (w_X3_draw 6 (fun M7 L8 => w_X3_checksum_L32 Q M7 L8 (0 : Int32) (0 : Int32)) x1 x2 (0 : Int32) (0 : Int32) M6 L)) r3 r4 (1 : Int32) M) x2) x1 M
set_option maxRecDepth 100000 in
set_option maxHeartbeats 4000000 in
theorem wk_X3_checksum {p : Program} {l : Launch} {e : Env} {R : Room} {s : State} {m : MethodId} {args : Array Value} {below : List Frame} {meth : Method} {c : Code} {cells slots : Nat} {Z : State → Prop} {A : Nat → Prop} {E : mE} (Q : Int32 → MM → ML → Prop) (C : mC p m c s args cX3_checksum 5 E) (hA : ∀ q, s.heap.size ≤ q → A q) (hAw : ∀ q, mAd E q → A q) (hRf : 32 ≤ R.frames) (hRl : 839 ≤ R.locals) (hcs : cells ≤ R.cells ∧ slots ≤ R.slots) (M : MM) (L : ML) (hret : ∀ (v : Int32) (M : MM) (L : ML) (pc : Nat) (ls : Array Slot) (H : Heap) (locs : List Loc), decode cX3_checksum pc = .ok (.ireturn, 1) → va_S A s.heap H locs → mW E M L H → Q v M L → W p l e R s m args below meth c H locs cells slots Z (F0 m pc ls [.int v])) (x1 : Int32) (x2 : Int32) : w_X3_checksum Q x1 x2 M L → ∀ (ls : Array Slot) (H : Heap) (locs : List Loc), lv_has ls 5 [(0, .ref (mh E)), (1, .int x1), (2, .int x2)] → mW E M L H → va_S A s.heap H locs → W p l e R s m args below meth c H locs cells slots Z (F0 m 0 ls []) := by
  obtain ⟨⟨hx, hb, hml, hown, hts⟩, hK⟩ := C; have C : mC p m c s args cX3_checksum 5 E := ⟨⟨hx, hb, hml, hown, hts⟩, hK⟩
  have hL32 : ∀ (M : MM) (L : ML) (x3 : Int32) (x4 : Int32), w_X3_checksum_L32 Q M L x3 x4 → ∀ (ls : Array Slot) (H : Heap) (locs : List Loc), lv_has ls 5 [(0, .ref (mh E)), (3, .int x3), (4, .int x4)] → mW E M L H → va_S A s.heap H locs → W p l e R s m args below meth c H locs cells slots Z (F0 m 32 ls []) := by
    intro M L
    obtain ⟨G32, hG32⟩ : ∃ G : Int32 → Int32 → Prop, ∀ (x3 : Int32) (x4 : Int32), G x3 x4 ↔ (∀ (ls : Array Slot) (H : Heap) (locs : List Loc), lv_has ls 5 [(0, .ref (mh E)), (3, .int x3), (4, .int x4)] → mW E M L H → va_S A s.heap H locs → W p l e R s m args below meth c H locs cells slots Z (F0 m 32 ls [])) := ⟨fun x3 x4 => _, fun x3 x4 => Iff.rfl⟩
    have hB32 : ∀ (rec32 : Int32 → Int32 → Prop), (∀ (x3 : Int32) (x4 : Int32), rec32 x3 x4 → G32 x3 x4) → ∀ (x3 : Int32) (x4 : Int32), w_X3_checksum_h32 Q M L rec32 x3 x4 → G32 x3 x4 := by
      intro rec32 hrec32
      intro x3 x4 h
      rw [hG32]
      intro ls H locs hl hW hS
      refine lv_iload hx hb dX3_checksum_32 (lv_at hl 2 rfl) ?_
      refine lv_sipush (v := 192) hx hb dX3_checksum_34 (by decide) ?_
      refine lv_icmp_ge (tgt := 59) hx hb dX3_checksum_37 (by decide) (fun c2 => ?_) (fun c2 => ?_)
      · have h := wif_t h c2
        refine lv_iload_n hx hb dX3_checksum_59 rfl (lv_at hl 1 rfl) ?_
        exact hret _ _ _ _ _ _ _ dX3_checksum_60 hS hW h
      · have h := wif_f h c2
        refine lv_bipush (v := 31) hx hb dX3_checksum_40 (by decide) ?_
        refine lv_iload_n hx hb dX3_checksum_42 rfl (lv_at hl 1 rfl) ?_
        refine lv_imul hx hb dX3_checksum_43 ?_
        refine lv_aload_n hx hb dX3_checksum_44 rfl (lv_at hl 0 rfl) ?_
        refine mr_getA C hW 27 rfl rfl q1830 dX3_checksum_45 ?_
        refine lv_iload hx hb dX3_checksum_48 (lv_at hl 2 rfl) ?_
        refine mr_iald C hW 27 rfl rfl rfl h dX3_checksum_50 (fun v1 h => ?_)
        refine lv_iadd hx hb dX3_checksum_51 ?_
        refine lv_istore_n (lv' := [(3, .int (((31 : Int32) * x3) + v1)), (0, .ref (mh E)), (4, .int x4)]) hx hb dX3_checksum_52 rfl hl (by decide) rfl (fun ls hl => ?_)
        refine lv_iinc (v := x4 + (1 : Int32)) (lv' := [(4, .int (x4 + (1 : Int32))), (3, .int (((31 : Int32) * x3) + v1)), (0, .ref (mh E))]) hx hb dX3_checksum_53 hl (k := 2) rfl (congrArg (fun z => x4 + z) (by decide)) (by decide) rfl (fun ls hl => ?_)
        refine lv_goto (tgt := 32) hx hb dX3_checksum_56 (by decide) ?_
        exact (hG32 _ _).mp (hrec32 _ _ h) ls H locs (lv_sub hl [2, 1, 0] rfl) hW hS
    intro x3 x4 h
    exact (hG32 x3 x4).mp (loop_walk (fun s => G32 s.1 s.2) (fun rec hrec s h => hB32 (fun x3 x4 => rec (x3, x4)) (fun x3 x4 h => hrec (x3, x4) h) s.1 s.2 h) (x3, x4) h)
  intro h
  intro ls H locs hl hW hS
  refine lv_aload_n hx hb dX3_checksum_0 rfl (lv_at hl 0 rfl) ?_
  refine lv_aload_n hx hb dX3_checksum_1 rfl (lv_at hl 0 rfl) ?_
  refine lv_iload_n hx hb dX3_checksum_2 rfl (lv_at hl 1 rfl) ?_
  refine call_X3_isComposition (ct_X3_isComposition l) C.1 C.2 hW hS hA q1918 (le_lit hRf rfl) (le_lit hRl rfl) hcs hl.1 (Nat.le_of_ble_eq_true rfl) dX3_checksum_3 h (fun r3 H locs h hk hS => ?_)
  have hW := hW.kept hk
  refine lv_iload_n hx hb dX3_checksum_6 rfl (lv_at hl 2 rfl) ?_
  refine call_X3_isTime (ct_X3_isTime l) C.1 hS hA q1990 (le_lit hRf rfl) (le_lit hRl rfl) hcs hl.1 (Nat.le_of_ble_eq_true rfl) dX3_checksum_7 h (fun r4 H locs h hk hS => ?_)
  have hW := hW.kept hk
  refine lv_iconst (v := 1) hx hb dX3_checksum_10 (by decide) ?_
  refine call_X3_check (ct_X3_check l) C.1 C.2 hW hS hA hAw q1907 (le_lit hRf rfl) (le_lit hRl rfl) hcs hl.1 (Nat.le_of_ble_eq_true rfl) dX3_checksum_11 h (fun r5 M6 H locs h hW hS _ => ?_)
  refine lv_if_ne (tgt := 19) hx hb dX3_checksum_14 (by decide) (fun c9 => ?_) (fun c9 => ?_)
  · have h := wif_f h c9
    refine lv_aload_n hx hb dX3_checksum_19 rfl (lv_at hl 0 rfl) ?_
    refine lv_iload_n hx hb dX3_checksum_20 rfl (lv_at hl 1 rfl) ?_
    refine lv_iload_n hx hb dX3_checksum_21 rfl (lv_at hl 2 rfl) ?_
    refine lv_iconst (v := 0) hx hb dX3_checksum_22 (by decide) ?_
    refine lv_iconst (v := 0) hx hb dX3_checksum_23 (by decide) ?_
    refine call_X3_draw (ct_X3_draw l 6) C.1 C.2 hW hS hA hAw q2082 (le_lit hRf rfl) (le_lit hRl rfl) hcs hl.1 (Nat.le_of_ble_eq_true rfl) dX3_checksum_24 h (fun M7 L8 H locs h hW hS _ => ?_)
    refine lv_iconst (v := 0) hx hb dX3_checksum_27 (by decide) ?_
    refine lv_istore_n (lv' := [(3, .int (0 : Int32)), (0, .ref (mh E)), (1, .int x1), (2, .int x2)]) hx hb dX3_checksum_28 rfl hl (by decide) rfl (fun ls hl => ?_)
    refine lv_iconst (v := 0) hx hb dX3_checksum_29 (by decide) ?_
    refine lv_istore (lv' := [(4, .int (0 : Int32)), (3, .int (0 : Int32)), (0, .ref (mh E)), (1, .int x1), (2, .int x2)]) hx hb dX3_checksum_30 hl (by decide) rfl (fun ls hl => ?_)
    exact hL32 _ _ _ _ h ls H locs (lv_sub hl [2, 1, 0] rfl) hW hS
  · have h := wif_t h c9
    refine lv_iconst (v := 0) hx hb dX3_checksum_17 (by decide) ?_
    exact hret _ _ _ _ _ _ _ dX3_checksum_18 hS hW h
theorem ct_X3_checksum (l : Launch) : CT_X3_checksum l 32 839 w_X3_checksum := by
  intro E M L sz Q x1 x2
  refine Met.ofW (cc := cX3_checksum) (maxL := 5) (ret := (some .int)) (by decide) rfl ?_
  intro p e s m args below meth c s₁ B hml hv
  obtain ⟨rfl, hsz, hW, hK, h⟩ := hv
  subst hsz
  have hts := atoms_spec (ws := ws_ yX3_checksum cX3_checksum 5 (some .int)) B.pre
  have hts : ∀ w ∈ lw_all, w.before _ s = true := fun w h => hts w (List.mem_cons_of_mem _ h)
  have hl := lv_entry ([.ref (mh E), .int x1, .int x2]) (n := 5) (Nat.le_of_ble_eq_true rfl)
  rw [lg_entry_eq]
  generalize (lg_sl ([.ref (mh E), .int x1, .int x2]) ++ List.replicate (5 - (lg_sl ([.ref (mh E), .int x1, .int x2])).length) Slot.unset).toArray = ls at hl ⊢
  exact wk_X3_checksum Q ⟨⟨B.exec, B.bytes, hml, findClass_of_methodNamed B.named, hts⟩, hK⟩ (fun q h => Or.inr h) (fun q h => Or.inl h) (Nat.le_refl _) (Nat.le_refl _) ⟨Nat.le_refl _, Nat.le_refl _⟩ M L (fun v M L pc ls H locs hd hS hW1 hQ => W.iret (v := v) B.exec B.bytes B.returns (fun t ht _ => ⟨⟨v, (M, L), rfl, hQ, by rw [← ht] at hW1; exact hW1⟩, hS.F ht⟩) hS.2.2 hd) x1 x2 h ls _ [] hl hW va_S.rf
def CT_X3_playErrors (l : Launch) (fr lo : Nat) (w : (Int32 → MM → Prop) → Int32 → Int32 → Int32 → MM → Prop) : Prop := ∀ (E : mE) (M : MM) (L : ML) (sz : Nat) (Q : Int32 → MM → Prop) (x1 : Int32) (x2 : Int32) (x3 : Int32), Met l yX3_playErrors (ws_ yX3_playErrors cX3_playErrors 5 (some .int)) { frames := fr, cells := 0, slots := 0, locals := lo } (va_Pc [.ref (mh E), .int x1, .int x2, .int x3] (fun U => U.heap.size = sz ∧ mW E M L U.heap ∧ mK E U ∧ w Q x1 x2 x3 M)) (va_Qi (fun r (u : MM × ML) => u.2 = L ∧ Q r u.1) (fun u t => mW E u.1 u.2 t.heap) (mA E sz)) 0 0 (mA E sz)
theorem call_X3_playErrors {p : Program} {l : Launch} {e : Env} {R : Room} {s : State} {m : MethodId} {args : Array Value} {below : List Frame} {meth : Method} {c : Code} {H : Heap} {locs : List Loc} {cells slots : Nat} {Z : State → Prop} {A : Nat → Prop} {cc : ByteArray} {nL pc : Nat} {ls : Array Slot} {rest : List Value} {own : String} {index fr lo : Nat} {w : (Int32 → MM → Prop) → Int32 → Int32 → Int32 → MM → Prop} {E : mE} {M : MM} {L : ML} {x1 : Int32} {x2 : Int32} {x3 : Int32} (hM : CT_X3_playErrors l fr lo w) (S : CallFix p m c cc nL s args lw_all own) (hK : mK E s) (hW : mW E M L H) (hS : va_S A s.heap H locs) (hA : ∀ q, s.heap.size ≤ q → A q) (hAw : ∀ q, mAd E q → A q) (hlink : Cond.methodLink own index yX3_playErrors ∈ lw_all) (hRf : fr + 1 ≤ R.frames) (hRl : 8 + (5 + 11) + lo ≤ R.locals) (hcs : cells ≤ R.cells ∧ slots ≤ R.slots) (hz : ls.size = nL) (hr8 : (rest.map fun v => v.category).sum ≤ 8) (hdg : decode cc pc = .ok (.invokevirtual index, 3)) {Q1 : Int32 → MM → Prop} (h : w Q1 x1 x2 x3 M) (kk : ∀ (r : Int32) (M1 : MM) (H1 : Heap) (locs1 : List Loc), Q1 r M1 → mW E M1 L H1 → va_S A s.heap H1 locs1 → (∀ q : Nat, q < H.size → ¬ mAd E q → H1[q]? = H[q]?) → W p l e R s m args below meth c H1 locs1 cells slots Z (F0 m (pc + 3) ls (.int r :: rest))) : W p l e R s m args below meth c H locs cells slots Z (F0 m pc ls (.int x3 :: .int x2 :: .int x1 :: .ref (mh E) :: rest)) := by
  refine mw_i (sz := 0) (P := fun r M1 L1 => L1 = L ∧ Q1 r M1) (va_runV (As := [.int x1, .int x2, .int x3]) (rest := rest) S (hM E M L H.size Q1 x1 x2 x3) (cwV 3 S.2.2.2.2 (lw_V hlink q2155 q2156 q68 q2157) rfl rfl rfl (by decide +kernel) ⟨hRf, hRl⟩) ⟨fun a U g mk q => by obtain ⟨q0, q1, qW, qK, qw⟩ := q; exact ⟨q0, q1, qW, qK.moved (u := U) (U := U.calling g mk a) (Vm.Alike.refl U.vm), qw⟩, hW.recv (hK := hK), fun U hU hWm => ⟨rfl, by rw [hU], by rw [hU]; exact hW, hK.moved hWm.alike, h⟩⟩ rfl rfl hz rfl (lv_room hr8) hdg hcs) hS hA hAw (fun r M1 L1 H1 locs1 hp hW1 hz hk hS1 => ?_)
  obtain ⟨rfl, hp⟩ := hp
  exact kk r M1 H1 locs1 hp hW1 hS1 hk
def w_X3_playErrors_28 (Q : Int32 → MM → Prop) (y0 : Int32) (y1 : Int32) (M : MM) : Prop := w_X3_check (fun r1 M2 => Q (0 : Int32) M2) y1 y0 (1 : Int32) M
def w_X3_playErrors_27 (Q : Int32 → MM → Prop) (y0 : Int32) (M : MM) : Prop := w_X3_playErrors_28 Q (0 : Int32) y0 M
def w_X3_playErrors (Q : Int32 → MM → Prop) (x1 : Int32) (x2 : Int32) (x3 : Int32) (M : MM) : Prop := w_X3_isComposition (fun r3 => w_X3_isTime (fun r4 => if r4 = 0 then (w_X3_playErrors_27 Q r3 M) else (w_X3_isWithin (fun r5 => if r5 = 0 then (w_X3_playErrors_27 Q r3 M) else (w_X3_playErrors_28 Q (1 : Int32) r3 M)) x3 (1 : Int32) (20 : Int32))) x2) x1 M
set_option maxRecDepth 100000 in
set_option maxHeartbeats 4000000 in
theorem wk_X3_playErrors {p : Program} {l : Launch} {e : Env} {R : Room} {s : State} {m : MethodId} {args : Array Value} {below : List Frame} {meth : Method} {c : Code} {cells slots : Nat} {Z : State → Prop} {A : Nat → Prop} {E : mE} (Q : Int32 → MM → Prop) (C : mC p m c s args cX3_playErrors 5 E) (hA : ∀ q, s.heap.size ≤ q → A q) (hAw : ∀ q, mAd E q → A q) (hRf : 2 ≤ R.frames) (hRl : 43 ≤ R.locals) (hcs : cells ≤ R.cells ∧ slots ≤ R.slots) (M : MM) (L : ML) (hret : ∀ (v : Int32) (M : MM) (pc : Nat) (ls : Array Slot) (H : Heap) (locs : List Loc), decode cX3_playErrors pc = .ok (.ireturn, 1) → va_S A s.heap H locs → mW E M L H → Q v M → W p l e R s m args below meth c H locs cells slots Z (F0 m pc ls [.int v])) (x1 : Int32) (x2 : Int32) (x3 : Int32) : w_X3_playErrors Q x1 x2 x3 M → ∀ (ls : Array Slot) (H : Heap) (locs : List Loc), lv_has ls 5 [(0, .ref (mh E)), (1, .int x1), (2, .int x2), (3, .int x3)] → mW E M L H → va_S A s.heap H locs → W p l e R s m args below meth c H locs cells slots Z (F0 m 0 ls []) := by
  obtain ⟨⟨hx, hb, hml, hown, hts⟩, hK⟩ := C; have C : mC p m c s args cX3_playErrors 5 E := ⟨⟨hx, hb, hml, hown, hts⟩, hK⟩
  have hb28 : ∀ (y0 : Int32) (y1 : Int32) (M : MM), w_X3_playErrors_28 Q y0 y1 M → ∀ (ls : Array Slot) (H : Heap) (locs : List Loc), lv_has ls 5 [] → mW E M L H → va_S A s.heap H locs → W p l e R s m args below meth c H locs cells slots Z (F0 m 28 ls [.int y0, .int y1, .ref (mh E)]) := by
    intro y0 y1 M h
    intro ls H locs hl hW hS
    refine lv_iconst (v := 1) hx hb dX3_playErrors_28 (by decide) ?_
    refine call_X3_check (ct_X3_check l) C.1 C.2 hW hS hA hAw q1907 (le_lit hRf rfl) (le_lit hRl rfl) hcs hl.1 (Nat.le_of_ble_eq_true rfl) dX3_playErrors_29 h (fun r1 M2 H locs h hW hS _ => ?_)
    refine lv_istore (lv' := [(4, .int r1)]) hx hb dX3_playErrors_32 hl (by decide) rfl (fun ls hl => ?_)
    refine lv_iconst (v := 0) hx hb dX3_playErrors_34 (by decide) ?_
    exact hret _ _ _ _ _ _ dX3_playErrors_35 hS hW h
  have hb27 : ∀ (y0 : Int32) (M : MM), w_X3_playErrors_27 Q y0 M → ∀ (ls : Array Slot) (H : Heap) (locs : List Loc), lv_has ls 5 [] → mW E M L H → va_S A s.heap H locs → W p l e R s m args below meth c H locs cells slots Z (F0 m 27 ls [.int y0, .ref (mh E)]) := by
    intro y0 M h
    intro ls H locs hl hW hS
    refine lv_iconst (v := 0) hx hb dX3_playErrors_27 (by decide) ?_
    exact hb28 _ _ _ h ls H locs (lv_sub hl [] rfl) hW hS
  intro h
  intro ls H locs hl hW hS
  refine lv_aload_n hx hb dX3_playErrors_0 rfl (lv_at hl 0 rfl) ?_
  refine lv_aload_n hx hb dX3_playErrors_1 rfl (lv_at hl 0 rfl) ?_
  refine lv_iload_n hx hb dX3_playErrors_2 rfl (lv_at hl 1 rfl) ?_
  refine call_X3_isComposition (ct_X3_isComposition l) C.1 C.2 hW hS hA q1918 (le_lit hRf rfl) (le_lit hRl rfl) hcs hl.1 (Nat.le_of_ble_eq_true rfl) dX3_playErrors_3 h (fun r3 H locs h hk hS => ?_)
  have hW := hW.kept hk
  refine lv_iload_n hx hb dX3_playErrors_6 rfl (lv_at hl 2 rfl) ?_
  refine call_X3_isTime (ct_X3_isTime l) C.1 hS hA q1990 (le_lit hRf rfl) (le_lit hRl rfl) hcs hl.1 (Nat.le_of_ble_eq_true rfl) dX3_playErrors_7 h (fun r4 H locs h hk hS => ?_)
  have hW := hW.kept hk
  refine lv_if_eq (tgt := 27) hx hb dX3_playErrors_10 (by decide) (fun c7 => ?_) (fun c7 => ?_)
  · have h := wif_t h c7
    exact hb27 _ _ h ls H locs (lv_sub hl [] rfl) hW hS
  · have h := wif_f h c7
    refine lv_iload_n hx hb dX3_playErrors_13 rfl (lv_at hl 3 rfl) ?_
    refine lv_iconst (v := 1) hx hb dX3_playErrors_14 (by decide) ?_
    refine lv_bipush (v := 20) hx hb dX3_playErrors_15 (by decide) ?_
    refine call_X3_isWithin (ct_X3_isWithin l) C.1 hS hA q1915 (le_lit hRf rfl) (le_lit hRl rfl) hcs hl.1 (Nat.le_of_ble_eq_true rfl) dX3_playErrors_17 h (fun r5 H locs h hk hS => ?_)
    have hW := hW.kept hk
    refine lv_if_eq (tgt := 27) hx hb dX3_playErrors_20 (by decide) (fun c6 => ?_) (fun c6 => ?_)
    · have h := wif_t h c6
      exact hb27 _ _ h ls H locs (lv_sub hl [] rfl) hW hS
    · have h := wif_f h c6
      refine lv_iconst (v := 1) hx hb dX3_playErrors_23 (by decide) ?_
      refine lv_goto (tgt := 28) hx hb dX3_playErrors_24 (by decide) ?_
      exact hb28 _ _ _ h ls H locs (lv_sub hl [] rfl) hW hS
theorem ct_X3_playErrors (l : Launch) : CT_X3_playErrors l 2 43 w_X3_playErrors := by
  intro E M L sz Q x1 x2 x3
  refine Met.ofW (cc := cX3_playErrors) (maxL := 5) (ret := (some .int)) (by decide) rfl ?_
  intro p e s m args below meth c s₁ B hml hv
  obtain ⟨rfl, hsz, hW, hK, h⟩ := hv
  subst hsz
  have hts := atoms_spec (ws := ws_ yX3_playErrors cX3_playErrors 5 (some .int)) B.pre
  have hts : ∀ w ∈ lw_all, w.before _ s = true := fun w h => hts w (List.mem_cons_of_mem _ h)
  have hl := lv_entry ([.ref (mh E), .int x1, .int x2, .int x3]) (n := 5) (Nat.le_of_ble_eq_true rfl)
  rw [lg_entry_eq]
  generalize (lg_sl ([.ref (mh E), .int x1, .int x2, .int x3]) ++ List.replicate (5 - (lg_sl ([.ref (mh E), .int x1, .int x2, .int x3])).length) Slot.unset).toArray = ls at hl ⊢
  exact wk_X3_playErrors Q ⟨⟨B.exec, B.bytes, hml, findClass_of_methodNamed B.named, hts⟩, hK⟩ (fun q h => Or.inr h) (fun q h => Or.inl h) (Nat.le_refl _) (Nat.le_refl _) ⟨Nat.le_refl _, Nat.le_refl _⟩ M L (fun v M pc ls H locs hd hS hW1 hQ => W.iret (v := v) B.exec B.bytes B.returns (fun t ht _ => ⟨⟨v, (M, L), rfl, ⟨rfl, hQ⟩, by rw [← ht] at hW1; exact hW1⟩, hS.F ht⟩) hS.2.2 hd) x1 x2 x3 h ls _ [] hl hW va_S.rf
def CT_X3_put (l : Launch) (fr lo : Nat) (w : (MM → Prop) → Int32 → MM → Prop) : Prop := ∀ (E : mE) (M : MM) (L : ML) (sz : Nat) (Q : MM → Prop) (x1 : Int32), Met l yX3_put (ws_ yX3_put cX3_put 2 none) { frames := fr, cells := 0, slots := 0, locals := lo } (va_Pc [.ref (mh E), .int x1] (fun U => U.heap.size = sz ∧ mW E M L U.heap ∧ mK E U ∧ w Q x1 M)) (va_Qv (fun (u : MM × ML) => u.2 = L ∧ Q u.1) (fun u t => mW E u.1 u.2 t.heap) (mA E sz)) 0 0 (mA E sz)
theorem call_X3_put {p : Program} {l : Launch} {e : Env} {R : Room} {s : State} {m : MethodId} {args : Array Value} {below : List Frame} {meth : Method} {c : Code} {H : Heap} {locs : List Loc} {cells slots : Nat} {Z : State → Prop} {A : Nat → Prop} {cc : ByteArray} {nL pc : Nat} {ls : Array Slot} {rest : List Value} {own : String} {index fr lo : Nat} {w : (MM → Prop) → Int32 → MM → Prop} {E : mE} {M : MM} {L : ML} {x1 : Int32} (hM : CT_X3_put l fr lo w) (S : CallFix p m c cc nL s args lw_all own) (hK : mK E s) (hW : mW E M L H) (hS : va_S A s.heap H locs) (hA : ∀ q, s.heap.size ≤ q → A q) (hAw : ∀ q, mAd E q → A q) (hlink : Cond.methodLink own index yX3_put ∈ lw_all) (hRf : fr + 1 ≤ R.frames) (hRl : 8 + (2 + 11) + lo ≤ R.locals) (hcs : cells ≤ R.cells ∧ slots ≤ R.slots) (hz : ls.size = nL) (hr8 : (rest.map fun v => v.category).sum ≤ 8) (hdg : decode cc pc = .ok (.invokevirtual index, 3)) {Q1 : MM → Prop} (h : w Q1 x1 M) (kk : ∀ (M1 : MM) (H1 : Heap) (locs1 : List Loc), Q1 M1 → mW E M1 L H1 → va_S A s.heap H1 locs1 → (∀ q : Nat, q < H.size → ¬ mAd E q → H1[q]? = H[q]?) → W p l e R s m args below meth c H1 locs1 cells slots Z (F0 m (pc + 3) ls (rest))) : W p l e R s m args below meth c H locs cells slots Z (F0 m pc ls (.int x1 :: .ref (mh E) :: rest)) := by
  refine mw_v (sz := 0) (P := fun M1 L1 => L1 = L ∧ Q1 M1) (va_runV (As := [.int x1]) (rest := rest) S (hM E M L H.size Q1 x1) (cwV 1 S.2.2.2.2 (lw_V hlink q2164 qs53 q68 q2165) rfl rfl rfl (by decide +kernel) ⟨hRf, hRl⟩) ⟨fun a U g mk q => by obtain ⟨q0, q1, qW, qK, qw⟩ := q; exact ⟨q0, q1, qW, qK.moved (u := U) (U := U.calling g mk a) (Vm.Alike.refl U.vm), qw⟩, hW.recv (hK := hK), fun U hU hWm => ⟨rfl, by rw [hU], by rw [hU]; exact hW, hK.moved hWm.alike, h⟩⟩ rfl rfl hz rfl (lv_room hr8) hdg hcs) hS hA hAw (fun M1 L1 H1 locs1 hp hW1 hz hk hS1 => ?_)
  obtain ⟨rfl, hp⟩ := hp
  exact kk M1 H1 locs1 hp hW1 hS1 hk
def w_X3_put (Q : MM → Prop) (x1 : Int32) (M : MM) : Prop := mWr M 28 64 (M 29 0) x1 (fun M1 => mPt M1 29 ((M1 29 0) + (1 : Int32)) (fun M2 => Q M2))
set_option maxRecDepth 100000 in
set_option maxHeartbeats 4000000 in
theorem wk_X3_put {p : Program} {l : Launch} {e : Env} {R : Room} {s : State} {m : MethodId} {args : Array Value} {below : List Frame} {meth : Method} {c : Code} {cells slots : Nat} {Z : State → Prop} {A : Nat → Prop} {E : mE} (Q : MM → Prop) (C : mC p m c s args cX3_put 2 E) (hA : ∀ q, s.heap.size ≤ q → A q) (hAw : ∀ q, mAd E q → A q) (hRf : 0 ≤ R.frames) (hRl : 0 ≤ R.locals) (hcs : cells ≤ R.cells ∧ slots ≤ R.slots) (M : MM) (L : ML) (hret : ∀ (M : MM) (pc : Nat) (ls : Array Slot) (H : Heap) (locs : List Loc), decode cX3_put pc = .ok (.return_, 1) → va_S A s.heap H locs → mW E M L H → Q M → W p l e R s m args below meth c H locs cells slots Z (F0 m pc ls [])) (x1 : Int32) : w_X3_put Q x1 M → ∀ (ls : Array Slot) (H : Heap) (locs : List Loc), lv_has ls 2 [(0, .ref (mh E)), (1, .int x1)] → mW E M L H → va_S A s.heap H locs → W p l e R s m args below meth c H locs cells slots Z (F0 m 0 ls []) := by
  obtain ⟨⟨hx, hb, hml, hown, hts⟩, hK⟩ := C; have C : mC p m c s args cX3_put 2 E := ⟨⟨hx, hb, hml, hown, hts⟩, hK⟩
  intro h
  intro ls H locs hl hW hS
  refine lv_aload_n hx hb dX3_put_0 rfl (lv_at hl 0 rfl) ?_
  refine mr_getA C hW 28 rfl rfl q1831 dX3_put_1 ?_
  refine lv_aload_n hx hb dX3_put_4 rfl (lv_at hl 0 rfl) ?_
  refine mr_getI C hW 29 rfl rfl q1832 dX3_put_5 ?_
  refine lv_iload_n hx hb dX3_put_8 rfl (lv_at hl 1 rfl) ?_
  refine mr_iast C hW hS hAw 28 rfl rfl rfl h dX3_put_9 (fun M1 H locs hW hS h => ?_)
  refine lv_aload_n hx hb dX3_put_10 rfl (lv_at hl 0 rfl) ?_
  refine lv_dup hx hb dX3_put_11 rfl ?_
  refine mr_getI C hW 29 rfl rfl q1832 dX3_put_12 ?_
  refine lv_iconst (v := 1) hx hb dX3_put_15 (by decide) ?_
  refine lv_iadd hx hb dX3_put_16 ?_
  refine mr_putI C hW hS hAw 29 rfl rfl q1832 rfl (tyX3_ok 29 (by decide)) h dX3_put_17 (fun M2 H locs hW hS h => ?_)
  exact hret _ _ _ _ _ dX3_put_20 hS hW h
theorem ct_X3_put (l : Launch) : CT_X3_put l 0 0 w_X3_put := by
  intro E M L sz Q x1
  refine Met.ofW (cc := cX3_put) (maxL := 2) (ret := none) (by decide) rfl ?_
  intro p e s m args below meth c s₁ B hml hv
  obtain ⟨rfl, hsz, hW, hK, h⟩ := hv
  subst hsz
  have hts := atoms_spec (ws := ws_ yX3_put cX3_put 2 none) B.pre
  have hts : ∀ w ∈ lw_all, w.before _ s = true := fun w h => hts w (List.mem_cons_of_mem _ h)
  have hl := lv_entry ([.ref (mh E), .int x1]) (n := 2) (Nat.le_of_ble_eq_true rfl)
  rw [lg_entry_eq]
  generalize (lg_sl ([.ref (mh E), .int x1]) ++ List.replicate (2 - (lg_sl ([.ref (mh E), .int x1])).length) Slot.unset).toArray = ls at hl ⊢
  exact wk_X3_put Q ⟨⟨B.exec, B.bytes, hml, findClass_of_methodNamed B.named, hts⟩, hK⟩ (fun q h => Or.inr h) (fun q h => Or.inl h) (Nat.le_refl _) (Nat.le_refl _) ⟨Nat.le_refl _, Nat.le_refl _⟩ M L (fun M pc ls H locs hd hS hW1 hQ => W.vret B.exec B.bytes B.returns (fun t ht _ => ⟨⟨(M, L), rfl, ⟨rfl, hQ⟩, by rw [← ht] at hW1; exact hW1⟩, hS.F ht⟩) hS.2.2 hd) x1 h ls _ [] hl hW va_S.rf
def CT_X3_writeRow (l : Launch) (fr lo : Nat) (w : (Int32 → MM → ML → Prop) → Int32 → Int32 → Int32 → MM → ML → Prop) : Prop := ∀ (E : mE) (M : MM) (L : ML) (sz : Nat) (Q : Int32 → MM → ML → Prop) (x1 : Int32) (x2 : Int32) (x3 : Int32), Met l yX3_writeRow (ws_ yX3_writeRow cX3_writeRow 6 (some .int)) { frames := fr, cells := 0, slots := 0, locals := lo } (va_Pc [.ref (mh E), .int x1, .int x2, .int x3] (fun U => U.heap.size = sz ∧ mW E M L U.heap ∧ mK E U ∧ w Q x1 x2 x3 M L)) (va_Qi (fun r (u : MM × ML) => Q r u.1 u.2) (fun u t => mW E u.1 u.2 t.heap) (mA E sz)) 0 0 (mA E sz)
theorem call_X3_writeRow {p : Program} {l : Launch} {e : Env} {R : Room} {s : State} {m : MethodId} {args : Array Value} {below : List Frame} {meth : Method} {c : Code} {H : Heap} {locs : List Loc} {cells slots : Nat} {Z : State → Prop} {A : Nat → Prop} {cc : ByteArray} {nL pc : Nat} {ls : Array Slot} {rest : List Value} {own : String} {index fr lo : Nat} {w : (Int32 → MM → ML → Prop) → Int32 → Int32 → Int32 → MM → ML → Prop} {E : mE} {M : MM} {L : ML} {x1 : Int32} {x2 : Int32} {x3 : Int32} (hM : CT_X3_writeRow l fr lo w) (S : CallFix p m c cc nL s args lw_all own) (hK : mK E s) (hW : mW E M L H) (hS : va_S A s.heap H locs) (hA : ∀ q, s.heap.size ≤ q → A q) (hAw : ∀ q, mAd E q → A q) (hlink : Cond.methodLink own index yX3_writeRow ∈ lw_all) (hRf : fr + 1 ≤ R.frames) (hRl : 8 + (6 + 11) + lo ≤ R.locals) (hcs : cells ≤ R.cells ∧ slots ≤ R.slots) (hz : ls.size = nL) (hr8 : (rest.map fun v => v.category).sum ≤ 8) (hdg : decode cc pc = .ok (.invokevirtual index, 3)) {Q1 : Int32 → MM → ML → Prop} (h : w Q1 x1 x2 x3 M L) (kk : ∀ (r : Int32) (M1 : MM) (L1 : ML) (H1 : Heap) (locs1 : List Loc), Q1 r M1 L1 → mW E M1 L1 H1 → va_S A s.heap H1 locs1 → (∀ q : Nat, q < H.size → ¬ mAd E q → H1[q]? = H[q]?) → W p l e R s m args below meth c H1 locs1 cells slots Z (F0 m (pc + 3) ls (.int r :: rest))) : W p l e R s m args below meth c H locs cells slots Z (F0 m pc ls (.int x3 :: .int x2 :: .int x1 :: .ref (mh E) :: rest)) := by
  refine mw_i (sz := 0) (P := fun r M1 L1 => Q1 r M1 L1) (va_runV (As := [.int x1, .int x2, .int x3]) (rest := rest) S (hM E M L H.size Q1 x1 x2 x3) (cwV 3 S.2.2.2.2 (lw_V hlink q2159 q2160 q68 q2161) rfl rfl rfl (by decide +kernel) ⟨hRf, hRl⟩) ⟨fun a U g mk q => by obtain ⟨q0, q1, qW, qK, qw⟩ := q; exact ⟨q0, q1, qW, qK.moved (u := U) (U := U.calling g mk a) (Vm.Alike.refl U.vm), qw⟩, hW.recv (hK := hK), fun U hU hWm => ⟨rfl, by rw [hU], by rw [hU]; exact hW, hK.moved hWm.alike, h⟩⟩ rfl rfl hz rfl (lv_room hr8) hdg hcs) hS hA hAw (fun r M1 L1 H1 locs1 hp hW1 hz hk hS1 => ?_)
  exact kk r M1 L1 H1 locs1 hp hW1 hS1 hk
def w_X3_writeRow_h99 (Q : Int32 → MM → ML → Prop) (L : ML) (rec99 : MM → Prop) (M : MM) : Prop := if (M 29 0) ≤ 0 then (Q (M 29 0) M L) else (mRd (M 28) 64 ((M 29 0) - (1 : Int32)) (fun v1 => if v1 = (46 : Int32) then (mPt M 29 ((M 29 0) - (1 : Int32)) (fun M2 => rec99 M2)) else (Q (M 29 0) M L)))
def w_X3_writeRow_L99 (Q : Int32 → MM → ML → Prop) (L : ML) (M : MM) : Prop := wLoop (fun (rec : MM → Prop) (s : MM) => w_X3_writeRow_h99 Q L (fun M => rec M) s) M
def w_X3_writeRow_90 (Q : Int32 → MM → ML → Prop) (rec53 : Int32 → MM → Prop) (x3 : Int32) (x4 : Int32) (y0 : Int32) (M : MM) (L : ML) : Prop := w_X3_put (fun M5 => rec53 (x4 + (1 : Int32)) M5) y0 M
def w_X3_writeRow_h53 (Q : Int32 → MM → ML → Prop) (x3 : Int32) (L : ML) (rec53 : Int32 → MM → Prop) (x4 : Int32) (M : MM) : Prop := if (16 : Int32) ≤ x4 then (w_X3_writeRow_L99 Q L M) else (mRd (M 27) 1728 (((16 : Int32) * x3) + x4) (fun v6 => if v6 ≤ 0 then (w_X3_writeRow_90 Q rec53 x3 x4 (46 : Int32) M L) else (w_X3_writeRow_90 Q rec53 x3 x4 ((48 : Int32) + v6) M L)))
def w_X3_writeRow_L53 (Q : Int32 → MM → ML → Prop) (x3 : Int32) (L : ML) (x4 : Int32) (M : MM) : Prop := wLoop (fun (rec : (Int32 × MM) → Prop) (s : Int32 × MM) => w_X3_writeRow_h53 Q x3 L (fun x4 M => rec (x4, M)) s.1 s.2) (x4, M)
def w_X3_writeRow_28 (Q : Int32 → MM → ML → Prop) (x1 : Int32) (x2 : Int32) (x3 : Int32) (y0 : Int32) (y1 : Int32) (M : MM) (L : ML) : Prop := w_X3_check (fun r9 M10 => if r9 = 0 then (Q (0 : Int32) M10 L) else (w_X3_draw 6 (fun M11 L12 => mPt M11 29 (0 : Int32) (fun M13 => w_X3_writeRow_L53 Q x3 L12 (0 : Int32) M13)) x1 x2 (0 : Int32) (0 : Int32) M10 L)) y1 y0 (1 : Int32) M
def w_X3_writeRow_27 (Q : Int32 → MM → ML → Prop) (x1 : Int32) (x2 : Int32) (x3 : Int32) (y0 : Int32) (M : MM) (L : ML) : Prop := w_X3_writeRow_28 Q x1 x2 x3 (0 : Int32) y0 M L
def w_X3_writeRow (Q : Int32 → MM → ML → Prop) (x1 : Int32) (x2 : Int32) (x3 : Int32) (M : MM) (L : ML) : Prop := w_X3_isComposition (fun r15 => w_X3_isTime (fun r16 => if r16 = 0 then (w_X3_writeRow_27 Q x1 x2 x3 r15 M L) else (w_X3_isWithin (fun r17 => if r17 = 0 then (w_X3_writeRow_27 Q x1 x2 x3 r15 M L) else (w_X3_writeRow_28 Q x1 x2 x3 (1 : Int32) r15 M L)) x3 (0 : Int32) (11 : Int32))) x2) x1 M
set_option maxRecDepth 100000 in
set_option maxHeartbeats 4000000 in
theorem wk_X3_writeRow {p : Program} {l : Launch} {e : Env} {R : Room} {s : State} {m : MethodId} {args : Array Value} {below : List Frame} {meth : Method} {c : Code} {cells slots : Nat} {Z : State → Prop} {A : Nat → Prop} {E : mE} (Q : Int32 → MM → ML → Prop) (C : mC p m c s args cX3_writeRow 6 E) (hA : ∀ q, s.heap.size ≤ q → A q) (hAw : ∀ q, mAd E q → A q) (hRf : 32 ≤ R.frames) (hRl : 839 ≤ R.locals) (hcs : cells ≤ R.cells ∧ slots ≤ R.slots) (M : MM) (L : ML) (hret : ∀ (v : Int32) (M : MM) (L : ML) (pc : Nat) (ls : Array Slot) (H : Heap) (locs : List Loc), decode cX3_writeRow pc = .ok (.ireturn, 1) → va_S A s.heap H locs → mW E M L H → Q v M L → W p l e R s m args below meth c H locs cells slots Z (F0 m pc ls [.int v])) (x1 : Int32) (x2 : Int32) (x3 : Int32) : w_X3_writeRow Q x1 x2 x3 M L → ∀ (ls : Array Slot) (H : Heap) (locs : List Loc), lv_has ls 6 [(0, .ref (mh E)), (1, .int x1), (2, .int x2), (3, .int x3)] → mW E M L H → va_S A s.heap H locs → W p l e R s m args below meth c H locs cells slots Z (F0 m 0 ls []) := by
  obtain ⟨⟨hx, hb, hml, hown, hts⟩, hK⟩ := C; have C : mC p m c s args cX3_writeRow 6 E := ⟨⟨hx, hb, hml, hown, hts⟩, hK⟩
  have hL99 : ∀ (L : ML) (M : MM), w_X3_writeRow_L99 Q L M → ∀ (ls : Array Slot) (H : Heap) (locs : List Loc), lv_has ls 6 [(0, .ref (mh E))] → mW E M L H → va_S A s.heap H locs → W p l e R s m args below meth c H locs cells slots Z (F0 m 99 ls []) := by
    intro L
    obtain ⟨G99, hG99⟩ : ∃ G : MM → Prop, ∀ (M : MM), G M ↔ (∀ (ls : Array Slot) (H : Heap) (locs : List Loc), lv_has ls 6 [(0, .ref (mh E))] → mW E M L H → va_S A s.heap H locs → W p l e R s m args below meth c H locs cells slots Z (F0 m 99 ls [])) := ⟨fun M => _, fun M => Iff.rfl⟩
    have hB99 : ∀ (rec99 : MM → Prop), (∀ (M : MM), rec99 M → G99 M) → ∀ (M : MM), w_X3_writeRow_h99 Q L rec99 M → G99 M := by
      intro rec99 hrec99
      intro M h
      rw [hG99]
      intro ls H locs hl hW hS
      refine lv_aload_n hx hb dX3_writeRow_99 rfl (lv_at hl 0 rfl) ?_
      refine mr_getI C hW 29 rfl rfl q1832 dX3_writeRow_100 ?_
      refine lv_if_le (tgt := 135) hx hb dX3_writeRow_103 (by decide) (fun c4 => ?_) (fun c4 => ?_)
      · have h := wif_t h c4
        refine lv_aload_n hx hb dX3_writeRow_135 rfl (lv_at hl 0 rfl) ?_
        refine mr_getI C hW 29 rfl rfl q1832 dX3_writeRow_136 ?_
        exact hret _ _ _ _ _ _ _ dX3_writeRow_139 hS hW h
      · have h := wif_f h c4
        refine lv_aload_n hx hb dX3_writeRow_106 rfl (lv_at hl 0 rfl) ?_
        refine mr_getA C hW 28 rfl rfl q1831 dX3_writeRow_107 ?_
        refine lv_aload_n hx hb dX3_writeRow_110 rfl (lv_at hl 0 rfl) ?_
        refine mr_getI C hW 29 rfl rfl q1832 dX3_writeRow_111 ?_
        refine lv_iconst (v := 1) hx hb dX3_writeRow_114 (by decide) ?_
        refine lv_isub hx hb dX3_writeRow_115 ?_
        refine mr_iald C hW 28 rfl rfl rfl h dX3_writeRow_116 (fun v1 h => ?_)
        refine lv_bipush (v := 46) hx hb dX3_writeRow_117 (by decide) ?_
        refine lv_icmp_ne (tgt := 135) hx hb dX3_writeRow_119 (by decide) (fun c3 => ?_) (fun c3 => ?_)
        · have h := wif_f h c3
          refine lv_aload_n hx hb dX3_writeRow_135 rfl (lv_at hl 0 rfl) ?_
          refine mr_getI C hW 29 rfl rfl q1832 dX3_writeRow_136 ?_
          exact hret _ _ _ _ _ _ _ dX3_writeRow_139 hS hW h
        · have h := wif_t h c3
          refine lv_aload_n hx hb dX3_writeRow_122 rfl (lv_at hl 0 rfl) ?_
          refine lv_dup hx hb dX3_writeRow_123 rfl ?_
          refine mr_getI C hW 29 rfl rfl q1832 dX3_writeRow_124 ?_
          refine lv_iconst (v := 1) hx hb dX3_writeRow_127 (by decide) ?_
          refine lv_isub hx hb dX3_writeRow_128 ?_
          refine mr_putI C hW hS hAw 29 rfl rfl q1832 rfl (tyX3_ok 29 (by decide)) h dX3_writeRow_129 (fun M2 H locs hW hS h => ?_)
          refine lv_goto (tgt := 99) hx hb dX3_writeRow_132 (by decide) ?_
          exact (hG99 _).mp (hrec99 _ h) ls H locs (lv_sub hl [0] rfl) hW hS
    intro M h
    exact (hG99 M).mp (loop_walk (fun s => G99 s) (fun rec hrec s h => hB99 (fun M => rec M) (fun M h => hrec M h) s h) M h)
  have hL53 : ∀ (L : ML) (x4 : Int32) (M : MM), w_X3_writeRow_L53 Q x3 L x4 M → ∀ (ls : Array Slot) (H : Heap) (locs : List Loc), lv_has ls 6 [(0, .ref (mh E)), (3, .int x3), (4, .int x4)] → mW E M L H → va_S A s.heap H locs → W p l e R s m args below meth c H locs cells slots Z (F0 m 53 ls []) := by
    intro L
    obtain ⟨G53, hG53⟩ : ∃ G : Int32 → MM → Prop, ∀ (x4 : Int32) (M : MM), G x4 M ↔ (∀ (ls : Array Slot) (H : Heap) (locs : List Loc), lv_has ls 6 [(0, .ref (mh E)), (3, .int x3), (4, .int x4)] → mW E M L H → va_S A s.heap H locs → W p l e R s m args below meth c H locs cells slots Z (F0 m 53 ls [])) := ⟨fun x4 M => _, fun x4 M => Iff.rfl⟩
    have hB53 : ∀ (rec53 : Int32 → MM → Prop), (∀ (x4 : Int32) (M : MM), rec53 x4 M → G53 x4 M) → ∀ (x4 : Int32) (M : MM), w_X3_writeRow_h53 Q x3 L rec53 x4 M → G53 x4 M := by
      intro rec53 hrec53
      have hb90 : ∀ (x4 : Int32) (y0 : Int32) (M : MM), w_X3_writeRow_90 Q rec53 x3 x4 y0 M L → ∀ (ls : Array Slot) (H : Heap) (locs : List Loc), lv_has ls 6 [(0, .ref (mh E)), (3, .int x3), (4, .int x4)] → mW E M L H → va_S A s.heap H locs → W p l e R s m args below meth c H locs cells slots Z (F0 m 90 ls [.int y0, .ref (mh E)]) := by
        intro x4 y0 M h
        intro ls H locs hl hW hS
        refine call_X3_put (ct_X3_put l) C.1 C.2 hW hS hA hAw q2162 (le_lit hRf rfl) (le_lit hRl rfl) hcs hl.1 (Nat.le_of_ble_eq_true rfl) dX3_writeRow_90 h (fun M5 H locs h hW hS _ => ?_)
        refine lv_iinc (v := x4 + (1 : Int32)) (lv' := [(4, .int (x4 + (1 : Int32))), (0, .ref (mh E)), (3, .int x3)]) hx hb dX3_writeRow_93 hl (k := 2) rfl (congrArg (fun z => x4 + z) (by decide)) (by decide) rfl (fun ls hl => ?_)
        refine lv_goto (tgt := 53) hx hb dX3_writeRow_96 (by decide) ?_
        exact (hG53 _ _).mp (hrec53 _ _ h) ls H locs (lv_sub hl [1, 2, 0] rfl) hW hS
      intro x4 M h
      rw [hG53]
      intro ls H locs hl hW hS
      refine lv_iload hx hb dX3_writeRow_53 (lv_at hl 2 rfl) ?_
      refine lv_bipush (v := 16) hx hb dX3_writeRow_55 (by decide) ?_
      refine lv_icmp_ge (tgt := 99) hx hb dX3_writeRow_57 (by decide) (fun c8 => ?_) (fun c8 => ?_)
      · have h := wif_t h c8
        exact hL99 _ _ h ls H locs (lv_sub hl [0] rfl) hW hS
      · have h := wif_f h c8
        refine lv_aload_n hx hb dX3_writeRow_60 rfl (lv_at hl 0 rfl) ?_
        refine mr_getA C hW 27 rfl rfl q1830 dX3_writeRow_61 ?_
        refine lv_bipush (v := 16) hx hb dX3_writeRow_64 (by decide) ?_
        refine lv_iload_n hx hb dX3_writeRow_66 rfl (lv_at hl 1 rfl) ?_
        refine lv_imul hx hb dX3_writeRow_67 ?_
        refine lv_iload hx hb dX3_writeRow_68 (lv_at hl 2 rfl) ?_
        refine lv_iadd hx hb dX3_writeRow_70 ?_
        refine mr_iald C hW 27 rfl rfl rfl h dX3_writeRow_71 (fun v6 h => ?_)
        refine lv_istore (lv' := [(5, .int v6), (0, .ref (mh E)), (3, .int x3), (4, .int x4)]) hx hb dX3_writeRow_72 hl (by decide) rfl (fun ls hl => ?_)
        refine lv_aload_n hx hb dX3_writeRow_74 rfl (lv_at hl 1 rfl) ?_
        refine lv_iload hx hb dX3_writeRow_75 (lv_at hl 0 rfl) ?_
        refine lv_if_le (tgt := 88) hx hb dX3_writeRow_77 (by decide) (fun c7 => ?_) (fun c7 => ?_)
        · have h := wif_t h c7
          refine lv_bipush (v := 46) hx hb dX3_writeRow_88 (by decide) ?_
          exact hb90 _ _ _ h ls H locs (lv_sub hl [1, 2, 3] rfl) hW hS
        · have h := wif_f h c7
          refine lv_bipush (v := 48) hx hb dX3_writeRow_80 (by decide) ?_
          refine lv_iload hx hb dX3_writeRow_82 (lv_at hl 0 rfl) ?_
          refine lv_iadd hx hb dX3_writeRow_84 ?_
          refine lv_goto (tgt := 90) hx hb dX3_writeRow_85 (by decide) ?_
          exact hb90 _ _ _ h ls H locs (lv_sub hl [1, 2, 3] rfl) hW hS
    intro x4 M h
    exact (hG53 x4 M).mp (loop_walk (fun s => G53 s.1 s.2) (fun rec hrec s h => hB53 (fun x4 M => rec (x4, M)) (fun x4 M h => hrec (x4, M) h) s.1 s.2 h) (x4, M) h)
  have hb28 : ∀ (y0 : Int32) (y1 : Int32) (M : MM) (L : ML), w_X3_writeRow_28 Q x1 x2 x3 y0 y1 M L → ∀ (ls : Array Slot) (H : Heap) (locs : List Loc), lv_has ls 6 [(0, .ref (mh E)), (1, .int x1), (2, .int x2), (3, .int x3)] → mW E M L H → va_S A s.heap H locs → W p l e R s m args below meth c H locs cells slots Z (F0 m 28 ls [.int y0, .int y1, .ref (mh E)]) := by
    intro y0 y1 M L h
    intro ls H locs hl hW hS
    refine lv_iconst (v := 1) hx hb dX3_writeRow_28 (by decide) ?_
    refine call_X3_check (ct_X3_check l) C.1 C.2 hW hS hA hAw q1907 (le_lit hRf rfl) (le_lit hRl rfl) hcs hl.1 (Nat.le_of_ble_eq_true rfl) dX3_writeRow_29 h (fun r9 M10 H locs h hW hS _ => ?_)
    refine lv_if_ne (tgt := 37) hx hb dX3_writeRow_32 (by decide) (fun c14 => ?_) (fun c14 => ?_)
    · have h := wif_f h c14
      refine lv_aload_n hx hb dX3_writeRow_37 rfl (lv_at hl 0 rfl) ?_
      refine lv_iload_n hx hb dX3_writeRow_38 rfl (lv_at hl 1 rfl) ?_
      refine lv_iload_n hx hb dX3_writeRow_39 rfl (lv_at hl 2 rfl) ?_
      refine lv_iconst (v := 0) hx hb dX3_writeRow_40 (by decide) ?_
      refine lv_iconst (v := 0) hx hb dX3_writeRow_41 (by decide) ?_
      refine call_X3_draw (ct_X3_draw l 6) C.1 C.2 hW hS hA hAw q2082 (le_lit hRf rfl) (le_lit hRl rfl) hcs hl.1 (Nat.le_of_ble_eq_true rfl) dX3_writeRow_42 h (fun M11 L12 H locs h hW hS _ => ?_)
      refine lv_aload_n hx hb dX3_writeRow_45 rfl (lv_at hl 0 rfl) ?_
      refine lv_iconst (v := 0) hx hb dX3_writeRow_46 (by decide) ?_
      refine mr_putI C hW hS hAw 29 rfl rfl q1832 rfl (tyX3_ok 29 (by decide)) h dX3_writeRow_47 (fun M13 H locs hW hS h => ?_)
      refine lv_iconst (v := 0) hx hb dX3_writeRow_50 (by decide) ?_
      refine lv_istore (lv' := [(4, .int (0 : Int32)), (0, .ref (mh E)), (1, .int x1), (2, .int x2), (3, .int x3)]) hx hb dX3_writeRow_51 hl (by decide) rfl (fun ls hl => ?_)
      exact hL53 _ _ _ h ls H locs (lv_sub hl [1, 4, 0] rfl) hW hS
    · have h := wif_t h c14
      refine lv_iconst (v := 0) hx hb dX3_writeRow_35 (by decide) ?_
      exact hret _ _ _ _ _ _ _ dX3_writeRow_36 hS hW h
  have hb27 : ∀ (y0 : Int32) (M : MM) (L : ML), w_X3_writeRow_27 Q x1 x2 x3 y0 M L → ∀ (ls : Array Slot) (H : Heap) (locs : List Loc), lv_has ls 6 [(0, .ref (mh E)), (1, .int x1), (2, .int x2), (3, .int x3)] → mW E M L H → va_S A s.heap H locs → W p l e R s m args below meth c H locs cells slots Z (F0 m 27 ls [.int y0, .ref (mh E)]) := by
    intro y0 M L h
    intro ls H locs hl hW hS
    refine lv_iconst (v := 0) hx hb dX3_writeRow_27 (by decide) ?_
    exact hb28 _ _ _ _ h ls H locs (lv_sub hl [0, 1, 2, 3] rfl) hW hS
  intro h
  intro ls H locs hl hW hS
  refine lv_aload_n hx hb dX3_writeRow_0 rfl (lv_at hl 0 rfl) ?_
  refine lv_aload_n hx hb dX3_writeRow_1 rfl (lv_at hl 0 rfl) ?_
  refine lv_iload_n hx hb dX3_writeRow_2 rfl (lv_at hl 1 rfl) ?_
  refine call_X3_isComposition (ct_X3_isComposition l) C.1 C.2 hW hS hA q1918 (le_lit hRf rfl) (le_lit hRl rfl) hcs hl.1 (Nat.le_of_ble_eq_true rfl) dX3_writeRow_3 h (fun r15 H locs h hk hS => ?_)
  have hW := hW.kept hk
  refine lv_iload_n hx hb dX3_writeRow_6 rfl (lv_at hl 2 rfl) ?_
  refine call_X3_isTime (ct_X3_isTime l) C.1 hS hA q1990 (le_lit hRf rfl) (le_lit hRl rfl) hcs hl.1 (Nat.le_of_ble_eq_true rfl) dX3_writeRow_7 h (fun r16 H locs h hk hS => ?_)
  have hW := hW.kept hk
  refine lv_if_eq (tgt := 27) hx hb dX3_writeRow_10 (by decide) (fun c19 => ?_) (fun c19 => ?_)
  · have h := wif_t h c19
    exact hb27 _ _ _ h ls H locs (lv_sub hl [0, 1, 2, 3] rfl) hW hS
  · have h := wif_f h c19
    refine lv_iload_n hx hb dX3_writeRow_13 rfl (lv_at hl 3 rfl) ?_
    refine lv_iconst (v := 0) hx hb dX3_writeRow_14 (by decide) ?_
    refine lv_bipush (v := 11) hx hb dX3_writeRow_15 (by decide) ?_
    refine call_X3_isWithin (ct_X3_isWithin l) C.1 hS hA q1915 (le_lit hRf rfl) (le_lit hRl rfl) hcs hl.1 (Nat.le_of_ble_eq_true rfl) dX3_writeRow_17 h (fun r17 H locs h hk hS => ?_)
    have hW := hW.kept hk
    refine lv_if_eq (tgt := 27) hx hb dX3_writeRow_20 (by decide) (fun c18 => ?_) (fun c18 => ?_)
    · have h := wif_t h c18
      exact hb27 _ _ _ h ls H locs (lv_sub hl [0, 1, 2, 3] rfl) hW hS
    · have h := wif_f h c18
      refine lv_iconst (v := 1) hx hb dX3_writeRow_23 (by decide) ?_
      refine lv_goto (tgt := 28) hx hb dX3_writeRow_24 (by decide) ?_
      exact hb28 _ _ _ _ h ls H locs (lv_sub hl [0, 1, 2, 3] rfl) hW hS
theorem ct_X3_writeRow (l : Launch) : CT_X3_writeRow l 32 839 w_X3_writeRow := by
  intro E M L sz Q x1 x2 x3
  refine Met.ofW (cc := cX3_writeRow) (maxL := 6) (ret := (some .int)) (by decide) rfl ?_
  intro p e s m args below meth c s₁ B hml hv
  obtain ⟨rfl, hsz, hW, hK, h⟩ := hv
  subst hsz
  have hts := atoms_spec (ws := ws_ yX3_writeRow cX3_writeRow 6 (some .int)) B.pre
  have hts : ∀ w ∈ lw_all, w.before _ s = true := fun w h => hts w (List.mem_cons_of_mem _ h)
  have hl := lv_entry ([.ref (mh E), .int x1, .int x2, .int x3]) (n := 6) (Nat.le_of_ble_eq_true rfl)
  rw [lg_entry_eq]
  generalize (lg_sl ([.ref (mh E), .int x1, .int x2, .int x3]) ++ List.replicate (6 - (lg_sl ([.ref (mh E), .int x1, .int x2, .int x3])).length) Slot.unset).toArray = ls at hl ⊢
  exact wk_X3_writeRow Q ⟨⟨B.exec, B.bytes, hml, findClass_of_methodNamed B.named, hts⟩, hK⟩ (fun q h => Or.inr h) (fun q h => Or.inl h) (Nat.le_refl _) (Nat.le_refl _) ⟨Nat.le_refl _, Nat.le_refl _⟩ M L (fun v M L pc ls H locs hd hS hW1 hQ => W.iret (v := v) B.exec B.bytes B.returns (fun t ht _ => ⟨⟨v, (M, L), rfl, hQ, by rw [← ht] at hW1; exact hW1⟩, hS.F ht⟩) hS.2.2 hd) x1 x2 x3 h ls _ [] hl hW va_S.rf
def CT_X3_putNumber (l : Launch) (fr lo : Nat) (w : (MM → Prop) → Int32 → MM → Prop) : Prop := ∀ (E : mE) (M : MM) (L : ML) (sz : Nat) (Q : MM → Prop) (x1 : Int32), Met l yX3_putNumber (ws_ yX3_putNumber cX3_putNumber 2 none) { frames := fr, cells := 0, slots := 0, locals := lo } (va_Pc [.ref (mh E), .int x1] (fun U => U.heap.size = sz ∧ mW E M L U.heap ∧ mK E U ∧ w Q x1 M)) (va_Qv (fun (u : MM × ML) => u.2 = L ∧ Q u.1) (fun u t => mW E u.1 u.2 t.heap) (mA E sz)) 0 0 (mA E sz)
theorem call_X3_putNumber {p : Program} {l : Launch} {e : Env} {R : Room} {s : State} {m : MethodId} {args : Array Value} {below : List Frame} {meth : Method} {c : Code} {H : Heap} {locs : List Loc} {cells slots : Nat} {Z : State → Prop} {A : Nat → Prop} {cc : ByteArray} {nL pc : Nat} {ls : Array Slot} {rest : List Value} {own : String} {index fr lo : Nat} {w : (MM → Prop) → Int32 → MM → Prop} {E : mE} {M : MM} {L : ML} {x1 : Int32} (hM : CT_X3_putNumber l fr lo w) (S : CallFix p m c cc nL s args lw_all own) (hK : mK E s) (hW : mW E M L H) (hS : va_S A s.heap H locs) (hA : ∀ q, s.heap.size ≤ q → A q) (hAw : ∀ q, mAd E q → A q) (hlink : Cond.methodLink own index yX3_putNumber ∈ lw_all) (hRf : fr + 1 ≤ R.frames) (hRl : 8 + (2 + 11) + lo ≤ R.locals) (hcs : cells ≤ R.cells ∧ slots ≤ R.slots) (hz : ls.size = nL) (hr8 : (rest.map fun v => v.category).sum ≤ 8) (hdg : decode cc pc = .ok (.invokevirtual index, 3)) {Q1 : MM → Prop} (h : w Q1 x1 M) (kk : ∀ (M1 : MM) (H1 : Heap) (locs1 : List Loc), Q1 M1 → mW E M1 L H1 → va_S A s.heap H1 locs1 → (∀ q : Nat, q < H.size → ¬ mAd E q → H1[q]? = H[q]?) → W p l e R s m args below meth c H1 locs1 cells slots Z (F0 m (pc + 3) ls (rest))) : W p l e R s m args below meth c H locs cells slots Z (F0 m pc ls (.int x1 :: .ref (mh E) :: rest)) := by
  refine mw_v (sz := 0) (P := fun M1 L1 => L1 = L ∧ Q1 M1) (va_runV (As := [.int x1]) (rest := rest) S (hM E M L H.size Q1 x1) (cwV 1 S.2.2.2.2 (lw_V hlink q2180 qs56 q68 q2181) rfl rfl rfl (by decide +kernel) ⟨hRf, hRl⟩) ⟨fun a U g mk q => by obtain ⟨q0, q1, qW, qK, qw⟩ := q; exact ⟨q0, q1, qW, qK.moved (u := U) (U := U.calling g mk a) (Vm.Alike.refl U.vm), qw⟩, hW.recv (hK := hK), fun U hU hWm => ⟨rfl, by rw [hU], by rw [hU]; exact hW, hK.moved hWm.alike, h⟩⟩ rfl rfl hz rfl (lv_room hr8) hdg hcs) hS hA hAw (fun M1 L1 H1 locs1 hp hW1 hz hk hS1 => ?_)
  obtain ⟨rfl, hp⟩ := hp
  exact kk M1 H1 locs1 hp hW1 hS1 hk
def w_X3_putNumber_37 (Q : MM → Prop) (x1 : Int32) (M : MM) : Prop := ¬ (10 : Int32) = 0 ∧ (w_X3_put (fun M1 => Q M1) ((48 : Int32) + (x1 - x1 / (10 : Int32) * (10 : Int32))) M)
def w_X3_putNumber_17 (Q : MM → Prop) (x1 : Int32) (M : MM) : Prop := if x1 ≤ (9 : Int32) then (w_X3_putNumber_37 Q x1 M) else (¬ (10 : Int32) = 0 ∧ (¬ (10 : Int32) = 0 ∧ (w_X3_put (fun M2 => w_X3_putNumber_37 Q x1 M2) ((48 : Int32) + ((x1 / (10 : Int32)) - (x1 / (10 : Int32)) / (10 : Int32) * (10 : Int32))) M)))
def w_X3_putNumber (Q : MM → Prop) (x1 : Int32) (M : MM) : Prop := if x1 ≤ (99 : Int32) then (w_X3_putNumber_17 Q x1 M) else (¬ (100 : Int32) = 0 ∧ (w_X3_put (fun M4 => w_X3_putNumber_17 Q x1 M4) ((48 : Int32) + (x1 / (100 : Int32))) M))
set_option maxRecDepth 100000 in
set_option maxHeartbeats 4000000 in
theorem wk_X3_putNumber {p : Program} {l : Launch} {e : Env} {R : Room} {s : State} {m : MethodId} {args : Array Value} {below : List Frame} {meth : Method} {c : Code} {cells slots : Nat} {Z : State → Prop} {A : Nat → Prop} {E : mE} (Q : MM → Prop) (C : mC p m c s args cX3_putNumber 2 E) (hA : ∀ q, s.heap.size ≤ q → A q) (hAw : ∀ q, mAd E q → A q) (hRf : 1 ≤ R.frames) (hRl : 21 ≤ R.locals) (hcs : cells ≤ R.cells ∧ slots ≤ R.slots) (M : MM) (L : ML) (hret : ∀ (M : MM) (pc : Nat) (ls : Array Slot) (H : Heap) (locs : List Loc), decode cX3_putNumber pc = .ok (.return_, 1) → va_S A s.heap H locs → mW E M L H → Q M → W p l e R s m args below meth c H locs cells slots Z (F0 m pc ls [])) (x1 : Int32) : w_X3_putNumber Q x1 M → ∀ (ls : Array Slot) (H : Heap) (locs : List Loc), lv_has ls 2 [(0, .ref (mh E)), (1, .int x1)] → mW E M L H → va_S A s.heap H locs → W p l e R s m args below meth c H locs cells slots Z (F0 m 0 ls []) := by
  obtain ⟨⟨hx, hb, hml, hown, hts⟩, hK⟩ := C; have C : mC p m c s args cX3_putNumber 2 E := ⟨⟨hx, hb, hml, hown, hts⟩, hK⟩
  have hb37 : ∀ (M : MM), w_X3_putNumber_37 Q x1 M → ∀ (ls : Array Slot) (H : Heap) (locs : List Loc), lv_has ls 2 [(0, .ref (mh E)), (1, .int x1)] → mW E M L H → va_S A s.heap H locs → W p l e R s m args below meth c H locs cells slots Z (F0 m 37 ls []) := by
    intro M h
    intro ls H locs hl hW hS
    refine lv_aload_n hx hb dX3_putNumber_37 rfl (lv_at hl 0 rfl) ?_
    refine lv_bipush (v := 48) hx hb dX3_putNumber_38 (by decide) ?_
    refine lv_iload_n hx hb dX3_putNumber_40 rfl (lv_at hl 1 rfl) ?_
    refine lv_bipush (v := 10) hx hb dX3_putNumber_41 (by decide) ?_
    refine lv_irem hx hb dX3_putNumber_43 h.1 ?_
    have h := h.2
    refine lv_iadd hx hb dX3_putNumber_44 ?_
    refine call_X3_put (ct_X3_put l) C.1 C.2 hW hS hA hAw q2162 (le_lit hRf rfl) (le_lit hRl rfl) hcs hl.1 (Nat.le_of_ble_eq_true rfl) dX3_putNumber_45 h (fun M1 H locs h hW hS _ => ?_)
    exact hret _ _ _ _ _ dX3_putNumber_48 hS hW h
  have hb17 : ∀ (M : MM), w_X3_putNumber_17 Q x1 M → ∀ (ls : Array Slot) (H : Heap) (locs : List Loc), lv_has ls 2 [(0, .ref (mh E)), (1, .int x1)] → mW E M L H → va_S A s.heap H locs → W p l e R s m args below meth c H locs cells slots Z (F0 m 17 ls []) := by
    intro M h
    intro ls H locs hl hW hS
    refine lv_iload_n hx hb dX3_putNumber_17 rfl (lv_at hl 1 rfl) ?_
    refine lv_bipush (v := 9) hx hb dX3_putNumber_18 (by decide) ?_
    refine lv_icmp_le (tgt := 37) hx hb dX3_putNumber_20 (by decide) (fun c3 => ?_) (fun c3 => ?_)
    · have h := wif_t h c3
      exact hb37 _ h ls H locs (lv_sub hl [0, 1] rfl) hW hS
    · have h := wif_f h c3
      refine lv_aload_n hx hb dX3_putNumber_23 rfl (lv_at hl 0 rfl) ?_
      refine lv_bipush (v := 48) hx hb dX3_putNumber_24 (by decide) ?_
      refine lv_iload_n hx hb dX3_putNumber_26 rfl (lv_at hl 1 rfl) ?_
      refine lv_bipush (v := 10) hx hb dX3_putNumber_27 (by decide) ?_
      refine lv_idiv hx hb dX3_putNumber_29 h.1 ?_
      have h := h.2
      refine lv_bipush (v := 10) hx hb dX3_putNumber_30 (by decide) ?_
      refine lv_irem hx hb dX3_putNumber_32 h.1 ?_
      have h := h.2
      refine lv_iadd hx hb dX3_putNumber_33 ?_
      refine call_X3_put (ct_X3_put l) C.1 C.2 hW hS hA hAw q2162 (le_lit hRf rfl) (le_lit hRl rfl) hcs hl.1 (Nat.le_of_ble_eq_true rfl) dX3_putNumber_34 h (fun M2 H locs h hW hS _ => ?_)
      exact hb37 _ h ls H locs (lv_sub hl [0, 1] rfl) hW hS
  intro h
  intro ls H locs hl hW hS
  refine lv_iload_n hx hb dX3_putNumber_0 rfl (lv_at hl 1 rfl) ?_
  refine lv_bipush (v := 99) hx hb dX3_putNumber_1 (by decide) ?_
  refine lv_icmp_le (tgt := 17) hx hb dX3_putNumber_3 (by decide) (fun c5 => ?_) (fun c5 => ?_)
  · have h := wif_t h c5
    exact hb17 _ h ls H locs (lv_sub hl [0, 1] rfl) hW hS
  · have h := wif_f h c5
    refine lv_aload_n hx hb dX3_putNumber_6 rfl (lv_at hl 0 rfl) ?_
    refine lv_bipush (v := 48) hx hb dX3_putNumber_7 (by decide) ?_
    refine lv_iload_n hx hb dX3_putNumber_9 rfl (lv_at hl 1 rfl) ?_
    refine lv_bipush (v := 100) hx hb dX3_putNumber_10 (by decide) ?_
    refine lv_idiv hx hb dX3_putNumber_12 h.1 ?_
    have h := h.2
    refine lv_iadd hx hb dX3_putNumber_13 ?_
    refine call_X3_put (ct_X3_put l) C.1 C.2 hW hS hA hAw q2162 (le_lit hRf rfl) (le_lit hRl rfl) hcs hl.1 (Nat.le_of_ble_eq_true rfl) dX3_putNumber_14 h (fun M4 H locs h hW hS _ => ?_)
    exact hb17 _ h ls H locs (lv_sub hl [0, 1] rfl) hW hS
theorem ct_X3_putNumber (l : Launch) : CT_X3_putNumber l 1 21 w_X3_putNumber := by
  intro E M L sz Q x1
  refine Met.ofW (cc := cX3_putNumber) (maxL := 2) (ret := none) (by decide) rfl ?_
  intro p e s m args below meth c s₁ B hml hv
  obtain ⟨rfl, hsz, hW, hK, h⟩ := hv
  subst hsz
  have hts := atoms_spec (ws := ws_ yX3_putNumber cX3_putNumber 2 none) B.pre
  have hts : ∀ w ∈ lw_all, w.before _ s = true := fun w h => hts w (List.mem_cons_of_mem _ h)
  have hl := lv_entry ([.ref (mh E), .int x1]) (n := 2) (Nat.le_of_ble_eq_true rfl)
  rw [lg_entry_eq]
  generalize (lg_sl ([.ref (mh E), .int x1]) ++ List.replicate (2 - (lg_sl ([.ref (mh E), .int x1])).length) Slot.unset).toArray = ls at hl ⊢
  exact wk_X3_putNumber Q ⟨⟨B.exec, B.bytes, hml, findClass_of_methodNamed B.named, hts⟩, hK⟩ (fun q h => Or.inr h) (fun q h => Or.inl h) (Nat.le_refl _) (Nat.le_refl _) ⟨Nat.le_refl _, Nat.le_refl _⟩ M L (fun M pc ls H locs hd hS hW1 hQ => W.vret B.exec B.bytes B.returns (fun t ht _ => ⟨⟨(M, L), rfl, ⟨rfl, hQ⟩, by rw [← ht] at hW1; exact hW1⟩, hS.F ht⟩) hS.2.2 hd) x1 h ls _ [] hl hW va_S.rf
def CT_X3_putSizes (l : Launch) (fr lo : Nat) (w : (MM → Prop) → Int32 → MM → Prop) : Prop := ∀ (E : mE) (M : MM) (L : ML) (sz : Nat) (Q : MM → Prop) (x1 : Int32), Met l yX3_putSizes (ws_ yX3_putSizes cX3_putSizes 2 none) { frames := fr, cells := 0, slots := 0, locals := lo } (va_Pc [.ref (mh E), .int x1] (fun U => U.heap.size = sz ∧ mW E M L U.heap ∧ mK E U ∧ w Q x1 M)) (va_Qv (fun (u : MM × ML) => u.2 = L ∧ Q u.1) (fun u t => mW E u.1 u.2 t.heap) (mA E sz)) 0 0 (mA E sz)
theorem call_X3_putSizes {p : Program} {l : Launch} {e : Env} {R : Room} {s : State} {m : MethodId} {args : Array Value} {below : List Frame} {meth : Method} {c : Code} {H : Heap} {locs : List Loc} {cells slots : Nat} {Z : State → Prop} {A : Nat → Prop} {cc : ByteArray} {nL pc : Nat} {ls : Array Slot} {rest : List Value} {own : String} {index fr lo : Nat} {w : (MM → Prop) → Int32 → MM → Prop} {E : mE} {M : MM} {L : ML} {x1 : Int32} (hM : CT_X3_putSizes l fr lo w) (S : CallFix p m c cc nL s args lw_all own) (hK : mK E s) (hW : mW E M L H) (hS : va_S A s.heap H locs) (hA : ∀ q, s.heap.size ≤ q → A q) (hAw : ∀ q, mAd E q → A q) (hlink : Cond.methodLink own index yX3_putSizes ∈ lw_all) (hRf : fr + 1 ≤ R.frames) (hRl : 8 + (2 + 11) + lo ≤ R.locals) (hcs : cells ≤ R.cells ∧ slots ≤ R.slots) (hz : ls.size = nL) (hr8 : (rest.map fun v => v.category).sum ≤ 8) (hdg : decode cc pc = .ok (.invokevirtual index, 3)) {Q1 : MM → Prop} (h : w Q1 x1 M) (kk : ∀ (M1 : MM) (H1 : Heap) (locs1 : List Loc), Q1 M1 → mW E M1 L H1 → va_S A s.heap H1 locs1 → (∀ q : Nat, q < H.size → ¬ mAd E q → H1[q]? = H[q]?) → W p l e R s m args below meth c H1 locs1 cells slots Z (F0 m (pc + 3) ls (rest))) : W p l e R s m args below meth c H locs cells slots Z (F0 m pc ls (.int x1 :: .ref (mh E) :: rest)) := by
  refine mw_v (sz := 0) (P := fun M1 L1 => L1 = L ∧ Q1 M1) (va_runV (As := [.int x1]) (rest := rest) S (hM E M L H.size Q1 x1) (cwV 1 S.2.2.2.2 (lw_V hlink q2184 qs57 q68 q2185) rfl rfl rfl (by decide +kernel) ⟨hRf, hRl⟩) ⟨fun a U g mk q => by obtain ⟨q0, q1, qW, qK, qw⟩ := q; exact ⟨q0, q1, qW, qK.moved (u := U) (U := U.calling g mk a) (Vm.Alike.refl U.vm), qw⟩, hW.recv (hK := hK), fun U hU hWm => ⟨rfl, by rw [hU], by rw [hU]; exact hW, hK.moved hWm.alike, h⟩⟩ rfl rfl hz rfl (lv_room hr8) hdg hcs) hS hA hAw (fun M1 L1 H1 locs1 hp hW1 hz hk hS1 => ?_)
  obtain ⟨rfl, hp⟩ := hp
  exact kk M1 H1 locs1 hp hW1 hS1 hk
def w_X3_putSizes_43 (Q : MM → Prop) (x1 : Int32) (y0 : Int32) (M : MM) : Prop := w_X3_putNumber (fun M1 => mRd (M1 4) 12 x1 (fun v2 => if v2 = 0 then (w_X3_put (fun M3 => mRd (M3 7) 12 x1 (fun v4 => w_X3_putNumber (fun M5 => Q M5) v4 M3)) (120 : Int32) M1) else (Q M1))) y0 M
def w_X3_putSizes (Q : MM → Prop) (x1 : Int32) (M : MM) : Prop := mRd (M 4) 12 x1 (fun v7 => if v7 = (3 : Int32) then (Q M) else (w_X3_put (fun M8 => mRd (M8 4) 12 x1 (fun v9 => if v9 = (1 : Int32) then (mRd (M8 18) 12 x1 (fun v11 => w_X3_putSizes_43 Q x1 v11 M8)) else (mRd (M8 6) 12 x1 (fun v10 => w_X3_putSizes_43 Q x1 v10 M8)))) (32 : Int32) M))
set_option maxRecDepth 100000 in
set_option maxHeartbeats 4000000 in
theorem wk_X3_putSizes {p : Program} {l : Launch} {e : Env} {R : Room} {s : State} {m : MethodId} {args : Array Value} {below : List Frame} {meth : Method} {c : Code} {cells slots : Nat} {Z : State → Prop} {A : Nat → Prop} {E : mE} (Q : MM → Prop) (C : mC p m c s args cX3_putSizes 2 E) (hA : ∀ q, s.heap.size ≤ q → A q) (hAw : ∀ q, mAd E q → A q) (hRf : 2 ≤ R.frames) (hRl : 42 ≤ R.locals) (hcs : cells ≤ R.cells ∧ slots ≤ R.slots) (M : MM) (L : ML) (hret : ∀ (M : MM) (pc : Nat) (ls : Array Slot) (H : Heap) (locs : List Loc), decode cX3_putSizes pc = .ok (.return_, 1) → va_S A s.heap H locs → mW E M L H → Q M → W p l e R s m args below meth c H locs cells slots Z (F0 m pc ls [])) (x1 : Int32) : w_X3_putSizes Q x1 M → ∀ (ls : Array Slot) (H : Heap) (locs : List Loc), lv_has ls 2 [(0, .ref (mh E)), (1, .int x1)] → mW E M L H → va_S A s.heap H locs → W p l e R s m args below meth c H locs cells slots Z (F0 m 0 ls []) := by
  obtain ⟨⟨hx, hb, hml, hown, hts⟩, hK⟩ := C; have C : mC p m c s args cX3_putSizes 2 E := ⟨⟨hx, hb, hml, hown, hts⟩, hK⟩
  have hb43 : ∀ (y0 : Int32) (M : MM), w_X3_putSizes_43 Q x1 y0 M → ∀ (ls : Array Slot) (H : Heap) (locs : List Loc), lv_has ls 2 [(0, .ref (mh E)), (1, .int x1)] → mW E M L H → va_S A s.heap H locs → W p l e R s m args below meth c H locs cells slots Z (F0 m 43 ls [.int y0, .ref (mh E)]) := by
    intro y0 M h
    intro ls H locs hl hW hS
    refine call_X3_putNumber (ct_X3_putNumber l) C.1 C.2 hW hS hA hAw q2178 (le_lit hRf rfl) (le_lit hRl rfl) hcs hl.1 (Nat.le_of_ble_eq_true rfl) dX3_putSizes_43 h (fun M1 H locs h hW hS _ => ?_)
    refine lv_aload_n hx hb dX3_putSizes_46 rfl (lv_at hl 0 rfl) ?_
    refine mr_getA C hW 4 rfl rfl q1807 dX3_putSizes_47 ?_
    refine lv_iload_n hx hb dX3_putSizes_50 rfl (lv_at hl 1 rfl) ?_
    refine mr_iald C hW 4 rfl rfl rfl h dX3_putSizes_51 (fun v2 h => ?_)
    refine lv_if_ne (tgt := 71) hx hb dX3_putSizes_52 (by decide) (fun c6 => ?_) (fun c6 => ?_)
    · have h := wif_f h c6
      exact hret _ _ _ _ _ dX3_putSizes_71 hS hW h
    · have h := wif_t h c6
      refine lv_aload_n hx hb dX3_putSizes_55 rfl (lv_at hl 0 rfl) ?_
      refine lv_bipush (v := 120) hx hb dX3_putSizes_56 (by decide) ?_
      refine call_X3_put (ct_X3_put l) C.1 C.2 hW hS hA hAw q2162 (le_lit hRf rfl) (le_lit hRl rfl) hcs hl.1 (Nat.le_of_ble_eq_true rfl) dX3_putSizes_58 h (fun M3 H locs h hW hS _ => ?_)
      refine lv_aload_n hx hb dX3_putSizes_61 rfl (lv_at hl 0 rfl) ?_
      refine lv_aload_n hx hb dX3_putSizes_62 rfl (lv_at hl 0 rfl) ?_
      refine mr_getA C hW 7 rfl rfl q1810 dX3_putSizes_63 ?_
      refine lv_iload_n hx hb dX3_putSizes_66 rfl (lv_at hl 1 rfl) ?_
      refine mr_iald C hW 7 rfl rfl rfl h dX3_putSizes_67 (fun v4 h => ?_)
      refine call_X3_putNumber (ct_X3_putNumber l) C.1 C.2 hW hS hA hAw q2178 (le_lit hRf rfl) (le_lit hRl rfl) hcs hl.1 (Nat.le_of_ble_eq_true rfl) dX3_putSizes_68 h (fun M5 H locs h hW hS _ => ?_)
      exact hret _ _ _ _ _ dX3_putSizes_71 hS hW h
  intro h
  intro ls H locs hl hW hS
  refine lv_aload_n hx hb dX3_putSizes_0 rfl (lv_at hl 0 rfl) ?_
  refine mr_getA C hW 4 rfl rfl q1807 dX3_putSizes_1 ?_
  refine lv_iload_n hx hb dX3_putSizes_4 rfl (lv_at hl 1 rfl) ?_
  refine mr_iald C hW 4 rfl rfl rfl h dX3_putSizes_5 (fun v7 h => ?_)
  refine lv_iconst (v := 3) hx hb dX3_putSizes_6 (by decide) ?_
  refine lv_icmp_ne (tgt := 11) hx hb dX3_putSizes_7 (by decide) (fun c13 => ?_) (fun c13 => ?_)
  · have h := wif_f h c13
    refine lv_aload_n hx hb dX3_putSizes_11 rfl (lv_at hl 0 rfl) ?_
    refine lv_bipush (v := 32) hx hb dX3_putSizes_12 (by decide) ?_
    refine call_X3_put (ct_X3_put l) C.1 C.2 hW hS hA hAw q2162 (le_lit hRf rfl) (le_lit hRl rfl) hcs hl.1 (Nat.le_of_ble_eq_true rfl) dX3_putSizes_14 h (fun M8 H locs h hW hS _ => ?_)
    refine lv_aload_n hx hb dX3_putSizes_17 rfl (lv_at hl 0 rfl) ?_
    refine lv_aload_n hx hb dX3_putSizes_18 rfl (lv_at hl 0 rfl) ?_
    refine mr_getA C hW 4 rfl rfl q1807 dX3_putSizes_19 ?_
    refine lv_iload_n hx hb dX3_putSizes_22 rfl (lv_at hl 1 rfl) ?_
    refine mr_iald C hW 4 rfl rfl rfl h dX3_putSizes_23 (fun v9 h => ?_)
    refine lv_iconst (v := 1) hx hb dX3_putSizes_24 (by decide) ?_
    refine lv_icmp_ne (tgt := 37) hx hb dX3_putSizes_25 (by decide) (fun c12 => ?_) (fun c12 => ?_)
    · have h := wif_f h c12
      refine lv_aload_n hx hb dX3_putSizes_37 rfl (lv_at hl 0 rfl) ?_
      refine mr_getA C hW 6 rfl rfl q1809 dX3_putSizes_38 ?_
      refine lv_iload_n hx hb dX3_putSizes_41 rfl (lv_at hl 1 rfl) ?_
      refine mr_iald C hW 6 rfl rfl rfl h dX3_putSizes_42 (fun v10 h => ?_)
      exact hb43 _ _ h ls H locs (lv_sub hl [0, 1] rfl) hW hS
    · have h := wif_t h c12
      refine lv_aload_n hx hb dX3_putSizes_28 rfl (lv_at hl 0 rfl) ?_
      refine mr_getA C hW 18 rfl rfl q1821 dX3_putSizes_29 ?_
      refine lv_iload_n hx hb dX3_putSizes_32 rfl (lv_at hl 1 rfl) ?_
      refine mr_iald C hW 18 rfl rfl rfl h dX3_putSizes_33 (fun v11 h => ?_)
      refine lv_goto (tgt := 43) hx hb dX3_putSizes_34 (by decide) ?_
      exact hb43 _ _ h ls H locs (lv_sub hl [0, 1] rfl) hW hS
  · have h := wif_t h c13
    exact hret _ _ _ _ _ dX3_putSizes_10 hS hW h
theorem ct_X3_putSizes (l : Launch) : CT_X3_putSizes l 2 42 w_X3_putSizes := by
  intro E M L sz Q x1
  refine Met.ofW (cc := cX3_putSizes) (maxL := 2) (ret := none) (by decide) rfl ?_
  intro p e s m args below meth c s₁ B hml hv
  obtain ⟨rfl, hsz, hW, hK, h⟩ := hv
  subst hsz
  have hts := atoms_spec (ws := ws_ yX3_putSizes cX3_putSizes 2 none) B.pre
  have hts : ∀ w ∈ lw_all, w.before _ s = true := fun w h => hts w (List.mem_cons_of_mem _ h)
  have hl := lv_entry ([.ref (mh E), .int x1]) (n := 2) (Nat.le_of_ble_eq_true rfl)
  rw [lg_entry_eq]
  generalize (lg_sl ([.ref (mh E), .int x1]) ++ List.replicate (2 - (lg_sl ([.ref (mh E), .int x1])).length) Slot.unset).toArray = ls at hl ⊢
  exact wk_X3_putSizes Q ⟨⟨B.exec, B.bytes, hml, findClass_of_methodNamed B.named, hts⟩, hK⟩ (fun q h => Or.inr h) (fun q h => Or.inl h) (Nat.le_refl _) (Nat.le_refl _) ⟨Nat.le_refl _, Nat.le_refl _⟩ M L (fun M pc ls H locs hd hS hW1 hQ => W.vret B.exec B.bytes B.returns (fun t ht _ => ⟨⟨(M, L), rfl, ⟨rfl, hQ⟩, by rw [← ht] at hW1; exact hW1⟩, hS.F ht⟩) hS.2.2 hd) x1 h ls _ [] hl hW va_S.rf
def CT_X3_outputByte (l : Launch) (fr lo : Nat) (w : (Int32 → MM → Prop) → Int32 → MM → Prop) : Prop := ∀ (E : mE) (M : MM) (L : ML) (sz : Nat) (Q : Int32 → MM → Prop) (x1 : Int32), Met l yX3_outputByte (ws_ yX3_outputByte cX3_outputByte 2 (some .int)) { frames := fr, cells := 0, slots := 0, locals := lo } (va_Pc [.ref (mh E), .int x1] (fun U => U.heap.size = sz ∧ mW E M L U.heap ∧ mK E U ∧ w Q x1 M)) (va_Qi (fun r (u : MM × ML) => u.2 = L ∧ Q r u.1) (fun u t => mW E u.1 u.2 t.heap) (mA E sz)) 0 0 (mA E sz)
theorem call_X3_outputByte {p : Program} {l : Launch} {e : Env} {R : Room} {s : State} {m : MethodId} {args : Array Value} {below : List Frame} {meth : Method} {c : Code} {H : Heap} {locs : List Loc} {cells slots : Nat} {Z : State → Prop} {A : Nat → Prop} {cc : ByteArray} {nL pc : Nat} {ls : Array Slot} {rest : List Value} {own : String} {index fr lo : Nat} {w : (Int32 → MM → Prop) → Int32 → MM → Prop} {E : mE} {M : MM} {L : ML} {x1 : Int32} (hM : CT_X3_outputByte l fr lo w) (S : CallFix p m c cc nL s args lw_all own) (hK : mK E s) (hW : mW E M L H) (hS : va_S A s.heap H locs) (hA : ∀ q, s.heap.size ≤ q → A q) (hAw : ∀ q, mAd E q → A q) (hlink : Cond.methodLink own index yX3_outputByte ∈ lw_all) (hRf : fr + 1 ≤ R.frames) (hRl : 8 + (2 + 11) + lo ≤ R.locals) (hcs : cells ≤ R.cells ∧ slots ≤ R.slots) (hz : ls.size = nL) (hr8 : (rest.map fun v => v.category).sum ≤ 8) (hdg : decode cc pc = .ok (.invokevirtual index, 3)) {Q1 : Int32 → MM → Prop} (h : w Q1 x1 M) (kk : ∀ (r : Int32) (M1 : MM) (H1 : Heap) (locs1 : List Loc), Q1 r M1 → mW E M1 L H1 → va_S A s.heap H1 locs1 → (∀ q : Nat, q < H.size → ¬ mAd E q → H1[q]? = H[q]?) → W p l e R s m args below meth c H1 locs1 cells slots Z (F0 m (pc + 3) ls (.int r :: rest))) : W p l e R s m args below meth c H locs cells slots Z (F0 m pc ls (.int x1 :: .ref (mh E) :: rest)) := by
  refine mw_i (sz := 0) (P := fun r M1 L1 => L1 = L ∧ Q1 r M1) (va_runV (As := [.int x1]) (rest := rest) S (hM E M L H.size Q1 x1) (cwV 1 S.2.2.2.2 (lw_V hlink q2187 q2188 q68 q2189) rfl rfl rfl (by decide +kernel) ⟨hRf, hRl⟩) ⟨fun a U g mk q => by obtain ⟨q0, q1, qW, qK, qw⟩ := q; exact ⟨q0, q1, qW, qK.moved (u := U) (U := U.calling g mk a) (Vm.Alike.refl U.vm), qw⟩, hW.recv (hK := hK), fun U hU hWm => ⟨rfl, by rw [hU], by rw [hU]; exact hW, hK.moved hWm.alike, h⟩⟩ rfl rfl hz rfl (lv_room hr8) hdg hcs) hS hA hAw (fun r M1 L1 H1 locs1 hp hW1 hz hk hS1 => ?_)
  obtain ⟨rfl, hp⟩ := hp
  exact kk r M1 H1 locs1 hp hW1 hS1 hk
def w_X3_outputByte (Q : Int32 → MM → Prop) (x1 : Int32) (M : MM) : Prop := mPt M 0 (0 : Int32) (fun M1 => w_X3_isWithin (fun r2 => if r2 = 0 then (Q (-1 : Int32) M1) else (mRd (M1 28) 64 x1 (fun v3 => Q v3 M1))) x1 (0 : Int32) ((M1 29 0) - (1 : Int32)))
set_option maxRecDepth 100000 in
set_option maxHeartbeats 4000000 in
theorem wk_X3_outputByte {p : Program} {l : Launch} {e : Env} {R : Room} {s : State} {m : MethodId} {args : Array Value} {below : List Frame} {meth : Method} {c : Code} {cells slots : Nat} {Z : State → Prop} {A : Nat → Prop} {E : mE} (Q : Int32 → MM → Prop) (C : mC p m c s args cX3_outputByte 2 E) (hA : ∀ q, s.heap.size ≤ q → A q) (hAw : ∀ q, mAd E q → A q) (hRf : 1 ≤ R.frames) (hRl : 22 ≤ R.locals) (hcs : cells ≤ R.cells ∧ slots ≤ R.slots) (M : MM) (L : ML) (hret : ∀ (v : Int32) (M : MM) (pc : Nat) (ls : Array Slot) (H : Heap) (locs : List Loc), decode cX3_outputByte pc = .ok (.ireturn, 1) → va_S A s.heap H locs → mW E M L H → Q v M → W p l e R s m args below meth c H locs cells slots Z (F0 m pc ls [.int v])) (x1 : Int32) : w_X3_outputByte Q x1 M → ∀ (ls : Array Slot) (H : Heap) (locs : List Loc), lv_has ls 2 [(0, .ref (mh E)), (1, .int x1)] → mW E M L H → va_S A s.heap H locs → W p l e R s m args below meth c H locs cells slots Z (F0 m 0 ls []) := by
  obtain ⟨⟨hx, hb, hml, hown, hts⟩, hK⟩ := C; have C : mC p m c s args cX3_outputByte 2 E := ⟨⟨hx, hb, hml, hown, hts⟩, hK⟩
  intro h
  intro ls H locs hl hW hS
  refine lv_aload_n hx hb dX3_outputByte_0 rfl (lv_at hl 0 rfl) ?_
  refine lv_iconst (v := 0) hx hb dX3_outputByte_1 (by decide) ?_
  refine mr_putI C hW hS hAw 0 rfl rfl q1803 rfl (tyX3_ok 0 (by decide)) h dX3_outputByte_2 (fun M1 H locs hW hS h => ?_)
  refine lv_iload_n hx hb dX3_outputByte_5 rfl (lv_at hl 1 rfl) ?_
  refine lv_iconst (v := 0) hx hb dX3_outputByte_6 (by decide) ?_
  refine lv_aload_n hx hb dX3_outputByte_7 rfl (lv_at hl 0 rfl) ?_
  refine mr_getI C hW 29 rfl rfl q1832 dX3_outputByte_8 ?_
  refine lv_iconst (v := 1) hx hb dX3_outputByte_11 (by decide) ?_
  refine lv_isub hx hb dX3_outputByte_12 ?_
  refine call_X3_isWithin (ct_X3_isWithin l) C.1 hS hA q1915 (le_lit hRf rfl) (le_lit hRl rfl) hcs hl.1 (Nat.le_of_ble_eq_true rfl) dX3_outputByte_13 h (fun r2 H locs h hk hS => ?_)
  have hW := hW.kept hk
  refine lv_if_eq (tgt := 28) hx hb dX3_outputByte_16 (by decide) (fun c4 => ?_) (fun c4 => ?_)
  · have h := wif_t h c4
    refine lv_iconst (v := -1) hx hb dX3_outputByte_28 (by decide) ?_
    exact hret _ _ _ _ _ _ dX3_outputByte_29 hS hW h
  · have h := wif_f h c4
    refine lv_aload_n hx hb dX3_outputByte_19 rfl (lv_at hl 0 rfl) ?_
    refine mr_getA C hW 28 rfl rfl q1831 dX3_outputByte_20 ?_
    refine lv_iload_n hx hb dX3_outputByte_23 rfl (lv_at hl 1 rfl) ?_
    refine mr_iald C hW 28 rfl rfl rfl h dX3_outputByte_24 (fun v3 h => ?_)
    refine lv_goto (tgt := 29) hx hb dX3_outputByte_25 (by decide) ?_
    exact hret _ _ _ _ _ _ dX3_outputByte_29 hS hW h
theorem ct_X3_outputByte (l : Launch) : CT_X3_outputByte l 1 22 w_X3_outputByte := by
  intro E M L sz Q x1
  refine Met.ofW (cc := cX3_outputByte) (maxL := 2) (ret := (some .int)) (by decide) rfl ?_
  intro p e s m args below meth c s₁ B hml hv
  obtain ⟨rfl, hsz, hW, hK, h⟩ := hv
  subst hsz
  have hts := atoms_spec (ws := ws_ yX3_outputByte cX3_outputByte 2 (some .int)) B.pre
  have hts : ∀ w ∈ lw_all, w.before _ s = true := fun w h => hts w (List.mem_cons_of_mem _ h)
  have hl := lv_entry ([.ref (mh E), .int x1]) (n := 2) (Nat.le_of_ble_eq_true rfl)
  rw [lg_entry_eq]
  generalize (lg_sl ([.ref (mh E), .int x1]) ++ List.replicate (2 - (lg_sl ([.ref (mh E), .int x1])).length) Slot.unset).toArray = ls at hl ⊢
  exact wk_X3_outputByte Q ⟨⟨B.exec, B.bytes, hml, findClass_of_methodNamed B.named, hts⟩, hK⟩ (fun q h => Or.inr h) (fun q h => Or.inl h) (Nat.le_refl _) (Nat.le_refl _) ⟨Nat.le_refl _, Nat.le_refl _⟩ M L (fun v M pc ls H locs hd hS hW1 hQ => W.iret (v := v) B.exec B.bytes B.returns (fun t ht _ => ⟨⟨v, (M, L), rfl, ⟨rfl, hQ⟩, by rw [← ht] at hW1; exact hW1⟩, hS.F ht⟩) hS.2.2 hd) x1 h ls _ [] hl hW va_S.rf
def CT_X3_meanKeys (l : Launch) (fr lo : Nat) (w : (UInt64 → MM → Prop) → MM → Prop) : Prop := ∀ (E : mE) (M : MM) (L : ML) (sz : Nat) (Q : UInt64 → MM → Prop), Met l yX3_meanKeys (ws_ yX3_meanKeys cX3_meanKeys 5 (some .double)) { frames := fr, cells := 0, slots := 0, locals := lo } (va_Pc [.ref (mh E)] (fun U => U.heap.size = sz ∧ mW E M L U.heap ∧ mK E U ∧ w Q M)) (va_Qd (fun r (u : MM × ML) => u.2 = L ∧ Q r u.1) (fun u t => mW E u.1 u.2 t.heap) (mA E sz)) 0 0 (mA E sz)
theorem call_X3_meanKeys {p : Program} {l : Launch} {e : Env} {R : Room} {s : State} {m : MethodId} {args : Array Value} {below : List Frame} {meth : Method} {c : Code} {H : Heap} {locs : List Loc} {cells slots : Nat} {Z : State → Prop} {A : Nat → Prop} {cc : ByteArray} {nL pc : Nat} {ls : Array Slot} {rest : List Value} {own : String} {index fr lo : Nat} {w : (UInt64 → MM → Prop) → MM → Prop} {E : mE} {M : MM} {L : ML} (hM : CT_X3_meanKeys l fr lo w) (S : CallFix p m c cc nL s args lw_all own) (hK : mK E s) (hW : mW E M L H) (hS : va_S A s.heap H locs) (hA : ∀ q, s.heap.size ≤ q → A q) (hAw : ∀ q, mAd E q → A q) (hlink : Cond.methodLink own index yX3_meanKeys ∈ lw_all) (hRf : fr + 1 ≤ R.frames) (hRl : 8 + (5 + 11) + lo ≤ R.locals) (hcs : cells ≤ R.cells ∧ slots ≤ R.slots) (hz : ls.size = nL) (hr8 : (rest.map fun v => v.category).sum ≤ 8) (hdg : decode cc pc = .ok (.invokevirtual index, 3)) {Q1 : UInt64 → MM → Prop} (h : w Q1 M) (kk : ∀ (r : UInt64) (M1 : MM) (H1 : Heap) (locs1 : List Loc), Q1 r M1 → mW E M1 L H1 → va_S A s.heap H1 locs1 → (∀ q : Nat, q < H.size → ¬ mAd E q → H1[q]? = H[q]?) → W p l e R s m args below meth c H1 locs1 cells slots Z (F0 m (pc + 3) ls (.double r :: rest))) : W p l e R s m args below meth c H locs cells slots Z (F0 m pc ls (.ref (mh E) :: rest)) := by
  refine mw_d (sz := 0) (P := fun r M1 L1 => L1 = L ∧ Q1 r M1) (va_runV (As := []) (rest := rest) S (hM E M L H.size Q1 ) (cwV 0 S.2.2.2.2 (lw_V hlink q2191 q2192 q68 q2193) rfl rfl rfl (by decide +kernel) ⟨hRf, hRl⟩) ⟨fun a U g mk q => by obtain ⟨q0, q1, qW, qK, qw⟩ := q; exact ⟨q0, q1, qW, qK.moved (u := U) (U := U.calling g mk a) (Vm.Alike.refl U.vm), qw⟩, hW.recv (hK := hK), fun U hU hWm => ⟨rfl, by rw [hU], by rw [hU]; exact hW, hK.moved hWm.alike, h⟩⟩ rfl rfl hz rfl (lv_room hr8) hdg hcs) hS hA hAw (fun r M1 L1 H1 locs1 hp hW1 hz hk hS1 => ?_)
  obtain ⟨rfl, hp⟩ := hp
  exact kk r M1 H1 locs1 hp hW1 hS1 hk
def w_X3_meanKeys_74 (Q : UInt64 → MM → Prop) (rec11 : Int32 → Int32 → Int32 → Prop) (x1 : Int32) (x3 : Int32) (y0 : Int32) (y1 : Int32) (M : MM) : Prop := rec11 x1 (y1 + y0) (x3 + (1 : Int32))
def w_X3_meanKeys_59 (Q : UInt64 → MM → Prop) (rec11 : Int32 → Int32 → Int32 → Prop) (x1 : Int32) (x2 : Int32) (x3 : Int32) (M : MM) : Prop := mRd (M 14) 12 x3 (fun v1 => if v1 = 0 then (w_X3_meanKeys_74 Q rec11 x1 x3 (0 : Int32) x2 M) else (w_X3_meanKeys_74 Q rec11 x1 x3 (1 : Int32) x2 M))
def w_X3_meanKeys_h22 (Q : UInt64 → MM → Prop) (rec11 : Int32 → Int32 → Int32 → Prop) (x2 : Int32) (x3 : Int32) (M : MM) (rec22 : Int32 → Int32 → Prop) (x1 : Int32) (x4 : Int32) : Prop := if (8 : Int32) ≤ x4 then (w_X3_meanKeys_59 Q rec11 x1 x2 x3 M) else (mRd (M 14) 12 x3 (fun v3 => if v3 = 0 then (w_X3_meanKeys_59 Q rec11 x1 x2 x3 M) else (mRd (M 19) 96 (((8 : Int32) * x3) + x4) (fun v4 => rec22 (x1 + v4) (x4 + (1 : Int32))))))
def w_X3_meanKeys_L22 (Q : UInt64 → MM → Prop) (rec11 : Int32 → Int32 → Int32 → Prop) (x2 : Int32) (x3 : Int32) (M : MM) (x1 : Int32) (x4 : Int32) : Prop := wLoop (fun (rec : (Int32 × Int32) → Prop) (s : Int32 × Int32) => w_X3_meanKeys_h22 Q rec11 x2 x3 M (fun x1 x4 => rec (x1, x4)) s.1 s.2) (x1, x4)
def w_X3_meanKeys_h11 (Q : UInt64 → MM → Prop) (M : MM) (rec11 : Int32 → Int32 → Int32 → Prop) (x1 : Int32) (x2 : Int32) (x3 : Int32) : Prop := if (M 15 0) ≤ x3 then (if x2 = 0 then (Q (FP.dconst0) M) else (vf_n64 (FP.ddiv (FP.i2d x1) (FP.i2d x2)) ∧ (Q (FP.ddiv (FP.i2d x1) (FP.i2d x2)) M))) else (w_X3_meanKeys_L22 Q rec11 x2 x3 M x1 (0 : Int32))
def w_X3_meanKeys_L11 (Q : UInt64 → MM → Prop) (M : MM) (x1 : Int32) (x2 : Int32) (x3 : Int32) : Prop := wLoop (fun (rec : (Int32 × Int32 × Int32) → Prop) (s : Int32 × Int32 × Int32) => w_X3_meanKeys_h11 Q M (fun x1 x2 x3 => rec (x1, x2, x3)) s.1 s.2.1 s.2.2) (x1, x2, x3)
def w_X3_meanKeys (Q : UInt64 → MM → Prop) (M : MM) : Prop := mPt M 0 (0 : Int32) (fun M9 => w_X3_meanKeys_L11 Q M9 (0 : Int32) (0 : Int32) (0 : Int32))
set_option maxRecDepth 100000 in
set_option maxHeartbeats 4000000 in
theorem wk_X3_meanKeys {p : Program} {l : Launch} {e : Env} {R : Room} {s : State} {m : MethodId} {args : Array Value} {below : List Frame} {meth : Method} {c : Code} {cells slots : Nat} {Z : State → Prop} {A : Nat → Prop} {E : mE} (Q : UInt64 → MM → Prop) (C : mC p m c s args cX3_meanKeys 5 E) (hA : ∀ q, s.heap.size ≤ q → A q) (hAw : ∀ q, mAd E q → A q) (hRf : 0 ≤ R.frames) (hRl : 0 ≤ R.locals) (hcs : cells ≤ R.cells ∧ slots ≤ R.slots) (M : MM) (L : ML) (hret : ∀ (v : UInt64) (M : MM) (pc : Nat) (ls : Array Slot) (H : Heap) (locs : List Loc), decode cX3_meanKeys pc = .ok (.dreturn, 1) → va_S A s.heap H locs → mW E M L H → Q v M → W p l e R s m args below meth c H locs cells slots Z (F0 m pc ls [.double v])) : w_X3_meanKeys Q M → ∀ (ls : Array Slot) (H : Heap) (locs : List Loc), lv_has ls 5 [(0, .ref (mh E))] → mW E M L H → va_S A s.heap H locs → W p l e R s m args below meth c H locs cells slots Z (F0 m 0 ls []) := by
  obtain ⟨⟨hx, hb, hml, hown, hts⟩, hK⟩ := C; have C : mC p m c s args cX3_meanKeys 5 E := ⟨⟨hx, hb, hml, hown, hts⟩, hK⟩
  have hL11 : ∀ (M : MM) (x1 : Int32) (x2 : Int32) (x3 : Int32), w_X3_meanKeys_L11 Q M x1 x2 x3 → ∀ (ls : Array Slot) (H : Heap) (locs : List Loc), lv_has ls 5 [(0, .ref (mh E)), (1, .int x1), (2, .int x2), (3, .int x3)] → mW E M L H → va_S A s.heap H locs → W p l e R s m args below meth c H locs cells slots Z (F0 m 11 ls []) := by
    intro M
    obtain ⟨G11, hG11⟩ : ∃ G : Int32 → Int32 → Int32 → Prop, ∀ (x1 : Int32) (x2 : Int32) (x3 : Int32), G x1 x2 x3 ↔ (∀ (ls : Array Slot) (H : Heap) (locs : List Loc), lv_has ls 5 [(0, .ref (mh E)), (1, .int x1), (2, .int x2), (3, .int x3)] → mW E M L H → va_S A s.heap H locs → W p l e R s m args below meth c H locs cells slots Z (F0 m 11 ls [])) := ⟨fun x1 x2 x3 => _, fun x1 x2 x3 => Iff.rfl⟩
    have hB11 : ∀ (rec11 : Int32 → Int32 → Int32 → Prop), (∀ (x1 : Int32) (x2 : Int32) (x3 : Int32), rec11 x1 x2 x3 → G11 x1 x2 x3) → ∀ (x1 : Int32) (x2 : Int32) (x3 : Int32), w_X3_meanKeys_h11 Q M rec11 x1 x2 x3 → G11 x1 x2 x3 := by
      intro rec11 hrec11
      have hb74 : ∀ (x1 : Int32) (x3 : Int32) (y0 : Int32) (y1 : Int32), w_X3_meanKeys_74 Q rec11 x1 x3 y0 y1 M → ∀ (ls : Array Slot) (H : Heap) (locs : List Loc), lv_has ls 5 [(0, .ref (mh E)), (1, .int x1), (3, .int x3)] → mW E M L H → va_S A s.heap H locs → W p l e R s m args below meth c H locs cells slots Z (F0 m 74 ls [.int y0, .int y1]) := by
        intro x1 x3 y0 y1 h
        intro ls H locs hl hW hS
        refine lv_iadd hx hb dX3_meanKeys_74 ?_
        refine lv_istore_n (lv' := [(2, .int (y1 + y0)), (0, .ref (mh E)), (1, .int x1), (3, .int x3)]) hx hb dX3_meanKeys_75 rfl hl (by decide) rfl (fun ls hl => ?_)
        refine lv_iinc (v := x3 + (1 : Int32)) (lv' := [(3, .int (x3 + (1 : Int32))), (2, .int (y1 + y0)), (0, .ref (mh E)), (1, .int x1)]) hx hb dX3_meanKeys_76 hl (k := 3) rfl (congrArg (fun z => x3 + z) (by decide)) (by decide) rfl (fun ls hl => ?_)
        refine lv_goto (tgt := 11) hx hb dX3_meanKeys_79 (by decide) ?_
        exact (hG11 _ _ _).mp (hrec11 _ _ _ h) ls H locs (lv_sub hl [2, 3, 1, 0] rfl) hW hS
      have hb59 : ∀ (x1 : Int32) (x2 : Int32) (x3 : Int32), w_X3_meanKeys_59 Q rec11 x1 x2 x3 M → ∀ (ls : Array Slot) (H : Heap) (locs : List Loc), lv_has ls 5 [(0, .ref (mh E)), (1, .int x1), (2, .int x2), (3, .int x3)] → mW E M L H → va_S A s.heap H locs → W p l e R s m args below meth c H locs cells slots Z (F0 m 59 ls []) := by
        intro x1 x2 x3 h
        intro ls H locs hl hW hS
        refine lv_iload_n hx hb dX3_meanKeys_59 rfl (lv_at hl 2 rfl) ?_
        refine lv_aload_n hx hb dX3_meanKeys_60 rfl (lv_at hl 0 rfl) ?_
        refine mr_getA C hW 14 rfl rfl q1817 dX3_meanKeys_61 ?_
        refine lv_iload_n hx hb dX3_meanKeys_64 rfl (lv_at hl 3 rfl) ?_
        refine mr_zald C hW 14 rfl rfl rfl h dX3_meanKeys_65 (fun v1 h => ?_)
        refine lv_if_eq (tgt := 73) hx hb dX3_meanKeys_66 (by decide) (fun c2 => ?_) (fun c2 => ?_)
        · have h := wif_t h c2
          refine lv_iconst (v := 0) hx hb dX3_meanKeys_73 (by decide) ?_
          exact hb74 _ _ _ _ h ls H locs (lv_sub hl [0, 1, 3] rfl) hW hS
        · have h := wif_f h c2
          refine lv_iconst (v := 1) hx hb dX3_meanKeys_69 (by decide) ?_
          refine lv_goto (tgt := 74) hx hb dX3_meanKeys_70 (by decide) ?_
          exact hb74 _ _ _ _ h ls H locs (lv_sub hl [0, 1, 3] rfl) hW hS
      have hL22 : ∀ (x2 : Int32) (x3 : Int32) (x1 : Int32) (x4 : Int32), w_X3_meanKeys_L22 Q rec11 x2 x3 M x1 x4 → ∀ (ls : Array Slot) (H : Heap) (locs : List Loc), lv_has ls 5 [(0, .ref (mh E)), (1, .int x1), (2, .int x2), (3, .int x3), (4, .int x4)] → mW E M L H → va_S A s.heap H locs → W p l e R s m args below meth c H locs cells slots Z (F0 m 22 ls []) := by
        intro x2 x3
        obtain ⟨G22, hG22⟩ : ∃ G : Int32 → Int32 → Prop, ∀ (x1 : Int32) (x4 : Int32), G x1 x4 ↔ (∀ (ls : Array Slot) (H : Heap) (locs : List Loc), lv_has ls 5 [(0, .ref (mh E)), (1, .int x1), (2, .int x2), (3, .int x3), (4, .int x4)] → mW E M L H → va_S A s.heap H locs → W p l e R s m args below meth c H locs cells slots Z (F0 m 22 ls [])) := ⟨fun x1 x4 => _, fun x1 x4 => Iff.rfl⟩
        have hB22 : ∀ (rec22 : Int32 → Int32 → Prop), (∀ (x1 : Int32) (x4 : Int32), rec22 x1 x4 → G22 x1 x4) → ∀ (x1 : Int32) (x4 : Int32), w_X3_meanKeys_h22 Q rec11 x2 x3 M rec22 x1 x4 → G22 x1 x4 := by
          intro rec22 hrec22
          intro x1 x4 h
          rw [hG22]
          intro ls H locs hl hW hS
          refine lv_iload hx hb dX3_meanKeys_22 (lv_at hl 4 rfl) ?_
          refine lv_bipush (v := 8) hx hb dX3_meanKeys_24 (by decide) ?_
          refine lv_icmp_ge (tgt := 59) hx hb dX3_meanKeys_26 (by decide) (fun c6 => ?_) (fun c6 => ?_)
          · have h := wif_t h c6
            exact hb59 _ _ _ h ls H locs (lv_sub hl [0, 1, 2, 3] rfl) hW hS
          · have h := wif_f h c6
            refine lv_aload_n hx hb dX3_meanKeys_29 rfl (lv_at hl 0 rfl) ?_
            refine mr_getA C hW 14 rfl rfl q1817 dX3_meanKeys_30 ?_
            refine lv_iload_n hx hb dX3_meanKeys_33 rfl (lv_at hl 3 rfl) ?_
            refine mr_zald C hW 14 rfl rfl rfl h dX3_meanKeys_34 (fun v3 h => ?_)
            refine lv_if_eq (tgt := 59) hx hb dX3_meanKeys_35 (by decide) (fun c5 => ?_) (fun c5 => ?_)
            · have h := wif_t h c5
              exact hb59 _ _ _ h ls H locs (lv_sub hl [0, 1, 2, 3] rfl) hW hS
            · have h := wif_f h c5
              refine lv_iload_n hx hb dX3_meanKeys_38 rfl (lv_at hl 1 rfl) ?_
              refine lv_aload_n hx hb dX3_meanKeys_39 rfl (lv_at hl 0 rfl) ?_
              refine mr_getA C hW 19 rfl rfl q1822 dX3_meanKeys_40 ?_
              refine lv_bipush (v := 8) hx hb dX3_meanKeys_43 (by decide) ?_
              refine lv_iload_n hx hb dX3_meanKeys_45 rfl (lv_at hl 3 rfl) ?_
              refine lv_imul hx hb dX3_meanKeys_46 ?_
              refine lv_iload hx hb dX3_meanKeys_47 (lv_at hl 4 rfl) ?_
              refine lv_iadd hx hb dX3_meanKeys_49 ?_
              refine mr_iald C hW 19 rfl rfl rfl h dX3_meanKeys_50 (fun v4 h => ?_)
              refine lv_iadd hx hb dX3_meanKeys_51 ?_
              refine lv_istore_n (lv' := [(1, .int (x1 + v4)), (0, .ref (mh E)), (2, .int x2), (3, .int x3), (4, .int x4)]) hx hb dX3_meanKeys_52 rfl hl (by decide) rfl (fun ls hl => ?_)
              refine lv_iinc (v := x4 + (1 : Int32)) (lv' := [(4, .int (x4 + (1 : Int32))), (1, .int (x1 + v4)), (0, .ref (mh E)), (2, .int x2), (3, .int x3)]) hx hb dX3_meanKeys_53 hl (k := 4) rfl (congrArg (fun z => x4 + z) (by decide)) (by decide) rfl (fun ls hl => ?_)
              refine lv_goto (tgt := 22) hx hb dX3_meanKeys_56 (by decide) ?_
              exact (hG22 _ _).mp (hrec22 _ _ h) ls H locs (lv_sub hl [2, 1, 3, 4, 0] rfl) hW hS
        intro x1 x4 h
        exact (hG22 x1 x4).mp (loop_walk (fun s => G22 s.1 s.2) (fun rec hrec s h => hB22 (fun x1 x4 => rec (x1, x4)) (fun x1 x4 h => hrec (x1, x4) h) s.1 s.2 h) (x1, x4) h)
      intro x1 x2 x3 h
      rw [hG11]
      intro ls H locs hl hW hS
      refine lv_iload_n hx hb dX3_meanKeys_11 rfl (lv_at hl 3 rfl) ?_
      refine lv_aload_n hx hb dX3_meanKeys_12 rfl (lv_at hl 0 rfl) ?_
      refine mr_getI C hW 15 rfl rfl q1818 dX3_meanKeys_13 ?_
      refine lv_icmp_ge (tgt := 82) hx hb dX3_meanKeys_16 (by decide) (fun c8 => ?_) (fun c8 => ?_)
      · have h := wif_t h c8
        refine lv_iload_n hx hb dX3_meanKeys_82 rfl (lv_at hl 2 rfl) ?_
        refine lv_if_ne (tgt := 90) hx hb dX3_meanKeys_83 (by decide) (fun c7 => ?_) (fun c7 => ?_)
        · have h := wif_f h c7
          refine lv_iload_n hx hb dX3_meanKeys_90 rfl (lv_at hl 1 rfl) ?_
          refine lv_i2d hx hb dX3_meanKeys_91 ?_
          refine lv_iload_n hx hb dX3_meanKeys_92 rfl (lv_at hl 2 rfl) ?_
          refine lv_i2d hx hb dX3_meanKeys_93 ?_
          refine lv_ddiv hx hb dX3_meanKeys_94 h.1 ?_
          have h := h.2
          exact hret _ _ _ _ _ _ dX3_meanKeys_95 hS hW h
        · have h := wif_t h c7
          refine lv_dconst0 hx hb dX3_meanKeys_86 ?_
          refine lv_goto (tgt := 95) hx hb dX3_meanKeys_87 (by decide) ?_
          exact hret _ _ _ _ _ _ dX3_meanKeys_95 hS hW h
      · have h := wif_f h c8
        refine lv_iconst (v := 0) hx hb dX3_meanKeys_19 (by decide) ?_
        refine lv_istore (lv' := [(4, .int (0 : Int32)), (0, .ref (mh E)), (1, .int x1), (2, .int x2), (3, .int x3)]) hx hb dX3_meanKeys_20 hl (by decide) rfl (fun ls hl => ?_)
        exact hL22 _ _ _ _ h ls H locs (lv_sub hl [1, 2, 3, 4, 0] rfl) hW hS
    intro x1 x2 x3 h
    exact (hG11 x1 x2 x3).mp (loop_walk (fun s => G11 s.1 s.2.1 s.2.2) (fun rec hrec s h => hB11 (fun x1 x2 x3 => rec (x1, x2, x3)) (fun x1 x2 x3 h => hrec (x1, x2, x3) h) s.1 s.2.1 s.2.2 h) (x1, x2, x3) h)
  intro h
  intro ls H locs hl hW hS
  refine lv_aload_n hx hb dX3_meanKeys_0 rfl (lv_at hl 0 rfl) ?_
  refine lv_iconst (v := 0) hx hb dX3_meanKeys_1 (by decide) ?_
  refine mr_putI C hW hS hAw 0 rfl rfl q1803 rfl (tyX3_ok 0 (by decide)) h dX3_meanKeys_2 (fun M9 H locs hW hS h => ?_)
  refine lv_iconst (v := 0) hx hb dX3_meanKeys_5 (by decide) ?_
  refine lv_istore_n (lv' := [(1, .int (0 : Int32)), (0, .ref (mh E))]) hx hb dX3_meanKeys_6 rfl hl (by decide) rfl (fun ls hl => ?_)
  refine lv_iconst (v := 0) hx hb dX3_meanKeys_7 (by decide) ?_
  refine lv_istore_n (lv' := [(2, .int (0 : Int32)), (1, .int (0 : Int32)), (0, .ref (mh E))]) hx hb dX3_meanKeys_8 rfl hl (by decide) rfl (fun ls hl => ?_)
  refine lv_iconst (v := 0) hx hb dX3_meanKeys_9 (by decide) ?_
  refine lv_istore_n (lv' := [(3, .int (0 : Int32)), (2, .int (0 : Int32)), (1, .int (0 : Int32)), (0, .ref (mh E))]) hx hb dX3_meanKeys_10 rfl hl (by decide) rfl (fun ls hl => ?_)
  exact hL11 _ _ _ _ h ls H locs (lv_sub hl [3, 2, 1, 0] rfl) hW hS
theorem ct_X3_meanKeys (l : Launch) : CT_X3_meanKeys l 0 0 w_X3_meanKeys := by
  intro E M L sz Q
  refine Met.ofW (cc := cX3_meanKeys) (maxL := 5) (ret := (some .double)) (by decide) rfl ?_
  intro p e s m args below meth c s₁ B hml hv
  obtain ⟨rfl, hsz, hW, hK, h⟩ := hv
  subst hsz
  have hts := atoms_spec (ws := ws_ yX3_meanKeys cX3_meanKeys 5 (some .double)) B.pre
  have hts : ∀ w ∈ lw_all, w.before _ s = true := fun w h => hts w (List.mem_cons_of_mem _ h)
  have hl := lv_entry ([.ref (mh E)]) (n := 5) (Nat.le_of_ble_eq_true rfl)
  rw [lg_entry_eq]
  generalize (lg_sl ([.ref (mh E)]) ++ List.replicate (5 - (lg_sl ([.ref (mh E)])).length) Slot.unset).toArray = ls at hl ⊢
  exact wk_X3_meanKeys Q ⟨⟨B.exec, B.bytes, hml, findClass_of_methodNamed B.named, hts⟩, hK⟩ (fun q h => Or.inr h) (fun q h => Or.inl h) (Nat.le_refl _) (Nat.le_refl _) ⟨Nat.le_refl _, Nat.le_refl _⟩ M L (fun v M pc ls H locs hd hS hW1 hQ => W.dret (hlocks := B.notSynchronized) (v := v) B.exec B.bytes B.returns (fun t ht _ => ⟨⟨v, (M, L), rfl, ⟨rfl, hQ⟩, by rw [← ht] at hW1; exact hW1⟩, hS.F ht⟩) hS.2.2 hd)  h ls _ [] hl hW va_S.rf
