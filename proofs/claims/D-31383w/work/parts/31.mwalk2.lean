def CT_X3_setParent (l : Launch) (fr lo : Nat) (w : (Int32 → MM → Prop) → Int32 → Int32 → MM → Prop) : Prop := ∀ (E : mE) (M : MM) (L : ML) (sz : Nat) (Q : Int32 → MM → Prop) (x1 : Int32) (x2 : Int32), Met l yX3_setParent (ws_ yX3_setParent cX3_setParent 6 (some .int)) { frames := fr, cells := 0, slots := 0, locals := lo } (va_Pc [.ref (mh E), .int x1, .int x2] (fun U => U.heap.size = sz ∧ mW E M L U.heap ∧ mK E U ∧ w Q x1 x2 M)) (va_Qi (fun r (u : MM × ML) => u.2 = L ∧ Q r u.1) (fun u t => mW E u.1 u.2 t.heap) (mA E sz)) 0 0 (mA E sz)
theorem call_X3_setParent {p : Program} {l : Launch} {e : Env} {R : Room} {s : State} {m : MethodId} {args : Array Value} {below : List Frame} {meth : Method} {c : Code} {H : Heap} {locs : List Loc} {cells slots : Nat} {Z : State → Prop} {A : Nat → Prop} {cc : ByteArray} {nL pc : Nat} {ls : Array Slot} {rest : List Value} {own : String} {index fr lo : Nat} {w : (Int32 → MM → Prop) → Int32 → Int32 → MM → Prop} {E : mE} {M : MM} {L : ML} {x1 : Int32} {x2 : Int32} (hM : CT_X3_setParent l fr lo w) (S : CallFix p m c cc nL s args lw_all own) (hK : mK E s) (hW : mW E M L H) (hS : va_S A s.heap H locs) (hA : ∀ q, s.heap.size ≤ q → A q) (hAw : ∀ q, mAd E q → A q) (hlink : Cond.methodLink own index yX3_setParent ∈ lw_all) (hRf : fr + 1 ≤ R.frames) (hRl : 8 + (6 + 11) + lo ≤ R.locals) (hcs : cells ≤ R.cells ∧ slots ≤ R.slots) (hz : ls.size = nL) (hr8 : (rest.map fun v => v.category).sum ≤ 8) (hdg : decode cc pc = .ok (.invokevirtual index, 3)) {Q1 : Int32 → MM → Prop} (h : w Q1 x1 x2 M) (kk : ∀ (r : Int32) (M1 : MM) (H1 : Heap) (locs1 : List Loc), Q1 r M1 → mW E M1 L H1 → va_S A s.heap H1 locs1 → (∀ q : Nat, q < H.size → ¬ mAd E q → H1[q]? = H[q]?) → W p l e R s m args below meth c H1 locs1 cells slots Z (F0 m (pc + 3) ls (.int r :: rest))) : W p l e R s m args below meth c H locs cells slots Z (F0 m pc ls (.int x2 :: .int x1 :: .ref (mh E) :: rest)) := by
  refine mw_i (sz := 0) (P := fun r M1 L1 => L1 = L ∧ Q1 r M1) (va_runV (As := [.int x1, .int x2]) (rest := rest) S (hM E M L H.size Q1 x1 x2) (cwV 2 S.2.2.2.2 (lw_V hlink q1975 q1976 q68 q1977) rfl rfl rfl (by decide +kernel) ⟨hRf, hRl⟩) ⟨fun a U g mk q => by obtain ⟨q0, q1, qW, qK, qw⟩ := q; exact ⟨q0, q1, qW, qK.moved (u := U) (U := U.calling g mk a) (Vm.Alike.refl U.vm), qw⟩, hW.recv (hK := hK), fun U hU hWm => ⟨rfl, by rw [hU], by rw [hU]; exact hW, hK.moved hWm.alike, h⟩⟩ rfl rfl hz rfl (lv_room hr8) hdg hcs) hS hA hAw (fun r M1 L1 H1 locs1 hp hW1 hz hk hS1 => ?_)
  obtain ⟨rfl, hp⟩ := hp
  exact kk r M1 H1 locs1 hp hW1 hS1 hk
def w_X3_setParent_65 (Q : Int32 → MM → Prop) (x1 : Int32) (x2 : Int32) (x3 : Int32) (y0 : Int32) (M : MM) : Prop := w_X3_check (fun r1 M2 => if r1 = 0 then (Q (0 : Int32) M2) else (mRd (M2 9) 12 x1 (fun v3 => mWr M2 9 12 x1 x2 (fun M4 => Q v3 M4)))) x3 y0 (1 : Int32) M
def w_X3_setParent_64 (Q : Int32 → MM → Prop) (x1 : Int32) (x2 : Int32) (x3 : Int32) (M : MM) : Prop := w_X3_setParent_65 Q x1 x2 x3 (0 : Int32) M
def w_X3_setParent_60 (Q : Int32 → MM → Prop) (x1 : Int32) (x2 : Int32) (x3 : Int32) (M : MM) : Prop := w_X3_setParent_65 Q x1 x2 x3 (1 : Int32) M
def w_X3_setParent_26 (Q : Int32 → MM → Prop) (x1 : Int32) (x2 : Int32) (y0 : Int32) (M : MM) : Prop := if y0 = 0 then (w_X3_setParent_64 Q x1 x2 y0 M) else (if x2 = (-1 : Int32) then (w_X3_setParent_60 Q x1 x2 y0 M) else (mRd (M 5) 12 x2 (fun v6 => mRd (M 5) 12 x1 (fun v7 => if v6 = v7 then (w_X3_isAbove (fun r8 => if r8 = 0 then (w_X3_setParent_60 Q x1 x2 y0 M) else (w_X3_setParent_64 Q x1 x2 y0 M)) x1 x2 M) else (w_X3_setParent_64 Q x1 x2 y0 M)))))
def w_X3_setParent_25 (Q : Int32 → MM → Prop) (x1 : Int32) (x2 : Int32) (M : MM) : Prop := w_X3_setParent_26 Q x1 x2 (0 : Int32) M
def w_X3_setParent_21 (Q : Int32 → MM → Prop) (x1 : Int32) (x2 : Int32) (M : MM) : Prop := w_X3_setParent_26 Q x1 x2 (1 : Int32) M
def w_X3_setParent (Q : Int32 → MM → Prop) (x1 : Int32) (x2 : Int32) (M : MM) : Prop := w_X3_isLayer (fun r13 => if r13 = 0 then (w_X3_setParent_25 Q x1 x2 M) else (if x2 = (-1 : Int32) then (w_X3_setParent_21 Q x1 x2 M) else (w_X3_isLayer (fun r14 => if r14 = 0 then (w_X3_setParent_25 Q x1 x2 M) else (w_X3_setParent_21 Q x1 x2 M)) x2 M))) x1 M
set_option maxRecDepth 100000 in
set_option maxHeartbeats 4000000 in
theorem wk_X3_setParent {p : Program} {l : Launch} {e : Env} {R : Room} {s : State} {m : MethodId} {args : Array Value} {below : List Frame} {meth : Method} {c : Code} {cells slots : Nat} {Z : State → Prop} {A : Nat → Prop} {E : mE} (Q : Int32 → MM → Prop) (C : mC p m c s args cX3_setParent 6 E) (hA : ∀ q, s.heap.size ≤ q → A q) (hAw : ∀ q, mAd E q → A q) (hRf : 2 ≤ R.frames) (hRl : 43 ≤ R.locals) (hcs : cells ≤ R.cells ∧ slots ≤ R.slots) (M : MM) (L : ML) (hret : ∀ (v : Int32) (M : MM) (pc : Nat) (ls : Array Slot) (H : Heap) (locs : List Loc), decode cX3_setParent pc = .ok (.ireturn, 1) → va_S A s.heap H locs → mW E M L H → Q v M → W p l e R s m args below meth c H locs cells slots Z (F0 m pc ls [.int v])) (x1 : Int32) (x2 : Int32) : w_X3_setParent Q x1 x2 M → ∀ (ls : Array Slot) (H : Heap) (locs : List Loc), lv_has ls 6 [(0, .ref (mh E)), (1, .int x1), (2, .int x2)] → mW E M L H → va_S A s.heap H locs → W p l e R s m args below meth c H locs cells slots Z (F0 m 0 ls []) := by
  obtain ⟨⟨hx, hb, hml, hown, hts⟩, hK⟩ := C; have C : mC p m c s args cX3_setParent 6 E := ⟨⟨hx, hb, hml, hown, hts⟩, hK⟩
  have hb65 : ∀ (x3 : Int32) (y0 : Int32) (M : MM), w_X3_setParent_65 Q x1 x2 x3 y0 M → ∀ (ls : Array Slot) (H : Heap) (locs : List Loc), lv_has ls 6 [(0, .ref (mh E)), (1, .int x1), (2, .int x2), (3, .int x3)] → mW E M L H → va_S A s.heap H locs → W p l e R s m args below meth c H locs cells slots Z (F0 m 65 ls [.int y0]) := by
    intro x3 y0 M h
    intro ls H locs hl hW hS
    refine lv_istore (lv' := [(4, .int y0), (0, .ref (mh E)), (1, .int x1), (2, .int x2), (3, .int x3)]) hx hb dX3_setParent_65 hl (by decide) rfl (fun ls hl => ?_)
    refine lv_aload_n hx hb dX3_setParent_67 rfl (lv_at hl 1 rfl) ?_
    refine lv_iload_n hx hb dX3_setParent_68 rfl (lv_at hl 4 rfl) ?_
    refine lv_iload hx hb dX3_setParent_69 (lv_at hl 0 rfl) ?_
    refine lv_iconst (v := 1) hx hb dX3_setParent_71 (by decide) ?_
    refine call_X3_check (ct_X3_check l) C.1 C.2 hW hS hA hAw q1907 (le_lit hRf rfl) (le_lit hRl rfl) hcs hl.1 (Nat.le_of_ble_eq_true rfl) dX3_setParent_72 h (fun r1 M2 H locs h hW hS _ => ?_)
    refine lv_if_ne (tgt := 80) hx hb dX3_setParent_75 (by decide) (fun c5 => ?_) (fun c5 => ?_)
    · have h := wif_f h c5
      refine lv_aload_n hx hb dX3_setParent_80 rfl (lv_at hl 1 rfl) ?_
      refine mr_getA C hW 9 rfl rfl q1812 dX3_setParent_81 ?_
      refine lv_iload_n hx hb dX3_setParent_84 rfl (lv_at hl 2 rfl) ?_
      refine mr_iald C hW 9 rfl rfl rfl h dX3_setParent_85 (fun v3 h => ?_)
      refine lv_istore (lv' := [(5, .int v3), (4, .int y0), (0, .ref (mh E)), (1, .int x1), (2, .int x2), (3, .int x3)]) hx hb dX3_setParent_86 hl (by decide) rfl (fun ls hl => ?_)
      refine lv_aload_n hx hb dX3_setParent_88 rfl (lv_at hl 2 rfl) ?_
      refine mr_getA C hW 9 rfl rfl q1812 dX3_setParent_89 ?_
      refine lv_iload_n hx hb dX3_setParent_92 rfl (lv_at hl 3 rfl) ?_
      refine lv_iload_n hx hb dX3_setParent_93 rfl (lv_at hl 4 rfl) ?_
      refine mr_iast C hW hS hAw 9 rfl rfl rfl h dX3_setParent_94 (fun M4 H locs hW hS h => ?_)
      refine lv_iload hx hb dX3_setParent_95 (lv_at hl 0 rfl) ?_
      exact hret _ _ _ _ _ _ dX3_setParent_97 hS hW h
    · have h := wif_t h c5
      refine lv_iconst (v := 0) hx hb dX3_setParent_78 (by decide) ?_
      exact hret _ _ _ _ _ _ dX3_setParent_79 hS hW h
  have hb64 : ∀ (x3 : Int32) (M : MM), w_X3_setParent_64 Q x1 x2 x3 M → ∀ (ls : Array Slot) (H : Heap) (locs : List Loc), lv_has ls 6 [(0, .ref (mh E)), (1, .int x1), (2, .int x2), (3, .int x3)] → mW E M L H → va_S A s.heap H locs → W p l e R s m args below meth c H locs cells slots Z (F0 m 64 ls []) := by
    intro x3 M h
    intro ls H locs hl hW hS
    refine lv_iconst (v := 0) hx hb dX3_setParent_64 (by decide) ?_
    exact hb65 _ _ _ h ls H locs (lv_sub hl [0, 1, 2, 3] rfl) hW hS
  have hb60 : ∀ (x3 : Int32) (M : MM), w_X3_setParent_60 Q x1 x2 x3 M → ∀ (ls : Array Slot) (H : Heap) (locs : List Loc), lv_has ls 6 [(0, .ref (mh E)), (1, .int x1), (2, .int x2), (3, .int x3)] → mW E M L H → va_S A s.heap H locs → W p l e R s m args below meth c H locs cells slots Z (F0 m 60 ls []) := by
    intro x3 M h
    intro ls H locs hl hW hS
    refine lv_iconst (v := 1) hx hb dX3_setParent_60 (by decide) ?_
    refine lv_goto (tgt := 65) hx hb dX3_setParent_61 (by decide) ?_
    exact hb65 _ _ _ h ls H locs (lv_sub hl [0, 1, 2, 3] rfl) hW hS
  have hb26 : ∀ (y0 : Int32) (M : MM), w_X3_setParent_26 Q x1 x2 y0 M → ∀ (ls : Array Slot) (H : Heap) (locs : List Loc), lv_has ls 6 [(0, .ref (mh E)), (1, .int x1), (2, .int x2)] → mW E M L H → va_S A s.heap H locs → W p l e R s m args below meth c H locs cells slots Z (F0 m 26 ls [.int y0]) := by
    intro y0 M h
    intro ls H locs hl hW hS
    refine lv_istore_n (lv' := [(3, .int y0), (0, .ref (mh E)), (1, .int x1), (2, .int x2)]) hx hb dX3_setParent_26 rfl hl (by decide) rfl (fun ls hl => ?_)
    refine lv_iload_n hx hb dX3_setParent_27 rfl (lv_at hl 0 rfl) ?_
    refine lv_if_eq (tgt := 64) hx hb dX3_setParent_28 (by decide) (fun c12 => ?_) (fun c12 => ?_)
    · have h := wif_t h c12
      exact hb64 _ _ h ls H locs (lv_sub hl [1, 2, 3, 0] rfl) hW hS
    · have h := wif_f h c12
      refine lv_iload_n hx hb dX3_setParent_31 rfl (lv_at hl 3 rfl) ?_
      refine lv_iconst (v := -1) hx hb dX3_setParent_32 (by decide) ?_
      refine lv_icmp_eq (tgt := 60) hx hb dX3_setParent_33 (by decide) (fun c11 => ?_) (fun c11 => ?_)
      · have h := wif_t h c11
        exact hb60 _ _ h ls H locs (lv_sub hl [1, 2, 3, 0] rfl) hW hS
      · have h := wif_f h c11
        refine lv_aload_n hx hb dX3_setParent_36 rfl (lv_at hl 1 rfl) ?_
        refine mr_getA C hW 5 rfl rfl q1808 dX3_setParent_37 ?_
        refine lv_iload_n hx hb dX3_setParent_40 rfl (lv_at hl 3 rfl) ?_
        refine mr_iald C hW 5 rfl rfl rfl h dX3_setParent_41 (fun v6 h => ?_)
        refine lv_aload_n hx hb dX3_setParent_42 rfl (lv_at hl 1 rfl) ?_
        refine mr_getA C hW 5 rfl rfl q1808 dX3_setParent_43 ?_
        refine lv_iload_n hx hb dX3_setParent_46 rfl (lv_at hl 2 rfl) ?_
        refine mr_iald C hW 5 rfl rfl rfl h dX3_setParent_47 (fun v7 h => ?_)
        refine lv_icmp_ne (tgt := 64) hx hb dX3_setParent_48 (by decide) (fun c10 => ?_) (fun c10 => ?_)
        · have h := wif_f h c10
          exact hb64 _ _ h ls H locs (lv_sub hl [1, 2, 3, 0] rfl) hW hS
        · have h := wif_t h c10
          refine lv_aload_n hx hb dX3_setParent_51 rfl (lv_at hl 1 rfl) ?_
          refine lv_iload_n hx hb dX3_setParent_52 rfl (lv_at hl 2 rfl) ?_
          refine lv_iload_n hx hb dX3_setParent_53 rfl (lv_at hl 3 rfl) ?_
          refine call_X3_isAbove (ct_X3_isAbove l) C.1 C.2 hW hS hA q1978 (le_lit hRf rfl) (le_lit hRl rfl) hcs hl.1 (Nat.le_of_ble_eq_true rfl) dX3_setParent_54 h (fun r8 H locs h hk hS => ?_)
          have hW := hW.kept hk
          refine lv_if_ne (tgt := 64) hx hb dX3_setParent_57 (by decide) (fun c9 => ?_) (fun c9 => ?_)
          · have h := wif_f h c9
            exact hb64 _ _ h ls H locs (lv_sub hl [1, 2, 3, 0] rfl) hW hS
          · have h := wif_t h c9
            exact hb60 _ _ h ls H locs (lv_sub hl [1, 2, 3, 0] rfl) hW hS
  have hb25 : ∀ (M : MM), w_X3_setParent_25 Q x1 x2 M → ∀ (ls : Array Slot) (H : Heap) (locs : List Loc), lv_has ls 6 [(0, .ref (mh E)), (1, .int x1), (2, .int x2)] → mW E M L H → va_S A s.heap H locs → W p l e R s m args below meth c H locs cells slots Z (F0 m 25 ls []) := by
    intro M h
    intro ls H locs hl hW hS
    refine lv_iconst (v := 0) hx hb dX3_setParent_25 (by decide) ?_
    exact hb26 _ _ h ls H locs (lv_sub hl [0, 1, 2] rfl) hW hS
  have hb21 : ∀ (M : MM), w_X3_setParent_21 Q x1 x2 M → ∀ (ls : Array Slot) (H : Heap) (locs : List Loc), lv_has ls 6 [(0, .ref (mh E)), (1, .int x1), (2, .int x2)] → mW E M L H → va_S A s.heap H locs → W p l e R s m args below meth c H locs cells slots Z (F0 m 21 ls []) := by
    intro M h
    intro ls H locs hl hW hS
    refine lv_iconst (v := 1) hx hb dX3_setParent_21 (by decide) ?_
    refine lv_goto (tgt := 26) hx hb dX3_setParent_22 (by decide) ?_
    exact hb26 _ _ h ls H locs (lv_sub hl [0, 1, 2] rfl) hW hS
  intro h
  intro ls H locs hl hW hS
  refine lv_aload_n hx hb dX3_setParent_0 rfl (lv_at hl 0 rfl) ?_
  refine lv_iload_n hx hb dX3_setParent_1 rfl (lv_at hl 1 rfl) ?_
  refine call_X3_isLayer (ct_X3_isLayer l) C.1 C.2 hW hS hA q1938 (le_lit hRf rfl) (le_lit hRl rfl) hcs hl.1 (Nat.le_of_ble_eq_true rfl) dX3_setParent_2 h (fun r13 H locs h hk hS => ?_)
  have hW := hW.kept hk
  refine lv_if_eq (tgt := 25) hx hb dX3_setParent_5 (by decide) (fun c17 => ?_) (fun c17 => ?_)
  · have h := wif_t h c17
    exact hb25 _ h ls H locs (lv_sub hl [0, 1, 2] rfl) hW hS
  · have h := wif_f h c17
    refine lv_iload_n hx hb dX3_setParent_8 rfl (lv_at hl 2 rfl) ?_
    refine lv_iconst (v := -1) hx hb dX3_setParent_9 (by decide) ?_
    refine lv_icmp_eq (tgt := 21) hx hb dX3_setParent_10 (by decide) (fun c16 => ?_) (fun c16 => ?_)
    · have h := wif_t h c16
      exact hb21 _ h ls H locs (lv_sub hl [0, 1, 2] rfl) hW hS
    · have h := wif_f h c16
      refine lv_aload_n hx hb dX3_setParent_13 rfl (lv_at hl 0 rfl) ?_
      refine lv_iload_n hx hb dX3_setParent_14 rfl (lv_at hl 2 rfl) ?_
      refine call_X3_isLayer (ct_X3_isLayer l) C.1 C.2 hW hS hA q1938 (le_lit hRf rfl) (le_lit hRl rfl) hcs hl.1 (Nat.le_of_ble_eq_true rfl) dX3_setParent_15 h (fun r14 H locs h hk hS => ?_)
      have hW := hW.kept hk
      refine lv_if_eq (tgt := 25) hx hb dX3_setParent_18 (by decide) (fun c15 => ?_) (fun c15 => ?_)
      · have h := wif_t h c15
        exact hb25 _ h ls H locs (lv_sub hl [0, 1, 2] rfl) hW hS
      · have h := wif_f h c15
        exact hb21 _ h ls H locs (lv_sub hl [0, 1, 2] rfl) hW hS
theorem ct_X3_setParent (l : Launch) : CT_X3_setParent l 2 43 w_X3_setParent := by
  intro E M L sz Q x1 x2
  refine Met.ofW (cc := cX3_setParent) (maxL := 6) (ret := (some .int)) (by decide) rfl ?_
  intro p e s m args below meth c s₁ B hml hv
  obtain ⟨rfl, hsz, hW, hK, h⟩ := hv
  subst hsz
  have hts := atoms_spec (ws := ws_ yX3_setParent cX3_setParent 6 (some .int)) B.pre
  have hts : ∀ w ∈ lw_all, w.before _ s = true := fun w h => hts w (List.mem_cons_of_mem _ h)
  have hl := lv_entry ([.ref (mh E), .int x1, .int x2]) (n := 6) (Nat.le_of_ble_eq_true rfl)
  rw [lg_entry_eq]
  generalize (lg_sl ([.ref (mh E), .int x1, .int x2]) ++ List.replicate (6 - (lg_sl ([.ref (mh E), .int x1, .int x2])).length) Slot.unset).toArray = ls at hl ⊢
  exact wk_X3_setParent Q ⟨⟨B.exec, B.bytes, hml, findClass_of_methodNamed B.named, hts⟩, hK⟩ (fun q h => Or.inr h) (fun q h => Or.inl h) (Nat.le_refl _) (Nat.le_refl _) ⟨Nat.le_refl _, Nat.le_refl _⟩ M L (fun v M pc ls H locs hd hS hW1 hQ => W.iret (v := v) B.exec B.bytes B.returns (fun t ht _ => ⟨⟨v, (M, L), rfl, ⟨rfl, hQ⟩, by rw [← ht] at hW1; exact hW1⟩, hS.F ht⟩) hS.2.2 hd) x1 x2 h ls _ [] hl hW va_S.rf
def CT_X3_setMatte (l : Launch) (fr lo : Nat) (w : (Int32 → MM → Prop) → Int32 → Int32 → Int32 → MM → Prop) : Prop := ∀ (E : mE) (M : MM) (L : ML) (sz : Nat) (Q : Int32 → MM → Prop) (x1 : Int32) (x2 : Int32) (x3 : Int32), Met l yX3_setMatte (ws_ yX3_setMatte cX3_setMatte 7 (some .int)) { frames := fr, cells := 0, slots := 0, locals := lo } (va_Pc [.ref (mh E), .int x1, .int x2, .int x3] (fun U => U.heap.size = sz ∧ mW E M L U.heap ∧ mK E U ∧ w Q x1 x2 x3 M)) (va_Qi (fun r (u : MM × ML) => u.2 = L ∧ Q r u.1) (fun u t => mW E u.1 u.2 t.heap) (mA E sz)) 0 0 (mA E sz)
theorem call_X3_setMatte {p : Program} {l : Launch} {e : Env} {R : Room} {s : State} {m : MethodId} {args : Array Value} {below : List Frame} {meth : Method} {c : Code} {H : Heap} {locs : List Loc} {cells slots : Nat} {Z : State → Prop} {A : Nat → Prop} {cc : ByteArray} {nL pc : Nat} {ls : Array Slot} {rest : List Value} {own : String} {index fr lo : Nat} {w : (Int32 → MM → Prop) → Int32 → Int32 → Int32 → MM → Prop} {E : mE} {M : MM} {L : ML} {x1 : Int32} {x2 : Int32} {x3 : Int32} (hM : CT_X3_setMatte l fr lo w) (S : CallFix p m c cc nL s args lw_all own) (hK : mK E s) (hW : mW E M L H) (hS : va_S A s.heap H locs) (hA : ∀ q, s.heap.size ≤ q → A q) (hAw : ∀ q, mAd E q → A q) (hlink : Cond.methodLink own index yX3_setMatte ∈ lw_all) (hRf : fr + 1 ≤ R.frames) (hRl : 8 + (7 + 11) + lo ≤ R.locals) (hcs : cells ≤ R.cells ∧ slots ≤ R.slots) (hz : ls.size = nL) (hr8 : (rest.map fun v => v.category).sum ≤ 8) (hdg : decode cc pc = .ok (.invokevirtual index, 3)) {Q1 : Int32 → MM → Prop} (h : w Q1 x1 x2 x3 M) (kk : ∀ (r : Int32) (M1 : MM) (H1 : Heap) (locs1 : List Loc), Q1 r M1 → mW E M1 L H1 → va_S A s.heap H1 locs1 → (∀ q : Nat, q < H.size → ¬ mAd E q → H1[q]? = H[q]?) → W p l e R s m args below meth c H1 locs1 cells slots Z (F0 m (pc + 3) ls (.int r :: rest))) : W p l e R s m args below meth c H locs cells slots Z (F0 m pc ls (.int x3 :: .int x2 :: .int x1 :: .ref (mh E) :: rest)) := by
  refine mw_i (sz := 0) (P := fun r M1 L1 => L1 = L ∧ Q1 r M1) (va_runV (As := [.int x1, .int x2, .int x3]) (rest := rest) S (hM E M L H.size Q1 x1 x2 x3) (cwV 3 S.2.2.2.2 (lw_V hlink q1983 q1984 q68 q1985) rfl rfl rfl (by decide +kernel) ⟨hRf, hRl⟩) ⟨fun a U g mk q => by obtain ⟨q0, q1, qW, qK, qw⟩ := q; exact ⟨q0, q1, qW, qK.moved (u := U) (U := U.calling g mk a) (Vm.Alike.refl U.vm), qw⟩, hW.recv (hK := hK), fun U hU hWm => ⟨rfl, by rw [hU], by rw [hU]; exact hW, hK.moved hWm.alike, h⟩⟩ rfl rfl hz rfl (lv_room hr8) hdg hcs) hS hA hAw (fun r M1 L1 H1 locs1 hp hW1 hz hk hS1 => ?_)
  obtain ⟨rfl, hp⟩ := hp
  exact kk r M1 H1 locs1 hp hW1 hS1 hk
def w_X3_setMatte_63 (Q : Int32 → MM → Prop) (x1 : Int32) (x2 : Int32) (x3 : Int32) (x4 : Int32) (y0 : Int32) (M : MM) : Prop := w_X3_check (fun r1 M2 => if r1 = 0 then (Q (0 : Int32) M2) else (mRd (M2 10) 12 x1 (fun v3 => mWr M2 10 12 x1 x2 (fun M4 => mWr M4 11 12 x1 (zN x3) (fun M5 => Q v3 M5))))) x4 y0 (1 : Int32) M
def w_X3_setMatte_62 (Q : Int32 → MM → Prop) (x1 : Int32) (x2 : Int32) (x3 : Int32) (x4 : Int32) (M : MM) : Prop := w_X3_setMatte_63 Q x1 x2 x3 x4 (0 : Int32) M
def w_X3_setMatte_58 (Q : Int32 → MM → Prop) (x1 : Int32) (x2 : Int32) (x3 : Int32) (x4 : Int32) (M : MM) : Prop := w_X3_setMatte_63 Q x1 x2 x3 x4 (1 : Int32) M
def w_X3_setMatte_26 (Q : Int32 → MM → Prop) (x1 : Int32) (x2 : Int32) (x3 : Int32) (y0 : Int32) (M : MM) : Prop := if y0 = 0 then (w_X3_setMatte_62 Q x1 x2 x3 y0 M) else (if x2 = (-1 : Int32) then (w_X3_setMatte_58 Q x1 x2 x3 y0 M) else (mRd (M 5) 12 x2 (fun v7 => mRd (M 5) 12 x1 (fun v8 => if v7 = v8 then (if x2 = x1 then (w_X3_setMatte_62 Q x1 x2 x3 y0 M) else (w_X3_setMatte_58 Q x1 x2 x3 y0 M)) else (w_X3_setMatte_62 Q x1 x2 x3 y0 M)))))
def w_X3_setMatte_25 (Q : Int32 → MM → Prop) (x1 : Int32) (x2 : Int32) (x3 : Int32) (M : MM) : Prop := w_X3_setMatte_26 Q x1 x2 x3 (0 : Int32) M
def w_X3_setMatte_21 (Q : Int32 → MM → Prop) (x1 : Int32) (x2 : Int32) (x3 : Int32) (M : MM) : Prop := w_X3_setMatte_26 Q x1 x2 x3 (1 : Int32) M
def w_X3_setMatte (Q : Int32 → MM → Prop) (x1 : Int32) (x2 : Int32) (x3 : Int32) (M : MM) : Prop := w_X3_isLayer (fun r13 => if r13 = 0 then (w_X3_setMatte_25 Q x1 x2 x3 M) else (if x2 = (-1 : Int32) then (w_X3_setMatte_21 Q x1 x2 x3 M) else (w_X3_isLayer (fun r14 => if r14 = 0 then (w_X3_setMatte_25 Q x1 x2 x3 M) else (w_X3_setMatte_21 Q x1 x2 x3 M)) x2 M))) x1 M
set_option maxRecDepth 100000 in
set_option maxHeartbeats 4000000 in
theorem wk_X3_setMatte {p : Program} {l : Launch} {e : Env} {R : Room} {s : State} {m : MethodId} {args : Array Value} {below : List Frame} {meth : Method} {c : Code} {cells slots : Nat} {Z : State → Prop} {A : Nat → Prop} {E : mE} (Q : Int32 → MM → Prop) (C : mC p m c s args cX3_setMatte 7 E) (hA : ∀ q, s.heap.size ≤ q → A q) (hAw : ∀ q, mAd E q → A q) (hRf : 2 ≤ R.frames) (hRl : 43 ≤ R.locals) (hcs : cells ≤ R.cells ∧ slots ≤ R.slots) (M : MM) (L : ML) (hret : ∀ (v : Int32) (M : MM) (pc : Nat) (ls : Array Slot) (H : Heap) (locs : List Loc), decode cX3_setMatte pc = .ok (.ireturn, 1) → va_S A s.heap H locs → mW E M L H → Q v M → W p l e R s m args below meth c H locs cells slots Z (F0 m pc ls [.int v])) (x1 : Int32) (x2 : Int32) (x3 : Int32) : w_X3_setMatte Q x1 x2 x3 M → ∀ (ls : Array Slot) (H : Heap) (locs : List Loc), lv_has ls 7 [(0, .ref (mh E)), (1, .int x1), (2, .int x2), (3, .int x3)] → mW E M L H → va_S A s.heap H locs → W p l e R s m args below meth c H locs cells slots Z (F0 m 0 ls []) := by
  obtain ⟨⟨hx, hb, hml, hown, hts⟩, hK⟩ := C; have C : mC p m c s args cX3_setMatte 7 E := ⟨⟨hx, hb, hml, hown, hts⟩, hK⟩
  have hb63 : ∀ (x4 : Int32) (y0 : Int32) (M : MM), w_X3_setMatte_63 Q x1 x2 x3 x4 y0 M → ∀ (ls : Array Slot) (H : Heap) (locs : List Loc), lv_has ls 7 [(0, .ref (mh E)), (1, .int x1), (2, .int x2), (3, .int x3), (4, .int x4)] → mW E M L H → va_S A s.heap H locs → W p l e R s m args below meth c H locs cells slots Z (F0 m 63 ls [.int y0]) := by
    intro x4 y0 M h
    intro ls H locs hl hW hS
    refine lv_istore (lv' := [(5, .int y0), (0, .ref (mh E)), (1, .int x1), (2, .int x2), (3, .int x3), (4, .int x4)]) hx hb dX3_setMatte_63 hl (by decide) rfl (fun ls hl => ?_)
    refine lv_aload_n hx hb dX3_setMatte_65 rfl (lv_at hl 1 rfl) ?_
    refine lv_iload hx hb dX3_setMatte_66 (lv_at hl 5 rfl) ?_
    refine lv_iload hx hb dX3_setMatte_68 (lv_at hl 0 rfl) ?_
    refine lv_iconst (v := 1) hx hb dX3_setMatte_70 (by decide) ?_
    refine call_X3_check (ct_X3_check l) C.1 C.2 hW hS hA hAw q1907 (le_lit hRf rfl) (le_lit hRl rfl) hcs hl.1 (Nat.le_of_ble_eq_true rfl) dX3_setMatte_71 h (fun r1 M2 H locs h hW hS _ => ?_)
    refine lv_if_ne (tgt := 79) hx hb dX3_setMatte_74 (by decide) (fun c6 => ?_) (fun c6 => ?_)
    · have h := wif_f h c6
      refine lv_aload_n hx hb dX3_setMatte_79 rfl (lv_at hl 1 rfl) ?_
      refine mr_getA C hW 10 rfl rfl q1813 dX3_setMatte_80 ?_
      refine lv_iload_n hx hb dX3_setMatte_83 rfl (lv_at hl 2 rfl) ?_
      refine mr_iald C hW 10 rfl rfl rfl h dX3_setMatte_84 (fun v3 h => ?_)
      refine lv_istore (lv' := [(6, .int v3), (5, .int y0), (0, .ref (mh E)), (1, .int x1), (2, .int x2), (3, .int x3), (4, .int x4)]) hx hb dX3_setMatte_85 hl (by decide) rfl (fun ls hl => ?_)
      refine lv_aload_n hx hb dX3_setMatte_87 rfl (lv_at hl 2 rfl) ?_
      refine mr_getA C hW 10 rfl rfl q1813 dX3_setMatte_88 ?_
      refine lv_iload_n hx hb dX3_setMatte_91 rfl (lv_at hl 3 rfl) ?_
      refine lv_iload_n hx hb dX3_setMatte_92 rfl (lv_at hl 4 rfl) ?_
      refine mr_iast C hW hS hAw 10 rfl rfl rfl h dX3_setMatte_93 (fun M4 H locs hW hS h => ?_)
      refine lv_aload_n hx hb dX3_setMatte_94 rfl (lv_at hl 2 rfl) ?_
      refine mr_getA C hW 11 rfl rfl q1814 dX3_setMatte_95 ?_
      refine lv_iload_n hx hb dX3_setMatte_98 rfl (lv_at hl 3 rfl) ?_
      refine lv_iload_n hx hb dX3_setMatte_99 rfl (lv_at hl 5 rfl) ?_
      refine mr_zast C hW hS hAw 11 rfl rfl rfl h dX3_setMatte_100 (fun M5 H locs hW hS h => ?_)
      refine lv_iload hx hb dX3_setMatte_101 (lv_at hl 0 rfl) ?_
      exact hret _ _ _ _ _ _ dX3_setMatte_103 hS hW h
    · have h := wif_t h c6
      refine lv_iconst (v := 0) hx hb dX3_setMatte_77 (by decide) ?_
      exact hret _ _ _ _ _ _ dX3_setMatte_78 hS hW h
  have hb62 : ∀ (x4 : Int32) (M : MM), w_X3_setMatte_62 Q x1 x2 x3 x4 M → ∀ (ls : Array Slot) (H : Heap) (locs : List Loc), lv_has ls 7 [(0, .ref (mh E)), (1, .int x1), (2, .int x2), (3, .int x3), (4, .int x4)] → mW E M L H → va_S A s.heap H locs → W p l e R s m args below meth c H locs cells slots Z (F0 m 62 ls []) := by
    intro x4 M h
    intro ls H locs hl hW hS
    refine lv_iconst (v := 0) hx hb dX3_setMatte_62 (by decide) ?_
    exact hb63 _ _ _ h ls H locs (lv_sub hl [0, 1, 2, 3, 4] rfl) hW hS
  have hb58 : ∀ (x4 : Int32) (M : MM), w_X3_setMatte_58 Q x1 x2 x3 x4 M → ∀ (ls : Array Slot) (H : Heap) (locs : List Loc), lv_has ls 7 [(0, .ref (mh E)), (1, .int x1), (2, .int x2), (3, .int x3), (4, .int x4)] → mW E M L H → va_S A s.heap H locs → W p l e R s m args below meth c H locs cells slots Z (F0 m 58 ls []) := by
    intro x4 M h
    intro ls H locs hl hW hS
    refine lv_iconst (v := 1) hx hb dX3_setMatte_58 (by decide) ?_
    refine lv_goto (tgt := 63) hx hb dX3_setMatte_59 (by decide) ?_
    exact hb63 _ _ _ h ls H locs (lv_sub hl [0, 1, 2, 3, 4] rfl) hW hS
  have hb26 : ∀ (y0 : Int32) (M : MM), w_X3_setMatte_26 Q x1 x2 x3 y0 M → ∀ (ls : Array Slot) (H : Heap) (locs : List Loc), lv_has ls 7 [(0, .ref (mh E)), (1, .int x1), (2, .int x2), (3, .int x3)] → mW E M L H → va_S A s.heap H locs → W p l e R s m args below meth c H locs cells slots Z (F0 m 26 ls [.int y0]) := by
    intro y0 M h
    intro ls H locs hl hW hS
    refine lv_istore (lv' := [(4, .int y0), (0, .ref (mh E)), (1, .int x1), (2, .int x2), (3, .int x3)]) hx hb dX3_setMatte_26 hl (by decide) rfl (fun ls hl => ?_)
    refine lv_iload hx hb dX3_setMatte_28 (lv_at hl 0 rfl) ?_
    refine lv_if_eq (tgt := 62) hx hb dX3_setMatte_30 (by decide) (fun c12 => ?_) (fun c12 => ?_)
    · have h := wif_t h c12
      exact hb62 _ _ h ls H locs (lv_sub hl [1, 2, 3, 4, 0] rfl) hW hS
    · have h := wif_f h c12
      refine lv_iload_n hx hb dX3_setMatte_33 rfl (lv_at hl 3 rfl) ?_
      refine lv_iconst (v := -1) hx hb dX3_setMatte_34 (by decide) ?_
      refine lv_icmp_eq (tgt := 58) hx hb dX3_setMatte_35 (by decide) (fun c11 => ?_) (fun c11 => ?_)
      · have h := wif_t h c11
        exact hb58 _ _ h ls H locs (lv_sub hl [1, 2, 3, 4, 0] rfl) hW hS
      · have h := wif_f h c11
        refine lv_aload_n hx hb dX3_setMatte_38 rfl (lv_at hl 1 rfl) ?_
        refine mr_getA C hW 5 rfl rfl q1808 dX3_setMatte_39 ?_
        refine lv_iload_n hx hb dX3_setMatte_42 rfl (lv_at hl 3 rfl) ?_
        refine mr_iald C hW 5 rfl rfl rfl h dX3_setMatte_43 (fun v7 h => ?_)
        refine lv_aload_n hx hb dX3_setMatte_44 rfl (lv_at hl 1 rfl) ?_
        refine mr_getA C hW 5 rfl rfl q1808 dX3_setMatte_45 ?_
        refine lv_iload_n hx hb dX3_setMatte_48 rfl (lv_at hl 2 rfl) ?_
        refine mr_iald C hW 5 rfl rfl rfl h dX3_setMatte_49 (fun v8 h => ?_)
        refine lv_icmp_ne (tgt := 62) hx hb dX3_setMatte_50 (by decide) (fun c10 => ?_) (fun c10 => ?_)
        · have h := wif_f h c10
          exact hb62 _ _ h ls H locs (lv_sub hl [1, 2, 3, 4, 0] rfl) hW hS
        · have h := wif_t h c10
          refine lv_iload_n hx hb dX3_setMatte_53 rfl (lv_at hl 3 rfl) ?_
          refine lv_iload_n hx hb dX3_setMatte_54 rfl (lv_at hl 2 rfl) ?_
          refine lv_icmp_eq (tgt := 62) hx hb dX3_setMatte_55 (by decide) (fun c9 => ?_) (fun c9 => ?_)
          · have h := wif_t h c9
            exact hb62 _ _ h ls H locs (lv_sub hl [1, 2, 3, 4, 0] rfl) hW hS
          · have h := wif_f h c9
            exact hb58 _ _ h ls H locs (lv_sub hl [1, 2, 3, 4, 0] rfl) hW hS
  have hb25 : ∀ (M : MM), w_X3_setMatte_25 Q x1 x2 x3 M → ∀ (ls : Array Slot) (H : Heap) (locs : List Loc), lv_has ls 7 [(0, .ref (mh E)), (1, .int x1), (2, .int x2), (3, .int x3)] → mW E M L H → va_S A s.heap H locs → W p l e R s m args below meth c H locs cells slots Z (F0 m 25 ls []) := by
    intro M h
    intro ls H locs hl hW hS
    refine lv_iconst (v := 0) hx hb dX3_setMatte_25 (by decide) ?_
    exact hb26 _ _ h ls H locs (lv_sub hl [0, 1, 2, 3] rfl) hW hS
  have hb21 : ∀ (M : MM), w_X3_setMatte_21 Q x1 x2 x3 M → ∀ (ls : Array Slot) (H : Heap) (locs : List Loc), lv_has ls 7 [(0, .ref (mh E)), (1, .int x1), (2, .int x2), (3, .int x3)] → mW E M L H → va_S A s.heap H locs → W p l e R s m args below meth c H locs cells slots Z (F0 m 21 ls []) := by
    intro M h
    intro ls H locs hl hW hS
    refine lv_iconst (v := 1) hx hb dX3_setMatte_21 (by decide) ?_
    refine lv_goto (tgt := 26) hx hb dX3_setMatte_22 (by decide) ?_
    exact hb26 _ _ h ls H locs (lv_sub hl [0, 1, 2, 3] rfl) hW hS
  intro h
  intro ls H locs hl hW hS
  refine lv_aload_n hx hb dX3_setMatte_0 rfl (lv_at hl 0 rfl) ?_
  refine lv_iload_n hx hb dX3_setMatte_1 rfl (lv_at hl 1 rfl) ?_
  refine call_X3_isLayer (ct_X3_isLayer l) C.1 C.2 hW hS hA q1938 (le_lit hRf rfl) (le_lit hRl rfl) hcs hl.1 (Nat.le_of_ble_eq_true rfl) dX3_setMatte_2 h (fun r13 H locs h hk hS => ?_)
  have hW := hW.kept hk
  refine lv_if_eq (tgt := 25) hx hb dX3_setMatte_5 (by decide) (fun c17 => ?_) (fun c17 => ?_)
  · have h := wif_t h c17
    exact hb25 _ h ls H locs (lv_sub hl [0, 1, 2, 3] rfl) hW hS
  · have h := wif_f h c17
    refine lv_iload_n hx hb dX3_setMatte_8 rfl (lv_at hl 2 rfl) ?_
    refine lv_iconst (v := -1) hx hb dX3_setMatte_9 (by decide) ?_
    refine lv_icmp_eq (tgt := 21) hx hb dX3_setMatte_10 (by decide) (fun c16 => ?_) (fun c16 => ?_)
    · have h := wif_t h c16
      exact hb21 _ h ls H locs (lv_sub hl [0, 1, 2, 3] rfl) hW hS
    · have h := wif_f h c16
      refine lv_aload_n hx hb dX3_setMatte_13 rfl (lv_at hl 0 rfl) ?_
      refine lv_iload_n hx hb dX3_setMatte_14 rfl (lv_at hl 2 rfl) ?_
      refine call_X3_isLayer (ct_X3_isLayer l) C.1 C.2 hW hS hA q1938 (le_lit hRf rfl) (le_lit hRl rfl) hcs hl.1 (Nat.le_of_ble_eq_true rfl) dX3_setMatte_15 h (fun r14 H locs h hk hS => ?_)
      have hW := hW.kept hk
      refine lv_if_eq (tgt := 25) hx hb dX3_setMatte_18 (by decide) (fun c15 => ?_) (fun c15 => ?_)
      · have h := wif_t h c15
        exact hb25 _ h ls H locs (lv_sub hl [0, 1, 2, 3] rfl) hW hS
      · have h := wif_f h c15
        exact hb21 _ h ls H locs (lv_sub hl [0, 1, 2, 3] rfl) hW hS
theorem ct_X3_setMatte (l : Launch) : CT_X3_setMatte l 2 43 w_X3_setMatte := by
  intro E M L sz Q x1 x2 x3
  refine Met.ofW (cc := cX3_setMatte) (maxL := 7) (ret := (some .int)) (by decide) rfl ?_
  intro p e s m args below meth c s₁ B hml hv
  obtain ⟨rfl, hsz, hW, hK, h⟩ := hv
  subst hsz
  have hts := atoms_spec (ws := ws_ yX3_setMatte cX3_setMatte 7 (some .int)) B.pre
  have hts : ∀ w ∈ lw_all, w.before _ s = true := fun w h => hts w (List.mem_cons_of_mem _ h)
  have hl := lv_entry ([.ref (mh E), .int x1, .int x2, .int x3]) (n := 7) (Nat.le_of_ble_eq_true rfl)
  rw [lg_entry_eq]
  generalize (lg_sl ([.ref (mh E), .int x1, .int x2, .int x3]) ++ List.replicate (7 - (lg_sl ([.ref (mh E), .int x1, .int x2, .int x3])).length) Slot.unset).toArray = ls at hl ⊢
  exact wk_X3_setMatte Q ⟨⟨B.exec, B.bytes, hml, findClass_of_methodNamed B.named, hts⟩, hK⟩ (fun q h => Or.inr h) (fun q h => Or.inl h) (Nat.le_refl _) (Nat.le_refl _) ⟨Nat.le_refl _, Nat.le_refl _⟩ M L (fun v M pc ls H locs hd hS hW1 hQ => W.iret (v := v) B.exec B.bytes B.returns (fun t ht _ => ⟨⟨v, (M, L), rfl, ⟨rfl, hQ⟩, by rw [← ht] at hW1; exact hW1⟩, hS.F ht⟩) hS.2.2 hd) x1 x2 x3 h ls _ [] hl hW va_S.rf
def CT_X3_isTime (l : Launch) (fr lo : Nat) (w : (Int32 → Prop) → Int32 → Prop) : Prop := ∀ (sz : Nat) (Q : Int32 → Prop) (x0 : Int32), Met l yX3_isTime (ws_ yX3_isTime cX3_isTime 1 (some .boolean)) { frames := fr, cells := 0, slots := 0, locals := lo } (va_Pc [.int x0] (fun U => U.heap.size = sz ∧ w Q x0)) (va_Qi (fun r (_ : Unit) => Q r) (fun _ _ => True) (mN sz)) 0 0 (mN sz)
theorem call_X3_isTime {p : Program} {l : Launch} {e : Env} {R : Room} {s : State} {m : MethodId} {args : Array Value} {below : List Frame} {meth : Method} {c : Code} {H : Heap} {locs : List Loc} {cells slots : Nat} {Z : State → Prop} {A : Nat → Prop} {cc : ByteArray} {nL pc : Nat} {ls : Array Slot} {rest : List Value} {own : String} {index fr lo : Nat} {w : (Int32 → Prop) → Int32 → Prop} {x0 : Int32} (hM : CT_X3_isTime l fr lo w) (S : CallFix p m c cc nL s args lw_all own) (hS : va_S A s.heap H locs) (hA : ∀ q, s.heap.size ≤ q → A q) (hlink : Cond.methodLink own index yX3_isTime ∈ lw_all) (hRf : fr + 1 ≤ R.frames) (hRl : 8 + (1 + 11) + lo ≤ R.locals) (hcs : cells ≤ R.cells ∧ slots ≤ R.slots) (hz : ls.size = nL) (hr8 : (rest.map fun v => v.category).sum ≤ 8) (hdg : decode cc pc = .ok (.invokestatic index, 3)) {Q1 : Int32 → Prop} (h : w Q1 x0) (kk : ∀ (r : Int32) (H1 : Heap) (locs1 : List Loc), Q1 r → (∀ q : Nat, q < H.size → H1[q]? = H[q]?) → va_S A s.heap H1 locs1 → W p l e R s m args below meth c H1 locs1 cells slots Z (F0 m (pc + 3) ls (.int r :: rest))) : W p l e R s m args below meth c H locs cells slots Z (F0 m pc ls (.int x0 :: rest)) := by
  exact ro_i (va_runS (As := [.int x0]) (rest := rest) S (hM H.size Q1 x0) (va_cwS 1 S.2.2.2.2 (lw_S hlink q1991 q68 q1992) rfl rfl rfl (by decide +kernel) ⟨hRf, hRl⟩) ⟨fun a U g mk q => by obtain ⟨q0, q1, qw⟩ := q; exact ⟨q0, q1, qw⟩, fun U hU hWm => ⟨rfl, by rw [hU], h⟩⟩ rfl rfl hz rfl (lv_room hr8) hdg hcs) hS hA (fun r H1 locs1 hp hz hk hS1 => kk r H1 locs1 hp hk hS1)
def w_X3_isTime (Q : Int32 → Prop) (x0 : Int32) : Prop := w_X3_isWithin (fun r1 => isZ r1 ∧ (Q r1)) x0 (0 : Int32) (999 : Int32)
set_option maxRecDepth 100000 in
set_option maxHeartbeats 4000000 in
theorem wk_X3_isTime {p : Program} {l : Launch} {e : Env} {R : Room} {s : State} {m : MethodId} {args : Array Value} {below : List Frame} {meth : Method} {c : Code} {cells slots : Nat} {Z : State → Prop} {A : Nat → Prop}  (Q : Int32 → Prop) (S : CallFix p m c cX3_isTime 1 s args lw_all RX3) (hA : ∀ q, s.heap.size ≤ q → A q) (hRf : 1 ≤ R.frames) (hRl : 22 ≤ R.locals) (hcs : cells ≤ R.cells ∧ slots ≤ R.slots) (hret : ∀ (v : Int32) (pc : Nat) (ls : Array Slot) (H : Heap) (locs : List Loc), decode cX3_isTime pc = .ok (.ireturn, 1) → va_S A s.heap H locs → isZ v → Q v → W p l e R s m args below meth c H locs cells slots Z (F0 m pc ls [.int v])) (x0 : Int32) : w_X3_isTime Q x0 → ∀ (ls : Array Slot) (H : Heap) (locs : List Loc), lv_has ls 1 [(0, .int x0)] → va_S A s.heap H locs → W p l e R s m args below meth c H locs cells slots Z (F0 m 0 ls []) := by
  obtain ⟨hx, hb, hml, hown, hts⟩ := S; have S : CallFix p m c cX3_isTime 1 s args lw_all RX3 := ⟨hx, hb, hml, hown, hts⟩
  intro h
  intro ls H locs hl hS
  refine lv_iload_n hx hb dX3_isTime_0 rfl (lv_at hl 0 rfl) ?_
  refine lv_iconst (v := 0) hx hb dX3_isTime_1 (by decide) ?_
  refine lv_sipush (v := 999) hx hb dX3_isTime_2 (by decide) ?_
  refine call_X3_isWithin (ct_X3_isWithin l) S hS hA q1915 (le_lit hRf rfl) (le_lit hRl rfl) hcs hl.1 (Nat.le_of_ble_eq_true rfl) dX3_isTime_5 h (fun r1 H locs h hk hS => ?_)
  exact hret _ _ _ _ _ dX3_isTime_8 hS h.1 h.2
theorem ct_X3_isTime (l : Launch) : CT_X3_isTime l 1 22 w_X3_isTime := by
  intro sz Q x0
  refine Met.ofW (cc := cX3_isTime) (maxL := 1) (ret := (some .boolean)) (by decide) rfl ?_
  intro p e s m args below meth c s₁ B hml hv
  obtain ⟨rfl, hsz, h⟩ := hv
  subst hsz
  have hts := atoms_spec (ws := ws_ yX3_isTime cX3_isTime 1 (some .boolean)) B.pre
  have hts : ∀ w ∈ lw_all, w.before _ s = true := fun w h => hts w (List.mem_cons_of_mem _ h)
  have hl := lv_entry ([.int x0]) (n := 1) (Nat.le_of_ble_eq_true rfl)
  rw [lg_entry_eq]
  generalize (lg_sl ([.int x0]) ++ List.replicate (1 - (lg_sl ([.int x0])).length) Slot.unset).toArray = ls at hl ⊢
  exact wk_X3_isTime Q ⟨B.exec, B.bytes, hml, findClass_of_methodNamed B.named, hts⟩ (fun q h => h) (Nat.le_refl _) (Nat.le_refl _) ⟨Nat.le_refl _, Nat.le_refl _⟩ (fun v pc ls H locs hd hS hz hQ => W.zret (v := v) B.exec B.bytes B.returns hz.nar (fun t ht _ => ⟨⟨v, (), rfl, hQ, trivial⟩, hS.F ht⟩) hS.2.2 hd) x0 h ls _ [] hl va_S.rf
def CT_X3_setSpan (l : Launch) (fr lo : Nat) (w : (Int32 → MM → Prop) → Int32 → Int32 → Int32 → MM → Prop) : Prop := ∀ (E : mE) (M : MM) (L : ML) (sz : Nat) (Q : Int32 → MM → Prop) (x1 : Int32) (x2 : Int32) (x3 : Int32), Met l yX3_setSpan (ws_ yX3_setSpan cX3_setSpan 5 (some .int)) { frames := fr, cells := 0, slots := 0, locals := lo } (va_Pc [.ref (mh E), .int x1, .int x2, .int x3] (fun U => U.heap.size = sz ∧ mW E M L U.heap ∧ mK E U ∧ w Q x1 x2 x3 M)) (va_Qi (fun r (u : MM × ML) => u.2 = L ∧ Q r u.1) (fun u t => mW E u.1 u.2 t.heap) (mA E sz)) 0 0 (mA E sz)
theorem call_X3_setSpan {p : Program} {l : Launch} {e : Env} {R : Room} {s : State} {m : MethodId} {args : Array Value} {below : List Frame} {meth : Method} {c : Code} {H : Heap} {locs : List Loc} {cells slots : Nat} {Z : State → Prop} {A : Nat → Prop} {cc : ByteArray} {nL pc : Nat} {ls : Array Slot} {rest : List Value} {own : String} {index fr lo : Nat} {w : (Int32 → MM → Prop) → Int32 → Int32 → Int32 → MM → Prop} {E : mE} {M : MM} {L : ML} {x1 : Int32} {x2 : Int32} {x3 : Int32} (hM : CT_X3_setSpan l fr lo w) (S : CallFix p m c cc nL s args lw_all own) (hK : mK E s) (hW : mW E M L H) (hS : va_S A s.heap H locs) (hA : ∀ q, s.heap.size ≤ q → A q) (hAw : ∀ q, mAd E q → A q) (hlink : Cond.methodLink own index yX3_setSpan ∈ lw_all) (hRf : fr + 1 ≤ R.frames) (hRl : 8 + (5 + 11) + lo ≤ R.locals) (hcs : cells ≤ R.cells ∧ slots ≤ R.slots) (hz : ls.size = nL) (hr8 : (rest.map fun v => v.category).sum ≤ 8) (hdg : decode cc pc = .ok (.invokevirtual index, 3)) {Q1 : Int32 → MM → Prop} (h : w Q1 x1 x2 x3 M) (kk : ∀ (r : Int32) (M1 : MM) (H1 : Heap) (locs1 : List Loc), Q1 r M1 → mW E M1 L H1 → va_S A s.heap H1 locs1 → (∀ q : Nat, q < H.size → ¬ mAd E q → H1[q]? = H[q]?) → W p l e R s m args below meth c H1 locs1 cells slots Z (F0 m (pc + 3) ls (.int r :: rest))) : W p l e R s m args below meth c H locs cells slots Z (F0 m pc ls (.int x3 :: .int x2 :: .int x1 :: .ref (mh E) :: rest)) := by
  refine mw_i (sz := 0) (P := fun r M1 L1 => L1 = L ∧ Q1 r M1) (va_runV (As := [.int x1, .int x2, .int x3]) (rest := rest) S (hM E M L H.size Q1 x1 x2 x3) (cwV 3 S.2.2.2.2 (lw_V hlink q1987 q1988 q68 q1989) rfl rfl rfl (by decide +kernel) ⟨hRf, hRl⟩) ⟨fun a U g mk q => by obtain ⟨q0, q1, qW, qK, qw⟩ := q; exact ⟨q0, q1, qW, qK.moved (u := U) (U := U.calling g mk a) (Vm.Alike.refl U.vm), qw⟩, hW.recv (hK := hK), fun U hU hWm => ⟨rfl, by rw [hU], by rw [hU]; exact hW, hK.moved hWm.alike, h⟩⟩ rfl rfl hz rfl (lv_room hr8) hdg hcs) hS hA hAw (fun r M1 L1 H1 locs1 hp hW1 hz hk hS1 => ?_)
  obtain ⟨rfl, hp⟩ := hp
  exact kk r M1 H1 locs1 hp hW1 hS1 hk
def w_X3_setSpan_31 (Q : Int32 → MM → Prop) (x1 : Int32) (x2 : Int32) (x3 : Int32) (y0 : Int32) (y1 : Int32) (M : MM) : Prop := w_X3_check (fun r1 M2 => if r1 = 0 then (Q (0 : Int32) M2) else (mRd (M2 13) 12 x1 (fun v3 => mRd (M2 12) 12 x1 (fun v4 => mWr M2 12 12 x1 x2 (fun M5 => mWr M5 13 12 x1 x3 (fun M6 => Q (v3 - v4) M6)))))) y1 y0 (1 : Int32) M
def w_X3_setSpan_30 (Q : Int32 → MM → Prop) (x1 : Int32) (x2 : Int32) (x3 : Int32) (y0 : Int32) (M : MM) : Prop := w_X3_setSpan_31 Q x1 x2 x3 (0 : Int32) y0 M
def w_X3_setSpan (Q : Int32 → MM → Prop) (x1 : Int32) (x2 : Int32) (x3 : Int32) (M : MM) : Prop := w_X3_isLayer (fun r8 => w_X3_isTime (fun r9 => if r9 = 0 then (w_X3_setSpan_30 Q x1 x2 x3 r8 M) else (w_X3_isWithin (fun r10 => if r10 = 0 then (w_X3_setSpan_30 Q x1 x2 x3 r8 M) else (w_X3_setSpan_31 Q x1 x2 x3 (1 : Int32) r8 M)) x3 (x2 + (1 : Int32)) (1000 : Int32))) x2) x1 M
set_option maxRecDepth 100000 in
set_option maxHeartbeats 4000000 in
theorem wk_X3_setSpan {p : Program} {l : Launch} {e : Env} {R : Room} {s : State} {m : MethodId} {args : Array Value} {below : List Frame} {meth : Method} {c : Code} {cells slots : Nat} {Z : State → Prop} {A : Nat → Prop} {E : mE} (Q : Int32 → MM → Prop) (C : mC p m c s args cX3_setSpan 5 E) (hA : ∀ q, s.heap.size ≤ q → A q) (hAw : ∀ q, mAd E q → A q) (hRf : 2 ≤ R.frames) (hRl : 43 ≤ R.locals) (hcs : cells ≤ R.cells ∧ slots ≤ R.slots) (M : MM) (L : ML) (hret : ∀ (v : Int32) (M : MM) (pc : Nat) (ls : Array Slot) (H : Heap) (locs : List Loc), decode cX3_setSpan pc = .ok (.ireturn, 1) → va_S A s.heap H locs → mW E M L H → Q v M → W p l e R s m args below meth c H locs cells slots Z (F0 m pc ls [.int v])) (x1 : Int32) (x2 : Int32) (x3 : Int32) : w_X3_setSpan Q x1 x2 x3 M → ∀ (ls : Array Slot) (H : Heap) (locs : List Loc), lv_has ls 5 [(0, .ref (mh E)), (1, .int x1), (2, .int x2), (3, .int x3)] → mW E M L H → va_S A s.heap H locs → W p l e R s m args below meth c H locs cells slots Z (F0 m 0 ls []) := by
  obtain ⟨⟨hx, hb, hml, hown, hts⟩, hK⟩ := C; have C : mC p m c s args cX3_setSpan 5 E := ⟨⟨hx, hb, hml, hown, hts⟩, hK⟩
  have hb31 : ∀ (y0 : Int32) (y1 : Int32) (M : MM), w_X3_setSpan_31 Q x1 x2 x3 y0 y1 M → ∀ (ls : Array Slot) (H : Heap) (locs : List Loc), lv_has ls 5 [(0, .ref (mh E)), (1, .int x1), (2, .int x2), (3, .int x3)] → mW E M L H → va_S A s.heap H locs → W p l e R s m args below meth c H locs cells slots Z (F0 m 31 ls [.int y0, .int y1, .ref (mh E)]) := by
    intro y0 y1 M h
    intro ls H locs hl hW hS
    refine lv_iconst (v := 1) hx hb dX3_setSpan_31 (by decide) ?_
    refine call_X3_check (ct_X3_check l) C.1 C.2 hW hS hA hAw q1907 (le_lit hRf rfl) (le_lit hRl rfl) hcs hl.1 (Nat.le_of_ble_eq_true rfl) dX3_setSpan_32 h (fun r1 M2 H locs h hW hS _ => ?_)
    refine lv_if_ne (tgt := 40) hx hb dX3_setSpan_35 (by decide) (fun c7 => ?_) (fun c7 => ?_)
    · have h := wif_f h c7
      refine lv_aload_n hx hb dX3_setSpan_40 rfl (lv_at hl 0 rfl) ?_
      refine mr_getA C hW 13 rfl rfl q1816 dX3_setSpan_41 ?_
      refine lv_iload_n hx hb dX3_setSpan_44 rfl (lv_at hl 1 rfl) ?_
      refine mr_iald C hW 13 rfl rfl rfl h dX3_setSpan_45 (fun v3 h => ?_)
      refine lv_aload_n hx hb dX3_setSpan_46 rfl (lv_at hl 0 rfl) ?_
      refine mr_getA C hW 12 rfl rfl q1815 dX3_setSpan_47 ?_
      refine lv_iload_n hx hb dX3_setSpan_50 rfl (lv_at hl 1 rfl) ?_
      refine mr_iald C hW 12 rfl rfl rfl h dX3_setSpan_51 (fun v4 h => ?_)
      refine lv_isub hx hb dX3_setSpan_52 ?_
      refine lv_istore (lv' := [(4, .int (v3 - v4)), (0, .ref (mh E)), (1, .int x1), (2, .int x2), (3, .int x3)]) hx hb dX3_setSpan_53 hl (by decide) rfl (fun ls hl => ?_)
      refine lv_aload_n hx hb dX3_setSpan_55 rfl (lv_at hl 1 rfl) ?_
      refine mr_getA C hW 12 rfl rfl q1815 dX3_setSpan_56 ?_
      refine lv_iload_n hx hb dX3_setSpan_59 rfl (lv_at hl 2 rfl) ?_
      refine lv_iload_n hx hb dX3_setSpan_60 rfl (lv_at hl 3 rfl) ?_
      refine mr_iast C hW hS hAw 12 rfl rfl rfl h dX3_setSpan_61 (fun M5 H locs hW hS h => ?_)
      refine lv_aload_n hx hb dX3_setSpan_62 rfl (lv_at hl 1 rfl) ?_
      refine mr_getA C hW 13 rfl rfl q1816 dX3_setSpan_63 ?_
      refine lv_iload_n hx hb dX3_setSpan_66 rfl (lv_at hl 2 rfl) ?_
      refine lv_iload_n hx hb dX3_setSpan_67 rfl (lv_at hl 4 rfl) ?_
      refine mr_iast C hW hS hAw 13 rfl rfl rfl h dX3_setSpan_68 (fun M6 H locs hW hS h => ?_)
      refine lv_iload hx hb dX3_setSpan_69 (lv_at hl 0 rfl) ?_
      exact hret _ _ _ _ _ _ dX3_setSpan_71 hS hW h
    · have h := wif_t h c7
      refine lv_iconst (v := 0) hx hb dX3_setSpan_38 (by decide) ?_
      exact hret _ _ _ _ _ _ dX3_setSpan_39 hS hW h
  have hb30 : ∀ (y0 : Int32) (M : MM), w_X3_setSpan_30 Q x1 x2 x3 y0 M → ∀ (ls : Array Slot) (H : Heap) (locs : List Loc), lv_has ls 5 [(0, .ref (mh E)), (1, .int x1), (2, .int x2), (3, .int x3)] → mW E M L H → va_S A s.heap H locs → W p l e R s m args below meth c H locs cells slots Z (F0 m 30 ls [.int y0, .ref (mh E)]) := by
    intro y0 M h
    intro ls H locs hl hW hS
    refine lv_iconst (v := 0) hx hb dX3_setSpan_30 (by decide) ?_
    exact hb31 _ _ _ h ls H locs (lv_sub hl [0, 1, 2, 3] rfl) hW hS
  intro h
  intro ls H locs hl hW hS
  refine lv_aload_n hx hb dX3_setSpan_0 rfl (lv_at hl 0 rfl) ?_
  refine lv_aload_n hx hb dX3_setSpan_1 rfl (lv_at hl 0 rfl) ?_
  refine lv_iload_n hx hb dX3_setSpan_2 rfl (lv_at hl 1 rfl) ?_
  refine call_X3_isLayer (ct_X3_isLayer l) C.1 C.2 hW hS hA q1938 (le_lit hRf rfl) (le_lit hRl rfl) hcs hl.1 (Nat.le_of_ble_eq_true rfl) dX3_setSpan_3 h (fun r8 H locs h hk hS => ?_)
  have hW := hW.kept hk
  refine lv_iload_n hx hb dX3_setSpan_6 rfl (lv_at hl 2 rfl) ?_
  refine call_X3_isTime (ct_X3_isTime l) C.1 hS hA q1990 (le_lit hRf rfl) (le_lit hRl rfl) hcs hl.1 (Nat.le_of_ble_eq_true rfl) dX3_setSpan_7 h (fun r9 H locs h hk hS => ?_)
  have hW := hW.kept hk
  refine lv_if_eq (tgt := 30) hx hb dX3_setSpan_10 (by decide) (fun c12 => ?_) (fun c12 => ?_)
  · have h := wif_t h c12
    exact hb30 _ _ h ls H locs (lv_sub hl [0, 1, 2, 3] rfl) hW hS
  · have h := wif_f h c12
    refine lv_iload_n hx hb dX3_setSpan_13 rfl (lv_at hl 3 rfl) ?_
    refine lv_iload_n hx hb dX3_setSpan_14 rfl (lv_at hl 2 rfl) ?_
    refine lv_iconst (v := 1) hx hb dX3_setSpan_15 (by decide) ?_
    refine lv_iadd hx hb dX3_setSpan_16 ?_
    refine lv_sipush (v := 1000) hx hb dX3_setSpan_17 (by decide) ?_
    refine call_X3_isWithin (ct_X3_isWithin l) C.1 hS hA q1915 (le_lit hRf rfl) (le_lit hRl rfl) hcs hl.1 (Nat.le_of_ble_eq_true rfl) dX3_setSpan_20 h (fun r10 H locs h hk hS => ?_)
    have hW := hW.kept hk
    refine lv_if_eq (tgt := 30) hx hb dX3_setSpan_23 (by decide) (fun c11 => ?_) (fun c11 => ?_)
    · have h := wif_t h c11
      exact hb30 _ _ h ls H locs (lv_sub hl [0, 1, 2, 3] rfl) hW hS
    · have h := wif_f h c11
      refine lv_iconst (v := 1) hx hb dX3_setSpan_26 (by decide) ?_
      refine lv_goto (tgt := 31) hx hb dX3_setSpan_27 (by decide) ?_
      exact hb31 _ _ _ h ls H locs (lv_sub hl [0, 1, 2, 3] rfl) hW hS
theorem ct_X3_setSpan (l : Launch) : CT_X3_setSpan l 2 43 w_X3_setSpan := by
  intro E M L sz Q x1 x2 x3
  refine Met.ofW (cc := cX3_setSpan) (maxL := 5) (ret := (some .int)) (by decide) rfl ?_
  intro p e s m args below meth c s₁ B hml hv
  obtain ⟨rfl, hsz, hW, hK, h⟩ := hv
  subst hsz
  have hts := atoms_spec (ws := ws_ yX3_setSpan cX3_setSpan 5 (some .int)) B.pre
  have hts : ∀ w ∈ lw_all, w.before _ s = true := fun w h => hts w (List.mem_cons_of_mem _ h)
  have hl := lv_entry ([.ref (mh E), .int x1, .int x2, .int x3]) (n := 5) (Nat.le_of_ble_eq_true rfl)
  rw [lg_entry_eq]
  generalize (lg_sl ([.ref (mh E), .int x1, .int x2, .int x3]) ++ List.replicate (5 - (lg_sl ([.ref (mh E), .int x1, .int x2, .int x3])).length) Slot.unset).toArray = ls at hl ⊢
  exact wk_X3_setSpan Q ⟨⟨B.exec, B.bytes, hml, findClass_of_methodNamed B.named, hts⟩, hK⟩ (fun q h => Or.inr h) (fun q h => Or.inl h) (Nat.le_refl _) (Nat.le_refl _) ⟨Nat.le_refl _, Nat.le_refl _⟩ M L (fun v M pc ls H locs hd hS hW1 hQ => W.iret (v := v) B.exec B.bytes B.returns (fun t ht _ => ⟨⟨v, (M, L), rfl, ⟨rfl, hQ⟩, by rw [← ht] at hW1; exact hW1⟩, hS.F ht⟩) hS.2.2 hd) x1 x2 x3 h ls _ [] hl hW va_S.rf
def CT_X3_isValue (l : Launch) (fr lo : Nat) (w : (Int32 → Prop) → Int32 → Prop) : Prop := ∀ (sz : Nat) (Q : Int32 → Prop) (x0 : Int32), Met l yX3_isValue (ws_ yX3_isValue cX3_isValue 1 (some .boolean)) { frames := fr, cells := 0, slots := 0, locals := lo } (va_Pc [.int x0] (fun U => U.heap.size = sz ∧ w Q x0)) (va_Qi (fun r (_ : Unit) => Q r) (fun _ _ => True) (mN sz)) 0 0 (mN sz)
theorem call_X3_isValue {p : Program} {l : Launch} {e : Env} {R : Room} {s : State} {m : MethodId} {args : Array Value} {below : List Frame} {meth : Method} {c : Code} {H : Heap} {locs : List Loc} {cells slots : Nat} {Z : State → Prop} {A : Nat → Prop} {cc : ByteArray} {nL pc : Nat} {ls : Array Slot} {rest : List Value} {own : String} {index fr lo : Nat} {w : (Int32 → Prop) → Int32 → Prop} {x0 : Int32} (hM : CT_X3_isValue l fr lo w) (S : CallFix p m c cc nL s args lw_all own) (hS : va_S A s.heap H locs) (hA : ∀ q, s.heap.size ≤ q → A q) (hlink : Cond.methodLink own index yX3_isValue ∈ lw_all) (hRf : fr + 1 ≤ R.frames) (hRl : 8 + (1 + 11) + lo ≤ R.locals) (hcs : cells ≤ R.cells ∧ slots ≤ R.slots) (hz : ls.size = nL) (hr8 : (rest.map fun v => v.category).sum ≤ 8) (hdg : decode cc pc = .ok (.invokestatic index, 3)) {Q1 : Int32 → Prop} (h : w Q1 x0) (kk : ∀ (r : Int32) (H1 : Heap) (locs1 : List Loc), Q1 r → (∀ q : Nat, q < H.size → H1[q]? = H[q]?) → va_S A s.heap H1 locs1 → W p l e R s m args below meth c H1 locs1 cells slots Z (F0 m (pc + 3) ls (.int r :: rest))) : W p l e R s m args below meth c H locs cells slots Z (F0 m pc ls (.int x0 :: rest)) := by
  exact ro_i (va_runS (As := [.int x0]) (rest := rest) S (hM H.size Q1 x0) (va_cwS 1 S.2.2.2.2 (lw_S hlink q1998 q68 q1999) rfl rfl rfl (by decide +kernel) ⟨hRf, hRl⟩) ⟨fun a U g mk q => by obtain ⟨q0, q1, qw⟩ := q; exact ⟨q0, q1, qw⟩, fun U hU hWm => ⟨rfl, by rw [hU], h⟩⟩ rfl rfl hz rfl (lv_room hr8) hdg hcs) hS hA (fun r H1 locs1 hp hz hk hS1 => kk r H1 locs1 hp hk hS1)
def w_X3_isValue (Q : Int32 → Prop) (x0 : Int32) : Prop := w_X3_isWithin (fun r1 => isZ r1 ∧ (Q r1)) x0 (0 : Int32) (7 : Int32)
set_option maxRecDepth 100000 in
set_option maxHeartbeats 4000000 in
theorem wk_X3_isValue {p : Program} {l : Launch} {e : Env} {R : Room} {s : State} {m : MethodId} {args : Array Value} {below : List Frame} {meth : Method} {c : Code} {cells slots : Nat} {Z : State → Prop} {A : Nat → Prop}  (Q : Int32 → Prop) (S : CallFix p m c cX3_isValue 1 s args lw_all RX3) (hA : ∀ q, s.heap.size ≤ q → A q) (hRf : 1 ≤ R.frames) (hRl : 22 ≤ R.locals) (hcs : cells ≤ R.cells ∧ slots ≤ R.slots) (hret : ∀ (v : Int32) (pc : Nat) (ls : Array Slot) (H : Heap) (locs : List Loc), decode cX3_isValue pc = .ok (.ireturn, 1) → va_S A s.heap H locs → isZ v → Q v → W p l e R s m args below meth c H locs cells slots Z (F0 m pc ls [.int v])) (x0 : Int32) : w_X3_isValue Q x0 → ∀ (ls : Array Slot) (H : Heap) (locs : List Loc), lv_has ls 1 [(0, .int x0)] → va_S A s.heap H locs → W p l e R s m args below meth c H locs cells slots Z (F0 m 0 ls []) := by
  obtain ⟨hx, hb, hml, hown, hts⟩ := S; have S : CallFix p m c cX3_isValue 1 s args lw_all RX3 := ⟨hx, hb, hml, hown, hts⟩
  intro h
  intro ls H locs hl hS
  refine lv_iload_n hx hb dX3_isValue_0 rfl (lv_at hl 0 rfl) ?_
  refine lv_iconst (v := 0) hx hb dX3_isValue_1 (by decide) ?_
  refine lv_bipush (v := 7) hx hb dX3_isValue_2 (by decide) ?_
  refine call_X3_isWithin (ct_X3_isWithin l) S hS hA q1915 (le_lit hRf rfl) (le_lit hRl rfl) hcs hl.1 (Nat.le_of_ble_eq_true rfl) dX3_isValue_4 h (fun r1 H locs h hk hS => ?_)
  exact hret _ _ _ _ _ dX3_isValue_7 hS h.1 h.2
theorem ct_X3_isValue (l : Launch) : CT_X3_isValue l 1 22 w_X3_isValue := by
  intro sz Q x0
  refine Met.ofW (cc := cX3_isValue) (maxL := 1) (ret := (some .boolean)) (by decide) rfl ?_
  intro p e s m args below meth c s₁ B hml hv
  obtain ⟨rfl, hsz, h⟩ := hv
  subst hsz
  have hts := atoms_spec (ws := ws_ yX3_isValue cX3_isValue 1 (some .boolean)) B.pre
  have hts : ∀ w ∈ lw_all, w.before _ s = true := fun w h => hts w (List.mem_cons_of_mem _ h)
  have hl := lv_entry ([.int x0]) (n := 1) (Nat.le_of_ble_eq_true rfl)
  rw [lg_entry_eq]
  generalize (lg_sl ([.int x0]) ++ List.replicate (1 - (lg_sl ([.int x0])).length) Slot.unset).toArray = ls at hl ⊢
  exact wk_X3_isValue Q ⟨B.exec, B.bytes, hml, findClass_of_methodNamed B.named, hts⟩ (fun q h => h) (Nat.le_refl _) (Nat.le_refl _) ⟨Nat.le_refl _, Nat.le_refl _⟩ (fun v pc ls H locs hd hS hz hQ => W.zret (v := v) B.exec B.bytes B.returns hz.nar (fun t ht _ => ⟨⟨v, (), rfl, hQ, trivial⟩, hS.F ht⟩) hS.2.2 hd) x0 h ls _ [] hl va_S.rf
def CT_X3_keyPlace (l : Launch) (fr lo : Nat) (w : (Int32 → Prop) → Int32 → Int32 → MM → Prop) : Prop := ∀ (E : mE) (M : MM) (L : ML) (sz : Nat) (Q : Int32 → Prop) (x1 : Int32) (x2 : Int32), Met l yX3_keyPlace (ws_ yX3_keyPlace cX3_keyPlace 4 (some .int)) { frames := fr, cells := 0, slots := 0, locals := lo } (va_Pc [.ref (mh E), .int x1, .int x2] (fun U => U.heap.size = sz ∧ mW E M L U.heap ∧ mK E U ∧ w Q x1 x2 M)) (va_Qi (fun r (_ : Unit) => Q r) (fun _ _ => True) (mN sz)) 0 0 (mN sz)
theorem call_X3_keyPlace {p : Program} {l : Launch} {e : Env} {R : Room} {s : State} {m : MethodId} {args : Array Value} {below : List Frame} {meth : Method} {c : Code} {H : Heap} {locs : List Loc} {cells slots : Nat} {Z : State → Prop} {A : Nat → Prop} {cc : ByteArray} {nL pc : Nat} {ls : Array Slot} {rest : List Value} {own : String} {index fr lo : Nat} {w : (Int32 → Prop) → Int32 → Int32 → MM → Prop} {E : mE} {M : MM} {L : ML} {x1 : Int32} {x2 : Int32} (hM : CT_X3_keyPlace l fr lo w) (S : CallFix p m c cc nL s args lw_all own) (hK : mK E s) (hW : mW E M L H) (hS : va_S A s.heap H locs) (hA : ∀ q, s.heap.size ≤ q → A q) (hlink : Cond.methodLink own index yX3_keyPlace ∈ lw_all) (hRf : fr + 1 ≤ R.frames) (hRl : 8 + (4 + 11) + lo ≤ R.locals) (hcs : cells ≤ R.cells ∧ slots ≤ R.slots) (hz : ls.size = nL) (hr8 : (rest.map fun v => v.category).sum ≤ 8) (hdg : decode cc pc = .ok (.invokevirtual index, 3)) {Q1 : Int32 → Prop} (h : w Q1 x1 x2 M) (kk : ∀ (r : Int32) (H1 : Heap) (locs1 : List Loc), Q1 r → (∀ q : Nat, q < H.size → H1[q]? = H[q]?) → va_S A s.heap H1 locs1 → W p l e R s m args below meth c H1 locs1 cells slots Z (F0 m (pc + 3) ls (.int r :: rest))) : W p l e R s m args below meth c H locs cells slots Z (F0 m pc ls (.int x2 :: .int x1 :: .ref (mh E) :: rest)) := by
  exact ro_i (va_runV (As := [.int x1, .int x2]) (rest := rest) S (hM E M L H.size Q1 x1 x2) (cwV 2 S.2.2.2.2 (lw_V hlink q2008 qs29 q68 q2009) rfl rfl rfl (by decide +kernel) ⟨hRf, hRl⟩) ⟨fun a U g mk q => by obtain ⟨q0, q1, qW, qK, qw⟩ := q; exact ⟨q0, q1, qW, qK.moved (u := U) (U := U.calling g mk a) (Vm.Alike.refl U.vm), qw⟩, hW.recv (hK := hK), fun U hU hWm => ⟨rfl, by rw [hU], by rw [hU]; exact hW, hK.moved hWm.alike, h⟩⟩ rfl rfl hz rfl (lv_room hr8) hdg hcs) hS hA (fun r H1 locs1 hp hz hk hS1 => kk r H1 locs1 hp hk hS1)
def w_X3_keyPlace_h2 (Q : Int32 → Prop) (x1 : Int32) (x2 : Int32) (M : MM) (rec2 : Int32 → Prop) (x3 : Int32) : Prop := mRd (M 19) 96 x1 (fun v1 => if v1 ≤ x3 then (Q x3) else (mRd (M 20) 768 (((8 : Int32) * x1) + x3) (fun v2 => if x2 ≤ v2 then (Q x3) else (rec2 (x3 + (1 : Int32))))))
def w_X3_keyPlace_L2 (Q : Int32 → Prop) (x1 : Int32) (x2 : Int32) (M : MM) (x3 : Int32) : Prop := wLoop (fun (rec : Int32 → Prop) (s : Int32) => w_X3_keyPlace_h2 Q x1 x2 M (fun x3 => rec x3) s) x3
def w_X3_keyPlace (Q : Int32 → Prop) (x1 : Int32) (x2 : Int32) (M : MM) : Prop := w_X3_keyPlace_L2 Q x1 x2 M (0 : Int32)
set_option maxRecDepth 100000 in
set_option maxHeartbeats 4000000 in
theorem wk_X3_keyPlace {p : Program} {l : Launch} {e : Env} {R : Room} {s : State} {m : MethodId} {args : Array Value} {below : List Frame} {meth : Method} {c : Code} {cells slots : Nat} {Z : State → Prop} {A : Nat → Prop} {E : mE} (Q : Int32 → Prop) (C : mC p m c s args cX3_keyPlace 4 E) (hA : ∀ q, s.heap.size ≤ q → A q) (hRf : 0 ≤ R.frames) (hRl : 0 ≤ R.locals) (hcs : cells ≤ R.cells ∧ slots ≤ R.slots) (M : MM) (L : ML) (hret : ∀ (v : Int32) (pc : Nat) (ls : Array Slot) (H : Heap) (locs : List Loc), decode cX3_keyPlace pc = .ok (.ireturn, 1) → va_S A s.heap H locs → Q v → W p l e R s m args below meth c H locs cells slots Z (F0 m pc ls [.int v])) (x1 : Int32) (x2 : Int32) : w_X3_keyPlace Q x1 x2 M → ∀ (ls : Array Slot) (H : Heap) (locs : List Loc), lv_has ls 4 [(0, .ref (mh E)), (1, .int x1), (2, .int x2)] → mW E M L H → va_S A s.heap H locs → W p l e R s m args below meth c H locs cells slots Z (F0 m 0 ls []) := by
  obtain ⟨⟨hx, hb, hml, hown, hts⟩, hK⟩ := C; have C : mC p m c s args cX3_keyPlace 4 E := ⟨⟨hx, hb, hml, hown, hts⟩, hK⟩
  have hL2 : ∀ (x3 : Int32), w_X3_keyPlace_L2 Q x1 x2 M x3 → ∀ (ls : Array Slot) (H : Heap) (locs : List Loc), lv_has ls 4 [(0, .ref (mh E)), (1, .int x1), (2, .int x2), (3, .int x3)] → mW E M L H → va_S A s.heap H locs → W p l e R s m args below meth c H locs cells slots Z (F0 m 2 ls []) := by
    obtain ⟨G2, hG2⟩ : ∃ G : Int32 → Prop, ∀ (x3 : Int32), G x3 ↔ (∀ (ls : Array Slot) (H : Heap) (locs : List Loc), lv_has ls 4 [(0, .ref (mh E)), (1, .int x1), (2, .int x2), (3, .int x3)] → mW E M L H → va_S A s.heap H locs → W p l e R s m args below meth c H locs cells slots Z (F0 m 2 ls [])) := ⟨fun x3 => _, fun x3 => Iff.rfl⟩
    have hB2 : ∀ (rec2 : Int32 → Prop), (∀ (x3 : Int32), rec2 x3 → G2 x3) → ∀ (x3 : Int32), w_X3_keyPlace_h2 Q x1 x2 M rec2 x3 → G2 x3 := by
      intro rec2 hrec2
      intro x3 h
      rw [hG2]
      intro ls H locs hl hW hS
      refine lv_iload_n hx hb dX3_keyPlace_2 rfl (lv_at hl 3 rfl) ?_
      refine lv_aload_n hx hb dX3_keyPlace_3 rfl (lv_at hl 0 rfl) ?_
      refine mr_getA C hW 19 rfl rfl q1822 dX3_keyPlace_4 ?_
      refine lv_iload_n hx hb dX3_keyPlace_7 rfl (lv_at hl 1 rfl) ?_
      refine mr_iald C hW 19 rfl rfl rfl h dX3_keyPlace_8 (fun v1 h => ?_)
      refine lv_icmp_ge (tgt := 33) hx hb dX3_keyPlace_9 (by decide) (fun c4 => ?_) (fun c4 => ?_)
      · have h := wif_t h c4
        refine lv_iload_n hx hb dX3_keyPlace_33 rfl (lv_at hl 3 rfl) ?_
        exact hret _ _ _ _ _ dX3_keyPlace_34 hS h
      · have h := wif_f h c4
        refine lv_aload_n hx hb dX3_keyPlace_12 rfl (lv_at hl 0 rfl) ?_
        refine mr_getA C hW 20 rfl rfl q1823 dX3_keyPlace_13 ?_
        refine lv_bipush (v := 8) hx hb dX3_keyPlace_16 (by decide) ?_
        refine lv_iload_n hx hb dX3_keyPlace_18 rfl (lv_at hl 1 rfl) ?_
        refine lv_imul hx hb dX3_keyPlace_19 ?_
        refine lv_iload_n hx hb dX3_keyPlace_20 rfl (lv_at hl 3 rfl) ?_
        refine lv_iadd hx hb dX3_keyPlace_21 ?_
        refine mr_iald C hW 20 rfl rfl rfl h dX3_keyPlace_22 (fun v2 h => ?_)
        refine lv_iload_n hx hb dX3_keyPlace_23 rfl (lv_at hl 2 rfl) ?_
        refine lv_icmp_ge (tgt := 33) hx hb dX3_keyPlace_24 (by decide) (fun c3 => ?_) (fun c3 => ?_)
        · have h := wif_t h c3
          refine lv_iload_n hx hb dX3_keyPlace_33 rfl (lv_at hl 3 rfl) ?_
          exact hret _ _ _ _ _ dX3_keyPlace_34 hS h
        · have h := wif_f h c3
          refine lv_iinc (v := x3 + (1 : Int32)) (lv' := [(3, .int (x3 + (1 : Int32))), (0, .ref (mh E)), (1, .int x1), (2, .int x2)]) hx hb dX3_keyPlace_27 hl (k := 3) rfl (congrArg (fun z => x3 + z) (by decide)) (by decide) rfl (fun ls hl => ?_)
          refine lv_goto (tgt := 2) hx hb dX3_keyPlace_30 (by decide) ?_
          exact (hG2 _).mp (hrec2 _ h) ls H locs (lv_sub hl [1, 2, 3, 0] rfl) hW hS
    intro x3 h
    exact (hG2 x3).mp (loop_walk (fun s => G2 s) (fun rec hrec s h => hB2 (fun x3 => rec x3) (fun x3 h => hrec x3 h) s h) x3 h)
  intro h
  intro ls H locs hl hW hS
  refine lv_iconst (v := 0) hx hb dX3_keyPlace_0 (by decide) ?_
  refine lv_istore_n (lv' := [(3, .int (0 : Int32)), (0, .ref (mh E)), (1, .int x1), (2, .int x2)]) hx hb dX3_keyPlace_1 rfl hl (by decide) rfl (fun ls hl => ?_)
  exact hL2 _ h ls H locs (lv_sub hl [1, 2, 3, 0] rfl) hW hS
theorem ct_X3_keyPlace (l : Launch) : CT_X3_keyPlace l 0 0 w_X3_keyPlace := by
  intro E M L sz Q x1 x2
  refine Met.ofW (cc := cX3_keyPlace) (maxL := 4) (ret := (some .int)) (by decide) rfl ?_
  intro p e s m args below meth c s₁ B hml hv
  obtain ⟨rfl, hsz, hW, hK, h⟩ := hv
  subst hsz
  have hts := atoms_spec (ws := ws_ yX3_keyPlace cX3_keyPlace 4 (some .int)) B.pre
  have hts : ∀ w ∈ lw_all, w.before _ s = true := fun w h => hts w (List.mem_cons_of_mem _ h)
  have hl := lv_entry ([.ref (mh E), .int x1, .int x2]) (n := 4) (Nat.le_of_ble_eq_true rfl)
  rw [lg_entry_eq]
  generalize (lg_sl ([.ref (mh E), .int x1, .int x2]) ++ List.replicate (4 - (lg_sl ([.ref (mh E), .int x1, .int x2])).length) Slot.unset).toArray = ls at hl ⊢
  exact wk_X3_keyPlace Q ⟨⟨B.exec, B.bytes, hml, findClass_of_methodNamed B.named, hts⟩, hK⟩ (fun q h => h) (Nat.le_refl _) (Nat.le_refl _) ⟨Nat.le_refl _, Nat.le_refl _⟩ M L (fun v pc ls H locs hd hS hQ => W.iret (v := v) B.exec B.bytes B.returns (fun t ht _ => ⟨⟨v, (), rfl, hQ, trivial⟩, hS.F ht⟩) hS.2.2 hd) x1 x2 h ls _ [] hl hW va_S.rf
def CT_X3_hasKey (l : Launch) (fr lo : Nat) (w : (Int32 → Prop) → Int32 → Int32 → MM → Prop) : Prop := ∀ (E : mE) (M : MM) (L : ML) (sz : Nat) (Q : Int32 → Prop) (x1 : Int32) (x2 : Int32), Met l yX3_hasKey (ws_ yX3_hasKey cX3_hasKey 4 (some .boolean)) { frames := fr, cells := 0, slots := 0, locals := lo } (va_Pc [.ref (mh E), .int x1, .int x2] (fun U => U.heap.size = sz ∧ mW E M L U.heap ∧ mK E U ∧ w Q x1 x2 M)) (va_Qi (fun r (_ : Unit) => Q r) (fun _ _ => True) (mN sz)) 0 0 (mN sz)
theorem call_X3_hasKey {p : Program} {l : Launch} {e : Env} {R : Room} {s : State} {m : MethodId} {args : Array Value} {below : List Frame} {meth : Method} {c : Code} {H : Heap} {locs : List Loc} {cells slots : Nat} {Z : State → Prop} {A : Nat → Prop} {cc : ByteArray} {nL pc : Nat} {ls : Array Slot} {rest : List Value} {own : String} {index fr lo : Nat} {w : (Int32 → Prop) → Int32 → Int32 → MM → Prop} {E : mE} {M : MM} {L : ML} {x1 : Int32} {x2 : Int32} (hM : CT_X3_hasKey l fr lo w) (S : CallFix p m c cc nL s args lw_all own) (hK : mK E s) (hW : mW E M L H) (hS : va_S A s.heap H locs) (hA : ∀ q, s.heap.size ≤ q → A q) (hlink : Cond.methodLink own index yX3_hasKey ∈ lw_all) (hRf : fr + 1 ≤ R.frames) (hRl : 8 + (4 + 11) + lo ≤ R.locals) (hcs : cells ≤ R.cells ∧ slots ≤ R.slots) (hz : ls.size = nL) (hr8 : (rest.map fun v => v.category).sum ≤ 8) (hdg : decode cc pc = .ok (.invokevirtual index, 3)) {Q1 : Int32 → Prop} (h : w Q1 x1 x2 M) (kk : ∀ (r : Int32) (H1 : Heap) (locs1 : List Loc), Q1 r → (∀ q : Nat, q < H.size → H1[q]? = H[q]?) → va_S A s.heap H1 locs1 → W p l e R s m args below meth c H1 locs1 cells slots Z (F0 m (pc + 3) ls (.int r :: rest))) : W p l e R s m args below meth c H locs cells slots Z (F0 m pc ls (.int x2 :: .int x1 :: .ref (mh E) :: rest)) := by
  exact ro_i (va_runV (As := [.int x1, .int x2]) (rest := rest) S (hM E M L H.size Q1 x1 x2) (cwV 2 S.2.2.2.2 (lw_V hlink q2004 qs28 q68 q2005) rfl rfl rfl (by decide +kernel) ⟨hRf, hRl⟩) ⟨fun a U g mk q => by obtain ⟨q0, q1, qW, qK, qw⟩ := q; exact ⟨q0, q1, qW, qK.moved (u := U) (U := U.calling g mk a) (Vm.Alike.refl U.vm), qw⟩, hW.recv (hK := hK), fun U hU hWm => ⟨rfl, by rw [hU], by rw [hU]; exact hW, hK.moved hWm.alike, h⟩⟩ rfl rfl hz rfl (lv_room hr8) hdg hcs) hS hA (fun r H1 locs1 hp hz hk hS1 => kk r H1 locs1 hp hk hS1)
def w_X3_hasKey (Q : Int32 → Prop) (x1 : Int32) (x2 : Int32) (M : MM) : Prop := w_X3_keyPlace (fun r1 => mRd (M 19) 96 x1 (fun v2 => if v2 ≤ r1 then (Q (0 : Int32)) else (mRd (M 20) 768 (((8 : Int32) * x1) + r1) (fun v3 => if v3 = x2 then (Q (1 : Int32)) else (Q (0 : Int32)))))) x1 x2 M
set_option maxRecDepth 100000 in
set_option maxHeartbeats 4000000 in
theorem wk_X3_hasKey {p : Program} {l : Launch} {e : Env} {R : Room} {s : State} {m : MethodId} {args : Array Value} {below : List Frame} {meth : Method} {c : Code} {cells slots : Nat} {Z : State → Prop} {A : Nat → Prop} {E : mE} (Q : Int32 → Prop) (C : mC p m c s args cX3_hasKey 4 E) (hA : ∀ q, s.heap.size ≤ q → A q) (hRf : 1 ≤ R.frames) (hRl : 23 ≤ R.locals) (hcs : cells ≤ R.cells ∧ slots ≤ R.slots) (M : MM) (L : ML) (hret : ∀ (v : Int32) (pc : Nat) (ls : Array Slot) (H : Heap) (locs : List Loc), decode cX3_hasKey pc = .ok (.ireturn, 1) → va_S A s.heap H locs → isZ v → Q v → W p l e R s m args below meth c H locs cells slots Z (F0 m pc ls [.int v])) (x1 : Int32) (x2 : Int32) : w_X3_hasKey Q x1 x2 M → ∀ (ls : Array Slot) (H : Heap) (locs : List Loc), lv_has ls 4 [(0, .ref (mh E)), (1, .int x1), (2, .int x2)] → mW E M L H → va_S A s.heap H locs → W p l e R s m args below meth c H locs cells slots Z (F0 m 0 ls []) := by
  obtain ⟨⟨hx, hb, hml, hown, hts⟩, hK⟩ := C; have C : mC p m c s args cX3_hasKey 4 E := ⟨⟨hx, hb, hml, hown, hts⟩, hK⟩
  intro h
  intro ls H locs hl hW hS
  refine lv_aload_n hx hb dX3_hasKey_0 rfl (lv_at hl 0 rfl) ?_
  refine lv_iload_n hx hb dX3_hasKey_1 rfl (lv_at hl 1 rfl) ?_
  refine lv_iload_n hx hb dX3_hasKey_2 rfl (lv_at hl 2 rfl) ?_
  refine call_X3_keyPlace (ct_X3_keyPlace l) C.1 C.2 hW hS hA q2006 (le_lit hRf rfl) (le_lit hRl rfl) hcs hl.1 (Nat.le_of_ble_eq_true rfl) dX3_hasKey_3 h (fun r1 H locs h hk hS => ?_)
  have hW := hW.kept hk
  refine lv_istore_n (lv' := [(3, .int r1), (0, .ref (mh E)), (1, .int x1), (2, .int x2)]) hx hb dX3_hasKey_6 rfl hl (by decide) rfl (fun ls hl => ?_)
  refine lv_iload_n hx hb dX3_hasKey_7 rfl (lv_at hl 0 rfl) ?_
  refine lv_aload_n hx hb dX3_hasKey_8 rfl (lv_at hl 1 rfl) ?_
  refine mr_getA C hW 19 rfl rfl q1822 dX3_hasKey_9 ?_
  refine lv_iload_n hx hb dX3_hasKey_12 rfl (lv_at hl 2 rfl) ?_
  refine mr_iald C hW 19 rfl rfl rfl h dX3_hasKey_13 (fun v2 h => ?_)
  refine lv_icmp_ge (tgt := 36) hx hb dX3_hasKey_14 (by decide) (fun c5 => ?_) (fun c5 => ?_)
  · have h := wif_t h c5
    refine lv_iconst (v := 0) hx hb dX3_hasKey_36 (by decide) ?_
    exact hret _ _ _ _ _ dX3_hasKey_37 hS isZ_0 h
  · have h := wif_f h c5
    refine lv_aload_n hx hb dX3_hasKey_17 rfl (lv_at hl 1 rfl) ?_
    refine mr_getA C hW 20 rfl rfl q1823 dX3_hasKey_18 ?_
    refine lv_bipush (v := 8) hx hb dX3_hasKey_21 (by decide) ?_
    refine lv_iload_n hx hb dX3_hasKey_23 rfl (lv_at hl 2 rfl) ?_
    refine lv_imul hx hb dX3_hasKey_24 ?_
    refine lv_iload_n hx hb dX3_hasKey_25 rfl (lv_at hl 0 rfl) ?_
    refine lv_iadd hx hb dX3_hasKey_26 ?_
    refine mr_iald C hW 20 rfl rfl rfl h dX3_hasKey_27 (fun v3 h => ?_)
    refine lv_iload_n hx hb dX3_hasKey_28 rfl (lv_at hl 3 rfl) ?_
    refine lv_icmp_ne (tgt := 36) hx hb dX3_hasKey_29 (by decide) (fun c4 => ?_) (fun c4 => ?_)
    · have h := wif_f h c4
      refine lv_iconst (v := 0) hx hb dX3_hasKey_36 (by decide) ?_
      exact hret _ _ _ _ _ dX3_hasKey_37 hS isZ_0 h
    · have h := wif_t h c4
      refine lv_iconst (v := 1) hx hb dX3_hasKey_32 (by decide) ?_
      refine lv_goto (tgt := 37) hx hb dX3_hasKey_33 (by decide) ?_
      exact hret _ _ _ _ _ dX3_hasKey_37 hS isZ_1 h
theorem ct_X3_hasKey (l : Launch) : CT_X3_hasKey l 1 23 w_X3_hasKey := by
  intro E M L sz Q x1 x2
  refine Met.ofW (cc := cX3_hasKey) (maxL := 4) (ret := (some .boolean)) (by decide) rfl ?_
  intro p e s m args below meth c s₁ B hml hv
  obtain ⟨rfl, hsz, hW, hK, h⟩ := hv
  subst hsz
  have hts := atoms_spec (ws := ws_ yX3_hasKey cX3_hasKey 4 (some .boolean)) B.pre
  have hts : ∀ w ∈ lw_all, w.before _ s = true := fun w h => hts w (List.mem_cons_of_mem _ h)
  have hl := lv_entry ([.ref (mh E), .int x1, .int x2]) (n := 4) (Nat.le_of_ble_eq_true rfl)
  rw [lg_entry_eq]
  generalize (lg_sl ([.ref (mh E), .int x1, .int x2]) ++ List.replicate (4 - (lg_sl ([.ref (mh E), .int x1, .int x2])).length) Slot.unset).toArray = ls at hl ⊢
  exact wk_X3_hasKey Q ⟨⟨B.exec, B.bytes, hml, findClass_of_methodNamed B.named, hts⟩, hK⟩ (fun q h => h) (Nat.le_refl _) (Nat.le_refl _) ⟨Nat.le_refl _, Nat.le_refl _⟩ M L (fun v pc ls H locs hd hS hz hQ => W.zret (v := v) B.exec B.bytes B.returns hz.nar (fun t ht _ => ⟨⟨v, (), rfl, hQ, trivial⟩, hS.F ht⟩) hS.2.2 hd) x1 x2 h ls _ [] hl hW va_S.rf
def CT_X3_copyKey (l : Launch) (fr lo : Nat) (w : (MM → Prop) → Int32 → Int32 → Int32 → MM → Prop) : Prop := ∀ (E : mE) (M : MM) (L : ML) (sz : Nat) (Q : MM → Prop) (x1 : Int32) (x2 : Int32) (x3 : Int32), Met l yX3_copyKey (ws_ yX3_copyKey cX3_copyKey 4 none) { frames := fr, cells := 0, slots := 0, locals := lo } (va_Pc [.ref (mh E), .int x1, .int x2, .int x3] (fun U => U.heap.size = sz ∧ mW E M L U.heap ∧ mK E U ∧ w Q x1 x2 x3 M)) (va_Qv (fun (u : MM × ML) => u.2 = L ∧ Q u.1) (fun u t => mW E u.1 u.2 t.heap) (mA E sz)) 0 0 (mA E sz)
theorem call_X3_copyKey {p : Program} {l : Launch} {e : Env} {R : Room} {s : State} {m : MethodId} {args : Array Value} {below : List Frame} {meth : Method} {c : Code} {H : Heap} {locs : List Loc} {cells slots : Nat} {Z : State → Prop} {A : Nat → Prop} {cc : ByteArray} {nL pc : Nat} {ls : Array Slot} {rest : List Value} {own : String} {index fr lo : Nat} {w : (MM → Prop) → Int32 → Int32 → Int32 → MM → Prop} {E : mE} {M : MM} {L : ML} {x1 : Int32} {x2 : Int32} {x3 : Int32} (hM : CT_X3_copyKey l fr lo w) (S : CallFix p m c cc nL s args lw_all own) (hK : mK E s) (hW : mW E M L H) (hS : va_S A s.heap H locs) (hA : ∀ q, s.heap.size ≤ q → A q) (hAw : ∀ q, mAd E q → A q) (hlink : Cond.methodLink own index yX3_copyKey ∈ lw_all) (hRf : fr + 1 ≤ R.frames) (hRl : 8 + (4 + 11) + lo ≤ R.locals) (hcs : cells ≤ R.cells ∧ slots ≤ R.slots) (hz : ls.size = nL) (hr8 : (rest.map fun v => v.category).sum ≤ 8) (hdg : decode cc pc = .ok (.invokevirtual index, 3)) {Q1 : MM → Prop} (h : w Q1 x1 x2 x3 M) (kk : ∀ (M1 : MM) (H1 : Heap) (locs1 : List Loc), Q1 M1 → mW E M1 L H1 → va_S A s.heap H1 locs1 → (∀ q : Nat, q < H.size → ¬ mAd E q → H1[q]? = H[q]?) → W p l e R s m args below meth c H1 locs1 cells slots Z (F0 m (pc + 3) ls (rest))) : W p l e R s m args below meth c H locs cells slots Z (F0 m pc ls (.int x3 :: .int x2 :: .int x1 :: .ref (mh E) :: rest)) := by
  refine mw_v (sz := 0) (P := fun M1 L1 => L1 = L ∧ Q1 M1) (va_runV (As := [.int x1, .int x2, .int x3]) (rest := rest) S (hM E M L H.size Q1 x1 x2 x3) (cwV 3 S.2.2.2.2 (lw_V hlink q2012 qs30 q68 q2013) rfl rfl rfl (by decide +kernel) ⟨hRf, hRl⟩) ⟨fun a U g mk q => by obtain ⟨q0, q1, qW, qK, qw⟩ := q; exact ⟨q0, q1, qW, qK.moved (u := U) (U := U.calling g mk a) (Vm.Alike.refl U.vm), qw⟩, hW.recv (hK := hK), fun U hU hWm => ⟨rfl, by rw [hU], by rw [hU]; exact hW, hK.moved hWm.alike, h⟩⟩ rfl rfl hz rfl (lv_room hr8) hdg hcs) hS hA hAw (fun M1 L1 H1 locs1 hp hW1 hz hk hS1 => ?_)
  obtain ⟨rfl, hp⟩ := hp
  exact kk M1 H1 locs1 hp hW1 hS1 hk
def w_X3_copyKey (Q : MM → Prop) (x1 : Int32) (x2 : Int32) (x3 : Int32) (M : MM) : Prop := mRd (M 20) 768 (((8 : Int32) * x1) + x3) (fun v1 => mWr M 20 768 (((8 : Int32) * x1) + x2) v1 (fun M2 => mRd (M2 21) 768 (((8 : Int32) * x1) + x3) (fun v3 => mWr M2 21 768 (((8 : Int32) * x1) + x2) v3 (fun M4 => mRd (M4 22) 768 (((8 : Int32) * x1) + x3) (fun v5 => mWr M4 22 768 (((8 : Int32) * x1) + x2) v5 (fun M6 => Q M6))))))
set_option maxRecDepth 100000 in
set_option maxHeartbeats 4000000 in
theorem wk_X3_copyKey {p : Program} {l : Launch} {e : Env} {R : Room} {s : State} {m : MethodId} {args : Array Value} {below : List Frame} {meth : Method} {c : Code} {cells slots : Nat} {Z : State → Prop} {A : Nat → Prop} {E : mE} (Q : MM → Prop) (C : mC p m c s args cX3_copyKey 4 E) (hA : ∀ q, s.heap.size ≤ q → A q) (hAw : ∀ q, mAd E q → A q) (hRf : 0 ≤ R.frames) (hRl : 0 ≤ R.locals) (hcs : cells ≤ R.cells ∧ slots ≤ R.slots) (M : MM) (L : ML) (hret : ∀ (M : MM) (pc : Nat) (ls : Array Slot) (H : Heap) (locs : List Loc), decode cX3_copyKey pc = .ok (.return_, 1) → va_S A s.heap H locs → mW E M L H → Q M → W p l e R s m args below meth c H locs cells slots Z (F0 m pc ls [])) (x1 : Int32) (x2 : Int32) (x3 : Int32) : w_X3_copyKey Q x1 x2 x3 M → ∀ (ls : Array Slot) (H : Heap) (locs : List Loc), lv_has ls 4 [(0, .ref (mh E)), (1, .int x1), (2, .int x2), (3, .int x3)] → mW E M L H → va_S A s.heap H locs → W p l e R s m args below meth c H locs cells slots Z (F0 m 0 ls []) := by
  obtain ⟨⟨hx, hb, hml, hown, hts⟩, hK⟩ := C; have C : mC p m c s args cX3_copyKey 4 E := ⟨⟨hx, hb, hml, hown, hts⟩, hK⟩
  intro h
  intro ls H locs hl hW hS
  refine lv_aload_n hx hb dX3_copyKey_0 rfl (lv_at hl 0 rfl) ?_
  refine mr_getA C hW 20 rfl rfl q1823 dX3_copyKey_1 ?_
  refine lv_bipush (v := 8) hx hb dX3_copyKey_4 (by decide) ?_
  refine lv_iload_n hx hb dX3_copyKey_6 rfl (lv_at hl 1 rfl) ?_
  refine lv_imul hx hb dX3_copyKey_7 ?_
  refine lv_iload_n hx hb dX3_copyKey_8 rfl (lv_at hl 2 rfl) ?_
  refine lv_iadd hx hb dX3_copyKey_9 ?_
  refine lv_aload_n hx hb dX3_copyKey_10 rfl (lv_at hl 0 rfl) ?_
  refine mr_getA C hW 20 rfl rfl q1823 dX3_copyKey_11 ?_
  refine lv_bipush (v := 8) hx hb dX3_copyKey_14 (by decide) ?_
  refine lv_iload_n hx hb dX3_copyKey_16 rfl (lv_at hl 1 rfl) ?_
  refine lv_imul hx hb dX3_copyKey_17 ?_
  refine lv_iload_n hx hb dX3_copyKey_18 rfl (lv_at hl 3 rfl) ?_
  refine lv_iadd hx hb dX3_copyKey_19 ?_
  refine mr_iald C hW 20 rfl rfl rfl h dX3_copyKey_20 (fun v1 h => ?_)
  refine mr_iast C hW hS hAw 20 rfl rfl rfl h dX3_copyKey_21 (fun M2 H locs hW hS h => ?_)
  refine lv_aload_n hx hb dX3_copyKey_22 rfl (lv_at hl 0 rfl) ?_
  refine mr_getA C hW 21 rfl rfl q1824 dX3_copyKey_23 ?_
  refine lv_bipush (v := 8) hx hb dX3_copyKey_26 (by decide) ?_
  refine lv_iload_n hx hb dX3_copyKey_28 rfl (lv_at hl 1 rfl) ?_
  refine lv_imul hx hb dX3_copyKey_29 ?_
  refine lv_iload_n hx hb dX3_copyKey_30 rfl (lv_at hl 2 rfl) ?_
  refine lv_iadd hx hb dX3_copyKey_31 ?_
  refine lv_aload_n hx hb dX3_copyKey_32 rfl (lv_at hl 0 rfl) ?_
  refine mr_getA C hW 21 rfl rfl q1824 dX3_copyKey_33 ?_
  refine lv_bipush (v := 8) hx hb dX3_copyKey_36 (by decide) ?_
  refine lv_iload_n hx hb dX3_copyKey_38 rfl (lv_at hl 1 rfl) ?_
  refine lv_imul hx hb dX3_copyKey_39 ?_
  refine lv_iload_n hx hb dX3_copyKey_40 rfl (lv_at hl 3 rfl) ?_
  refine lv_iadd hx hb dX3_copyKey_41 ?_
  refine mr_iald C hW 21 rfl rfl rfl h dX3_copyKey_42 (fun v3 h => ?_)
  refine mr_iast C hW hS hAw 21 rfl rfl rfl h dX3_copyKey_43 (fun M4 H locs hW hS h => ?_)
  refine lv_aload_n hx hb dX3_copyKey_44 rfl (lv_at hl 0 rfl) ?_
  refine mr_getA C hW 22 rfl rfl q1825 dX3_copyKey_45 ?_
  refine lv_bipush (v := 8) hx hb dX3_copyKey_48 (by decide) ?_
  refine lv_iload_n hx hb dX3_copyKey_50 rfl (lv_at hl 1 rfl) ?_
  refine lv_imul hx hb dX3_copyKey_51 ?_
  refine lv_iload_n hx hb dX3_copyKey_52 rfl (lv_at hl 2 rfl) ?_
  refine lv_iadd hx hb dX3_copyKey_53 ?_
  refine lv_aload_n hx hb dX3_copyKey_54 rfl (lv_at hl 0 rfl) ?_
  refine mr_getA C hW 22 rfl rfl q1825 dX3_copyKey_55 ?_
  refine lv_bipush (v := 8) hx hb dX3_copyKey_58 (by decide) ?_
  refine lv_iload_n hx hb dX3_copyKey_60 rfl (lv_at hl 1 rfl) ?_
  refine lv_imul hx hb dX3_copyKey_61 ?_
  refine lv_iload_n hx hb dX3_copyKey_62 rfl (lv_at hl 3 rfl) ?_
  refine lv_iadd hx hb dX3_copyKey_63 ?_
  refine mr_iald C hW 22 rfl rfl rfl h dX3_copyKey_64 (fun v5 h => ?_)
  refine mr_iast C hW hS hAw 22 rfl rfl rfl h dX3_copyKey_65 (fun M6 H locs hW hS h => ?_)
  exact hret _ _ _ _ _ dX3_copyKey_66 hS hW h
theorem ct_X3_copyKey (l : Launch) : CT_X3_copyKey l 0 0 w_X3_copyKey := by
  intro E M L sz Q x1 x2 x3
  refine Met.ofW (cc := cX3_copyKey) (maxL := 4) (ret := none) (by decide) rfl ?_
  intro p e s m args below meth c s₁ B hml hv
  obtain ⟨rfl, hsz, hW, hK, h⟩ := hv
  subst hsz
  have hts := atoms_spec (ws := ws_ yX3_copyKey cX3_copyKey 4 none) B.pre
  have hts : ∀ w ∈ lw_all, w.before _ s = true := fun w h => hts w (List.mem_cons_of_mem _ h)
  have hl := lv_entry ([.ref (mh E), .int x1, .int x2, .int x3]) (n := 4) (Nat.le_of_ble_eq_true rfl)
  rw [lg_entry_eq]
  generalize (lg_sl ([.ref (mh E), .int x1, .int x2, .int x3]) ++ List.replicate (4 - (lg_sl ([.ref (mh E), .int x1, .int x2, .int x3])).length) Slot.unset).toArray = ls at hl ⊢
  exact wk_X3_copyKey Q ⟨⟨B.exec, B.bytes, hml, findClass_of_methodNamed B.named, hts⟩, hK⟩ (fun q h => Or.inr h) (fun q h => Or.inl h) (Nat.le_refl _) (Nat.le_refl _) ⟨Nat.le_refl _, Nat.le_refl _⟩ M L (fun M pc ls H locs hd hS hW1 hQ => W.vret B.exec B.bytes B.returns (fun t ht _ => ⟨⟨(M, L), rfl, ⟨rfl, hQ⟩, by rw [← ht] at hW1; exact hW1⟩, hS.F ht⟩) hS.2.2 hd) x1 x2 x3 h ls _ [] hl hW va_S.rf
def CT_X3_key (l : Launch) (fr lo : Nat) (w : (Int32 → MM → Prop) → Int32 → Int32 → Int32 → Int32 → Int32 → MM → Prop) : Prop := ∀ (E : mE) (M : MM) (L : ML) (sz : Nat) (Q : Int32 → MM → Prop) (x1 : Int32) (x2 : Int32) (x3 : Int32) (x4 : Int32) (x5 : Int32), Met l yX3_key (ws_ yX3_key cX3_key 11 (some .int)) { frames := fr, cells := 0, slots := 0, locals := lo } (va_Pc [.ref (mh E), .int x1, .int x2, .int x3, .int x4, .int x5] (fun U => U.heap.size = sz ∧ mW E M L U.heap ∧ mK E U ∧ w Q x1 x2 x3 x4 x5 M)) (va_Qi (fun r (u : MM × ML) => u.2 = L ∧ Q r u.1) (fun u t => mW E u.1 u.2 t.heap) (mA E sz)) 0 0 (mA E sz)
theorem call_X3_key {p : Program} {l : Launch} {e : Env} {R : Room} {s : State} {m : MethodId} {args : Array Value} {below : List Frame} {meth : Method} {c : Code} {H : Heap} {locs : List Loc} {cells slots : Nat} {Z : State → Prop} {A : Nat → Prop} {cc : ByteArray} {nL pc : Nat} {ls : Array Slot} {rest : List Value} {own : String} {index fr lo : Nat} {w : (Int32 → MM → Prop) → Int32 → Int32 → Int32 → Int32 → Int32 → MM → Prop} {E : mE} {M : MM} {L : ML} {x1 : Int32} {x2 : Int32} {x3 : Int32} {x4 : Int32} {x5 : Int32} (hM : CT_X3_key l fr lo w) (S : CallFix p m c cc nL s args lw_all own) (hK : mK E s) (hW : mW E M L H) (hS : va_S A s.heap H locs) (hA : ∀ q, s.heap.size ≤ q → A q) (hAw : ∀ q, mAd E q → A q) (hlink : Cond.methodLink own index yX3_key ∈ lw_all) (hRf : fr + 1 ≤ R.frames) (hRl : 8 + (11 + 11) + lo ≤ R.locals) (hcs : cells ≤ R.cells ∧ slots ≤ R.slots) (hz : ls.size = nL) (hr8 : (rest.map fun v => v.category).sum ≤ 8) (hdg : decode cc pc = .ok (.invokevirtual index, 3)) {Q1 : Int32 → MM → Prop} (h : w Q1 x1 x2 x3 x4 x5 M) (kk : ∀ (r : Int32) (M1 : MM) (H1 : Heap) (locs1 : List Loc), Q1 r M1 → mW E M1 L H1 → va_S A s.heap H1 locs1 → (∀ q : Nat, q < H.size → ¬ mAd E q → H1[q]? = H[q]?) → W p l e R s m args below meth c H1 locs1 cells slots Z (F0 m (pc + 3) ls (.int r :: rest))) : W p l e R s m args below meth c H locs cells slots Z (F0 m pc ls (.int x5 :: .int x4 :: .int x3 :: .int x2 :: .int x1 :: .ref (mh E) :: rest)) := by
  refine mw_i (sz := 0) (P := fun r M1 L1 => L1 = L ∧ Q1 r M1) (va_runV (As := [.int x1, .int x2, .int x3, .int x4, .int x5]) (rest := rest) S (hM E M L H.size Q1 x1 x2 x3 x4 x5) (cwV 5 S.2.2.2.2 (lw_V hlink q1994 q1995 q68 q1996) rfl rfl rfl (by decide +kernel) ⟨hRf, hRl⟩) ⟨fun a U g mk q => by obtain ⟨q0, q1, qW, qK, qw⟩ := q; exact ⟨q0, q1, qW, qK.moved (u := U) (U := U.calling g mk a) (Vm.Alike.refl U.vm), qw⟩, hW.recv (hK := hK), fun U hU hWm => ⟨rfl, by rw [hU], by rw [hU]; exact hW, hK.moved hWm.alike, h⟩⟩ rfl rfl hz rfl (lv_room hr8) hdg hcs) hS hA hAw (fun r M1 L1 H1 locs1 hp hW1 hz hk hS1 => ?_)
  obtain ⟨rfl, hp⟩ := hp
  exact kk r M1 H1 locs1 hp hW1 hS1 hk
def w_X3_key_184 (Q : Int32 → MM → Prop) (x3 : Int32) (x4 : Int32) (x5 : Int32) (x7 : Int32) (x9 : Int32) (M : MM) : Prop := mWr M 20 768 (((8 : Int32) * x7) + x9) x3 (fun M1 => mWr M1 21 768 (((8 : Int32) * x7) + x9) x4 (fun M2 => mWr M2 22 768 (((8 : Int32) * x7) + x9) x5 (fun M3 => mRd (M3 19) 96 x7 (fun v4 => Q v4 M3))))
def w_X3_key_h148 (Q : Int32 → MM → Prop) (x3 : Int32) (x4 : Int32) (x5 : Int32) (x7 : Int32) (x9 : Int32) (rec148 : Int32 → MM → Prop) (x10 : Int32) (M : MM) : Prop := if x10 ≤ x9 then (mRd (M 19) 96 x7 (fun v5 => mWr M 19 96 x7 (v5 + (1 : Int32)) (fun M6 => w_X3_key_184 Q x3 x4 x5 x7 x9 M6))) else (w_X3_copyKey (fun M7 => rec148 (x10 + (-1 : Int32)) M7) x7 x10 (x10 - (1 : Int32)) M)
def w_X3_key_L148 (Q : Int32 → MM → Prop) (x3 : Int32) (x4 : Int32) (x5 : Int32) (x7 : Int32) (x9 : Int32) (x10 : Int32) (M : MM) : Prop := wLoop (fun (rec : (Int32 × MM) → Prop) (s : Int32 × MM) => w_X3_key_h148 Q x3 x4 x5 x7 x9 (fun x10 M => rec (x10, M)) s.1 s.2) (x10, M)
def w_X3_key_112 (Q : Int32 → MM → Prop) (x3 : Int32) (x4 : Int32) (x5 : Int32) (x7 : Int32) (y0 : Int32) (y1 : Int32) (y2 : Int32) (M : MM) : Prop := w_X3_check (fun r9 M10 => if r9 = 0 then (Q (0 : Int32) M10) else (w_X3_keyPlace (fun r11 => w_X3_hasKey (fun r12 => if r12 = 0 then (mRd (M10 19) 96 x7 (fun v13 => w_X3_key_L148 Q x3 x4 x5 x7 r11 v13 M10)) else (w_X3_key_184 Q x3 x4 x5 x7 r11 M10)) x7 x3 M10) x7 x3 M10)) y2 y1 y0 M
def w_X3_key_111 (Q : Int32 → MM → Prop) (x3 : Int32) (x4 : Int32) (x5 : Int32) (x7 : Int32) (y0 : Int32) (y1 : Int32) (M : MM) : Prop := w_X3_key_112 Q x3 x4 x5 x7 (0 : Int32) y0 y1 M
def w_X3_key_107 (Q : Int32 → MM → Prop) (x3 : Int32) (x4 : Int32) (x5 : Int32) (x7 : Int32) (y0 : Int32) (y1 : Int32) (M : MM) : Prop := w_X3_key_112 Q x3 x4 x5 x7 (1 : Int32) y0 y1 M
def w_X3_key_73 (Q : Int32 → MM → Prop) (x3 : Int32) (x4 : Int32) (x5 : Int32) (x6 : Int32) (x7 : Int32) (y0 : Int32) (M : MM) : Prop := if x6 = 0 then (w_X3_key_111 Q x3 x4 x5 x7 y0 x6 M) else (w_X3_hasKey (fun r16 => if r16 = 0 then (mRd (M 19) 96 x7 (fun v17 => if (8 : Int32) ≤ v17 then (w_X3_key_111 Q x3 x4 x5 x7 y0 x6 M) else (w_X3_key_107 Q x3 x4 x5 x7 y0 x6 M))) else (w_X3_key_107 Q x3 x4 x5 x7 y0 x6 M)) x7 x3 M)
def w_X3_key_72 (Q : Int32 → MM → Prop) (x3 : Int32) (x4 : Int32) (x5 : Int32) (x6 : Int32) (x7 : Int32) (M : MM) : Prop := w_X3_key_73 Q x3 x4 x5 x6 x7 (0 : Int32) M
def w_X3_key_37 (Q : Int32 → MM → Prop) (x3 : Int32) (x4 : Int32) (x5 : Int32) (x6 : Int32) (y0 : Int32) (M : MM) : Prop := w_X3_isTime (fun r21 => if r21 = 0 then (w_X3_key_72 Q x3 x4 x5 x6 y0 M) else (w_X3_isWithin (fun r22 => if r22 = 0 then (w_X3_key_72 Q x3 x4 x5 x6 y0 M) else (w_X3_isWithin (fun r23 => if r23 = 0 then (w_X3_key_72 Q x3 x4 x5 x6 y0 M) else (w_X3_key_73 Q x3 x4 x5 x6 y0 (1 : Int32) M)) x5 (0 : Int32) (2 : Int32))) x4 (-99999 : Int32) (99999 : Int32))) x3
def w_X3_key_20 (Q : Int32 → MM → Prop) (x1 : Int32) (x2 : Int32) (x3 : Int32) (x4 : Int32) (x5 : Int32) (y0 : Int32) (M : MM) : Prop := if y0 = 0 then (w_X3_key_37 Q x3 x4 x5 y0 (0 : Int32) M) else (w_X3_key_37 Q x3 x4 x5 y0 (((8 : Int32) * x1) + x2) M)
def w_X3_key_19 (Q : Int32 → MM → Prop) (x1 : Int32) (x2 : Int32) (x3 : Int32) (x4 : Int32) (x5 : Int32) (M : MM) : Prop := w_X3_key_20 Q x1 x2 x3 x4 x5 (0 : Int32) M
def w_X3_key (Q : Int32 → MM → Prop) (x1 : Int32) (x2 : Int32) (x3 : Int32) (x4 : Int32) (x5 : Int32) (M : MM) : Prop := w_X3_isLayer (fun r28 => if r28 = 0 then (w_X3_key_19 Q x1 x2 x3 x4 x5 M) else (w_X3_isValue (fun r29 => if r29 = 0 then (w_X3_key_19 Q x1 x2 x3 x4 x5 M) else (w_X3_key_20 Q x1 x2 x3 x4 x5 (1 : Int32) M)) x2)) x1 M
set_option maxRecDepth 100000 in
set_option maxHeartbeats 4000000 in
theorem wk_X3_key {p : Program} {l : Launch} {e : Env} {R : Room} {s : State} {m : MethodId} {args : Array Value} {below : List Frame} {meth : Method} {c : Code} {cells slots : Nat} {Z : State → Prop} {A : Nat → Prop} {E : mE} (Q : Int32 → MM → Prop) (C : mC p m c s args cX3_key 11 E) (hA : ∀ q, s.heap.size ≤ q → A q) (hAw : ∀ q, mAd E q → A q) (hRf : 2 ≤ R.frames) (hRl : 46 ≤ R.locals) (hcs : cells ≤ R.cells ∧ slots ≤ R.slots) (M : MM) (L : ML) (hret : ∀ (v : Int32) (M : MM) (pc : Nat) (ls : Array Slot) (H : Heap) (locs : List Loc), decode cX3_key pc = .ok (.ireturn, 1) → va_S A s.heap H locs → mW E M L H → Q v M → W p l e R s m args below meth c H locs cells slots Z (F0 m pc ls [.int v])) (x1 : Int32) (x2 : Int32) (x3 : Int32) (x4 : Int32) (x5 : Int32) : w_X3_key Q x1 x2 x3 x4 x5 M → ∀ (ls : Array Slot) (H : Heap) (locs : List Loc), lv_has ls 11 [(0, .ref (mh E)), (1, .int x1), (2, .int x2), (3, .int x3), (4, .int x4), (5, .int x5)] → mW E M L H → va_S A s.heap H locs → W p l e R s m args below meth c H locs cells slots Z (F0 m 0 ls []) := by
  obtain ⟨⟨hx, hb, hml, hown, hts⟩, hK⟩ := C; have C : mC p m c s args cX3_key 11 E := ⟨⟨hx, hb, hml, hown, hts⟩, hK⟩
  have hb184 : ∀ (x7 : Int32) (x9 : Int32) (M : MM), w_X3_key_184 Q x3 x4 x5 x7 x9 M → ∀ (ls : Array Slot) (H : Heap) (locs : List Loc), lv_has ls 11 [(0, .ref (mh E)), (3, .int x3), (4, .int x4), (5, .int x5), (7, .int x7), (9, .int x9)] → mW E M L H → va_S A s.heap H locs → W p l e R s m args below meth c H locs cells slots Z (F0 m 184 ls []) := by
    intro x7 x9 M h
    intro ls H locs hl hW hS
    refine lv_aload_n hx hb dX3_key_184 rfl (lv_at hl 0 rfl) ?_
    refine mr_getA C hW 20 rfl rfl q1823 dX3_key_185 ?_
    refine lv_bipush (v := 8) hx hb dX3_key_188 (by decide) ?_
    refine lv_iload hx hb dX3_key_190 (lv_at hl 4 rfl) ?_
    refine lv_imul hx hb dX3_key_192 ?_
    refine lv_iload hx hb dX3_key_193 (lv_at hl 5 rfl) ?_
    refine lv_iadd hx hb dX3_key_195 ?_
    refine lv_iload_n hx hb dX3_key_196 rfl (lv_at hl 1 rfl) ?_
    refine mr_iast C hW hS hAw 20 rfl rfl rfl h dX3_key_197 (fun M1 H locs hW hS h => ?_)
    refine lv_aload_n hx hb dX3_key_198 rfl (lv_at hl 0 rfl) ?_
    refine mr_getA C hW 21 rfl rfl q1824 dX3_key_199 ?_
    refine lv_bipush (v := 8) hx hb dX3_key_202 (by decide) ?_
    refine lv_iload hx hb dX3_key_204 (lv_at hl 4 rfl) ?_
    refine lv_imul hx hb dX3_key_206 ?_
    refine lv_iload hx hb dX3_key_207 (lv_at hl 5 rfl) ?_
    refine lv_iadd hx hb dX3_key_209 ?_
    refine lv_iload hx hb dX3_key_210 (lv_at hl 2 rfl) ?_
    refine mr_iast C hW hS hAw 21 rfl rfl rfl h dX3_key_212 (fun M2 H locs hW hS h => ?_)
    refine lv_aload_n hx hb dX3_key_213 rfl (lv_at hl 0 rfl) ?_
    refine mr_getA C hW 22 rfl rfl q1825 dX3_key_214 ?_
    refine lv_bipush (v := 8) hx hb dX3_key_217 (by decide) ?_
    refine lv_iload hx hb dX3_key_219 (lv_at hl 4 rfl) ?_
    refine lv_imul hx hb dX3_key_221 ?_
    refine lv_iload hx hb dX3_key_222 (lv_at hl 5 rfl) ?_
    refine lv_iadd hx hb dX3_key_224 ?_
    refine lv_iload hx hb dX3_key_225 (lv_at hl 3 rfl) ?_
    refine mr_iast C hW hS hAw 22 rfl rfl rfl h dX3_key_227 (fun M3 H locs hW hS h => ?_)
    refine lv_aload_n hx hb dX3_key_228 rfl (lv_at hl 0 rfl) ?_
    refine mr_getA C hW 19 rfl rfl q1822 dX3_key_229 ?_
    refine lv_iload hx hb dX3_key_232 (lv_at hl 4 rfl) ?_
    refine mr_iald C hW 19 rfl rfl rfl h dX3_key_234 (fun v4 h => ?_)
    exact hret _ _ _ _ _ _ dX3_key_235 hS hW h
  have hL148 : ∀ (x7 : Int32) (x9 : Int32) (x10 : Int32) (M : MM), w_X3_key_L148 Q x3 x4 x5 x7 x9 x10 M → ∀ (ls : Array Slot) (H : Heap) (locs : List Loc), lv_has ls 11 [(0, .ref (mh E)), (3, .int x3), (4, .int x4), (5, .int x5), (7, .int x7), (9, .int x9), (10, .int x10)] → mW E M L H → va_S A s.heap H locs → W p l e R s m args below meth c H locs cells slots Z (F0 m 148 ls []) := by
    intro x7 x9
    obtain ⟨G148, hG148⟩ : ∃ G : Int32 → MM → Prop, ∀ (x10 : Int32) (M : MM), G x10 M ↔ (∀ (ls : Array Slot) (H : Heap) (locs : List Loc), lv_has ls 11 [(0, .ref (mh E)), (3, .int x3), (4, .int x4), (5, .int x5), (7, .int x7), (9, .int x9), (10, .int x10)] → mW E M L H → va_S A s.heap H locs → W p l e R s m args below meth c H locs cells slots Z (F0 m 148 ls [])) := ⟨fun x10 M => _, fun x10 M => Iff.rfl⟩
    have hB148 : ∀ (rec148 : Int32 → MM → Prop), (∀ (x10 : Int32) (M : MM), rec148 x10 M → G148 x10 M) → ∀ (x10 : Int32) (M : MM), w_X3_key_h148 Q x3 x4 x5 x7 x9 rec148 x10 M → G148 x10 M := by
      intro rec148 hrec148
      intro x10 M h
      rw [hG148]
      intro ls H locs hl hW hS
      refine lv_iload hx hb dX3_key_148 (lv_at hl 6 rfl) ?_
      refine lv_iload hx hb dX3_key_150 (lv_at hl 5 rfl) ?_
      refine lv_icmp_le (tgt := 173) hx hb dX3_key_152 (by decide) (fun c8 => ?_) (fun c8 => ?_)
      · have h := wif_t h c8
        refine lv_aload_n hx hb dX3_key_173 rfl (lv_at hl 0 rfl) ?_
        refine mr_getA C hW 19 rfl rfl q1822 dX3_key_174 ?_
        refine lv_iload hx hb dX3_key_177 (lv_at hl 4 rfl) ?_
        refine lv_dup2_11 hx hb dX3_key_179 rfl rfl ?_
        refine mr_iald C hW 19 rfl rfl rfl h dX3_key_180 (fun v5 h => ?_)
        refine lv_iconst (v := 1) hx hb dX3_key_181 (by decide) ?_
        refine lv_iadd hx hb dX3_key_182 ?_
        refine mr_iast C hW hS hAw 19 rfl rfl rfl h dX3_key_183 (fun M6 H locs hW hS h => ?_)
        exact hb184 _ _ _ h ls H locs (lv_sub hl [0, 1, 2, 3, 4, 5] rfl) hW hS
      · have h := wif_f h c8
        refine lv_aload_n hx hb dX3_key_155 rfl (lv_at hl 0 rfl) ?_
        refine lv_iload hx hb dX3_key_156 (lv_at hl 4 rfl) ?_
        refine lv_iload hx hb dX3_key_158 (lv_at hl 6 rfl) ?_
        refine lv_iload hx hb dX3_key_160 (lv_at hl 6 rfl) ?_
        refine lv_iconst (v := 1) hx hb dX3_key_162 (by decide) ?_
        refine lv_isub hx hb dX3_key_163 ?_
        refine call_X3_copyKey (ct_X3_copyKey l) C.1 C.2 hW hS hA hAw q2010 (le_lit hRf rfl) (le_lit hRl rfl) hcs hl.1 (Nat.le_of_ble_eq_true rfl) dX3_key_164 h (fun M7 H locs h hW hS _ => ?_)
        refine lv_iinc (v := x10 + (-1 : Int32)) (lv' := [(10, .int (x10 + (-1 : Int32))), (0, .ref (mh E)), (3, .int x3), (4, .int x4), (5, .int x5), (7, .int x7), (9, .int x9)]) hx hb dX3_key_167 hl (k := 6) rfl (congrArg (fun z => x10 + z) (by decide)) (by decide) rfl (fun ls hl => ?_)
        refine lv_goto (tgt := 148) hx hb dX3_key_170 (by decide) ?_
        exact (hG148 _ _).mp (hrec148 _ _ h) ls H locs (lv_sub hl [1, 2, 3, 4, 5, 6, 0] rfl) hW hS
    intro x10 M h
    exact (hG148 x10 M).mp (loop_walk (fun s => G148 s.1 s.2) (fun rec hrec s h => hB148 (fun x10 M => rec (x10, M)) (fun x10 M h => hrec (x10, M) h) s.1 s.2 h) (x10, M) h)
  have hb112 : ∀ (x7 : Int32) (y0 : Int32) (y1 : Int32) (y2 : Int32) (M : MM), w_X3_key_112 Q x3 x4 x5 x7 y0 y1 y2 M → ∀ (ls : Array Slot) (H : Heap) (locs : List Loc), lv_has ls 11 [(0, .ref (mh E)), (3, .int x3), (4, .int x4), (5, .int x5), (7, .int x7)] → mW E M L H → va_S A s.heap H locs → W p l e R s m args below meth c H locs cells slots Z (F0 m 112 ls [.int y0, .int y1, .int y2, .ref (mh E)]) := by
    intro x7 y0 y1 y2 M h
    intro ls H locs hl hW hS
    refine call_X3_check (ct_X3_check l) C.1 C.2 hW hS hA hAw q1907 (le_lit hRf rfl) (le_lit hRl rfl) hcs hl.1 (Nat.le_of_ble_eq_true rfl) dX3_key_112 h (fun r9 M10 H locs h hW hS _ => ?_)
    refine lv_if_ne (tgt := 120) hx hb dX3_key_115 (by decide) (fun c15 => ?_) (fun c15 => ?_)
    · have h := wif_f h c15
      refine lv_aload_n hx hb dX3_key_120 rfl (lv_at hl 0 rfl) ?_
      refine lv_iload hx hb dX3_key_121 (lv_at hl 4 rfl) ?_
      refine lv_iload_n hx hb dX3_key_123 rfl (lv_at hl 1 rfl) ?_
      refine call_X3_keyPlace (ct_X3_keyPlace l) C.1 C.2 hW hS hA q2006 (le_lit hRf rfl) (le_lit hRl rfl) hcs hl.1 (Nat.le_of_ble_eq_true rfl) dX3_key_124 h (fun r11 H locs h hk hS => ?_)
      have hW := hW.kept hk
      refine lv_istore (lv' := [(9, .int r11), (0, .ref (mh E)), (3, .int x3), (4, .int x4), (5, .int x5), (7, .int x7)]) hx hb dX3_key_127 hl (by decide) rfl (fun ls hl => ?_)
      refine lv_aload_n hx hb dX3_key_129 rfl (lv_at hl 1 rfl) ?_
      refine lv_iload hx hb dX3_key_130 (lv_at hl 5 rfl) ?_
      refine lv_iload_n hx hb dX3_key_132 rfl (lv_at hl 2 rfl) ?_
      refine call_X3_hasKey (ct_X3_hasKey l) C.1 C.2 hW hS hA q2002 (le_lit hRf rfl) (le_lit hRl rfl) hcs hl.1 (Nat.le_of_ble_eq_true rfl) dX3_key_133 h (fun r12 H locs h hk hS => ?_)
      have hW := hW.kept hk
      refine lv_if_ne (tgt := 184) hx hb dX3_key_136 (by decide) (fun c14 => ?_) (fun c14 => ?_)
      · have h := wif_f h c14
        exact hb184 _ _ _ h ls H locs (lv_sub hl [1, 2, 3, 4, 5, 0] rfl) hW hS
      · have h := wif_t h c14
        refine lv_aload_n hx hb dX3_key_139 rfl (lv_at hl 1 rfl) ?_
        refine mr_getA C hW 19 rfl rfl q1822 dX3_key_140 ?_
        refine lv_iload hx hb dX3_key_143 (lv_at hl 5 rfl) ?_
        refine mr_iald C hW 19 rfl rfl rfl h dX3_key_145 (fun v13 h => ?_)
        refine lv_istore (lv' := [(10, .int v13), (9, .int r11), (0, .ref (mh E)), (3, .int x3), (4, .int x4), (5, .int x5), (7, .int x7)]) hx hb dX3_key_146 hl (by decide) rfl (fun ls hl => ?_)
        exact hL148 _ _ _ _ h ls H locs (lv_sub hl [2, 3, 4, 5, 6, 1, 0] rfl) hW hS
    · have h := wif_t h c15
      refine lv_iconst (v := 0) hx hb dX3_key_118 (by decide) ?_
      exact hret _ _ _ _ _ _ dX3_key_119 hS hW h
  have hb111 : ∀ (x7 : Int32) (y0 : Int32) (y1 : Int32) (M : MM), w_X3_key_111 Q x3 x4 x5 x7 y0 y1 M → ∀ (ls : Array Slot) (H : Heap) (locs : List Loc), lv_has ls 11 [(0, .ref (mh E)), (3, .int x3), (4, .int x4), (5, .int x5), (7, .int x7)] → mW E M L H → va_S A s.heap H locs → W p l e R s m args below meth c H locs cells slots Z (F0 m 111 ls [.int y0, .int y1, .ref (mh E)]) := by
    intro x7 y0 y1 M h
    intro ls H locs hl hW hS
    refine lv_iconst (v := 0) hx hb dX3_key_111 (by decide) ?_
    exact hb112 _ _ _ _ _ h ls H locs (lv_sub hl [0, 1, 2, 3, 4] rfl) hW hS
  have hb107 : ∀ (x7 : Int32) (y0 : Int32) (y1 : Int32) (M : MM), w_X3_key_107 Q x3 x4 x5 x7 y0 y1 M → ∀ (ls : Array Slot) (H : Heap) (locs : List Loc), lv_has ls 11 [(0, .ref (mh E)), (3, .int x3), (4, .int x4), (5, .int x5), (7, .int x7)] → mW E M L H → va_S A s.heap H locs → W p l e R s m args below meth c H locs cells slots Z (F0 m 107 ls [.int y0, .int y1, .ref (mh E)]) := by
    intro x7 y0 y1 M h
    intro ls H locs hl hW hS
    refine lv_iconst (v := 1) hx hb dX3_key_107 (by decide) ?_
    refine lv_goto (tgt := 112) hx hb dX3_key_108 (by decide) ?_
    exact hb112 _ _ _ _ _ h ls H locs (lv_sub hl [0, 1, 2, 3, 4] rfl) hW hS
  have hb73 : ∀ (x6 : Int32) (x7 : Int32) (y0 : Int32) (M : MM), w_X3_key_73 Q x3 x4 x5 x6 x7 y0 M → ∀ (ls : Array Slot) (H : Heap) (locs : List Loc), lv_has ls 11 [(0, .ref (mh E)), (3, .int x3), (4, .int x4), (5, .int x5), (6, .int x6), (7, .int x7)] → mW E M L H → va_S A s.heap H locs → W p l e R s m args below meth c H locs cells slots Z (F0 m 73 ls [.int y0]) := by
    intro x6 x7 y0 M h
    intro ls H locs hl hW hS
    refine lv_istore (lv' := [(8, .int y0), (0, .ref (mh E)), (3, .int x3), (4, .int x4), (5, .int x5), (6, .int x6), (7, .int x7)]) hx hb dX3_key_73 hl (by decide) rfl (fun ls hl => ?_)
    refine lv_aload_n hx hb dX3_key_75 rfl (lv_at hl 1 rfl) ?_
    refine lv_iload hx hb dX3_key_76 (lv_at hl 5 rfl) ?_
    refine lv_iload hx hb dX3_key_78 (lv_at hl 0 rfl) ?_
    refine lv_iload hx hb dX3_key_80 (lv_at hl 5 rfl) ?_
    refine lv_if_eq (tgt := 111) hx hb dX3_key_82 (by decide) (fun c20 => ?_) (fun c20 => ?_)
    · have h := wif_t h c20
      exact hb111 _ _ _ _ h ls H locs (lv_sub hl [1, 2, 3, 4, 6] rfl) hW hS
    · have h := wif_f h c20
      refine lv_aload_n hx hb dX3_key_85 rfl (lv_at hl 1 rfl) ?_
      refine lv_iload hx hb dX3_key_86 (lv_at hl 6 rfl) ?_
      refine lv_iload_n hx hb dX3_key_88 rfl (lv_at hl 2 rfl) ?_
      refine call_X3_hasKey (ct_X3_hasKey l) C.1 C.2 hW hS hA q2002 (le_lit hRf rfl) (le_lit hRl rfl) hcs hl.1 (Nat.le_of_ble_eq_true rfl) dX3_key_89 h (fun r16 H locs h hk hS => ?_)
      have hW := hW.kept hk
      refine lv_if_ne (tgt := 107) hx hb dX3_key_92 (by decide) (fun c19 => ?_) (fun c19 => ?_)
      · have h := wif_f h c19
        exact hb107 _ _ _ _ h ls H locs (lv_sub hl [1, 2, 3, 4, 6] rfl) hW hS
      · have h := wif_t h c19
        refine lv_aload_n hx hb dX3_key_95 rfl (lv_at hl 1 rfl) ?_
        refine mr_getA C hW 19 rfl rfl q1822 dX3_key_96 ?_
        refine lv_iload hx hb dX3_key_99 (lv_at hl 6 rfl) ?_
        refine mr_iald C hW 19 rfl rfl rfl h dX3_key_101 (fun v17 h => ?_)
        refine lv_bipush (v := 8) hx hb dX3_key_102 (by decide) ?_
        refine lv_icmp_ge (tgt := 111) hx hb dX3_key_104 (by decide) (fun c18 => ?_) (fun c18 => ?_)
        · have h := wif_t h c18
          exact hb111 _ _ _ _ h ls H locs (lv_sub hl [1, 2, 3, 4, 6] rfl) hW hS
        · have h := wif_f h c18
          exact hb107 _ _ _ _ h ls H locs (lv_sub hl [1, 2, 3, 4, 6] rfl) hW hS
  have hb72 : ∀ (x6 : Int32) (x7 : Int32) (M : MM), w_X3_key_72 Q x3 x4 x5 x6 x7 M → ∀ (ls : Array Slot) (H : Heap) (locs : List Loc), lv_has ls 11 [(0, .ref (mh E)), (3, .int x3), (4, .int x4), (5, .int x5), (6, .int x6), (7, .int x7)] → mW E M L H → va_S A s.heap H locs → W p l e R s m args below meth c H locs cells slots Z (F0 m 72 ls []) := by
    intro x6 x7 M h
    intro ls H locs hl hW hS
    refine lv_iconst (v := 0) hx hb dX3_key_72 (by decide) ?_
    exact hb73 _ _ _ _ h ls H locs (lv_sub hl [0, 1, 2, 3, 4, 5] rfl) hW hS
  have hb37 : ∀ (x6 : Int32) (y0 : Int32) (M : MM), w_X3_key_37 Q x3 x4 x5 x6 y0 M → ∀ (ls : Array Slot) (H : Heap) (locs : List Loc), lv_has ls 11 [(0, .ref (mh E)), (3, .int x3), (4, .int x4), (5, .int x5), (6, .int x6)] → mW E M L H → va_S A s.heap H locs → W p l e R s m args below meth c H locs cells slots Z (F0 m 37 ls [.int y0]) := by
    intro x6 y0 M h
    intro ls H locs hl hW hS
    refine lv_istore (lv' := [(7, .int y0), (0, .ref (mh E)), (3, .int x3), (4, .int x4), (5, .int x5), (6, .int x6)]) hx hb dX3_key_37 hl (by decide) rfl (fun ls hl => ?_)
    refine lv_iload_n hx hb dX3_key_39 rfl (lv_at hl 2 rfl) ?_
    refine call_X3_isTime (ct_X3_isTime l) C.1 hS hA q1990 (le_lit hRf rfl) (le_lit hRl rfl) hcs hl.1 (Nat.le_of_ble_eq_true rfl) dX3_key_40 h (fun r21 H locs h hk hS => ?_)
    have hW := hW.kept hk
    refine lv_if_eq (tgt := 72) hx hb dX3_key_43 (by decide) (fun c26 => ?_) (fun c26 => ?_)
    · have h := wif_t h c26
      exact hb72 _ _ _ h ls H locs (lv_sub hl [1, 2, 3, 4, 5, 0] rfl) hW hS
    · have h := wif_f h c26
      refine lv_iload hx hb dX3_key_46 (lv_at hl 3 rfl) ?_
      refine lv_ldc hx hb hown (hts _ q2000) dX3_key_48 ?_
      refine lv_ldc hx hb hown (hts _ q2001) dX3_key_50 ?_
      refine call_X3_isWithin (ct_X3_isWithin l) C.1 hS hA q1915 (le_lit hRf rfl) (le_lit hRl rfl) hcs hl.1 (Nat.le_of_ble_eq_true rfl) dX3_key_52 h (fun r22 H locs h hk hS => ?_)
      have hW := hW.kept hk
      refine lv_if_eq (tgt := 72) hx hb dX3_key_55 (by decide) (fun c25 => ?_) (fun c25 => ?_)
      · have h := wif_t h c25
        exact hb72 _ _ _ h ls H locs (lv_sub hl [1, 2, 3, 4, 5, 0] rfl) hW hS
      · have h := wif_f h c25
        refine lv_iload hx hb dX3_key_58 (lv_at hl 4 rfl) ?_
        refine lv_iconst (v := 0) hx hb dX3_key_60 (by decide) ?_
        refine lv_iconst (v := 2) hx hb dX3_key_61 (by decide) ?_
        refine call_X3_isWithin (ct_X3_isWithin l) C.1 hS hA q1915 (le_lit hRf rfl) (le_lit hRl rfl) hcs hl.1 (Nat.le_of_ble_eq_true rfl) dX3_key_62 h (fun r23 H locs h hk hS => ?_)
        have hW := hW.kept hk
        refine lv_if_eq (tgt := 72) hx hb dX3_key_65 (by decide) (fun c24 => ?_) (fun c24 => ?_)
        · have h := wif_t h c24
          exact hb72 _ _ _ h ls H locs (lv_sub hl [1, 2, 3, 4, 5, 0] rfl) hW hS
        · have h := wif_f h c24
          refine lv_iconst (v := 1) hx hb dX3_key_68 (by decide) ?_
          refine lv_goto (tgt := 73) hx hb dX3_key_69 (by decide) ?_
          exact hb73 _ _ _ _ h ls H locs (lv_sub hl [1, 2, 3, 4, 5, 0] rfl) hW hS
  have hb20 : ∀ (y0 : Int32) (M : MM), w_X3_key_20 Q x1 x2 x3 x4 x5 y0 M → ∀ (ls : Array Slot) (H : Heap) (locs : List Loc), lv_has ls 11 [(0, .ref (mh E)), (1, .int x1), (2, .int x2), (3, .int x3), (4, .int x4), (5, .int x5)] → mW E M L H → va_S A s.heap H locs → W p l e R s m args below meth c H locs cells slots Z (F0 m 20 ls [.int y0]) := by
    intro y0 M h
    intro ls H locs hl hW hS
    refine lv_istore (lv' := [(6, .int y0), (0, .ref (mh E)), (1, .int x1), (2, .int x2), (3, .int x3), (4, .int x4), (5, .int x5)]) hx hb dX3_key_20 hl (by decide) rfl (fun ls hl => ?_)
    refine lv_iload hx hb dX3_key_22 (lv_at hl 0 rfl) ?_
    refine lv_if_eq (tgt := 36) hx hb dX3_key_24 (by decide) (fun c27 => ?_) (fun c27 => ?_)
    · have h := wif_t h c27
      refine lv_iconst (v := 0) hx hb dX3_key_36 (by decide) ?_
      exact hb37 _ _ _ h ls H locs (lv_sub hl [1, 4, 5, 6, 0] rfl) hW hS
    · have h := wif_f h c27
      refine lv_bipush (v := 8) hx hb dX3_key_27 (by decide) ?_
      refine lv_iload_n hx hb dX3_key_29 rfl (lv_at hl 2 rfl) ?_
      refine lv_imul hx hb dX3_key_30 ?_
      refine lv_iload_n hx hb dX3_key_31 rfl (lv_at hl 3 rfl) ?_
      refine lv_iadd hx hb dX3_key_32 ?_
      refine lv_goto (tgt := 37) hx hb dX3_key_33 (by decide) ?_
      exact hb37 _ _ _ h ls H locs (lv_sub hl [1, 4, 5, 6, 0] rfl) hW hS
  have hb19 : ∀ (M : MM), w_X3_key_19 Q x1 x2 x3 x4 x5 M → ∀ (ls : Array Slot) (H : Heap) (locs : List Loc), lv_has ls 11 [(0, .ref (mh E)), (1, .int x1), (2, .int x2), (3, .int x3), (4, .int x4), (5, .int x5)] → mW E M L H → va_S A s.heap H locs → W p l e R s m args below meth c H locs cells slots Z (F0 m 19 ls []) := by
    intro M h
    intro ls H locs hl hW hS
    refine lv_iconst (v := 0) hx hb dX3_key_19 (by decide) ?_
    exact hb20 _ _ h ls H locs (lv_sub hl [0, 1, 2, 3, 4, 5] rfl) hW hS
  intro h
  intro ls H locs hl hW hS
  refine lv_aload_n hx hb dX3_key_0 rfl (lv_at hl 0 rfl) ?_
  refine lv_iload_n hx hb dX3_key_1 rfl (lv_at hl 1 rfl) ?_
  refine call_X3_isLayer (ct_X3_isLayer l) C.1 C.2 hW hS hA q1938 (le_lit hRf rfl) (le_lit hRl rfl) hcs hl.1 (Nat.le_of_ble_eq_true rfl) dX3_key_2 h (fun r28 H locs h hk hS => ?_)
  have hW := hW.kept hk
  refine lv_if_eq (tgt := 19) hx hb dX3_key_5 (by decide) (fun c31 => ?_) (fun c31 => ?_)
  · have h := wif_t h c31
    exact hb19 _ h ls H locs (lv_sub hl [0, 1, 2, 3, 4, 5] rfl) hW hS
  · have h := wif_f h c31
    refine lv_iload_n hx hb dX3_key_8 rfl (lv_at hl 2 rfl) ?_
    refine call_X3_isValue (ct_X3_isValue l) C.1 hS hA q1997 (le_lit hRf rfl) (le_lit hRl rfl) hcs hl.1 (Nat.le_of_ble_eq_true rfl) dX3_key_9 h (fun r29 H locs h hk hS => ?_)
    have hW := hW.kept hk
    refine lv_if_eq (tgt := 19) hx hb dX3_key_12 (by decide) (fun c30 => ?_) (fun c30 => ?_)
    · have h := wif_t h c30
      exact hb19 _ h ls H locs (lv_sub hl [0, 1, 2, 3, 4, 5] rfl) hW hS
    · have h := wif_f h c30
      refine lv_iconst (v := 1) hx hb dX3_key_15 (by decide) ?_
      refine lv_goto (tgt := 20) hx hb dX3_key_16 (by decide) ?_
      exact hb20 _ _ h ls H locs (lv_sub hl [0, 1, 2, 3, 4, 5] rfl) hW hS
theorem ct_X3_key (l : Launch) : CT_X3_key l 2 46 w_X3_key := by
  intro E M L sz Q x1 x2 x3 x4 x5
  refine Met.ofW (cc := cX3_key) (maxL := 11) (ret := (some .int)) (by decide) rfl ?_
  intro p e s m args below meth c s₁ B hml hv
  obtain ⟨rfl, hsz, hW, hK, h⟩ := hv
  subst hsz
  have hts := atoms_spec (ws := ws_ yX3_key cX3_key 11 (some .int)) B.pre
  have hts : ∀ w ∈ lw_all, w.before _ s = true := fun w h => hts w (List.mem_cons_of_mem _ h)
  have hl := lv_entry ([.ref (mh E), .int x1, .int x2, .int x3, .int x4, .int x5]) (n := 11) (Nat.le_of_ble_eq_true rfl)
  rw [lg_entry_eq]
  generalize (lg_sl ([.ref (mh E), .int x1, .int x2, .int x3, .int x4, .int x5]) ++ List.replicate (11 - (lg_sl ([.ref (mh E), .int x1, .int x2, .int x3, .int x4, .int x5])).length) Slot.unset).toArray = ls at hl ⊢
  exact wk_X3_key Q ⟨⟨B.exec, B.bytes, hml, findClass_of_methodNamed B.named, hts⟩, hK⟩ (fun q h => Or.inr h) (fun q h => Or.inl h) (Nat.le_refl _) (Nat.le_refl _) ⟨Nat.le_refl _, Nat.le_refl _⟩ M L (fun v M pc ls H locs hd hS hW1 hQ => W.iret (v := v) B.exec B.bytes B.returns (fun t ht _ => ⟨⟨v, (M, L), rfl, ⟨rfl, hQ⟩, by rw [← ht] at hW1; exact hW1⟩, hS.F ht⟩) hS.2.2 hd) x1 x2 x3 x4 x5 h ls _ [] hl hW va_S.rf
def CT_X3_unkey (l : Launch) (fr lo : Nat) (w : (Int32 → MM → Prop) → Int32 → Int32 → Int32 → MM → Prop) : Prop := ∀ (E : mE) (M : MM) (L : ML) (sz : Nat) (Q : Int32 → MM → Prop) (x1 : Int32) (x2 : Int32) (x3 : Int32), Met l yX3_unkey (ws_ yX3_unkey cX3_unkey 9 (some .int)) { frames := fr, cells := 0, slots := 0, locals := lo } (va_Pc [.ref (mh E), .int x1, .int x2, .int x3] (fun U => U.heap.size = sz ∧ mW E M L U.heap ∧ mK E U ∧ w Q x1 x2 x3 M)) (va_Qi (fun r (u : MM × ML) => u.2 = L ∧ Q r u.1) (fun u t => mW E u.1 u.2 t.heap) (mA E sz)) 0 0 (mA E sz)
theorem call_X3_unkey {p : Program} {l : Launch} {e : Env} {R : Room} {s : State} {m : MethodId} {args : Array Value} {below : List Frame} {meth : Method} {c : Code} {H : Heap} {locs : List Loc} {cells slots : Nat} {Z : State → Prop} {A : Nat → Prop} {cc : ByteArray} {nL pc : Nat} {ls : Array Slot} {rest : List Value} {own : String} {index fr lo : Nat} {w : (Int32 → MM → Prop) → Int32 → Int32 → Int32 → MM → Prop} {E : mE} {M : MM} {L : ML} {x1 : Int32} {x2 : Int32} {x3 : Int32} (hM : CT_X3_unkey l fr lo w) (S : CallFix p m c cc nL s args lw_all own) (hK : mK E s) (hW : mW E M L H) (hS : va_S A s.heap H locs) (hA : ∀ q, s.heap.size ≤ q → A q) (hAw : ∀ q, mAd E q → A q) (hlink : Cond.methodLink own index yX3_unkey ∈ lw_all) (hRf : fr + 1 ≤ R.frames) (hRl : 8 + (9 + 11) + lo ≤ R.locals) (hcs : cells ≤ R.cells ∧ slots ≤ R.slots) (hz : ls.size = nL) (hr8 : (rest.map fun v => v.category).sum ≤ 8) (hdg : decode cc pc = .ok (.invokevirtual index, 3)) {Q1 : Int32 → MM → Prop} (h : w Q1 x1 x2 x3 M) (kk : ∀ (r : Int32) (M1 : MM) (H1 : Heap) (locs1 : List Loc), Q1 r M1 → mW E M1 L H1 → va_S A s.heap H1 locs1 → (∀ q : Nat, q < H.size → ¬ mAd E q → H1[q]? = H[q]?) → W p l e R s m args below meth c H1 locs1 cells slots Z (F0 m (pc + 3) ls (.int r :: rest))) : W p l e R s m args below meth c H locs cells slots Z (F0 m pc ls (.int x3 :: .int x2 :: .int x1 :: .ref (mh E) :: rest)) := by
  refine mw_i (sz := 0) (P := fun r M1 L1 => L1 = L ∧ Q1 r M1) (va_runV (As := [.int x1, .int x2, .int x3]) (rest := rest) S (hM E M L H.size Q1 x1 x2 x3) (cwV 3 S.2.2.2.2 (lw_V hlink q2015 q2016 q68 q2017) rfl rfl rfl (by decide +kernel) ⟨hRf, hRl⟩) ⟨fun a U g mk q => by obtain ⟨q0, q1, qW, qK, qw⟩ := q; exact ⟨q0, q1, qW, qK.moved (u := U) (U := U.calling g mk a) (Vm.Alike.refl U.vm), qw⟩, hW.recv (hK := hK), fun U hU hWm => ⟨rfl, by rw [hU], by rw [hU]; exact hW, hK.moved hWm.alike, h⟩⟩ rfl rfl hz rfl (lv_room hr8) hdg hcs) hS hA hAw (fun r M1 L1 H1 locs1 hp hW1 hz hk hS1 => ?_)
  obtain ⟨rfl, hp⟩ := hp
  exact kk r M1 H1 locs1 hp hW1 hS1 hk
def w_X3_unkey_h99 (Q : Int32 → MM → Prop) (x5 : Int32) (x7 : Int32) (rec99 : Int32 → MM → Prop) (x8 : Int32) (M : MM) : Prop := mRd (M 19) 96 x5 (fun v1 => if (v1 - (1 : Int32)) ≤ x8 then (mRd (M 19) 96 x5 (fun v2 => mWr M 19 96 x5 (v2 - (1 : Int32)) (fun M3 => Q x7 M3))) else (w_X3_copyKey (fun M4 => rec99 (x8 + (1 : Int32)) M4) x5 x8 (x8 + (1 : Int32)) M))
def w_X3_unkey_L99 (Q : Int32 → MM → Prop) (x5 : Int32) (x7 : Int32) (x8 : Int32) (M : MM) : Prop := wLoop (fun (rec : (Int32 × MM) → Prop) (s : Int32 × MM) => w_X3_unkey_h99 Q x5 x7 (fun x8 M => rec (x8, M)) s.1 s.2) (x8, M)
def w_X3_unkey_62 (Q : Int32 → MM → Prop) (x3 : Int32) (x5 : Int32) (y0 : Int32) (y1 : Int32) (M : MM) : Prop := w_X3_check (fun r6 M7 => if r6 = 0 then (Q (0 : Int32) M7) else (w_X3_keyPlace (fun r8 => mRd (M7 21) 768 (((8 : Int32) * x5) + r8) (fun v9 => w_X3_unkey_L99 Q x5 v9 r8 M7)) x5 x3 M7)) y1 y0 (1 : Int32) M
def w_X3_unkey_61 (Q : Int32 → MM → Prop) (x3 : Int32) (x5 : Int32) (y0 : Int32) (M : MM) : Prop := w_X3_unkey_62 Q x3 x5 (0 : Int32) y0 M
def w_X3_unkey_37 (Q : Int32 → MM → Prop) (x3 : Int32) (x4 : Int32) (y0 : Int32) (M : MM) : Prop := if x4 = 0 then (w_X3_unkey_61 Q x3 y0 x4 M) else (w_X3_hasKey (fun r11 => if r11 = 0 then (w_X3_unkey_61 Q x3 y0 x4 M) else (w_X3_unkey_62 Q x3 y0 (1 : Int32) x4 M)) y0 x3 M)
def w_X3_unkey_20 (Q : Int32 → MM → Prop) (x1 : Int32) (x2 : Int32) (x3 : Int32) (y0 : Int32) (M : MM) : Prop := if y0 = 0 then (w_X3_unkey_37 Q x3 y0 (0 : Int32) M) else (w_X3_unkey_37 Q x3 y0 (((8 : Int32) * x1) + x2) M)
def w_X3_unkey_19 (Q : Int32 → MM → Prop) (x1 : Int32) (x2 : Int32) (x3 : Int32) (M : MM) : Prop := w_X3_unkey_20 Q x1 x2 x3 (0 : Int32) M
def w_X3_unkey (Q : Int32 → MM → Prop) (x1 : Int32) (x2 : Int32) (x3 : Int32) (M : MM) : Prop := w_X3_isLayer (fun r15 => if r15 = 0 then (w_X3_unkey_19 Q x1 x2 x3 M) else (w_X3_isValue (fun r16 => if r16 = 0 then (w_X3_unkey_19 Q x1 x2 x3 M) else (w_X3_unkey_20 Q x1 x2 x3 (1 : Int32) M)) x2)) x1 M
set_option maxRecDepth 100000 in
set_option maxHeartbeats 4000000 in
theorem wk_X3_unkey {p : Program} {l : Launch} {e : Env} {R : Room} {s : State} {m : MethodId} {args : Array Value} {below : List Frame} {meth : Method} {c : Code} {cells slots : Nat} {Z : State → Prop} {A : Nat → Prop} {E : mE} (Q : Int32 → MM → Prop) (C : mC p m c s args cX3_unkey 9 E) (hA : ∀ q, s.heap.size ≤ q → A q) (hAw : ∀ q, mAd E q → A q) (hRf : 2 ≤ R.frames) (hRl : 46 ≤ R.locals) (hcs : cells ≤ R.cells ∧ slots ≤ R.slots) (M : MM) (L : ML) (hret : ∀ (v : Int32) (M : MM) (pc : Nat) (ls : Array Slot) (H : Heap) (locs : List Loc), decode cX3_unkey pc = .ok (.ireturn, 1) → va_S A s.heap H locs → mW E M L H → Q v M → W p l e R s m args below meth c H locs cells slots Z (F0 m pc ls [.int v])) (x1 : Int32) (x2 : Int32) (x3 : Int32) : w_X3_unkey Q x1 x2 x3 M → ∀ (ls : Array Slot) (H : Heap) (locs : List Loc), lv_has ls 9 [(0, .ref (mh E)), (1, .int x1), (2, .int x2), (3, .int x3)] → mW E M L H → va_S A s.heap H locs → W p l e R s m args below meth c H locs cells slots Z (F0 m 0 ls []) := by
  obtain ⟨⟨hx, hb, hml, hown, hts⟩, hK⟩ := C; have C : mC p m c s args cX3_unkey 9 E := ⟨⟨hx, hb, hml, hown, hts⟩, hK⟩
  have hL99 : ∀ (x5 : Int32) (x7 : Int32) (x8 : Int32) (M : MM), w_X3_unkey_L99 Q x5 x7 x8 M → ∀ (ls : Array Slot) (H : Heap) (locs : List Loc), lv_has ls 9 [(0, .ref (mh E)), (5, .int x5), (7, .int x7), (8, .int x8)] → mW E M L H → va_S A s.heap H locs → W p l e R s m args below meth c H locs cells slots Z (F0 m 99 ls []) := by
    intro x5 x7
    obtain ⟨G99, hG99⟩ : ∃ G : Int32 → MM → Prop, ∀ (x8 : Int32) (M : MM), G x8 M ↔ (∀ (ls : Array Slot) (H : Heap) (locs : List Loc), lv_has ls 9 [(0, .ref (mh E)), (5, .int x5), (7, .int x7), (8, .int x8)] → mW E M L H → va_S A s.heap H locs → W p l e R s m args below meth c H locs cells slots Z (F0 m 99 ls [])) := ⟨fun x8 M => _, fun x8 M => Iff.rfl⟩
    have hB99 : ∀ (rec99 : Int32 → MM → Prop), (∀ (x8 : Int32) (M : MM), rec99 x8 M → G99 x8 M) → ∀ (x8 : Int32) (M : MM), w_X3_unkey_h99 Q x5 x7 rec99 x8 M → G99 x8 M := by
      intro rec99 hrec99
      intro x8 M h
      rw [hG99]
      intro ls H locs hl hW hS
      refine lv_iload hx hb dX3_unkey_99 (lv_at hl 3 rfl) ?_
      refine lv_aload_n hx hb dX3_unkey_101 rfl (lv_at hl 0 rfl) ?_
      refine mr_getA C hW 19 rfl rfl q1822 dX3_unkey_102 ?_
      refine lv_iload hx hb dX3_unkey_105 (lv_at hl 1 rfl) ?_
      refine mr_iald C hW 19 rfl rfl rfl h dX3_unkey_107 (fun v1 h => ?_)
      refine lv_iconst (v := 1) hx hb dX3_unkey_108 (by decide) ?_
      refine lv_isub hx hb dX3_unkey_109 ?_
      refine lv_icmp_ge (tgt := 131) hx hb dX3_unkey_110 (by decide) (fun c5 => ?_) (fun c5 => ?_)
      · have h := wif_t h c5
        refine lv_aload_n hx hb dX3_unkey_131 rfl (lv_at hl 0 rfl) ?_
        refine mr_getA C hW 19 rfl rfl q1822 dX3_unkey_132 ?_
        refine lv_iload hx hb dX3_unkey_135 (lv_at hl 1 rfl) ?_
        refine lv_dup2_11 hx hb dX3_unkey_137 rfl rfl ?_
        refine mr_iald C hW 19 rfl rfl rfl h dX3_unkey_138 (fun v2 h => ?_)
        refine lv_iconst (v := 1) hx hb dX3_unkey_139 (by decide) ?_
        refine lv_isub hx hb dX3_unkey_140 ?_
        refine mr_iast C hW hS hAw 19 rfl rfl rfl h dX3_unkey_141 (fun M3 H locs hW hS h => ?_)
        refine lv_iload hx hb dX3_unkey_142 (lv_at hl 2 rfl) ?_
        exact hret _ _ _ _ _ _ dX3_unkey_144 hS hW h
      · have h := wif_f h c5
        refine lv_aload_n hx hb dX3_unkey_113 rfl (lv_at hl 0 rfl) ?_
        refine lv_iload hx hb dX3_unkey_114 (lv_at hl 1 rfl) ?_
        refine lv_iload hx hb dX3_unkey_116 (lv_at hl 3 rfl) ?_
        refine lv_iload hx hb dX3_unkey_118 (lv_at hl 3 rfl) ?_
        refine lv_iconst (v := 1) hx hb dX3_unkey_120 (by decide) ?_
        refine lv_iadd hx hb dX3_unkey_121 ?_
        refine call_X3_copyKey (ct_X3_copyKey l) C.1 C.2 hW hS hA hAw q2010 (le_lit hRf rfl) (le_lit hRl rfl) hcs hl.1 (Nat.le_of_ble_eq_true rfl) dX3_unkey_122 h (fun M4 H locs h hW hS _ => ?_)
        refine lv_iinc (v := x8 + (1 : Int32)) (lv' := [(8, .int (x8 + (1 : Int32))), (0, .ref (mh E)), (5, .int x5), (7, .int x7)]) hx hb dX3_unkey_125 hl (k := 3) rfl (congrArg (fun z => x8 + z) (by decide)) (by decide) rfl (fun ls hl => ?_)
        refine lv_goto (tgt := 99) hx hb dX3_unkey_128 (by decide) ?_
        exact (hG99 _ _).mp (hrec99 _ _ h) ls H locs (lv_sub hl [1, 2, 3, 0] rfl) hW hS
    intro x8 M h
    exact (hG99 x8 M).mp (loop_walk (fun s => G99 s.1 s.2) (fun rec hrec s h => hB99 (fun x8 M => rec (x8, M)) (fun x8 M h => hrec (x8, M) h) s.1 s.2 h) (x8, M) h)
  have hb62 : ∀ (x5 : Int32) (y0 : Int32) (y1 : Int32) (M : MM), w_X3_unkey_62 Q x3 x5 y0 y1 M → ∀ (ls : Array Slot) (H : Heap) (locs : List Loc), lv_has ls 9 [(0, .ref (mh E)), (3, .int x3), (5, .int x5)] → mW E M L H → va_S A s.heap H locs → W p l e R s m args below meth c H locs cells slots Z (F0 m 62 ls [.int y0, .int y1, .ref (mh E)]) := by
    intro x5 y0 y1 M h
    intro ls H locs hl hW hS
    refine lv_iconst (v := 1) hx hb dX3_unkey_62 (by decide) ?_
    refine call_X3_check (ct_X3_check l) C.1 C.2 hW hS hA hAw q1907 (le_lit hRf rfl) (le_lit hRl rfl) hcs hl.1 (Nat.le_of_ble_eq_true rfl) dX3_unkey_63 h (fun r6 M7 H locs h hW hS _ => ?_)
    refine lv_if_ne (tgt := 71) hx hb dX3_unkey_66 (by decide) (fun c10 => ?_) (fun c10 => ?_)
    · have h := wif_f h c10
      refine lv_aload_n hx hb dX3_unkey_71 rfl (lv_at hl 0 rfl) ?_
      refine lv_iload hx hb dX3_unkey_72 (lv_at hl 2 rfl) ?_
      refine lv_iload_n hx hb dX3_unkey_74 rfl (lv_at hl 1 rfl) ?_
      refine call_X3_keyPlace (ct_X3_keyPlace l) C.1 C.2 hW hS hA q2006 (le_lit hRf rfl) (le_lit hRl rfl) hcs hl.1 (Nat.le_of_ble_eq_true rfl) dX3_unkey_75 h (fun r8 H locs h hk hS => ?_)
      have hW := hW.kept hk
      refine lv_istore (lv' := [(6, .int r8), (0, .ref (mh E)), (3, .int x3), (5, .int x5)]) hx hb dX3_unkey_78 hl (by decide) rfl (fun ls hl => ?_)
      refine lv_aload_n hx hb dX3_unkey_80 rfl (lv_at hl 1 rfl) ?_
      refine mr_getA C hW 21 rfl rfl q1824 dX3_unkey_81 ?_
      refine lv_bipush (v := 8) hx hb dX3_unkey_84 (by decide) ?_
      refine lv_iload hx hb dX3_unkey_86 (lv_at hl 3 rfl) ?_
      refine lv_imul hx hb dX3_unkey_88 ?_
      refine lv_iload hx hb dX3_unkey_89 (lv_at hl 0 rfl) ?_
      refine lv_iadd hx hb dX3_unkey_91 ?_
      refine mr_iald C hW 21 rfl rfl rfl h dX3_unkey_92 (fun v9 h => ?_)
      refine lv_istore (lv' := [(7, .int v9), (6, .int r8), (0, .ref (mh E)), (3, .int x3), (5, .int x5)]) hx hb dX3_unkey_93 hl (by decide) rfl (fun ls hl => ?_)
      refine lv_iload hx hb dX3_unkey_95 (lv_at hl 1 rfl) ?_
      refine lv_istore (lv' := [(8, .int r8), (7, .int v9), (6, .int r8), (0, .ref (mh E)), (3, .int x3), (5, .int x5)]) hx hb dX3_unkey_97 hl (by decide) rfl (fun ls hl => ?_)
      exact hL99 _ _ _ _ h ls H locs (lv_sub hl [3, 5, 1, 0] rfl) hW hS
    · have h := wif_t h c10
      refine lv_iconst (v := 0) hx hb dX3_unkey_69 (by decide) ?_
      exact hret _ _ _ _ _ _ dX3_unkey_70 hS hW h
  have hb61 : ∀ (x5 : Int32) (y0 : Int32) (M : MM), w_X3_unkey_61 Q x3 x5 y0 M → ∀ (ls : Array Slot) (H : Heap) (locs : List Loc), lv_has ls 9 [(0, .ref (mh E)), (3, .int x3), (5, .int x5)] → mW E M L H → va_S A s.heap H locs → W p l e R s m args below meth c H locs cells slots Z (F0 m 61 ls [.int y0, .ref (mh E)]) := by
    intro x5 y0 M h
    intro ls H locs hl hW hS
    refine lv_iconst (v := 0) hx hb dX3_unkey_61 (by decide) ?_
    exact hb62 _ _ _ _ h ls H locs (lv_sub hl [0, 1, 2] rfl) hW hS
  have hb37 : ∀ (x4 : Int32) (y0 : Int32) (M : MM), w_X3_unkey_37 Q x3 x4 y0 M → ∀ (ls : Array Slot) (H : Heap) (locs : List Loc), lv_has ls 9 [(0, .ref (mh E)), (3, .int x3), (4, .int x4)] → mW E M L H → va_S A s.heap H locs → W p l e R s m args below meth c H locs cells slots Z (F0 m 37 ls [.int y0]) := by
    intro x4 y0 M h
    intro ls H locs hl hW hS
    refine lv_istore (lv' := [(5, .int y0), (0, .ref (mh E)), (3, .int x3), (4, .int x4)]) hx hb dX3_unkey_37 hl (by decide) rfl (fun ls hl => ?_)
    refine lv_aload_n hx hb dX3_unkey_39 rfl (lv_at hl 1 rfl) ?_
    refine lv_iload hx hb dX3_unkey_40 (lv_at hl 3 rfl) ?_
    refine lv_iload hx hb dX3_unkey_42 (lv_at hl 3 rfl) ?_
    refine lv_if_eq (tgt := 61) hx hb dX3_unkey_44 (by decide) (fun c13 => ?_) (fun c13 => ?_)
    · have h := wif_t h c13
      exact hb61 _ _ _ h ls H locs (lv_sub hl [1, 2, 0] rfl) hW hS
    · have h := wif_f h c13
      refine lv_aload_n hx hb dX3_unkey_47 rfl (lv_at hl 1 rfl) ?_
      refine lv_iload hx hb dX3_unkey_48 (lv_at hl 0 rfl) ?_
      refine lv_iload_n hx hb dX3_unkey_50 rfl (lv_at hl 2 rfl) ?_
      refine call_X3_hasKey (ct_X3_hasKey l) C.1 C.2 hW hS hA q2002 (le_lit hRf rfl) (le_lit hRl rfl) hcs hl.1 (Nat.le_of_ble_eq_true rfl) dX3_unkey_51 h (fun r11 H locs h hk hS => ?_)
      have hW := hW.kept hk
      refine lv_if_eq (tgt := 61) hx hb dX3_unkey_54 (by decide) (fun c12 => ?_) (fun c12 => ?_)
      · have h := wif_t h c12
        exact hb61 _ _ _ h ls H locs (lv_sub hl [1, 2, 0] rfl) hW hS
      · have h := wif_f h c12
        refine lv_iconst (v := 1) hx hb dX3_unkey_57 (by decide) ?_
        refine lv_goto (tgt := 62) hx hb dX3_unkey_58 (by decide) ?_
        exact hb62 _ _ _ _ h ls H locs (lv_sub hl [1, 2, 0] rfl) hW hS
  have hb20 : ∀ (y0 : Int32) (M : MM), w_X3_unkey_20 Q x1 x2 x3 y0 M → ∀ (ls : Array Slot) (H : Heap) (locs : List Loc), lv_has ls 9 [(0, .ref (mh E)), (1, .int x1), (2, .int x2), (3, .int x3)] → mW E M L H → va_S A s.heap H locs → W p l e R s m args below meth c H locs cells slots Z (F0 m 20 ls [.int y0]) := by
    intro y0 M h
    intro ls H locs hl hW hS
    refine lv_istore (lv' := [(4, .int y0), (0, .ref (mh E)), (1, .int x1), (2, .int x2), (3, .int x3)]) hx hb dX3_unkey_20 hl (by decide) rfl (fun ls hl => ?_)
    refine lv_iload hx hb dX3_unkey_22 (lv_at hl 0 rfl) ?_
    refine lv_if_eq (tgt := 36) hx hb dX3_unkey_24 (by decide) (fun c14 => ?_) (fun c14 => ?_)
    · have h := wif_t h c14
      refine lv_iconst (v := 0) hx hb dX3_unkey_36 (by decide) ?_
      exact hb37 _ _ _ h ls H locs (lv_sub hl [1, 4, 0] rfl) hW hS
    · have h := wif_f h c14
      refine lv_bipush (v := 8) hx hb dX3_unkey_27 (by decide) ?_
      refine lv_iload_n hx hb dX3_unkey_29 rfl (lv_at hl 2 rfl) ?_
      refine lv_imul hx hb dX3_unkey_30 ?_
      refine lv_iload_n hx hb dX3_unkey_31 rfl (lv_at hl 3 rfl) ?_
      refine lv_iadd hx hb dX3_unkey_32 ?_
      refine lv_goto (tgt := 37) hx hb dX3_unkey_33 (by decide) ?_
      exact hb37 _ _ _ h ls H locs (lv_sub hl [1, 4, 0] rfl) hW hS
  have hb19 : ∀ (M : MM), w_X3_unkey_19 Q x1 x2 x3 M → ∀ (ls : Array Slot) (H : Heap) (locs : List Loc), lv_has ls 9 [(0, .ref (mh E)), (1, .int x1), (2, .int x2), (3, .int x3)] → mW E M L H → va_S A s.heap H locs → W p l e R s m args below meth c H locs cells slots Z (F0 m 19 ls []) := by
    intro M h
    intro ls H locs hl hW hS
    refine lv_iconst (v := 0) hx hb dX3_unkey_19 (by decide) ?_
    exact hb20 _ _ h ls H locs (lv_sub hl [0, 1, 2, 3] rfl) hW hS
  intro h
  intro ls H locs hl hW hS
  refine lv_aload_n hx hb dX3_unkey_0 rfl (lv_at hl 0 rfl) ?_
  refine lv_iload_n hx hb dX3_unkey_1 rfl (lv_at hl 1 rfl) ?_
  refine call_X3_isLayer (ct_X3_isLayer l) C.1 C.2 hW hS hA q1938 (le_lit hRf rfl) (le_lit hRl rfl) hcs hl.1 (Nat.le_of_ble_eq_true rfl) dX3_unkey_2 h (fun r15 H locs h hk hS => ?_)
  have hW := hW.kept hk
  refine lv_if_eq (tgt := 19) hx hb dX3_unkey_5 (by decide) (fun c18 => ?_) (fun c18 => ?_)
  · have h := wif_t h c18
    exact hb19 _ h ls H locs (lv_sub hl [0, 1, 2, 3] rfl) hW hS
  · have h := wif_f h c18
    refine lv_iload_n hx hb dX3_unkey_8 rfl (lv_at hl 2 rfl) ?_
    refine call_X3_isValue (ct_X3_isValue l) C.1 hS hA q1997 (le_lit hRf rfl) (le_lit hRl rfl) hcs hl.1 (Nat.le_of_ble_eq_true rfl) dX3_unkey_9 h (fun r16 H locs h hk hS => ?_)
    have hW := hW.kept hk
    refine lv_if_eq (tgt := 19) hx hb dX3_unkey_12 (by decide) (fun c17 => ?_) (fun c17 => ?_)
    · have h := wif_t h c17
      exact hb19 _ h ls H locs (lv_sub hl [0, 1, 2, 3] rfl) hW hS
    · have h := wif_f h c17
      refine lv_iconst (v := 1) hx hb dX3_unkey_15 (by decide) ?_
      refine lv_goto (tgt := 20) hx hb dX3_unkey_16 (by decide) ?_
      exact hb20 _ _ h ls H locs (lv_sub hl [0, 1, 2, 3] rfl) hW hS
theorem ct_X3_unkey (l : Launch) : CT_X3_unkey l 2 46 w_X3_unkey := by
  intro E M L sz Q x1 x2 x3
  refine Met.ofW (cc := cX3_unkey) (maxL := 9) (ret := (some .int)) (by decide) rfl ?_
  intro p e s m args below meth c s₁ B hml hv
  obtain ⟨rfl, hsz, hW, hK, h⟩ := hv
  subst hsz
  have hts := atoms_spec (ws := ws_ yX3_unkey cX3_unkey 9 (some .int)) B.pre
  have hts : ∀ w ∈ lw_all, w.before _ s = true := fun w h => hts w (List.mem_cons_of_mem _ h)
  have hl := lv_entry ([.ref (mh E), .int x1, .int x2, .int x3]) (n := 9) (Nat.le_of_ble_eq_true rfl)
  rw [lg_entry_eq]
  generalize (lg_sl ([.ref (mh E), .int x1, .int x2, .int x3]) ++ List.replicate (9 - (lg_sl ([.ref (mh E), .int x1, .int x2, .int x3])).length) Slot.unset).toArray = ls at hl ⊢
  exact wk_X3_unkey Q ⟨⟨B.exec, B.bytes, hml, findClass_of_methodNamed B.named, hts⟩, hK⟩ (fun q h => Or.inr h) (fun q h => Or.inl h) (Nat.le_refl _) (Nat.le_refl _) ⟨Nat.le_refl _, Nat.le_refl _⟩ M L (fun v M pc ls H locs hd hS hW1 hQ => W.iret (v := v) B.exec B.bytes B.returns (fun t ht _ => ⟨⟨v, (M, L), rfl, ⟨rfl, hQ⟩, by rw [← ht] at hW1; exact hW1⟩, hS.F ht⟩) hS.2.2 hd) x1 x2 x3 h ls _ [] hl hW va_S.rf
def CT_X3_withoutKeys (l : Launch) (fr lo : Nat) (w : (Int32 → Prop) → Int32 → Int32 → Prop) : Prop := ∀ (sz : Nat) (Q : Int32 → Prop) (x0 : Int32) (x1 : Int32), Met l yX3_withoutKeys (ws_ yX3_withoutKeys cX3_withoutKeys 2 (some .int)) { frames := fr, cells := 0, slots := 0, locals := lo } (va_Pc [.int x0, .int x1] (fun U => U.heap.size = sz ∧ w Q x0 x1)) (va_Qi (fun r (_ : Unit) => Q r) (fun _ _ => True) (mN sz)) 0 0 (mN sz)
theorem call_X3_withoutKeys {p : Program} {l : Launch} {e : Env} {R : Room} {s : State} {m : MethodId} {args : Array Value} {below : List Frame} {meth : Method} {c : Code} {H : Heap} {locs : List Loc} {cells slots : Nat} {Z : State → Prop} {A : Nat → Prop} {cc : ByteArray} {nL pc : Nat} {ls : Array Slot} {rest : List Value} {own : String} {index fr lo : Nat} {w : (Int32 → Prop) → Int32 → Int32 → Prop} {x0 : Int32} {x1 : Int32} (hM : CT_X3_withoutKeys l fr lo w) (S : CallFix p m c cc nL s args lw_all own) (hS : va_S A s.heap H locs) (hA : ∀ q, s.heap.size ≤ q → A q) (hlink : Cond.methodLink own index yX3_withoutKeys ∈ lw_all) (hRf : fr + 1 ≤ R.frames) (hRl : 8 + (2 + 11) + lo ≤ R.locals) (hcs : cells ≤ R.cells ∧ slots ≤ R.slots) (hz : ls.size = nL) (hr8 : (rest.map fun v => v.category).sum ≤ 8) (hdg : decode cc pc = .ok (.invokestatic index, 3)) {Q1 : Int32 → Prop} (h : w Q1 x0 x1) (kk : ∀ (r : Int32) (H1 : Heap) (locs1 : List Loc), Q1 r → (∀ q : Nat, q < H.size → H1[q]? = H[q]?) → va_S A s.heap H1 locs1 → W p l e R s m args below meth c H1 locs1 cells slots Z (F0 m (pc + 3) ls (.int r :: rest))) : W p l e R s m args below meth c H locs cells slots Z (F0 m pc ls (.int x1 :: .int x0 :: rest)) := by
  exact ro_i (va_runS (As := [.int x0, .int x1]) (rest := rest) S (hM H.size Q1 x0 x1) (va_cwS 2 S.2.2.2.2 (lw_S hlink q2027 q68 q2028) rfl rfl rfl (by decide +kernel) ⟨hRf, hRl⟩) ⟨fun a U g mk q => by obtain ⟨q0, q1, qw⟩ := q; exact ⟨q0, q1, qw⟩, fun U hU hWm => ⟨rfl, by rw [hU], h⟩⟩ rfl rfl hz rfl (lv_room hr8) hdg hcs) hS hA (fun r H1 locs1 hp hz hk hS1 => kk r H1 locs1 hp hk hS1)
def w_X3_withoutKeys (Q : Int32 → Prop) (x0 : Int32) (x1 : Int32) : Prop := if x0 = (2 : Int32) then (Q (1000 : Int32)) else (if x0 = (3 : Int32) then (Q (0 : Int32)) else (if x0 = (4 : Int32) then (Q (0 : Int32)) else (if x0 = (5 : Int32) then (Q (1000 : Int32)) else (if x0 = (6 : Int32) then (Q x1) else (if x0 = (7 : Int32) then (Q (1 : Int32)) else (Q (0 : Int32)))))))
set_option maxRecDepth 100000 in
set_option maxHeartbeats 4000000 in
theorem wk_X3_withoutKeys {p : Program} {l : Launch} {e : Env} {R : Room} {s : State} {m : MethodId} {args : Array Value} {below : List Frame} {meth : Method} {c : Code} {cells slots : Nat} {Z : State → Prop} {A : Nat → Prop}  (Q : Int32 → Prop) (S : CallFix p m c cX3_withoutKeys 2 s args lw_all RX3) (hA : ∀ q, s.heap.size ≤ q → A q) (hRf : 0 ≤ R.frames) (hRl : 0 ≤ R.locals) (hcs : cells ≤ R.cells ∧ slots ≤ R.slots) (hret : ∀ (v : Int32) (pc : Nat) (ls : Array Slot) (H : Heap) (locs : List Loc), decode cX3_withoutKeys pc = .ok (.ireturn, 1) → va_S A s.heap H locs → Q v → W p l e R s m args below meth c H locs cells slots Z (F0 m pc ls [.int v])) (x0 : Int32) (x1 : Int32) : w_X3_withoutKeys Q x0 x1 → ∀ (ls : Array Slot) (H : Heap) (locs : List Loc), lv_has ls 2 [(0, .int x0), (1, .int x1)] → va_S A s.heap H locs → W p l e R s m args below meth c H locs cells slots Z (F0 m 0 ls []) := by
  obtain ⟨hx, hb, hml, hown, hts⟩ := S; have S : CallFix p m c cX3_withoutKeys 2 s args lw_all RX3 := ⟨hx, hb, hml, hown, hts⟩
  intro h
  intro ls H locs hl hS
  refine lv_iload_n hx hb dX3_withoutKeys_0 rfl (lv_at hl 0 rfl) ?_
  by_cases c1 : x0 = (2 : Int32)
  · have h := wif_t h c1
    refine lv_tableIn (tgt := 40) (off := 39) hx hb dX3_withoutKeys_1 (by rw [c1]; decide) (by rw [c1]; decide) (by rw [c1]; rfl) (by decide) ?_
    refine lv_sipush (v := 1000) hx hb dX3_withoutKeys_40 (by decide) ?_
    exact hret _ _ _ _ _ dX3_withoutKeys_43 hS h
  · have h := wif_f h c1
    by_cases c2 : x0 = (3 : Int32)
    · have h := wif_t h c2
      refine lv_tableIn (tgt := 48) (off := 47) hx hb dX3_withoutKeys_1 (by rw [c2]; decide) (by rw [c2]; decide) (by rw [c2]; rfl) (by decide) ?_
      refine lv_iconst (v := 0) hx hb dX3_withoutKeys_48 (by decide) ?_
      exact hret _ _ _ _ _ dX3_withoutKeys_49 hS h
    · have h := wif_f h c2
      by_cases c3 : x0 = (4 : Int32)
      · have h := wif_t h c3
        refine lv_tableIn (tgt := 48) (off := 47) hx hb dX3_withoutKeys_1 (by rw [c3]; decide) (by rw [c3]; decide) (by rw [c3]; rfl) (by decide) ?_
        refine lv_iconst (v := 0) hx hb dX3_withoutKeys_48 (by decide) ?_
        exact hret _ _ _ _ _ dX3_withoutKeys_49 hS h
      · have h := wif_f h c3
        by_cases c4 : x0 = (5 : Int32)
        · have h := wif_t h c4
          refine lv_tableIn (tgt := 40) (off := 39) hx hb dX3_withoutKeys_1 (by rw [c4]; decide) (by rw [c4]; decide) (by rw [c4]; rfl) (by decide) ?_
          refine lv_sipush (v := 1000) hx hb dX3_withoutKeys_40 (by decide) ?_
          exact hret _ _ _ _ _ dX3_withoutKeys_43 hS h
        · have h := wif_f h c4
          by_cases c5 : x0 = (6 : Int32)
          · have h := wif_t h c5
            refine lv_tableIn (tgt := 44) (off := 43) hx hb dX3_withoutKeys_1 (by rw [c5]; decide) (by rw [c5]; decide) (by rw [c5]; rfl) (by decide) ?_
            refine lv_iload_n hx hb dX3_withoutKeys_44 rfl (lv_at hl 1 rfl) ?_
            exact hret _ _ _ _ _ dX3_withoutKeys_45 hS h
          · have h := wif_f h c5
            by_cases c6 : x0 = (7 : Int32)
            · have h := wif_t h c6
              refine lv_tableIn (tgt := 46) (off := 45) hx hb dX3_withoutKeys_1 (by rw [c6]; decide) (by rw [c6]; decide) (by rw [c6]; rfl) (by decide) ?_
              refine lv_iconst (v := 1) hx hb dX3_withoutKeys_46 (by decide) ?_
              exact hret _ _ _ _ _ dX3_withoutKeys_47 hS h
            · have h := wif_f h c6
              refine lv_tableOut (tgt := 48) hx hb dX3_withoutKeys_1 (by have ec1 : x0.toInt ≠ 2 := fun q => c1 (Int32.toInt_inj.mp (q.trans (by decide))); have ec2 : x0.toInt ≠ 3 := fun q => c2 (Int32.toInt_inj.mp (q.trans (by decide))); have ec3 : x0.toInt ≠ 4 := fun q => c3 (Int32.toInt_inj.mp (q.trans (by decide))); have ec4 : x0.toInt ≠ 5 := fun q => c4 (Int32.toInt_inj.mp (q.trans (by decide))); have ec5 : x0.toInt ≠ 6 := fun q => c5 (Int32.toInt_inj.mp (q.trans (by decide))); have ec6 : x0.toInt ≠ 7 := fun q => c6 (Int32.toInt_inj.mp (q.trans (by decide))); omega) (by decide) ?_
              refine lv_iconst (v := 0) hx hb dX3_withoutKeys_48 (by decide) ?_
              exact hret _ _ _ _ _ dX3_withoutKeys_49 hS h
theorem ct_X3_withoutKeys (l : Launch) : CT_X3_withoutKeys l 0 0 w_X3_withoutKeys := by
  intro sz Q x0 x1
  refine Met.ofW (cc := cX3_withoutKeys) (maxL := 2) (ret := (some .int)) (by decide) rfl ?_
  intro p e s m args below meth c s₁ B hml hv
  obtain ⟨rfl, hsz, h⟩ := hv
  subst hsz
  have hts := atoms_spec (ws := ws_ yX3_withoutKeys cX3_withoutKeys 2 (some .int)) B.pre
  have hts : ∀ w ∈ lw_all, w.before _ s = true := fun w h => hts w (List.mem_cons_of_mem _ h)
  have hl := lv_entry ([.int x0, .int x1]) (n := 2) (Nat.le_of_ble_eq_true rfl)
  rw [lg_entry_eq]
  generalize (lg_sl ([.int x0, .int x1]) ++ List.replicate (2 - (lg_sl ([.int x0, .int x1])).length) Slot.unset).toArray = ls at hl ⊢
  exact wk_X3_withoutKeys Q ⟨B.exec, B.bytes, hml, findClass_of_methodNamed B.named, hts⟩ (fun q h => h) (Nat.le_refl _) (Nat.le_refl _) ⟨Nat.le_refl _, Nat.le_refl _⟩ (fun v pc ls H locs hd hS hQ => W.iret (v := v) B.exec B.bytes B.returns (fun t ht _ => ⟨⟨v, (), rfl, hQ, trivial⟩, hS.F ht⟩) hS.2.2 hd) x0 x1 h ls _ [] hl va_S.rf
def CT_X3_between (l : Launch) (fr lo : Nat) (w : (Int32 → Prop) → Int32 → Int32 → MM → Prop) : Prop := ∀ (E : mE) (M : MM) (L : ML) (sz : Nat) (Q : Int32 → Prop) (x1 : Int32) (x2 : Int32), Met l yX3_between (ws_ yX3_between cX3_between 9 (some .int)) { frames := fr, cells := 0, slots := 0, locals := lo } (va_Pc [.ref (mh E), .int x1, .int x2] (fun U => U.heap.size = sz ∧ mW E M L U.heap ∧ mK E U ∧ w Q x1 x2 M)) (va_Qi (fun r (_ : Unit) => Q r) (fun _ _ => True) (mN sz)) 0 0 (mN sz)
theorem call_X3_between {p : Program} {l : Launch} {e : Env} {R : Room} {s : State} {m : MethodId} {args : Array Value} {below : List Frame} {meth : Method} {c : Code} {H : Heap} {locs : List Loc} {cells slots : Nat} {Z : State → Prop} {A : Nat → Prop} {cc : ByteArray} {nL pc : Nat} {ls : Array Slot} {rest : List Value} {own : String} {index fr lo : Nat} {w : (Int32 → Prop) → Int32 → Int32 → MM → Prop} {E : mE} {M : MM} {L : ML} {x1 : Int32} {x2 : Int32} (hM : CT_X3_between l fr lo w) (S : CallFix p m c cc nL s args lw_all own) (hK : mK E s) (hW : mW E M L H) (hS : va_S A s.heap H locs) (hA : ∀ q, s.heap.size ≤ q → A q) (hlink : Cond.methodLink own index yX3_between ∈ lw_all) (hRf : fr + 1 ≤ R.frames) (hRl : 8 + (9 + 11) + lo ≤ R.locals) (hcs : cells ≤ R.cells ∧ slots ≤ R.slots) (hz : ls.size = nL) (hr8 : (rest.map fun v => v.category).sum ≤ 8) (hdg : decode cc pc = .ok (.invokevirtual index, 3)) {Q1 : Int32 → Prop} (h : w Q1 x1 x2 M) (kk : ∀ (r : Int32) (H1 : Heap) (locs1 : List Loc), Q1 r → (∀ q : Nat, q < H.size → H1[q]? = H[q]?) → va_S A s.heap H1 locs1 → W p l e R s m args below meth c H1 locs1 cells slots Z (F0 m (pc + 3) ls (.int r :: rest))) : W p l e R s m args below meth c H locs cells slots Z (F0 m pc ls (.int x2 :: .int x1 :: .ref (mh E) :: rest)) := by
  exact ro_i (va_runV (As := [.int x1, .int x2]) (rest := rest) S (hM E M L H.size Q1 x1 x2) (cwV 2 S.2.2.2.2 (lw_V hlink q2031 qs32 q68 q2032) rfl rfl rfl (by decide +kernel) ⟨hRf, hRl⟩) ⟨fun a U g mk q => by obtain ⟨q0, q1, qW, qK, qw⟩ := q; exact ⟨q0, q1, qW, qK.moved (u := U) (U := U.calling g mk a) (Vm.Alike.refl U.vm), qw⟩, hW.recv (hK := hK), fun U hU hWm => ⟨rfl, by rw [hU], by rw [hU]; exact hW, hK.moved hWm.alike, h⟩⟩ rfl rfl hz rfl (lv_room hr8) hdg hcs) hS hA (fun r H1 locs1 hp hz hk hS1 => kk r H1 locs1 hp hk hS1)
def w_X3_between (Q : Int32 → Prop) (x1 : Int32) (x2 : Int32) (M : MM) : Prop := mRd (M 21) 768 x1 (fun v1 => mRd (M 21) 768 (x1 + (1 : Int32)) (fun v2 => mRd (M 20) 768 x1 (fun v3 => mRd (M 20) 768 (x1 + (1 : Int32)) (fun v4 => mRd (M 20) 768 x1 (fun v5 => mRd (M 22) 768 x1 (fun v6 => if v6 = (0 : Int32) then (Q v1) else (if v6 = (1 : Int32) then (w_J13_floorDiv_2 (fun r8 => Q (v1 + r8)) ((v2 - v1) * (x2 - v3)) (v4 - v5)) else (¬ (v4 - v5) = 0 ∧ (¬ (1000000 : Int64) = 0 ∧ (w_J13_floorDiv_2 (fun r10 => Q (v1 + r10)) ((v2 - v1) * ((((((((1000 : Int32) * (x2 - v3)) / (v4 - v5)).toInt64) * ((((1000 : Int32) * (x2 - v3)) / (v4 - v5)).toInt64)) * ((3000 : Int64) - ((2 : Int64) * ((((1000 : Int32) * (x2 - v3)) / (v4 - v5)).toInt64)))) / (1000000 : Int64)).toInt32)) (1000 : Int32)))))))))))
set_option maxRecDepth 100000 in
set_option maxHeartbeats 4000000 in
theorem wk_X3_between {p : Program} {l : Launch} {e : Env} {R : Room} {s : State} {m : MethodId} {args : Array Value} {below : List Frame} {meth : Method} {c : Code} {cells slots : Nat} {Z : State → Prop} {A : Nat → Prop} {E : mE} (Q : Int32 → Prop) (C : mC p m c s args cX3_between 9 E) (hA : ∀ q, s.heap.size ≤ q → A q) (hRf : 1 ≤ R.frames) (hRl : 22 ≤ R.locals) (hcs : cells ≤ R.cells ∧ slots ≤ R.slots) (M : MM) (L : ML) (hret : ∀ (v : Int32) (pc : Nat) (ls : Array Slot) (H : Heap) (locs : List Loc), decode cX3_between pc = .ok (.ireturn, 1) → va_S A s.heap H locs → Q v → W p l e R s m args below meth c H locs cells slots Z (F0 m pc ls [.int v])) (x1 : Int32) (x2 : Int32) : w_X3_between Q x1 x2 M → ∀ (ls : Array Slot) (H : Heap) (locs : List Loc), lv_has ls 9 [(0, .ref (mh E)), (1, .int x1), (2, .int x2)] → mW E M L H → va_S A s.heap H locs → W p l e R s m args below meth c H locs cells slots Z (F0 m 0 ls []) := by
  obtain ⟨⟨hx, hb, hml, hown, hts⟩, hK⟩ := C; have C : mC p m c s args cX3_between 9 E := ⟨⟨hx, hb, hml, hown, hts⟩, hK⟩
  intro h
  intro ls H locs hl hW hS
  refine lv_aload_n hx hb dX3_between_0 rfl (lv_at hl 0 rfl) ?_
  refine mr_getA C hW 21 rfl rfl q1824 dX3_between_1 ?_
  refine lv_iload_n hx hb dX3_between_4 rfl (lv_at hl 1 rfl) ?_
  refine mr_iald C hW 21 rfl rfl rfl h dX3_between_5 (fun v1 h => ?_)
  refine lv_istore_n (lv' := [(3, .int v1), (0, .ref (mh E)), (1, .int x1), (2, .int x2)]) hx hb dX3_between_6 rfl hl (by decide) rfl (fun ls hl => ?_)
  refine lv_aload_n hx hb dX3_between_7 rfl (lv_at hl 1 rfl) ?_
  refine mr_getA C hW 21 rfl rfl q1824 dX3_between_8 ?_
  refine lv_iload_n hx hb dX3_between_11 rfl (lv_at hl 2 rfl) ?_
  refine lv_iconst (v := 1) hx hb dX3_between_12 (by decide) ?_
  refine lv_iadd hx hb dX3_between_13 ?_
  refine mr_iald C hW 21 rfl rfl rfl h dX3_between_14 (fun v2 h => ?_)
  refine lv_iload_n hx hb dX3_between_15 rfl (lv_at hl 0 rfl) ?_
  refine lv_isub hx hb dX3_between_16 ?_
  refine lv_istore (lv' := [(4, .int (v2 - v1)), (3, .int v1), (0, .ref (mh E)), (1, .int x1), (2, .int x2)]) hx hb dX3_between_17 hl (by decide) rfl (fun ls hl => ?_)
  refine lv_iload_n hx hb dX3_between_19 rfl (lv_at hl 4 rfl) ?_
  refine lv_aload_n hx hb dX3_between_20 rfl (lv_at hl 2 rfl) ?_
  refine mr_getA C hW 20 rfl rfl q1823 dX3_between_21 ?_
  refine lv_iload_n hx hb dX3_between_24 rfl (lv_at hl 3 rfl) ?_
  refine mr_iald C hW 20 rfl rfl rfl h dX3_between_25 (fun v3 h => ?_)
  refine lv_isub hx hb dX3_between_26 ?_
  refine lv_istore (lv' := [(5, .int (x2 - v3)), (4, .int (v2 - v1)), (3, .int v1), (0, .ref (mh E)), (1, .int x1), (2, .int x2)]) hx hb dX3_between_27 hl (by decide) rfl (fun ls hl => ?_)
  refine lv_aload_n hx hb dX3_between_29 rfl (lv_at hl 3 rfl) ?_
  refine mr_getA C hW 20 rfl rfl q1823 dX3_between_30 ?_
  refine lv_iload_n hx hb dX3_between_33 rfl (lv_at hl 4 rfl) ?_
  refine lv_iconst (v := 1) hx hb dX3_between_34 (by decide) ?_
  refine lv_iadd hx hb dX3_between_35 ?_
  refine mr_iald C hW 20 rfl rfl rfl h dX3_between_36 (fun v4 h => ?_)
  refine lv_aload_n hx hb dX3_between_37 rfl (lv_at hl 3 rfl) ?_
  refine mr_getA C hW 20 rfl rfl q1823 dX3_between_38 ?_
  refine lv_iload_n hx hb dX3_between_41 rfl (lv_at hl 4 rfl) ?_
  refine mr_iald C hW 20 rfl rfl rfl h dX3_between_42 (fun v5 h => ?_)
  refine lv_isub hx hb dX3_between_43 ?_
  refine lv_istore (lv' := [(6, .int (v4 - v5)), (5, .int (x2 - v3)), (4, .int (v2 - v1)), (3, .int v1), (0, .ref (mh E)), (1, .int x1), (2, .int x2)]) hx hb dX3_between_44 hl (by decide) rfl (fun ls hl => ?_)
  refine lv_aload_n hx hb dX3_between_46 rfl (lv_at hl 4 rfl) ?_
  refine mr_getA C hW 22 rfl rfl q1825 dX3_between_47 ?_
  refine lv_iload_n hx hb dX3_between_50 rfl (lv_at hl 5 rfl) ?_
  refine mr_iald C hW 22 rfl rfl rfl h dX3_between_51 (fun v6 h => ?_)
  by_cases c7 : v6 = (0 : Int32)
  · have h := wif_t h c7
    refine lv_lookup (tgt := 80) (off := 28) hx hb dX3_between_52 (by decide) (by rw [c7]; rfl) (by decide) ?_
    refine lv_iload_n hx hb dX3_between_80 rfl (lv_at hl 3 rfl) ?_
    exact hret _ _ _ _ _ dX3_between_81 hS h
  · have h := wif_f h c7
    by_cases c9 : v6 = (1 : Int32)
    · have h := wif_t h c9
      refine lv_lookup (tgt := 82) (off := 30) hx hb dX3_between_52 (by decide) (by rw [c9]; rfl) (by decide) ?_
      refine lv_iload_n hx hb dX3_between_82 rfl (lv_at hl 3 rfl) ?_
      refine lv_iload hx hb dX3_between_83 (lv_at hl 2 rfl) ?_
      refine lv_iload hx hb dX3_between_85 (lv_at hl 1 rfl) ?_
      refine lv_imul hx hb dX3_between_87 ?_
      refine lv_iload hx hb dX3_between_88 (lv_at hl 0 rfl) ?_
      refine call_J13_floorDiv_2 (ct_J13_floorDiv_2 l) C.1 hS hA q2033 (le_lit hRf rfl) (le_lit hRl rfl) hcs hl.1 (Nat.le_of_ble_eq_true rfl) dX3_between_90 h (fun r8 H locs h hk hS => ?_)
      have hW := hW.kept hk
      refine lv_iadd hx hb dX3_between_93 ?_
      exact hret _ _ _ _ _ dX3_between_94 hS h
    · have h := wif_f h c9
      refine lv_lookup (tgt := 95) (off := 43) hx hb dX3_between_52 (by decide) (by have ec7 : v6.toInt ≠ 0 := fun q => c7 (Int32.toInt_inj.mp (q.trans (by decide))); have ec9 : v6.toInt ≠ 1 := fun q => c9 (Int32.toInt_inj.mp (q.trans (by decide))); simp [Op.lookupswitch.offset, Ne.symm ec7, Ne.symm ec9]) (by decide) ?_
      refine lv_sipush (v := 1000) hx hb dX3_between_95 (by decide) ?_
      refine lv_iload hx hb dX3_between_98 (lv_at hl 1 rfl) ?_
      refine lv_imul hx hb dX3_between_100 ?_
      refine lv_iload hx hb dX3_between_101 (lv_at hl 0 rfl) ?_
      refine lv_idiv hx hb dX3_between_103 h.1 ?_
      have h := h.2
      refine lv_istore (lv' := [(7, .int (((1000 : Int32) * (x2 - v3)) / (v4 - v5))), (6, .int (v4 - v5)), (5, .int (x2 - v3)), (4, .int (v2 - v1)), (3, .int v1), (0, .ref (mh E)), (1, .int x1), (2, .int x2)]) hx hb dX3_between_104 hl (by decide) rfl (fun ls hl => ?_)
      refine lv_iload hx hb dX3_between_106 (lv_at hl 0 rfl) ?_
      refine lv_i2l hx hb dX3_between_108 rfl ?_
      refine lv_iload hx hb dX3_between_109 (lv_at hl 0 rfl) ?_
      refine lv_i2l hx hb dX3_between_111 rfl ?_
      refine lv_lmul hx hb dX3_between_112 ?_
      refine lv_ldc2 hx hb hown (hts _ q2036) dX3_between_113 ?_
      refine lv_ldc2 hx hb hown (hts _ q2037) dX3_between_116 ?_
      refine lv_iload hx hb dX3_between_119 (lv_at hl 0 rfl) ?_
      refine lv_i2l hx hb dX3_between_121 rfl ?_
      refine lv_lmul hx hb dX3_between_122 ?_
      refine lv_lsub hx hb dX3_between_123 ?_
      refine lv_lmul hx hb dX3_between_124 ?_
      refine lv_ldc2 hx hb hown (hts _ q2038) dX3_between_125 ?_
      refine lv_ldiv hx hb dX3_between_128 h.1 ?_
      have h := h.2
      refine lv_l2i hx hb dX3_between_129 rfl ?_
      refine lv_istore (lv' := [(8, .int ((((((((1000 : Int32) * (x2 - v3)) / (v4 - v5)).toInt64) * ((((1000 : Int32) * (x2 - v3)) / (v4 - v5)).toInt64)) * ((3000 : Int64) - ((2 : Int64) * ((((1000 : Int32) * (x2 - v3)) / (v4 - v5)).toInt64)))) / (1000000 : Int64)).toInt32)), (7, .int (((1000 : Int32) * (x2 - v3)) / (v4 - v5))), (6, .int (v4 - v5)), (5, .int (x2 - v3)), (4, .int (v2 - v1)), (3, .int v1), (0, .ref (mh E)), (1, .int x1), (2, .int x2)]) hx hb dX3_between_130 hl (by decide) rfl (fun ls hl => ?_)
      refine lv_iload_n hx hb dX3_between_132 rfl (lv_at hl 5 rfl) ?_
      refine lv_iload hx hb dX3_between_133 (lv_at hl 4 rfl) ?_
      refine lv_iload hx hb dX3_between_135 (lv_at hl 0 rfl) ?_
      refine lv_imul hx hb dX3_between_137 ?_
      refine lv_sipush (v := 1000) hx hb dX3_between_138 (by decide) ?_
      refine call_J13_floorDiv_2 (ct_J13_floorDiv_2 l) C.1 hS hA q2033 (le_lit hRf rfl) (le_lit hRl rfl) hcs hl.1 (Nat.le_of_ble_eq_true rfl) dX3_between_141 h (fun r10 H locs h hk hS => ?_)
      have hW := hW.kept hk
      refine lv_iadd hx hb dX3_between_144 ?_
      exact hret _ _ _ _ _ dX3_between_145 hS h
theorem ct_X3_between (l : Launch) : CT_X3_between l 1 22 w_X3_between := by
  intro E M L sz Q x1 x2
  refine Met.ofW (cc := cX3_between) (maxL := 9) (ret := (some .int)) (by decide) rfl ?_
  intro p e s m args below meth c s₁ B hml hv
  obtain ⟨rfl, hsz, hW, hK, h⟩ := hv
  subst hsz
  have hts := atoms_spec (ws := ws_ yX3_between cX3_between 9 (some .int)) B.pre
  have hts : ∀ w ∈ lw_all, w.before _ s = true := fun w h => hts w (List.mem_cons_of_mem _ h)
  have hl := lv_entry ([.ref (mh E), .int x1, .int x2]) (n := 9) (Nat.le_of_ble_eq_true rfl)
  rw [lg_entry_eq]
  generalize (lg_sl ([.ref (mh E), .int x1, .int x2]) ++ List.replicate (9 - (lg_sl ([.ref (mh E), .int x1, .int x2])).length) Slot.unset).toArray = ls at hl ⊢
  exact wk_X3_between Q ⟨⟨B.exec, B.bytes, hml, findClass_of_methodNamed B.named, hts⟩, hK⟩ (fun q h => h) (Nat.le_refl _) (Nat.le_refl _) ⟨Nat.le_refl _, Nat.le_refl _⟩ M L (fun v pc ls H locs hd hS hQ => W.iret (v := v) B.exec B.bytes B.returns (fun t ht _ => ⟨⟨v, (), rfl, hQ, trivial⟩, hS.F ht⟩) hS.2.2 hd) x1 x2 h ls _ [] hl hW va_S.rf
def CT_X3_valueOf (l : Launch) (fr lo : Nat) (w : (Int32 → Prop) → Int32 → Int32 → Int32 → MM → Prop) : Prop := ∀ (E : mE) (M : MM) (L : ML) (sz : Nat) (Q : Int32 → Prop) (x1 : Int32) (x2 : Int32) (x3 : Int32), Met l yX3_valueOf (ws_ yX3_valueOf cX3_valueOf 7 (some .int)) { frames := fr, cells := 0, slots := 0, locals := lo } (va_Pc [.ref (mh E), .int x1, .int x2, .int x3] (fun U => U.heap.size = sz ∧ mW E M L U.heap ∧ mK E U ∧ w Q x1 x2 x3 M)) (va_Qi (fun r (_ : Unit) => Q r) (fun _ _ => True) (mN sz)) 0 0 (mN sz)
theorem call_X3_valueOf {p : Program} {l : Launch} {e : Env} {R : Room} {s : State} {m : MethodId} {args : Array Value} {below : List Frame} {meth : Method} {c : Code} {H : Heap} {locs : List Loc} {cells slots : Nat} {Z : State → Prop} {A : Nat → Prop} {cc : ByteArray} {nL pc : Nat} {ls : Array Slot} {rest : List Value} {own : String} {index fr lo : Nat} {w : (Int32 → Prop) → Int32 → Int32 → Int32 → MM → Prop} {E : mE} {M : MM} {L : ML} {x1 : Int32} {x2 : Int32} {x3 : Int32} (hM : CT_X3_valueOf l fr lo w) (S : CallFix p m c cc nL s args lw_all own) (hK : mK E s) (hW : mW E M L H) (hS : va_S A s.heap H locs) (hA : ∀ q, s.heap.size ≤ q → A q) (hlink : Cond.methodLink own index yX3_valueOf ∈ lw_all) (hRf : fr + 1 ≤ R.frames) (hRl : 8 + (7 + 11) + lo ≤ R.locals) (hcs : cells ≤ R.cells ∧ slots ≤ R.slots) (hz : ls.size = nL) (hr8 : (rest.map fun v => v.category).sum ≤ 8) (hdg : decode cc pc = .ok (.invokevirtual index, 3)) {Q1 : Int32 → Prop} (h : w Q1 x1 x2 x3 M) (kk : ∀ (r : Int32) (H1 : Heap) (locs1 : List Loc), Q1 r → (∀ q : Nat, q < H.size → H1[q]? = H[q]?) → va_S A s.heap H1 locs1 → W p l e R s m args below meth c H1 locs1 cells slots Z (F0 m (pc + 3) ls (.int r :: rest))) : W p l e R s m args below meth c H locs cells slots Z (F0 m pc ls (.int x3 :: .int x2 :: .int x1 :: .ref (mh E) :: rest)) := by
  exact ro_i (va_runV (As := [.int x1, .int x2, .int x3]) (rest := rest) S (hM E M L H.size Q1 x1 x2 x3) (cwV 3 S.2.2.2.2 (lw_V hlink q2024 qs31 q68 q2025) rfl rfl rfl (by decide +kernel) ⟨hRf, hRl⟩) ⟨fun a U g mk q => by obtain ⟨q0, q1, qW, qK, qw⟩ := q; exact ⟨q0, q1, qW, qK.moved (u := U) (U := U.calling g mk a) (Vm.Alike.refl U.vm), qw⟩, hW.recv (hK := hK), fun U hU hWm => ⟨rfl, by rw [hU], by rw [hU]; exact hW, hK.moved hWm.alike, h⟩⟩ rfl rfl hz rfl (lv_room hr8) hdg hcs) hS hA (fun r H1 locs1 hp hz hk hS1 => kk r H1 locs1 hp hk hS1)
def w_X3_valueOf_88 (Q : Int32 → Prop) (x3 : Int32) (x4 : Int32) (x5 : Int32) (y0 : Int32) (M : MM) : Prop := if y0 = 0 then (w_X3_between (fun r1 => Q r1) ((((8 : Int32) * x4) + x5) - (1 : Int32)) x3 M) else (mRd (M 21) 768 (((8 : Int32) * x4) + x5) (fun v2 => Q v2))
def w_X3_valueOf_83 (Q : Int32 → Prop) (x3 : Int32) (x4 : Int32) (x5 : Int32) (M : MM) : Prop := w_X3_valueOf_88 Q x3 x4 x5 (1 : Int32) M
def w_X3_valueOf (Q : Int32 → Prop) (x1 : Int32) (x2 : Int32) (x3 : Int32) (M : MM) : Prop := mRd (M 19) 96 (((8 : Int32) * x1) + x2) (fun v4 => if v4 = 0 then (w_X3_withoutKeys (fun r12 => Q r12) x2 x3) else (w_X3_keyPlace (fun r5 => mRd (M 19) 96 (((8 : Int32) * x1) + x2) (fun v6 => if r5 = v6 then (mRd (M 21) 768 ((((8 : Int32) * (((8 : Int32) * x1) + x2)) + r5) - (1 : Int32)) (fun v10 => Q v10)) else (if r5 = 0 then (w_X3_valueOf_83 Q x3 (((8 : Int32) * x1) + x2) r5 M) else (mRd (M 20) 768 (((8 : Int32) * (((8 : Int32) * x1) + x2)) + r5) (fun v7 => if v7 = x3 then (w_X3_valueOf_83 Q x3 (((8 : Int32) * x1) + x2) r5 M) else (w_X3_valueOf_88 Q x3 (((8 : Int32) * x1) + x2) r5 (0 : Int32) M)))))) (((8 : Int32) * x1) + x2) x3 M))
set_option maxRecDepth 100000 in
set_option maxHeartbeats 4000000 in
theorem wk_X3_valueOf {p : Program} {l : Launch} {e : Env} {R : Room} {s : State} {m : MethodId} {args : Array Value} {below : List Frame} {meth : Method} {c : Code} {cells slots : Nat} {Z : State → Prop} {A : Nat → Prop} {E : mE} (Q : Int32 → Prop) (C : mC p m c s args cX3_valueOf 7 E) (hA : ∀ q, s.heap.size ≤ q → A q) (hRf : 2 ≤ R.frames) (hRl : 50 ≤ R.locals) (hcs : cells ≤ R.cells ∧ slots ≤ R.slots) (M : MM) (L : ML) (hret : ∀ (v : Int32) (pc : Nat) (ls : Array Slot) (H : Heap) (locs : List Loc), decode cX3_valueOf pc = .ok (.ireturn, 1) → va_S A s.heap H locs → Q v → W p l e R s m args below meth c H locs cells slots Z (F0 m pc ls [.int v])) (x1 : Int32) (x2 : Int32) (x3 : Int32) : w_X3_valueOf Q x1 x2 x3 M → ∀ (ls : Array Slot) (H : Heap) (locs : List Loc), lv_has ls 7 [(0, .ref (mh E)), (1, .int x1), (2, .int x2), (3, .int x3)] → mW E M L H → va_S A s.heap H locs → W p l e R s m args below meth c H locs cells slots Z (F0 m 0 ls []) := by
  obtain ⟨⟨hx, hb, hml, hown, hts⟩, hK⟩ := C; have C : mC p m c s args cX3_valueOf 7 E := ⟨⟨hx, hb, hml, hown, hts⟩, hK⟩
  have hb88 : ∀ (x4 : Int32) (x5 : Int32) (y0 : Int32), w_X3_valueOf_88 Q x3 x4 x5 y0 M → ∀ (ls : Array Slot) (H : Heap) (locs : List Loc), lv_has ls 7 [(0, .ref (mh E)), (3, .int x3), (4, .int x4), (5, .int x5)] → mW E M L H → va_S A s.heap H locs → W p l e R s m args below meth c H locs cells slots Z (F0 m 88 ls [.int y0]) := by
    intro x4 x5 y0 h
    intro ls H locs hl hW hS
    refine lv_istore (lv' := [(6, .int y0), (0, .ref (mh E)), (3, .int x3), (4, .int x4), (5, .int x5)]) hx hb dX3_valueOf_88 hl (by decide) rfl (fun ls hl => ?_)
    refine lv_iload hx hb dX3_valueOf_90 (lv_at hl 0 rfl) ?_
    refine lv_if_eq (tgt := 111) hx hb dX3_valueOf_92 (by decide) (fun c3 => ?_) (fun c3 => ?_)
    · have h := wif_t h c3
      refine lv_aload_n hx hb dX3_valueOf_111 rfl (lv_at hl 1 rfl) ?_
      refine lv_bipush (v := 8) hx hb dX3_valueOf_112 (by decide) ?_
      refine lv_iload hx hb dX3_valueOf_114 (lv_at hl 3 rfl) ?_
      refine lv_imul hx hb dX3_valueOf_116 ?_
      refine lv_iload hx hb dX3_valueOf_117 (lv_at hl 4 rfl) ?_
      refine lv_iadd hx hb dX3_valueOf_119 ?_
      refine lv_iconst (v := 1) hx hb dX3_valueOf_120 (by decide) ?_
      refine lv_isub hx hb dX3_valueOf_121 ?_
      refine lv_iload_n hx hb dX3_valueOf_122 rfl (lv_at hl 2 rfl) ?_
      refine call_X3_between (ct_X3_between l) C.1 C.2 hW hS hA q2029 (le_lit hRf rfl) (le_lit hRl rfl) hcs hl.1 (Nat.le_of_ble_eq_true rfl) dX3_valueOf_123 h (fun r1 H locs h hk hS => ?_)
      have hW := hW.kept hk
      exact hret _ _ _ _ _ dX3_valueOf_126 hS h
    · have h := wif_f h c3
      refine lv_aload_n hx hb dX3_valueOf_95 rfl (lv_at hl 1 rfl) ?_
      refine mr_getA C hW 21 rfl rfl q1824 dX3_valueOf_96 ?_
      refine lv_bipush (v := 8) hx hb dX3_valueOf_99 (by decide) ?_
      refine lv_iload hx hb dX3_valueOf_101 (lv_at hl 3 rfl) ?_
      refine lv_imul hx hb dX3_valueOf_103 ?_
      refine lv_iload hx hb dX3_valueOf_104 (lv_at hl 4 rfl) ?_
      refine lv_iadd hx hb dX3_valueOf_106 ?_
      refine mr_iald C hW 21 rfl rfl rfl h dX3_valueOf_107 (fun v2 h => ?_)
      refine lv_goto (tgt := 126) hx hb dX3_valueOf_108 (by decide) ?_
      exact hret _ _ _ _ _ dX3_valueOf_126 hS h
  have hb83 : ∀ (x4 : Int32) (x5 : Int32), w_X3_valueOf_83 Q x3 x4 x5 M → ∀ (ls : Array Slot) (H : Heap) (locs : List Loc), lv_has ls 7 [(0, .ref (mh E)), (3, .int x3), (4, .int x4), (5, .int x5)] → mW E M L H → va_S A s.heap H locs → W p l e R s m args below meth c H locs cells slots Z (F0 m 83 ls []) := by
    intro x4 x5 h
    intro ls H locs hl hW hS
    refine lv_iconst (v := 1) hx hb dX3_valueOf_83 (by decide) ?_
    refine lv_goto (tgt := 88) hx hb dX3_valueOf_84 (by decide) ?_
    exact hb88 _ _ _ h ls H locs (lv_sub hl [0, 1, 2, 3] rfl) hW hS
  intro h
  intro ls H locs hl hW hS
  refine lv_bipush (v := 8) hx hb dX3_valueOf_0 (by decide) ?_
  refine lv_iload_n hx hb dX3_valueOf_2 rfl (lv_at hl 1 rfl) ?_
  refine lv_imul hx hb dX3_valueOf_3 ?_
  refine lv_iload_n hx hb dX3_valueOf_4 rfl (lv_at hl 2 rfl) ?_
  refine lv_iadd hx hb dX3_valueOf_5 ?_
  refine lv_istore (lv' := [(4, .int (((8 : Int32) * x1) + x2)), (0, .ref (mh E)), (1, .int x1), (2, .int x2), (3, .int x3)]) hx hb dX3_valueOf_6 hl (by decide) rfl (fun ls hl => ?_)
  refine lv_aload_n hx hb dX3_valueOf_8 rfl (lv_at hl 1 rfl) ?_
  refine mr_getA C hW 19 rfl rfl q1822 dX3_valueOf_9 ?_
  refine lv_iload hx hb dX3_valueOf_12 (lv_at hl 0 rfl) ?_
  refine mr_iald C hW 19 rfl rfl rfl h dX3_valueOf_14 (fun v4 h => ?_)
  refine lv_if_ne (tgt := 24) hx hb dX3_valueOf_15 (by decide) (fun c13 => ?_) (fun c13 => ?_)
  · have h := wif_f h c13
    refine lv_aload_n hx hb dX3_valueOf_24 rfl (lv_at hl 1 rfl) ?_
    refine lv_iload hx hb dX3_valueOf_25 (lv_at hl 0 rfl) ?_
    refine lv_iload_n hx hb dX3_valueOf_27 rfl (lv_at hl 4 rfl) ?_
    refine call_X3_keyPlace (ct_X3_keyPlace l) C.1 C.2 hW hS hA q2006 (le_lit hRf rfl) (le_lit hRl rfl) hcs hl.1 (Nat.le_of_ble_eq_true rfl) dX3_valueOf_28 h (fun r5 H locs h hk hS => ?_)
    have hW := hW.kept hk
    refine lv_istore (lv' := [(5, .int r5), (4, .int (((8 : Int32) * x1) + x2)), (0, .ref (mh E)), (1, .int x1), (2, .int x2), (3, .int x3)]) hx hb dX3_valueOf_31 hl (by decide) rfl (fun ls hl => ?_)
    refine lv_iload hx hb dX3_valueOf_33 (lv_at hl 0 rfl) ?_
    refine lv_aload_n hx hb dX3_valueOf_35 rfl (lv_at hl 2 rfl) ?_
    refine mr_getA C hW 19 rfl rfl q1822 dX3_valueOf_36 ?_
    refine lv_iload hx hb dX3_valueOf_39 (lv_at hl 1 rfl) ?_
    refine mr_iald C hW 19 rfl rfl rfl h dX3_valueOf_41 (fun v6 h => ?_)
    refine lv_icmp_ne (tgt := 61) hx hb dX3_valueOf_42 (by decide) (fun c11 => ?_) (fun c11 => ?_)
    · have h := wif_f h c11
      refine lv_iload hx hb dX3_valueOf_61 (lv_at hl 0 rfl) ?_
      refine lv_if_eq (tgt := 83) hx hb dX3_valueOf_63 (by decide) (fun c9 => ?_) (fun c9 => ?_)
      · have h := wif_t h c9
        exact hb83 _ _ h ls H locs (lv_sub hl [2, 5, 1, 0] rfl) hW hS
      · have h := wif_f h c9
        refine lv_aload_n hx hb dX3_valueOf_66 rfl (lv_at hl 2 rfl) ?_
        refine mr_getA C hW 20 rfl rfl q1823 dX3_valueOf_67 ?_
        refine lv_bipush (v := 8) hx hb dX3_valueOf_70 (by decide) ?_
        refine lv_iload hx hb dX3_valueOf_72 (lv_at hl 1 rfl) ?_
        refine lv_imul hx hb dX3_valueOf_74 ?_
        refine lv_iload hx hb dX3_valueOf_75 (lv_at hl 0 rfl) ?_
        refine lv_iadd hx hb dX3_valueOf_77 ?_
        refine mr_iald C hW 20 rfl rfl rfl h dX3_valueOf_78 (fun v7 h => ?_)
        refine lv_iload_n hx hb dX3_valueOf_79 rfl (lv_at hl 5 rfl) ?_
        refine lv_icmp_ne (tgt := 87) hx hb dX3_valueOf_80 (by decide) (fun c8 => ?_) (fun c8 => ?_)
        · have h := wif_f h c8
          refine lv_iconst (v := 0) hx hb dX3_valueOf_87 (by decide) ?_
          exact hb88 _ _ _ h ls H locs (lv_sub hl [2, 5, 1, 0] rfl) hW hS
        · have h := wif_t h c8
          exact hb83 _ _ h ls H locs (lv_sub hl [2, 5, 1, 0] rfl) hW hS
    · have h := wif_t h c11
      refine lv_aload_n hx hb dX3_valueOf_45 rfl (lv_at hl 2 rfl) ?_
      refine mr_getA C hW 21 rfl rfl q1824 dX3_valueOf_46 ?_
      refine lv_bipush (v := 8) hx hb dX3_valueOf_49 (by decide) ?_
      refine lv_iload hx hb dX3_valueOf_51 (lv_at hl 1 rfl) ?_
      refine lv_imul hx hb dX3_valueOf_53 ?_
      refine lv_iload hx hb dX3_valueOf_54 (lv_at hl 0 rfl) ?_
      refine lv_iadd hx hb dX3_valueOf_56 ?_
      refine lv_iconst (v := 1) hx hb dX3_valueOf_57 (by decide) ?_
      refine lv_isub hx hb dX3_valueOf_58 ?_
      refine mr_iald C hW 21 rfl rfl rfl h dX3_valueOf_59 (fun v10 h => ?_)
      exact hret _ _ _ _ _ dX3_valueOf_60 hS h
  · have h := wif_t h c13
    refine lv_iload_n hx hb dX3_valueOf_18 rfl (lv_at hl 3 rfl) ?_
    refine lv_iload_n hx hb dX3_valueOf_19 rfl (lv_at hl 4 rfl) ?_
    refine call_X3_withoutKeys (ct_X3_withoutKeys l) C.1 hS hA q2026 (le_lit hRf rfl) (le_lit hRl rfl) hcs hl.1 (Nat.le_of_ble_eq_true rfl) dX3_valueOf_20 h (fun r12 H locs h hk hS => ?_)
    have hW := hW.kept hk
    exact hret _ _ _ _ _ dX3_valueOf_23 hS h
theorem ct_X3_valueOf (l : Launch) : CT_X3_valueOf l 2 50 w_X3_valueOf := by
  intro E M L sz Q x1 x2 x3
  refine Met.ofW (cc := cX3_valueOf) (maxL := 7) (ret := (some .int)) (by decide) rfl ?_
  intro p e s m args below meth c s₁ B hml hv
  obtain ⟨rfl, hsz, hW, hK, h⟩ := hv
  subst hsz
  have hts := atoms_spec (ws := ws_ yX3_valueOf cX3_valueOf 7 (some .int)) B.pre
  have hts : ∀ w ∈ lw_all, w.before _ s = true := fun w h => hts w (List.mem_cons_of_mem _ h)
  have hl := lv_entry ([.ref (mh E), .int x1, .int x2, .int x3]) (n := 7) (Nat.le_of_ble_eq_true rfl)
  rw [lg_entry_eq]
  generalize (lg_sl ([.ref (mh E), .int x1, .int x2, .int x3]) ++ List.replicate (7 - (lg_sl ([.ref (mh E), .int x1, .int x2, .int x3])).length) Slot.unset).toArray = ls at hl ⊢
  exact wk_X3_valueOf Q ⟨⟨B.exec, B.bytes, hml, findClass_of_methodNamed B.named, hts⟩, hK⟩ (fun q h => h) (Nat.le_refl _) (Nat.le_refl _) ⟨Nat.le_refl _, Nat.le_refl _⟩ M L (fun v pc ls H locs hd hS hQ => W.iret (v := v) B.exec B.bytes B.returns (fun t ht _ => ⟨⟨v, (), rfl, hQ, trivial⟩, hS.F ht⟩) hS.2.2 hd) x1 x2 x3 h ls _ [] hl hW va_S.rf
def CT_X3_value (l : Launch) (fr lo : Nat) (w : (Int32 → MM → Prop) → Int32 → Int32 → Int32 → MM → Prop) : Prop := ∀ (E : mE) (M : MM) (L : ML) (sz : Nat) (Q : Int32 → MM → Prop) (x1 : Int32) (x2 : Int32) (x3 : Int32), Met l yX3_value (ws_ yX3_value cX3_value 4 (some .int)) { frames := fr, cells := 0, slots := 0, locals := lo } (va_Pc [.ref (mh E), .int x1, .int x2, .int x3] (fun U => U.heap.size = sz ∧ mW E M L U.heap ∧ mK E U ∧ w Q x1 x2 x3 M)) (va_Qi (fun r (u : MM × ML) => u.2 = L ∧ Q r u.1) (fun u t => mW E u.1 u.2 t.heap) (mA E sz)) 0 0 (mA E sz)
theorem call_X3_value {p : Program} {l : Launch} {e : Env} {R : Room} {s : State} {m : MethodId} {args : Array Value} {below : List Frame} {meth : Method} {c : Code} {H : Heap} {locs : List Loc} {cells slots : Nat} {Z : State → Prop} {A : Nat → Prop} {cc : ByteArray} {nL pc : Nat} {ls : Array Slot} {rest : List Value} {own : String} {index fr lo : Nat} {w : (Int32 → MM → Prop) → Int32 → Int32 → Int32 → MM → Prop} {E : mE} {M : MM} {L : ML} {x1 : Int32} {x2 : Int32} {x3 : Int32} (hM : CT_X3_value l fr lo w) (S : CallFix p m c cc nL s args lw_all own) (hK : mK E s) (hW : mW E M L H) (hS : va_S A s.heap H locs) (hA : ∀ q, s.heap.size ≤ q → A q) (hAw : ∀ q, mAd E q → A q) (hlink : Cond.methodLink own index yX3_value ∈ lw_all) (hRf : fr + 1 ≤ R.frames) (hRl : 8 + (4 + 11) + lo ≤ R.locals) (hcs : cells ≤ R.cells ∧ slots ≤ R.slots) (hz : ls.size = nL) (hr8 : (rest.map fun v => v.category).sum ≤ 8) (hdg : decode cc pc = .ok (.invokevirtual index, 3)) {Q1 : Int32 → MM → Prop} (h : w Q1 x1 x2 x3 M) (kk : ∀ (r : Int32) (M1 : MM) (H1 : Heap) (locs1 : List Loc), Q1 r M1 → mW E M1 L H1 → va_S A s.heap H1 locs1 → (∀ q : Nat, q < H.size → ¬ mAd E q → H1[q]? = H[q]?) → W p l e R s m args below meth c H1 locs1 cells slots Z (F0 m (pc + 3) ls (.int r :: rest))) : W p l e R s m args below meth c H locs cells slots Z (F0 m pc ls (.int x3 :: .int x2 :: .int x1 :: .ref (mh E) :: rest)) := by
  refine mw_i (sz := 0) (P := fun r M1 L1 => L1 = L ∧ Q1 r M1) (va_runV (As := [.int x1, .int x2, .int x3]) (rest := rest) S (hM E M L H.size Q1 x1 x2 x3) (cwV 3 S.2.2.2.2 (lw_V hlink q2019 q2020 q68 q2021) rfl rfl rfl (by decide +kernel) ⟨hRf, hRl⟩) ⟨fun a U g mk q => by obtain ⟨q0, q1, qW, qK, qw⟩ := q; exact ⟨q0, q1, qW, qK.moved (u := U) (U := U.calling g mk a) (Vm.Alike.refl U.vm), qw⟩, hW.recv (hK := hK), fun U hU hWm => ⟨rfl, by rw [hU], by rw [hU]; exact hW, hK.moved hWm.alike, h⟩⟩ rfl rfl hz rfl (lv_room hr8) hdg hcs) hS hA hAw (fun r M1 L1 H1 locs1 hp hW1 hz hk hS1 => ?_)
  obtain ⟨rfl, hp⟩ := hp
  exact kk r M1 H1 locs1 hp hW1 hS1 hk
def w_X3_value_21 (Q : Int32 → MM → Prop) (x1 : Int32) (x2 : Int32) (x3 : Int32) (y0 : Int32) (M : MM) : Prop := w_X3_isTime (fun r1 => w_X3_check (fun r2 M3 => if r2 = 0 then (Q (0 : Int32) M3) else (w_X3_valueOf (fun r4 => Q r4 M3) x1 x2 x3 M3)) y0 r1 (1 : Int32) M) x3
def w_X3_value_20 (Q : Int32 → MM → Prop) (x1 : Int32) (x2 : Int32) (x3 : Int32) (M : MM) : Prop := w_X3_value_21 Q x1 x2 x3 (0 : Int32) M
def w_X3_value (Q : Int32 → MM → Prop) (x1 : Int32) (x2 : Int32) (x3 : Int32) (M : MM) : Prop := w_X3_isLayer (fun r6 => if r6 = 0 then (w_X3_value_20 Q x1 x2 x3 M) else (w_X3_isValue (fun r7 => if r7 = 0 then (w_X3_value_20 Q x1 x2 x3 M) else (w_X3_value_21 Q x1 x2 x3 (1 : Int32) M)) x2)) x1 M
set_option maxRecDepth 100000 in
set_option maxHeartbeats 4000000 in
theorem wk_X3_value {p : Program} {l : Launch} {e : Env} {R : Room} {s : State} {m : MethodId} {args : Array Value} {below : List Frame} {meth : Method} {c : Code} {cells slots : Nat} {Z : State → Prop} {A : Nat → Prop} {E : mE} (Q : Int32 → MM → Prop) (C : mC p m c s args cX3_value 4 E) (hA : ∀ q, s.heap.size ≤ q → A q) (hAw : ∀ q, mAd E q → A q) (hRf : 3 ≤ R.frames) (hRl : 76 ≤ R.locals) (hcs : cells ≤ R.cells ∧ slots ≤ R.slots) (M : MM) (L : ML) (hret : ∀ (v : Int32) (M : MM) (pc : Nat) (ls : Array Slot) (H : Heap) (locs : List Loc), decode cX3_value pc = .ok (.ireturn, 1) → va_S A s.heap H locs → mW E M L H → Q v M → W p l e R s m args below meth c H locs cells slots Z (F0 m pc ls [.int v])) (x1 : Int32) (x2 : Int32) (x3 : Int32) : w_X3_value Q x1 x2 x3 M → ∀ (ls : Array Slot) (H : Heap) (locs : List Loc), lv_has ls 4 [(0, .ref (mh E)), (1, .int x1), (2, .int x2), (3, .int x3)] → mW E M L H → va_S A s.heap H locs → W p l e R s m args below meth c H locs cells slots Z (F0 m 0 ls []) := by
  obtain ⟨⟨hx, hb, hml, hown, hts⟩, hK⟩ := C; have C : mC p m c s args cX3_value 4 E := ⟨⟨hx, hb, hml, hown, hts⟩, hK⟩
  have hb21 : ∀ (y0 : Int32) (M : MM), w_X3_value_21 Q x1 x2 x3 y0 M → ∀ (ls : Array Slot) (H : Heap) (locs : List Loc), lv_has ls 4 [(0, .ref (mh E)), (1, .int x1), (2, .int x2), (3, .int x3)] → mW E M L H → va_S A s.heap H locs → W p l e R s m args below meth c H locs cells slots Z (F0 m 21 ls [.int y0, .ref (mh E)]) := by
    intro y0 M h
    intro ls H locs hl hW hS
    refine lv_iload_n hx hb dX3_value_21 rfl (lv_at hl 3 rfl) ?_
    refine call_X3_isTime (ct_X3_isTime l) C.1 hS hA q1990 (le_lit hRf rfl) (le_lit hRl rfl) hcs hl.1 (Nat.le_of_ble_eq_true rfl) dX3_value_22 h (fun r1 H locs h hk hS => ?_)
    have hW := hW.kept hk
    refine lv_iconst (v := 1) hx hb dX3_value_25 (by decide) ?_
    refine call_X3_check (ct_X3_check l) C.1 C.2 hW hS hA hAw q1907 (le_lit hRf rfl) (le_lit hRl rfl) hcs hl.1 (Nat.le_of_ble_eq_true rfl) dX3_value_26 h (fun r2 M3 H locs h hW hS _ => ?_)
    refine lv_if_eq (tgt := 42) hx hb dX3_value_29 (by decide) (fun c5 => ?_) (fun c5 => ?_)
    · have h := wif_t h c5
      refine lv_iconst (v := 0) hx hb dX3_value_42 (by decide) ?_
      exact hret _ _ _ _ _ _ dX3_value_43 hS hW h
    · have h := wif_f h c5
      refine lv_aload_n hx hb dX3_value_32 rfl (lv_at hl 0 rfl) ?_
      refine lv_iload_n hx hb dX3_value_33 rfl (lv_at hl 1 rfl) ?_
      refine lv_iload_n hx hb dX3_value_34 rfl (lv_at hl 2 rfl) ?_
      refine lv_iload_n hx hb dX3_value_35 rfl (lv_at hl 3 rfl) ?_
      refine call_X3_valueOf (ct_X3_valueOf l) C.1 C.2 hW hS hA q2022 (le_lit hRf rfl) (le_lit hRl rfl) hcs hl.1 (Nat.le_of_ble_eq_true rfl) dX3_value_36 h (fun r4 H locs h hk hS => ?_)
      have hW := hW.kept hk
      refine lv_goto (tgt := 43) hx hb dX3_value_39 (by decide) ?_
      exact hret _ _ _ _ _ _ dX3_value_43 hS hW h
  have hb20 : ∀ (M : MM), w_X3_value_20 Q x1 x2 x3 M → ∀ (ls : Array Slot) (H : Heap) (locs : List Loc), lv_has ls 4 [(0, .ref (mh E)), (1, .int x1), (2, .int x2), (3, .int x3)] → mW E M L H → va_S A s.heap H locs → W p l e R s m args below meth c H locs cells slots Z (F0 m 20 ls [.ref (mh E)]) := by
    intro M h
    intro ls H locs hl hW hS
    refine lv_iconst (v := 0) hx hb dX3_value_20 (by decide) ?_
    exact hb21 _ _ h ls H locs (lv_sub hl [0, 1, 2, 3] rfl) hW hS
  intro h
  intro ls H locs hl hW hS
  refine lv_aload_n hx hb dX3_value_0 rfl (lv_at hl 0 rfl) ?_
  refine lv_aload_n hx hb dX3_value_1 rfl (lv_at hl 0 rfl) ?_
  refine lv_iload_n hx hb dX3_value_2 rfl (lv_at hl 1 rfl) ?_
  refine call_X3_isLayer (ct_X3_isLayer l) C.1 C.2 hW hS hA q1938 (le_lit hRf rfl) (le_lit hRl rfl) hcs hl.1 (Nat.le_of_ble_eq_true rfl) dX3_value_3 h (fun r6 H locs h hk hS => ?_)
  have hW := hW.kept hk
  refine lv_if_eq (tgt := 20) hx hb dX3_value_6 (by decide) (fun c9 => ?_) (fun c9 => ?_)
  · have h := wif_t h c9
    exact hb20 _ h ls H locs (lv_sub hl [0, 1, 2, 3] rfl) hW hS
  · have h := wif_f h c9
    refine lv_iload_n hx hb dX3_value_9 rfl (lv_at hl 2 rfl) ?_
    refine call_X3_isValue (ct_X3_isValue l) C.1 hS hA q1997 (le_lit hRf rfl) (le_lit hRl rfl) hcs hl.1 (Nat.le_of_ble_eq_true rfl) dX3_value_10 h (fun r7 H locs h hk hS => ?_)
    have hW := hW.kept hk
    refine lv_if_eq (tgt := 20) hx hb dX3_value_13 (by decide) (fun c8 => ?_) (fun c8 => ?_)
    · have h := wif_t h c8
      exact hb20 _ h ls H locs (lv_sub hl [0, 1, 2, 3] rfl) hW hS
    · have h := wif_f h c8
      refine lv_iconst (v := 1) hx hb dX3_value_16 (by decide) ?_
      refine lv_goto (tgt := 21) hx hb dX3_value_17 (by decide) ?_
      exact hb21 _ _ h ls H locs (lv_sub hl [0, 1, 2, 3] rfl) hW hS
theorem ct_X3_value (l : Launch) : CT_X3_value l 3 76 w_X3_value := by
  intro E M L sz Q x1 x2 x3
  refine Met.ofW (cc := cX3_value) (maxL := 4) (ret := (some .int)) (by decide) rfl ?_
  intro p e s m args below meth c s₁ B hml hv
  obtain ⟨rfl, hsz, hW, hK, h⟩ := hv
  subst hsz
  have hts := atoms_spec (ws := ws_ yX3_value cX3_value 4 (some .int)) B.pre
  have hts : ∀ w ∈ lw_all, w.before _ s = true := fun w h => hts w (List.mem_cons_of_mem _ h)
  have hl := lv_entry ([.ref (mh E), .int x1, .int x2, .int x3]) (n := 4) (Nat.le_of_ble_eq_true rfl)
  rw [lg_entry_eq]
  generalize (lg_sl ([.ref (mh E), .int x1, .int x2, .int x3]) ++ List.replicate (4 - (lg_sl ([.ref (mh E), .int x1, .int x2, .int x3])).length) Slot.unset).toArray = ls at hl ⊢
  exact wk_X3_value Q ⟨⟨B.exec, B.bytes, hml, findClass_of_methodNamed B.named, hts⟩, hK⟩ (fun q h => Or.inr h) (fun q h => Or.inl h) (Nat.le_refl _) (Nat.le_refl _) ⟨Nat.le_refl _, Nat.le_refl _⟩ M L (fun v M pc ls H locs hd hS hW1 hQ => W.iret (v := v) B.exec B.bytes B.returns (fun t ht _ => ⟨⟨v, (M, L), rfl, ⟨rfl, hQ⟩, by rw [← ht] at hW1; exact hW1⟩, hS.F ht⟩) hS.2.2 hd) x1 x2 x3 h ls _ [] hl hW va_S.rf
def CT_X3_begin (l : Launch) (fr lo : Nat) (w : (ML → Prop) → Int64 → Int64 → ML → Prop) : Prop := ∀ (E : mE) (M : MM) (L : ML) (sz : Nat) (Q : ML → Prop) (x1 : Int64) (x3 : Int64), Met l yX3_begin (ws_ yX3_begin cX3_begin 5 none) { frames := fr, cells := 0, slots := 0, locals := lo } (va_Pc [.ref (mh E), .long x1, .long x3] (fun U => U.heap.size = sz ∧ mW E M L U.heap ∧ mK E U ∧ w Q x1 x3 L)) (va_Qv (fun (u : MM × ML) => u.1 = M ∧ Q u.2) (fun u t => mW E u.1 u.2 t.heap) (mA E sz)) 0 0 (mA E sz)
theorem call_X3_begin {p : Program} {l : Launch} {e : Env} {R : Room} {s : State} {m : MethodId} {args : Array Value} {below : List Frame} {meth : Method} {c : Code} {H : Heap} {locs : List Loc} {cells slots : Nat} {Z : State → Prop} {A : Nat → Prop} {cc : ByteArray} {nL pc : Nat} {ls : Array Slot} {rest : List Value} {own : String} {index fr lo : Nat} {w : (ML → Prop) → Int64 → Int64 → ML → Prop} {E : mE} {M : MM} {L : ML} {x1 : Int64} {x3 : Int64} (hM : CT_X3_begin l fr lo w) (S : CallFix p m c cc nL s args lw_all own) (hK : mK E s) (hW : mW E M L H) (hS : va_S A s.heap H locs) (hA : ∀ q, s.heap.size ≤ q → A q) (hAw : ∀ q, mAd E q → A q) (hlink : Cond.methodLink own index yX3_begin ∈ lw_all) (hRf : fr + 1 ≤ R.frames) (hRl : 8 + (5 + 11) + lo ≤ R.locals) (hcs : cells ≤ R.cells ∧ slots ≤ R.slots) (hz : ls.size = nL) (hr8 : (rest.map fun v => v.category).sum ≤ 8) (hdg : decode cc pc = .ok (.invokevirtual index, 3)) {Q1 : ML → Prop} (h : w Q1 x1 x3 L) (kk : ∀ (L1 : ML) (H1 : Heap) (locs1 : List Loc), Q1 L1 → mW E M L1 H1 → va_S A s.heap H1 locs1 → (∀ q : Nat, q < H.size → ¬ mAd E q → H1[q]? = H[q]?) → W p l e R s m args below meth c H1 locs1 cells slots Z (F0 m (pc + 3) ls (rest))) : W p l e R s m args below meth c H locs cells slots Z (F0 m pc ls (.long x3 :: .long x1 :: .ref (mh E) :: rest)) := by
  refine mw_v (sz := 0) (P := fun M1 L1 => M1 = M ∧ Q1 L1) (va_runV (As := [.long x1, .long x3]) (rest := rest) S (hM E M L H.size Q1 x1 x3) (cwV 2 S.2.2.2.2 (lw_V hlink q2045 qs33 q68 q2046) rfl rfl rfl (by decide +kernel) ⟨hRf, hRl⟩) ⟨fun a U g mk q => by obtain ⟨q0, q1, qW, qK, qw⟩ := q; exact ⟨q0, q1, qW, qK.moved (u := U) (U := U.calling g mk a) (Vm.Alike.refl U.vm), qw⟩, hW.recv (hK := hK), fun U hU hWm => ⟨rfl, by rw [hU], by rw [hU]; exact hW, hK.moved hWm.alike, h⟩⟩ rfl rfl hz rfl (lv_room hr8) hdg hcs) hS hA hAw (fun M1 L1 H1 locs1 hp hW1 hz hk hS1 => ?_)
  obtain ⟨rfl, hp⟩ := hp
  exact kk L1 H1 locs1 hp hW1 hS1 hk
def w_X3_begin (Q : ML → Prop) (x1 : Int64) (x3 : Int64) (L : ML) : Prop := mPl L 23 x1 (fun L1 => mPl L1 24 x3 (fun L2 => Q L2))
set_option maxRecDepth 100000 in
set_option maxHeartbeats 4000000 in
theorem wk_X3_begin {p : Program} {l : Launch} {e : Env} {R : Room} {s : State} {m : MethodId} {args : Array Value} {below : List Frame} {meth : Method} {c : Code} {cells slots : Nat} {Z : State → Prop} {A : Nat → Prop} {E : mE} (Q : ML → Prop) (C : mC p m c s args cX3_begin 5 E) (hA : ∀ q, s.heap.size ≤ q → A q) (hAw : ∀ q, mAd E q → A q) (hRf : 0 ≤ R.frames) (hRl : 0 ≤ R.locals) (hcs : cells ≤ R.cells ∧ slots ≤ R.slots) (M : MM) (L : ML) (hret : ∀ (L : ML) (pc : Nat) (ls : Array Slot) (H : Heap) (locs : List Loc), decode cX3_begin pc = .ok (.return_, 1) → va_S A s.heap H locs → mW E M L H → Q L → W p l e R s m args below meth c H locs cells slots Z (F0 m pc ls [])) (x1 : Int64) (x3 : Int64) : w_X3_begin Q x1 x3 L → ∀ (ls : Array Slot) (H : Heap) (locs : List Loc), lv_has ls 5 [(0, .ref (mh E)), (1, .long x1), (3, .long x3)] → mW E M L H → va_S A s.heap H locs → W p l e R s m args below meth c H locs cells slots Z (F0 m 0 ls []) := by
  obtain ⟨⟨hx, hb, hml, hown, hts⟩, hK⟩ := C; have C : mC p m c s args cX3_begin 5 E := ⟨⟨hx, hb, hml, hown, hts⟩, hK⟩
  intro h
  intro ls H locs hl hW hS
  refine lv_aload_n hx hb dX3_begin_0 rfl (lv_at hl 0 rfl) ?_
  refine lv_lload_n hx hb dX3_begin_1 rfl (lv_at hl 1 rfl) ?_
  refine mr_putJ C hW hS hAw 23 rfl rfl q1826 rfl (tyX3_ok 23 (by decide)) h dX3_begin_2 (fun L1 H locs hW hS h => ?_)
  refine lv_aload_n hx hb dX3_begin_5 rfl (lv_at hl 0 rfl) ?_
  refine lv_lload_n hx hb dX3_begin_6 rfl (lv_at hl 2 rfl) ?_
  refine mr_putJ C hW hS hAw 24 rfl rfl q1827 rfl (tyX3_ok 24 (by decide)) h dX3_begin_7 (fun L2 H locs hW hS h => ?_)
  exact hret _ _ _ _ _ dX3_begin_10 hS hW h
theorem ct_X3_begin (l : Launch) : CT_X3_begin l 0 0 w_X3_begin := by
  intro E M L sz Q x1 x3
  refine Met.ofW (cc := cX3_begin) (maxL := 5) (ret := none) (by decide) rfl ?_
  intro p e s m args below meth c s₁ B hml hv
  obtain ⟨rfl, hsz, hW, hK, h⟩ := hv
  subst hsz
  have hts := atoms_spec (ws := ws_ yX3_begin cX3_begin 5 none) B.pre
  have hts : ∀ w ∈ lw_all, w.before _ s = true := fun w h => hts w (List.mem_cons_of_mem _ h)
  have hl := lv_entry ([.ref (mh E), .long x1, .long x3]) (n := 5) (Nat.le_of_ble_eq_true rfl)
  rw [lg_entry_eq]
  generalize (lg_sl ([.ref (mh E), .long x1, .long x3]) ++ List.replicate (5 - (lg_sl ([.ref (mh E), .long x1, .long x3])).length) Slot.unset).toArray = ls at hl ⊢
  exact wk_X3_begin Q ⟨⟨B.exec, B.bytes, hml, findClass_of_methodNamed B.named, hts⟩, hK⟩ (fun q h => Or.inr h) (fun q h => Or.inl h) (Nat.le_refl _) (Nat.le_refl _) ⟨Nat.le_refl _, Nat.le_refl _⟩ M L (fun L pc ls H locs hd hS hW1 hQ => W.vret B.exec B.bytes B.returns (fun t ht _ => ⟨⟨(M, L), rfl, ⟨rfl, hQ⟩, by rw [← ht] at hW1; exact hW1⟩, hS.F ht⟩) hS.2.2 hd) x1 x3 h ls _ [] hl hW va_S.rf
def CT_X3_mapBy (l : Launch) (fr lo : Nat) (w : (ML → Prop) → Int32 → Int32 → MM → ML → Prop) : Prop := ∀ (E : mE) (M : MM) (L : ML) (sz : Nat) (Q : ML → Prop) (x1 : Int32) (x2 : Int32), Met l yX3_mapBy (ws_ yX3_mapBy cX3_mapBy 7 none) { frames := fr, cells := 0, slots := 0, locals := lo } (va_Pc [.ref (mh E), .int x1, .int x2] (fun U => U.heap.size = sz ∧ mW E M L U.heap ∧ mK E U ∧ w Q x1 x2 M L)) (va_Qv (fun (u : MM × ML) => u.1 = M ∧ Q u.2) (fun u t => mW E u.1 u.2 t.heap) (mA E sz)) 0 0 (mA E sz)
theorem call_X3_mapBy {p : Program} {l : Launch} {e : Env} {R : Room} {s : State} {m : MethodId} {args : Array Value} {below : List Frame} {meth : Method} {c : Code} {H : Heap} {locs : List Loc} {cells slots : Nat} {Z : State → Prop} {A : Nat → Prop} {cc : ByteArray} {nL pc : Nat} {ls : Array Slot} {rest : List Value} {own : String} {index fr lo : Nat} {w : (ML → Prop) → Int32 → Int32 → MM → ML → Prop} {E : mE} {M : MM} {L : ML} {x1 : Int32} {x2 : Int32} (hM : CT_X3_mapBy l fr lo w) (S : CallFix p m c cc nL s args lw_all own) (hK : mK E s) (hW : mW E M L H) (hS : va_S A s.heap H locs) (hA : ∀ q, s.heap.size ≤ q → A q) (hAw : ∀ q, mAd E q → A q) (hlink : Cond.methodLink own index yX3_mapBy ∈ lw_all) (hRf : fr + 1 ≤ R.frames) (hRl : 8 + (7 + 11) + lo ≤ R.locals) (hcs : cells ≤ R.cells ∧ slots ≤ R.slots) (hz : ls.size = nL) (hr8 : (rest.map fun v => v.category).sum ≤ 8) (hdg : decode cc pc = .ok (.invokevirtual index, 3)) {Q1 : ML → Prop} (h : w Q1 x1 x2 M L) (kk : ∀ (L1 : ML) (H1 : Heap) (locs1 : List Loc), Q1 L1 → mW E M L1 H1 → va_S A s.heap H1 locs1 → (∀ q : Nat, q < H.size → ¬ mAd E q → H1[q]? = H[q]?) → W p l e R s m args below meth c H1 locs1 cells slots Z (F0 m (pc + 3) ls (rest))) : W p l e R s m args below meth c H locs cells slots Z (F0 m pc ls (.int x2 :: .int x1 :: .ref (mh E) :: rest)) := by
  refine mw_v (sz := 0) (P := fun M1 L1 => M1 = M ∧ Q1 L1) (va_runV (As := [.int x1, .int x2]) (rest := rest) S (hM E M L H.size Q1 x1 x2) (cwV 2 S.2.2.2.2 (lw_V hlink q2053 qs35 q68 q2054) rfl rfl rfl (by decide +kernel) ⟨hRf, hRl⟩) ⟨fun a U g mk q => by obtain ⟨q0, q1, qW, qK, qw⟩ := q; exact ⟨q0, q1, qW, qK.moved (u := U) (U := U.calling g mk a) (Vm.Alike.refl U.vm), qw⟩, hW.recv (hK := hK), fun U hU hWm => ⟨rfl, by rw [hU], by rw [hU]; exact hW, hK.moved hWm.alike, h⟩⟩ rfl rfl hz rfl (lv_room hr8) hdg hcs) hS hA hAw (fun M1 L1 H1 locs1 hp hW1 hz hk hS1 => ?_)
  obtain ⟨rfl, hp⟩ := hp
  exact kk L1 H1 locs1 hp hW1 hS1 hk
def w_X3_mapBy_h15 (Q : ML → Prop) (x1 : Int32) (x2 : Int32) (x3 : Int32) (M : MM) (rec15 : Int32 → ML → Prop) (x4 : Int32) (L : ML) : Prop := if x3 ≤ x4 then (w_X3_valueOf (fun r1 => w_J13_floorDiv (fun r2 => w_X3_valueOf (fun r3 => mPl L 23 (r2 + (r3.toInt64)) (fun L4 => w_J13_floorDiv (fun r5 => w_X3_valueOf (fun r6 => mPl L4 24 (r5 + (r6.toInt64)) (fun L7 => Q L7)) x1 (1 : Int32) x2 M) ((L4 24) * (r1.toInt64)) (1000 : Int64))) x1 (0 : Int32) x2 M) ((L 23) * (r1.toInt64)) (1000 : Int64)) x1 (2 : Int32) x2 M) else (mPl L 23 (-(L 24)) (fun L8 => mPl L8 24 (L 23) (fun L9 => rec15 (x4 + (1 : Int32)) L9)))
def w_X3_mapBy_L15 (Q : ML → Prop) (x1 : Int32) (x2 : Int32) (x3 : Int32) (M : MM) (x4 : Int32) (L : ML) : Prop := wLoop (fun (rec : (Int32 × ML) → Prop) (s : Int32 × ML) => w_X3_mapBy_h15 Q x1 x2 x3 M (fun x4 L => rec (x4, L)) s.1 s.2) (x4, L)
def w_X3_mapBy (Q : ML → Prop) (x1 : Int32) (x2 : Int32) (M : MM) (L : ML) : Prop := w_X3_valueOf (fun r11 => w_J13_floorMod (fun r12 => w_X3_mapBy_L15 Q x1 x2 r12 M (0 : Int32) L) r11 (4 : Int32)) x1 (3 : Int32) x2 M
set_option maxRecDepth 100000 in
set_option maxHeartbeats 4000000 in
theorem wk_X3_mapBy {p : Program} {l : Launch} {e : Env} {R : Room} {s : State} {m : MethodId} {args : Array Value} {below : List Frame} {meth : Method} {c : Code} {cells slots : Nat} {Z : State → Prop} {A : Nat → Prop} {E : mE} (Q : ML → Prop) (C : mC p m c s args cX3_mapBy 7 E) (hA : ∀ q, s.heap.size ≤ q → A q) (hAw : ∀ q, mAd E q → A q) (hRf : 3 ≤ R.frames) (hRl : 76 ≤ R.locals) (hcs : cells ≤ R.cells ∧ slots ≤ R.slots) (M : MM) (L : ML) (hret : ∀ (L : ML) (pc : Nat) (ls : Array Slot) (H : Heap) (locs : List Loc), decode cX3_mapBy pc = .ok (.return_, 1) → va_S A s.heap H locs → mW E M L H → Q L → W p l e R s m args below meth c H locs cells slots Z (F0 m pc ls [])) (x1 : Int32) (x2 : Int32) : w_X3_mapBy Q x1 x2 M L → ∀ (ls : Array Slot) (H : Heap) (locs : List Loc), lv_has ls 7 [(0, .ref (mh E)), (1, .int x1), (2, .int x2)] → mW E M L H → va_S A s.heap H locs → W p l e R s m args below meth c H locs cells slots Z (F0 m 0 ls []) := by
  obtain ⟨⟨hx, hb, hml, hown, hts⟩, hK⟩ := C; have C : mC p m c s args cX3_mapBy 7 E := ⟨⟨hx, hb, hml, hown, hts⟩, hK⟩
  have hL15 : ∀ (x3 : Int32) (x4 : Int32) (L : ML), w_X3_mapBy_L15 Q x1 x2 x3 M x4 L → ∀ (ls : Array Slot) (H : Heap) (locs : List Loc), lv_has ls 7 [(0, .ref (mh E)), (1, .int x1), (2, .int x2), (3, .int x3), (4, .int x4)] → mW E M L H → va_S A s.heap H locs → W p l e R s m args below meth c H locs cells slots Z (F0 m 15 ls []) := by
    intro x3
    obtain ⟨G15, hG15⟩ : ∃ G : Int32 → ML → Prop, ∀ (x4 : Int32) (L : ML), G x4 L ↔ (∀ (ls : Array Slot) (H : Heap) (locs : List Loc), lv_has ls 7 [(0, .ref (mh E)), (1, .int x1), (2, .int x2), (3, .int x3), (4, .int x4)] → mW E M L H → va_S A s.heap H locs → W p l e R s m args below meth c H locs cells slots Z (F0 m 15 ls [])) := ⟨fun x4 L => _, fun x4 L => Iff.rfl⟩
    have hB15 : ∀ (rec15 : Int32 → ML → Prop), (∀ (x4 : Int32) (L : ML), rec15 x4 L → G15 x4 L) → ∀ (x4 : Int32) (L : ML), w_X3_mapBy_h15 Q x1 x2 x3 M rec15 x4 L → G15 x4 L := by
      intro rec15 hrec15
      intro x4 L h
      rw [hG15]
      intro ls H locs hl hW hS
      refine lv_iload hx hb dX3_mapBy_15 (lv_at hl 4 rfl) ?_
      refine lv_iload_n hx hb dX3_mapBy_17 rfl (lv_at hl 3 rfl) ?_
      refine lv_icmp_ge (tgt := 48) hx hb dX3_mapBy_18 (by decide) (fun c10 => ?_) (fun c10 => ?_)
      · have h := wif_t h c10
        refine lv_aload_n hx hb dX3_mapBy_48 rfl (lv_at hl 0 rfl) ?_
        refine lv_iload_n hx hb dX3_mapBy_49 rfl (lv_at hl 1 rfl) ?_
        refine lv_iconst (v := 2) hx hb dX3_mapBy_50 (by decide) ?_
        refine lv_iload_n hx hb dX3_mapBy_51 rfl (lv_at hl 2 rfl) ?_
        refine call_X3_valueOf (ct_X3_valueOf l) C.1 C.2 hW hS hA q2022 (le_lit hRf rfl) (le_lit hRl rfl) hcs hl.1 (Nat.le_of_ble_eq_true rfl) dX3_mapBy_52 h (fun r1 H locs h hk hS => ?_)
        have hW := hW.kept hk
        refine lv_i2l hx hb dX3_mapBy_55 rfl ?_
        refine lv_lstore (lv' := [(4, .long (r1.toInt64)), (0, .ref (mh E)), (1, .int x1), (2, .int x2), (3, .int x3)]) hx hb dX3_mapBy_56 hl (by decide) rfl (fun ls hl => ?_)
        refine lv_aload_n hx hb dX3_mapBy_58 rfl (lv_at hl 1 rfl) ?_
        refine lv_aload_n hx hb dX3_mapBy_59 rfl (lv_at hl 1 rfl) ?_
        refine mr_getJ C hW 23 rfl rfl q1826 dX3_mapBy_60 ?_
        refine lv_lload hx hb dX3_mapBy_63 (lv_at hl 0 rfl) ?_
        refine lv_lmul hx hb dX3_mapBy_65 ?_
        refine lv_ldc2 hx hb hown (hts _ q2056) dX3_mapBy_66 ?_
        refine call_J13_floorDiv (ct_J13_floorDiv l) C.1 hS hA q2057 (le_lit hRf rfl) (le_lit hRl rfl) hcs hl.1 (Nat.le_of_ble_eq_true rfl) dX3_mapBy_69 h (fun r2 H locs h hk hS => ?_)
        have hW := hW.kept hk
        refine lv_aload_n hx hb dX3_mapBy_72 rfl (lv_at hl 1 rfl) ?_
        refine lv_iload_n hx hb dX3_mapBy_73 rfl (lv_at hl 2 rfl) ?_
        refine lv_iconst (v := 0) hx hb dX3_mapBy_74 (by decide) ?_
        refine lv_iload_n hx hb dX3_mapBy_75 rfl (lv_at hl 3 rfl) ?_
        refine call_X3_valueOf (ct_X3_valueOf l) C.1 C.2 hW hS hA q2022 (le_lit hRf rfl) (le_lit hRl rfl) hcs hl.1 (Nat.le_of_ble_eq_true rfl) dX3_mapBy_76 h (fun r3 H locs h hk hS => ?_)
        have hW := hW.kept hk
        refine lv_i2l hx hb dX3_mapBy_79 rfl ?_
        refine lv_ladd hx hb dX3_mapBy_80 ?_
        refine mr_putJ C hW hS hAw 23 rfl rfl q1826 rfl (tyX3_ok 23 (by decide)) h dX3_mapBy_81 (fun L4 H locs hW hS h => ?_)
        refine lv_aload_n hx hb dX3_mapBy_84 rfl (lv_at hl 1 rfl) ?_
        refine lv_aload_n hx hb dX3_mapBy_85 rfl (lv_at hl 1 rfl) ?_
        refine mr_getJ C hW 24 rfl rfl q1827 dX3_mapBy_86 ?_
        refine lv_lload hx hb dX3_mapBy_89 (lv_at hl 0 rfl) ?_
        refine lv_lmul hx hb dX3_mapBy_91 ?_
        refine lv_ldc2 hx hb hown (hts _ q2056) dX3_mapBy_92 ?_
        refine call_J13_floorDiv (ct_J13_floorDiv l) C.1 hS hA q2057 (le_lit hRf rfl) (le_lit hRl rfl) hcs hl.1 (Nat.le_of_ble_eq_true rfl) dX3_mapBy_95 h (fun r5 H locs h hk hS => ?_)
        have hW := hW.kept hk
        refine lv_aload_n hx hb dX3_mapBy_98 rfl (lv_at hl 1 rfl) ?_
        refine lv_iload_n hx hb dX3_mapBy_99 rfl (lv_at hl 2 rfl) ?_
        refine lv_iconst (v := 1) hx hb dX3_mapBy_100 (by decide) ?_
        refine lv_iload_n hx hb dX3_mapBy_101 rfl (lv_at hl 3 rfl) ?_
        refine call_X3_valueOf (ct_X3_valueOf l) C.1 C.2 hW hS hA q2022 (le_lit hRf rfl) (le_lit hRl rfl) hcs hl.1 (Nat.le_of_ble_eq_true rfl) dX3_mapBy_102 h (fun r6 H locs h hk hS => ?_)
        have hW := hW.kept hk
        refine lv_i2l hx hb dX3_mapBy_105 rfl ?_
        refine lv_ladd hx hb dX3_mapBy_106 ?_
        refine mr_putJ C hW hS hAw 24 rfl rfl q1827 rfl (tyX3_ok 24 (by decide)) h dX3_mapBy_107 (fun L7 H locs hW hS h => ?_)
        exact hret _ _ _ _ _ dX3_mapBy_110 hS hW h
      · have h := wif_f h c10
        refine lv_aload_n hx hb dX3_mapBy_21 rfl (lv_at hl 0 rfl) ?_
        refine mr_getJ C hW 23 rfl rfl q1826 dX3_mapBy_22 ?_
        refine lv_lstore (lv' := [(5, .long (L 23)), (0, .ref (mh E)), (1, .int x1), (2, .int x2), (3, .int x3), (4, .int x4)]) hx hb dX3_mapBy_25 hl (by decide) rfl (fun ls hl => ?_)
        refine lv_aload_n hx hb dX3_mapBy_27 rfl (lv_at hl 1 rfl) ?_
        refine lv_aload_n hx hb dX3_mapBy_28 rfl (lv_at hl 1 rfl) ?_
        refine mr_getJ C hW 24 rfl rfl q1827 dX3_mapBy_29 ?_
        refine lv_lneg hx hb dX3_mapBy_32 ?_
        refine mr_putJ C hW hS hAw 23 rfl rfl q1826 rfl (tyX3_ok 23 (by decide)) h dX3_mapBy_33 (fun L8 H locs hW hS h => ?_)
        refine lv_aload_n hx hb dX3_mapBy_36 rfl (lv_at hl 1 rfl) ?_
        refine lv_lload hx hb dX3_mapBy_37 (lv_at hl 0 rfl) ?_
        refine mr_putJ C hW hS hAw 24 rfl rfl q1827 rfl (tyX3_ok 24 (by decide)) h dX3_mapBy_39 (fun L9 H locs hW hS h => ?_)
        refine lv_iinc (v := x4 + (1 : Int32)) (lv' := [(4, .int (x4 + (1 : Int32))), (5, .long (L 23)), (0, .ref (mh E)), (1, .int x1), (2, .int x2), (3, .int x3)]) hx hb dX3_mapBy_42 hl (k := 5) rfl (congrArg (fun z => x4 + z) (by decide)) (by decide) rfl (fun ls hl => ?_)
        refine lv_goto (tgt := 15) hx hb dX3_mapBy_45 (by decide) ?_
        exact (hG15 _ _).mp (hrec15 _ _ h) ls H locs (lv_sub hl [2, 3, 4, 5, 0] rfl) hW hS
    intro x4 L h
    exact (hG15 x4 L).mp (loop_walk (fun s => G15 s.1 s.2) (fun rec hrec s h => hB15 (fun x4 L => rec (x4, L)) (fun x4 L h => hrec (x4, L) h) s.1 s.2 h) (x4, L) h)
  intro h
  intro ls H locs hl hW hS
  refine lv_aload_n hx hb dX3_mapBy_0 rfl (lv_at hl 0 rfl) ?_
  refine lv_iload_n hx hb dX3_mapBy_1 rfl (lv_at hl 1 rfl) ?_
  refine lv_iconst (v := 3) hx hb dX3_mapBy_2 (by decide) ?_
  refine lv_iload_n hx hb dX3_mapBy_3 rfl (lv_at hl 2 rfl) ?_
  refine call_X3_valueOf (ct_X3_valueOf l) C.1 C.2 hW hS hA q2022 (le_lit hRf rfl) (le_lit hRl rfl) hcs hl.1 (Nat.le_of_ble_eq_true rfl) dX3_mapBy_4 h (fun r11 H locs h hk hS => ?_)
  have hW := hW.kept hk
  refine lv_iconst (v := 4) hx hb dX3_mapBy_7 (by decide) ?_
  refine call_J13_floorMod (ct_J13_floorMod l) C.1 hS hA q2055 (le_lit hRf rfl) (le_lit hRl rfl) hcs hl.1 (Nat.le_of_ble_eq_true rfl) dX3_mapBy_8 h (fun r12 H locs h hk hS => ?_)
  have hW := hW.kept hk
  refine lv_istore_n (lv' := [(3, .int r12), (0, .ref (mh E)), (1, .int x1), (2, .int x2)]) hx hb dX3_mapBy_11 rfl hl (by decide) rfl (fun ls hl => ?_)
  refine lv_iconst (v := 0) hx hb dX3_mapBy_12 (by decide) ?_
  refine lv_istore (lv' := [(4, .int (0 : Int32)), (3, .int r12), (0, .ref (mh E)), (1, .int x1), (2, .int x2)]) hx hb dX3_mapBy_13 hl (by decide) rfl (fun ls hl => ?_)
  exact hL15 _ _ _ h ls H locs (lv_sub hl [2, 3, 4, 1, 0] rfl) hW hS
theorem ct_X3_mapBy (l : Launch) : CT_X3_mapBy l 3 76 w_X3_mapBy := by
  intro E M L sz Q x1 x2
  refine Met.ofW (cc := cX3_mapBy) (maxL := 7) (ret := none) (by decide) rfl ?_
  intro p e s m args below meth c s₁ B hml hv
  obtain ⟨rfl, hsz, hW, hK, h⟩ := hv
  subst hsz
  have hts := atoms_spec (ws := ws_ yX3_mapBy cX3_mapBy 7 none) B.pre
  have hts : ∀ w ∈ lw_all, w.before _ s = true := fun w h => hts w (List.mem_cons_of_mem _ h)
  have hl := lv_entry ([.ref (mh E), .int x1, .int x2]) (n := 7) (Nat.le_of_ble_eq_true rfl)
  rw [lg_entry_eq]
  generalize (lg_sl ([.ref (mh E), .int x1, .int x2]) ++ List.replicate (7 - (lg_sl ([.ref (mh E), .int x1, .int x2])).length) Slot.unset).toArray = ls at hl ⊢
  exact wk_X3_mapBy Q ⟨⟨B.exec, B.bytes, hml, findClass_of_methodNamed B.named, hts⟩, hK⟩ (fun q h => Or.inr h) (fun q h => Or.inl h) (Nat.le_refl _) (Nat.le_refl _) ⟨Nat.le_refl _, Nat.le_refl _⟩ M L (fun L pc ls H locs hd hS hW1 hQ => W.vret B.exec B.bytes B.returns (fun t ht _ => ⟨⟨(M, L), rfl, ⟨rfl, hQ⟩, by rw [← ht] at hW1; exact hW1⟩, hS.F ht⟩) hS.2.2 hd) x1 x2 h ls _ [] hl hW va_S.rf
def CT_X3_mapUp (l : Launch) (fr lo : Nat) (w : (ML → Prop) → Int32 → Int32 → MM → ML → Prop) : Prop := ∀ (E : mE) (M : MM) (L : ML) (sz : Nat) (Q : ML → Prop) (x1 : Int32) (x2 : Int32), Met l yX3_mapUp (ws_ yX3_mapUp cX3_mapUp 4 none) { frames := fr, cells := 0, slots := 0, locals := lo } (va_Pc [.ref (mh E), .int x1, .int x2] (fun U => U.heap.size = sz ∧ mW E M L U.heap ∧ mK E U ∧ w Q x1 x2 M L)) (va_Qv (fun (u : MM × ML) => u.1 = M ∧ Q u.2) (fun u t => mW E u.1 u.2 t.heap) (mA E sz)) 0 0 (mA E sz)
theorem call_X3_mapUp {p : Program} {l : Launch} {e : Env} {R : Room} {s : State} {m : MethodId} {args : Array Value} {below : List Frame} {meth : Method} {c : Code} {H : Heap} {locs : List Loc} {cells slots : Nat} {Z : State → Prop} {A : Nat → Prop} {cc : ByteArray} {nL pc : Nat} {ls : Array Slot} {rest : List Value} {own : String} {index fr lo : Nat} {w : (ML → Prop) → Int32 → Int32 → MM → ML → Prop} {E : mE} {M : MM} {L : ML} {x1 : Int32} {x2 : Int32} (hM : CT_X3_mapUp l fr lo w) (S : CallFix p m c cc nL s args lw_all own) (hK : mK E s) (hW : mW E M L H) (hS : va_S A s.heap H locs) (hA : ∀ q, s.heap.size ≤ q → A q) (hAw : ∀ q, mAd E q → A q) (hlink : Cond.methodLink own index yX3_mapUp ∈ lw_all) (hRf : fr + 1 ≤ R.frames) (hRl : 8 + (4 + 11) + lo ≤ R.locals) (hcs : cells ≤ R.cells ∧ slots ≤ R.slots) (hz : ls.size = nL) (hr8 : (rest.map fun v => v.category).sum ≤ 8) (hdg : decode cc pc = .ok (.invokevirtual index, 3)) {Q1 : ML → Prop} (h : w Q1 x1 x2 M L) (kk : ∀ (L1 : ML) (H1 : Heap) (locs1 : List Loc), Q1 L1 → mW E M L1 H1 → va_S A s.heap H1 locs1 → (∀ q : Nat, q < H.size → ¬ mAd E q → H1[q]? = H[q]?) → W p l e R s m args below meth c H1 locs1 cells slots Z (F0 m (pc + 3) ls (rest))) : W p l e R s m args below meth c H locs cells slots Z (F0 m pc ls (.int x2 :: .int x1 :: .ref (mh E) :: rest)) := by
  refine mw_v (sz := 0) (P := fun M1 L1 => M1 = M ∧ Q1 L1) (va_runV (As := [.int x1, .int x2]) (rest := rest) S (hM E M L H.size Q1 x1 x2) (cwV 2 S.2.2.2.2 (lw_V hlink q2049 qs34 q68 q2050) rfl rfl rfl (by decide +kernel) ⟨hRf, hRl⟩) ⟨fun a U g mk q => by obtain ⟨q0, q1, qW, qK, qw⟩ := q; exact ⟨q0, q1, qW, qK.moved (u := U) (U := U.calling g mk a) (Vm.Alike.refl U.vm), qw⟩, hW.recv (hK := hK), fun U hU hWm => ⟨rfl, by rw [hU], by rw [hU]; exact hW, hK.moved hWm.alike, h⟩⟩ rfl rfl hz rfl (lv_room hr8) hdg hcs) hS hA hAw (fun M1 L1 H1 locs1 hp hW1 hz hk hS1 => ?_)
  obtain ⟨rfl, hp⟩ := hp
  exact kk L1 H1 locs1 hp hW1 hS1 hk
def w_X3_mapUp_h2 (Q : ML → Prop) (x2 : Int32) (M : MM) (rec2 : Int32 → ML → Prop) (x3 : Int32) (L : ML) : Prop := if x3 = (-1 : Int32) then (Q L) else (w_X3_mapBy (fun L1 => mRd (M 9) 12 x3 (fun v2 => rec2 v2 L1)) x3 x2 M L)
def w_X3_mapUp_L2 (Q : ML → Prop) (x2 : Int32) (M : MM) (x3 : Int32) (L : ML) : Prop := wLoop (fun (rec : (Int32 × ML) → Prop) (s : Int32 × ML) => w_X3_mapUp_h2 Q x2 M (fun x3 L => rec (x3, L)) s.1 s.2) (x3, L)
def w_X3_mapUp (Q : ML → Prop) (x1 : Int32) (x2 : Int32) (M : MM) (L : ML) : Prop := w_X3_mapUp_L2 Q x2 M x1 L
set_option maxRecDepth 100000 in
set_option maxHeartbeats 4000000 in
theorem wk_X3_mapUp {p : Program} {l : Launch} {e : Env} {R : Room} {s : State} {m : MethodId} {args : Array Value} {below : List Frame} {meth : Method} {c : Code} {cells slots : Nat} {Z : State → Prop} {A : Nat → Prop} {E : mE} (Q : ML → Prop) (C : mC p m c s args cX3_mapUp 4 E) (hA : ∀ q, s.heap.size ≤ q → A q) (hAw : ∀ q, mAd E q → A q) (hRf : 4 ≤ R.frames) (hRl : 102 ≤ R.locals) (hcs : cells ≤ R.cells ∧ slots ≤ R.slots) (M : MM) (L : ML) (hret : ∀ (L : ML) (pc : Nat) (ls : Array Slot) (H : Heap) (locs : List Loc), decode cX3_mapUp pc = .ok (.return_, 1) → va_S A s.heap H locs → mW E M L H → Q L → W p l e R s m args below meth c H locs cells slots Z (F0 m pc ls [])) (x1 : Int32) (x2 : Int32) : w_X3_mapUp Q x1 x2 M L → ∀ (ls : Array Slot) (H : Heap) (locs : List Loc), lv_has ls 4 [(0, .ref (mh E)), (1, .int x1), (2, .int x2)] → mW E M L H → va_S A s.heap H locs → W p l e R s m args below meth c H locs cells slots Z (F0 m 0 ls []) := by
  obtain ⟨⟨hx, hb, hml, hown, hts⟩, hK⟩ := C; have C : mC p m c s args cX3_mapUp 4 E := ⟨⟨hx, hb, hml, hown, hts⟩, hK⟩
  have hL2 : ∀ (x3 : Int32) (L : ML), w_X3_mapUp_L2 Q x2 M x3 L → ∀ (ls : Array Slot) (H : Heap) (locs : List Loc), lv_has ls 4 [(0, .ref (mh E)), (2, .int x2), (3, .int x3)] → mW E M L H → va_S A s.heap H locs → W p l e R s m args below meth c H locs cells slots Z (F0 m 2 ls []) := by
    obtain ⟨G2, hG2⟩ : ∃ G : Int32 → ML → Prop, ∀ (x3 : Int32) (L : ML), G x3 L ↔ (∀ (ls : Array Slot) (H : Heap) (locs : List Loc), lv_has ls 4 [(0, .ref (mh E)), (2, .int x2), (3, .int x3)] → mW E M L H → va_S A s.heap H locs → W p l e R s m args below meth c H locs cells slots Z (F0 m 2 ls [])) := ⟨fun x3 L => _, fun x3 L => Iff.rfl⟩
    have hB2 : ∀ (rec2 : Int32 → ML → Prop), (∀ (x3 : Int32) (L : ML), rec2 x3 L → G2 x3 L) → ∀ (x3 : Int32) (L : ML), w_X3_mapUp_h2 Q x2 M rec2 x3 L → G2 x3 L := by
      intro rec2 hrec2
      intro x3 L h
      rw [hG2]
      intro ls H locs hl hW hS
      refine lv_iload_n hx hb dX3_mapUp_2 rfl (lv_at hl 2 rfl) ?_
      refine lv_iconst (v := -1) hx hb dX3_mapUp_3 (by decide) ?_
      refine lv_icmp_eq (tgt := 23) hx hb dX3_mapUp_4 (by decide) (fun c3 => ?_) (fun c3 => ?_)
      · have h := wif_t h c3
        exact hret _ _ _ _ _ dX3_mapUp_23 hS hW h
      · have h := wif_f h c3
        refine lv_aload_n hx hb dX3_mapUp_7 rfl (lv_at hl 0 rfl) ?_
        refine lv_iload_n hx hb dX3_mapUp_8 rfl (lv_at hl 2 rfl) ?_
        refine lv_iload_n hx hb dX3_mapUp_9 rfl (lv_at hl 1 rfl) ?_
        refine call_X3_mapBy (ct_X3_mapBy l) C.1 C.2 hW hS hA hAw q2051 (le_lit hRf rfl) (le_lit hRl rfl) hcs hl.1 (Nat.le_of_ble_eq_true rfl) dX3_mapUp_10 h (fun L1 H locs h hW hS _ => ?_)
        refine lv_aload_n hx hb dX3_mapUp_13 rfl (lv_at hl 0 rfl) ?_
        refine mr_getA C hW 9 rfl rfl q1812 dX3_mapUp_14 ?_
        refine lv_iload_n hx hb dX3_mapUp_17 rfl (lv_at hl 2 rfl) ?_
        refine mr_iald C hW 9 rfl rfl rfl h dX3_mapUp_18 (fun v2 h => ?_)
        refine lv_istore_n (lv' := [(3, .int v2), (0, .ref (mh E)), (2, .int x2)]) hx hb dX3_mapUp_19 rfl hl (by decide) rfl (fun ls hl => ?_)
        refine lv_goto (tgt := 2) hx hb dX3_mapUp_20 (by decide) ?_
        exact (hG2 _ _).mp (hrec2 _ _ h) ls H locs (lv_sub hl [1, 2, 0] rfl) hW hS
    intro x3 L h
    exact (hG2 x3 L).mp (loop_walk (fun s => G2 s.1 s.2) (fun rec hrec s h => hB2 (fun x3 L => rec (x3, L)) (fun x3 L h => hrec (x3, L) h) s.1 s.2 h) (x3, L) h)
  intro h
  intro ls H locs hl hW hS
  refine lv_iload_n hx hb dX3_mapUp_0 rfl (lv_at hl 1 rfl) ?_
  refine lv_istore_n (lv' := [(3, .int x1), (0, .ref (mh E)), (1, .int x1), (2, .int x2)]) hx hb dX3_mapUp_1 rfl hl (by decide) rfl (fun ls hl => ?_)
  exact hL2 _ _ h ls H locs (lv_sub hl [1, 3, 0] rfl) hW hS
theorem ct_X3_mapUp (l : Launch) : CT_X3_mapUp l 4 102 w_X3_mapUp := by
  intro E M L sz Q x1 x2
  refine Met.ofW (cc := cX3_mapUp) (maxL := 4) (ret := none) (by decide) rfl ?_
  intro p e s m args below meth c s₁ B hml hv
  obtain ⟨rfl, hsz, hW, hK, h⟩ := hv
  subst hsz
  have hts := atoms_spec (ws := ws_ yX3_mapUp cX3_mapUp 4 none) B.pre
  have hts : ∀ w ∈ lw_all, w.before _ s = true := fun w h => hts w (List.mem_cons_of_mem _ h)
  have hl := lv_entry ([.ref (mh E), .int x1, .int x2]) (n := 4) (Nat.le_of_ble_eq_true rfl)
  rw [lg_entry_eq]
  generalize (lg_sl ([.ref (mh E), .int x1, .int x2]) ++ List.replicate (4 - (lg_sl ([.ref (mh E), .int x1, .int x2])).length) Slot.unset).toArray = ls at hl ⊢
  exact wk_X3_mapUp Q ⟨⟨B.exec, B.bytes, hml, findClass_of_methodNamed B.named, hts⟩, hK⟩ (fun q h => Or.inr h) (fun q h => Or.inl h) (Nat.le_refl _) (Nat.le_refl _) ⟨Nat.le_refl _, Nat.le_refl _⟩ M L (fun L pc ls H locs hd hS hW1 hQ => W.vret B.exec B.bytes B.returns (fun t ht _ => ⟨⟨(M, L), rfl, ⟨rfl, hQ⟩, by rw [← ht] at hW1; exact hW1⟩, hS.F ht⟩) hS.2.2 hd) x1 x2 h ls _ [] hl hW va_S.rf
def CT_X3_map (l : Launch) (fr lo : Nat) (w : (Int64 → MM → ML → Prop) → Int32 → Int32 → Int32 → Int32 → Int32 → MM → ML → Prop) : Prop := ∀ (E : mE) (M : MM) (L : ML) (sz : Nat) (Q : Int64 → MM → ML → Prop) (x1 : Int32) (x2 : Int32) (x3 : Int32) (x4 : Int32) (x5 : Int32), Met l yX3_map (ws_ yX3_map cX3_map 7 (some .long)) { frames := fr, cells := 0, slots := 0, locals := lo } (va_Pc [.ref (mh E), .int x1, .int x2, .int x3, .int x4, .int x5] (fun U => U.heap.size = sz ∧ mW E M L U.heap ∧ mK E U ∧ w Q x1 x2 x3 x4 x5 M L)) (va_Ql (fun r (u : MM × ML) => Q r u.1 u.2) (fun u t => mW E u.1 u.2 t.heap) (mA E sz)) 0 0 (mA E sz)
theorem call_X3_map {p : Program} {l : Launch} {e : Env} {R : Room} {s : State} {m : MethodId} {args : Array Value} {below : List Frame} {meth : Method} {c : Code} {H : Heap} {locs : List Loc} {cells slots : Nat} {Z : State → Prop} {A : Nat → Prop} {cc : ByteArray} {nL pc : Nat} {ls : Array Slot} {rest : List Value} {own : String} {index fr lo : Nat} {w : (Int64 → MM → ML → Prop) → Int32 → Int32 → Int32 → Int32 → Int32 → MM → ML → Prop} {E : mE} {M : MM} {L : ML} {x1 : Int32} {x2 : Int32} {x3 : Int32} {x4 : Int32} {x5 : Int32} (hM : CT_X3_map l fr lo w) (S : CallFix p m c cc nL s args lw_all own) (hK : mK E s) (hW : mW E M L H) (hS : va_S A s.heap H locs) (hA : ∀ q, s.heap.size ≤ q → A q) (hAw : ∀ q, mAd E q → A q) (hlink : Cond.methodLink own index yX3_map ∈ lw_all) (hRf : fr + 1 ≤ R.frames) (hRl : 8 + (7 + 11) + lo ≤ R.locals) (hcs : cells ≤ R.cells ∧ slots ≤ R.slots) (hz : ls.size = nL) (hr8 : (rest.map fun v => v.category).sum ≤ 8) (hdg : decode cc pc = .ok (.invokevirtual index, 3)) {Q1 : Int64 → MM → ML → Prop} (h : w Q1 x1 x2 x3 x4 x5 M L) (kk : ∀ (r : Int64) (M1 : MM) (L1 : ML) (H1 : Heap) (locs1 : List Loc), Q1 r M1 L1 → mW E M1 L1 H1 → va_S A s.heap H1 locs1 → (∀ q : Nat, q < H.size → ¬ mAd E q → H1[q]? = H[q]?) → W p l e R s m args below meth c H1 locs1 cells slots Z (F0 m (pc + 3) ls (.long r :: rest))) : W p l e R s m args below meth c H locs cells slots Z (F0 m pc ls (.int x5 :: .int x4 :: .int x3 :: .int x2 :: .int x1 :: .ref (mh E) :: rest)) := by
  refine mw_l (sz := 0) (P := fun r M1 L1 => Q1 r M1 L1) (va_runV (As := [.int x1, .int x2, .int x3, .int x4, .int x5]) (rest := rest) S (hM E M L H.size Q1 x1 x2 x3 x4 x5) (cwV 5 S.2.2.2.2 (lw_V hlink q2040 q2041 q68 q2042) rfl rfl rfl (by decide +kernel) ⟨hRf, hRl⟩) ⟨fun a U g mk q => by obtain ⟨q0, q1, qW, qK, qw⟩ := q; exact ⟨q0, q1, qW, qK.moved (u := U) (U := U.calling g mk a) (Vm.Alike.refl U.vm), qw⟩, hW.recv (hK := hK), fun U hU hWm => ⟨rfl, by rw [hU], by rw [hU]; exact hW, hK.moved hWm.alike, h⟩⟩ rfl rfl hz rfl (lv_room hr8) hdg hcs) hS hA hAw (fun r M1 L1 H1 locs1 hp hW1 hz hk hS1 => ?_)
  exact kk r M1 L1 H1 locs1 hp hW1 hS1 hk
def w_X3_map_35 (Q : Int64 → MM → ML → Prop) (x1 : Int32) (x2 : Int32) (x3 : Int32) (x4 : Int32) (x5 : Int32) (y0 : Int32) (M : MM) (L : ML) : Prop := w_X3_isLayer (fun r1 => w_X3_check (fun r2 M3 => if r2 = 0 then (Q (0 : Int64) M3 L) else (w_X3_begin (fun L4 => w_X3_mapUp (fun L5 => if x5 = 0 then (Q (L5 23) M3 L5) else (Q (L5 24) M3 L5)) x1 x2 M3 L4) (x3.toInt64) (x4.toInt64) L)) r1 y0 (1 : Int32) M) x1 M
def w_X3_map_34 (Q : Int64 → MM → ML → Prop) (x1 : Int32) (x2 : Int32) (x3 : Int32) (x4 : Int32) (x5 : Int32) (M : MM) (L : ML) : Prop := w_X3_map_35 Q x1 x2 x3 x4 x5 (0 : Int32) M L
def w_X3_map (Q : Int64 → MM → ML → Prop) (x1 : Int32) (x2 : Int32) (x3 : Int32) (x4 : Int32) (x5 : Int32) (M : MM) (L : ML) : Prop := w_X3_isTime (fun r8 => if r8 = 0 then (w_X3_map_34 Q x1 x2 x3 x4 x5 M L) else (w_X3_isWithin (fun r9 => if r9 = 0 then (w_X3_map_34 Q x1 x2 x3 x4 x5 M L) else (w_X3_isWithin (fun r10 => if r10 = 0 then (w_X3_map_34 Q x1 x2 x3 x4 x5 M L) else (w_X3_map_35 Q x1 x2 x3 x4 x5 (1 : Int32) M L)) x4 (-99999 : Int32) (99999 : Int32))) x3 (-99999 : Int32) (99999 : Int32))) x2
set_option maxRecDepth 100000 in
set_option maxHeartbeats 4000000 in
theorem wk_X3_map {p : Program} {l : Launch} {e : Env} {R : Room} {s : State} {m : MethodId} {args : Array Value} {below : List Frame} {meth : Method} {c : Code} {cells slots : Nat} {Z : State → Prop} {A : Nat → Prop} {E : mE} (Q : Int64 → MM → ML → Prop) (C : mC p m c s args cX3_map 7 E) (hA : ∀ q, s.heap.size ≤ q → A q) (hAw : ∀ q, mAd E q → A q) (hRf : 5 ≤ R.frames) (hRl : 125 ≤ R.locals) (hcs : cells ≤ R.cells ∧ slots ≤ R.slots) (M : MM) (L : ML) (hret : ∀ (v : Int64) (M : MM) (L : ML) (pc : Nat) (ls : Array Slot) (H : Heap) (locs : List Loc), decode cX3_map pc = .ok (.lreturn, 1) → va_S A s.heap H locs → mW E M L H → Q v M L → W p l e R s m args below meth c H locs cells slots Z (F0 m pc ls [.long v])) (x1 : Int32) (x2 : Int32) (x3 : Int32) (x4 : Int32) (x5 : Int32) : w_X3_map Q x1 x2 x3 x4 x5 M L → ∀ (ls : Array Slot) (H : Heap) (locs : List Loc), lv_has ls 7 [(0, .ref (mh E)), (1, .int x1), (2, .int x2), (3, .int x3), (4, .int x4), (5, .int x5)] → mW E M L H → va_S A s.heap H locs → W p l e R s m args below meth c H locs cells slots Z (F0 m 0 ls []) := by
  obtain ⟨⟨hx, hb, hml, hown, hts⟩, hK⟩ := C; have C : mC p m c s args cX3_map 7 E := ⟨⟨hx, hb, hml, hown, hts⟩, hK⟩
  have hb35 : ∀ (y0 : Int32) (M : MM) (L : ML), w_X3_map_35 Q x1 x2 x3 x4 x5 y0 M L → ∀ (ls : Array Slot) (H : Heap) (locs : List Loc), lv_has ls 7 [(0, .ref (mh E)), (1, .int x1), (2, .int x2), (3, .int x3), (4, .int x4), (5, .int x5)] → mW E M L H → va_S A s.heap H locs → W p l e R s m args below meth c H locs cells slots Z (F0 m 35 ls [.int y0]) := by
    intro y0 M L h
    intro ls H locs hl hW hS
    refine lv_istore (lv' := [(6, .int y0), (0, .ref (mh E)), (1, .int x1), (2, .int x2), (3, .int x3), (4, .int x4), (5, .int x5)]) hx hb dX3_map_35 hl (by decide) rfl (fun ls hl => ?_)
    refine lv_aload_n hx hb dX3_map_37 rfl (lv_at hl 1 rfl) ?_
    refine lv_aload_n hx hb dX3_map_38 rfl (lv_at hl 1 rfl) ?_
    refine lv_iload_n hx hb dX3_map_39 rfl (lv_at hl 2 rfl) ?_
    refine call_X3_isLayer (ct_X3_isLayer l) C.1 C.2 hW hS hA q1938 (le_lit hRf rfl) (le_lit hRl rfl) hcs hl.1 (Nat.le_of_ble_eq_true rfl) dX3_map_40 h (fun r1 H locs h hk hS => ?_)
    have hW := hW.kept hk
    refine lv_iload hx hb dX3_map_43 (lv_at hl 0 rfl) ?_
    refine lv_iconst (v := 1) hx hb dX3_map_45 (by decide) ?_
    refine call_X3_check (ct_X3_check l) C.1 C.2 hW hS hA hAw q1907 (le_lit hRf rfl) (le_lit hRl rfl) hcs hl.1 (Nat.le_of_ble_eq_true rfl) dX3_map_46 h (fun r2 M3 H locs h hW hS _ => ?_)
    refine lv_if_ne (tgt := 54) hx hb dX3_map_49 (by decide) (fun c7 => ?_) (fun c7 => ?_)
    · have h := wif_f h c7
      refine lv_aload_n hx hb dX3_map_54 rfl (lv_at hl 1 rfl) ?_
      refine lv_iload_n hx hb dX3_map_55 rfl (lv_at hl 4 rfl) ?_
      refine lv_i2l hx hb dX3_map_56 rfl ?_
      refine lv_iload hx hb dX3_map_57 (lv_at hl 5 rfl) ?_
      refine lv_i2l hx hb dX3_map_59 rfl ?_
      refine call_X3_begin (ct_X3_begin l) C.1 C.2 hW hS hA hAw q2043 (le_lit hRf rfl) (le_lit hRl rfl) hcs hl.1 (Nat.le_of_ble_eq_true rfl) dX3_map_60 h (fun L4 H locs h hW hS _ => ?_)
      refine lv_aload_n hx hb dX3_map_63 rfl (lv_at hl 1 rfl) ?_
      refine lv_iload_n hx hb dX3_map_64 rfl (lv_at hl 2 rfl) ?_
      refine lv_iload_n hx hb dX3_map_65 rfl (lv_at hl 3 rfl) ?_
      refine call_X3_mapUp (ct_X3_mapUp l) C.1 C.2 hW hS hA hAw q2047 (le_lit hRf rfl) (le_lit hRl rfl) hcs hl.1 (Nat.le_of_ble_eq_true rfl) dX3_map_66 h (fun L5 H locs h hW hS _ => ?_)
      refine lv_iload hx hb dX3_map_69 (lv_at hl 6 rfl) ?_
      refine lv_if_eq (tgt := 81) hx hb dX3_map_71 (by decide) (fun c6 => ?_) (fun c6 => ?_)
      · have h := wif_t h c6
        refine lv_aload_n hx hb dX3_map_81 rfl (lv_at hl 1 rfl) ?_
        refine mr_getJ C hW 23 rfl rfl q1826 dX3_map_82 ?_
        exact hret _ _ _ _ _ _ _ dX3_map_85 hS hW h
      · have h := wif_f h c6
        refine lv_aload_n hx hb dX3_map_74 rfl (lv_at hl 1 rfl) ?_
        refine mr_getJ C hW 24 rfl rfl q1827 dX3_map_75 ?_
        refine lv_goto (tgt := 85) hx hb dX3_map_78 (by decide) ?_
        exact hret _ _ _ _ _ _ _ dX3_map_85 hS hW h
    · have h := wif_t h c7
      refine lv_lconst (v := 0) hx hb dX3_map_52 (by decide) ?_
      exact hret _ _ _ _ _ _ _ dX3_map_53 hS hW h
  have hb34 : ∀ (M : MM) (L : ML), w_X3_map_34 Q x1 x2 x3 x4 x5 M L → ∀ (ls : Array Slot) (H : Heap) (locs : List Loc), lv_has ls 7 [(0, .ref (mh E)), (1, .int x1), (2, .int x2), (3, .int x3), (4, .int x4), (5, .int x5)] → mW E M L H → va_S A s.heap H locs → W p l e R s m args below meth c H locs cells slots Z (F0 m 34 ls []) := by
    intro M L h
    intro ls H locs hl hW hS
    refine lv_iconst (v := 0) hx hb dX3_map_34 (by decide) ?_
    exact hb35 _ _ _ h ls H locs (lv_sub hl [0, 1, 2, 3, 4, 5] rfl) hW hS
  intro h
  intro ls H locs hl hW hS
  refine lv_iload_n hx hb dX3_map_0 rfl (lv_at hl 2 rfl) ?_
  refine call_X3_isTime (ct_X3_isTime l) C.1 hS hA q1990 (le_lit hRf rfl) (le_lit hRl rfl) hcs hl.1 (Nat.le_of_ble_eq_true rfl) dX3_map_1 h (fun r8 H locs h hk hS => ?_)
  have hW := hW.kept hk
  refine lv_if_eq (tgt := 34) hx hb dX3_map_4 (by decide) (fun c13 => ?_) (fun c13 => ?_)
  · have h := wif_t h c13
    exact hb34 _ _ h ls H locs (lv_sub hl [0, 1, 2, 3, 4, 5] rfl) hW hS
  · have h := wif_f h c13
    refine lv_iload_n hx hb dX3_map_7 rfl (lv_at hl 3 rfl) ?_
    refine lv_ldc hx hb hown (hts _ q2000) dX3_map_8 ?_
    refine lv_ldc hx hb hown (hts _ q2001) dX3_map_10 ?_
    refine call_X3_isWithin (ct_X3_isWithin l) C.1 hS hA q1915 (le_lit hRf rfl) (le_lit hRl rfl) hcs hl.1 (Nat.le_of_ble_eq_true rfl) dX3_map_12 h (fun r9 H locs h hk hS => ?_)
    have hW := hW.kept hk
    refine lv_if_eq (tgt := 34) hx hb dX3_map_15 (by decide) (fun c12 => ?_) (fun c12 => ?_)
    · have h := wif_t h c12
      exact hb34 _ _ h ls H locs (lv_sub hl [0, 1, 2, 3, 4, 5] rfl) hW hS
    · have h := wif_f h c12
      refine lv_iload hx hb dX3_map_18 (lv_at hl 4 rfl) ?_
      refine lv_ldc hx hb hown (hts _ q2000) dX3_map_20 ?_
      refine lv_ldc hx hb hown (hts _ q2001) dX3_map_22 ?_
      refine call_X3_isWithin (ct_X3_isWithin l) C.1 hS hA q1915 (le_lit hRf rfl) (le_lit hRl rfl) hcs hl.1 (Nat.le_of_ble_eq_true rfl) dX3_map_24 h (fun r10 H locs h hk hS => ?_)
      have hW := hW.kept hk
      refine lv_if_eq (tgt := 34) hx hb dX3_map_27 (by decide) (fun c11 => ?_) (fun c11 => ?_)
      · have h := wif_t h c11
        exact hb34 _ _ h ls H locs (lv_sub hl [0, 1, 2, 3, 4, 5] rfl) hW hS
      · have h := wif_f h c11
        refine lv_iconst (v := 1) hx hb dX3_map_30 (by decide) ?_
        refine lv_goto (tgt := 35) hx hb dX3_map_31 (by decide) ?_
        exact hb35 _ _ _ h ls H locs (lv_sub hl [0, 1, 2, 3, 4, 5] rfl) hW hS
theorem ct_X3_map (l : Launch) : CT_X3_map l 5 125 w_X3_map := by
  intro E M L sz Q x1 x2 x3 x4 x5
  refine Met.ofW (cc := cX3_map) (maxL := 7) (ret := (some .long)) (by decide) rfl ?_
  intro p e s m args below meth c s₁ B hml hv
  obtain ⟨rfl, hsz, hW, hK, h⟩ := hv
  subst hsz
  have hts := atoms_spec (ws := ws_ yX3_map cX3_map 7 (some .long)) B.pre
  have hts : ∀ w ∈ lw_all, w.before _ s = true := fun w h => hts w (List.mem_cons_of_mem _ h)
  have hl := lv_entry ([.ref (mh E), .int x1, .int x2, .int x3, .int x4, .int x5]) (n := 7) (Nat.le_of_ble_eq_true rfl)
  rw [lg_entry_eq]
  generalize (lg_sl ([.ref (mh E), .int x1, .int x2, .int x3, .int x4, .int x5]) ++ List.replicate (7 - (lg_sl ([.ref (mh E), .int x1, .int x2, .int x3, .int x4, .int x5])).length) Slot.unset).toArray = ls at hl ⊢
  exact wk_X3_map Q ⟨⟨B.exec, B.bytes, hml, findClass_of_methodNamed B.named, hts⟩, hK⟩ (fun q h => Or.inr h) (fun q h => Or.inl h) (Nat.le_refl _) (Nat.le_refl _) ⟨Nat.le_refl _, Nat.le_refl _⟩ M L (fun v M L pc ls H locs hd hS hW1 hQ => W.lret (v := v) B.exec B.bytes B.returns (fun t ht _ => ⟨⟨v, (M, L), rfl, hQ, by rw [← ht] at hW1; exact hW1⟩, hS.F ht⟩) hS.2.2 hd) x1 x2 x3 x4 x5 h ls _ [] hl hW va_S.rf
def CT_X3_partLength (l : Launch) (fr lo : Nat) (w : (Int32 → Prop) → Int32 → Int32 → MM → Prop) : Prop := ∀ (E : mE) (M : MM) (L : ML) (sz : Nat) (Q : Int32 → Prop) (x1 : Int32) (x2 : Int32), Met l yX3_partLength (ws_ yX3_partLength cX3_partLength 4 (some .int)) { frames := fr, cells := 0, slots := 0, locals := lo } (va_Pc [.ref (mh E), .int x1, .int x2] (fun U => U.heap.size = sz ∧ mW E M L U.heap ∧ mK E U ∧ w Q x1 x2 M)) (va_Qi (fun r (_ : Unit) => Q r) (fun _ _ => True) (mN sz)) 0 0 (mN sz)
theorem call_X3_partLength {p : Program} {l : Launch} {e : Env} {R : Room} {s : State} {m : MethodId} {args : Array Value} {below : List Frame} {meth : Method} {c : Code} {H : Heap} {locs : List Loc} {cells slots : Nat} {Z : State → Prop} {A : Nat → Prop} {cc : ByteArray} {nL pc : Nat} {ls : Array Slot} {rest : List Value} {own : String} {index fr lo : Nat} {w : (Int32 → Prop) → Int32 → Int32 → MM → Prop} {E : mE} {M : MM} {L : ML} {x1 : Int32} {x2 : Int32} (hM : CT_X3_partLength l fr lo w) (S : CallFix p m c cc nL s args lw_all own) (hK : mK E s) (hW : mW E M L H) (hS : va_S A s.heap H locs) (hA : ∀ q, s.heap.size ≤ q → A q) (hlink : Cond.methodLink own index yX3_partLength ∈ lw_all) (hRf : fr + 1 ≤ R.frames) (hRl : 8 + (4 + 11) + lo ≤ R.locals) (hcs : cells ≤ R.cells ∧ slots ≤ R.slots) (hz : ls.size = nL) (hr8 : (rest.map fun v => v.category).sum ≤ 8) (hdg : decode cc pc = .ok (.invokevirtual index, 3)) {Q1 : Int32 → Prop} (h : w Q1 x1 x2 M) (kk : ∀ (r : Int32) (H1 : Heap) (locs1 : List Loc), Q1 r → (∀ q : Nat, q < H.size → H1[q]? = H[q]?) → va_S A s.heap H1 locs1 → W p l e R s m args below meth c H1 locs1 cells slots Z (F0 m (pc + 3) ls (.int r :: rest))) : W p l e R s m args below meth c H locs cells slots Z (F0 m pc ls (.int x2 :: .int x1 :: .ref (mh E) :: rest)) := by
  exact ro_i (va_runV (As := [.int x1, .int x2]) (rest := rest) S (hM E M L H.size Q1 x1 x2) (cwV 2 S.2.2.2.2 (lw_V hlink q2072 qs38 q68 q2073) rfl rfl rfl (by decide +kernel) ⟨hRf, hRl⟩) ⟨fun a U g mk q => by obtain ⟨q0, q1, qW, qK, qw⟩ := q; exact ⟨q0, q1, qW, qK.moved (u := U) (U := U.calling g mk a) (Vm.Alike.refl U.vm), qw⟩, hW.recv (hK := hK), fun U hU hWm => ⟨rfl, by rw [hU], by rw [hU]; exact hW, hK.moved hWm.alike, h⟩⟩ rfl rfl hz rfl (lv_room hr8) hdg hcs) hS hA (fun r H1 locs1 hp hz hk hS1 => kk r H1 locs1 hp hk hS1)
def w_X3_partLength (Q : Int32 → Prop) (x1 : Int32) (x2 : Int32) (M : MM) : Prop := mRd (M 16) 72 ((((6 : Int32) * x1) + x2) + (1 : Int32)) (fun v1 => mRd (M 16) 72 (((6 : Int32) * x1) + x2) (fun v2 => w_J13_abs (fun r3 => mRd (M 17) 72 ((((6 : Int32) * x1) + x2) + (1 : Int32)) (fun v4 => mRd (M 17) 72 (((6 : Int32) * x1) + x2) (fun v5 => w_J13_abs (fun r6 => Q ((1000 : Int32) * (r3 + r6))) (v4 - v5)))) (v1 - v2)))
set_option maxRecDepth 100000 in
set_option maxHeartbeats 4000000 in
theorem wk_X3_partLength {p : Program} {l : Launch} {e : Env} {R : Room} {s : State} {m : MethodId} {args : Array Value} {below : List Frame} {meth : Method} {c : Code} {cells slots : Nat} {Z : State → Prop} {A : Nat → Prop} {E : mE} (Q : Int32 → Prop) (C : mC p m c s args cX3_partLength 4 E) (hA : ∀ q, s.heap.size ≤ q → A q) (hRf : 1 ≤ R.frames) (hRl : 20 ≤ R.locals) (hcs : cells ≤ R.cells ∧ slots ≤ R.slots) (M : MM) (L : ML) (hret : ∀ (v : Int32) (pc : Nat) (ls : Array Slot) (H : Heap) (locs : List Loc), decode cX3_partLength pc = .ok (.ireturn, 1) → va_S A s.heap H locs → Q v → W p l e R s m args below meth c H locs cells slots Z (F0 m pc ls [.int v])) (x1 : Int32) (x2 : Int32) : w_X3_partLength Q x1 x2 M → ∀ (ls : Array Slot) (H : Heap) (locs : List Loc), lv_has ls 4 [(0, .ref (mh E)), (1, .int x1), (2, .int x2)] → mW E M L H → va_S A s.heap H locs → W p l e R s m args below meth c H locs cells slots Z (F0 m 0 ls []) := by
  obtain ⟨⟨hx, hb, hml, hown, hts⟩, hK⟩ := C; have C : mC p m c s args cX3_partLength 4 E := ⟨⟨hx, hb, hml, hown, hts⟩, hK⟩
  intro h
  intro ls H locs hl hW hS
  refine lv_bipush (v := 6) hx hb dX3_partLength_0 (by decide) ?_
  refine lv_iload_n hx hb dX3_partLength_2 rfl (lv_at hl 1 rfl) ?_
  refine lv_imul hx hb dX3_partLength_3 ?_
  refine lv_iload_n hx hb dX3_partLength_4 rfl (lv_at hl 2 rfl) ?_
  refine lv_iadd hx hb dX3_partLength_5 ?_
  refine lv_istore_n (lv' := [(3, .int (((6 : Int32) * x1) + x2)), (0, .ref (mh E)), (1, .int x1), (2, .int x2)]) hx hb dX3_partLength_6 rfl hl (by decide) rfl (fun ls hl => ?_)
  refine lv_sipush (v := 1000) hx hb dX3_partLength_7 (by decide) ?_
  refine lv_aload_n hx hb dX3_partLength_10 rfl (lv_at hl 1 rfl) ?_
  refine mr_getA C hW 16 rfl rfl q1819 dX3_partLength_11 ?_
  refine lv_iload_n hx hb dX3_partLength_14 rfl (lv_at hl 0 rfl) ?_
  refine lv_iconst (v := 1) hx hb dX3_partLength_15 (by decide) ?_
  refine lv_iadd hx hb dX3_partLength_16 ?_
  refine mr_iald C hW 16 rfl rfl rfl h dX3_partLength_17 (fun v1 h => ?_)
  refine lv_aload_n hx hb dX3_partLength_18 rfl (lv_at hl 1 rfl) ?_
  refine mr_getA C hW 16 rfl rfl q1819 dX3_partLength_19 ?_
  refine lv_iload_n hx hb dX3_partLength_22 rfl (lv_at hl 0 rfl) ?_
  refine mr_iald C hW 16 rfl rfl rfl h dX3_partLength_23 (fun v2 h => ?_)
  refine lv_isub hx hb dX3_partLength_24 ?_
  refine call_J13_abs (ct_J13_abs l) C.1 hS hA q2074 (le_lit hRf rfl) (le_lit hRl rfl) hcs hl.1 (Nat.le_of_ble_eq_true rfl) dX3_partLength_25 h (fun r3 H locs h hk hS => ?_)
  have hW := hW.kept hk
  refine lv_aload_n hx hb dX3_partLength_28 rfl (lv_at hl 1 rfl) ?_
  refine mr_getA C hW 17 rfl rfl q1820 dX3_partLength_29 ?_
  refine lv_iload_n hx hb dX3_partLength_32 rfl (lv_at hl 0 rfl) ?_
  refine lv_iconst (v := 1) hx hb dX3_partLength_33 (by decide) ?_
  refine lv_iadd hx hb dX3_partLength_34 ?_
  refine mr_iald C hW 17 rfl rfl rfl h dX3_partLength_35 (fun v4 h => ?_)
  refine lv_aload_n hx hb dX3_partLength_36 rfl (lv_at hl 1 rfl) ?_
  refine mr_getA C hW 17 rfl rfl q1820 dX3_partLength_37 ?_
  refine lv_iload_n hx hb dX3_partLength_40 rfl (lv_at hl 0 rfl) ?_
  refine mr_iald C hW 17 rfl rfl rfl h dX3_partLength_41 (fun v5 h => ?_)
  refine lv_isub hx hb dX3_partLength_42 ?_
  refine call_J13_abs (ct_J13_abs l) C.1 hS hA q2074 (le_lit hRf rfl) (le_lit hRl rfl) hcs hl.1 (Nat.le_of_ble_eq_true rfl) dX3_partLength_43 h (fun r6 H locs h hk hS => ?_)
  have hW := hW.kept hk
  refine lv_iadd hx hb dX3_partLength_46 ?_
  refine lv_imul hx hb dX3_partLength_47 ?_
  exact hret _ _ _ _ _ dX3_partLength_48 hS h
theorem ct_X3_partLength (l : Launch) : CT_X3_partLength l 1 20 w_X3_partLength := by
  intro E M L sz Q x1 x2
  refine Met.ofW (cc := cX3_partLength) (maxL := 4) (ret := (some .int)) (by decide) rfl ?_
  intro p e s m args below meth c s₁ B hml hv
  obtain ⟨rfl, hsz, hW, hK, h⟩ := hv
  subst hsz
  have hts := atoms_spec (ws := ws_ yX3_partLength cX3_partLength 4 (some .int)) B.pre
  have hts : ∀ w ∈ lw_all, w.before _ s = true := fun w h => hts w (List.mem_cons_of_mem _ h)
  have hl := lv_entry ([.ref (mh E), .int x1, .int x2]) (n := 4) (Nat.le_of_ble_eq_true rfl)
  rw [lg_entry_eq]
  generalize (lg_sl ([.ref (mh E), .int x1, .int x2]) ++ List.replicate (4 - (lg_sl ([.ref (mh E), .int x1, .int x2])).length) Slot.unset).toArray = ls at hl ⊢
  exact wk_X3_partLength Q ⟨⟨B.exec, B.bytes, hml, findClass_of_methodNamed B.named, hts⟩, hK⟩ (fun q h => h) (Nat.le_refl _) (Nat.le_refl _) ⟨Nat.le_refl _, Nat.le_refl _⟩ M L (fun v pc ls H locs hd hS hQ => W.iret (v := v) B.exec B.bytes B.returns (fun t ht _ => ⟨⟨v, (), rfl, hQ, trivial⟩, hS.F ht⟩) hS.2.2 hd) x1 x2 h ls _ [] hl hW va_S.rf
def CT_X3_lengthOf (l : Launch) (fr lo : Nat) (w : (Int32 → Prop) → Int32 → MM → Prop) : Prop := ∀ (E : mE) (M : MM) (L : ML) (sz : Nat) (Q : Int32 → Prop) (x1 : Int32), Met l yX3_lengthOf (ws_ yX3_lengthOf cX3_lengthOf 4 (some .int)) { frames := fr, cells := 0, slots := 0, locals := lo } (va_Pc [.ref (mh E), .int x1] (fun U => U.heap.size = sz ∧ mW E M L U.heap ∧ mK E U ∧ w Q x1 M)) (va_Qi (fun r (_ : Unit) => Q r) (fun _ _ => True) (mN sz)) 0 0 (mN sz)
theorem call_X3_lengthOf {p : Program} {l : Launch} {e : Env} {R : Room} {s : State} {m : MethodId} {args : Array Value} {below : List Frame} {meth : Method} {c : Code} {H : Heap} {locs : List Loc} {cells slots : Nat} {Z : State → Prop} {A : Nat → Prop} {cc : ByteArray} {nL pc : Nat} {ls : Array Slot} {rest : List Value} {own : String} {index fr lo : Nat} {w : (Int32 → Prop) → Int32 → MM → Prop} {E : mE} {M : MM} {L : ML} {x1 : Int32} (hM : CT_X3_lengthOf l fr lo w) (S : CallFix p m c cc nL s args lw_all own) (hK : mK E s) (hW : mW E M L H) (hS : va_S A s.heap H locs) (hA : ∀ q, s.heap.size ≤ q → A q) (hlink : Cond.methodLink own index yX3_lengthOf ∈ lw_all) (hRf : fr + 1 ≤ R.frames) (hRl : 8 + (4 + 11) + lo ≤ R.locals) (hcs : cells ≤ R.cells ∧ slots ≤ R.slots) (hz : ls.size = nL) (hr8 : (rest.map fun v => v.category).sum ≤ 8) (hdg : decode cc pc = .ok (.invokevirtual index, 3)) {Q1 : Int32 → Prop} (h : w Q1 x1 M) (kk : ∀ (r : Int32) (H1 : Heap) (locs1 : List Loc), Q1 r → (∀ q : Nat, q < H.size → H1[q]? = H[q]?) → va_S A s.heap H1 locs1 → W p l e R s m args below meth c H1 locs1 cells slots Z (F0 m (pc + 3) ls (.int r :: rest))) : W p l e R s m args below meth c H locs cells slots Z (F0 m pc ls (.int x1 :: .ref (mh E) :: rest)) := by
  exact ro_i (va_runV (As := [.int x1]) (rest := rest) S (hM E M L H.size Q1 x1) (cwV 1 S.2.2.2.2 (lw_V hlink q2068 qs37 q68 q2069) rfl rfl rfl (by decide +kernel) ⟨hRf, hRl⟩) ⟨fun a U g mk q => by obtain ⟨q0, q1, qW, qK, qw⟩ := q; exact ⟨q0, q1, qW, qK.moved (u := U) (U := U.calling g mk a) (Vm.Alike.refl U.vm), qw⟩, hW.recv (hK := hK), fun U hU hWm => ⟨rfl, by rw [hU], by rw [hU]; exact hW, hK.moved hWm.alike, h⟩⟩ rfl rfl hz rfl (lv_room hr8) hdg hcs) hS hA (fun r H1 locs1 hp hz hk hS1 => kk r H1 locs1 hp hk hS1)
def w_X3_lengthOf_h4 (Q : Int32 → Prop) (x1 : Int32) (M : MM) (rec4 : Int32 → Int32 → Prop) (x2 : Int32) (x3 : Int32) : Prop := mRd (M 18) 12 x1 (fun v1 => if (v1 - (1 : Int32)) ≤ x3 then (Q x2) else (w_X3_partLength (fun r2 => rec4 (x2 + r2) (x3 + (1 : Int32))) x1 x3 M))
def w_X3_lengthOf_L4 (Q : Int32 → Prop) (x1 : Int32) (M : MM) (x2 : Int32) (x3 : Int32) : Prop := wLoop (fun (rec : (Int32 × Int32) → Prop) (s : Int32 × Int32) => w_X3_lengthOf_h4 Q x1 M (fun x2 x3 => rec (x2, x3)) s.1 s.2) (x2, x3)
def w_X3_lengthOf (Q : Int32 → Prop) (x1 : Int32) (M : MM) : Prop := w_X3_lengthOf_L4 Q x1 M (0 : Int32) (0 : Int32)
set_option maxRecDepth 100000 in
set_option maxHeartbeats 4000000 in
theorem wk_X3_lengthOf {p : Program} {l : Launch} {e : Env} {R : Room} {s : State} {m : MethodId} {args : Array Value} {below : List Frame} {meth : Method} {c : Code} {cells slots : Nat} {Z : State → Prop} {A : Nat → Prop} {E : mE} (Q : Int32 → Prop) (C : mC p m c s args cX3_lengthOf 4 E) (hA : ∀ q, s.heap.size ≤ q → A q) (hRf : 2 ≤ R.frames) (hRl : 43 ≤ R.locals) (hcs : cells ≤ R.cells ∧ slots ≤ R.slots) (M : MM) (L : ML) (hret : ∀ (v : Int32) (pc : Nat) (ls : Array Slot) (H : Heap) (locs : List Loc), decode cX3_lengthOf pc = .ok (.ireturn, 1) → va_S A s.heap H locs → Q v → W p l e R s m args below meth c H locs cells slots Z (F0 m pc ls [.int v])) (x1 : Int32) : w_X3_lengthOf Q x1 M → ∀ (ls : Array Slot) (H : Heap) (locs : List Loc), lv_has ls 4 [(0, .ref (mh E)), (1, .int x1)] → mW E M L H → va_S A s.heap H locs → W p l e R s m args below meth c H locs cells slots Z (F0 m 0 ls []) := by
  obtain ⟨⟨hx, hb, hml, hown, hts⟩, hK⟩ := C; have C : mC p m c s args cX3_lengthOf 4 E := ⟨⟨hx, hb, hml, hown, hts⟩, hK⟩
  have hL4 : ∀ (x2 : Int32) (x3 : Int32), w_X3_lengthOf_L4 Q x1 M x2 x3 → ∀ (ls : Array Slot) (H : Heap) (locs : List Loc), lv_has ls 4 [(0, .ref (mh E)), (1, .int x1), (2, .int x2), (3, .int x3)] → mW E M L H → va_S A s.heap H locs → W p l e R s m args below meth c H locs cells slots Z (F0 m 4 ls []) := by
    obtain ⟨G4, hG4⟩ : ∃ G : Int32 → Int32 → Prop, ∀ (x2 : Int32) (x3 : Int32), G x2 x3 ↔ (∀ (ls : Array Slot) (H : Heap) (locs : List Loc), lv_has ls 4 [(0, .ref (mh E)), (1, .int x1), (2, .int x2), (3, .int x3)] → mW E M L H → va_S A s.heap H locs → W p l e R s m args below meth c H locs cells slots Z (F0 m 4 ls [])) := ⟨fun x2 x3 => _, fun x2 x3 => Iff.rfl⟩
    have hB4 : ∀ (rec4 : Int32 → Int32 → Prop), (∀ (x2 : Int32) (x3 : Int32), rec4 x2 x3 → G4 x2 x3) → ∀ (x2 : Int32) (x3 : Int32), w_X3_lengthOf_h4 Q x1 M rec4 x2 x3 → G4 x2 x3 := by
      intro rec4 hrec4
      intro x2 x3 h
      rw [hG4]
      intro ls H locs hl hW hS
      refine lv_iload_n hx hb dX3_lengthOf_4 rfl (lv_at hl 3 rfl) ?_
      refine lv_aload_n hx hb dX3_lengthOf_5 rfl (lv_at hl 0 rfl) ?_
      refine mr_getA C hW 18 rfl rfl q1821 dX3_lengthOf_6 ?_
      refine lv_iload_n hx hb dX3_lengthOf_9 rfl (lv_at hl 1 rfl) ?_
      refine mr_iald C hW 18 rfl rfl rfl h dX3_lengthOf_10 (fun v1 h => ?_)
      refine lv_iconst (v := 1) hx hb dX3_lengthOf_11 (by decide) ?_
      refine lv_isub hx hb dX3_lengthOf_12 ?_
      refine lv_icmp_ge (tgt := 31) hx hb dX3_lengthOf_13 (by decide) (fun c3 => ?_) (fun c3 => ?_)
      · have h := wif_t h c3
        refine lv_iload_n hx hb dX3_lengthOf_31 rfl (lv_at hl 2 rfl) ?_
        exact hret _ _ _ _ _ dX3_lengthOf_32 hS h
      · have h := wif_f h c3
        refine lv_iload_n hx hb dX3_lengthOf_16 rfl (lv_at hl 2 rfl) ?_
        refine lv_aload_n hx hb dX3_lengthOf_17 rfl (lv_at hl 0 rfl) ?_
        refine lv_iload_n hx hb dX3_lengthOf_18 rfl (lv_at hl 1 rfl) ?_
        refine lv_iload_n hx hb dX3_lengthOf_19 rfl (lv_at hl 3 rfl) ?_
        refine call_X3_partLength (ct_X3_partLength l) C.1 C.2 hW hS hA q2070 (le_lit hRf rfl) (le_lit hRl rfl) hcs hl.1 (Nat.le_of_ble_eq_true rfl) dX3_lengthOf_20 h (fun r2 H locs h hk hS => ?_)
        have hW := hW.kept hk
        refine lv_iadd hx hb dX3_lengthOf_23 ?_
        refine lv_istore_n (lv' := [(2, .int (x2 + r2)), (0, .ref (mh E)), (1, .int x1), (3, .int x3)]) hx hb dX3_lengthOf_24 rfl hl (by decide) rfl (fun ls hl => ?_)
        refine lv_iinc (v := x3 + (1 : Int32)) (lv' := [(3, .int (x3 + (1 : Int32))), (2, .int (x2 + r2)), (0, .ref (mh E)), (1, .int x1)]) hx hb dX3_lengthOf_25 hl (k := 3) rfl (congrArg (fun z => x3 + z) (by decide)) (by decide) rfl (fun ls hl => ?_)
        refine lv_goto (tgt := 4) hx hb dX3_lengthOf_28 (by decide) ?_
        exact (hG4 _ _).mp (hrec4 _ _ h) ls H locs (lv_sub hl [2, 3, 1, 0] rfl) hW hS
    intro x2 x3 h
    exact (hG4 x2 x3).mp (loop_walk (fun s => G4 s.1 s.2) (fun rec hrec s h => hB4 (fun x2 x3 => rec (x2, x3)) (fun x2 x3 h => hrec (x2, x3) h) s.1 s.2 h) (x2, x3) h)
  intro h
  intro ls H locs hl hW hS
  refine lv_iconst (v := 0) hx hb dX3_lengthOf_0 (by decide) ?_
  refine lv_istore_n (lv' := [(2, .int (0 : Int32)), (0, .ref (mh E)), (1, .int x1)]) hx hb dX3_lengthOf_1 rfl hl (by decide) rfl (fun ls hl => ?_)
  refine lv_iconst (v := 0) hx hb dX3_lengthOf_2 (by decide) ?_
  refine lv_istore_n (lv' := [(3, .int (0 : Int32)), (2, .int (0 : Int32)), (0, .ref (mh E)), (1, .int x1)]) hx hb dX3_lengthOf_3 rfl hl (by decide) rfl (fun ls hl => ?_)
  exact hL4 _ _ h ls H locs (lv_sub hl [2, 3, 1, 0] rfl) hW hS
theorem ct_X3_lengthOf (l : Launch) : CT_X3_lengthOf l 2 43 w_X3_lengthOf := by
  intro E M L sz Q x1
  refine Met.ofW (cc := cX3_lengthOf) (maxL := 4) (ret := (some .int)) (by decide) rfl ?_
  intro p e s m args below meth c s₁ B hml hv
  obtain ⟨rfl, hsz, hW, hK, h⟩ := hv
  subst hsz
  have hts := atoms_spec (ws := ws_ yX3_lengthOf cX3_lengthOf 4 (some .int)) B.pre
  have hts : ∀ w ∈ lw_all, w.before _ s = true := fun w h => hts w (List.mem_cons_of_mem _ h)
  have hl := lv_entry ([.ref (mh E), .int x1]) (n := 4) (Nat.le_of_ble_eq_true rfl)
  rw [lg_entry_eq]
  generalize (lg_sl ([.ref (mh E), .int x1]) ++ List.replicate (4 - (lg_sl ([.ref (mh E), .int x1])).length) Slot.unset).toArray = ls at hl ⊢
  exact wk_X3_lengthOf Q ⟨⟨B.exec, B.bytes, hml, findClass_of_methodNamed B.named, hts⟩, hK⟩ (fun q h => h) (Nat.le_refl _) (Nat.le_refl _) ⟨Nat.le_refl _, Nat.le_refl _⟩ M L (fun v pc ls H locs hd hS hQ => W.iret (v := v) B.exec B.bytes B.returns (fun t ht _ => ⟨⟨v, (), rfl, hQ, trivial⟩, hS.F ht⟩) hS.2.2 hd) x1 h ls _ [] hl hW va_S.rf
def CT_X3_trimmed (l : Launch) (fr lo : Nat) (w : (Int32 → Prop) → Int32 → Int32 → Int32 → MM → Prop) : Prop := ∀ (E : mE) (M : MM) (L : ML) (sz : Nat) (Q : Int32 → Prop) (x1 : Int32) (x2 : Int32) (x3 : Int32), Met l yX3_trimmed (ws_ yX3_trimmed cX3_trimmed 7 (some .int)) { frames := fr, cells := 0, slots := 0, locals := lo } (va_Pc [.ref (mh E), .int x1, .int x2, .int x3] (fun U => U.heap.size = sz ∧ mW E M L U.heap ∧ mK E U ∧ w Q x1 x2 x3 M)) (va_Qi (fun r (_ : Unit) => Q r) (fun _ _ => True) (mN sz)) 0 0 (mN sz)
theorem call_X3_trimmed {p : Program} {l : Launch} {e : Env} {R : Room} {s : State} {m : MethodId} {args : Array Value} {below : List Frame} {meth : Method} {c : Code} {H : Heap} {locs : List Loc} {cells slots : Nat} {Z : State → Prop} {A : Nat → Prop} {cc : ByteArray} {nL pc : Nat} {ls : Array Slot} {rest : List Value} {own : String} {index fr lo : Nat} {w : (Int32 → Prop) → Int32 → Int32 → Int32 → MM → Prop} {E : mE} {M : MM} {L : ML} {x1 : Int32} {x2 : Int32} {x3 : Int32} (hM : CT_X3_trimmed l fr lo w) (S : CallFix p m c cc nL s args lw_all own) (hK : mK E s) (hW : mW E M L H) (hS : va_S A s.heap H locs) (hA : ∀ q, s.heap.size ≤ q → A q) (hlink : Cond.methodLink own index yX3_trimmed ∈ lw_all) (hRf : fr + 1 ≤ R.frames) (hRl : 8 + (7 + 11) + lo ≤ R.locals) (hcs : cells ≤ R.cells ∧ slots ≤ R.slots) (hz : ls.size = nL) (hr8 : (rest.map fun v => v.category).sum ≤ 8) (hdg : decode cc pc = .ok (.invokevirtual index, 3)) {Q1 : Int32 → Prop} (h : w Q1 x1 x2 x3 M) (kk : ∀ (r : Int32) (H1 : Heap) (locs1 : List Loc), Q1 r → (∀ q : Nat, q < H.size → H1[q]? = H[q]?) → va_S A s.heap H1 locs1 → W p l e R s m args below meth c H1 locs1 cells slots Z (F0 m (pc + 3) ls (.int r :: rest))) : W p l e R s m args below meth c H locs cells slots Z (F0 m pc ls (.int x3 :: .int x2 :: .int x1 :: .ref (mh E) :: rest)) := by
  exact ro_i (va_runV (As := [.int x1, .int x2, .int x3]) (rest := rest) S (hM E M L H.size Q1 x1 x2 x3) (cwV 3 S.2.2.2.2 (lw_V hlink q2064 qs36 q68 q2065) rfl rfl rfl (by decide +kernel) ⟨hRf, hRl⟩) ⟨fun a U g mk q => by obtain ⟨q0, q1, qW, qK, qw⟩ := q; exact ⟨q0, q1, qW, qK.moved (u := U) (U := U.calling g mk a) (Vm.Alike.refl U.vm), qw⟩, hW.recv (hK := hK), fun U hU hWm => ⟨rfl, by rw [hU], by rw [hU]; exact hW, hK.moved hWm.alike, h⟩⟩ rfl rfl hz rfl (lv_room hr8) hdg hcs) hS hA (fun r H1 locs1 hp hz hk hS1 => kk r H1 locs1 hp hk hS1)
def w_X3_trimmed (Q : Int32 → Prop) (x1 : Int32) (x2 : Int32) (x3 : Int32) (M : MM) : Prop := w_X3_lengthOf (fun r1 => w_X3_valueOf (fun r2 => w_J13_floorDiv (fun r3 => w_J13_min_2 (fun r4 => w_J13_max_2 (fun r5 => Q (r5.toInt32)) (0 : Int64) r4) (r1.toInt64) r3) ((r1.toInt64) * (r2.toInt64)) (1000 : Int64)) x1 x2 x3 M) x1 M
set_option maxRecDepth 100000 in
set_option maxHeartbeats 4000000 in
theorem wk_X3_trimmed {p : Program} {l : Launch} {e : Env} {R : Room} {s : State} {m : MethodId} {args : Array Value} {below : List Frame} {meth : Method} {c : Code} {cells slots : Nat} {Z : State → Prop} {A : Nat → Prop} {E : mE} (Q : Int32 → Prop) (C : mC p m c s args cX3_trimmed 7 E) (hA : ∀ q, s.heap.size ≤ q → A q) (hRf : 3 ≤ R.frames) (hRl : 76 ≤ R.locals) (hcs : cells ≤ R.cells ∧ slots ≤ R.slots) (M : MM) (L : ML) (hret : ∀ (v : Int32) (pc : Nat) (ls : Array Slot) (H : Heap) (locs : List Loc), decode cX3_trimmed pc = .ok (.ireturn, 1) → va_S A s.heap H locs → Q v → W p l e R s m args below meth c H locs cells slots Z (F0 m pc ls [.int v])) (x1 : Int32) (x2 : Int32) (x3 : Int32) : w_X3_trimmed Q x1 x2 x3 M → ∀ (ls : Array Slot) (H : Heap) (locs : List Loc), lv_has ls 7 [(0, .ref (mh E)), (1, .int x1), (2, .int x2), (3, .int x3)] → mW E M L H → va_S A s.heap H locs → W p l e R s m args below meth c H locs cells slots Z (F0 m 0 ls []) := by
  obtain ⟨⟨hx, hb, hml, hown, hts⟩, hK⟩ := C; have C : mC p m c s args cX3_trimmed 7 E := ⟨⟨hx, hb, hml, hown, hts⟩, hK⟩
  intro h
  intro ls H locs hl hW hS
  refine lv_aload_n hx hb dX3_trimmed_0 rfl (lv_at hl 0 rfl) ?_
  refine lv_iload_n hx hb dX3_trimmed_1 rfl (lv_at hl 1 rfl) ?_
  refine call_X3_lengthOf (ct_X3_lengthOf l) C.1 C.2 hW hS hA q2066 (le_lit hRf rfl) (le_lit hRl rfl) hcs hl.1 (Nat.le_of_ble_eq_true rfl) dX3_trimmed_2 h (fun r1 H locs h hk hS => ?_)
  have hW := hW.kept hk
  refine lv_istore (lv' := [(4, .int r1), (0, .ref (mh E)), (1, .int x1), (2, .int x2), (3, .int x3)]) hx hb dX3_trimmed_5 hl (by decide) rfl (fun ls hl => ?_)
  refine lv_iload hx hb dX3_trimmed_7 (lv_at hl 0 rfl) ?_
  refine lv_i2l hx hb dX3_trimmed_9 rfl ?_
  refine lv_aload_n hx hb dX3_trimmed_10 rfl (lv_at hl 1 rfl) ?_
  refine lv_iload_n hx hb dX3_trimmed_11 rfl (lv_at hl 2 rfl) ?_
  refine lv_iload_n hx hb dX3_trimmed_12 rfl (lv_at hl 3 rfl) ?_
  refine lv_iload_n hx hb dX3_trimmed_13 rfl (lv_at hl 4 rfl) ?_
  refine call_X3_valueOf (ct_X3_valueOf l) C.1 C.2 hW hS hA q2022 (le_lit hRf rfl) (le_lit hRl rfl) hcs hl.1 (Nat.le_of_ble_eq_true rfl) dX3_trimmed_14 h (fun r2 H locs h hk hS => ?_)
  have hW := hW.kept hk
  refine lv_i2l hx hb dX3_trimmed_17 rfl ?_
  refine lv_lmul hx hb dX3_trimmed_18 ?_
  refine lv_ldc2 hx hb hown (hts _ q2056) dX3_trimmed_19 ?_
  refine call_J13_floorDiv (ct_J13_floorDiv l) C.1 hS hA q2057 (le_lit hRf rfl) (le_lit hRl rfl) hcs hl.1 (Nat.le_of_ble_eq_true rfl) dX3_trimmed_22 h (fun r3 H locs h hk hS => ?_)
  have hW := hW.kept hk
  refine lv_lstore (lv' := [(5, .long r3), (4, .int r1), (0, .ref (mh E)), (1, .int x1), (2, .int x2), (3, .int x3)]) hx hb dX3_trimmed_25 hl (by decide) rfl (fun ls hl => ?_)
  refine lv_lconst (v := 0) hx hb dX3_trimmed_27 (by decide) ?_
  refine lv_iload hx hb dX3_trimmed_28 (lv_at hl 1 rfl) ?_
  refine lv_i2l hx hb dX3_trimmed_30 rfl ?_
  refine lv_lload hx hb dX3_trimmed_31 (lv_at hl 0 rfl) ?_
  refine call_J13_min_2 (ct_J13_min_2 l) C.1 hS hA q2075 (le_lit hRf rfl) (le_lit hRl rfl) hcs hl.1 (Nat.le_of_ble_eq_true rfl) dX3_trimmed_33 h (fun r4 H locs h hk hS => ?_)
  have hW := hW.kept hk
  refine call_J13_max_2 (ct_J13_max_2 l) C.1 hS hA q2076 (le_lit hRf rfl) (le_lit hRl rfl) hcs hl.1 (Nat.le_of_ble_eq_true rfl) dX3_trimmed_36 h (fun r5 H locs h hk hS => ?_)
  have hW := hW.kept hk
  refine lv_l2i hx hb dX3_trimmed_39 rfl ?_
  exact hret _ _ _ _ _ dX3_trimmed_40 hS h
theorem ct_X3_trimmed (l : Launch) : CT_X3_trimmed l 3 76 w_X3_trimmed := by
  intro E M L sz Q x1 x2 x3
  refine Met.ofW (cc := cX3_trimmed) (maxL := 7) (ret := (some .int)) (by decide) rfl ?_
  intro p e s m args below meth c s₁ B hml hv
  obtain ⟨rfl, hsz, hW, hK, h⟩ := hv
  subst hsz
  have hts := atoms_spec (ws := ws_ yX3_trimmed cX3_trimmed 7 (some .int)) B.pre
  have hts : ∀ w ∈ lw_all, w.before _ s = true := fun w h => hts w (List.mem_cons_of_mem _ h)
  have hl := lv_entry ([.ref (mh E), .int x1, .int x2, .int x3]) (n := 7) (Nat.le_of_ble_eq_true rfl)
  rw [lg_entry_eq]
  generalize (lg_sl ([.ref (mh E), .int x1, .int x2, .int x3]) ++ List.replicate (7 - (lg_sl ([.ref (mh E), .int x1, .int x2, .int x3])).length) Slot.unset).toArray = ls at hl ⊢
  exact wk_X3_trimmed Q ⟨⟨B.exec, B.bytes, hml, findClass_of_methodNamed B.named, hts⟩, hK⟩ (fun q h => h) (Nat.le_refl _) (Nat.le_refl _) ⟨Nat.le_refl _, Nat.le_refl _⟩ M L (fun v pc ls H locs hd hS hQ => W.iret (v := v) B.exec B.bytes B.returns (fun t ht _ => ⟨⟨v, (), rfl, hQ, trivial⟩, hS.F ht⟩) hS.2.2 hd) x1 x2 x3 h ls _ [] hl hW va_S.rf
def CT_X3_left (l : Launch) (fr lo : Nat) (w : (Int32 → MM → Prop) → Int32 → Int32 → MM → Prop) : Prop := ∀ (E : mE) (M : MM) (L : ML) (sz : Nat) (Q : Int32 → MM → Prop) (x1 : Int32) (x2 : Int32), Met l yX3_left (ws_ yX3_left cX3_left 3 (some .int)) { frames := fr, cells := 0, slots := 0, locals := lo } (va_Pc [.ref (mh E), .int x1, .int x2] (fun U => U.heap.size = sz ∧ mW E M L U.heap ∧ mK E U ∧ w Q x1 x2 M)) (va_Qi (fun r (u : MM × ML) => u.2 = L ∧ Q r u.1) (fun u t => mW E u.1 u.2 t.heap) (mA E sz)) 0 0 (mA E sz)
theorem call_X3_left {p : Program} {l : Launch} {e : Env} {R : Room} {s : State} {m : MethodId} {args : Array Value} {below : List Frame} {meth : Method} {c : Code} {H : Heap} {locs : List Loc} {cells slots : Nat} {Z : State → Prop} {A : Nat → Prop} {cc : ByteArray} {nL pc : Nat} {ls : Array Slot} {rest : List Value} {own : String} {index fr lo : Nat} {w : (Int32 → MM → Prop) → Int32 → Int32 → MM → Prop} {E : mE} {M : MM} {L : ML} {x1 : Int32} {x2 : Int32} (hM : CT_X3_left l fr lo w) (S : CallFix p m c cc nL s args lw_all own) (hK : mK E s) (hW : mW E M L H) (hS : va_S A s.heap H locs) (hA : ∀ q, s.heap.size ≤ q → A q) (hAw : ∀ q, mAd E q → A q) (hlink : Cond.methodLink own index yX3_left ∈ lw_all) (hRf : fr + 1 ≤ R.frames) (hRl : 8 + (3 + 11) + lo ≤ R.locals) (hcs : cells ≤ R.cells ∧ slots ≤ R.slots) (hz : ls.size = nL) (hr8 : (rest.map fun v => v.category).sum ≤ 8) (hdg : decode cc pc = .ok (.invokevirtual index, 3)) {Q1 : Int32 → MM → Prop} (h : w Q1 x1 x2 M) (kk : ∀ (r : Int32) (M1 : MM) (H1 : Heap) (locs1 : List Loc), Q1 r M1 → mW E M1 L H1 → va_S A s.heap H1 locs1 → (∀ q : Nat, q < H.size → ¬ mAd E q → H1[q]? = H[q]?) → W p l e R s m args below meth c H1 locs1 cells slots Z (F0 m (pc + 3) ls (.int r :: rest))) : W p l e R s m args below meth c H locs cells slots Z (F0 m pc ls (.int x2 :: .int x1 :: .ref (mh E) :: rest)) := by
  refine mw_i (sz := 0) (P := fun r M1 L1 => L1 = L ∧ Q1 r M1) (va_runV (As := [.int x1, .int x2]) (rest := rest) S (hM E M L H.size Q1 x1 x2) (cwV 2 S.2.2.2.2 (lw_V hlink q2059 q2060 q68 q2061) rfl rfl rfl (by decide +kernel) ⟨hRf, hRl⟩) ⟨fun a U g mk q => by obtain ⟨q0, q1, qW, qK, qw⟩ := q; exact ⟨q0, q1, qW, qK.moved (u := U) (U := U.calling g mk a) (Vm.Alike.refl U.vm), qw⟩, hW.recv (hK := hK), fun U hU hWm => ⟨rfl, by rw [hU], by rw [hU]; exact hW, hK.moved hWm.alike, h⟩⟩ rfl rfl hz rfl (lv_room hr8) hdg hcs) hS hA hAw (fun r M1 L1 H1 locs1 hp hW1 hz hk hS1 => ?_)
  obtain ⟨rfl, hp⟩ := hp
  exact kk r M1 H1 locs1 hp hW1 hS1 hk
def w_X3_left (Q : Int32 → MM → Prop) (x1 : Int32) (x2 : Int32) (M : MM) : Prop := w_X3_isLayer (fun r1 => w_X3_isTime (fun r2 => w_X3_check (fun r3 M4 => if r3 = 0 then (Q (0 : Int32) M4) else (mRd (M4 4) 12 x1 (fun v5 => if v5 = (1 : Int32) then (w_X3_trimmed (fun r6 => w_X3_trimmed (fun r7 => w_J13_max (fun r8 => Q r8 M4) (0 : Int32) (r6 - r7)) x1 (4 : Int32) x2 M4) x1 (5 : Int32) x2 M4) else (Q (0 : Int32) M4)))) r1 r2 (1 : Int32) M) x2) x1 M
set_option maxRecDepth 100000 in
set_option maxHeartbeats 4000000 in
theorem wk_X3_left {p : Program} {l : Launch} {e : Env} {R : Room} {s : State} {m : MethodId} {args : Array Value} {below : List Frame} {meth : Method} {c : Code} {cells slots : Nat} {Z : State → Prop} {A : Nat → Prop} {E : mE} (Q : Int32 → MM → Prop) (C : mC p m c s args cX3_left 3 E) (hA : ∀ q, s.heap.size ≤ q → A q) (hAw : ∀ q, mAd E q → A q) (hRf : 4 ≤ R.frames) (hRl : 102 ≤ R.locals) (hcs : cells ≤ R.cells ∧ slots ≤ R.slots) (M : MM) (L : ML) (hret : ∀ (v : Int32) (M : MM) (pc : Nat) (ls : Array Slot) (H : Heap) (locs : List Loc), decode cX3_left pc = .ok (.ireturn, 1) → va_S A s.heap H locs → mW E M L H → Q v M → W p l e R s m args below meth c H locs cells slots Z (F0 m pc ls [.int v])) (x1 : Int32) (x2 : Int32) : w_X3_left Q x1 x2 M → ∀ (ls : Array Slot) (H : Heap) (locs : List Loc), lv_has ls 3 [(0, .ref (mh E)), (1, .int x1), (2, .int x2)] → mW E M L H → va_S A s.heap H locs → W p l e R s m args below meth c H locs cells slots Z (F0 m 0 ls []) := by
  obtain ⟨⟨hx, hb, hml, hown, hts⟩, hK⟩ := C; have C : mC p m c s args cX3_left 3 E := ⟨⟨hx, hb, hml, hown, hts⟩, hK⟩
  intro h
  intro ls H locs hl hW hS
  refine lv_aload_n hx hb dX3_left_0 rfl (lv_at hl 0 rfl) ?_
  refine lv_aload_n hx hb dX3_left_1 rfl (lv_at hl 0 rfl) ?_
  refine lv_iload_n hx hb dX3_left_2 rfl (lv_at hl 1 rfl) ?_
  refine call_X3_isLayer (ct_X3_isLayer l) C.1 C.2 hW hS hA q1938 (le_lit hRf rfl) (le_lit hRl rfl) hcs hl.1 (Nat.le_of_ble_eq_true rfl) dX3_left_3 h (fun r1 H locs h hk hS => ?_)
  have hW := hW.kept hk
  refine lv_iload_n hx hb dX3_left_6 rfl (lv_at hl 2 rfl) ?_
  refine call_X3_isTime (ct_X3_isTime l) C.1 hS hA q1990 (le_lit hRf rfl) (le_lit hRl rfl) hcs hl.1 (Nat.le_of_ble_eq_true rfl) dX3_left_7 h (fun r2 H locs h hk hS => ?_)
  have hW := hW.kept hk
  refine lv_iconst (v := 1) hx hb dX3_left_10 (by decide) ?_
  refine call_X3_check (ct_X3_check l) C.1 C.2 hW hS hA hAw q1907 (le_lit hRf rfl) (le_lit hRl rfl) hcs hl.1 (Nat.le_of_ble_eq_true rfl) dX3_left_11 h (fun r3 M4 H locs h hW hS _ => ?_)
  refine lv_if_ne (tgt := 19) hx hb dX3_left_14 (by decide) (fun c10 => ?_) (fun c10 => ?_)
  · have h := wif_f h c10
    refine lv_aload_n hx hb dX3_left_19 rfl (lv_at hl 0 rfl) ?_
    refine mr_getA C hW 4 rfl rfl q1807 dX3_left_20 ?_
    refine lv_iload_n hx hb dX3_left_23 rfl (lv_at hl 1 rfl) ?_
    refine mr_iald C hW 4 rfl rfl rfl h dX3_left_24 (fun v5 h => ?_)
    refine lv_iconst (v := 1) hx hb dX3_left_25 (by decide) ?_
    refine lv_icmp_ne (tgt := 51) hx hb dX3_left_26 (by decide) (fun c9 => ?_) (fun c9 => ?_)
    · have h := wif_f h c9
      refine lv_iconst (v := 0) hx hb dX3_left_51 (by decide) ?_
      exact hret _ _ _ _ _ _ dX3_left_52 hS hW h
    · have h := wif_t h c9
      refine lv_iconst (v := 0) hx hb dX3_left_29 (by decide) ?_
      refine lv_aload_n hx hb dX3_left_30 rfl (lv_at hl 0 rfl) ?_
      refine lv_iload_n hx hb dX3_left_31 rfl (lv_at hl 1 rfl) ?_
      refine lv_iconst (v := 5) hx hb dX3_left_32 (by decide) ?_
      refine lv_iload_n hx hb dX3_left_33 rfl (lv_at hl 2 rfl) ?_
      refine call_X3_trimmed (ct_X3_trimmed l) C.1 C.2 hW hS hA q2062 (le_lit hRf rfl) (le_lit hRl rfl) hcs hl.1 (Nat.le_of_ble_eq_true rfl) dX3_left_34 h (fun r6 H locs h hk hS => ?_)
      have hW := hW.kept hk
      refine lv_aload_n hx hb dX3_left_37 rfl (lv_at hl 0 rfl) ?_
      refine lv_iload_n hx hb dX3_left_38 rfl (lv_at hl 1 rfl) ?_
      refine lv_iconst (v := 4) hx hb dX3_left_39 (by decide) ?_
      refine lv_iload_n hx hb dX3_left_40 rfl (lv_at hl 2 rfl) ?_
      refine call_X3_trimmed (ct_X3_trimmed l) C.1 C.2 hW hS hA q2062 (le_lit hRf rfl) (le_lit hRl rfl) hcs hl.1 (Nat.le_of_ble_eq_true rfl) dX3_left_41 h (fun r7 H locs h hk hS => ?_)
      have hW := hW.kept hk
      refine lv_isub hx hb dX3_left_44 ?_
      refine call_J13_max (ct_J13_max l) C.1 hS hA q2077 (le_lit hRf rfl) (le_lit hRl rfl) hcs hl.1 (Nat.le_of_ble_eq_true rfl) dX3_left_45 h (fun r8 H locs h hk hS => ?_)
      have hW := hW.kept hk
      refine lv_goto (tgt := 52) hx hb dX3_left_48 (by decide) ?_
      exact hret _ _ _ _ _ _ dX3_left_52 hS hW h
  · have h := wif_t h c10
    refine lv_iconst (v := 0) hx hb dX3_left_17 (by decide) ?_
    exact hret _ _ _ _ _ _ dX3_left_18 hS hW h
theorem ct_X3_left (l : Launch) : CT_X3_left l 4 102 w_X3_left := by
  intro E M L sz Q x1 x2
  refine Met.ofW (cc := cX3_left) (maxL := 3) (ret := (some .int)) (by decide) rfl ?_
  intro p e s m args below meth c s₁ B hml hv
  obtain ⟨rfl, hsz, hW, hK, h⟩ := hv
  subst hsz
  have hts := atoms_spec (ws := ws_ yX3_left cX3_left 3 (some .int)) B.pre
  have hts : ∀ w ∈ lw_all, w.before _ s = true := fun w h => hts w (List.mem_cons_of_mem _ h)
  have hl := lv_entry ([.ref (mh E), .int x1, .int x2]) (n := 3) (Nat.le_of_ble_eq_true rfl)
  rw [lg_entry_eq]
  generalize (lg_sl ([.ref (mh E), .int x1, .int x2]) ++ List.replicate (3 - (lg_sl ([.ref (mh E), .int x1, .int x2])).length) Slot.unset).toArray = ls at hl ⊢
  exact wk_X3_left Q ⟨⟨B.exec, B.bytes, hml, findClass_of_methodNamed B.named, hts⟩, hK⟩ (fun q h => Or.inr h) (fun q h => Or.inl h) (Nat.le_refl _) (Nat.le_refl _) ⟨Nat.le_refl _, Nat.le_refl _⟩ M L (fun v M pc ls H locs hd hS hW1 hQ => W.iret (v := v) B.exec B.bytes B.returns (fun t ht _ => ⟨⟨v, (M, L), rfl, ⟨rfl, hQ⟩, by rw [← ht] at hW1; exact hW1⟩, hS.F ht⟩) hS.2.2 hd) x1 x2 h ls _ [] hl hW va_S.rf
def CT_X3_wipe (l : Launch) (fr lo : Nat) (w : (MM → Prop) → Int32 → MM → Prop) : Prop := ∀ (E : mE) (M : MM) (L : ML) (sz : Nat) (Q : MM → Prop) (x1 : Int32), Met l yX3_wipe (ws_ yX3_wipe cX3_wipe 3 none) { frames := fr, cells := 0, slots := 0, locals := lo } (va_Pc [.ref (mh E), .int x1] (fun U => U.heap.size = sz ∧ mW E M L U.heap ∧ mK E U ∧ w Q x1 M)) (va_Qv (fun (u : MM × ML) => u.2 = L ∧ Q u.1) (fun u t => mW E u.1 u.2 t.heap) (mA E sz)) 0 0 (mA E sz)
theorem call_X3_wipe {p : Program} {l : Launch} {e : Env} {R : Room} {s : State} {m : MethodId} {args : Array Value} {below : List Frame} {meth : Method} {c : Code} {H : Heap} {locs : List Loc} {cells slots : Nat} {Z : State → Prop} {A : Nat → Prop} {cc : ByteArray} {nL pc : Nat} {ls : Array Slot} {rest : List Value} {own : String} {index fr lo : Nat} {w : (MM → Prop) → Int32 → MM → Prop} {E : mE} {M : MM} {L : ML} {x1 : Int32} (hM : CT_X3_wipe l fr lo w) (S : CallFix p m c cc nL s args lw_all own) (hK : mK E s) (hW : mW E M L H) (hS : va_S A s.heap H locs) (hA : ∀ q, s.heap.size ≤ q → A q) (hAw : ∀ q, mAd E q → A q) (hlink : Cond.methodLink own index yX3_wipe ∈ lw_all) (hRf : fr + 1 ≤ R.frames) (hRl : 8 + (3 + 11) + lo ≤ R.locals) (hcs : cells ≤ R.cells ∧ slots ≤ R.slots) (hz : ls.size = nL) (hr8 : (rest.map fun v => v.category).sum ≤ 8) (hdg : decode cc pc = .ok (.invokevirtual index, 3)) {Q1 : MM → Prop} (h : w Q1 x1 M) (kk : ∀ (M1 : MM) (H1 : Heap) (locs1 : List Loc), Q1 M1 → mW E M1 L H1 → va_S A s.heap H1 locs1 → (∀ q : Nat, q < H.size → ¬ mAd E q → H1[q]? = H[q]?) → W p l e R s m args below meth c H1 locs1 cells slots Z (F0 m (pc + 3) ls (rest))) : W p l e R s m args below meth c H locs cells slots Z (F0 m pc ls (.int x1 :: .ref (mh E) :: rest)) := by
  refine mw_v (sz := 0) (P := fun M1 L1 => L1 = L ∧ Q1 M1) (va_runV (As := [.int x1]) (rest := rest) S (hM E M L H.size Q1 x1) (cwV 1 S.2.2.2.2 (lw_V hlink q2088 qs40 q68 q2089) rfl rfl rfl (by decide +kernel) ⟨hRf, hRl⟩) ⟨fun a U g mk q => by obtain ⟨q0, q1, qW, qK, qw⟩ := q; exact ⟨q0, q1, qW, qK.moved (u := U) (U := U.calling g mk a) (Vm.Alike.refl U.vm), qw⟩, hW.recv (hK := hK), fun U hU hWm => ⟨rfl, by rw [hU], by rw [hU]; exact hW, hK.moved hWm.alike, h⟩⟩ rfl rfl hz rfl (lv_room hr8) hdg hcs) hS hA hAw (fun M1 L1 H1 locs1 hp hW1 hz hk hS1 => ?_)
  obtain ⟨rfl, hp⟩ := hp
  exact kk M1 H1 locs1 hp hW1 hS1 hk
def w_X3_wipe_h2 (Q : MM → Prop) (x1 : Int32) (rec2 : Int32 → MM → Prop) (x2 : Int32) (M : MM) : Prop := if (192 : Int32) ≤ x2 then (Q M) else (mWr M 27 1728 (((192 : Int32) * x1) + x2) (0 : Int32) (fun M1 => rec2 (x2 + (1 : Int32)) M1))
def w_X3_wipe_L2 (Q : MM → Prop) (x1 : Int32) (x2 : Int32) (M : MM) : Prop := wLoop (fun (rec : (Int32 × MM) → Prop) (s : Int32 × MM) => w_X3_wipe_h2 Q x1 (fun x2 M => rec (x2, M)) s.1 s.2) (x2, M)
def w_X3_wipe (Q : MM → Prop) (x1 : Int32) (M : MM) : Prop := w_X3_wipe_L2 Q x1 (0 : Int32) M
set_option maxRecDepth 100000 in
set_option maxHeartbeats 4000000 in
theorem wk_X3_wipe {p : Program} {l : Launch} {e : Env} {R : Room} {s : State} {m : MethodId} {args : Array Value} {below : List Frame} {meth : Method} {c : Code} {cells slots : Nat} {Z : State → Prop} {A : Nat → Prop} {E : mE} (Q : MM → Prop) (C : mC p m c s args cX3_wipe 3 E) (hA : ∀ q, s.heap.size ≤ q → A q) (hAw : ∀ q, mAd E q → A q) (hRf : 0 ≤ R.frames) (hRl : 0 ≤ R.locals) (hcs : cells ≤ R.cells ∧ slots ≤ R.slots) (M : MM) (L : ML) (hret : ∀ (M : MM) (pc : Nat) (ls : Array Slot) (H : Heap) (locs : List Loc), decode cX3_wipe pc = .ok (.return_, 1) → va_S A s.heap H locs → mW E M L H → Q M → W p l e R s m args below meth c H locs cells slots Z (F0 m pc ls [])) (x1 : Int32) : w_X3_wipe Q x1 M → ∀ (ls : Array Slot) (H : Heap) (locs : List Loc), lv_has ls 3 [(0, .ref (mh E)), (1, .int x1)] → mW E M L H → va_S A s.heap H locs → W p l e R s m args below meth c H locs cells slots Z (F0 m 0 ls []) := by
  obtain ⟨⟨hx, hb, hml, hown, hts⟩, hK⟩ := C; have C : mC p m c s args cX3_wipe 3 E := ⟨⟨hx, hb, hml, hown, hts⟩, hK⟩
  have hL2 : ∀ (x2 : Int32) (M : MM), w_X3_wipe_L2 Q x1 x2 M → ∀ (ls : Array Slot) (H : Heap) (locs : List Loc), lv_has ls 3 [(0, .ref (mh E)), (1, .int x1), (2, .int x2)] → mW E M L H → va_S A s.heap H locs → W p l e R s m args below meth c H locs cells slots Z (F0 m 2 ls []) := by
    obtain ⟨G2, hG2⟩ : ∃ G : Int32 → MM → Prop, ∀ (x2 : Int32) (M : MM), G x2 M ↔ (∀ (ls : Array Slot) (H : Heap) (locs : List Loc), lv_has ls 3 [(0, .ref (mh E)), (1, .int x1), (2, .int x2)] → mW E M L H → va_S A s.heap H locs → W p l e R s m args below meth c H locs cells slots Z (F0 m 2 ls [])) := ⟨fun x2 M => _, fun x2 M => Iff.rfl⟩
    have hB2 : ∀ (rec2 : Int32 → MM → Prop), (∀ (x2 : Int32) (M : MM), rec2 x2 M → G2 x2 M) → ∀ (x2 : Int32) (M : MM), w_X3_wipe_h2 Q x1 rec2 x2 M → G2 x2 M := by
      intro rec2 hrec2
      intro x2 M h
      rw [hG2]
      intro ls H locs hl hW hS
      refine lv_iload_n hx hb dX3_wipe_2 rfl (lv_at hl 2 rfl) ?_
      refine lv_sipush (v := 192) hx hb dX3_wipe_3 (by decide) ?_
      refine lv_icmp_ge (tgt := 28) hx hb dX3_wipe_6 (by decide) (fun c2 => ?_) (fun c2 => ?_)
      · have h := wif_t h c2
        exact hret _ _ _ _ _ dX3_wipe_28 hS hW h
      · have h := wif_f h c2
        refine lv_aload_n hx hb dX3_wipe_9 rfl (lv_at hl 0 rfl) ?_
        refine mr_getA C hW 27 rfl rfl q1830 dX3_wipe_10 ?_
        refine lv_sipush (v := 192) hx hb dX3_wipe_13 (by decide) ?_
        refine lv_iload_n hx hb dX3_wipe_16 rfl (lv_at hl 1 rfl) ?_
        refine lv_imul hx hb dX3_wipe_17 ?_
        refine lv_iload_n hx hb dX3_wipe_18 rfl (lv_at hl 2 rfl) ?_
        refine lv_iadd hx hb dX3_wipe_19 ?_
        refine lv_iconst (v := 0) hx hb dX3_wipe_20 (by decide) ?_
        refine mr_iast C hW hS hAw 27 rfl rfl rfl h dX3_wipe_21 (fun M1 H locs hW hS h => ?_)
        refine lv_iinc (v := x2 + (1 : Int32)) (lv' := [(2, .int (x2 + (1 : Int32))), (0, .ref (mh E)), (1, .int x1)]) hx hb dX3_wipe_22 hl (k := 2) rfl (congrArg (fun z => x2 + z) (by decide)) (by decide) rfl (fun ls hl => ?_)
        refine lv_goto (tgt := 2) hx hb dX3_wipe_25 (by decide) ?_
        exact (hG2 _ _).mp (hrec2 _ _ h) ls H locs (lv_sub hl [1, 2, 0] rfl) hW hS
    intro x2 M h
    exact (hG2 x2 M).mp (loop_walk (fun s => G2 s.1 s.2) (fun rec hrec s h => hB2 (fun x2 M => rec (x2, M)) (fun x2 M h => hrec (x2, M) h) s.1 s.2 h) (x2, M) h)
  intro h
  intro ls H locs hl hW hS
  refine lv_iconst (v := 0) hx hb dX3_wipe_0 (by decide) ?_
  refine lv_istore_n (lv' := [(2, .int (0 : Int32)), (0, .ref (mh E)), (1, .int x1)]) hx hb dX3_wipe_1 rfl hl (by decide) rfl (fun ls hl => ?_)
  exact hL2 _ _ h ls H locs (lv_sub hl [1, 2, 0] rfl) hW hS
theorem ct_X3_wipe (l : Launch) : CT_X3_wipe l 0 0 w_X3_wipe := by
  intro E M L sz Q x1
  refine Met.ofW (cc := cX3_wipe) (maxL := 3) (ret := none) (by decide) rfl ?_
  intro p e s m args below meth c s₁ B hml hv
  obtain ⟨rfl, hsz, hW, hK, h⟩ := hv
  subst hsz
  have hts := atoms_spec (ws := ws_ yX3_wipe cX3_wipe 3 none) B.pre
  have hts : ∀ w ∈ lw_all, w.before _ s = true := fun w h => hts w (List.mem_cons_of_mem _ h)
  have hl := lv_entry ([.ref (mh E), .int x1]) (n := 3) (Nat.le_of_ble_eq_true rfl)
  rw [lg_entry_eq]
  generalize (lg_sl ([.ref (mh E), .int x1]) ++ List.replicate (3 - (lg_sl ([.ref (mh E), .int x1])).length) Slot.unset).toArray = ls at hl ⊢
  exact wk_X3_wipe Q ⟨⟨B.exec, B.bytes, hml, findClass_of_methodNamed B.named, hts⟩, hK⟩ (fun q h => Or.inr h) (fun q h => Or.inl h) (Nat.le_refl _) (Nat.le_refl _) ⟨Nat.le_refl _, Nat.le_refl _⟩ M L (fun M pc ls H locs hd hS hW1 hQ => W.vret B.exec B.bytes B.returns (fun t ht _ => ⟨⟨(M, L), rfl, ⟨rfl, hQ⟩, by rw [← ht] at hW1; exact hW1⟩, hS.F ht⟩) hS.2.2 hd) x1 h ls _ [] hl hW va_S.rf
def CT_X3_isMatte (l : Launch) (fr lo : Nat) (w : (Int32 → Prop) → Int32 → MM → Prop) : Prop := ∀ (E : mE) (M : MM) (L : ML) (sz : Nat) (Q : Int32 → Prop) (x1 : Int32), Met l yX3_isMatte (ws_ yX3_isMatte cX3_isMatte 3 (some .boolean)) { frames := fr, cells := 0, slots := 0, locals := lo } (va_Pc [.ref (mh E), .int x1] (fun U => U.heap.size = sz ∧ mW E M L U.heap ∧ mK E U ∧ w Q x1 M)) (va_Qi (fun r (_ : Unit) => Q r) (fun _ _ => True) (mN sz)) 0 0 (mN sz)
theorem call_X3_isMatte {p : Program} {l : Launch} {e : Env} {R : Room} {s : State} {m : MethodId} {args : Array Value} {below : List Frame} {meth : Method} {c : Code} {H : Heap} {locs : List Loc} {cells slots : Nat} {Z : State → Prop} {A : Nat → Prop} {cc : ByteArray} {nL pc : Nat} {ls : Array Slot} {rest : List Value} {own : String} {index fr lo : Nat} {w : (Int32 → Prop) → Int32 → MM → Prop} {E : mE} {M : MM} {L : ML} {x1 : Int32} (hM : CT_X3_isMatte l fr lo w) (S : CallFix p m c cc nL s args lw_all own) (hK : mK E s) (hW : mW E M L H) (hS : va_S A s.heap H locs) (hA : ∀ q, s.heap.size ≤ q → A q) (hlink : Cond.methodLink own index yX3_isMatte ∈ lw_all) (hRf : fr + 1 ≤ R.frames) (hRl : 8 + (3 + 11) + lo ≤ R.locals) (hcs : cells ≤ R.cells ∧ slots ≤ R.slots) (hz : ls.size = nL) (hr8 : (rest.map fun v => v.category).sum ≤ 8) (hdg : decode cc pc = .ok (.invokevirtual index, 3)) {Q1 : Int32 → Prop} (h : w Q1 x1 M) (kk : ∀ (r : Int32) (H1 : Heap) (locs1 : List Loc), Q1 r → (∀ q : Nat, q < H.size → H1[q]? = H[q]?) → va_S A s.heap H1 locs1 → W p l e R s m args below meth c H1 locs1 cells slots Z (F0 m (pc + 3) ls (.int r :: rest))) : W p l e R s m args below meth c H locs cells slots Z (F0 m pc ls (.int x1 :: .ref (mh E) :: rest)) := by
  exact ro_i (va_runV (As := [.int x1]) (rest := rest) S (hM E M L H.size Q1 x1) (cwV 1 S.2.2.2.2 (lw_V hlink q2092 qs41 q68 q2093) rfl rfl rfl (by decide +kernel) ⟨hRf, hRl⟩) ⟨fun a U g mk q => by obtain ⟨q0, q1, qW, qK, qw⟩ := q; exact ⟨q0, q1, qW, qK.moved (u := U) (U := U.calling g mk a) (Vm.Alike.refl U.vm), qw⟩, hW.recv (hK := hK), fun U hU hWm => ⟨rfl, by rw [hU], by rw [hU]; exact hW, hK.moved hWm.alike, h⟩⟩ rfl rfl hz rfl (lv_room hr8) hdg hcs) hS hA (fun r H1 locs1 hp hz hk hS1 => kk r H1 locs1 hp hk hS1)
def w_X3_isMatte_31 (Q : Int32 → Prop) (rec2 : Int32 → Prop) (x1 : Int32) (x2 : Int32) (M : MM) : Prop := rec2 (x2 + (1 : Int32))
def w_X3_isMatte_h2 (Q : Int32 → Prop) (x1 : Int32) (M : MM) (rec2 : Int32 → Prop) (x2 : Int32) : Prop := if (M 15 0) ≤ x2 then (Q (0 : Int32)) else (mRd (M 14) 12 x2 (fun v1 => if v1 = 0 then (w_X3_isMatte_31 Q rec2 x1 x2 M) else (mRd (M 10) 12 x2 (fun v2 => if v2 = x1 then (Q (1 : Int32)) else (w_X3_isMatte_31 Q rec2 x1 x2 M)))))
def w_X3_isMatte_L2 (Q : Int32 → Prop) (x1 : Int32) (M : MM) (x2 : Int32) : Prop := wLoop (fun (rec : Int32 → Prop) (s : Int32) => w_X3_isMatte_h2 Q x1 M (fun x2 => rec x2) s) x2
def w_X3_isMatte (Q : Int32 → Prop) (x1 : Int32) (M : MM) : Prop := w_X3_isMatte_L2 Q x1 M (0 : Int32)
set_option maxRecDepth 100000 in
set_option maxHeartbeats 4000000 in
theorem wk_X3_isMatte {p : Program} {l : Launch} {e : Env} {R : Room} {s : State} {m : MethodId} {args : Array Value} {below : List Frame} {meth : Method} {c : Code} {cells slots : Nat} {Z : State → Prop} {A : Nat → Prop} {E : mE} (Q : Int32 → Prop) (C : mC p m c s args cX3_isMatte 3 E) (hA : ∀ q, s.heap.size ≤ q → A q) (hRf : 0 ≤ R.frames) (hRl : 0 ≤ R.locals) (hcs : cells ≤ R.cells ∧ slots ≤ R.slots) (M : MM) (L : ML) (hret : ∀ (v : Int32) (pc : Nat) (ls : Array Slot) (H : Heap) (locs : List Loc), decode cX3_isMatte pc = .ok (.ireturn, 1) → va_S A s.heap H locs → isZ v → Q v → W p l e R s m args below meth c H locs cells slots Z (F0 m pc ls [.int v])) (x1 : Int32) : w_X3_isMatte Q x1 M → ∀ (ls : Array Slot) (H : Heap) (locs : List Loc), lv_has ls 3 [(0, .ref (mh E)), (1, .int x1)] → mW E M L H → va_S A s.heap H locs → W p l e R s m args below meth c H locs cells slots Z (F0 m 0 ls []) := by
  obtain ⟨⟨hx, hb, hml, hown, hts⟩, hK⟩ := C; have C : mC p m c s args cX3_isMatte 3 E := ⟨⟨hx, hb, hml, hown, hts⟩, hK⟩
  have hL2 : ∀ (x2 : Int32), w_X3_isMatte_L2 Q x1 M x2 → ∀ (ls : Array Slot) (H : Heap) (locs : List Loc), lv_has ls 3 [(0, .ref (mh E)), (1, .int x1), (2, .int x2)] → mW E M L H → va_S A s.heap H locs → W p l e R s m args below meth c H locs cells slots Z (F0 m 2 ls []) := by
    obtain ⟨G2, hG2⟩ : ∃ G : Int32 → Prop, ∀ (x2 : Int32), G x2 ↔ (∀ (ls : Array Slot) (H : Heap) (locs : List Loc), lv_has ls 3 [(0, .ref (mh E)), (1, .int x1), (2, .int x2)] → mW E M L H → va_S A s.heap H locs → W p l e R s m args below meth c H locs cells slots Z (F0 m 2 ls [])) := ⟨fun x2 => _, fun x2 => Iff.rfl⟩
    have hB2 : ∀ (rec2 : Int32 → Prop), (∀ (x2 : Int32), rec2 x2 → G2 x2) → ∀ (x2 : Int32), w_X3_isMatte_h2 Q x1 M rec2 x2 → G2 x2 := by
      intro rec2 hrec2
      have hb31 : ∀ (x2 : Int32), w_X3_isMatte_31 Q rec2 x1 x2 M → ∀ (ls : Array Slot) (H : Heap) (locs : List Loc), lv_has ls 3 [(0, .ref (mh E)), (1, .int x1), (2, .int x2)] → mW E M L H → va_S A s.heap H locs → W p l e R s m args below meth c H locs cells slots Z (F0 m 31 ls []) := by
        intro x2 h
        intro ls H locs hl hW hS
        refine lv_iinc (v := x2 + (1 : Int32)) (lv' := [(2, .int (x2 + (1 : Int32))), (0, .ref (mh E)), (1, .int x1)]) hx hb dX3_isMatte_31 hl (k := 2) rfl (congrArg (fun z => x2 + z) (by decide)) (by decide) rfl (fun ls hl => ?_)
        refine lv_goto (tgt := 2) hx hb dX3_isMatte_34 (by decide) ?_
        exact (hG2 _).mp (hrec2 _ h) ls H locs (lv_sub hl [1, 2, 0] rfl) hW hS
      intro x2 h
      rw [hG2]
      intro ls H locs hl hW hS
      refine lv_iload_n hx hb dX3_isMatte_2 rfl (lv_at hl 2 rfl) ?_
      refine lv_aload_n hx hb dX3_isMatte_3 rfl (lv_at hl 0 rfl) ?_
      refine mr_getI C hW 15 rfl rfl q1818 dX3_isMatte_4 ?_
      refine lv_icmp_ge (tgt := 37) hx hb dX3_isMatte_7 (by decide) (fun c5 => ?_) (fun c5 => ?_)
      · have h := wif_t h c5
        refine lv_iconst (v := 0) hx hb dX3_isMatte_37 (by decide) ?_
        exact hret _ _ _ _ _ dX3_isMatte_38 hS isZ_0 h
      · have h := wif_f h c5
        refine lv_aload_n hx hb dX3_isMatte_10 rfl (lv_at hl 0 rfl) ?_
        refine mr_getA C hW 14 rfl rfl q1817 dX3_isMatte_11 ?_
        refine lv_iload_n hx hb dX3_isMatte_14 rfl (lv_at hl 2 rfl) ?_
        refine mr_zald C hW 14 rfl rfl rfl h dX3_isMatte_15 (fun v1 h => ?_)
        refine lv_if_eq (tgt := 31) hx hb dX3_isMatte_16 (by decide) (fun c4 => ?_) (fun c4 => ?_)
        · have h := wif_t h c4
          exact hb31 _ h ls H locs (lv_sub hl [0, 1, 2] rfl) hW hS
        · have h := wif_f h c4
          refine lv_aload_n hx hb dX3_isMatte_19 rfl (lv_at hl 0 rfl) ?_
          refine mr_getA C hW 10 rfl rfl q1813 dX3_isMatte_20 ?_
          refine lv_iload_n hx hb dX3_isMatte_23 rfl (lv_at hl 2 rfl) ?_
          refine mr_iald C hW 10 rfl rfl rfl h dX3_isMatte_24 (fun v2 h => ?_)
          refine lv_iload_n hx hb dX3_isMatte_25 rfl (lv_at hl 1 rfl) ?_
          refine lv_icmp_ne (tgt := 31) hx hb dX3_isMatte_26 (by decide) (fun c3 => ?_) (fun c3 => ?_)
          · have h := wif_f h c3
            exact hb31 _ h ls H locs (lv_sub hl [0, 1, 2] rfl) hW hS
          · have h := wif_t h c3
            refine lv_iconst (v := 1) hx hb dX3_isMatte_29 (by decide) ?_
            exact hret _ _ _ _ _ dX3_isMatte_30 hS isZ_1 h
    intro x2 h
    exact (hG2 x2).mp (loop_walk (fun s => G2 s) (fun rec hrec s h => hB2 (fun x2 => rec x2) (fun x2 h => hrec x2 h) s h) x2 h)
  intro h
  intro ls H locs hl hW hS
  refine lv_iconst (v := 0) hx hb dX3_isMatte_0 (by decide) ?_
  refine lv_istore_n (lv' := [(2, .int (0 : Int32)), (0, .ref (mh E)), (1, .int x1)]) hx hb dX3_isMatte_1 rfl hl (by decide) rfl (fun ls hl => ?_)
  exact hL2 _ h ls H locs (lv_sub hl [1, 2, 0] rfl) hW hS
theorem ct_X3_isMatte (l : Launch) : CT_X3_isMatte l 0 0 w_X3_isMatte := by
  intro E M L sz Q x1
  refine Met.ofW (cc := cX3_isMatte) (maxL := 3) (ret := (some .boolean)) (by decide) rfl ?_
  intro p e s m args below meth c s₁ B hml hv
  obtain ⟨rfl, hsz, hW, hK, h⟩ := hv
  subst hsz
  have hts := atoms_spec (ws := ws_ yX3_isMatte cX3_isMatte 3 (some .boolean)) B.pre
  have hts : ∀ w ∈ lw_all, w.before _ s = true := fun w h => hts w (List.mem_cons_of_mem _ h)
  have hl := lv_entry ([.ref (mh E), .int x1]) (n := 3) (Nat.le_of_ble_eq_true rfl)
  rw [lg_entry_eq]
  generalize (lg_sl ([.ref (mh E), .int x1]) ++ List.replicate (3 - (lg_sl ([.ref (mh E), .int x1])).length) Slot.unset).toArray = ls at hl ⊢
  exact wk_X3_isMatte Q ⟨⟨B.exec, B.bytes, hml, findClass_of_methodNamed B.named, hts⟩, hK⟩ (fun q h => h) (Nat.le_refl _) (Nat.le_refl _) ⟨Nat.le_refl _, Nat.le_refl _⟩ M L (fun v pc ls H locs hd hS hz hQ => W.zret (v := v) B.exec B.bytes B.returns hz.nar (fun t ht _ => ⟨⟨v, (), rfl, hQ, trivial⟩, hS.F ht⟩) hS.2.2 hd) x1 h ls _ [] hl hW va_S.rf
def CT_X3_isShowing (l : Launch) (fr lo : Nat) (w : (Int32 → Prop) → Int32 → Int32 → MM → Prop) : Prop := ∀ (E : mE) (M : MM) (L : ML) (sz : Nat) (Q : Int32 → Prop) (x1 : Int32) (x2 : Int32), Met l yX3_isShowing (ws_ yX3_isShowing cX3_isShowing 3 (some .boolean)) { frames := fr, cells := 0, slots := 0, locals := lo } (va_Pc [.ref (mh E), .int x1, .int x2] (fun U => U.heap.size = sz ∧ mW E M L U.heap ∧ mK E U ∧ w Q x1 x2 M)) (va_Qi (fun r (_ : Unit) => Q r) (fun _ _ => True) (mN sz)) 0 0 (mN sz)
theorem call_X3_isShowing {p : Program} {l : Launch} {e : Env} {R : Room} {s : State} {m : MethodId} {args : Array Value} {below : List Frame} {meth : Method} {c : Code} {H : Heap} {locs : List Loc} {cells slots : Nat} {Z : State → Prop} {A : Nat → Prop} {cc : ByteArray} {nL pc : Nat} {ls : Array Slot} {rest : List Value} {own : String} {index fr lo : Nat} {w : (Int32 → Prop) → Int32 → Int32 → MM → Prop} {E : mE} {M : MM} {L : ML} {x1 : Int32} {x2 : Int32} (hM : CT_X3_isShowing l fr lo w) (S : CallFix p m c cc nL s args lw_all own) (hK : mK E s) (hW : mW E M L H) (hS : va_S A s.heap H locs) (hA : ∀ q, s.heap.size ≤ q → A q) (hlink : Cond.methodLink own index yX3_isShowing ∈ lw_all) (hRf : fr + 1 ≤ R.frames) (hRl : 8 + (3 + 11) + lo ≤ R.locals) (hcs : cells ≤ R.cells ∧ slots ≤ R.slots) (hz : ls.size = nL) (hr8 : (rest.map fun v => v.category).sum ≤ 8) (hdg : decode cc pc = .ok (.invokevirtual index, 3)) {Q1 : Int32 → Prop} (h : w Q1 x1 x2 M) (kk : ∀ (r : Int32) (H1 : Heap) (locs1 : List Loc), Q1 r → (∀ q : Nat, q < H.size → H1[q]? = H[q]?) → va_S A s.heap H1 locs1 → W p l e R s m args below meth c H1 locs1 cells slots Z (F0 m (pc + 3) ls (.int r :: rest))) : W p l e R s m args below meth c H locs cells slots Z (F0 m pc ls (.int x2 :: .int x1 :: .ref (mh E) :: rest)) := by
  exact ro_i (va_runV (As := [.int x1, .int x2]) (rest := rest) S (hM E M L H.size Q1 x1 x2) (cwV 2 S.2.2.2.2 (lw_V hlink q2096 qs42 q68 q2097) rfl rfl rfl (by decide +kernel) ⟨hRf, hRl⟩) ⟨fun a U g mk q => by obtain ⟨q0, q1, qW, qK, qw⟩ := q; exact ⟨q0, q1, qW, qK.moved (u := U) (U := U.calling g mk a) (Vm.Alike.refl U.vm), qw⟩, hW.recv (hK := hK), fun U hU hWm => ⟨rfl, by rw [hU], by rw [hU]; exact hW, hK.moved hWm.alike, h⟩⟩ rfl rfl hz rfl (lv_room hr8) hdg hcs) hS hA (fun r H1 locs1 hp hz hk hS1 => kk r H1 locs1 hp hk hS1)
def w_X3_isShowing (Q : Int32 → Prop) (x1 : Int32) (x2 : Int32) (M : MM) : Prop := mRd (M 12) 12 x1 (fun v1 => mRd (M 13) 12 x1 (fun v2 => w_X3_isWithin (fun r3 => if r3 = 0 then (Q (0 : Int32)) else (w_X3_valueOf (fun r4 => if r4 < (1 : Int32) then (Q (0 : Int32)) else (Q (1 : Int32))) x1 (7 : Int32) x2 M)) x2 v1 (v2 - (1 : Int32))))
set_option maxRecDepth 100000 in
set_option maxHeartbeats 4000000 in
theorem wk_X3_isShowing {p : Program} {l : Launch} {e : Env} {R : Room} {s : State} {m : MethodId} {args : Array Value} {below : List Frame} {meth : Method} {c : Code} {cells slots : Nat} {Z : State → Prop} {A : Nat → Prop} {E : mE} (Q : Int32 → Prop) (C : mC p m c s args cX3_isShowing 3 E) (hA : ∀ q, s.heap.size ≤ q → A q) (hRf : 3 ≤ R.frames) (hRl : 76 ≤ R.locals) (hcs : cells ≤ R.cells ∧ slots ≤ R.slots) (M : MM) (L : ML) (hret : ∀ (v : Int32) (pc : Nat) (ls : Array Slot) (H : Heap) (locs : List Loc), decode cX3_isShowing pc = .ok (.ireturn, 1) → va_S A s.heap H locs → isZ v → Q v → W p l e R s m args below meth c H locs cells slots Z (F0 m pc ls [.int v])) (x1 : Int32) (x2 : Int32) : w_X3_isShowing Q x1 x2 M → ∀ (ls : Array Slot) (H : Heap) (locs : List Loc), lv_has ls 3 [(0, .ref (mh E)), (1, .int x1), (2, .int x2)] → mW E M L H → va_S A s.heap H locs → W p l e R s m args below meth c H locs cells slots Z (F0 m 0 ls []) := by
  obtain ⟨⟨hx, hb, hml, hown, hts⟩, hK⟩ := C; have C : mC p m c s args cX3_isShowing 3 E := ⟨⟨hx, hb, hml, hown, hts⟩, hK⟩
  intro h
  intro ls H locs hl hW hS
  refine lv_iload_n hx hb dX3_isShowing_0 rfl (lv_at hl 2 rfl) ?_
  refine lv_aload_n hx hb dX3_isShowing_1 rfl (lv_at hl 0 rfl) ?_
  refine mr_getA C hW 12 rfl rfl q1815 dX3_isShowing_2 ?_
  refine lv_iload_n hx hb dX3_isShowing_5 rfl (lv_at hl 1 rfl) ?_
  refine mr_iald C hW 12 rfl rfl rfl h dX3_isShowing_6 (fun v1 h => ?_)
  refine lv_aload_n hx hb dX3_isShowing_7 rfl (lv_at hl 0 rfl) ?_
  refine mr_getA C hW 13 rfl rfl q1816 dX3_isShowing_8 ?_
  refine lv_iload_n hx hb dX3_isShowing_11 rfl (lv_at hl 1 rfl) ?_
  refine mr_iald C hW 13 rfl rfl rfl h dX3_isShowing_12 (fun v2 h => ?_)
  refine lv_iconst (v := 1) hx hb dX3_isShowing_13 (by decide) ?_
  refine lv_isub hx hb dX3_isShowing_14 ?_
  refine call_X3_isWithin (ct_X3_isWithin l) C.1 hS hA q1915 (le_lit hRf rfl) (le_lit hRl rfl) hcs hl.1 (Nat.le_of_ble_eq_true rfl) dX3_isShowing_15 h (fun r3 H locs h hk hS => ?_)
  have hW := hW.kept hk
  refine lv_if_eq (tgt := 37) hx hb dX3_isShowing_18 (by decide) (fun c6 => ?_) (fun c6 => ?_)
  · have h := wif_t h c6
    refine lv_iconst (v := 0) hx hb dX3_isShowing_37 (by decide) ?_
    exact hret _ _ _ _ _ dX3_isShowing_38 hS isZ_0 h
  · have h := wif_f h c6
    refine lv_aload_n hx hb dX3_isShowing_21 rfl (lv_at hl 0 rfl) ?_
    refine lv_iload_n hx hb dX3_isShowing_22 rfl (lv_at hl 1 rfl) ?_
    refine lv_bipush (v := 7) hx hb dX3_isShowing_23 (by decide) ?_
    refine lv_iload_n hx hb dX3_isShowing_25 rfl (lv_at hl 2 rfl) ?_
    refine call_X3_valueOf (ct_X3_valueOf l) C.1 C.2 hW hS hA q2022 (le_lit hRf rfl) (le_lit hRl rfl) hcs hl.1 (Nat.le_of_ble_eq_true rfl) dX3_isShowing_26 h (fun r4 H locs h hk hS => ?_)
    have hW := hW.kept hk
    refine lv_iconst (v := 1) hx hb dX3_isShowing_29 (by decide) ?_
    refine lv_icmp_lt (tgt := 37) hx hb dX3_isShowing_30 (by decide) (fun c5 => ?_) (fun c5 => ?_)
    · have h := wif_t h c5
      refine lv_iconst (v := 0) hx hb dX3_isShowing_37 (by decide) ?_
      exact hret _ _ _ _ _ dX3_isShowing_38 hS isZ_0 h
    · have h := wif_f h c5
      refine lv_iconst (v := 1) hx hb dX3_isShowing_33 (by decide) ?_
      refine lv_goto (tgt := 38) hx hb dX3_isShowing_34 (by decide) ?_
      exact hret _ _ _ _ _ dX3_isShowing_38 hS isZ_1 h
theorem ct_X3_isShowing (l : Launch) : CT_X3_isShowing l 3 76 w_X3_isShowing := by
  intro E M L sz Q x1 x2
  refine Met.ofW (cc := cX3_isShowing) (maxL := 3) (ret := (some .boolean)) (by decide) rfl ?_
  intro p e s m args below meth c s₁ B hml hv
  obtain ⟨rfl, hsz, hW, hK, h⟩ := hv
  subst hsz
  have hts := atoms_spec (ws := ws_ yX3_isShowing cX3_isShowing 3 (some .boolean)) B.pre
  have hts : ∀ w ∈ lw_all, w.before _ s = true := fun w h => hts w (List.mem_cons_of_mem _ h)
  have hl := lv_entry ([.ref (mh E), .int x1, .int x2]) (n := 3) (Nat.le_of_ble_eq_true rfl)
  rw [lg_entry_eq]
  generalize (lg_sl ([.ref (mh E), .int x1, .int x2]) ++ List.replicate (3 - (lg_sl ([.ref (mh E), .int x1, .int x2])).length) Slot.unset).toArray = ls at hl ⊢
  exact wk_X3_isShowing Q ⟨⟨B.exec, B.bytes, hml, findClass_of_methodNamed B.named, hts⟩, hK⟩ (fun q h => h) (Nat.le_refl _) (Nat.le_refl _) ⟨Nat.le_refl _, Nat.le_refl _⟩ M L (fun v pc ls H locs hd hS hz hQ => W.zret (v := v) B.exec B.bytes B.returns hz.nar (fun t ht _ => ⟨⟨v, (), rfl, hQ, trivial⟩, hS.F ht⟩) hS.2.2 hd) x1 x2 h ls _ [] hl hW va_S.rf
