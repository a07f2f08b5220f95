def CT_X3_coveredPart (l : Launch) (fr lo : Nat) (w : (UInt32 → MM → ML → Prop) → Int32 → Int32 → MM → ML → Prop) : Prop := ∀ (E : mE) (M : MM) (L : ML) (sz : Nat) (Q : UInt32 → MM → ML → Prop) (x1 : Int32) (x2 : Int32), Met l yX3_coveredPart (ws_ yX3_coveredPart cX3_coveredPart 3 (some .float)) { frames := fr, cells := 0, slots := 0, locals := lo } (va_Pc [.ref (mh E), .int x1, .int x2] (fun U => U.heap.size = sz ∧ mW E M L U.heap ∧ mK E U ∧ w Q x1 x2 M L)) (va_Qf (fun r (u : MM × ML) => Q r u.1 u.2) (fun u t => mW E u.1 u.2 t.heap) (mA E sz)) 0 0 (mA E sz)
theorem call_X3_coveredPart {p : Program} {l : Launch} {e : Env} {R : Room} {s : State} {m : MethodId} {args : Array Value} {below : List Frame} {meth : Method} {c : Code} {H : Heap} {locs : List Loc} {cells slots : Nat} {Z : State → Prop} {A : Nat → Prop} {cc : ByteArray} {nL pc : Nat} {ls : Array Slot} {rest : List Value} {own : String} {index fr lo : Nat} {w : (UInt32 → MM → ML → Prop) → Int32 → Int32 → MM → ML → Prop} {E : mE} {M : MM} {L : ML} {x1 : Int32} {x2 : Int32} (hM : CT_X3_coveredPart l fr lo w) (S : CallFix p m c cc nL s args lw_all own) (hK : mK E s) (hW : mW E M L H) (hS : va_S A s.heap H locs) (hA : ∀ q, s.heap.size ≤ q → A q) (hAw : ∀ q, mAd E q → A q) (hlink : Cond.methodLink own index yX3_coveredPart ∈ lw_all) (hRf : fr + 1 ≤ R.frames) (hRl : 8 + (3 + 11) + lo ≤ R.locals) (hcs : cells ≤ R.cells ∧ slots ≤ R.slots) (hz : ls.size = nL) (hr8 : (rest.map fun v => v.category).sum ≤ 8) (hdg : decode cc pc = .ok (.invokevirtual index, 3)) {Q1 : UInt32 → MM → ML → Prop} (h : w Q1 x1 x2 M L) (kk : ∀ (r : UInt32) (M1 : MM) (L1 : ML) (H1 : Heap) (locs1 : List Loc), Q1 r M1 L1 → mW E M1 L1 H1 → va_S A s.heap H1 locs1 → (∀ q : Nat, q < H.size → ¬ mAd E q → H1[q]? = H[q]?) → W p l e R s m args below meth c H1 locs1 cells slots Z (F0 m (pc + 3) ls (.float r :: rest))) : W p l e R s m args below meth c H locs cells slots Z (F0 m pc ls (.int x2 :: .int x1 :: .ref (mh E) :: rest)) := by
  refine mw_f (sz := 0) (P := fun r M1 L1 => Q1 r M1 L1) (va_runV (As := [.int x1, .int x2]) (rest := rest) S (hM E M L H.size Q1 x1 x2) (cwV 2 S.2.2.2.2 (lw_V hlink q2195 q2196 q68 q2197) rfl rfl rfl (by decide +kernel) ⟨hRf, hRl⟩) ⟨fun a U g mk q => by obtain ⟨q0, q1, qW, qK, qw⟩ := q; exact ⟨q0, q1, qW, qK.moved (u := U) (U := U.calling g mk a) (Vm.Alike.refl U.vm), qw⟩, hW.recv (hK := hK), fun U hU hWm => ⟨rfl, by rw [hU], by rw [hU]; exact hW, hK.moved hWm.alike, h⟩⟩ rfl rfl hz rfl (lv_room hr8) hdg hcs) hS hA hAw (fun r M1 L1 H1 locs1 hp hW1 hz hk hS1 => ?_)
  exact kk r M1 L1 H1 locs1 hp hW1 hS1 hk
def w_X3_coveredPart (Q : UInt32 → MM → ML → Prop) (x1 : Int32) (x2 : Int32) (M : MM) (L : ML) : Prop := w_X3_isComposition (fun r1 => w_X3_isTime (fun r2 => w_X3_check (fun r3 M4 => if r3 = 0 then (Q (FP.fconst0) M4 L) else (w_X3_countCovered (fun r5 M6 L7 => vf_n32 (FP.fdiv (FP.i2f r5) (1128267776 : UInt32)) ∧ (Q (FP.fdiv (FP.i2f r5) (1128267776 : UInt32)) M6 L7)) x1 x2 M4 L)) r1 r2 (1 : Int32) M) x2) x1 M
set_option maxRecDepth 100000 in
set_option maxHeartbeats 4000000 in
theorem wk_X3_coveredPart {p : Program} {l : Launch} {e : Env} {R : Room} {s : State} {m : MethodId} {args : Array Value} {below : List Frame} {meth : Method} {c : Code} {cells slots : Nat} {Z : State → Prop} {A : Nat → Prop} {E : mE} (Q : UInt32 → MM → ML → Prop) (C : mC p m c s args cX3_coveredPart 3 E) (hA : ∀ q, s.heap.size ≤ q → A q) (hAw : ∀ q, mAd E q → A q) (hRf : 33 ≤ R.frames) (hRl : 863 ≤ R.locals) (hcs : cells ≤ R.cells ∧ slots ≤ R.slots) (M : MM) (L : ML) (hret : ∀ (v : UInt32) (M : MM) (L : ML) (pc : Nat) (ls : Array Slot) (H : Heap) (locs : List Loc), decode cX3_coveredPart pc = .ok (.freturn, 1) → va_S A s.heap H locs → mW E M L H → Q v M L → W p l e R s m args below meth c H locs cells slots Z (F0 m pc ls [.float v])) (x1 : Int32) (x2 : Int32) : w_X3_coveredPart Q x1 x2 M L → ∀ (ls : Array Slot) (H : Heap) (locs : List Loc), lv_has ls 3 [(0, .ref (mh E)), (1, .int x1), (2, .int x2)] → mW E M L H → va_S A s.heap H locs → W p l e R s m args below meth c H locs cells slots Z (F0 m 0 ls []) := by
  obtain ⟨⟨hx, hb, hml, hown, hts⟩, hK⟩ := C; have C : mC p m c s args cX3_coveredPart 3 E := ⟨⟨hx, hb, hml, hown, hts⟩, hK⟩
  intro h
  intro ls H locs hl hW hS
  refine lv_aload_n hx hb dX3_coveredPart_0 rfl (lv_at hl 0 rfl) ?_
  refine lv_aload_n hx hb dX3_coveredPart_1 rfl (lv_at hl 0 rfl) ?_
  refine lv_iload_n hx hb dX3_coveredPart_2 rfl (lv_at hl 1 rfl) ?_
  refine call_X3_isComposition (ct_X3_isComposition l) C.1 C.2 hW hS hA q1918 (le_lit hRf rfl) (le_lit hRl rfl) hcs hl.1 (Nat.le_of_ble_eq_true rfl) dX3_coveredPart_3 h (fun r1 H locs h hk hS => ?_)
  have hW := hW.kept hk
  refine lv_iload_n hx hb dX3_coveredPart_6 rfl (lv_at hl 2 rfl) ?_
  refine call_X3_isTime (ct_X3_isTime l) C.1 hS hA q1990 (le_lit hRf rfl) (le_lit hRl rfl) hcs hl.1 (Nat.le_of_ble_eq_true rfl) dX3_coveredPart_7 h (fun r2 H locs h hk hS => ?_)
  have hW := hW.kept hk
  refine lv_iconst (v := 1) hx hb dX3_coveredPart_10 (by decide) ?_
  refine call_X3_check (ct_X3_check l) C.1 C.2 hW hS hA hAw q1907 (le_lit hRf rfl) (le_lit hRl rfl) hcs hl.1 (Nat.le_of_ble_eq_true rfl) dX3_coveredPart_11 h (fun r3 M4 H locs h hW hS _ => ?_)
  refine lv_if_eq (tgt := 31) hx hb dX3_coveredPart_14 (by decide) (fun c8 => ?_) (fun c8 => ?_)
  · have h := wif_t h c8
    refine lv_fconst0 hx hb dX3_coveredPart_31 ?_
    exact hret _ _ _ _ _ _ _ dX3_coveredPart_32 hS hW h
  · have h := wif_f h c8
    refine lv_aload_n hx hb dX3_coveredPart_17 rfl (lv_at hl 0 rfl) ?_
    refine lv_iload_n hx hb dX3_coveredPart_18 rfl (lv_at hl 1 rfl) ?_
    refine lv_iload_n hx hb dX3_coveredPart_19 rfl (lv_at hl 2 rfl) ?_
    refine call_X3_countCovered (ct_X3_countCovered l) C.1 C.2 hW hS hA hAw q2146 (le_lit hRf rfl) (le_lit hRl rfl) hcs hl.1 (Nat.le_of_ble_eq_true rfl) dX3_coveredPart_20 h (fun r5 M6 L7 H locs h hW hS _ => ?_)
    refine lv_i2f hx hb dX3_coveredPart_23 ?_
    refine lv_ldcwF hx hb hown (hts _ q2198) dX3_coveredPart_24 ?_
    refine lv_fdiv hx hb dX3_coveredPart_27 h.1 ?_
    have h := h.2
    refine lv_goto (tgt := 32) hx hb dX3_coveredPart_28 (by decide) ?_
    exact hret _ _ _ _ _ _ _ dX3_coveredPart_32 hS hW h
theorem ct_X3_coveredPart (l : Launch) : CT_X3_coveredPart l 33 863 w_X3_coveredPart := by
  intro E M L sz Q x1 x2
  refine Met.ofW (cc := cX3_coveredPart) (maxL := 3) (ret := (some .float)) (by decide) rfl ?_
  intro p e s m args below meth c s₁ B hml hv
  obtain ⟨rfl, hsz, hW, hK, h⟩ := hv
  subst hsz
  have hts := atoms_spec (ws := ws_ yX3_coveredPart cX3_coveredPart 3 (some .float)) B.pre
  have hts : ∀ w ∈ lw_all, w.before _ s = true := fun w h => hts w (List.mem_cons_of_mem _ h)
  have hl := lv_entry ([.ref (mh E), .int x1, .int x2]) (n := 3) (Nat.le_of_ble_eq_true rfl)
  rw [lg_entry_eq]
  generalize (lg_sl ([.ref (mh E), .int x1, .int x2]) ++ List.replicate (3 - (lg_sl ([.ref (mh E), .int x1, .int x2])).length) Slot.unset).toArray = ls at hl ⊢
  exact wk_X3_coveredPart Q ⟨⟨B.exec, B.bytes, hml, findClass_of_methodNamed B.named, hts⟩, hK⟩ (fun q h => Or.inr h) (fun q h => Or.inl h) (Nat.le_refl _) (Nat.le_refl _) ⟨Nat.le_refl _, Nat.le_refl _⟩ M L (fun v M L pc ls H locs hd hS hW1 hQ => W.fret (hlocks := B.notSynchronized) (v := v) B.exec B.bytes B.returns (fun t ht _ => ⟨⟨v, (M, L), rfl, hQ, by rw [← ht] at hW1; exact hW1⟩, hS.F ht⟩) hS.2.2 hd) x1 x2 h ls _ [] hl hW va_S.rf
