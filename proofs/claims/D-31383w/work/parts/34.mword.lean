/-! THE REFERENCE's methods that make an array (printed by pword.py) -/
section MWORD
variable {p : Program} {l : Launch} {e : Env} {R : Room} {s : State} {m : MethodId} {args : Array Value} {below : List Frame} {meth : Method} {c : Code} {H : Heap} {locs : List Loc} {cells slots : Nat} {Q : State → Prop}
variable {cc : ByteArray} {pc nL : Nat} {ls : Array Slot} {rest : List Value} {A : Nat → Prop} {E : mE} {M : MM} {L : ML}
/-- a local array of six ints at q -/
def mLc (E : mE) (s : State) (cA : ClassId) (q : Nat) (f : Nat → Int32) (H : Heap) : Prop := H[q]? = some (arrV cA 6 (fun j => .int (f j))) ∧ ¬ mAd E q ∧ ArrOfT s cA .int
theorem mrl_new (C : mC p m c s args cc nL E) (hW : mW E M L H) (hS : va_S A s.heap H locs) (hA : ∀ q, s.heap.size ≤ q → A q) (harr : Cond.arrayClass .int ∈ lw_all) (hc : cells + 1 ≤ R.cells) (hs : slots + 6 ≤ R.slots) (hdg : decode cc pc = .ok (.newarray .int, 2))
    (kk : ∀ (cA : ClassId) (q : Nat) (H1 : Heap), mLc E s cA q (fun _ => 0) H1 → A q → mW E M L H1 → va_S A s.heap H1 locs → W p l e R s m args below meth c H1 locs (cells + 1) (slots + 6) Q (F0 m (pc + 2) ls (.ref q :: rest))) : W p l e R s m args below meth c H locs cells slots Q (F0 m pc ls (.int 6 :: rest)) := by
  obtain ⟨⟨hx, hb, -, hown, hts⟩, hKx⟩ := C
  refine va_newaK (atype := .int) (N := 6) hx hb (hts _ harr) rfl hdg rfl (by decide) (by decide) (by decide) hc hs rfl fun H1 cA e1 z1 o1 hAr hNm => ?_
  exact kk cA H.size H1 ⟨e1, fun h => Nat.lt_irrefl _ (hW.lt _ h), hAr⟩ (hA _ hS.1) (hW.kept o1) ⟨Nat.le_trans hS.1 (by omega), fun x g1 g2 => (o1 x (Nat.lt_of_lt_of_le g1 hS.1)).trans (hS.2.1 x g1 g2), hS.2.2⟩
theorem mrl_st (C : mC p m c s args cc nL E) {cA : ClassId} {q : Nat} {f : Nat → Int32} (hQ : mLc E s cA q f H) (hq : A q) (hW : mW E M L H) (hS : va_S A s.heap H locs) {n : Nat} {v : Int32} (hn : n < 6) (hdg : decode cc pc = .ok (.iastore, 1))
    (kk : ∀ (H1 : Heap) (locs1 : List Loc), mLc E s cA q (upd f n v) H1 → mW E M L H1 → va_S A s.heap H1 locs1 → W p l e R s m args below meth c H1 locs1 cells slots Q (F0 m (pc + 1) ls rest)) : W p l e R s m args below meth c H locs cells slots Q (F0 m pc ls (.int v :: .int (nI n) :: .ref q :: rest)) := by
  obtain ⟨hc, hna, hAr⟩ := hQ
  refine W.iast C.1.1 C.1.2.1 hc (hAr _ _) (fun q => by cases q) (mr_in hn (by decide)) rfl rfl hdg fun H1 e z oq => ?_
  refine kk H1 _ ⟨?_, hna, hAr⟩ (hW.kept' fun x hx => oq x fun h => hna (by rw [← h]; exact hx)) (hS.put z oq hq)
  rw [e, arrV_store, nI_clamp (by omega)]
  congr 2
  funext z
  by_cases hz : z = n
  · subst hz; simp [updV, upd]
  · simp [updV, upd, hz]
theorem mrl_ld (C : mC p m c s args cc nL E) {cA : ClassId} {q : Nat} {f : Nat → Int32} (hQ : mLc E s cA q f H) {i : Int32} {K : Int32 → Prop} (h : mRd f 6 i K) (hdg : decode cc pc = .ok (.iaload, 1))
    (kk : ∀ v : Int32, K v → W p l e R s m args below meth c H locs cells slots Q (F0 m (pc + 1) ls (.int v :: rest))) : W p l e R s m args below meth c H locs cells slots Q (F0 m pc ls (.int i :: .ref q :: rest)) := by
  obtain ⟨hc, hna, hAr⟩ := hQ
  obtain ⟨n, e1, hn, h⟩ := h
  subst e1
  refine W.iald (v := .int (f n)) C.1.1 C.1.2.1 hc (hAr _ _) (fun q => by cases q) (mr_in hn (by decide)) ?_ rfl rfl hdg (kk _ h)
  rw [nI_clamp (by omega), arrV_read _ _ hn]
theorem mLc.kept {cA : ClassId} {q : Nat} {f : Nat → Int32} {H1 : Heap} (hQ : mLc E s cA q f H) (hk : ∀ q : Nat, q < H.size → ¬ mAd E q → H1[q]? = H[q]?) : mLc E s cA q f H1 := ⟨(hk q (Array.getElem?_eq_some_iff.mp hQ.1).1 hQ.2.1).trans hQ.1, hQ.2⟩
end MWORD
def CT_X3_putWord (l : Launch) (fr lo : Nat) (w : (MM → Prop) → Int32 → Int32 → Int32 → Int32 → Int32 → Int32 → MM → Prop) : Prop := ∀ (E : mE) (M : MM) (L : ML) (sz : Nat) (Q : MM → Prop) (x1 : Int32) (x2 : Int32) (x3 : Int32) (x4 : Int32) (x5 : Int32) (x6 : Int32), Met l yX3_putWord (ws_ yX3_putWord cX3_putWord 9 none) { frames := fr, cells := 1, slots := 6, locals := lo } (va_Pc [.ref (mh E), .int x1, .int x2, .int x3, .int x4, .int x5, .int x6] (fun U => U.heap.size = sz ∧ mW E M L U.heap ∧ mK E U ∧ w Q x1 x2 x3 x4 x5 x6 M)) (va_Qv (fun (u : MM × ML) => u.2 = L ∧ Q u.1) (fun u t => mW E u.1 u.2 t.heap) (mA E sz)) 1 6 (mA E sz)
theorem call_X3_putWord {p : Program} {l : Launch} {e : Env} {R : Room} {s : State} {m : MethodId} {args : Array Value} {below : List Frame} {meth : Method} {c : Code} {H : Heap} {locs : List Loc} {cells slots : Nat} {Z : State → Prop} {A : Nat → Prop} {cc : ByteArray} {nL pc : Nat} {ls : Array Slot} {rest : List Value} {own : String} {index fr lo : Nat} {w : (MM → Prop) → Int32 → Int32 → Int32 → Int32 → Int32 → Int32 → MM → Prop} {E : mE} {M : MM} {L : ML} {x1 : Int32} {x2 : Int32} {x3 : Int32} {x4 : Int32} {x5 : Int32} {x6 : Int32} (hM : CT_X3_putWord l fr lo w) (S : CallFix p m c cc nL s args lw_all own) (hK : mK E s) (hW : mW E M L H) (hS : va_S A s.heap H locs) (hA : ∀ q, s.heap.size ≤ q → A q) (hAw : ∀ q, mAd E q → A q) (hlink : Cond.methodLink own index yX3_putWord ∈ lw_all) (hRf : fr + 1 ≤ R.frames) (hRl : 8 + (9 + 11) + lo ≤ R.locals) (hcs : cells + 1 ≤ R.cells ∧ slots + 6 ≤ R.slots) (hz : ls.size = nL) (hr8 : (rest.map fun v => v.category).sum ≤ 8) (hdg : decode cc pc = .ok (.invokevirtual index, 3)) {Q1 : MM → Prop} (h : w Q1 x1 x2 x3 x4 x5 x6 M) (kk : ∀ (M1 : MM) (H1 : Heap) (locs1 : List Loc), Q1 M1 → mW E M1 L H1 → va_S A s.heap H1 locs1 → (∀ q : Nat, q < H.size → ¬ mAd E q → H1[q]? = H[q]?) → W p l e R s m args below meth c H1 locs1 (cells + 1) (slots + 6) Z (F0 m (pc + 3) ls (rest))) : W p l e R s m args below meth c H locs cells slots Z (F0 m pc ls (.int x6 :: .int x5 :: .int x4 :: .int x3 :: .int x2 :: .int x1 :: .ref (mh E) :: rest)) := by
  refine mw_v (sz := 0) (P := fun M1 L1 => L1 = L ∧ Q1 M1) (va_runV (As := [.int x1, .int x2, .int x3, .int x4, .int x5, .int x6]) (rest := rest) S (hM E M L H.size Q1 x1 x2 x3 x4 x5 x6) (cwV 6 S.2.2.2.2 (lw_V hlink q2176 qs55 q68 q2177) rfl rfl rfl (by decide +kernel) ⟨hRf, hRl⟩) ⟨fun a U g mk q => by obtain ⟨q0, q1, qW, qK, qw⟩ := q; exact ⟨q0, q1, qW, qK.moved (u := U) (U := U.calling g mk a) (Vm.Alike.refl U.vm), qw⟩, hW.recv (hK := hK), fun U hU hWm => ⟨rfl, by rw [hU], by rw [hU]; exact hW, hK.moved hWm.alike, h⟩⟩ rfl rfl hz rfl (lv_room hr8) hdg hcs) hS hA hAw (fun M1 L1 H1 locs1 hp hW1 hz hk hS1 => ?_)
  obtain ⟨rfl, hp⟩ := hp
  exact kk M1 H1 locs1 hp hW1 hS1 hk
def w_X3_putWord_f (x1 x2 x3 x4 x5 x6 : Int32) : Nat → Int32 := upd (upd (upd (upd (upd (upd (fun _ => 0) 0 x1) 1 x2) 2 x3) 3 x4) 4 x5) 5 x6
def w_X3_putWord_h (Q : MM → Prop) (f : Nat → Int32) (rec : Int32 → MM → Prop) (x8 : Int32) (M : MM) : Prop := if (6 : Int32) ≤ x8 then (Q M) else (mRd f 6 x8 (fun v1 => if v1 = 0 then (Q M) else (mRd f 6 x8 (fun v2 => w_X3_put (fun M1 => rec (x8 + (1 : Int32)) M1) v2 M))))
def w_X3_putWord (Q : MM → Prop) (x1 : Int32) (x2 : Int32) (x3 : Int32) (x4 : Int32) (x5 : Int32) (x6 : Int32) (M : MM) : Prop := wLoop (fun (rec : (Int32 × MM) → Prop) (s : Int32 × MM) => w_X3_putWord_h Q (w_X3_putWord_f x1 x2 x3 x4 x5 x6) (fun i M => rec (i, M)) s.1 s.2) ((0 : Int32), M)
set_option maxRecDepth 100000 in
set_option maxHeartbeats 4000000 in
theorem wk_X3_putWord {p : Program} {l : Launch} {e : Env} {R : Room} {s : State} {m : MethodId} {args : Array Value} {below : List Frame} {meth : Method} {c : Code} {Z : State → Prop} {A : Nat → Prop} {E : mE} (Q : MM → Prop) (C : mC p m c s args cX3_putWord 9 E) (hA : ∀ q, s.heap.size ≤ q → A q) (hAw : ∀ q, mAd E q → A q) (hRf : 1 ≤ R.frames) (hRl : 21 ≤ R.locals) (M : MM) (L : ML) (hret : ∀ (M : MM) (pc : Nat) (ls : Array Slot) (H : Heap) (locs : List Loc) (cells slots : Nat), decode cX3_putWord pc = .ok (.return_, 1) → va_S A s.heap H locs → mW E M L H → cells ≤ R.cells → slots ≤ R.slots → Q M → W p l e R s m args below meth c H locs cells slots Z (F0 m pc ls [])) (x1 : Int32) (x2 : Int32) (x3 : Int32) (x4 : Int32) (x5 : Int32) (x6 : Int32) : w_X3_putWord Q x1 x2 x3 x4 x5 x6 M → ∀ (ls : Array Slot) (H : Heap) (locs : List Loc) (cells slots : Nat), lv_has ls 9 [(0, .ref (mh E)), (1, .int x1), (2, .int x2), (3, .int x3), (4, .int x4), (5, .int x5), (6, .int x6)] → mW E M L H → va_S A s.heap H locs → cells + 1 ≤ R.cells ∧ slots + 6 ≤ R.slots → W p l e R s m args below meth c H locs cells slots Z (F0 m 0 ls []) := by
  obtain ⟨⟨hx, hb, hml, hown, hts⟩, hK⟩ := C; have C : mC p m c s args cX3_putWord 9 E := ⟨⟨hx, hb, hml, hown, hts⟩, hK⟩
  have hL : ∀ (cA : ClassId) (q : Nat) (f : Nat → Int32), A q → ∀ (x8 : Int32) (M : MM), wLoop (fun (rec : (Int32 × MM) → Prop) (s : Int32 × MM) => w_X3_putWord_h Q f (fun i M => rec (i, M)) s.1 s.2) (x8, M) → (∀ (ls : Array Slot) (H : Heap) (locs : List Loc) (cells slots : Nat), lv_has ls 9 [(0, .ref (mh E)), (7, .ref q), (8, .int x8)] → mLc E s cA q f H → mW E M L H → va_S A s.heap H locs → cells ≤ R.cells ∧ slots ≤ R.slots → W p l e R s m args below meth c H locs cells slots Z (F0 m 36 ls [])) := by
    intro cA q f hAq
    obtain ⟨GG, hG⟩ : ∃ GG : Int32 → MM → Prop, ∀ (x8 : Int32) (M : MM), GG x8 M ↔ (∀ (ls : Array Slot) (H : Heap) (locs : List Loc) (cells slots : Nat), lv_has ls 9 [(0, .ref (mh E)), (7, .ref q), (8, .int x8)] → mLc E s cA q f H → mW E M L H → va_S A s.heap H locs → cells ≤ R.cells ∧ slots ≤ R.slots → W p l e R s m args below meth c H locs cells slots Z (F0 m 36 ls [])) := ⟨fun x8 M => _, fun x8 M => Iff.rfl⟩
    have hB : ∀ (rec : Int32 → MM → Prop), (∀ (x8 : Int32) (M : MM), rec x8 M → GG x8 M) → ∀ (x8 : Int32) (M : MM), w_X3_putWord_h Q f rec x8 M → GG x8 M := by
      intro rec hrec x8 M h
      rw [hG]
      intro ls H locs cells slots hl hF hW hS hcs
      refine lv_iload hx hb dX3_putWord_36 (lv_at hl 2 rfl) ?_
      refine lv_bipush (v := 6) hx hb dX3_putWord_38 (by decide) ?_
      refine lv_icmp_ge (tgt := 66) hx hb dX3_putWord_40 (by decide) (fun c1 => ?_) (fun c1 => ?_)
      · have h := wif_t h c1
        exact hret _ _ _ _ _ _ _ dX3_putWord_66 hS hW hcs.1 hcs.2 h
      · have h := wif_f h c1
        refine lv_aload hx hb dX3_putWord_43 (lv_at hl 1 rfl) ?_
        refine lv_iload hx hb dX3_putWord_45 (lv_at hl 2 rfl) ?_
        refine mrl_ld C hF h dX3_putWord_47 (fun v1 h => ?_)
        refine lv_if_eq (tgt := 66) hx hb dX3_putWord_48 (by decide) (fun c2 => ?_) (fun c2 => ?_)
        · have h := wif_t h c2
          exact hret _ _ _ _ _ _ _ dX3_putWord_66 hS hW hcs.1 hcs.2 h
        · have h := wif_f h c2
          refine lv_aload_n hx hb dX3_putWord_51 rfl (lv_at hl 0 rfl) ?_
          refine lv_aload hx hb dX3_putWord_52 (lv_at hl 1 rfl) ?_
          refine lv_iload hx hb dX3_putWord_54 (lv_at hl 2 rfl) ?_
          refine mrl_ld C hF h dX3_putWord_56 (fun v2 h => ?_)
          refine call_X3_put (ct_X3_put l) C.1 C.2 hW hS hA hAw q2162 (le_lit hRf rfl) (le_lit hRl rfl) hcs hl.1 (Nat.le_of_ble_eq_true rfl) dX3_putWord_57 h (fun M1 H locs h hW hS hk => ?_)
          have hF := hF.kept hk
          refine lv_iinc (v := x8 + (1 : Int32)) (lv' := [(8, .int (x8 + (1 : Int32))), (0, .ref (mh E)), (7, .ref q)]) hx hb dX3_putWord_60 hl (k := 2) rfl (congrArg (fun z => x8 + z) (by decide)) (by decide) rfl (fun ls hl => ?_)
          refine lv_goto (tgt := 36) hx hb dX3_putWord_63 (by decide) ?_
          exact (hG _ _).mp (hrec _ _ h) ls H locs _ _ (lv_sub hl [1, 2, 0] rfl) hF hW hS hcs
    intro x8 M h
    exact (hG x8 M).mp (loop_walk (fun s => GG s.1 s.2) (fun rec hrec s h => hB (fun i M => rec (i, M)) (fun i M h => hrec (i, M) h) s.1 s.2 h) (x8, M) h)
  intro h
  intro ls H locs cells slots hl hW hS hcs
  refine lv_bipush (v := 6) hx hb dX3_putWord_0 (by decide) ?_
  refine mrl_new C hW hS hA q827 hcs.1 hcs.2 dX3_putWord_2 (fun cA q H hF hAq hW hS => ?_)
  refine lv_dup hx hb dX3_putWord_4 rfl ?_
  refine lv_iconst (v := 0) hx hb dX3_putWord_5 (by decide) ?_
  refine lv_iload_n hx hb dX3_putWord_6 rfl (lv_at hl 1 rfl) ?_
  refine mrl_st C hF hAq hW hS (n := 0) (by decide) dX3_putWord_7 (fun H locs hF hW hS => ?_)
  refine lv_dup hx hb dX3_putWord_8 rfl ?_
  refine lv_iconst (v := 1) hx hb dX3_putWord_9 (by decide) ?_
  refine lv_iload_n hx hb dX3_putWord_10 rfl (lv_at hl 2 rfl) ?_
  refine mrl_st C hF hAq hW hS (n := 1) (by decide) dX3_putWord_11 (fun H locs hF hW hS => ?_)
  refine lv_dup hx hb dX3_putWord_12 rfl ?_
  refine lv_iconst (v := 2) hx hb dX3_putWord_13 (by decide) ?_
  refine lv_iload_n hx hb dX3_putWord_14 rfl (lv_at hl 3 rfl) ?_
  refine mrl_st C hF hAq hW hS (n := 2) (by decide) dX3_putWord_15 (fun H locs hF hW hS => ?_)
  refine lv_dup hx hb dX3_putWord_16 rfl ?_
  refine lv_iconst (v := 3) hx hb dX3_putWord_17 (by decide) ?_
  refine lv_iload hx hb dX3_putWord_18 (lv_at hl 4 rfl) ?_
  refine mrl_st C hF hAq hW hS (n := 3) (by decide) dX3_putWord_20 (fun H locs hF hW hS => ?_)
  refine lv_dup hx hb dX3_putWord_21 rfl ?_
  refine lv_iconst (v := 4) hx hb dX3_putWord_22 (by decide) ?_
  refine lv_iload hx hb dX3_putWord_23 (lv_at hl 5 rfl) ?_
  refine mrl_st C hF hAq hW hS (n := 4) (by decide) dX3_putWord_25 (fun H locs hF hW hS => ?_)
  refine lv_dup hx hb dX3_putWord_26 rfl ?_
  refine lv_iconst (v := 5) hx hb dX3_putWord_27 (by decide) ?_
  refine lv_iload hx hb dX3_putWord_28 (lv_at hl 6 rfl) ?_
  refine mrl_st C hF hAq hW hS (n := 5) (by decide) dX3_putWord_30 (fun H locs hF hW hS => ?_)
  refine lv_astore (lv' := [(7, .ref q), (0, .ref (mh E)), (1, .int x1), (2, .int x2), (3, .int x3), (4, .int x4), (5, .int x5), (6, .int x6)]) hx hb dX3_putWord_31 hl (by decide) rfl (fun ls hl => ?_)
  refine lv_iconst (v := 0) hx hb dX3_putWord_33 (by decide) ?_
  refine lv_istore (lv' := [(8, .int (0 : Int32)), (7, .ref q), (0, .ref (mh E)), (1, .int x1), (2, .int x2), (3, .int x3), (4, .int x4), (5, .int x5), (6, .int x6)]) hx hb dX3_putWord_34 hl (by decide) rfl (fun ls hl => ?_)
  exact hL cA q _ hAq _ _ h ls H locs _ _ (lv_sub hl [2, 1, 0] rfl) hF hW hS hcs
theorem ct_X3_putWord (l : Launch) : CT_X3_putWord l 1 21 w_X3_putWord := by
  intro E M L sz Q x1 x2 x3 x4 x5 x6
  refine Met.ofW (cc := cX3_putWord) (maxL := 9) (ret := none) (by decide) rfl ?_
  intro p e s m args below meth c s₁ B hml hv
  obtain ⟨rfl, hsz, hW, hK, h⟩ := hv
  subst hsz
  have hts := atoms_spec (ws := ws_ yX3_putWord cX3_putWord 9 none) B.pre
  have hts : ∀ w ∈ lw_all, w.before _ s = true := fun w h => hts w (List.mem_cons_of_mem _ h)
  have hl := lv_entry ([.ref (mh E), .int x1, .int x2, .int x3, .int x4, .int x5, .int x6]) (n := 9) (Nat.le_of_ble_eq_true rfl)
  rw [lg_entry_eq]
  generalize (lg_sl ([.ref (mh E), .int x1, .int x2, .int x3, .int x4, .int x5, .int x6]) ++ List.replicate (9 - (lg_sl ([.ref (mh E), .int x1, .int x2, .int x3, .int x4, .int x5, .int x6])).length) Slot.unset).toArray = ls at hl ⊢
  exact wk_X3_putWord Q ⟨⟨B.exec, B.bytes, hml, findClass_of_methodNamed B.named, hts⟩, hK⟩ (fun q h => Or.inr h) (fun q h => Or.inl h) (by exact Nat.le_refl _) (by exact Nat.le_refl _) M L (fun M pc ls H locs cells slots hd hS hW1 hc hs hQ => W.widen (k := 1) (n := 6) hc hs (W.vret B.exec B.bytes B.returns (fun t ht _ => ⟨⟨(M, L), rfl, ⟨rfl, hQ⟩, by rw [← ht] at hW1; exact hW1⟩, hS.F ht⟩) hS.2.2 hd)) x1 x2 x3 x4 x5 x6 h ls _ [] 0 0 hl hW va_S.rf (by exact ⟨Nat.le_refl _, Nat.le_refl _⟩)
def CT_X3_putKind (l : Launch) (fr lo : Nat) (w : (MM → Prop) → Int32 → MM → Prop) : Prop := ∀ (E : mE) (M : MM) (L : ML) (sz : Nat) (Q : MM → Prop) (x1 : Int32), Met l yX3_putKind (ws_ yX3_putKind cX3_putKind 2 none) { frames := fr, cells := 1, slots := 6, locals := lo } (va_Pc [.ref (mh E), .int x1] (fun U => U.heap.size = sz ∧ mW E M L U.heap ∧ mK E U ∧ w Q x1 M)) (va_Qv (fun (u : MM × ML) => u.2 = L ∧ Q u.1) (fun u t => mW E u.1 u.2 t.heap) (mA E sz)) 1 6 (mA E sz)
theorem call_X3_putKind {p : Program} {l : Launch} {e : Env} {R : Room} {s : State} {m : MethodId} {args : Array Value} {below : List Frame} {meth : Method} {c : Code} {H : Heap} {locs : List Loc} {cells slots : Nat} {Z : State → Prop} {A : Nat → Prop} {cc : ByteArray} {nL pc : Nat} {ls : Array Slot} {rest : List Value} {own : String} {index fr lo : Nat} {w : (MM → Prop) → Int32 → MM → Prop} {E : mE} {M : MM} {L : ML} {x1 : Int32} (hM : CT_X3_putKind l fr lo w) (S : CallFix p m c cc nL s args lw_all own) (hK : mK E s) (hW : mW E M L H) (hS : va_S A s.heap H locs) (hA : ∀ q, s.heap.size ≤ q → A q) (hAw : ∀ q, mAd E q → A q) (hlink : Cond.methodLink own index yX3_putKind ∈ lw_all) (hRf : fr + 1 ≤ R.frames) (hRl : 8 + (2 + 11) + lo ≤ R.locals) (hcs : cells + 1 ≤ R.cells ∧ slots + 6 ≤ R.slots) (hz : ls.size = nL) (hr8 : (rest.map fun v => v.category).sum ≤ 8) (hdg : decode cc pc = .ok (.invokevirtual index, 3)) {Q1 : MM → Prop} (h : w Q1 x1 M) (kk : ∀ (M1 : MM) (H1 : Heap) (locs1 : List Loc), Q1 M1 → mW E M1 L H1 → va_S A s.heap H1 locs1 → (∀ q : Nat, q < H.size → ¬ mAd E q → H1[q]? = H[q]?) → W p l e R s m args below meth c H1 locs1 (cells + 1) (slots + 6) Z (F0 m (pc + 3) ls (rest))) : W p l e R s m args below meth c H locs cells slots Z (F0 m pc ls (.int x1 :: .ref (mh E) :: rest)) := by
  refine mw_v (sz := 0) (P := fun M1 L1 => L1 = L ∧ Q1 M1) (va_runV (As := [.int x1]) (rest := rest) S (hM E M L H.size Q1 x1) (cwV 1 S.2.2.2.2 (lw_V hlink q2172 qs54 q68 q2173) rfl rfl rfl (by decide +kernel) ⟨hRf, hRl⟩) ⟨fun a U g mk q => by obtain ⟨q0, q1, qW, qK, qw⟩ := q; exact ⟨q0, q1, qW, qK.moved (u := U) (U := U.calling g mk a) (Vm.Alike.refl U.vm), qw⟩, hW.recv (hK := hK), fun U hU hWm => ⟨rfl, by rw [hU], by rw [hU]; exact hW, hK.moved hWm.alike, h⟩⟩ rfl rfl hz rfl (lv_room hr8) hdg hcs) hS hA hAw (fun M1 L1 H1 locs1 hp hW1 hz hk hS1 => ?_)
  obtain ⟨rfl, hp⟩ := hp
  exact kk M1 H1 locs1 hp hW1 hS1 hk
def w_X3_putKind (Q : MM → Prop) (x1 : Int32) (M : MM) : Prop := mRd (M 4) 12 x1 (fun v1 => if v1 = (0 : Int32) then (w_X3_putWord (fun M2 => Q M2) (114 : Int32) (101 : Int32) (99 : Int32) (116 : Int32) (0 : Int32) (0 : Int32) M) else (if v1 = (1 : Int32) then (w_X3_putWord (fun M4 => Q M4) (115 : Int32) (116 : Int32) (114 : Int32) (111 : Int32) (107 : Int32) (101 : Int32) M) else (if v1 = (2 : Int32) then (w_X3_putWord (fun M6 => Q M6) (110 : Int32) (101 : Int32) (115 : Int32) (116 : Int32) (101 : Int32) (100 : Int32) M) else (w_X3_putWord (fun M8 => Q M8) (110 : Int32) (117 : Int32) (108 : Int32) (108 : Int32) (0 : Int32) (0 : Int32) M))))
set_option maxRecDepth 100000 in
set_option maxHeartbeats 4000000 in
theorem wk_X3_putKind {p : Program} {l : Launch} {e : Env} {R : Room} {s : State} {m : MethodId} {args : Array Value} {below : List Frame} {meth : Method} {c : Code} {Z : State → Prop} {A : Nat → Prop} {E : mE} (Q : MM → Prop) (C : mC p m c s args cX3_putKind 2 E) (hA : ∀ q, s.heap.size ≤ q → A q) (hAw : ∀ q, mAd E q → A q) (hRf : 2 ≤ R.frames) (hRl : 49 ≤ R.locals) (M : MM) (L : ML) (hret : ∀ (M : MM) (pc : Nat) (ls : Array Slot) (H : Heap) (locs : List Loc) (cells slots : Nat), decode cX3_putKind pc = .ok (.return_, 1) → va_S A s.heap H locs → mW E M L H → cells ≤ R.cells → slots ≤ R.slots → Q M → W p l e R s m args below meth c H locs cells slots Z (F0 m pc ls [])) (x1 : Int32) : w_X3_putKind Q x1 M → ∀ (ls : Array Slot) (H : Heap) (locs : List Loc) (cells slots : Nat), lv_has ls 2 [(0, .ref (mh E)), (1, .int x1)] → mW E M L H → va_S A s.heap H locs → cells + 1 ≤ R.cells ∧ slots + 6 ≤ R.slots → W p l e R s m args below meth c H locs cells slots Z (F0 m 0 ls []) := by
  obtain ⟨⟨hx, hb, hml, hown, hts⟩, hK⟩ := C; have C : mC p m c s args cX3_putKind 2 E := ⟨⟨hx, hb, hml, hown, hts⟩, hK⟩
  intro h
  intro ls H locs cells slots hl hW hS hcs
  refine lv_aload_n hx hb dX3_putKind_0 rfl (lv_at hl 0 rfl) ?_
  refine mr_getA C hW 4 rfl rfl q1807 dX3_putKind_1 ?_
  refine lv_iload_n hx hb dX3_putKind_4 rfl (lv_at hl 1 rfl) ?_
  refine mr_iald C hW 4 rfl rfl rfl h dX3_putKind_5 (fun v1 h => ?_)
  by_cases c3 : v1 = (0 : Int32)
  · have h := wif_t h c3
    refine lv_tableIn (tgt := 32) (off := 26) hx hb dX3_putKind_6 (by rw [c3]; decide) (by rw [c3]; decide) (by rw [c3]; rfl) (by decide) ?_
    refine lv_aload_n hx hb dX3_putKind_32 rfl (lv_at hl 0 rfl) ?_
    refine lv_bipush (v := 114) hx hb dX3_putKind_33 (by decide) ?_
    refine lv_bipush (v := 101) hx hb dX3_putKind_35 (by decide) ?_
    refine lv_bipush (v := 99) hx hb dX3_putKind_37 (by decide) ?_
    refine lv_bipush (v := 116) hx hb dX3_putKind_39 (by decide) ?_
    refine lv_iconst (v := 0) hx hb dX3_putKind_41 (by decide) ?_
    refine lv_iconst (v := 0) hx hb dX3_putKind_42 (by decide) ?_
    refine call_X3_putWord (ct_X3_putWord l) C.1 C.2 hW hS hA hAw q2174 (le_lit hRf rfl) (le_lit hRl rfl) ⟨by omega, by omega⟩ hl.1 (Nat.le_of_ble_eq_true rfl) dX3_putKind_43 h (fun M2 H locs h hW hS _ => ?_)
    refine lv_goto (tgt := 101) hx hb dX3_putKind_46 (by decide) ?_
    exact hret _ _ _ _ _ _ _ dX3_putKind_101 hS hW (by omega) (by omega) h
  · have h := wif_f h c3
    by_cases c5 : v1 = (1 : Int32)
    · have h := wif_t h c5
      refine lv_tableIn (tgt := 49) (off := 43) hx hb dX3_putKind_6 (by rw [c5]; decide) (by rw [c5]; decide) (by rw [c5]; rfl) (by decide) ?_
      refine lv_aload_n hx hb dX3_putKind_49 rfl (lv_at hl 0 rfl) ?_
      refine lv_bipush (v := 115) hx hb dX3_putKind_50 (by decide) ?_
      refine lv_bipush (v := 116) hx hb dX3_putKind_52 (by decide) ?_
      refine lv_bipush (v := 114) hx hb dX3_putKind_54 (by decide) ?_
      refine lv_bipush (v := 111) hx hb dX3_putKind_56 (by decide) ?_
      refine lv_bipush (v := 107) hx hb dX3_putKind_58 (by decide) ?_
      refine lv_bipush (v := 101) hx hb dX3_putKind_60 (by decide) ?_
      refine call_X3_putWord (ct_X3_putWord l) C.1 C.2 hW hS hA hAw q2174 (le_lit hRf rfl) (le_lit hRl rfl) ⟨by omega, by omega⟩ hl.1 (Nat.le_of_ble_eq_true rfl) dX3_putKind_62 h (fun M4 H locs h hW hS _ => ?_)
      refine lv_goto (tgt := 101) hx hb dX3_putKind_65 (by decide) ?_
      exact hret _ _ _ _ _ _ _ dX3_putKind_101 hS hW (by omega) (by omega) h
    · have h := wif_f h c5
      by_cases c7 : v1 = (2 : Int32)
      · have h := wif_t h c7
        refine lv_tableIn (tgt := 68) (off := 62) hx hb dX3_putKind_6 (by rw [c7]; decide) (by rw [c7]; decide) (by rw [c7]; rfl) (by decide) ?_
        refine lv_aload_n hx hb dX3_putKind_68 rfl (lv_at hl 0 rfl) ?_
        refine lv_bipush (v := 110) hx hb dX3_putKind_69 (by decide) ?_
        refine lv_bipush (v := 101) hx hb dX3_putKind_71 (by decide) ?_
        refine lv_bipush (v := 115) hx hb dX3_putKind_73 (by decide) ?_
        refine lv_bipush (v := 116) hx hb dX3_putKind_75 (by decide) ?_
        refine lv_bipush (v := 101) hx hb dX3_putKind_77 (by decide) ?_
        refine lv_bipush (v := 100) hx hb dX3_putKind_79 (by decide) ?_
        refine call_X3_putWord (ct_X3_putWord l) C.1 C.2 hW hS hA hAw q2174 (le_lit hRf rfl) (le_lit hRl rfl) ⟨by omega, by omega⟩ hl.1 (Nat.le_of_ble_eq_true rfl) dX3_putKind_81 h (fun M6 H locs h hW hS _ => ?_)
        refine lv_goto (tgt := 101) hx hb dX3_putKind_84 (by decide) ?_
        exact hret _ _ _ _ _ _ _ dX3_putKind_101 hS hW (by omega) (by omega) h
      · have h := wif_f h c7
        refine lv_tableOut (tgt := 87) hx hb dX3_putKind_6 (by have ec3 : v1.toInt ≠ 0 := fun q => c3 (Int32.toInt_inj.mp (q.trans (by decide))); have ec5 : v1.toInt ≠ 1 := fun q => c5 (Int32.toInt_inj.mp (q.trans (by decide))); have ec7 : v1.toInt ≠ 2 := fun q => c7 (Int32.toInt_inj.mp (q.trans (by decide))); omega) (by decide) ?_
        refine lv_aload_n hx hb dX3_putKind_87 rfl (lv_at hl 0 rfl) ?_
        refine lv_bipush (v := 110) hx hb dX3_putKind_88 (by decide) ?_
        refine lv_bipush (v := 117) hx hb dX3_putKind_90 (by decide) ?_
        refine lv_bipush (v := 108) hx hb dX3_putKind_92 (by decide) ?_
        refine lv_bipush (v := 108) hx hb dX3_putKind_94 (by decide) ?_
        refine lv_iconst (v := 0) hx hb dX3_putKind_96 (by decide) ?_
        refine lv_iconst (v := 0) hx hb dX3_putKind_97 (by decide) ?_
        refine call_X3_putWord (ct_X3_putWord l) C.1 C.2 hW hS hA hAw q2174 (le_lit hRf rfl) (le_lit hRl rfl) ⟨by omega, by omega⟩ hl.1 (Nat.le_of_ble_eq_true rfl) dX3_putKind_98 h (fun M8 H locs h hW hS _ => ?_)
        exact hret _ _ _ _ _ _ _ dX3_putKind_101 hS hW (by omega) (by omega) h
theorem ct_X3_putKind (l : Launch) : CT_X3_putKind l 2 49 w_X3_putKind := by
  intro E M L sz Q x1
  refine Met.ofW (cc := cX3_putKind) (maxL := 2) (ret := none) (by decide) rfl ?_
  intro p e s m args below meth c s₁ B hml hv
  obtain ⟨rfl, hsz, hW, hK, h⟩ := hv
  subst hsz
  have hts := atoms_spec (ws := ws_ yX3_putKind cX3_putKind 2 none) B.pre
  have hts : ∀ w ∈ lw_all, w.before _ s = true := fun w h => hts w (List.mem_cons_of_mem _ h)
  have hl := lv_entry ([.ref (mh E), .int x1]) (n := 2) (Nat.le_of_ble_eq_true rfl)
  rw [lg_entry_eq]
  generalize (lg_sl ([.ref (mh E), .int x1]) ++ List.replicate (2 - (lg_sl ([.ref (mh E), .int x1])).length) Slot.unset).toArray = ls at hl ⊢
  exact wk_X3_putKind Q ⟨⟨B.exec, B.bytes, hml, findClass_of_methodNamed B.named, hts⟩, hK⟩ (fun q h => Or.inr h) (fun q h => Or.inl h) (by exact Nat.le_refl _) (by exact Nat.le_refl _) M L (fun M pc ls H locs cells slots hd hS hW1 hc hs hQ => W.widen (k := 1) (n := 6) hc hs (W.vret B.exec B.bytes B.returns (fun t ht _ => ⟨⟨(M, L), rfl, ⟨rfl, hQ⟩, by rw [← ht] at hW1; exact hW1⟩, hS.F ht⟩) hS.2.2 hd)) x1 h ls _ [] 0 0 hl hW va_S.rf (by exact ⟨Nat.le_refl _, Nat.le_refl _⟩)
def CT_X3_write (l : Launch) (fr lo : Nat) (w : (Int32 → MM → Prop) → Int32 → MM → Prop) : Prop := ∀ (E : mE) (M : MM) (L : ML) (sz : Nat) (Q : Int32 → MM → Prop) (x1 : Int32), Met l yX3_write (ws_ yX3_write cX3_write 2 (some .int)) { frames := fr, cells := 4, slots := 24, locals := lo } (va_Pc [.ref (mh E), .int x1] (fun U => U.heap.size = sz ∧ mW E M L U.heap ∧ mK E U ∧ w Q x1 M)) (va_Qi (fun r (u : MM × ML) => u.2 = L ∧ Q r u.1) (fun u t => mW E u.1 u.2 t.heap) (mA E sz)) 4 24 (mA E sz)
theorem call_X3_write {p : Program} {l : Launch} {e : Env} {R : Room} {s : State} {m : MethodId} {args : Array Value} {below : List Frame} {meth : Method} {c : Code} {H : Heap} {locs : List Loc} {cells slots : Nat} {Z : State → Prop} {A : Nat → Prop} {cc : ByteArray} {nL pc : Nat} {ls : Array Slot} {rest : List Value} {own : String} {index fr lo : Nat} {w : (Int32 → MM → Prop) → Int32 → MM → Prop} {E : mE} {M : MM} {L : ML} {x1 : Int32} (hM : CT_X3_write l fr lo w) (S : CallFix p m c cc nL s args lw_all own) (hK : mK E s) (hW : mW E M L H) (hS : va_S A s.heap H locs) (hA : ∀ q, s.heap.size ≤ q → A q) (hAw : ∀ q, mAd E q → A q) (hlink : Cond.methodLink own index yX3_write ∈ lw_all) (hRf : fr + 1 ≤ R.frames) (hRl : 8 + (2 + 11) + lo ≤ R.locals) (hcs : cells + 4 ≤ R.cells ∧ slots + 24 ≤ R.slots) (hz : ls.size = nL) (hr8 : (rest.map fun v => v.category).sum ≤ 8) (hdg : decode cc pc = .ok (.invokevirtual index, 3)) {Q1 : Int32 → MM → Prop} (h : w Q1 x1 M) (kk : ∀ (r : Int32) (M1 : MM) (H1 : Heap) (locs1 : List Loc), Q1 r M1 → mW E M1 L H1 → va_S A s.heap H1 locs1 → (∀ q : Nat, q < H.size → ¬ mAd E q → H1[q]? = H[q]?) → W p l e R s m args below meth c H1 locs1 (cells + 4) (slots + 24) Z (F0 m (pc + 3) ls (.int r :: rest))) : W p l e R s m args below meth c H locs cells slots Z (F0 m pc ls (.int x1 :: .ref (mh E) :: rest)) := by
  refine mw_i (sz := 0) (P := fun r M1 L1 => L1 = L ∧ Q1 r M1) (va_runV (As := [.int x1]) (rest := rest) S (hM E M L H.size Q1 x1) (cwV 1 S.2.2.2.2 (lw_V hlink q2167 q2168 q68 q2169) rfl rfl rfl (by decide +kernel) ⟨hRf, hRl⟩) ⟨fun a U g mk q => by obtain ⟨q0, q1, qW, qK, qw⟩ := q; exact ⟨q0, q1, qW, qK.moved (u := U) (U := U.calling g mk a) (Vm.Alike.refl U.vm), qw⟩, hW.recv (hK := hK), fun U hU hWm => ⟨rfl, by rw [hU], by rw [hU]; exact hW, hK.moved hWm.alike, h⟩⟩ rfl rfl hz rfl (lv_room hr8) hdg hcs) hS hA hAw (fun r M1 L1 H1 locs1 hp hW1 hz hk hS1 => ?_)
  obtain ⟨rfl, hp⟩ := hp
  exact kk r M1 H1 locs1 hp hW1 hS1 hk
def w_X3_write_132 (Q : Int32 → MM → Prop) (x1 : Int32) (M : MM) : Prop := w_X3_putWord (fun M1 => mRd (M1 10) 12 x1 (fun v2 => w_X3_putNumber (fun M3 => Q (M3 29 0) M3) v2 M1)) (32 : Int32) (98 : Int32) (121 : Int32) (32 : Int32) (0 : Int32) (0 : Int32) M
def w_X3_write_99 (Q : Int32 → MM → Prop) (x1 : Int32) (M : MM) : Prop := mRd (M 10) 12 x1 (fun v4 => if v4 = (-1 : Int32) then (Q (M 29 0) M) else (mRd (M 11) 12 x1 (fun v5 => if v5 = 0 then (w_X3_write_132 Q x1 M) else (w_X3_putWord (fun M6 => w_X3_write_132 Q x1 M6) (32 : Int32) (110 : Int32) (111 : Int32) (116 : Int32) (0 : Int32) (0 : Int32) M))))
def w_X3_write (Q : Int32 → MM → Prop) (x1 : Int32) (M : MM) : Prop := w_X3_isLayer (fun r9 => w_X3_check (fun r10 M11 => if r10 = 0 then (Q (0 : Int32) M11) else (mPt M11 29 (0 : Int32) (fun M12 => w_X3_putKind (fun M13 => w_X3_put (fun M14 => mRd (M14 12) 12 x1 (fun v15 => w_X3_putNumber (fun M16 => w_X3_put (fun M17 => mRd (M17 13) 12 x1 (fun v18 => w_X3_putNumber (fun M19 => w_X3_putSizes (fun M20 => mRd (M20 9) 12 x1 (fun v21 => if v21 = (-1 : Int32) then (w_X3_write_99 Q x1 M20) else (w_X3_putWord (fun M22 => mRd (M22 9) 12 x1 (fun v23 => w_X3_putNumber (fun M24 => w_X3_write_99 Q x1 M24) v23 M22)) (32 : Int32) (105 : Int32) (110 : Int32) (32 : Int32) (0 : Int32) (0 : Int32) M20))) x1 M19) (v18 - (1 : Int32)) M17)) (45 : Int32) M16) v15 M14)) (32 : Int32) M13) x1 M12))) r9 (1 : Int32) (1 : Int32) M) x1 M
set_option maxRecDepth 100000 in
set_option maxHeartbeats 4000000 in
theorem wk_X3_write {p : Program} {l : Launch} {e : Env} {R : Room} {s : State} {m : MethodId} {args : Array Value} {below : List Frame} {meth : Method} {c : Code} {Z : State → Prop} {A : Nat → Prop} {E : mE} (Q : Int32 → MM → Prop) (C : mC p m c s args cX3_write 2 E) (hA : ∀ q, s.heap.size ≤ q → A q) (hAw : ∀ q, mAd E q → A q) (hRf : 3 ≤ R.frames) (hRl : 70 ≤ R.locals) (M : MM) (L : ML) (hret : ∀ (v : Int32) (M : MM) (pc : Nat) (ls : Array Slot) (H : Heap) (locs : List Loc) (cells slots : Nat), decode cX3_write pc = .ok (.ireturn, 1) → va_S A s.heap H locs → mW E M L H → cells ≤ R.cells → slots ≤ R.slots → Q v M → W p l e R s m args below meth c H locs cells slots Z (F0 m pc ls [.int v])) (x1 : Int32) : w_X3_write Q x1 M → ∀ (ls : Array Slot) (H : Heap) (locs : List Loc) (cells slots : Nat), lv_has ls 2 [(0, .ref (mh E)), (1, .int x1)] → mW E M L H → va_S A s.heap H locs → cells + 4 ≤ R.cells ∧ slots + 24 ≤ R.slots → W p l e R s m args below meth c H locs cells slots Z (F0 m 0 ls []) := by
  obtain ⟨⟨hx, hb, hml, hown, hts⟩, hK⟩ := C; have C : mC p m c s args cX3_write 2 E := ⟨⟨hx, hb, hml, hown, hts⟩, hK⟩
  have hb132 : ∀ (M : MM), w_X3_write_132 Q x1 M → ∀ (ls : Array Slot) (H : Heap) (locs : List Loc) (cells slots : Nat), lv_has ls 2 [(0, .ref (mh E)), (1, .int x1)] → mW E M L H → va_S A s.heap H locs → cells + 1 ≤ R.cells ∧ slots + 6 ≤ R.slots → W p l e R s m args below meth c H locs cells slots Z (F0 m 132 ls []) := by
    intro M h
    intro ls H locs cells slots hl hW hS hcs
    refine lv_aload_n hx hb dX3_write_132 rfl (lv_at hl 0 rfl) ?_
    refine lv_bipush (v := 32) hx hb dX3_write_133 (by decide) ?_
    refine lv_bipush (v := 98) hx hb dX3_write_135 (by decide) ?_
    refine lv_bipush (v := 121) hx hb dX3_write_137 (by decide) ?_
    refine lv_bipush (v := 32) hx hb dX3_write_139 (by decide) ?_
    refine lv_iconst (v := 0) hx hb dX3_write_141 (by decide) ?_
    refine lv_iconst (v := 0) hx hb dX3_write_142 (by decide) ?_
    refine call_X3_putWord (ct_X3_putWord l) C.1 C.2 hW hS hA hAw q2174 (le_lit hRf rfl) (le_lit hRl rfl) ⟨by omega, by omega⟩ hl.1 (Nat.le_of_ble_eq_true rfl) dX3_write_143 h (fun M1 H locs h hW hS _ => ?_)
    refine lv_aload_n hx hb dX3_write_146 rfl (lv_at hl 0 rfl) ?_
    refine lv_aload_n hx hb dX3_write_147 rfl (lv_at hl 0 rfl) ?_
    refine mr_getA C hW 10 rfl rfl q1813 dX3_write_148 ?_
    refine lv_iload_n hx hb dX3_write_151 rfl (lv_at hl 1 rfl) ?_
    refine mr_iald C hW 10 rfl rfl rfl h dX3_write_152 (fun v2 h => ?_)
    refine call_X3_putNumber (ct_X3_putNumber l) C.1 C.2 hW hS hA hAw q2178 (le_lit hRf rfl) (le_lit hRl rfl) ⟨by omega, by omega⟩ hl.1 (Nat.le_of_ble_eq_true rfl) dX3_write_153 h (fun M3 H locs h hW hS _ => ?_)
    refine lv_aload_n hx hb dX3_write_156 rfl (lv_at hl 0 rfl) ?_
    refine mr_getI C hW 29 rfl rfl q1832 dX3_write_157 ?_
    exact hret _ _ _ _ _ _ _ _ dX3_write_160 hS hW (by omega) (by omega) h
  have hb99 : ∀ (M : MM), w_X3_write_99 Q x1 M → ∀ (ls : Array Slot) (H : Heap) (locs : List Loc) (cells slots : Nat), lv_has ls 2 [(0, .ref (mh E)), (1, .int x1)] → mW E M L H → va_S A s.heap H locs → cells + 2 ≤ R.cells ∧ slots + 12 ≤ R.slots → W p l e R s m args below meth c H locs cells slots Z (F0 m 99 ls []) := by
    intro M h
    intro ls H locs cells slots hl hW hS hcs
    refine lv_aload_n hx hb dX3_write_99 rfl (lv_at hl 0 rfl) ?_
    refine mr_getA C hW 10 rfl rfl q1813 dX3_write_100 ?_
    refine lv_iload_n hx hb dX3_write_103 rfl (lv_at hl 1 rfl) ?_
    refine mr_iald C hW 10 rfl rfl rfl h dX3_write_104 (fun v4 h => ?_)
    refine lv_iconst (v := -1) hx hb dX3_write_105 (by decide) ?_
    refine lv_icmp_eq (tgt := 156) hx hb dX3_write_106 (by decide) (fun c8 => ?_) (fun c8 => ?_)
    · have h := wif_t h c8
      refine lv_aload_n hx hb dX3_write_156 rfl (lv_at hl 0 rfl) ?_
      refine mr_getI C hW 29 rfl rfl q1832 dX3_write_157 ?_
      exact hret _ _ _ _ _ _ _ _ dX3_write_160 hS hW (by omega) (by omega) h
    · have h := wif_f h c8
      refine lv_aload_n hx hb dX3_write_109 rfl (lv_at hl 0 rfl) ?_
      refine mr_getA C hW 11 rfl rfl q1814 dX3_write_110 ?_
      refine lv_iload_n hx hb dX3_write_113 rfl (lv_at hl 1 rfl) ?_
      refine mr_zald C hW 11 rfl rfl rfl h dX3_write_114 (fun v5 h => ?_)
      refine lv_if_eq (tgt := 132) hx hb dX3_write_115 (by decide) (fun c7 => ?_) (fun c7 => ?_)
      · have h := wif_t h c7
        exact hb132 _ h ls H locs _ _ (lv_sub hl [0, 1] rfl) hW hS ⟨by omega, by omega⟩
      · have h := wif_f h c7
        refine lv_aload_n hx hb dX3_write_118 rfl (lv_at hl 0 rfl) ?_
        refine lv_bipush (v := 32) hx hb dX3_write_119 (by decide) ?_
        refine lv_bipush (v := 110) hx hb dX3_write_121 (by decide) ?_
        refine lv_bipush (v := 111) hx hb dX3_write_123 (by decide) ?_
        refine lv_bipush (v := 116) hx hb dX3_write_125 (by decide) ?_
        refine lv_iconst (v := 0) hx hb dX3_write_127 (by decide) ?_
        refine lv_iconst (v := 0) hx hb dX3_write_128 (by decide) ?_
        refine call_X3_putWord (ct_X3_putWord l) C.1 C.2 hW hS hA hAw q2174 (le_lit hRf rfl) (le_lit hRl rfl) ⟨by omega, by omega⟩ hl.1 (Nat.le_of_ble_eq_true rfl) dX3_write_129 h (fun M6 H locs h hW hS _ => ?_)
        exact hb132 _ h ls H locs _ _ (lv_sub hl [0, 1] rfl) hW hS ⟨by omega, by omega⟩
  intro h
  intro ls H locs cells slots hl hW hS hcs
  refine lv_aload_n hx hb dX3_write_0 rfl (lv_at hl 0 rfl) ?_
  refine lv_aload_n hx hb dX3_write_1 rfl (lv_at hl 0 rfl) ?_
  refine lv_iload_n hx hb dX3_write_2 rfl (lv_at hl 1 rfl) ?_
  refine call_X3_isLayer (ct_X3_isLayer l) C.1 C.2 hW hS hA q1938 (le_lit hRf rfl) (le_lit hRl rfl) ⟨by omega, by omega⟩ hl.1 (Nat.le_of_ble_eq_true rfl) dX3_write_3 h (fun r9 H locs h hk hS => ?_)
  have hW := hW.kept hk
  refine lv_iconst (v := 1) hx hb dX3_write_6 (by decide) ?_
  refine lv_iconst (v := 1) hx hb dX3_write_7 (by decide) ?_
  refine call_X3_check (ct_X3_check l) C.1 C.2 hW hS hA hAw q1907 (le_lit hRf rfl) (le_lit hRl rfl) ⟨by omega, by omega⟩ hl.1 (Nat.le_of_ble_eq_true rfl) dX3_write_8 h (fun r10 M11 H locs h hW hS _ => ?_)
  refine lv_if_ne (tgt := 16) hx hb dX3_write_11 (by decide) (fun c26 => ?_) (fun c26 => ?_)
  · have h := wif_f h c26
    refine lv_aload_n hx hb dX3_write_16 rfl (lv_at hl 0 rfl) ?_
    refine lv_iconst (v := 0) hx hb dX3_write_17 (by decide) ?_
    refine mr_putI C hW hS hAw 29 rfl rfl q1832 rfl (tyX3_ok 29 (by decide)) h dX3_write_18 (fun M12 H locs hW hS h => ?_)
    refine lv_aload_n hx hb dX3_write_21 rfl (lv_at hl 0 rfl) ?_
    refine lv_iload_n hx hb dX3_write_22 rfl (lv_at hl 1 rfl) ?_
    refine call_X3_putKind (ct_X3_putKind l) C.1 C.2 hW hS hA hAw q2170 (le_lit hRf rfl) (le_lit hRl rfl) ⟨by omega, by omega⟩ hl.1 (Nat.le_of_ble_eq_true rfl) dX3_write_23 h (fun M13 H locs h hW hS _ => ?_)
    refine lv_aload_n hx hb dX3_write_26 rfl (lv_at hl 0 rfl) ?_
    refine lv_bipush (v := 32) hx hb dX3_write_27 (by decide) ?_
    refine call_X3_put (ct_X3_put l) C.1 C.2 hW hS hA hAw q2162 (le_lit hRf rfl) (le_lit hRl rfl) ⟨by omega, by omega⟩ hl.1 (Nat.le_of_ble_eq_true rfl) dX3_write_29 h (fun M14 H locs h hW hS _ => ?_)
    refine lv_aload_n hx hb dX3_write_32 rfl (lv_at hl 0 rfl) ?_
    refine lv_aload_n hx hb dX3_write_33 rfl (lv_at hl 0 rfl) ?_
    refine mr_getA C hW 12 rfl rfl q1815 dX3_write_34 ?_
    refine lv_iload_n hx hb dX3_write_37 rfl (lv_at hl 1 rfl) ?_
    refine mr_iald C hW 12 rfl rfl rfl h dX3_write_38 (fun v15 h => ?_)
    refine call_X3_putNumber (ct_X3_putNumber l) C.1 C.2 hW hS hA hAw q2178 (le_lit hRf rfl) (le_lit hRl rfl) ⟨by omega, by omega⟩ hl.1 (Nat.le_of_ble_eq_true rfl) dX3_write_39 h (fun M16 H locs h hW hS _ => ?_)
    refine lv_aload_n hx hb dX3_write_42 rfl (lv_at hl 0 rfl) ?_
    refine lv_bipush (v := 45) hx hb dX3_write_43 (by decide) ?_
    refine call_X3_put (ct_X3_put l) C.1 C.2 hW hS hA hAw q2162 (le_lit hRf rfl) (le_lit hRl rfl) ⟨by omega, by omega⟩ hl.1 (Nat.le_of_ble_eq_true rfl) dX3_write_45 h (fun M17 H locs h hW hS _ => ?_)
    refine lv_aload_n hx hb dX3_write_48 rfl (lv_at hl 0 rfl) ?_
    refine lv_aload_n hx hb dX3_write_49 rfl (lv_at hl 0 rfl) ?_
    refine mr_getA C hW 13 rfl rfl q1816 dX3_write_50 ?_
    refine lv_iload_n hx hb dX3_write_53 rfl (lv_at hl 1 rfl) ?_
    refine mr_iald C hW 13 rfl rfl rfl h dX3_write_54 (fun v18 h => ?_)
    refine lv_iconst (v := 1) hx hb dX3_write_55 (by decide) ?_
    refine lv_isub hx hb dX3_write_56 ?_
    refine call_X3_putNumber (ct_X3_putNumber l) C.1 C.2 hW hS hA hAw q2178 (le_lit hRf rfl) (le_lit hRl rfl) ⟨by omega, by omega⟩ hl.1 (Nat.le_of_ble_eq_true rfl) dX3_write_57 h (fun M19 H locs h hW hS _ => ?_)
    refine lv_aload_n hx hb dX3_write_60 rfl (lv_at hl 0 rfl) ?_
    refine lv_iload_n hx hb dX3_write_61 rfl (lv_at hl 1 rfl) ?_
    refine call_X3_putSizes (ct_X3_putSizes l) C.1 C.2 hW hS hA hAw q2182 (le_lit hRf rfl) (le_lit hRl rfl) ⟨by omega, by omega⟩ hl.1 (Nat.le_of_ble_eq_true rfl) dX3_write_62 h (fun M20 H locs h hW hS _ => ?_)
    refine lv_aload_n hx hb dX3_write_65 rfl (lv_at hl 0 rfl) ?_
    refine mr_getA C hW 9 rfl rfl q1812 dX3_write_66 ?_
    refine lv_iload_n hx hb dX3_write_69 rfl (lv_at hl 1 rfl) ?_
    refine mr_iald C hW 9 rfl rfl rfl h dX3_write_70 (fun v21 h => ?_)
    refine lv_iconst (v := -1) hx hb dX3_write_71 (by decide) ?_
    refine lv_icmp_eq (tgt := 99) hx hb dX3_write_72 (by decide) (fun c25 => ?_) (fun c25 => ?_)
    · have h := wif_t h c25
      exact hb99 _ h ls H locs _ _ (lv_sub hl [0, 1] rfl) hW hS ⟨by omega, by omega⟩
    · have h := wif_f h c25
      refine lv_aload_n hx hb dX3_write_75 rfl (lv_at hl 0 rfl) ?_
      refine lv_bipush (v := 32) hx hb dX3_write_76 (by decide) ?_
      refine lv_bipush (v := 105) hx hb dX3_write_78 (by decide) ?_
      refine lv_bipush (v := 110) hx hb dX3_write_80 (by decide) ?_
      refine lv_bipush (v := 32) hx hb dX3_write_82 (by decide) ?_
      refine lv_iconst (v := 0) hx hb dX3_write_84 (by decide) ?_
      refine lv_iconst (v := 0) hx hb dX3_write_85 (by decide) ?_
      refine call_X3_putWord (ct_X3_putWord l) C.1 C.2 hW hS hA hAw q2174 (le_lit hRf rfl) (le_lit hRl rfl) ⟨by omega, by omega⟩ hl.1 (Nat.le_of_ble_eq_true rfl) dX3_write_86 h (fun M22 H locs h hW hS _ => ?_)
      refine lv_aload_n hx hb dX3_write_89 rfl (lv_at hl 0 rfl) ?_
      refine lv_aload_n hx hb dX3_write_90 rfl (lv_at hl 0 rfl) ?_
      refine mr_getA C hW 9 rfl rfl q1812 dX3_write_91 ?_
      refine lv_iload_n hx hb dX3_write_94 rfl (lv_at hl 1 rfl) ?_
      refine mr_iald C hW 9 rfl rfl rfl h dX3_write_95 (fun v23 h => ?_)
      refine call_X3_putNumber (ct_X3_putNumber l) C.1 C.2 hW hS hA hAw q2178 (le_lit hRf rfl) (le_lit hRl rfl) ⟨by omega, by omega⟩ hl.1 (Nat.le_of_ble_eq_true rfl) dX3_write_96 h (fun M24 H locs h hW hS _ => ?_)
      exact hb99 _ h ls H locs _ _ (lv_sub hl [0, 1] rfl) hW hS ⟨by omega, by omega⟩
  · have h := wif_t h c26
    refine lv_iconst (v := 0) hx hb dX3_write_14 (by decide) ?_
    exact hret _ _ _ _ _ _ _ _ dX3_write_15 hS hW (by omega) (by omega) h
theorem ct_X3_write (l : Launch) : CT_X3_write l 3 70 w_X3_write := by
  intro E M L sz Q x1
  refine Met.ofW (cc := cX3_write) (maxL := 2) (ret := (some .int)) (by decide) rfl ?_
  intro p e s m args below meth c s₁ B hml hv
  obtain ⟨rfl, hsz, hW, hK, h⟩ := hv
  subst hsz
  have hts := atoms_spec (ws := ws_ yX3_write cX3_write 2 (some .int)) B.pre
  have hts : ∀ w ∈ lw_all, w.before _ s = true := fun w h => hts w (List.mem_cons_of_mem _ h)
  have hl := lv_entry ([.ref (mh E), .int x1]) (n := 2) (Nat.le_of_ble_eq_true rfl)
  rw [lg_entry_eq]
  generalize (lg_sl ([.ref (mh E), .int x1]) ++ List.replicate (2 - (lg_sl ([.ref (mh E), .int x1])).length) Slot.unset).toArray = ls at hl ⊢
  exact wk_X3_write Q ⟨⟨B.exec, B.bytes, hml, findClass_of_methodNamed B.named, hts⟩, hK⟩ (fun q h => Or.inr h) (fun q h => Or.inl h) (by exact Nat.le_refl _) (by exact Nat.le_refl _) M L (fun v M pc ls H locs cells slots hd hS hW1 hc hs hQ => W.widen (k := 4) (n := 24) hc hs (W.iret (v := v) B.exec B.bytes B.returns (fun t ht _ => ⟨⟨v, (M, L), rfl, ⟨rfl, hQ⟩, by rw [← ht] at hW1; exact hW1⟩, hS.F ht⟩) hS.2.2 hd)) x1 h ls _ [] 0 0 hl hW va_S.rf (by exact ⟨Nat.le_refl _, Nat.le_refl _⟩)
