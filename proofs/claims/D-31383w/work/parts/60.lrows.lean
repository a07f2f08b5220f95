/-! THE LAW's BODY: the system's heap G and the reference's memory M, L side by side -/
def gDL (G : GM) (o : Option Nat) (i : Int32) (K : UInt64 → Prop) : Prop := ∃ a n f j, o = some a ∧ G a = some (.inl (4, n, .inr (.inr (.inr (.inl f))))) ∧ i = nI j ∧ j < n ∧ n < 2 ^ 31 ∧ K (f j)
def lSep (E : mE) (G : GM) : Prop := ∀ (a : Nat) (e : XC), G a = some e → ¬ mAd E a
/-- the reference, made as an object of the system's heap, taken out of it -/
def lCv (V : XV) (q : Option Nat) (G : GM) (E : mE) (M : MM) (L : ML) (G9 : GM) : Prop :=
  q = some (mh E) ∧ E.1 = V.1 18 ∧ E.2.1 = V.2.1 18 ∧ E.2.2.1 = V.2.2.1 0 ∧ E.2.2.2.1 = V.2.2.1 3 ∧ (∃ fs, G (mh E) = some (.inr (18, fs)) ∧ ∀ k, k < 30 → vp_V fs k = mV M L E k) ∧ (∀ k, k < 30 → mKd k = 2 → G (ma E k) = some (.inl (0, mLn k, .inl (M k)))) ∧ (∀ k, k < 30 → mKd k = 3 → G (ma E k) = some (.inl (3, mLn k, .inl (M k)))) ∧ mInj E ∧ ∀ (a : Nat) (e : XC), G9 a = some e → G a = some e ∧ ¬ mAd E a
section LROWS
variable {p : Program} {l : Launch} {e : Env} {R : Room} {s : State} {m : MethodId} {args : Array Value} {below : List Frame} {meth : Method} {c : Code} {H : Heap} {locs : List Loc} {cells slots : Nat} {Q : State → Prop}
variable {cc : ByteArray} {pc nL : Nat} {ls : Array Slot} {rest : List Value} {A : Nat → Prop} {V : XV} {G : GM} {own : String} {E : mE} {M : MM} {L : ML}
theorem sh_dald (C : xC p m c s args cc nL own V A) (hW : xW V A G H) {o : Option Nat} {i : Int32} {K : UInt64 → Prop} (h : gDL G o i K) (hdg : decode cc pc = .ok (.daload, 1))
    (kk : ∀ v : UInt64, K v → W p l e R s m args below meth c H locs cells slots Q (F0 m (pc + 1) ls (.double v :: rest))) : W p l e R s m args below meth c H locs cells slots Q (F0 m pc ls (.int i :: va_rf o :: rest)) := by
  obtain ⟨⟨hx, hb, -, hown, hts⟩, hKx, -⟩ := C
  obtain ⟨a, n, f, j, rfl, hG, h2, h3, h4, h⟩ := h
  subst h2
  have hP := hW.arr hG (by decide)
  exact va_dald hx hb (hKx.ta (t := 4) (by decide)) hP 0 0 rfl rfl (sh_vin h3 h4) hdg (by rw [nI_clamp (Nat.lt_trans h3 h4)]; exact kk _ h)
theorem lw_callG {G1 : GM} {H1 : Heap} (hM : mW E M L H) (hsep : lSep E G) (hgE : ∀ q, mAd E q → xsr V "#given" 0 ≤ q) (hF : xFr V G G1 H H1) : mW E M L H1 ∧ lSep E G1 := by
  have key : ∀ q, mAd E q → ¬ xA G H.size q := fun q hq h => h.elim (fun ⟨e, h1, _⟩ => hsep q e h1 hq) (fun h => Nat.lt_irrefl _ (Nat.lt_of_lt_of_le (hM.lt q hq) h))
  refine ⟨hM.kept' fun q hq => hF.2 q (hM.lt q hq) (key q hq), fun a e ha hm => ?_⟩
  cases hro : xro e with
  | false => exact key a hm ((hF.1.1 a e ha).2 hro)
  | true => exact absurd (hF.1.2 a e ha hro) (Nat.not_lt.mpr (hgE a hm))
theorem lw_callM {H1 : Heap} (hW : xW V A G H) (hsep : lSep E G) (hk : ∀ q : Nat, q < H.size → ¬ mAd E q → H1[q]? = H[q]?) : xW V A G H1 :=
  ⟨fun a e ha => ⟨(hW.1 a e ha).1.kept (hk a (hW.1 a e ha).1.lt (hsep a e ha)), (hW.1 a e ha).2⟩, hW.2⟩
theorem lw_cv {q : Option Nat} {G9 : GM} (hK : xK V s) (hW : xW V A G H) (h : lCv V q G E M L G9) : mK E s ∧ mW E M L H ∧ xW V A G9 H ∧ lSep E G9 ∧ ∀ q, mAd E q → A q := by
  obtain ⟨h0, h1, h2, h3, h4, ⟨fs, h5, h6⟩, h7, h8, h9, h10⟩ := h
  have hA : ∀ q, mAd E q → A q := by
    rintro q (e | ⟨k, hk, hd, e⟩)
    · rw [e]; exact (hW.1 _ _ h5).2 rfl
    · rw [e]
      rcases @mKd_cases k with h | h | h | h
      · omega
      · omega
      · exact (hW.1 _ _ (h7 k hk h)).2 rfl
      · exact (hW.1 _ _ (h8 k hk h)).2 rfl
  refine ⟨⟨?_, ?_, ?_, h9⟩, ⟨?_, ?_, ?_⟩, ⟨fun a e ha => hW.1 a e (h10 a e ha).1, fun a e ha => hW.2 a e (h10 a e ha).1⟩, fun a e ha => (h10 a e ha).2, hA⟩
  · rw [h1, h2]; exact hK.1 18 (RX3, TX3, 30) rfl
  · rw [h3]; exact (hK.2.1 0 (by decide)).1
  · rw [h4]; exact (hK.2.1 3 (by decide)).1
  · obtain ⟨r, hr, ho⟩ := (xAt_o (by decide)).mp (hW.1 _ _ h5).1
    cases hr
    rw [h1, h2]
    exact ho.to h6
  · intro k hk hd
    rw [h3]
    exact (xAt_a (by decide)).mp (hW.1 _ _ (h7 k hk hd)).1
  · intro k hk hd
    rw [h4]
    exact (xAt_a (by decide)).mp (hW.1 _ _ (h8 k hk hd)).1
end LROWS
