/-! PLAIN LAW: numbers -/
theorem pl_add (a b : Nat) : nI a + nI b = nI (a + b) := (Int32.ofNat_add a b).symm
theorem pl_mul (a b : Nat) : nI a * nI b = nI (a * b) := (Int32.ofNat_mul a b).symm
theorem pl_sub {a b : Nat} (h : b ≤ a) : nI a - nI b = nI (a - b) := by
  have : nI a = nI (a - b) + nI b := by rw [pl_add, Nat.sub_add_cancel h]
  rw [this, Int32.add_sub_cancel]
theorem pl_lt {a b : Nat} (ha : a < 2 ^ 31) (hb : b < 2 ^ 31) : nI a < nI b ↔ a < b := by
  rw [Int32.lt_iff_toInt_lt, nI_toInt ha, nI_toInt hb]; omega
theorem pl_le {a b : Nat} (ha : a < 2 ^ 31) (hb : b < 2 ^ 31) : nI a ≤ nI b ↔ a ≤ b := by
  rw [Int32.le_iff_toInt_le, nI_toInt ha, nI_toInt hb]; omega
theorem pl_eq {a b : Nat} (ha : a < 2 ^ 31) (hb : b < 2 ^ 31) : nI a = nI b ↔ a = b := by
  rw [← Int32.toInt_inj, nI_toInt ha, nI_toInt hb]; omega
theorem pl_neg1 {a : Nat} (ha : a < 2 ^ 31) : nI a ≠ (-1 : Int32) := by
  intro h
  have := congrArg Int32.toInt h
  rw [nI_toInt ha] at this
  have e : (-1 : Int32).toInt = -1 := by decide
  rw [e] at this
  omega
/-- an int as a number, when it is one of 0 .. n-1 -/
theorem pl_nat {x : Int32} {n : Nat} (hn : n < 2 ^ 31) (h0 : (0 : Int32) ≤ x) (h1 : x < nI n) : ∃ k, k < n ∧ x = nI k := by
  rw [Int32.le_iff_toInt_le] at h0
  rw [Int32.lt_iff_toInt_lt, nI_toInt hn] at h1
  have e : (0 : Int32).toInt = 0 := by decide
  rw [e] at h0
  refine ⟨x.toInt.toNat, by omega, ?_⟩
  rw [← Int32.toInt_inj, nI_toInt (by omega)]
  omega
theorem mRd_n {f : Nat → Int32} {N : Nat} {i : Int32} {K : Int32 → Prop} (n : Nat) (hi : i = nI n) (hn : n < N) (hK : K (f n)) : mRd f N i K := ⟨n, hi, hn, hK⟩
theorem mWr_n {M : MM} {k N : Nat} {i v : Int32} {K : MM → Prop} (n : Nat) (hi : i = nI n) (hn : n < N) (hK : K (up2 M k n v)) : mWr M k N i v K := ⟨n, hi, hn, hK⟩
theorem mPt_n {M : MM} {k : Nat} {v : Int32} {K : MM → Prop} (hK : K (up2 M k 0 v)) : mPt M k v K := hK
theorem ite_t {c A B : Prop} [Decidable c] (hc : c) (h : A) : if c then A else B := by rw [if_pos hc]; exact h
theorem ite_f {c A B : Prop} [Decidable c] (hc : ¬ c) (h : B) : if c then A else B := by rw [if_neg hc]; exact h
theorem ite_tf {c A B : Prop} [Decidable c] (ht : c → A) (hf : ¬ c → B) : if c then A else B := by
  by_cases h : c
  · rw [if_pos h]; exact ht h
  · rw [if_neg h]; exact hf h
