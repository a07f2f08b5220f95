/-! PLAIN LAW: floorDiv by a positive number is the division of integers -/
theorem fd_msbI (x : Int32) : x.toInt < 0 ↔ x.toBitVec.msb = true := by
  rw [BitVec.msb_eq_toInt, Int32.toInt_toBitVec, decide_eq_true_iff]
theorem fd_msbL (x : Int64) : x.toInt < 0 ↔ x.toBitVec.msb = true := by
  rw [BitVec.msb_eq_toInt, Int64.toInt_toBitVec, decide_eq_true_iff]
theorem fd_signI {x y : Int32} (hy : 0 ≤ y.toInt) : 0 ≤ (x ^^^ y).toInt ↔ 0 ≤ x.toInt := by
  have h3 : y.toBitVec.msb = false := by
    cases h : y.toBitVec.msb with
    | false => rfl
    | true => have := (fd_msbI y).mpr h; omega
  have h4 : (x ^^^ y).toBitVec.msb = x.toBitVec.msb := by
    rw [Int32.toBitVec_xor, BitVec.msb_xor, h3, Bool.xor_false]
  have h1 := fd_msbI (x ^^^ y)
  rw [h4] at h1
  have h2 := h1.trans (fd_msbI x).symm
  omega
theorem fd_signL {x y : Int64} (hy : 0 ≤ y.toInt) : 0 ≤ (x ^^^ y).toInt ↔ 0 ≤ x.toInt := by
  have h3 : y.toBitVec.msb = false := by
    cases h : y.toBitVec.msb with
    | false => rfl
    | true => have := (fd_msbL y).mpr h; omega
  have h4 : (x ^^^ y).toBitVec.msb = x.toBitVec.msb := by
    rw [Int64.toBitVec_xor, BitVec.msb_xor, h3, Bool.xor_false]
  have h1 := fd_msbL (x ^^^ y)
  rw [h4] at h1
  have h2 := h1.trans (fd_msbL x).symm
  omega
theorem fd_tdiv {x y : Int} (hy : 0 < y) : (0 ≤ x → Int.tdiv x y = x / y) ∧ (x < 0 → (Int.tdiv x y * y = x → Int.tdiv x y = x / y) ∧ (Int.tdiv x y * y ≠ x → Int.tdiv x y - 1 = x / y)) := by
  refine ⟨fun h => Int.tdiv_eq_ediv_of_nonneg h, fun h => ?_⟩
  have e := Int.tdiv_eq_ediv (a := x) (b := y)
  have hs : y.sign = 1 := Int.sign_eq_one_of_pos hy
  by_cases hd : y ∣ x
  · have h1 : Int.tdiv x y = x / y := by rw [e]; simp [hd]
    refine ⟨fun _ => h1, fun hn => absurd ?_ hn⟩
    rw [h1]; exact Int.ediv_mul_cancel hd
  · have h1 : Int.tdiv x y = x / y + 1 := by rw [e]; simp [hd, hs]; omega
    refine ⟨fun hm => absurd ⟨Int.tdiv x y, by rw [Int.mul_comm]; exact hm.symm⟩ hd, fun _ => by omega⟩
theorem bm32 {z : Int} (h1 : -2 ^ 31 ≤ z) (h2 : z < 2 ^ 31) : z.bmod (2 ^ 32) = z := by
  rw [Int.bmod_eq_of_le] <;> omega
theorem bm64 {z : Int} (h1 : -2 ^ 63 ≤ z) (h2 : z < 2 ^ 63) : z.bmod (2 ^ 64) = z := by
  rw [Int.bmod_eq_of_le] <;> omega
theorem td_le {x y : Int} (hy : 0 < y) : (0 ≤ x → 0 ≤ Int.tdiv x y ∧ Int.tdiv x y ≤ x ∧ 0 ≤ Int.tdiv x y * y ∧ Int.tdiv x y * y ≤ x) ∧ (x < 0 → x ≤ Int.tdiv x y ∧ Int.tdiv x y ≤ 0 ∧ x ≤ Int.tdiv x y * y ∧ Int.tdiv x y * y ≤ 0) := by
  have pos : ∀ z : Int, 0 ≤ z → 0 ≤ Int.tdiv z y ∧ Int.tdiv z y ≤ z ∧ 0 ≤ Int.tdiv z y * y ∧ Int.tdiv z y * y ≤ z := by
    intro z hz
    have h1 : Int.tdiv z y = z / y := Int.tdiv_eq_ediv_of_nonneg hz
    have h2 : 0 ≤ z / y := Int.ediv_nonneg hz (Int.le_of_lt hy)
    have h3 : z / y * y ≤ z := Int.ediv_mul_le z (by omega)
    have h4 : z / y ≤ z := Int.ediv_le_self y hz
    rw [h1]
    exact ⟨h2, h4, Int.mul_nonneg h2 (Int.le_of_lt hy), h3⟩
  refine ⟨pos x, fun hx => ?_⟩
  obtain ⟨a, b, c, d⟩ := pos (-x) (by omega)
  have e : Int.tdiv (-x) y = - Int.tdiv x y := by simp [Int.neg_tdiv]
  rw [e] at a b c d
  have e2 : - Int.tdiv x y * y = - (Int.tdiv x y * y) := Int.neg_mul _ _
  rw [e2] at c d
  exact ⟨by omega, by omega, by omega, by omega⟩
theorem fdI_toInt {x y : Int32} (hy : 0 < y.toInt) : (fdI x y).toInt = x.toInt / y.toInt := by
  have hx1 := x.le_toInt
  have hx2 := x.toInt_lt
  have hd := fd_tdiv (x := x.toInt) hy
  have hl := td_le (x := x.toInt) hy
  have e1 : (x / y).toInt = Int.tdiv x.toInt y.toInt := by
    rw [Int32.toInt_div]
    apply bm32 <;> (by_cases h : 0 ≤ x.toInt) <;> (first | (have := hl.1 h; omega) | (have := hl.2 (by omega); omega))
  have e2 : ((x / y) * y).toInt = Int.tdiv x.toInt y.toInt * y.toInt := by
    rw [Int32.toInt_mul, e1]
    apply bm32 <;> (by_cases h : 0 ≤ x.toInt) <;> (first | (have := hl.1 h; omega) | (have := hl.2 (by omega); omega))
  unfold fdI
  by_cases h : 0 ≤ x.toInt
  · rw [if_pos (by rw [Int32.le_iff_toInt_le]; exact (fd_signI (by omega)).mpr h), e1]
    exact hd.1 h
  · rw [if_neg (by rw [Int32.le_iff_toInt_le]; exact fun q => h ((fd_signI (by omega)).mp q))]
    by_cases h2 : (x / y) * y = x
    · rw [if_pos h2, e1]
      exact (hd.2 (by omega)).1 (by rw [← e2, h2])
    · rw [if_neg h2]
      have h3 : Int.tdiv x.toInt y.toInt * y.toInt ≠ x.toInt := fun q => h2 (by rw [← Int32.toInt_inj, e2]; exact q)
      have h4 := (hd.2 (by omega)).2 h3
      have h5 := hl.2 (by omega)
      rw [Int32.toInt_sub, e1, show (1 : Int32).toInt = 1 from by decide, bm32, h4]
      · have : x.toInt ≤ x.toInt / y.toInt := by
          have hm := Int.mul_nonneg (show 0 ≤ -x.toInt by omega) (show 0 ≤ y.toInt - 1 by omega)
          rw [Int.neg_mul, Int.mul_sub, Int.mul_one] at hm
          exact Int.le_ediv_of_mul_le hy (by omega)
        omega
      · omega
theorem fdL_toInt {x y : Int64} (hy : 0 < y.toInt) : (fdL x y).toInt = x.toInt / y.toInt := by
  have hx1 := x.le_toInt
  have hx2 := x.toInt_lt
  have hd := fd_tdiv (x := x.toInt) hy
  have hl := td_le (x := x.toInt) hy
  have e0 : (0 : Int64).toInt = 0 := by decide
  have e1 : (x / y).toInt = Int.tdiv x.toInt y.toInt := by
    rw [Int64.toInt_div]
    apply bm64 <;> (by_cases h : 0 ≤ x.toInt) <;> (first | (have := hl.1 h; omega) | (have := hl.2 (by omega); omega))
  have e2 : ((x / y) * y).toInt = Int.tdiv x.toInt y.toInt * y.toInt := by
    rw [Int64.toInt_mul, e1]
    apply bm64 <;> (by_cases h : 0 ≤ x.toInt) <;> (first | (have := hl.1 h; omega) | (have := hl.2 (by omega); omega))
  unfold fdL
  by_cases h : 0 ≤ x.toInt
  · rw [if_pos (by rw [lg_cmp_ge, Int64.le_iff_toInt_le, e0]; exact (fd_signL (by omega)).mpr h), e1]
    exact hd.1 h
  · rw [if_neg (by rw [lg_cmp_ge, Int64.le_iff_toInt_le, e0]; exact fun q => h ((fd_signL (by omega)).mp q))]
    by_cases h2 : (x / y) * y = x
    · rw [if_pos (by rw [lg_cmp_eq]; exact h2), e1]
      exact (hd.2 (by omega)).1 (by rw [← e2, h2])
    · rw [if_neg (by rw [lg_cmp_eq]; exact h2)]
      have h3 : Int.tdiv x.toInt y.toInt * y.toInt ≠ x.toInt := fun q => h2 (by rw [← Int64.toInt_inj, e2]; exact q)
      have h4 := (hd.2 (by omega)).2 h3
      have h5 := hl.2 (by omega)
      rw [Int64.toInt_sub, e1, show (1 : Int64).toInt = 1 from by decide, bm64, h4]
      · have : x.toInt ≤ x.toInt / y.toInt := by
          have hm := Int.mul_nonneg (show 0 ≤ -x.toInt by omega) (show 0 ≤ y.toInt - 1 by omega)
          rw [Int.neg_mul, Int.mul_sub, Int.mul_one] at hm
          exact Int.le_ediv_of_mul_le hy (by omega)
        omega
      · omega
