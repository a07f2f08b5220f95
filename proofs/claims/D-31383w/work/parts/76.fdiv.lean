/-! PLAIN LAW: the JDK's Math on ints and longs -/
def fdL (x y : Int64) : Int64 := if 0 ≤ (lg_cmp (x ^^^ y) (0 : Int64)) then x / y else if (lg_cmp ((x / y) * y) x) = 0 then x / y else (x / y) - 1
def fdI (x y : Int32) : Int32 := if 0 ≤ (x ^^^ y) then x / y else if (x / y) * y = x then x / y else (x / y) - 1
def fmI (x y : Int32) : Int32 := if 0 ≤ (x ^^^ y) then x - x / y * y else if (x - x / y * y) = 0 then x - x / y * y else (x - x / y * y) + y
def mxI (x y : Int32) : Int32 := if x < y then y else x
def mnI (x y : Int32) : Int32 := if y < x then y else x
def abI (x : Int32) : Int32 := if 0 ≤ x then x else -x
def mxL (x y : Int64) : Int64 := if (lg_cmp x y) < 0 then y else x
def mnL (x y : Int64) : Int64 := if 0 < (lg_cmp x y) then y else x
def sgI (x : Int32) : Int32 := (x >>> ((31 : Int32) &&& 31)) ||| (((-x).toUInt32 >>> ((31 : Int32).toUInt32 &&& Int32.toUInt32 31)).toInt32)
theorem p_floorDiv {Q : Int64 → Prop} {x y : Int64} (hy : ¬ y = 0) (h : Q (fdL x y)) : w_J13_floorDiv Q x y := by
  refine ⟨hy, ?_⟩
  unfold fdL at h
  split
  · rename_i c; rw [if_pos c] at h; exact h
  · rename_i c
    rw [if_neg c] at h
    split
    · rename_i c2; rw [if_pos c2] at h; exact h
    · rename_i c2; rw [if_neg c2] at h; exact h
theorem p_floorDiv_2 {Q : Int32 → Prop} {x y : Int32} (hy : ¬ y = 0) (h : Q (fdI x y)) : w_J13_floorDiv_2 Q x y := by
  refine ⟨hy, ?_⟩
  unfold fdI at h
  split
  · rename_i c; rw [if_pos c] at h; exact h
  · rename_i c
    rw [if_neg c] at h
    split
    · rename_i c2; rw [if_pos c2] at h; exact h
    · rename_i c2; rw [if_neg c2] at h; exact h
theorem p_floorMod {Q : Int32 → Prop} {x y : Int32} (hy : ¬ y = 0) (h : Q (fmI x y)) : w_J13_floorMod Q x y := by
  refine ⟨hy, ?_⟩
  unfold fmI at h
  split
  · rename_i c; rw [if_pos c] at h; exact h
  · rename_i c
    rw [if_neg c] at h
    split
    · rename_i c2; rw [if_pos c2] at h; exact h
    · rename_i c2; rw [if_neg c2] at h; exact h
theorem p_max {Q : Int32 → Prop} {x y : Int32} (h : Q (mxI x y)) : w_J13_max Q x y := by
  unfold w_J13_max; unfold mxI at h; split <;> rename_i c <;> simpa [c] using h
theorem p_min {Q : Int32 → Prop} {x y : Int32} (h : Q (mnI x y)) : w_J13_min Q x y := by
  unfold w_J13_min; unfold mnI at h; split <;> rename_i c <;> simpa [c] using h
theorem p_abs {Q : Int32 → Prop} {x : Int32} (h : Q (abI x)) : w_J13_abs Q x := by
  unfold w_J13_abs; unfold abI at h; split <;> rename_i c <;> simpa [c] using h
theorem p_max_2 {Q : Int64 → Prop} {x y : Int64} (h : Q (mxL x y)) : w_J13_max_2 Q x y := by
  unfold w_J13_max_2; unfold mxL at h; split <;> rename_i c <;> simpa [c] using h
theorem p_min_2 {Q : Int64 → Prop} {x y : Int64} (h : Q (mnL x y)) : w_J13_min_2 Q x y := by
  unfold w_J13_min_2; unfold mnL at h; split <;> rename_i c <;> simpa [c] using h
theorem p_signum {Q : Int32 → Prop} {x : Int32} (h : Q (sgI x)) : w_J17_signum Q x := h
