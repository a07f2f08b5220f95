/-! PLAIN LAW: the abstract state, its values -/
/-- a key: time, number, easing -/
abbrev XKey : Type := Int32 × Int32 × Int32
abbrev kT (k : XKey) : Int32 := k.1
abbrev kN (k : XKey) : Int32 := k.2.1
abbrev kE (k : XKey) : Int32 := k.2.2
/-- a layer: (kind, home), (0 width 1 height 2 colour 3 inverted 4 first 5 end), (parent, matte), keys by value, points -/
abbrev XLay : Type := (Nat × Nat) × (Nat → Int32) × (Option Nat × Option Nat) × (Nat → List XKey) × List (Int32 × Int32)
abbrev yKind (y : XLay) : Nat := y.1.1
abbrev yHome (y : XLay) : Nat := y.1.2
abbrev yI (y : XLay) (k : Nat) : Int32 := y.2.1 k
abbrev yPar (y : XLay) : Option Nat := y.2.2.1.1
abbrev yMat (y : XLay) : Option Nat := y.2.2.1.2
abbrev yKeys (y : XLay) (v : Nat) : List XKey := y.2.2.2.1 v
abbrev yPts (y : XLay) : List (Int32 × Int32) := y.2.2.2.2
/-- the state: orders by composition, layers, how many were made, the output -/
abbrev XSt : Type := List (List Nat) × (Nat → Option XLay) × Nat × List Int32
abbrev sOrd (S : XSt) : List (List Nat) := S.1
abbrev sLay (S : XSt) : Nat → Option XLay := S.2.1
abbrev sMade (S : XSt) : Nat := S.2.2.1
abbrev sOut (S : XSt) : List Int32 := S.2.2.2
/-- the place of the first key that isn't ahead of a time -/
def kPlace (t : Int32) : List XKey → Nat
  | [] => 0
  | k :: ks => if kT k < t then kPlace t ks + 1 else 0
def kAt (ks : List XKey) (j : Nat) : XKey := ks.getD j (0, 0, 0)
def kHas (t : Int32) (ks : List XKey) : Bool := decide (kPlace t ks < ks.length) && decide (kT (kAt ks (kPlace t ks)) = t)
theorem kPlace_le (t : Int32) (ks : List XKey) : kPlace t ks ≤ ks.length := by
  induction ks with
  | nil => exact Nat.le_refl _
  | cons k ks ih =>
    unfold kPlace
    split
    · simp only [List.length_cons]; omega
    · exact Nat.zero_le _
/-- every key ahead of the place is of a time ahead; the one there is not -/
theorem kPlace_lt (t : Int32) (ks : List XKey) : ∀ j, j < kPlace t ks → kT (kAt ks j) < t := by
  induction ks with
  | nil => intro j h; exact absurd h (Nat.not_lt_zero j)
  | cons k ks ih =>
    intro j h
    unfold kPlace at h
    split at h
    · rename_i c
      cases j with
      | zero => exact c
      | succ j => exact ih j (by omega)
    · exact absurd h (Nat.not_lt_zero j)
theorem kPlace_ge (t : Int32) (ks : List XKey) (h : kPlace t ks < ks.length) : ¬ kT (kAt ks (kPlace t ks)) < t := by
  induction ks with
  | nil => exact absurd h (Nat.not_lt_zero _)
  | cons k ks ih =>
    by_cases c : kT k < t
    · have e : kPlace t (k :: ks) = kPlace t ks + 1 := by rw [kPlace, if_pos c]
      rw [e] at h ⊢
      exact ih (by simp only [List.length_cons] at h; omega)
    · have e : kPlace t (k :: ks) = 0 := by rw [kPlace, if_neg c]
      rw [e]
      exact c
/-- the place, by what it is -/
theorem kPlace_eq {t : Int32} {ks : List XKey} {p : Nat} (hp : p ≤ ks.length) (h1 : ∀ j, j < p → kT (kAt ks j) < t) (h2 : p < ks.length → ¬ kT (kAt ks p) < t) : kPlace t ks = p := by
  by_cases h : kPlace t ks < p
  · exact absurd (h1 _ h) (kPlace_ge t ks (by omega))
  · by_cases h' : p < kPlace t ks
    · exact absurd (kPlace_lt t ks p h') (h2 (by have := kPlace_le t ks; omega))
    · omega
def vNone (v : Nat) (t : Int32) : Int32 := if v = 2 then 1000 else if v = 5 then 1000 else if v = 6 then t else if v = 7 then 1 else 0
def vBetw (a b : XKey) (t : Int32) : Int32 := if kE a = 0 then kN a else if kE a = 1 then kN a + fdI ((kN b - kN a) * (t - kT a)) (kT b - kT a) else
  kN a + fdI ((kN b - kN a) * (((((1000 * (t - kT a)) / (kT b - kT a)).toInt64 * ((1000 * (t - kT a)) / (kT b - kT a)).toInt64 * (3000 - 2 * ((1000 * (t - kT a)) / (kT b - kT a)).toInt64)) / 1000000).toInt32)) 1000
def kVal (ks : List XKey) (v : Nat) (t : Int32) : Int32 :=
  if ks.length = 0 then vNone v t else if kPlace t ks = ks.length then kN (kAt ks (kPlace t ks - 1)) else if kPlace t ks = 0 ∨ kT (kAt ks (kPlace t ks)) = t then kN (kAt ks (kPlace t ks)) else vBetw (kAt ks (kPlace t ks - 1)) (kAt ks (kPlace t ks)) t
def yVal (y : XLay) (v : Nat) (t : Int32) : Int32 := kVal (yKeys y v) v t
def yShow (y : XLay) (t : Int32) : Bool := decide (yI y 4 ≤ t) && decide (t ≤ yI y 5 - 1) && decide (1 ≤ yVal y 7 t)
