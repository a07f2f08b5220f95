/-! THE REFERENCE'S MEMORY as functions: M k i is field k's element i (an int field's value at i = 0), L k a long field; E: its class, slots, array classes, its address, its arrays' addresses -/
abbrev MM : Type := Nat → Nat → Int32
abbrev ML : Type := Nat → Int64
abbrev mE : Type := ClassId × (Nat → Nat) × ClassId × ClassId × Nat × (Nat → Nat)
abbrev mh (E : mE) : Nat := E.2.2.2.2.1
abbrev ma (E : mE) (k : Nat) : Nat := E.2.2.2.2.2 k
def up2 (f : MM) (k i : Nat) (v : Int32) : MM := fun a b => if a = k ∧ b = i then v else f a b
def mKd (k : Nat) : Nat := if k = 0 ∨ k = 1 ∨ k = 15 ∨ k = 29 then 0 else if k = 23 ∨ k = 24 then 1 else if k = 11 ∨ k = 14 then 3 else 2
def mLn (k : Nat) : Nat := if k = 2 then 48 else if k = 3 ∨ k = 25 ∨ k = 26 then 4 else if k = 16 ∨ k = 17 then 72 else if k = 19 then 96 else if k = 20 ∨ k = 21 ∨ k = 22 then 768 else if k = 27 then 1728 else if k = 28 then 64 else 12
def mV (M : MM) (L : ML) (E : mE) (k : Nat) : Value := if mKd k = 0 then .int (M k 0) else if mKd k = 1 then .long (L k) else .ref (ma E k)
def mW (E : mE) (M : MM) (L : ML) (H : Heap) : Prop :=
  t_OB (mh E) E.1 30 E.2.1 H (mV M L E) ∧ (∀ k, k < 30 → mKd k = 2 → H[ma E k]? = some (arrV E.2.2.1 (mLn k) (fun j => .int (M k j)))) ∧ (∀ k, k < 30 → mKd k = 3 → H[ma E k]? = some (arrV E.2.2.2.1 (mLn k) (fun j => .int (M k j))))
def mInj (E : mE) : Prop := (∀ k j, k < 30 → j < 30 → 2 ≤ mKd k → 2 ≤ mKd j → ma E k = ma E j → k = j) ∧ ∀ k, k < 30 → 2 ≤ mKd k → ma E k ≠ mh E
def mK (E : mE) (U : State) : Prop := u_Kn U RX3 TX3 30 E.1 E.2.1 ∧ ArrOfT U E.2.2.1 .int ∧ ArrOfT U E.2.2.2.1 .boolean ∧ mInj E
def mAd (E : mE) (q : Nat) : Prop := q = mh E ∨ ∃ k, k < 30 ∧ 2 ≤ mKd k ∧ q = ma E k
def mA (E : mE) (sz : Nat) (q : Nat) : Prop := mAd E q ∨ sz ≤ q
theorem mK.moved {E : mE} {u U : State} (hvm : u.vm.Alike U.vm) (h : mK E u) : mK E U := ⟨u_Kn_moved hvm h.1, arrOfT_moved hvm h.2.1, arrOfT_moved hvm h.2.2.1, h.2.2.2⟩
theorem mAd_h {E : mE} : mAd E (mh E) := Or.inl rfl
theorem mAd_a {E : mE} {k : Nat} (hk : k < 30) (hd : 2 ≤ mKd k) : mAd E (ma E k) := Or.inr ⟨k, hk, hd, rfl⟩
theorem mW.kept' {E : mE} {M : MM} {L : ML} {H H1 : Heap} (h : mW E M L H) (hk : ∀ q, mAd E q → H1[q]? = H[q]?) : mW E M L H1 :=
  ⟨h.1.kept (hk _ mAd_h), fun k h1 h2 => by rw [hk _ (mAd_a h1 (by omega))]; exact h.2.1 k h1 h2, fun k h1 h2 => by rw [hk _ (mAd_a h1 (by omega))]; exact h.2.2 k h1 h2⟩
theorem mKd_cases {k : Nat} : mKd k = 0 ∨ mKd k = 1 ∨ mKd k = 2 ∨ mKd k = 3 := by
  unfold mKd
  by_cases h1 : k = 0 ∨ k = 1 ∨ k = 15 ∨ k = 29
  · rw [if_pos h1]; exact Or.inl rfl
  · rw [if_neg h1]
    by_cases h2 : k = 23 ∨ k = 24
    · rw [if_pos h2]; exact Or.inr (Or.inl rfl)
    · rw [if_neg h2]
      by_cases h3 : k = 11 ∨ k = 14
      · rw [if_pos h3]; exact Or.inr (Or.inr (Or.inr rfl))
      · rw [if_neg h3]; exact Or.inr (Or.inr (Or.inl rfl))
theorem mW.lt {E : mE} {M : MM} {L : ML} {H : Heap} (h : mW E M L H) : ∀ q, mAd E q → q < H.size := by
  rintro q (e | ⟨k, hk, hd, e⟩)
  · obtain ⟨cell, h1, -⟩ := h.1
    rw [e]; exact (Array.getElem?_eq_some_iff.mp h1).1
  · rw [e]
    rcases @mKd_cases k with h0 | h0 | h0 | h0
    · omega
    · omega
    · exact (Array.getElem?_eq_some_iff.mp (h.2.1 k hk h0)).1
    · exact (Array.getElem?_eq_some_iff.mp (h.2.2 k hk h0)).1
theorem mW.kept {E : mE} {M : MM} {L : ML} {H H1 : Heap} (h : mW E M L H) (hk : ∀ q : Nat, q < H.size → H1[q]? = H[q]?) : mW E M L H1 := h.kept' fun q hq => hk q (h.lt q hq)
def mRd (f : Nat → Int32) (N : Nat) (i : Int32) (K : Int32 → Prop) : Prop := ∃ n, i = nI n ∧ n < N ∧ K (f n)
def mWr (M : MM) (k N : Nat) (i v : Int32) (K : MM → Prop) : Prop := ∃ n, i = nI n ∧ n < N ∧ K (up2 M k n v)
def mPt (M : MM) (k : Nat) (v : Int32) (K : MM → Prop) : Prop := K (up2 M k 0 v)
def mPl (L : ML) (k : Nat) (v : Int64) (K : ML → Prop) : Prop := K (vp_updL L k v)
abbrev zN (v : Int32) : Int32 := vp_nar .boolean v
theorem mLn_lt (k : Nat) : mLn k < 2 ^ 31 := by
  unfold mLn
  repeat' split
  all_goals decide
/-- what every row of the reference's methods asks -/
def mC (p : Program) (m : MethodId) (c : Code) (s : State) (args : Array Value) (cc : ByteArray) (nL : Nat) (E : mE) : Prop := CallFix p m c cc nL s args lw_all RX3 ∧ mK E s
section MROWS
variable {p : Program} {l : Launch} {e : Env} {R : Room} {s : State} {m : MethodId} {args : Array Value} {below : List Frame} {meth : Method} {c : Code} {H : Heap} {locs : List Loc} {cells slots : Nat} {Q : State → Prop}
variable {cc : ByteArray} {pc nL : Nat} {ls : Array Slot} {rest : List Value} {A : Nat → Prop} {E : mE} {M : MM} {L : ML}
theorem mr_get (C : mC p m c s args cc nL E) (hW : mW E M L H) (k : Nat) (hk : k < 30) {index : Nat} (hl : Cond.fieldLink RX3 index RX3 (TX3 k).2.1 (TX3 k).2.2.1 ∈ lw_all) (hdg : decode cc pc = .ok (.getfield index, 3))
    (kk : W p l e R s m args below meth c H locs cells slots Q (F0 m (pc + 3) ls (mV M L E k :: rest))) : W p l e R s m args below meth c H locs cells slots Q (F0 m pc ls (.ref (mh E) :: rest)) := by
  obtain ⟨⟨hx, hb, -, hown, hts⟩, ⟨hS, hfc, kC, hkC, hkind⟩, -⟩ := C
  obtain ⟨⟨cell, q1, q2, q3, q4⟩, -⟩ := hW
  obtain ⟨cf, kf, fi, f, hi, hsl⟩ := hS k hk
  have e0 : (TX3 k).1 = RX3 := by
    have : ∀ k, k < 30 → (TX3 k).1 = RX3 := by decide +kernel
    exact this k hk
  rw [e0] at hi
  have hlay := u_lays (N := 30) hts in_X3 hk
  rw [e0] at hlay
  refine W.getf hx hb hown (hts _ hl) hi (u_facts hfc hkC hlay hi).1 q1 (by rw [q3]; exact fun h => by cases h) (v := mV M L E k) ?_ rfl rfl hdg kk
  rw [hsl, q4 k hk]
theorem mr_getI (C : mC p m c s args cc nL E) (hW : mW E M L H) (k : Nat) (hk : Nat.blt k 30 = true) (hd : mKd k = 0) {index : Nat} (hl : Cond.fieldLink RX3 index RX3 (TX3 k).2.1 (TX3 k).2.2.1 ∈ lw_all) (hdg : decode cc pc = .ok (.getfield index, 3))
    (kk : W p l e R s m args below meth c H locs cells slots Q (F0 m (pc + 3) ls (.int (M k 0) :: rest))) : W p l e R s m args below meth c H locs cells slots Q (F0 m pc ls (.ref (mh E) :: rest)) :=
  mr_get C hW k (Nat.le_of_ble_eq_true hk) hl hdg (by rw [show mV M L E k = .int (M k 0) by unfold mV; rw [if_pos hd]]; exact kk)
theorem mr_getJ (C : mC p m c s args cc nL E) (hW : mW E M L H) (k : Nat) (hk : Nat.blt k 30 = true) (hd : mKd k = 1) {index : Nat} (hl : Cond.fieldLink RX3 index RX3 (TX3 k).2.1 (TX3 k).2.2.1 ∈ lw_all) (hdg : decode cc pc = .ok (.getfield index, 3))
    (kk : W p l e R s m args below meth c H locs cells slots Q (F0 m (pc + 3) ls (.long (L k) :: rest))) : W p l e R s m args below meth c H locs cells slots Q (F0 m pc ls (.ref (mh E) :: rest)) :=
  mr_get C hW k (Nat.le_of_ble_eq_true hk) hl hdg (by rw [show mV M L E k = .long (L k) by unfold mV; rw [if_neg (by omega), if_pos hd]]; exact kk)
theorem mr_getA (C : mC p m c s args cc nL E) (hW : mW E M L H) (k : Nat) (hk : Nat.blt k 30 = true) (hd : Nat.ble 2 (mKd k) = true) {index : Nat} (hl : Cond.fieldLink RX3 index RX3 (TX3 k).2.1 (TX3 k).2.2.1 ∈ lw_all) (hdg : decode cc pc = .ok (.getfield index, 3))
    (kk : W p l e R s m args below meth c H locs cells slots Q (F0 m (pc + 3) ls (.ref (ma E k) :: rest))) : W p l e R s m args below meth c H locs cells slots Q (F0 m pc ls (.ref (mh E) :: rest)) :=
  mr_get C hW k (Nat.le_of_ble_eq_true hk) hl hdg (by
    have hd := Nat.le_of_ble_eq_true hd
    rw [show mV M L E k = .ref (ma E k) by unfold mV; rw [if_neg (by omega), if_neg (by omega)]]; exact kk)
theorem mr_put (C : mC p m c s args cc nL E) (hW : mW E M L H) (hS0 : va_S A s.heap H locs) (hA : ∀ q, mAd E q → A q) (k : Nat) (hk : k < 30) {index : Nat} (hl : Cond.fieldLink RX3 index RX3 (TX3 k).2.1 (TX3 k).2.2.1 ∈ lw_all) (hfin : (TX3 k).2.2.2 = false) {ty : FieldType} {v : Value} (hd : parseFieldDescriptor (TX3 k).2.2.1 = some ty) (hn : narrow ty v = v) (hfit : fits ty v = true) (hdg : decode cc pc = .ok (.putfield index, 3))
    (kk : ∀ (H1 : Heap) (locs1 : List Loc), t_OB (mh E) E.1 30 E.2.1 H1 (updV (mV M L E) k v) → (∀ q : Nat, q ≠ mh E → H1[q]? = H[q]?) → va_S A s.heap H1 locs1 → W p l e R s m args below meth c H1 locs1 cells slots Q (F0 m (pc + 3) ls rest)) : W p l e R s m args below meth c H locs cells slots Q (F0 m pc ls (v :: .ref (mh E) :: rest)) := by
  obtain ⟨⟨hx, hb, -, hown, hts⟩, hKn, -⟩ := C
  have hap : ∀ x y, x < 30 → y < 30 → x ≠ y → E.2.1 x ≠ E.2.1 y := by
    intro x y hx hy hne
    obtain ⟨_, _, _, fa, hia, ea⟩ := hKn.1 x hx
    obtain ⟨_, _, _, fb, hib, eb⟩ := hKn.1 y hy
    rw [← ea, ← eb]
    refine u_apart (u_lays hts in_X3 hx) (u_lays hts in_X3 hy) hia hib ?_
    rw [(State.fieldFound?_type hia (tyX3_ok x hx)).1, (State.fieldFound?_type hib (tyX3_ok y hy)).1]
    exact nmX3 x hx y hy hne
  obtain ⟨hS, hfc, kC, hkC, hkind⟩ := hKn
  obtain ⟨⟨cell, q1, q2, q3, q4⟩, -⟩ := hW
  obtain ⟨cf, kf, fi, f, hi, hsl⟩ := hS k hk
  have e0 : (TX3 k).1 = RX3 := by
    have : ∀ k, k < 30 → (TX3 k).1 = RX3 := by decide +kernel
    exact this k hk
  have hlay := hts _ (in_X3 _ (u_in_lay hk))
  unfold u_lay at hlay
  rw [if_neg (by rw [hfin]; decide)] at hlay
  have hst := (u_facts hfc hkC (u_lays hts in_X3 hk) hi).1
  have h6 := u_store hfc hkC hkind hlay hi hd hn hfit
  rw [e0] at hi
  refine W.putK hx hb (f := f) ⟨hown, hts _ hl, ⟨_, _, _, hi⟩, hst⟩ (by rw [q2]; exact h6) q1 q3 (by rw [hsl]; exact k2_hasslot (q4 k hk)) rfl rfl hdg fun H' e1 e2 e3 => ?_
  rw [hsl] at e1 ⊢
  exact kk H' _ ⟨_, e1, q2, q3, t_set q4 hap hk v⟩ e3 (hS0.put e2 e3 (hA _ mAd_h))
theorem mW.putI {H1 : Heap} {k : Nat} {v : Int32} (hI : mInj E) (hW : mW E M L H) (hd : mKd k = 0) (h : t_OB (mh E) E.1 30 E.2.1 H1 (updV (mV M L E) k (.int v))) (e3 : ∀ q : Nat, q ≠ mh E → H1[q]? = H[q]?) : mW E (up2 M k 0 v) L H1 := by
  refine ⟨h.to fun j hj => ?_, fun j hj h2 => ?_, fun j hj h2 => ?_⟩
  · by_cases e : j = k
    · subst e; simp [updV, mV, hd, up2]
    · simp [updV, mV, up2, e]
  · rw [e3 _ (hI.2 j hj (by omega)), hW.2.1 j hj h2]
    have : j ≠ k := fun e => by rw [e] at h2; omega
    simp [up2, this]
  · rw [e3 _ (hI.2 j hj (by omega)), hW.2.2 j hj h2]
    have : j ≠ k := fun e => by rw [e] at h2; omega
    simp [up2, this]
theorem mW.putJ {H1 : Heap} {k : Nat} {v : Int64} (hI : mInj E) (hW : mW E M L H) (hd : mKd k = 1) (h : t_OB (mh E) E.1 30 E.2.1 H1 (updV (mV M L E) k (.long v))) (e3 : ∀ q : Nat, q ≠ mh E → H1[q]? = H[q]?) : mW E M (vp_updL L k v) H1 := by
  refine ⟨h.to fun j hj => ?_, fun j hj h2 => ?_, fun j hj h2 => ?_⟩
  · by_cases e : j = k
    · subst e; simp [updV, mV, hd, vp_updL]
    · simp [updV, mV, vp_updL, e]
  · rw [e3 _ (hI.2 j hj (by omega)), hW.2.1 j hj h2]
  · rw [e3 _ (hI.2 j hj (by omega)), hW.2.2 j hj h2]
theorem mr_putI (C : mC p m c s args cc nL E) (hW : mW E M L H) (hS0 : va_S A s.heap H locs) (hA : ∀ q, mAd E q → A q) (k : Nat) (hk : Nat.blt k 30 = true) (hd : mKd k = 0) {index : Nat} (hl : Cond.fieldLink RX3 index RX3 (TX3 k).2.1 (TX3 k).2.2.1 ∈ lw_all) (hfin : (TX3 k).2.2.2 = false) (hty : parseFieldDescriptor (TX3 k).2.2.1 = some .int) {v : Int32} {K : MM → Prop} (h : mPt M k v K) (hdg : decode cc pc = .ok (.putfield index, 3))
    (kk : ∀ (M1 : MM) (H1 : Heap) (locs1 : List Loc), mW E M1 L H1 → va_S A s.heap H1 locs1 → K M1 → W p l e R s m args below meth c H1 locs1 cells slots Q (F0 m (pc + 3) ls rest)) : W p l e R s m args below meth c H locs cells slots Q (F0 m pc ls (.int v :: .ref (mh E) :: rest)) :=
  mr_put C hW hS0 hA k (Nat.le_of_ble_eq_true hk) hl hfin hty rfl rfl hdg fun H1 locs1 h1 h2 h3 => kk _ H1 locs1 (hW.putI C.2.2.2.2 hd h1 h2) h3 h
theorem mr_putJ (C : mC p m c s args cc nL E) (hW : mW E M L H) (hS0 : va_S A s.heap H locs) (hA : ∀ q, mAd E q → A q) (k : Nat) (hk : Nat.blt k 30 = true) (hd : mKd k = 1) {index : Nat} (hl : Cond.fieldLink RX3 index RX3 (TX3 k).2.1 (TX3 k).2.2.1 ∈ lw_all) (hfin : (TX3 k).2.2.2 = false) (hty : parseFieldDescriptor (TX3 k).2.2.1 = some .long) {v : Int64} {K : ML → Prop} (h : mPl L k v K) (hdg : decode cc pc = .ok (.putfield index, 3))
    (kk : ∀ (L1 : ML) (H1 : Heap) (locs1 : List Loc), mW E M L1 H1 → va_S A s.heap H1 locs1 → K L1 → W p l e R s m args below meth c H1 locs1 cells slots Q (F0 m (pc + 3) ls rest)) : W p l e R s m args below meth c H locs cells slots Q (F0 m pc ls (.long v :: .ref (mh E) :: rest)) :=
  mr_put C hW hS0 hA k (Nat.le_of_ble_eq_true hk) hl hfin hty rfl rfl hdg fun H1 locs1 h1 h2 h3 => kk _ H1 locs1 (hW.putJ C.2.2.2.2 hd h1 h2) h3 h
theorem mr_in {n N : Nat} (h : n < N) (hN : N < 2 ^ 31) {f : Nat → Value} {cA : ClassId} : ¬ (nI n < 0 ∨ (arrV cA N f).slots.size ≤ (nI n).toNatClampNeg) := by rw [arrV_size]; exact nI_in h hN
theorem mr_iald (C : mC p m c s args cc nL E) (hW : mW E M L H) (k : Nat) (hk : Nat.blt k 30 = true) (hd : mKd k = 2) {N : Nat} (hN : mLn k = N) {i : Int32} {K : Int32 → Prop} (h : mRd (M k) N i K) (hdg : decode cc pc = .ok (.iaload, 1))
    (kk : ∀ v : Int32, K v → W p l e R s m args below meth c H locs cells slots Q (F0 m (pc + 1) ls (.int v :: rest))) : W p l e R s m args below meth c H locs cells slots Q (F0 m pc ls (.int i :: .ref (ma E k) :: rest)) := by
  obtain ⟨n, e1, hn, h⟩ := h
  subst e1
  subst hN
  have h31 : n < 2 ^ 31 := Nat.lt_trans hn (mLn_lt k)
  refine W.iald (v := .int (M k n)) C.1.1 C.1.2.1 (hW.2.1 k (Nat.le_of_ble_eq_true hk) hd) (C.2.2.1 _ _) (fun q => by cases q) (mr_in hn (mLn_lt k)) ?_ rfl rfl hdg (kk _ h)
  rw [nI_clamp h31, arrV_read _ _ hn]
theorem mr_zald (C : mC p m c s args cc nL E) (hW : mW E M L H) (k : Nat) (hk : Nat.blt k 30 = true) (hd : mKd k = 3) {N : Nat} (hN : mLn k = N) {i : Int32} {K : Int32 → Prop} (h : mRd (M k) N i K) (hdg : decode cc pc = .ok (.baload, 1))
    (kk : ∀ v : Int32, K v → W p l e R s m args below meth c H locs cells slots Q (F0 m (pc + 1) ls (.int v :: rest))) : W p l e R s m args below meth c H locs cells slots Q (F0 m pc ls (.int i :: .ref (ma E k) :: rest)) := by
  obtain ⟨n, e1, hn, h⟩ := h
  subst e1
  subst hN
  have h31 : n < 2 ^ 31 := Nat.lt_trans hn (mLn_lt k)
  refine W.zald (v := .int (M k n)) C.1.1 C.1.2.1 (hW.2.2 k (Nat.le_of_ble_eq_true hk) hd) (C.2.2.2.1 _ _) (fun q => by cases q) (mr_in hn (mLn_lt k)) ?_ rfl rfl hdg (kk _ h)
  rw [nI_clamp h31, arrV_read _ _ hn]
theorem mW.st {H1 : Heap} {k n : Nat} {v : Int32} (hI : mInj E) (hW : mW E M L H) (hk : k < 30) (hd : 2 ≤ mKd k) (h : H1[ma E k]? = some (arrV (if mKd k = 2 then E.2.2.1 else E.2.2.2.1) (mLn k) (fun j => .int (up2 M k n v k j)))) (e3 : ∀ q : Nat, q ≠ ma E k → H1[q]? = H[q]?) : mW E (up2 M k n v) L H1 := by
  refine ⟨(hW.1.kept (e3 _ (fun e => hI.2 k hk hd e.symm))).to fun j hj => ?_, fun j hj h2 => ?_, fun j hj h2 => ?_⟩
  · by_cases e : mKd j = 0
    · have : j ≠ k := fun e' => by rw [e'] at e; omega
      simp [mV, up2, this]
    · simp [mV, e]
  · by_cases e : j = k
    · subst e; rw [h, if_pos h2]
    · rw [e3 _ (fun q => e (hI.1 j k hj hk (by omega) hd q)), hW.2.1 j hj h2]
      simp [up2, e]
  · by_cases e : j = k
    · subst e; rw [h, if_neg (by omega)]
    · rw [e3 _ (fun q => e (hI.1 j k hj hk (by omega) hd q)), hW.2.2 j hj h2]
      simp [up2, e]
theorem mr_iast (C : mC p m c s args cc nL E) (hW : mW E M L H) (hS0 : va_S A s.heap H locs) (hA : ∀ q, mAd E q → A q) (k : Nat) (hk : Nat.blt k 30 = true) (hd : mKd k = 2) {N : Nat} (hN : mLn k = N) {i v : Int32} {K : MM → Prop} (h : mWr M k N i v K) (hdg : decode cc pc = .ok (.iastore, 1))
    (kk : ∀ (M1 : MM) (H1 : Heap) (locs1 : List Loc), mW E M1 L H1 → va_S A s.heap H1 locs1 → K M1 → W p l e R s m args below meth c H1 locs1 cells slots Q (F0 m (pc + 1) ls rest)) : W p l e R s m args below meth c H locs cells slots Q (F0 m pc ls (.int v :: .int i :: .ref (ma E k) :: rest)) := by
  obtain ⟨n, e1, hn, h⟩ := h
  subst e1
  subst hN
  have h31 : n < 2 ^ 31 := Nat.lt_trans hn (mLn_lt k)
  have hk := Nat.le_of_ble_eq_true hk
  refine W.iast C.1.1 C.1.2.1 (hW.2.1 k hk hd) (C.2.2.1 _ _) (fun q => by cases q) (mr_in hn (mLn_lt k)) rfl rfl hdg fun H1 e z oq => ?_
  refine kk _ H1 _ (hW.st C.2.2.2.2 (n := n) (v := v) hk (by omega) ?_ oq) (hS0.put z oq (hA _ (mAd_a hk (by omega)))) h
  rw [e, arrV_store, nI_clamp h31, if_pos hd]
  congr 2
  funext q
  by_cases hq : q = n
  · subst hq; simp [updV, up2]
  · simp [updV, up2, hq]
theorem mr_zast (C : mC p m c s args cc nL E) (hW : mW E M L H) (hS0 : va_S A s.heap H locs) (hA : ∀ q, mAd E q → A q) (k : Nat) (hk : Nat.blt k 30 = true) (hd : mKd k = 3) {N : Nat} (hN : mLn k = N) {i v : Int32} {K : MM → Prop} (h : mWr M k N i (zN v) K) (hdg : decode cc pc = .ok (.bastore, 1))
    (kk : ∀ (M1 : MM) (H1 : Heap) (locs1 : List Loc), mW E M1 L H1 → va_S A s.heap H1 locs1 → K M1 → W p l e R s m args below meth c H1 locs1 cells slots Q (F0 m (pc + 1) ls rest)) : W p l e R s m args below meth c H locs cells slots Q (F0 m pc ls (.int v :: .int i :: .ref (ma E k) :: rest)) := by
  obtain ⟨n, e1, hn, h⟩ := h
  subst e1
  subst hN
  have h31 : n < 2 ^ 31 := Nat.lt_trans hn (mLn_lt k)
  have hk := Nat.le_of_ble_eq_true hk
  refine W.zast C.1.1 C.1.2.1 (hW.2.2 k hk hd) (C.2.2.2.1 _ _) (fun q => by cases q) (mr_in hn (mLn_lt k)) rfl rfl hdg fun H1 e z oq => ?_
  refine kk _ H1 _ (hW.st C.2.2.2.2 (n := n) (v := zN v) hk (by omega) ?_ oq) (hS0.put z oq (hA _ (mAd_a hk (by omega)))) h
  rw [e, arrV_store, nI_clamp h31, if_neg (by omega)]
  congr 2
  funext q
  by_cases hq : q = n
  · subst hq
    simp [updV, up2, zN, vp_nar]
    try rfl
  · simp [updV, up2, hq]
/-- a call of a method of the reference that may write: what comes back -/
theorem mw_i {sz mc ms : Nat} {st0 : List Value} {a : Array Value} {P : Int32 → MM → ML → Prop} (hr : va_Run p l e R s m args below meth c H locs cells slots mc ms (F0 m pc ls st0) rest (va_Qi (fun r (u : MM × ML) => P r u.1 u.2) (fun u t => mW E u.1 u.2 t.heap) (mA E H.size) a) (mA E H.size)) (hS : va_S A s.heap H locs) (hA : ∀ q, s.heap.size ≤ q → A q) (hAw : ∀ q, mAd E q → A q)
    (kk : ∀ (r : Int32) (M1 : MM) (L1 : ML) (H1 : Heap) (locs1 : List Loc), P r M1 L1 → mW E M1 L1 H1 → H.size ≤ H1.size → (∀ q : Nat, q < H.size → ¬ mAd E q → H1[q]? = H[q]?) → va_S A s.heap H1 locs1 → W p l e R s m args below meth c H1 locs1 (cells + mc) (slots + ms) Q (F0 m (pc + 3) ls (.int r :: rest))) : W p l e R s m args below meth c H locs cells slots Q (F0 m pc ls st0) :=
  va_calli hr hS (fun q h1 h2 => h2.elim (hAw q) (fun h => absurd h1 (Nat.not_lt.mpr h))) (fun q h => h.elim (hAw q) (fun h => hA q (Nat.le_trans hS.1 h))) (fun r u t H1 locs1 ht _ hp hB hz hk hS1 => kk r u.1 u.2 H1 locs1 hp (by rw [← ht]; exact hB) hz (fun q hq hn => hk q hq (fun h => h.elim hn (fun h => absurd hq (Nat.not_lt.mpr h)))) hS1)
theorem mw_l {sz mc ms : Nat} {st0 : List Value} {a : Array Value} {P : Int64 → MM → ML → Prop} (hr : va_Run p l e R s m args below meth c H locs cells slots mc ms (F0 m pc ls st0) rest (va_Ql (fun r (u : MM × ML) => P r u.1 u.2) (fun u t => mW E u.1 u.2 t.heap) (mA E H.size) a) (mA E H.size)) (hS : va_S A s.heap H locs) (hA : ∀ q, s.heap.size ≤ q → A q) (hAw : ∀ q, mAd E q → A q)
    (kk : ∀ (r : Int64) (M1 : MM) (L1 : ML) (H1 : Heap) (locs1 : List Loc), P r M1 L1 → mW E M1 L1 H1 → H.size ≤ H1.size → (∀ q : Nat, q < H.size → ¬ mAd E q → H1[q]? = H[q]?) → va_S A s.heap H1 locs1 → W p l e R s m args below meth c H1 locs1 (cells + mc) (slots + ms) Q (F0 m (pc + 3) ls (.long r :: rest))) : W p l e R s m args below meth c H locs cells slots Q (F0 m pc ls st0) :=
  va_calll hr hS (fun q h1 h2 => h2.elim (hAw q) (fun h => absurd h1 (Nat.not_lt.mpr h))) (fun q h => h.elim (hAw q) (fun h => hA q (Nat.le_trans hS.1 h))) (fun r u t H1 locs1 ht _ hp hB hz hk hS1 => kk r u.1 u.2 H1 locs1 hp (by rw [← ht]; exact hB) hz (fun q hq hn => hk q hq (fun h => h.elim hn (fun h => absurd hq (Nat.not_lt.mpr h)))) hS1)
theorem mw_f {sz mc ms : Nat} {st0 : List Value} {a : Array Value} {P : UInt32 → MM → ML → Prop} (hr : va_Run p l e R s m args below meth c H locs cells slots mc ms (F0 m pc ls st0) rest (va_Qf (fun r (u : MM × ML) => P r u.1 u.2) (fun u t => mW E u.1 u.2 t.heap) (mA E H.size) a) (mA E H.size)) (hS : va_S A s.heap H locs) (hA : ∀ q, s.heap.size ≤ q → A q) (hAw : ∀ q, mAd E q → A q)
    (kk : ∀ (r : UInt32) (M1 : MM) (L1 : ML) (H1 : Heap) (locs1 : List Loc), P r M1 L1 → mW E M1 L1 H1 → H.size ≤ H1.size → (∀ q : Nat, q < H.size → ¬ mAd E q → H1[q]? = H[q]?) → va_S A s.heap H1 locs1 → W p l e R s m args below meth c H1 locs1 (cells + mc) (slots + ms) Q (F0 m (pc + 3) ls (.float r :: rest))) : W p l e R s m args below meth c H locs cells slots Q (F0 m pc ls st0) :=
  va_callf hr hS (fun q h1 h2 => h2.elim (hAw q) (fun h => absurd h1 (Nat.not_lt.mpr h))) (fun q h => h.elim (hAw q) (fun h => hA q (Nat.le_trans hS.1 h))) (fun r u t H1 locs1 ht _ hp hB hz hk hS1 => kk r u.1 u.2 H1 locs1 hp (by rw [← ht]; exact hB) hz (fun q hq hn => hk q hq (fun h => h.elim hn (fun h => absurd hq (Nat.not_lt.mpr h)))) hS1)
theorem mw_d {sz mc ms : Nat} {st0 : List Value} {a : Array Value} {P : UInt64 → MM → ML → Prop} (hr : va_Run p l e R s m args below meth c H locs cells slots mc ms (F0 m pc ls st0) rest (va_Qd (fun r (u : MM × ML) => P r u.1 u.2) (fun u t => mW E u.1 u.2 t.heap) (mA E H.size) a) (mA E H.size)) (hS : va_S A s.heap H locs) (hA : ∀ q, s.heap.size ≤ q → A q) (hAw : ∀ q, mAd E q → A q)
    (kk : ∀ (r : UInt64) (M1 : MM) (L1 : ML) (H1 : Heap) (locs1 : List Loc), P r M1 L1 → mW E M1 L1 H1 → H.size ≤ H1.size → (∀ q : Nat, q < H.size → ¬ mAd E q → H1[q]? = H[q]?) → va_S A s.heap H1 locs1 → W p l e R s m args below meth c H1 locs1 (cells + mc) (slots + ms) Q (F0 m (pc + 3) ls (.double r :: rest))) : W p l e R s m args below meth c H locs cells slots Q (F0 m pc ls st0) :=
  va_calld hr hS (fun q h1 h2 => h2.elim (hAw q) (fun h => absurd h1 (Nat.not_lt.mpr h))) (fun q h => h.elim (hAw q) (fun h => hA q (Nat.le_trans hS.1 h))) (fun r u t H1 locs1 ht _ hp hB hz hk hS1 => kk r u.1 u.2 H1 locs1 hp (by rw [← ht]; exact hB) hz (fun q hq hn => hk q hq (fun h => h.elim hn (fun h => absurd hq (Nat.not_lt.mpr h)))) hS1)
theorem mw_v {sz mc ms : Nat} {st0 : List Value} {a : Array Value} {P : MM → ML → Prop} (hr : va_Run p l e R s m args below meth c H locs cells slots mc ms (F0 m pc ls st0) rest (va_Qv (fun (u : MM × ML) => P u.1 u.2) (fun u t => mW E u.1 u.2 t.heap) (mA E H.size) a) (mA E H.size)) (hS : va_S A s.heap H locs) (hA : ∀ q, s.heap.size ≤ q → A q) (hAw : ∀ q, mAd E q → A q)
    (kk : ∀ (M1 : MM) (L1 : ML) (H1 : Heap) (locs1 : List Loc), P M1 L1 → mW E M1 L1 H1 → H.size ≤ H1.size → (∀ q : Nat, q < H.size → ¬ mAd E q → H1[q]? = H[q]?) → va_S A s.heap H1 locs1 → W p l e R s m args below meth c H1 locs1 (cells + mc) (slots + ms) Q (F0 m (pc + 3) ls rest)) : W p l e R s m args below meth c H locs cells slots Q (F0 m pc ls st0) :=
  va_callv hr hS (fun q h1 h2 => h2.elim (hAw q) (fun h => absurd h1 (Nat.not_lt.mpr h))) (fun q h => h.elim (hAw q) (fun h => hA q (Nat.le_trans hS.1 h))) (fun u t H1 locs1 ht _ hp hB hz hk hS1 => kk u.1 u.2 H1 locs1 hp (by rw [← ht]; exact hB) hz (fun q hq hn => hk q hq (fun h => h.elim hn (fun h => absurd hq (Nat.not_lt.mpr h)))) hS1)
/-- the receiver -/
theorem mW.recv {hK : mK E s} (hW : mW E M L H) : ∃ cell : Cell, H[mh E]? = some cell ∧ cell.vm.isStatics = false ∧ s.vm.findClass RX3 = some cell.cls := by
  obtain ⟨⟨cell, g1, g2, g3, -⟩, -⟩ := hW
  exact ⟨cell, g1, by rw [g3]; rfl, by rw [g2]; exact hK.1.2.1⟩
end MROWS
