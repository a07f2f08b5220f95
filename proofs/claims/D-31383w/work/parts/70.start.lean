/-! AT THE LAW's ENTRY (printed by start.py): classes, arrays, statics, texts; the heap's first picture -/
set_option maxRecDepth 100000
theorem x_nar {args : Array Value} {s : State} (h : (Jvm.Cond.and given_1 narrow_1).before args s = true) (k : Nat) {w : Cond} (hk : (flatC (Jvm.Cond.and given_1 narrow_1))[k]? = some w) : w.before args s = true := flat_of_before _ h w (List.mem_of_getElem? hk)
theorem xCl_mk : ∀ (ci : Nat) (r : vw_C), xCl[ci]? = some r → ∃ n, Cond.instantiable r.1 n ∈ lw_all := by
  intro ci r h
  rcases ci with _ | ci
  · cases h; exact ⟨_, q105⟩
  rcases ci with _ | ci
  · cases h; exact ⟨_, q174⟩
  rcases ci with _ | ci
  · cases h; exact ⟨_, q658⟩
  rcases ci with _ | ci
  · cases h; exact ⟨_, q796⟩
  rcases ci with _ | ci
  · cases h; exact ⟨_, q890⟩
  rcases ci with _ | ci
  · cases h; exact ⟨_, q1030⟩
  rcases ci with _ | ci
  · cases h; exact ⟨_, q1056⟩
  rcases ci with _ | ci
  · cases h; exact ⟨_, q809⟩
  rcases ci with _ | ci
  · cases h; exact ⟨_, q1248⟩
  rcases ci with _ | ci
  · cases h; exact ⟨_, q1257⟩
  rcases ci with _ | ci
  · cases h; exact ⟨_, q1264⟩
  rcases ci with _ | ci
  · cases h; exact ⟨_, q1271⟩
  rcases ci with _ | ci
  · cases h; exact ⟨_, q970⟩
  rcases ci with _ | ci
  · cases h; exact ⟨_, q1434⟩
  rcases ci with _ | ci
  · cases h; exact ⟨_, q1482⟩
  rcases ci with _ | ci
  · cases h; exact ⟨_, q113⟩
  rcases ci with _ | ci
  · cases h; exact ⟨_, q141⟩
  rcases ci with _ | ci
  · cases h; exact ⟨_, q408⟩
  rcases ci with _ | ci
  · cases h; exact ⟨_, q1798⟩
  · simp [xCl] at h
theorem x_cls {args : Array Value} {s : State} (hts : ∀ w ∈ lw_all, w.before args s = true) : ∃ f : Nat → ClassId × (Nat → Nat), ∀ (ci : Nat) (r : vw_C), xCl[ci]? = some r → u_Kn s r.1 r.2.1 r.2.2 (f ci).1 (f ci).2 := by
  have h : ∀ ci : Nat, ∃ p : ClassId × (Nat → Nat), ∀ r : vw_C, xCl[ci]? = some r → u_Kn s r.1 r.2.1 r.2.2 p.1 p.2 := by
    intro ci
    cases hr : xCl[ci]? with
    | none => exact ⟨(0, fun _ => 0), fun r h => by cases h⟩
    | some r =>
      obtain ⟨n, hn⟩ := xCl_mk ci r hr
      obtain ⟨c, a, hk⟩ := u_known hts (xCl_in ci r hr) (hts _ hn)
      exact ⟨(c, a), fun r' h => by cases h; exact hk⟩
  obtain ⟨f, hf⟩ := Classical.axiomOfChoice h
  exact ⟨f, hf⟩
theorem x_arrP {args : Array Value} {s : State} {ty : FieldType} (hty : ∀ C, ty ≠ .object C) (h : (Cond.arrayClass ty).before args s = true) : ∃ cA, ArrOfT s cA ty ∧ va_RA s cA ty := by
  obtain ⟨c, k, comp, h1, h2, h3⟩ := Cond.arrayClass_spec h
  refine ⟨c, fun n z => ⟨(fun _ q => by cases q), k, h2, comp, h3⟩, ?_⟩
  cases ty with
  | object C => exact absurd rfl (hty C)
  | _ => exact h1
theorem x_arrO {args : Array Value} {s : State} {C : String} (h : (Cond.arrayOver (.object C)).before args s = true) : ∃ cA, ArrOfT s cA (.object C) ∧ va_RA s cA (.object C) := by
  obtain ⟨comp, c, k, h1, -, h2, h3, h4⟩ := Cond.arrayOver_spec h
  exact ⟨c, fun n z => ⟨(fun _ q => by cases q), k, h2, comp, h3⟩, k, comp, h2, h3, h1, h4⟩
theorem x_arrs {args : Array Value} {s : State} (hts : ∀ w ∈ lw_tbl, w.before args s = true) : ∃ g : Nat → ClassId, ∀ t, t < 8 → ArrOfT s (g t) (xTy t) ∧ va_RA s (g t) (xTy t) := by
  have hta : ∀ w ∈ lw_all, w.before args s = true := fun w h => hts w (lw_all_tbl h)
  have h : ∀ t, ∃ c, t < 8 → ArrOfT s c (xTy t) ∧ va_RA s c (xTy t) := by
    intro t
    rcases t with _ | t
    · obtain ⟨c, h⟩ := x_arrP (ty := .int) (fun _ q => by cases q) (hta _ q827); exact ⟨c, fun _ => h⟩
    rcases t with _ | t
    · obtain ⟨c, h⟩ := x_arrP (ty := .long) (fun _ q => by cases q) (hta _ q200); exact ⟨c, fun _ => h⟩
    rcases t with _ | t
    · obtain ⟨c, h⟩ := x_arrP (ty := .byte) (fun _ q => by cases q) (hta _ q172); exact ⟨c, fun _ => h⟩
    rcases t with _ | t
    · obtain ⟨c, h⟩ := x_arrP (ty := .boolean) (fun _ q => by cases q) (hta _ q1894); exact ⟨c, fun _ => h⟩
    rcases t with _ | t
    · obtain ⟨c, h⟩ := x_arrP (ty := .double) (fun _ q => by cases q) (hta _ q2199); exact ⟨c, fun _ => h⟩
    rcases t with _ | t
    · obtain ⟨c, h⟩ := x_arrO (C := "java/lang/Object") (hts _ q733); exact ⟨c, fun _ => h⟩
    rcases t with _ | t
    · obtain ⟨c, h⟩ := x_arrO (C := "Shapelayer$Layer") (hts _ q139); exact ⟨c, fun _ => h⟩
    rcases t with _ | t
    · obtain ⟨c, h⟩ := x_arrO (C := "Shapelayer$Keyed") (hts _ q808); exact ⟨c, fun _ => h⟩
    · exact ⟨0, fun h => by omega⟩
  obtain ⟨g, hg⟩ := Classical.axiomOfChoice h
  exact ⟨g, hg⟩
theorem q66 : (Jvm.Cond.initialized "java/lang/StringUTF16") ∈ lw_all := lw_g (lw_at lw_m1 8 rfl) rfl
def xSt : List (String × String × String) := [("jdk/internal/util/Preconditions", "SIOOBE_FORMATTER", "Ljava/util/function/BiFunction;"), ("java/lang/Integer", "DigitOnes", "[B"), ("java/lang/Integer", "DigitTens", "[B"), ("java/util/ArrayList", "DEFAULTCAPACITY_EMPTY_ELEMENTDATA", "[Ljava/lang/Object;"), ("java/lang/String", "COMPACT_STRINGS", "Z"), ("java/lang/StringUTF16", "$assertionsDisabled", "Z"), ("java/lang/StringUTF16", "HI_BYTE_SHIFT", "I"), ("java/lang/StringUTF16", "LO_BYTE_SHIFT", "I"), ("java/lang/Throwable", "UNASSIGNED_STACK", "[Ljava/lang/StackTraceElement;"), ("java/lang/Throwable", "SUPPRESSED_SENTINEL", "Ljava/util/List;"), ("Shapelayer", "FIRST", "[I")]
def xStd (C n : String) : String := match xSt.find? (fun t => decide (t.1 = C) && decide (t.2.1 = n)) with | some t => t.2.2 | none => ""
theorem xSt_all : ∀ C n d, Cond.laysStatic C n d ∈ lw_tbl → (C, n, d) ∈ xSt := by
  have h : lw_tbl.all (fun w => match w with | .laysStatic C n d => decide ((C, n, d) ∈ xSt) | _ => true) = true := by decide +kernel
  intro C n d hw
  have := List.all_eq_true.mp h _ hw
  exact of_decide_eq_true this
theorem xSt_d : ∀ t ∈ xSt, xStd t.1 t.2.1 = t.2.2 := by decide +kernel
theorem x_ev {args : Array Value} {s : State} {t : Term} (h : (Cond.isRef t).before args s = true) : ∃ v, t.eval args s none [] s = some v := by
  obtain ⟨v, hv, -⟩ := Cond.isRef_spec h
  exact ⟨v, hv⟩
theorem x_evs {args : Array Value} {s : State} (h : (Jvm.Cond.and given_1 narrow_1).before args s = true) : ∀ t ∈ xSt, ∃ v, (Term.static t.1 t.2.1 t.2.2).eval args s none [] s = some v := by
  intro t ht
  simp only [xSt, List.mem_cons, List.not_mem_nil, or_false] at ht
  rcases ht with rfl | rfl | rfl | rfl | rfl | rfl | rfl | rfl | rfl | rfl | rfl
  · exact x_ev (x_nar h 9 (by decide +kernel))
  · exact x_ev (x_nar h 13 (by decide +kernel))
  · exact x_ev (x_nar h 116 (by decide +kernel))
  · exact x_ev (x_nar h 4 (by decide +kernel))
  · exact ⟨_, va_eqt (z := 1) (x_nar h 8 (by decide +kernel))⟩
  · exact ⟨_, va_eqt (z := 1) (x_nar h 10 (by decide +kernel))⟩
  · exact ⟨_, va_eqt (z := 0) (x_nar h 11 (by decide +kernel))⟩
  · exact ⟨_, va_eqt (z := 8) (x_nar h 12 (by decide +kernel))⟩
  · exact x_ev (x_nar h 219 (by decide +kernel))
  · exact x_ev (x_nar h 220 (by decide +kernel))
  · exact x_ev (x_nar h 221 (by decide +kernel))
theorem x_ini {args : Array Value} {s : State} (hta : ∀ w ∈ lw_all, w.before args s = true) : ∀ t ∈ xSt, (Cond.initialized t.1).before args s = true := by
  intro t ht
  simp only [xSt, List.mem_cons, List.not_mem_nil, or_false] at ht
  rcases ht with rfl | rfl | rfl | rfl | rfl | rfl | rfl | rfl | rfl | rfl | rfl
  · exact hta _ q78
  · exact hta _ q81
  · exact hta _ q81
  · exact hta _ q62
  · exact hta _ q65
  · exact hta _ q66
  · exact hta _ q66
  · exact hta _ q66
  · exact hta _ q69
  · exact hta _ q69
  · exact hta _ q59
def xSr : List (String × Nat) := [("java/lang/StringIndexOutOfBoundsException", 13), ("java/util/Arrays", 337), ("java/util/Arrays", 48), ("java/util/Arrays", 57), ("java/util/Arrays", 59), ("java/lang/ArrayIndexOutOfBoundsException", 13), ("java/util/ArrayList", 201), ("java/util/ArrayList", 203), ("java/lang/AbstractStringBuilder", 230), ("Shapelayer$Nested", 15), ("Shapelayer$Nested", 30), ("Shapelayer$Null", 7), ("Shapelayer$Layer", 119), ("Shapelayer$Layer", 121), ("Shapelayer$Layer", 130), ("Shapelayer$Layer", 132), ("Shapelayer$Layer", 109), ("Shapelayer$Layer", 114), ("Shapelayer$Coloured", 26), ("Shapelayer$Rect", 18), ("Shapelayer$Rect", 29), ("Shapelayer$Stroke", 20)]
theorem xSr_all : ∀ C k tx, Cond.stringRef C k tx ∈ lw_tbl → (C, k) ∈ xSr := by
  have h : lw_tbl.all (fun w => match w with | .stringRef C k _ => decide ((C, k) ∈ xSr) | _ => true) = true := by decide +kernel
  intro C n d hw
  have := List.all_eq_true.mp h _ hw
  exact of_decide_eq_true this
theorem xSr_ne : ∀ t ∈ xSr, t.1 ≠ "#mirror" ∧ t.1 ≠ "#given" := by decide +kernel
/-- the texts: class, place, bytes; the places of what the Statement says of them -/
def xTx : List (String × Nat × List Nat × List Nat) := [("java/lang/StringIndexOutOfBoundsException", 13, [83, 116, 114, 105, 110, 103, 32, 105, 110, 100, 101, 120, 32, 111, 117, 116, 32, 111, 102, 32, 114, 97, 110, 103, 101, 58, 32], [475, 476, 477, 478, 479, 940]), ("java/util/Arrays", 337, [32, 62, 32], [506, 507, 508, 509, 510, 941]), ("java/util/Arrays", 48, [102, 114, 111, 109, 73, 110, 100, 101, 120, 40], [514, 515, 516, 517, 518, 942]), ("java/util/Arrays", 57, [41, 32, 62, 32, 116, 111, 73, 110, 100, 101, 120, 40], [530, 531, 532, 533, 534, 943]), ("java/util/Arrays", 59, [41], [549, 550, 551, 552, 553, 944]), ("java/lang/ArrayIndexOutOfBoundsException", 13, [65, 114, 114, 97, 121, 32, 105, 110, 100, 101, 120, 32, 111, 117, 116, 32, 111, 102, 32, 114, 97, 110, 103, 101, 58, 32], [558, 559, 560, 561, 562, 945]), ("java/util/ArrayList", 201, [73, 110, 100, 101, 120, 58, 32], [593, 594, 595, 596, 597, 946]), ("java/util/ArrayList", 203, [44, 32, 83, 105, 122, 101, 58, 32], [610, 611, 612, 613, 614, 947]), ("java/lang/AbstractStringBuilder", 230, [110, 117, 108, 108], [904, 905, 906, 907, 908, 961]), ("Shapelayer$Nested", 15, [110, 101, 115, 116, 101, 100], [699, 700, 701, 702, 703, 952]), ("Shapelayer$Nested", 30, [32], [832, 833, 834, 835, 836, 958]), ("Shapelayer$Null", 7, [110, 117, 108, 108], [721, 722, 723, 724, 725, 953]), ("Shapelayer$Layer", 119, [], [629, 630, 631, 632, 0, 948]), ("Shapelayer$Layer", 121, [32, 105, 110, 32], [641, 642, 643, 644, 645, 949]), ("Shapelayer$Layer", 130, [32, 110, 111, 116, 32, 98, 121, 32], [658, 659, 660, 661, 662, 950]), ("Shapelayer$Layer", 132, [32, 98, 121, 32], [680, 681, 682, 683, 684, 951]), ("Shapelayer$Layer", 109, [32], [789, 790, 791, 792, 793, 956]), ("Shapelayer$Layer", 114, [45], [810, 811, 812, 813, 814, 957]), ("Shapelayer$Coloured", 26, [32], [855, 856, 857, 858, 859, 959]), ("Shapelayer$Rect", 18, [114, 101, 99, 116], [742, 743, 744, 745, 746, 954]), ("Shapelayer$Rect", 29, [120], [879, 880, 881, 882, 883, 960]), ("Shapelayer$Stroke", 20, [115, 116, 114, 111, 107, 101], [764, 765, 766, 767, 768, 955])]
theorem xTx_r : xTx.map (fun t => (t.1, t.2.1)) = xSr := by decide +kernel
theorem xTx_ok : ∀ t ∈ xTx, (flatC (Jvm.Cond.and given_1 narrow_1))[t.2.2.2.getD 0 0]? = some (.exactly (Term.string t.1 t.2.1) "java/lang/String") ∧ (flatC (Jvm.Cond.and given_1 narrow_1))[t.2.2.2.getD 1 0]? = some (.eq (.field (Term.string t.1 t.2.1) "java/lang/String" "coder" "B") (.int 0)) ∧ (flatC (Jvm.Cond.and given_1 narrow_1))[t.2.2.2.getD 2 0]? = some (.arrayOf (Term.field (Term.string t.1 t.2.1) "java/lang/String" "value" "[B") .byte) ∧ (flatC (Jvm.Cond.and given_1 narrow_1))[t.2.2.2.getD 3 0]? = some (.eq (.length (Term.field (Term.string t.1 t.2.1) "java/lang/String" "value" "[B")) (.int (Int32.ofNat t.2.2.1.length))) ∧ (∀ j, j < t.2.2.1.length → (flatC (Jvm.Cond.and given_1 narrow_1))[t.2.2.2.getD 4 0 + j]? = some (.eq (.elem (Term.field (Term.string t.1 t.2.1) "java/lang/String" "value" "[B") (.int (Int32.ofNat j))) (.int (nI (t.2.2.1.getD j 0))))) ∧ (flatC (Jvm.Cond.and given_1 narrow_1))[t.2.2.2.getD 5 0]? = some (.exactly (Term.field (Term.string t.1 t.2.1) "java/lang/String" "value" "[B") "[B") ∧ t.2.2.1.length < 64 := by decide +kernel
def xDo (j : Nat) : Nat := 48 + j % 10
def xDt (j : Nat) : Nat := 48 + j / 10
def xFi (j : Nat) : Nat := [0, 0, 1000, 0, 0, 1000, 0, 1].getD j 0
/-- a given array of a static, as the picture has it -/
theorem x_sarr {args : Array Value} {s : State} {V : XV} (h : (Jvm.Cond.and given_1 narrow_1).before args s = true) {tm : Term} {ty : FieldType} {N t iar il ix : Nat} {f : Nat → Nat} {nm : String} (hN : N < 2 ^ 31) (har : (flatC (Jvm.Cond.and given_1 narrow_1))[iar]? = some (.arrayOf tm ty)) (hle : (flatC (Jvm.Cond.and given_1 narrow_1))[il]? = some (.eq (.length tm) (.int (Int32.ofNat N)))) (hel : ∀ j, j < N → (Cond.eq (.elem tm (.int (Int32.ofNat j))) (.int (nI (f j)))).before args s = true) (hix : (flatC (Jvm.Cond.and given_1 narrow_1))[ix]? = some (.exactly tm nm)) (hnm : s.vm.findClass nm = some (V.2.2.1 t)) :
    ∃ a cell, tm.eval args s none [] s = some (.ref a) ∧ s.heap[a]? = some cell ∧ xRa V t (N, .inl (fun j => nI (f j))) cell := by
  obtain ⟨a, c, cell, k, q1, q2, q3, -, q4, q5, -⟩ := Cond.exactly_spec (x_nar h ix hix)
  obtain ⟨a', h1, cell', h2, h3, h4, h5, h6, h7, -⟩ := va_Tof (A := fun q => s.heap.size ≤ q) (f := fun j => .int (nI (f j))) hN (x_nar h iar har) (va_eqt (x_nar h il hle)) (fun j hj => va_eqt (hel j hj)) (fun a h => Nat.not_le.mpr h)
  cases q1.symm.trans h1
  cases q3.symm.trans h2
  refine ⟨a, cell, q1, q3, Or.inl ?_, h4, q4, h5, h6, h7⟩
  cases hnm.symm.trans q2
  exact q5
theorem x_ones_e : ∀ j, j < 100 → (flatC (Jvm.Cond.and given_1 narrow_1))[16 + j]? = some (.eq (.elem (Term.static "java/lang/Integer" "DigitOnes" "[B") (.int (Int32.ofNat j))) (.int (nI (xDo j)))) := by decide +kernel
theorem x_ones {args : Array Value} {s : State} {V : XV} (h : (Jvm.Cond.and given_1 narrow_1).before args s = true) (hnm : s.vm.findClass "[B" = some (V.2.2.1 2)) : ∃ a cell, (Term.static "java/lang/Integer" "DigitOnes" "[B").eval args s none [] s = some (.ref a) ∧ s.heap[a]? = some cell ∧ xRa V 2 (100, .inl (fun j => nI (xDo j))) cell :=
  x_sarr (ty := .byte) (iar := 14) (il := 15) (ix := 937) (t := 2) h (by decide) (by decide +kernel) (by decide +kernel) (fun j hj => x_nar h _ (x_ones_e j hj)) (by decide +kernel) hnm
theorem x_tens_e : ∀ j, j < 100 → (flatC (Jvm.Cond.and given_1 narrow_1))[119 + j]? = some (.eq (.elem (Term.static "java/lang/Integer" "DigitTens" "[B") (.int (Int32.ofNat j))) (.int (nI (xDt j)))) := by decide +kernel
theorem x_tens {args : Array Value} {s : State} {V : XV} (h : (Jvm.Cond.and given_1 narrow_1).before args s = true) (hnm : s.vm.findClass "[B" = some (V.2.2.1 2)) : ∃ a cell, (Term.static "java/lang/Integer" "DigitTens" "[B").eval args s none [] s = some (.ref a) ∧ s.heap[a]? = some cell ∧ xRa V 2 (100, .inl (fun j => nI (xDt j))) cell :=
  x_sarr (ty := .byte) (iar := 117) (il := 118) (ix := 938) (t := 2) h (by decide) (by decide +kernel) (by decide +kernel) (fun j hj => x_nar h _ (x_tens_e j hj)) (by decide +kernel) hnm
theorem x_first_e : ∀ j, j < 8 → (flatC (Jvm.Cond.and given_1 narrow_1))[224 + j]? = some (.eq (.elem (Term.static "Shapelayer" "FIRST" "[I") (.int (Int32.ofNat j))) (.int (nI (xFi j)))) := by decide +kernel
theorem x_first {args : Array Value} {s : State} {V : XV} (h : (Jvm.Cond.and given_1 narrow_1).before args s = true) (hnm : s.vm.findClass "[I" = some (V.2.2.1 0)) : ∃ a cell, (Term.static "Shapelayer" "FIRST" "[I").eval args s none [] s = some (.ref a) ∧ s.heap[a]? = some cell ∧ xRa V 0 (8, .inl (fun j => nI (xFi j))) cell :=
  x_sarr (ty := .int) (iar := 222) (il := 223) (ix := 939) (t := 0) h (by decide) (by decide +kernel) (by decide +kernel) (fun j hj => x_nar h _ (x_first_e j hj)) (by decide +kernel) hnm
theorem x_dflt {args : Array Value} {s : State} {V : XV} (h : (Jvm.Cond.and given_1 narrow_1).before args s = true) (hnm : s.vm.findClass "[Ljava/lang/Object;" = some (V.2.2.1 5)) : ∃ a cell, (Term.static "java/util/ArrayList" "DEFAULTCAPACITY_EMPTY_ELEMENTDATA" "[Ljava/lang/Object;").eval args s none [] s = some (.ref a) ∧ s.heap[a]? = some cell ∧ xRa V 5 (0, .inr (.inr (.inr (.inr (fun _ => none))))) cell := by
  obtain ⟨a, c, cell, k, q1, q2, q3, -, q4, q5, -⟩ := Cond.exactly_spec (x_nar h 6 (w := .exactly (Term.static "java/util/ArrayList" "DEFAULTCAPACITY_EMPTY_ELEMENTDATA" "[Ljava/lang/Object;") "[Ljava/lang/Object;") (by decide +kernel))
  obtain ⟨a', h1, cell', h2, h3, h4, h5, h6, h7, -⟩ := va_Tof (tm := (Term.static "java/util/ArrayList" "DEFAULTCAPACITY_EMPTY_ELEMENTDATA" "[Ljava/lang/Object;")) (ty := .object "java/lang/Object") (N := 0) (A := fun q => s.heap.size ≤ q) (f := fun j => .null) (by decide) (x_nar h 5 (by decide +kernel)) (va_eqt (x_nar h 7 (by decide +kernel))) (fun j hj => absurd hj (Nat.not_lt_zero j)) (fun a h => Nat.not_le.mpr h)
  cases q1.symm.trans h1
  cases q3.symm.trans h2
  refine ⟨a, cell, q1, q3, Or.inl ?_, h4, q4, h5, h6, fun j hj => absurd hj (Nat.not_lt_zero j)⟩
  cases hnm.symm.trans q2
  exact q5
theorem x_text {args : Array Value} {s : State} {V : XV} (h : (Jvm.Cond.and given_1 narrow_1).before args s = true) (hnm : s.vm.findClass "[B" = some (V.2.2.1 2)) (hS : u_Kn s RJ5 TJ5 4 (V.1 17) (V.2.1 17)) : ∀ t ∈ xTx, ∃ a v cs cv, (Term.string t.1 t.2.1).eval args s none [] s = some (.ref a) ∧ s.heap[a]? = some cs ∧ xRs V [va_rf (some v), .int 0] cs ∧ s.heap[v]? = some cv ∧ xRa V 2 (t.2.2.1.length, .inl (fun j => nI (t.2.2.1.getD j 0))) cv := by
  intro t ht
  obtain ⟨g0, g1, g2, g3, g4, g5, g6⟩ := xTx_ok t ht
  obtain ⟨a, c, cs, k, q1, q2, q3, -, q4, q5, -⟩ := Cond.exactly_spec (x_nar h _ g0)
  obtain ⟨v, c', cv, k', r1, r2, r3, -, r4, r5, -⟩ := Cond.exactly_spec (x_nar h _ g5)
  obtain ⟨v', h1, cv', h2, h3, h4, h5, h6, h7, -⟩ := va_Tof (A := fun q => s.heap.size ≤ q) (f := fun j => .int (nI (t.2.2.1.getD j 0))) (Nat.lt_trans g6 (by decide)) (x_nar h _ g2) (va_eqt (x_nar h _ g3)) (fun j hj => va_eqt (x_nar h _ (g4 j hj))) (fun a h => Nat.not_le.mpr h)
  cases r1.symm.trans h1
  cases r3.symm.trans h2
  obtain ⟨cf, kf, fi, f, cell, e1, -, e2, e3, e4, -⟩ := vk_OFof (A := fun q => s.heap.size ≤ q) q1 (va_eqt (x_nar h _ g1)) (fun a h => Nat.not_le.mpr h)
  obtain ⟨cf', kf', fi', f', cell', d1, -, d2, d3, d4, -⟩ := vk_OFof (A := fun q => s.heap.size ≤ q) q1 h1 (fun a h => Nat.not_le.mpr h)
  cases q3.symm.trans e2
  cases q3.symm.trans d2
  refine ⟨a, v, cs, cv, q1, q3, ⟨e3, q4, ?_, ?_⟩, r3, Or.inl ?_, h4, r4, h5, h6, h7⟩
  · have := hS.2.1
    cases this.symm.trans q2
    exact q5
  · intro k hk
    obtain ⟨cg, kg, gi, fg, i1, i2⟩ := hS.1 k (by omega)
    rcases (show k = 0 ∨ k = 1 by omega) with hk | hk
    · subst hk
      cases d1.symm.trans i1
      rw [← i2]; exact d4
    · subst hk
      cases e1.symm.trans i1
      rw [← i2]; exact e4
  · cases hnm.symm.trans r2
    exact r5
