/-! AT THE LAW's ENTRY, second half (printed by start2.py) -/
theorem xRa.arr {V : XV} {s : State} (hK : xK V s) {t : Nat} {x : vp_A} {cell : Cell} (ht : t < 8) (h : xRa V t x cell) : s.isArrayOf cell (xTy t) := by
  obtain ⟨h3, h4, h5, -⟩ := h
  refine ⟨(fun k q => by rw [q] at h5; cases h5), ?_⟩
  rcases h3 with h3 | ⟨h30, h3⟩
  · rw [h3]; exact ((hK.2.1 _ ht).1 0 (fun _ => .null)).2
  · rw [h3, h30]; exact (hK.2.2.2.2.2.2.2.2.2.2 0 (fun _ => .null)).2
theorem x_notst {v : VmData} (h : ∀ k, v ≠ .statics k) : v.isStatics = false := by
  cases v <;> first | rfl | exact absurd rfl (h _)
theorem x_sep {s : State} {cell : Cell} {a b : FieldType} (h1 : s.isArrayOf cell a) (h2 : s.isArrayOf cell b) : a = b := by
  obtain ⟨-, k, hk, c, e⟩ := h1
  obtain ⟨-, k', hk', c', e'⟩ := h2
  cases hk.symm.trans hk'
  rw [e] at e'
  cases e'
  rfl
theorem x_sepS {V : XV} {s : State} (hK : xK V s) {cell : Cell} {a : FieldType} {fs : List Value} (h1 : s.isArrayOf cell a) (h2 : xRs V fs cell) : False := by
  obtain ⟨-, k, hk, c, e⟩ := h1
  obtain ⟨-, -, hc, -⟩ := h2
  obtain ⟨-, k', hk', e'⟩ := (hK.1 17 _ rfl).2
  rw [hc] at hk
  cases hk.symm.trans hk'
  rw [e] at e'
  cases e'
theorem x_len {n n' : Nat} (h : n < 2 ^ 31) (h' : n' < 2 ^ 31) {z : Int32} (e : z = Int32.ofNat n) (e' : z = Int32.ofNat n') : n = n' := by
  have h1 : (nI n).toInt = (nI n').toInt := by show (Int32.ofNat n).toInt = (Int32.ofNat n').toInt; rw [← e, ← e']
  rw [nI_toInt h, nI_toInt h'] at h1
  omega
theorem x_G0 {V : XV} {s : State} (hK : xK V s) (hg : xsr V "#given" 0 = s.heap.size) (I B : List (Nat × Nat × (Nat → Int32))) (R : List Nat) (S : List (Nat × Nat))
    (hI : ∀ q ∈ I, ∃ cell, s.heap[q.1]? = some cell ∧ xRa V 0 (q.2.1, .inl q.2.2) cell ∧ q.2.1 < 2 ^ 31) (hB : ∀ q ∈ B, ∃ cell, s.heap[q.1]? = some cell ∧ xRa V 2 (q.2.1, .inl q.2.2) cell ∧ q.2.1 < 2 ^ 31)
    (hR : ∀ a ∈ R, ∃ cell, s.heap[a]? = some cell ∧ xRa V 5 (0, .inr (.inr (.inr (.inr (fun _ => none))))) cell) (hS : ∀ q ∈ S, ∃ cell, s.heap[q.1]? = some cell ∧ xRs V [va_rf (some q.2), .int 0] cell) :
    ∃ G0 : GM, xW V (fun q => s.heap.size ≤ q) G0 s.heap ∧ (∀ q ∈ I, ∃ f, G0 q.1 = some (.inl (16, q.2.1, .inl f)) ∧ ∀ j, j < q.2.1 → f j = q.2.2 j) ∧ (∀ q ∈ B, ∃ f, G0 q.1 = some (.inl (18, q.2.1, .inl f)) ∧ ∀ j, j < q.2.1 → f j = q.2.2 j) ∧ (∀ a ∈ R, G0 a = some (.inl (21, 0, .inr (.inr (.inr (.inr (fun _ => none))))))) ∧ ∀ q ∈ S, G0 q.1 = some (.inr (81, [va_rf (some q.2), .int 0])) := by
  obtain ⟨Pr, hPr⟩ : ∃ Pr : Nat → XC → Prop, ∀ a e, Pr a e ↔ ((∃ q ∈ I, q.1 = a ∧ e = .inl (16, q.2.1, .inl q.2.2)) ∨ (∃ q ∈ B, q.1 = a ∧ e = .inl (18, q.2.1, .inl q.2.2)) ∨ (a ∈ R ∧ e = .inl (21, 0, .inr (.inr (.inr (.inr (fun _ => none)))))) ∨ ∃ q ∈ S, q.1 = a ∧ e = .inr (81, [va_rf (some q.2), .int 0])) := ⟨_, fun _ _ => Iff.rfl⟩
  obtain ⟨G0, hG⟩ : ∃ G0 : GM, ∀ a, (∀ e, G0 a = some e → Pr a e) ∧ ∀ e, Pr a e → ∃ e', G0 a = some e' ∧ Pr a e' := by
    have h : ∀ a, ∃ g : Option XC, (∀ e, g = some e → Pr a e) ∧ ∀ e, Pr a e → ∃ e', g = some e' ∧ Pr a e' := by
      intro a
      rcases Classical.em (∃ e, Pr a e) with ⟨e, h⟩ | h
      · exact ⟨some e, (fun e' q => by cases q; exact h), fun _ _ => ⟨e, rfl, h⟩⟩
      · exact ⟨none, (fun e' q => by cases q), fun e q => absurd ⟨e, q⟩ h⟩
    obtain ⟨g, hg⟩ := Classical.axiomOfChoice h
    exact ⟨g, hg⟩
  have lt : ∀ {a : Nat} {c : Cell}, s.heap[a]? = some c → a < s.heap.size := fun h => (Array.getElem?_eq_some_iff.mp h).1
  have hxa : ∀ a e, Pr a e → xAt V a e s.heap ∧ xro e = true ∧ a < s.heap.size := by
    intro a e h
    rcases (hPr a e).mp h with ⟨q, hq, rfl, rfl⟩ | ⟨q, hq, rfl, rfl⟩ | ⟨hq, rfl⟩ | ⟨q, hq, rfl, rfl⟩
    · obtain ⟨cell, h1, h2, -⟩ := hI q hq
      exact ⟨by unfold xAt; simp only; rw [if_neg (by decide)]; exact ⟨cell, h1, h2⟩, rfl, lt h1⟩
    · obtain ⟨cell, h1, h2, -⟩ := hB q hq
      exact ⟨by unfold xAt; simp only; rw [if_neg (by decide)]; exact ⟨cell, h1, h2⟩, rfl, lt h1⟩
    · obtain ⟨cell, h1, h2⟩ := hR a hq
      exact ⟨by unfold xAt; simp only; rw [if_neg (by decide)]; exact ⟨cell, h1, h2⟩, rfl, lt h1⟩
    · obtain ⟨cell, h1, h2⟩ := hS q hq
      exact ⟨by unfold xAt; simp only; rw [if_neg (by decide)]; exact ⟨trivial, cell, h1, h2⟩, rfl, lt h1⟩
  refine ⟨G0, ⟨fun a e h => ⟨(hxa a e ((hG a).1 e h)).1, fun q => ?_⟩, fun a e h _ => by rw [hg]; exact (hxa a e ((hG a).1 e h)).2.2⟩, fun q hq => ?_, fun q hq => ?_, fun a hq => ?_, fun q hq => ?_⟩
  · rw [(hxa a e ((hG a).1 e h)).2.1] at q; cases q
  · obtain ⟨cell, h1, h2, h3⟩ := hI q hq
    obtain ⟨e', g1, g2⟩ := (hG q.1).2 _ ((hPr _ _).mpr (Or.inl ⟨q, hq, rfl, rfl⟩))
    rcases (hPr _ _).mp g2 with ⟨r, hr, e1, rfl⟩ | ⟨r, hr, e1, rfl⟩ | ⟨hr, rfl⟩ | ⟨r, hr, e1, rfl⟩
    · obtain ⟨cell', k1, k2, k3⟩ := hI r hr
      rw [e1, h1] at k1
      cases k1
      have hn := x_len h3 k3 h2.2.2.2.2.1 k2.2.2.2.2.1
      rw [← hn] at g1
      refine ⟨r.2.2, g1, fun j hj => ?_⟩
      have a1 := h2.2.2.2.2.2 j hj
      have a2 := k2.2.2.2.2.2 j (by rw [← hn]; exact hj)
      have a3 := a1.symm.trans a2
      simp only [xVl, Option.some.injEq, Value.int.injEq] at a3
      exact a3.symm
    · obtain ⟨cell', k1, k2, k3⟩ := hB r hr
      rw [e1, h1] at k1
      cases k1
      cases x_sep (h2.arr hK (by decide)) (k2.arr hK (by decide))
    · obtain ⟨cell', k1, k2⟩ := hR _ hr
      rw [h1] at k1
      cases k1
      cases x_sep (h2.arr hK (by decide)) (k2.arr hK (by decide))
    · obtain ⟨cell', k1, k2⟩ := hS r hr
      rw [e1, h1] at k1
      cases k1
      exact (x_sepS hK (h2.arr hK (by decide)) k2).elim
  · obtain ⟨cell, h1, h2, h3⟩ := hB q hq
    obtain ⟨e', g1, g2⟩ := (hG q.1).2 _ ((hPr _ _).mpr (Or.inr (Or.inl ⟨q, hq, rfl, rfl⟩)))
    rcases (hPr _ _).mp g2 with ⟨r, hr, e1, rfl⟩ | ⟨r, hr, e1, rfl⟩ | ⟨hr, rfl⟩ | ⟨r, hr, e1, rfl⟩
    · obtain ⟨cell', k1, k2, k3⟩ := hI r hr
      rw [e1, h1] at k1
      cases k1
      cases x_sep (h2.arr hK (by decide)) (k2.arr hK (by decide))
    · obtain ⟨cell', k1, k2, k3⟩ := hB r hr
      rw [e1, h1] at k1
      cases k1
      have hn := x_len h3 k3 h2.2.2.2.2.1 k2.2.2.2.2.1
      rw [← hn] at g1
      refine ⟨r.2.2, g1, fun j hj => ?_⟩
      have a1 := h2.2.2.2.2.2 j hj
      have a2 := k2.2.2.2.2.2 j (by rw [← hn]; exact hj)
      have a3 := a1.symm.trans a2
      simp only [xVl, Option.some.injEq, Value.int.injEq] at a3
      exact a3.symm
    · obtain ⟨cell', k1, k2⟩ := hR _ hr
      rw [h1] at k1
      cases k1
      cases x_sep (h2.arr hK (by decide)) (k2.arr hK (by decide))
    · obtain ⟨cell', k1, k2⟩ := hS r hr
      rw [e1, h1] at k1
      cases k1
      exact (x_sepS hK (h2.arr hK (by decide)) k2).elim
  · obtain ⟨cell, h1, h2⟩ := hR a hq
    obtain ⟨e', g1, g2⟩ := (hG a).2 _ ((hPr _ _).mpr (Or.inr (Or.inr (Or.inl ⟨hq, rfl⟩))))
    rcases (hPr _ _).mp g2 with ⟨r, hr, e1, rfl⟩ | ⟨r, hr, e1, rfl⟩ | ⟨hr, rfl⟩ | ⟨r, hr, e1, rfl⟩
    · obtain ⟨cell', k1, k2, k3⟩ := hI r hr
      rw [e1, h1] at k1
      cases k1
      cases x_sep (h2.arr hK (by decide)) (k2.arr hK (by decide))
    · obtain ⟨cell', k1, k2, k3⟩ := hB r hr
      rw [e1, h1] at k1
      cases k1
      cases x_sep (h2.arr hK (by decide)) (k2.arr hK (by decide))
    · exact g1
    · obtain ⟨cell', k1, k2⟩ := hS r hr
      rw [e1, h1] at k1
      cases k1
      exact (x_sepS hK (h2.arr hK (by decide)) k2).elim
  · obtain ⟨cell, h1, h2⟩ := hS q hq
    obtain ⟨e', g1, g2⟩ := (hG q.1).2 _ ((hPr _ _).mpr (Or.inr (Or.inr (Or.inr ⟨q, hq, rfl, rfl⟩))))
    rcases (hPr _ _).mp g2 with ⟨r, hr, e1, rfl⟩ | ⟨r, hr, e1, rfl⟩ | ⟨hr, rfl⟩ | ⟨r, hr, e1, rfl⟩
    · obtain ⟨cell', k1, k2, k3⟩ := hI r hr
      rw [e1, h1] at k1
      cases k1
      exact (x_sepS hK (k2.arr hK (by decide)) h2).elim
    · obtain ⟨cell', k1, k2, k3⟩ := hB r hr
      rw [e1, h1] at k1
      cases k1
      exact (x_sepS hK (k2.arr hK (by decide)) h2).elim
    · obtain ⟨cell', k1, k2⟩ := hR _ hr
      rw [h1] at k1
      cases k1
      exact (x_sepS hK (k2.arr hK (by decide)) h2).elim
    · obtain ⟨cell', k1, k2⟩ := hS r hr
      rw [e1, h1] at k1
      cases k1
      have a3 := (h2.2.2.2 0 (by decide)).symm.trans (k2.2.2.2 0 (by decide))
      have a4 : va_rf (some q.2) = va_rf (some r.2) := Option.some.inj a3
      have a5 : q.2 = r.2 := by simpa [va_rf] using a4
      rw [a5]
      exact g1
theorem x_selP {C : String} {y : MethodName} {s : State} {args : Array Value} {n : Nat} (hy : y.cls ≠ "java/lang/invoke/MethodHandle" ∧ y.cls ≠ "java/lang/invoke/VarHandle")
    (hins : (Cond.instantiable C n).before args s = true) (hpriv : (Cond.privateMethod y).before args s = true) (hinst : (Cond.instanceMethod y).before args s = true) {C' : String} {x' y' : MethodName} (hsel' : (Cond.selects C' x' y').before args s = true) (hcl : y'.cls = y.cls) :
    (Cond.selects C y y).before args s = true := by
  obtain ⟨c, k, hc, hk, -, hniab, -, -⟩ := Cond.instantiable_spec hins
  obtain ⟨mk, methM, hnamed, hmethM, -, -⟩ := Cond.instanceMethod_spec hinst
  have hfound : s.methodFound? y.cls y.name y.desc = some mk := State.methodFound?_of_named hnamed hy
  have hsel : selectMethod {} s.vm c mk = .method mk := selectMethod_private hmethM (Cond.privateMethod_at hpriv mk methM hnamed hmethM)
  obtain ⟨-, -, m2, -, -, g1, -, k2, g2, g3⟩ := Cond.selects_spec hsel'
  have hcls : m2.cls = mk.cls := Option.some.inj ((findClass_of_methodNamed g1).symm.trans (by rw [hcl]; exact findClass_of_methodNamed hnamed))
  rw [hcls] at g2
  simp only [Cond.before, Cond.holds, Cond.value, hc, hfound, hnamed, hsel, g2]
  simp; exact g3
theorem x_nc {args : Array Value} {s : State} (h : (Jvm.Cond.and given_1 narrow_1).before args s = true) : ∀ q ∈ xNc, va_Nc q.1 q.2 s := by
  intro q hq
  simp only [xNc, List.mem_cons, List.not_mem_nil, or_false] at hq
  rcases hq with rfl | rfl | rfl | rfl | rfl | rfl | rfl | rfl | rfl | rfl
  · exact va_Nc.of (x_nar h 314 (by decide +kernel))
  · exact va_Nc.of (x_nar h 318 (by decide +kernel))
  · exact va_Nc.of (x_nar h 319 (by decide +kernel))
  · exact va_Nc.of (x_nar h 338 (by decide +kernel))
  · exact va_Nc.of (x_nar h 340 (by decide +kernel))
  · exact va_Nc.of (x_nar h 343 (by decide +kernel))
  · exact va_Nc.of (x_nar h 262 (by decide +kernel))
  · exact va_Nc.of (x_nar h 263 (by decide +kernel))
  · exact va_Nc.of (x_nar h 286 (by decide +kernel))
  · exact va_Nc.of (x_nar h 269 (by decide +kernel))
theorem x_pv {args : Array Value} {s : State} (hts : ∀ w ∈ lw_tbl, w.before args s = true) : ∀ q ∈ xPv, va_Nw (.selects q.1 q.2 q.2) s := by
  have hta : ∀ w ∈ lw_all, w.before args s = true := fun w h => hts w (lw_all_tbl h)
  intro q hq
  simp only [xPv, List.mem_cons, List.not_mem_nil, or_false] at hq
  rcases hq with rfl | rfl | rfl | rfl | rfl | rfl | rfl | rfl | rfl | rfl | rfl
  · exact va_Nw.of rfl (x_selP (by decide +kernel) (hta _ q796) (hts _ q1387) (hta _ q1388) (hta _ q618) rfl)
  · exact va_Nw.of rfl (x_selP (by decide +kernel) (hta _ q890) (hts _ q1387) (hta _ q1388) (hta _ q618) rfl)
  · exact va_Nw.of rfl (x_selP (by decide +kernel) (hta _ q1030) (hts _ q1387) (hta _ q1388) (hta _ q618) rfl)
  · exact va_Nw.of rfl (x_selP (by decide +kernel) (hta _ q1056) (hts _ q1387) (hta _ q1388) (hta _ q618) rfl)
  · exact va_Nw.of rfl (x_selP (by decide +kernel) (hta _ q141) (hts _ q270) (hta _ q271) (hta _ q307) rfl)
  · exact va_Nw.of rfl (x_selP (by decide +kernel) (hta _ q141) (hts _ q266) (hta _ q267) (hta _ q307) rfl)
  · exact va_Nw.of rfl (x_selP (by decide +kernel) (hta _ q141) (hts _ q345) (hta _ q346) (hta _ q307) rfl)
  · exact va_Nw.of rfl (x_selP (by decide +kernel) (hta _ q141) (hts _ q274) (hta _ q275) (hta _ q307) rfl)
  · exact va_Nw.of rfl (x_selP (by decide +kernel) (hta _ q141) (hts _ q349) (hta _ q350) (hta _ q307) rfl)
  · exact va_Nw.of rfl (x_selP (by decide +kernel) (hta _ q141) (hts _ q354) (hta _ q355) (hta _ q307) rfl)
  · exact va_Nw.of rfl (x_selP (by decide +kernel) (hta _ q141) (hts _ q1784) (hta _ q1785) (hta _ q307) rfl)
theorem x_dw {args : Array Value} {s : State} (hts : ∀ w ∈ lw_tbl, w.before args s = true) (h : (Jvm.Cond.and given_1 narrow_1).before args s = true) : ∀ C ∈ xEs, xDw C yX14_between s := by
  intro C hC
  simp only [xEs, List.mem_cons, List.not_mem_nil, or_false] at hC
  rcases hC with rfl | rfl | rfl
  · refine ⟨va_Nw.of rfl (hts _ q1327), va_Nw.of rfl (hts _ q1326), va_Nw.of rfl (hts _ q1331), fun a => ?_, va_Nw.of rfl (hts _ q1328)⟩
    have := x_nar h 933 (w := .landsInDefault "Shapelayer$Easing$1" yX14_between yX14_between) (by decide +kernel)
    exact this
  · refine ⟨va_Nw.of rfl (hts _ q1327), va_Nw.of rfl (hts _ q1326), va_Nw.of rfl (hts _ q1331), fun a => ?_, va_Nw.of rfl (hts _ q1342)⟩
    have := x_nar h 934 (w := .landsInDefault "Shapelayer$Easing$2" yX14_between yX14_between) (by decide +kernel)
    exact this
  · refine ⟨va_Nw.of rfl (hts _ q1327), va_Nw.of rfl (hts _ q1326), va_Nw.of rfl (hts _ q1331), fun a => ?_, va_Nw.of rfl (hts _ q1348)⟩
    have := x_nar h 935 (w := .landsInDefault "Shapelayer$Easing$3" yX14_between yX14_between) (by decide +kernel)
    exact this
/-- what the law finds at its entry, as the picture has it -/
def xStart (V : XV) (G0 : GM) (b L : Nat) (xs : Nat → Int32) : Prop :=
  (∃ f, G0 b = some (.inl (16, L, .inl f)) ∧ ∀ j, j < L → f j = xs j) ∧ L ≤ 384 ∧
  (∃ a, xst V "java/util/ArrayList" "DEFAULTCAPACITY_EMPTY_ELEMENTDATA" = va_rf (some a) ∧ G0 a = some (.inl (21, 0, .inr (.inr (.inr (.inr (fun _ => none))))))) ∧ xst V "java/lang/String" "COMPACT_STRINGS" = .int 1 ∧
  (∃ a f, xst V "java/lang/Integer" "DigitOnes" = va_rf (some a) ∧ G0 a = some (.inl (18, 100, .inl f)) ∧ ∀ j, j < 100 → f j = nI (xDo j)) ∧ (∃ a f, xst V "java/lang/Integer" "DigitTens" = va_rf (some a) ∧ G0 a = some (.inl (18, 100, .inl f)) ∧ ∀ j, j < 100 → f j = nI (xDt j)) ∧
  (∃ a f, xst V "Shapelayer" "FIRST" = va_rf (some a) ∧ G0 a = some (.inl (16, 8, .inl f)) ∧ ∀ j, j < 8 → f j = nI (xFi j)) ∧
  (∀ t ∈ xTx, ∃ v f, G0 (xsr V t.1 t.2.1) = some (.inr (81, [va_rf (some v), .int 0])) ∧ G0 v = some (.inl (18, t.2.2.1.length, .inl f)) ∧ ∀ j, j < t.2.2.1.length → f j = nI (t.2.2.1.getD j 0)) ∧ ∀ a e, G0 a = some e → xro e = true
theorem x_start {p : Program} {s : State} {m : MethodId} {meth : Method} {c : Code} {b L : Nat} {xs : Nat → Int32} (hL : L ≤ 384) (hts : ∀ w ∈ lw_tbl, w.before #[Value.ref b] s = true) (hX : va_X b L xs s s.heap) (h : (Jvm.Cond.and given_1 narrow_1).before #[Value.ref b] s = true) :
    ∃ (V : XV) (G0 : GM), xK V s ∧ xZ V (fun q => s.heap.size ≤ q) s s.heap ∧ xW V (fun q => s.heap.size ≤ q) G0 s.heap ∧ xsr V "#given" 0 = s.heap.size ∧ xStart V G0 b L xs := by
  have hta : ∀ w ∈ lw_all, w.before #[Value.ref b] s = true := fun w h => hts w (lw_all_tbl h)
  have hA : ∀ a : Nat, a < s.heap.size → ¬ (fun q => s.heap.size ≤ q) a := fun a h => Nat.not_le.mpr h
  obtain ⟨fc, hfc⟩ := x_cls hta
  obtain ⟨g, hg⟩ := x_arrs hts
  obtain ⟨mi, hmi⟩ := va_Mi.of (x_nar h 474 (w := .isRef (.mirror "[Ljava/lang/Object;")) (by decide +kernel))
  obtain ⟨scr, hs1, hs2, hs3, hs4, hs5⟩ := hX
  obtain ⟨V, hV1, hV2, hV3, hV9, hVst, hVm, hVg, hVs⟩ : ∃ V : XV, (∀ ci, V.1 ci = (fc ci).1) ∧ (∀ ci, V.2.1 ci = (fc ci).2) ∧ (∀ t, t < 8 → V.2.2.1 t = g t) ∧ V.2.2.1 9 = scr.cls ∧ (∀ C n, xst V C n = match (Term.static C n (xStd C n)).eval #[Value.ref b] s none [] s with | some v => v | none => .null) ∧ xsr V "#mirror" 0 = mi ∧ xsr V "#given" 0 = s.heap.size ∧ ∀ C k, C ≠ "#mirror" → C ≠ "#given" → xsr V C k = match (Term.string C k).eval #[Value.ref b] s none [] s with | some (.ref a) => a | _ => 0 :=
    by
    obtain ⟨fa, ha1, ha2⟩ : ∃ fa : Nat → ClassId, (∀ t, t < 8 → fa t = g t) ∧ fa 9 = scr.cls := ⟨fun t => if t = 9 then scr.cls else g t, fun t ht => if_neg (by omega), if_pos rfl⟩
    obtain ⟨fs, hs1', hs2', hs3'⟩ : ∃ fs : String → Nat → Nat, fs "#mirror" 0 = mi ∧ fs "#given" 0 = s.heap.size ∧ ∀ C k, C ≠ "#mirror" → C ≠ "#given" → fs C k = match (Term.string C k).eval #[Value.ref b] s none [] s with | some (.ref a) => a | _ => 0 := by
      refine ⟨fun C k => if C = "#mirror" then mi else if C = "#given" then s.heap.size else match (Term.string C k).eval #[Value.ref b] s none [] s with | some (.ref a) => a | _ => 0, if_pos rfl, ?_, fun C k h1 h2 => ?_⟩
      · exact (if_neg (by decide)).trans (if_pos rfl)
      · exact (if_neg h1).trans (if_neg h2)
    exact ⟨((fun ci => (fc ci).1), (fun ci => (fc ci).2), fa, (fun C n => match (Term.static C n (xStd C n)).eval #[Value.ref b] s none [] s with | some v => v | none => .null), fs), fun _ => rfl, fun _ => rfl, ha1, ha2, fun _ _ => rfl, hs1', hs2', hs3'⟩
  have hst : ∀ {C n d : String} {v : Value}, (C, n, d) ∈ xSt → (Term.static C n d).eval #[Value.ref b] s none [] s = some v → xst V C n = v := by
    intro C n d v hm hv
    rw [hVst]
    have : xStd C n = d := xSt_d _ hm
    rw [this, hv]
  have hk1 : ∀ (ci : Nat) (r : vw_C), xCl[ci]? = some r → u_Kn s r.1 r.2.1 r.2.2 (V.1 ci) (V.2.1 ci) := fun ci r hr => by rw [hV1, hV2]; exact hfc ci r hr
  have hk2 : ∀ t, t < 8 → ArrOfT s (V.2.2.1 t) (xTy t) ∧ va_RA s (V.2.2.1 t) (xTy t) := fun t ht => by rw [hV3 t ht]; exact hg t ht
  have hnB : s.vm.findClass "[B" = some (V.2.2.1 2) := (hk2 2 (by decide)).2
  have hnI : s.vm.findClass "[I" = some (V.2.2.1 0) := (hk2 0 (by decide)).2
  have hnO : s.vm.findClass "[Ljava/lang/Object;" = some (V.2.2.1 5) := va_nmO (hk2 5 (by decide)).2 (by decide +kernel)
  have htx := x_text h hnB (hk1 17 _ rfl)
  have hsr : ∀ t ∈ xSr, ∃ a, (Term.string t.1 t.2).eval #[Value.ref b] s none [] s = some (.ref a) ∧ xsr V t.1 t.2 = a := by
    intro t ht
    rw [← xTx_r] at ht
    obtain ⟨t', ht', rfl⟩ := List.mem_map.mp ht
    obtain ⟨a, v, cs, cv, q1, -⟩ := htx t' ht'
    have hne := xSr_ne (t'.1, t'.2.1) (by rw [← xTx_r]; exact List.mem_map.mpr ⟨t', ht', rfl⟩)
    exact ⟨a, q1, by rw [hVs _ _ hne.1 hne.2]; simp only [q1]⟩
  have hK : xK V s := by
    refine ⟨hk1, hk2, fun w hw hk => va_Nw.of (xKw_tab hk) (hts w hw), fun C x y hx => va_Fw.of (hts _ hx.2.1) (hts _ hx.2.2.1) (hts _ hx.2.2.2.1) (hts _ hx.2.2.2.2.1) (hts _ hx.2.2.2.2.2), fun C hC => va_AO.of (hts _ hC), fun own k tx hs => ?_, x_nc h, by rw [hVm]; exact hmi, x_pv hts, x_dw hts h, ?_⟩
    · obtain ⟨a, q1, q2⟩ := hsr (own, k) (xSr_all own k tx hs)
      rw [q2]
      exact vk_R.of (hts _ hs) q1
    · rw [hV9]
      exact fun n z => ⟨(fun _ q => by cases q), hs2.2⟩
  have hRt : ∀ {C n d : String} {a : Nat}, (C, n, d) ∈ xSt → (Term.static C n d).eval #[Value.ref b] s none [] s = some (.ref a) → xst V C n = va_rf (some a) := fun hm hv => hst hm hv
  have hZ : xZ V (fun q => s.heap.size ≤ q) s s.heap := by
    refine ⟨fun C n d hl => ?_, vx_Zqof (hts _ q466) (hta _ q69) (x_nar h 219 (by decide +kernel)) hA, vx_Zqof (hts _ q468) (hta _ q69) (x_nar h 220 (by decide +kernel)) hA⟩
    have hm := xSt_all C n d hl
    obtain ⟨v, hv⟩ := x_evs h _ hm
    rw [hst hm hv]
    exact va_Zof (hts _ hl) (x_ini hta _ hm) hv hA
  obtain ⟨aD, cD, d1, d2, d3⟩ := x_dflt h hnO
  obtain ⟨aO, cO, o1, o2, o3⟩ := x_ones h hnB
  obtain ⟨aT, cT, t1, t2, t3⟩ := x_tens h hnB
  obtain ⟨aF, cF, f1, f2, f3⟩ := x_first h hnI
  have hch : ∀ t : {t // t ∈ xTx}, ∃ z : Nat × Nat, ∃ cs cv, (Term.string t.1.1 t.1.2.1).eval #[Value.ref b] s none [] s = some (.ref z.1) ∧ s.heap[z.1]? = some cs ∧ xRs V [va_rf (some z.2), .int 0] cs ∧ s.heap[z.2]? = some cv ∧ xRa V 2 (t.1.2.2.1.length, .inl (fun j => nI (t.1.2.2.1.getD j 0))) cv := by
    rintro ⟨t, ht⟩
    obtain ⟨a, v, cs, cv, q⟩ := htx t ht
    exact ⟨(a, v), cs, cv, q⟩
  obtain ⟨tz, htz⟩ := Classical.axiomOfChoice hch
  have hlen : ∀ t ∈ xTx, t.2.2.1.length < 2 ^ 31 := fun t ht => Nat.lt_trans (xTx_ok t ht).2.2.2.2.2.2 (by decide)
  obtain ⟨G0, hW, gI, gB, gR, gS⟩ := x_G0 hK hVg [(b, L, xs), (aF, 8, fun j => nI (xFi j))] ((aO, 100, fun j => nI (xDo j)) :: (aT, 100, fun j => nI (xDt j)) :: xTx.attach.map (fun t => ((tz t).2, t.1.2.2.1.length, fun j => nI (t.1.2.2.1.getD j 0)))) [aD] (xTx.attach.map (fun t => tz t))
    (by
      intro q hq
      simp only [List.mem_cons, List.not_mem_nil, or_false] at hq
      rcases hq with rfl | rfl
      · exact ⟨scr, hs1, ⟨Or.inr ⟨rfl, hV9.symm⟩, hs3, x_notst hs2.1, by show L ≤ _; rw [hs4]; exact Nat.le_refl _, by show scr.slots.size.toInt32 = Int32.ofNat L; rw [hs4] <;> rfl, hs5⟩, Nat.lt_of_le_of_lt hL (by decide)⟩
      · exact ⟨cF, f2, f3, (by decide : (8 : Nat) < 2 ^ 31)⟩)
    (by
      intro q hq
      simp only [List.mem_cons, List.mem_map] at hq
      rcases hq with rfl | rfl | ⟨t, -, rfl⟩
      · exact ⟨cO, o2, o3, (by decide : (100 : Nat) < 2 ^ 31)⟩
      · exact ⟨cT, t2, t3, (by decide : (100 : Nat) < 2 ^ 31)⟩
      · obtain ⟨cs, cv, z1, z2, z3, z4, z5⟩ := htz t
        exact ⟨cv, z4, z5, hlen _ t.2⟩)
    (by
      intro a ha
      simp only [List.mem_cons, List.not_mem_nil, or_false] at ha
      subst ha
      exact ⟨cD, d2, d3⟩)
    (by
      intro q hq
      obtain ⟨t, -, rfl⟩ := List.mem_map.mp hq
      obtain ⟨cs, cv, z1, z2, z3, z4, z5⟩ := htz t
      exact ⟨cs, z2, z3⟩)
  refine ⟨V, G0, hK, hZ, hW, hVg, gI (b, L, xs) (by simp), hL, ⟨aD, hRt (by decide +kernel) d1, gR aD (by simp)⟩, hst (d := "Z") (by decide +kernel) (va_eqt (x_nar h 8 (by decide +kernel))), ?_, ?_, ?_, fun t ht => ?_, fun a e he => ?_⟩
  · obtain ⟨f, q1, q2⟩ := gB (aO, 100, fun j => nI (xDo j)) (by simp)
    exact ⟨aO, f, hRt (by decide +kernel) o1, q1, q2⟩
  · obtain ⟨f, q1, q2⟩ := gB (aT, 100, fun j => nI (xDt j)) (by simp)
    exact ⟨aT, f, hRt (by decide +kernel) t1, q1, q2⟩
  · obtain ⟨f, q1, q2⟩ := gI (aF, 8, fun j => nI (xFi j)) (by simp)
    exact ⟨aF, f, hRt (by decide +kernel) f1, q1, q2⟩
  · obtain ⟨cs, cv, z1, z2, z3, z4, z5⟩ := htz ⟨t, ht⟩
    have hne := xSr_ne (t.1, t.2.1) (by rw [← xTx_r]; exact List.mem_map.mpr ⟨t, ht, rfl⟩)
    have e1 : xsr V t.1 t.2.1 = (tz ⟨t, ht⟩).1 := by rw [hVs _ _ hne.1 hne.2]; simp only [z1]
    obtain ⟨f, q1, q2⟩ := gB ((tz ⟨t, ht⟩).2, t.2.2.1.length, fun j => nI (t.2.2.1.getD j 0)) (List.mem_cons_of_mem _ (List.mem_cons_of_mem _ (List.mem_map.mpr ⟨⟨t, ht⟩, List.mem_attach _ _, rfl⟩)))
    exact ⟨(tz ⟨t, ht⟩).2, f, by rw [e1]; exact gS _ (List.mem_map.mpr ⟨⟨t, ht⟩, List.mem_attach _ _, rfl⟩), q1, q2⟩
  · cases hro : xro e with
    | true => rfl
    | false =>
      have h1 := (hW.1 a e he).2 hro
      have h2 := (hW.1 a e he).1.lt
      exact absurd h1 (Nat.not_le.mpr h2)
