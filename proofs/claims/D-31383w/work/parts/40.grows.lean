/-! THE SYSTEM's HEAP as a partial function G: an address to what stands there: an array (its kind, length, content) or an object (its class's number in xCl, its fields). Kinds from 16 on and classes from 64 on: given cells that are never written. V: classes' numbers, slots, array classes, values of statics, addresses of texts -/
abbrev XC : Type := (Nat × vp_A) ⊕ (Nat × List Value)
abbrev GM : Type := Nat → Option XC
abbrev XV : Type := (Nat → ClassId) × (Nat → Nat → Nat) × (Nat → ClassId) × (String → String → Value) × (String → Nat → Nat)
abbrev xst (V : XV) (C n : String) : Value := V.2.2.2.1 C n
abbrev xsr (V : XV) (C : String) (k : Nat) : Nat := V.2.2.2.2 C k
def xTy (t : Nat) : FieldType := match t with
  | 0 => .int
  | 1 => .long
  | 2 => .byte
  | 3 => .boolean
  | 4 => .double
  | 5 => .object "java/lang/Object"
  | 6 => .object "Shapelayer$Layer"
  | 7 => .object "Shapelayer$Keyed"
  | _ => .char
def xro (e : XC) : Bool := match e with
  | .inl x => decide (16 ≤ x.1)
  | .inr o => decide (64 ≤ o.1)
/-- an array's content as values -/
def xVl (c : (Nat → Int32) ⊕ (Nat → Int64) ⊕ (Nat → UInt32) ⊕ (Nat → UInt64) ⊕ (Nat → Option Nat)) (j : Nat) : Value := match c with
  | .inl f => .int (f j)
  | .inr (.inl f) => .long (f j)
  | .inr (.inr (.inl f)) => .float (f j)
  | .inr (.inr (.inr (.inl f))) => .double (f j)
  | .inr (.inr (.inr (.inr f))) => va_rf (f j)
/-- a given array: what the Statement says of it (the script's class stands at 9) -/
def xRa (V : XV) (t : Nat) (x : vp_A) (cell : Cell) : Prop := (cell.cls = V.2.2.1 t ∨ (t = 0 ∧ cell.cls = V.2.2.1 9)) ∧ cell.vm ≠ .unknown ∧ cell.vm.isStatics = false ∧ x.1 ≤ cell.slots.size ∧ cell.slots.size.toInt32 = Int32.ofNat x.1 ∧ ∀ j, j < x.1 → cell.slots[j]? = some (xVl x.2 j)
/-- a given text -/
def xRs (V : XV) (fs : List Value) (cell : Cell) : Prop := cell.vm ≠ .unknown ∧ cell.vm.isStatics = false ∧ cell.cls = V.1 17 ∧ ∀ k, k < 2 → cell.slots[V.2.1 17 k]? = some (vp_V fs k)
def xAt (V : XV) (a : Nat) (e : XC) (H : Heap) : Prop := match e with
  | .inl x => if x.1 < 16 then H[a]? = some (vp_cell (V.2.2.1 (x.1 % 16)) x.2) else ∃ cell, H[a]? = some cell ∧ xRa V (x.1 % 16) x.2 cell
  | .inr o => if o.1 < 64 then ∃ r : vw_C, xCl[o.1 % 64]? = some r ∧ t_OB a (V.1 (o.1 % 64)) r.2.2 (V.2.1 (o.1 % 64)) H (vp_V o.2) else o.1 = 81 ∧ ∃ cell, H[a]? = some cell ∧ xRs V o.2 cell
theorem xAt_a {V : XV} {a t : Nat} {x : vp_A} {H : Heap} (ht : t < 16) : xAt V a (.inl (t, x)) H ↔ H[a]? = some (vp_cell (V.2.2.1 (t % 16)) x) := by
  show (if t < 16 then _ else _) ↔ _
  rw [if_pos ht]
theorem xAt_o {V : XV} {a ci : Nat} {fs : List Value} {H : Heap} (hc : ci < 64) : xAt V a (.inr (ci, fs)) H ↔ ∃ r : vw_C, xCl[ci % 64]? = some r ∧ t_OB a (V.1 (ci % 64)) r.2.2 (V.2.1 (ci % 64)) H (vp_V fs) := by
  show (if ci < 64 then _ else _) ↔ _
  rw [if_pos hc]
/-- the heap's picture: what stands there, what may be written; what is never written lies below the given heap's size -/
def xW (V : XV) (A : Nat → Prop) (G : GM) (H : Heap) : Prop := (∀ (a : Nat) (e : XC), G a = some e → xAt V a e H ∧ (xro e = false → A a)) ∧ ∀ (a : Nat) (e : XC), G a = some e → xro e = true → a < xsr V "#given" 0
def xA (G : GM) (sz : Nat) (q : Nat) : Prop := (∃ e, G q = some e ∧ xro e = false) ∨ sz ≤ q
def upG (G : GM) (a : Nat) (e : XC) : GM := fun b => if b = a then some e else G b
theorem upG_s (G : GM) (a : Nat) (e : XC) : upG G a e a = some e := if_pos rfl
theorem upG_n (G : GM) {a b : Nat} (e : XC) (h : b ≠ a) : upG G a e b = G b := if_neg h
def xKw (w : Cond) : Bool := match w with
  | .fieldLinkNest _ _ _ _ _ _ => true
  | .methodLinkNest _ _ _ _ => true
  | .castable _ _ => true
  | .declares _ => true
  | _ => false
theorem xKw_tab {w : Cond} (h : xKw w = true) : w.onTables = true := by
  unfold xKw at h
  split at h
  · rfl
  · rfl
  · rfl
  · rfl
  · cases h
theorem xKw_warm {w : Cond} (h : xKw w = true) {s U : State} (hW : s.WarmedH U.vm) (hZ : va_Nw w s) : va_Nw w U := by
  unfold xKw at h
  split at h
  · exact va_Nw.warmF hW hZ
  · exact va_Nw.warmM hW hZ
  · exact va_Nw.warmC hW hZ
  · exact va_Nw.warmD hW hZ
  · cases h
def xFw (C : String) (x y : MethodName) : Prop := (x.cls ≠ "java/lang/invoke/MethodHandle" ∧ x.cls ≠ "java/lang/invoke/VarHandle") ∧ Cond.declares x ∈ lw_tbl ∧ Cond.interfaceMethod x.cls x.cls x.name x.desc ∈ lw_tbl ∧ Cond.publicMethod y ∈ lw_tbl ∧ Cond.unhidden C x.name x.desc ∈ lw_tbl ∧ Cond.castable C x.cls ∈ lw_tbl
/-- classes that aren't one another's: for 'instanceof' and for handlers -/
def xNc : List (String × String) := [("Shapelayer$Rect", "Shapelayer$Stroke"), ("Shapelayer$Nested", "Shapelayer$Stroke"), ("Shapelayer$Null", "Shapelayer$Stroke"), ("Shapelayer$Rect", "Shapelayer$Nested"), ("Shapelayer$Stroke", "Shapelayer$Nested"), ("Shapelayer$Null", "Shapelayer$Nested"), ("java/lang/IllegalArgumentException", "java/lang/IndexOutOfBoundsException"), ("java/lang/IllegalStateException", "java/lang/IndexOutOfBoundsException"), ("java/lang/IllegalStateException", "java/lang/IllegalArgumentException"), ("java/util/NoSuchElementException", "java/lang/IndexOutOfBoundsException")]
/-- private methods of an abstract class, and the classes whose objects select them -/
def xPv : List (String × MethodName) := [("Shapelayer$Rect", yX5_mapOnce), ("Shapelayer$Stroke", yX5_mapOnce), ("Shapelayer$Nested", yX5_mapOnce), ("Shapelayer$Null", yX5_mapOnce), ("java/lang/StringBuilder", yJ3_ensureCapacityInternal), ("java/lang/StringBuilder", yJ3_appendNull), ("java/lang/StringBuilder", yJ3_putStringAt), ("java/lang/StringBuilder", yJ3_newCapacity), ("java/lang/StringBuilder", yJ3_inflateIfNeededFor), ("java/lang/StringBuilder", yJ3_inflate), ("java/lang/StringBuilder", yJ3_shift)]
/-- the easings, which share a default method of their interface -/
def xEs : List String := ["Shapelayer$Easing$1", "Shapelayer$Easing$2", "Shapelayer$Easing$3"]
/-- what a call of a default method through its interface asks of the tables -/
def xDw (C : String) (x : MethodName) (U : State) : Prop := va_Nw (.declares x) U ∧ va_Nw (.interfaceMethod x.cls x.cls x.name x.desc) U ∧ va_Nw (.publicMethod x) U ∧ (∀ a : Array Value, (Cond.landsInDefault C x x).before a U = true) ∧ va_Nw (.castable C x.cls) U
theorem xDw.moved {C : String} {x : MethodName} (hx : x.cls ≠ "java/lang/invoke/MethodHandle" ∧ x.cls ≠ "java/lang/invoke/VarHandle") {u U : State} (hvm : u.vm.Alike U.vm) (h : xDw C x u) : xDw C x U := by
  obtain ⟨h1, h2, h3, h4, h5⟩ := h
  obtain ⟨r, meth, hn, -⟩ := Cond.declares_spec h1
  have tr : ∀ {c : Cond}, c.onTables = true → c.before #[] (u.setVm U.vm) = true → c.before #[] U = true := by
    intro c hc h
    have e := Cond.onTables_vm (A := #[]) (A' := #[]) (U := u) (U' := U) U.vm c hc
    have hU : U.setVm U.vm = U := rfl
    rw [hU] at e
    rw [← e]
    exact h
  exact ⟨tr rfl (by rw [Cond.declares_setVm hvm]; exact h1), tr rfl (by rw [Cond.interfaceMethod_setVm hvm (r := r) hn hx]; exact h2), tr rfl (by rw [Cond.publicMethod_setVm hvm]; exact h3), fun a => (Cond.landsInDefault_setVm (args := a) (args' := a) hvm (State.methodFound?_setVm hvm _ _ _)).trans (h4 a), tr rfl (by rw [Cond.castable_setVm hvm]; exact h5)⟩
def xK (V : XV) (U : State) : Prop :=
  (∀ (ci : Nat) (r : vw_C), xCl[ci]? = some r → u_Kn U r.1 r.2.1 r.2.2 (V.1 ci) (V.2.1 ci)) ∧ (∀ t, t < 8 → ArrOfT U (V.2.2.1 t) (xTy t) ∧ va_RA U (V.2.2.1 t) (xTy t)) ∧ (∀ w, w ∈ lw_tbl → xKw w = true → va_Nw w U) ∧ (∀ C x y, xFw C x y → va_Fw C x y U) ∧ (∀ C, Cond.arrayOver (.object C) ∈ lw_tbl → va_AO C U) ∧ (∀ own k tx, Cond.stringRef own k tx ∈ lw_tbl → vk_R own k tx (xsr V own k) U) ∧ (∀ q : String × String, q ∈ xNc → va_Nc q.1 q.2 U) ∧ va_Mi "[Ljava/lang/Object;" (xsr V "#mirror" 0) U ∧ (∀ q : String × MethodName, q ∈ xPv → va_Nw (.selects q.1 q.2 q.2) U) ∧ (∀ C, C ∈ xEs → xDw C yX14_between U) ∧ ArrOfT U (V.2.2.1 9) .int
theorem xK.warm {V : XV} {s U : State} (hW : s.WarmedH U.vm) (h : xK V s) : xK V U :=
  ⟨fun ci r hr => u_Kn_moved hW.alike (h.1 ci r hr), fun t ht => ⟨arrOfT_moved hW.alike (h.2.1 t ht).1, (h.2.1 t ht).2.moved hW.alike⟩, fun w hw hk => xKw_warm hk hW (h.2.2.1 w hw hk), fun C x y hx => va_Fw.moved hx.1 hW.alike (h.2.2.2.1 C x y hx), fun C hC => va_AO.moved hW.alike (h.2.2.2.2.1 C hC), fun own k tx hs => vk_R.warm hW (h.2.2.2.2.2.1 own k tx hs), fun q hq => va_Nc.moved hW.alike (h.2.2.2.2.2.2.1 q hq), va_Mi.moved hW.alike h.2.2.2.2.2.2.2.1, fun q hq => word_at hW (good_of_word rfl) (h.2.2.2.2.2.2.2.2.1 q hq), fun C hC => xDw.moved (by decide +kernel) hW.alike (h.2.2.2.2.2.2.2.2.2.1 C hC), arrOfT_moved hW.alike h.2.2.2.2.2.2.2.2.2.2⟩
theorem xK.same {V : XV} {u U : State} (hv : U.vm = u.vm) (h : xK V u) : xK V U := by
  have ha : u.vm.Alike U.vm := by rw [hv]; exact Vm.Alike.refl _
  exact ⟨fun ci r hr => u_Kn_moved ha (h.1 ci r hr), fun t ht => ⟨arrOfT_moved ha (h.2.1 t ht).1, (h.2.1 t ht).2.moved ha⟩, fun w hw hk => va_Nw.same (xKw_tab hk) hv.symm (h.2.2.1 w hw hk), fun C x y hx => va_Fw.moved hx.1 ha (h.2.2.2.1 C x y hx), fun C hC => va_AO.moved ha (h.2.2.2.2.1 C hC), fun own k tx hs => vk_R.same hv (h.2.2.2.2.2.1 own k tx hs), fun q hq => va_Nc.moved ha (h.2.2.2.2.2.2.1 q hq), va_Mi.moved ha h.2.2.2.2.2.2.2.1, fun q hq => va_Nw.same rfl hv.symm (h.2.2.2.2.2.2.2.2.1 q hq), fun C hC => xDw.moved (by decide +kernel) ha (h.2.2.2.2.2.2.2.2.2.1 C hC), arrOfT_moved ha h.2.2.2.2.2.2.2.2.2.2⟩
def xZ (V : XV) (A : Nat → Prop) (U : State) (H : Heap) : Prop := (∀ C n d, Cond.laysStatic C n d ∈ lw_tbl → va_Z C n d (xst V C n) A U H) ∧ vx_Zq Bundle.tN "UNASSIGNED_STACK" Bundle.steD A U H ∧ vx_Zq Bundle.tN "SUPPRESSED_SENTINEL" Bundle.listD A U H
theorem xZ.moved {V : XV} {A : Nat → Prop} {u U : State} {H : Heap} (hvm : u.vm.Alike U.vm) (h : xZ V A u H) : xZ V A U H := ⟨fun C n d hl => va_Z.moved hvm (h.1 C n d hl), vx_Zq.moved hvm h.2.1, vx_Zq.moved hvm h.2.2⟩
theorem xZ.kept {V : XV} {A : Nat → Prop} {U : State} {H H1 : Heap} (h : xZ V A U H) (hq : ∀ a : Nat, a < H.size → ¬ A a → H1[a]? = H[a]?) : xZ V A U H1 := ⟨fun C n d hl => va_Z.kept (h.1 C n d hl) hq, h.2.1.kept hq, h.2.2.kept hq⟩
theorem xZ.narrow {V : XV} {A B : Nat → Prop} {U : State} {H : Heap} (h : xZ V A U H) (hAB : ∀ q, B q → A q) : xZ V B U H := ⟨fun C n d hl => va_Z.narrow (h.1 C n d hl) hAB, h.2.1.narrow hAB, h.2.2.narrow hAB⟩
theorem xAt.kept {V : XV} {a : Nat} {e : XC} {H H1 : Heap} (h : xAt V a e H) (hq : H1[a]? = H[a]?) : xAt V a e H1 := by
  cases e with
  | inl x =>
    unfold xAt at h ⊢
    simp only at h ⊢
    by_cases hc : x.1 < 16
    · rw [if_pos hc] at h ⊢
      exact hq.trans h
    · rw [if_neg hc] at h ⊢
      obtain ⟨cell, h1, h2⟩ := h
      exact ⟨cell, hq.trans h1, h2⟩
  | inr o =>
    unfold xAt at h ⊢
    simp only at h ⊢
    by_cases hc : o.1 < 64
    · rw [if_pos hc] at h ⊢
      obtain ⟨r, h1, h2⟩ := h
      exact ⟨r, h1, h2.kept hq⟩
    · rw [if_neg hc] at h ⊢
      obtain ⟨h0, cell, h1, h2⟩ := h
      exact ⟨h0, cell, hq.trans h1, h2⟩
theorem xAt.lt {V : XV} {a : Nat} {e : XC} {H : Heap} (h : xAt V a e H) : a < H.size := by
  cases e with
  | inl x =>
    unfold xAt at h
    simp only at h
    split at h
    · exact (Array.getElem?_eq_some_iff.mp h).1
    · obtain ⟨cell, h1, -⟩ := h; exact (Array.getElem?_eq_some_iff.mp h1).1
  | inr o =>
    unfold xAt at h
    simp only at h
    split at h
    · obtain ⟨r, h1, cell, h2, -⟩ := h; exact (Array.getElem?_eq_some_iff.mp h2).1
    · obtain ⟨h0, cell, h1, -⟩ := h; exact (Array.getElem?_eq_some_iff.mp h1).1
theorem xW.kept {V : XV} {A : Nat → Prop} {G : GM} {H H1 : Heap} (h : xW V A G H) (hq : ∀ q : Nat, q < H.size → H1[q]? = H[q]?) : xW V A G H1 := ⟨fun a e ha => ⟨(h.1 a e ha).1.kept (hq a (h.1 a e ha).1.lt), (h.1 a e ha).2⟩, h.2⟩
theorem xW.wide {V : XV} {A B : Nat → Prop} {G : GM} {H : Heap} (h : xW V A G H) (hAB : ∀ q, A q → B q) : xW V B G H := ⟨fun a e ha => ⟨(h.1 a e ha).1, fun z => hAB a ((h.1 a e ha).2 z)⟩, h.2⟩
theorem xW.self {V : XV} {A : Nat → Prop} {G : GM} {H : Heap} (h : xW V A G H) (sz : Nat) : xW V (xA G sz) G H := ⟨fun a e ha => ⟨(h.1 a e ha).1, fun z => Or.inl ⟨e, ha, z⟩⟩, h.2⟩
theorem xW.fresh {V : XV} {A : Nat → Prop} {G : GM} {H : Heap} (h : xW V A G H) {q : Nat} (hq : H.size ≤ q) : G q = none := by
  cases e : G q with
  | none => rfl
  | some c => exact absurd (h.1 q c e).1.lt (Nat.not_lt.mpr hq)
theorem xW.put {V : XV} {A : Nat → Prop} {G : GM} {H H1 : Heap} {a : Nat} {e : XC} (hro : xro e = false) (h2 : ∀ (b : Nat) (c : XC), G b = some c → xro c = true → b < xsr V "#given" 0) : ∀ (b : Nat) (c : XC), upG G a e b = some c → xro c = true → b < xsr V "#given" 0 := by
  intro b c hb hc
  by_cases q : b = a
  · subst q
    rw [upG_s] at hb
    cases hb
    rw [hro] at hc
    cases hc
  · rw [upG_n _ _ q] at hb
    exact h2 b c hb hc
theorem xW.set {V : XV} {A : Nat → Prop} {G : GM} {H H1 : Heap} {a : Nat} {e : XC} (h : xW V A G H) (h1 : xAt V a e H1) (hA : A a) (o : ∀ q : Nat, q ≠ a → H1[q]? = H[q]?) (hro : xro e = false := by first | rfl | exact decide_eq_false (by omega)) : xW V A (upG G a e) H1 := by
  refine ⟨fun b c hb => ?_, xW.put (H := H) (H1 := H1) (A := A) hro h.2⟩
  by_cases q : b = a
  · subst q
    rw [upG_s] at hb
    cases hb
    exact ⟨h1, fun _ => hA⟩
  · rw [upG_n _ _ q] at hb
    exact ⟨(h.1 b c hb).1.kept (o b q), (h.1 b c hb).2⟩
theorem xW.new {V : XV} {A : Nat → Prop} {G : GM} {H H1 : Heap} {e : XC} (h : xW V A G H) (h1 : xAt V H.size e H1) (hA : A H.size) (o : ∀ q : Nat, q < H.size → H1[q]? = H[q]?) (hro : xro e = false := by first | rfl | exact decide_eq_false (by omega)) : xW V A (upG G H.size e) H1 := by
  refine ⟨fun b c hb => ?_, xW.put (H := H) (H1 := H1) (A := A) hro h.2⟩
  by_cases q : b = H.size
  · subst q
    rw [upG_s] at hb
    cases hb
    exact ⟨h1, fun _ => hA⟩
  · rw [upG_n _ _ q] at hb
    exact ⟨(h.1 b c hb).1.kept (o b (h.1 b c hb).1.lt), (h.1 b c hb).2⟩
theorem xW.obj {V : XV} {A : Nat → Prop} {G : GM} {H : Heap} (h : xW V A G H) {a ci : Nat} {fs : List Value} (e : G a = some (.inr (ci, fs))) (hc : ci < 64) : va_P (V.1, V.2.1) xCl [(a, .inr (ci % 64, fs))] H := by
  intro k q hk
  rcases k with _ | k
  · cases hk; exact (xAt_o hc).mp (h.1 a _ e).1
  · simp at hk
theorem xW.arr {V : XV} {A : Nat → Prop} {G : GM} {H : Heap} (h : xW V A G H) {a t : Nat} {x : vp_A} (e : G a = some (.inl (t, x))) (ht : t < 16) : va_P (V.1, V.2.1) xCl [(a, .inl (V.2.2.1 (t % 16), x))] H := by
  intro k q hk
  rcases k with _ | k
  · cases hk; exact (xAt_a ht).mp (h.1 a _ e).1
  · simp at hk
theorem xK.ta {V : XV} {s : State} (h : xK V s) {t : Nat} (ht : t < 8) : va_K (V.1, V.2.1) xCl [(V.2.2.1 t, xTy t)] s := ⟨h.1, fun k q hk => by
  rcases k with _ | k
  · cases hk; exact h.2.1 t ht
  · simp at hk⟩
theorem xK.va {V : XV} {s : State} (h : xK V s) : va_K (V.1, V.2.1) xCl [] s := ⟨h.1, fun k q hk => by simp at hk⟩
theorem xVl_cell {cA : ClassId} {n : Nat} (c : (Nat → Int32) ⊕ (Nat → Int64) ⊕ (Nat → UInt32) ⊕ (Nat → UInt64) ⊕ (Nat → Option Nat)) : vp_cell cA (n, c) = arrV cA n (xVl c) := by
  obtain f | f | f | f | f := c <;> rfl
/-- what may be read of an array, given or made -/
theorem xW.cellA {V : XV} {A : Nat → Prop} {G : GM} {H : Heap} {s : State} (hK : xK V s) (h : xW V A G H) {a t n : Nat} {c : (Nat → Int32) ⊕ (Nat → Int64) ⊕ (Nat → UInt32) ⊕ (Nat → UInt64) ⊕ (Nat → Option Nat)} (e : G a = some (.inl (t, (n, c)))) (ht : t % 16 < 8) : ∃ cell : Cell, H[a]? = some cell ∧ s.isArrayOf cell (xTy (t % 16)) ∧ cell.vm ≠ .unknown ∧ cell.vm.isStatics = false ∧ n ≤ cell.slots.size ∧ cell.slots.size.toInt32 = Int32.ofNat n ∧ ∀ j, j < n → cell.slots[j]? = some (xVl c j) := by
  have h1 := (h.1 a _ e).1
  unfold xAt at h1
  simp only at h1
  split at h1
  · rw [xVl_cell] at h1
    exact ⟨_, h1, (hK.2.1 _ ht).1 n _, (fun q => by cases q), rfl, by rw [arrV_size]; exact Nat.le_refl _, by rw [arrV_size] <;> rfl, fun j hj => arrV_read _ _ hj⟩
  · obtain ⟨cell, h2, h3, h4, h5, h6, h7, h8⟩ := h1
    refine ⟨cell, h2, ⟨(fun k q => by rw [q] at h5; cases h5), ?_⟩, h4, h5, h6, h7, h8⟩
    rcases h3 with h3 | ⟨h30, h3⟩
    · rw [h3]; exact ((hK.2.1 _ ht).1 0 (fun _ => .null)).2
    · rw [h3, h30]; exact (hK.2.2.2.2.2.2.2.2.2.2 0 (fun _ => .null)).2
theorem xW.recv {V : XV} {A : Nat → Prop} {G : GM} {H : Heap} {s : State} (hK : xK V s) (h : xW V A G H) {a ci : Nat} {fs : List Value} (e : G a = some (.inr (ci, fs))) {r : vw_C} (hr : xCl[ci % 64]? = some r) : ∃ cell : Cell, H[a]? = some cell ∧ cell.vm.isStatics = false ∧ s.vm.findClass r.1 = some cell.cls := by
  by_cases hc : ci < 64
  · exact va_recv hK.va (h.obj e hc) hr (q0 := 0) rfl
  · have h1 := (h.1 a _ e).1
    unfold xAt at h1
    simp only at h1
    rw [if_neg hc] at h1
    obtain ⟨h0, cell, h2, h3, h4, h5, -⟩ := h1
    subst h0
    cases hr
    exact ⟨cell, h2, h4, by rw [h5]; exact (hK.1 17 _ rfl).2.1⟩
theorem va_rf_cat (o : Option Nat) : (va_rf o).category = 1 := by cases o <;> rfl
/-- a field of an object -/
def gF (G : GM) (F : Nat) (o : Option Nat) : Option Value := match o with
  | none => none
  | some a => match G a with
    | some (.inr x) => if (xFc F).contains x.1 then x.2[xFp F]? else none
    | _ => none
theorem gF_of {G : GM} {F a : Nat} {v : Value} (h : gF G F (some a) = some v) : ∃ ci fs, G a = some (.inr (ci, fs)) ∧ ci ∈ xFc F ∧ fs[xFp F]? = some v := by
  unfold gF at h
  simp only at h
  split at h
  · rename_i x hx
    split at h
    · rename_i hc
      exact ⟨x.1, x.2, hx, by simpa using hc, h⟩
    · cases h
  · cases h
def gGI (G : GM) (F : Nat) (o : Option Nat) (K : Int32 → Prop) : Prop := ∃ x, gF G F o = some (.int x) ∧ K x
def gGJ (G : GM) (F : Nat) (o : Option Nat) (K : Int64 → Prop) : Prop := ∃ x, gF G F o = some (.long x) ∧ K x
def gGR (G : GM) (F : Nat) (o : Option Nat) (K : Option Nat → Prop) : Prop := ∃ x, gF G F o = some (va_rf x) ∧ K x
def gPF (G : GM) (F : Nat) (o : Option Nat) (v : Value) (K : GM → Prop) : Prop := ∃ a ci fs, o = some a ∧ G a = some (.inr (ci, fs)) ∧ ci ∈ xFc F ∧ ci < 64 ∧ xFp F < fs.length ∧ K (upG G a (.inr (ci, fs.set (xFp F) v)))
def gAI (G : GM) (t : Nat) (o : Option Nat) : Option (Nat × (Nat → Int32)) := match o with
  | none => none
  | some a => match G a with
    | some (.inl (t', n, .inl f)) => if t' % 16 = t then some (n, f) else none
    | _ => none
def gAJ (G : GM) (t : Nat) (o : Option Nat) : Option (Nat × (Nat → Int64)) := match o with
  | none => none
  | some a => match G a with
    | some (.inl (t', n, .inr (.inl f))) => if t' % 16 = t then some (n, f) else none
    | _ => none
def gAR (G : GM) (o : Option Nat) : Option (Nat × Nat × (Nat → Option Nat)) := match o with
  | none => none
  | some a => match G a with
    | some (.inl (t', n, .inr (.inr (.inr (.inr f))))) => if 5 ≤ t' % 16 ∧ t' % 16 ≤ 7 then some (t' % 16, n, f) else none
    | _ => none
def gAN (G : GM) (o : Option Nat) : Option Nat := match o with
  | none => none
  | some a => match G a with
    | some (.inl x) => if x.1 % 16 < 8 then some x.2.1 else none
    | _ => none
def gIL (G : GM) (t : Nat) (o : Option Nat) (i : Int32) (K : Int32 → Prop) : Prop := ∃ n f j, gAI G t o = some (n, f) ∧ i = nI j ∧ j < n ∧ n < 2 ^ 31 ∧ K (f j)
def gJL (G : GM) (t : Nat) (o : Option Nat) (i : Int32) (K : Int64 → Prop) : Prop := ∃ n f j, gAJ G t o = some (n, f) ∧ i = nI j ∧ j < n ∧ n < 2 ^ 31 ∧ K (f j)
def gRL (G : GM) (o : Option Nat) (i : Int32) (K : Option Nat → Prop) : Prop := ∃ t n f j, gAR G o = some (t, n, f) ∧ i = nI j ∧ j < n ∧ n < 2 ^ 31 ∧ K (f j)
def gLn (G : GM) (o : Option Nat) (K : Int32 → Prop) : Prop := ∃ n, gAN G o = some n ∧ K (nI n)
def gIS (G : GM) (t : Nat) (o : Option Nat) (i v : Int32) (K : GM → Prop) : Prop := ∃ a n f j, o = some a ∧ G a = some (.inl (t, n, .inl f)) ∧ i = nI j ∧ j < n ∧ n < 2 ^ 31 ∧ K (upG G a (.inl (t, n, .inl (upd f j v))))
def gJS (G : GM) (t : Nat) (o : Option Nat) (i : Int32) (v : Int64) (K : GM → Prop) : Prop := ∃ a n f j, o = some a ∧ G a = some (.inl (t, n, .inr (.inl f))) ∧ i = nI j ∧ j < n ∧ n < 2 ^ 31 ∧ K (upG G a (.inl (t, n, .inr (.inl (vp_updL f j v)))))
def gDS (G : GM) (t : Nat) (o : Option Nat) (i : Int32) (v : UInt64) (K : GM → Prop) : Prop := ∃ a n f j, o = some a ∧ G a = some (.inl (t, n, .inr (.inr (.inr (.inl f))))) ∧ i = nI j ∧ j < n ∧ n < 2 ^ 31 ∧ K (upG G a (.inl (t, n, .inr (.inr (.inr (.inl (vf_upd f j v)))))))
/-- what may stand in an array of references of the kind t -/
def gOk (G : GM) (t : Nat) (o : Option Nat) : Prop := match o with
  | none => True
  | some a => match G a with
    | some (.inl x) => t = 5 ∧ x.1 = 0
    | some (.inr x) => if t = 7 then x.1 = 7 else if t = 6 then x.1 = 3 ∨ x.1 = 4 ∨ x.1 = 5 ∨ x.1 = 6 else x.1 = 2 ∨ x.1 = 3 ∨ x.1 = 4 ∨ x.1 = 5 ∨ x.1 = 6 ∨ x.1 = 8 ∨ x.1 = 13
    | none => False
def gRS (G : GM) (o : Option Nat) (i : Int32) (v : Option Nat) (K : GM → Prop) : Prop := ∃ a t n f j, o = some a ∧ G a = some (.inl (t, n, .inr (.inr (.inr (.inr f))))) ∧ 5 ≤ t ∧ t ≤ 7 ∧ gOk G t v ∧ i = nI j ∧ j < n ∧ n < 2 ^ 31 ∧ K (upG G a (.inl (t, n, .inr (.inr (.inr (.inr (va_up f j v)))))))
/-- making an object of class ci of n fields -/
def gNw (G : GM) (ci n : Nat) (fs : List Value) (kc ks : Nat) (K : Nat → GM → Prop) : Prop := 1 ≤ kc ∧ n ≤ ks ∧ ∀ q, G q = none → K q (upG G q (.inr (ci, fs)))
def gNa (G : GM) (t : Nat) (mk : Nat → vp_A) (n : Int32) (kc ks : Nat) (K : Nat → Nat → GM → Prop) : Prop := ∃ N, n = nI N ∧ N ≤ 65536 ∧ 1 ≤ kc ∧ N ≤ ks ∧ ∀ q, G q = none → K q N (upG G q (.inl (t, mk N)))
/-- the class of an object -/
def gCi (G : GM) (o : Option Nat) : Option Nat := match o with
  | none => none
  | some a => match G a with
    | some (.inr x) => some x.1
    | _ => none
theorem gCi_of {G : GM} {a ci : Nat} (h : gCi G (some a) = some ci) : ∃ fs, G a = some (.inr (ci, fs)) := by
  unfold gCi at h
  simp only at h
  split at h
  · rename_i x hx
    cases h
    exact ⟨x.2, hx⟩
  · cases h
theorem gAI_of {G : GM} {t a n : Nat} {f : Nat → Int32} (h : gAI G t (some a) = some (n, f)) : ∃ t', G a = some (.inl (t', n, .inl f)) ∧ t' % 16 = t := by
  unfold gAI at h
  simp only at h
  split at h
  · rename_i t' n' f' hx
    split at h
    · rename_i hc
      cases h
      exact ⟨t', hx, hc⟩
    · cases h
  · cases h
theorem gAJ_of {G : GM} {t a n : Nat} {f : Nat → Int64} (h : gAJ G t (some a) = some (n, f)) : ∃ t', G a = some (.inl (t', n, .inr (.inl f))) ∧ t' % 16 = t := by
  unfold gAJ at h
  simp only at h
  split at h
  · rename_i t' n' f' hx
    split at h
    · rename_i hc
      cases h
      exact ⟨t', hx, hc⟩
    · cases h
  · cases h
theorem gAR_of {G : GM} {t a n : Nat} {f : Nat → Option Nat} (h : gAR G (some a) = some (t, n, f)) : ∃ t', G a = some (.inl (t', n, .inr (.inr (.inr (.inr f))))) ∧ t' % 16 = t ∧ 5 ≤ t ∧ t ≤ 7 := by
  unfold gAR at h
  simp only at h
  split at h
  · rename_i t' n' f' hx
    split at h
    · rename_i hc
      cases h
      exact ⟨t', hx, rfl, hc⟩
    · cases h
  · cases h
theorem gAN_of {G : GM} {a n : Nat} (h : gAN G (some a) = some n) : ∃ t c, G a = some (.inl (t, n, c)) ∧ t % 16 < 8 := by
  unfold gAN at h
  simp only at h
  split at h
  · rename_i x hx
    split at h
    · rename_i hc
      cases h
      exact ⟨x.1, x.2.2, hx, hc⟩
    · cases h
  · cases h
/-- what every row of the system's methods asks -/
def xC (p : Program) (m : MethodId) (c : Code) (s : State) (args : Array Value) (cc : ByteArray) (nL : Nat) (own : String) (V : XV) (A : Nat → Prop) : Prop := CallFix p m c cc nL s args lw_all own ∧ xK V s ∧ xZ V A s s.heap ∧ (∀ q, s.heap.size ≤ q → A q)
section GROWS
variable {p : Program} {l : Launch} {e : Env} {R : Room} {s : State} {m : MethodId} {args : Array Value} {below : List Frame} {meth : Method} {c : Code} {H : Heap} {locs : List Loc} {cells slots : Nat} {Q : State → Prop}
variable {cc : ByteArray} {pc nL : Nat} {ls : Array Slot} {rest : List Value} {A : Nat → Prop} {V : XV} {G : GM} {own : String}
theorem sh_aload_n (hexec : p.tables.exec = Jvm.exec) (hb : c.code = cc) {k : Fin 4} {i : Nat} {o : Option Nat} (hdg : decode cc pc = .ok (.aload_n k, 1)) (hi : (k : Nat) = i) (hl : ls[i]? = some (.val (va_rf o)))
    (k : W p l e R s m args below meth c H locs cells slots Q (F0 m (pc + 1) ls (va_rf o :: rest))) : W p l e R s m args below meth c H locs cells slots Q (F0 m pc ls rest) := by
  cases o with
  | none => exact lv_aload_nN hexec hb hdg hi hl k
  | some a => exact lv_aload_n hexec hb hdg hi hl k
theorem sh_aload (hexec : p.tables.exec = Jvm.exec) (hb : c.code = cc) {i : Nat} {o : Option Nat} (hdg : decode cc pc = .ok (.aload i, 2)) (hl : ls[i]? = some (.val (va_rf o)))
    (k : W p l e R s m args below meth c H locs cells slots Q (F0 m (pc + 2) ls (va_rf o :: rest))) : W p l e R s m args below meth c H locs cells slots Q (F0 m pc ls rest) := by
  cases o with
  | none => exact lv_aloadN hexec hb hdg hl k
  | some a => exact lv_aload hexec hb hdg hl k
theorem sh_astore_n (hexec : p.tables.exec = Jvm.exec) (hb : c.code = cc) {k : Fin 4} {i nL : Nat} {o : Option Nat} {lv lv' : List (Nat × Value)} (hdg : decode cc pc = .ok (.astore_n k, 1)) (hi : (k : Nat) = i) (h : lv_has ls nL lv) (hn : i < nL) (hl : (i, va_rf o) :: lv.filter (fun q => !(q.1 == i) && !(q.1 + 1 == i && q.2.category == 2)) = lv')
    (kk : ∀ ls' : Array Slot, lv_has ls' nL lv' → W p l e R s m args below meth c H locs cells slots Q (F0 m (pc + 1) ls' rest)) : W p l e R s m args below meth c H locs cells slots Q (F0 m pc ls (va_rf o :: rest)) := by
  cases o with
  | none => exact lv_astore_nN hexec hb hdg hi h hn hl kk
  | some a => exact lv_astore_n hexec hb hdg hi h hn hl kk
theorem sh_astore (hexec : p.tables.exec = Jvm.exec) (hb : c.code = cc) {i nL : Nat} {o : Option Nat} {lv lv' : List (Nat × Value)} (hdg : decode cc pc = .ok (.astore i, 2)) (h : lv_has ls nL lv) (hn : i < nL) (hl : (i, va_rf o) :: lv.filter (fun q => !(q.1 == i) && !(q.1 + 1 == i && q.2.category == 2)) = lv')
    (kk : ∀ ls' : Array Slot, lv_has ls' nL lv' → W p l e R s m args below meth c H locs cells slots Q (F0 m (pc + 2) ls' rest)) : W p l e R s m args below meth c H locs cells slots Q (F0 m pc ls (va_rf o :: rest)) := by
  cases o with
  | none => exact lv_astoreN hexec hb hdg h hn hl kk
  | some a => exact lv_astore hexec hb hdg h hn hl kk
theorem sh_null (hexec : p.tables.exec = Jvm.exec) (hb : c.code = cc) (hdg : decode cc pc = .ok (.aconst_null, 1)) (k : W p l e R s m args below meth c H locs cells slots Q (F0 m (pc + 1) ls (va_rf none :: rest))) : W p l e R s m args below meth c H locs cells slots Q (F0 m pc ls rest) := lv_null hexec hb hdg k
theorem sh_ifnull (hexec : p.tables.exec = Jvm.exec) (hb : c.code = cc) {o : Option Nat} {off : Int} {tgt : Nat} (hdg : decode cc pc = .ok (.ifnull off, 3)) (ht : (pc : Int) + off = (tgt : Int))
    (kt : o = none → W p l e R s m args below meth c H locs cells slots Q (F0 m tgt ls rest)) (kf : ¬ o = none → W p l e R s m args below meth c H locs cells slots Q (F0 m (pc + 3) ls rest)) : W p l e R s m args below meth c H locs cells slots Q (F0 m pc ls (va_rf o :: rest)) := by
  cases o with
  | none => exact lv_ifnullN hexec hb hdg ht (kt rfl)
  | some a => exact lv_ifnull hexec hb hdg (kf (fun h => by cases h))
theorem sh_ifnonnull (hexec : p.tables.exec = Jvm.exec) (hb : c.code = cc) {o : Option Nat} {off : Int} {tgt : Nat} (hdg : decode cc pc = .ok (.ifnonnull off, 3)) (ht : (pc : Int) + off = (tgt : Int))
    (kt : ¬ o = none → W p l e R s m args below meth c H locs cells slots Q (F0 m tgt ls rest)) (kf : o = none → W p l e R s m args below meth c H locs cells slots Q (F0 m (pc + 3) ls rest)) : W p l e R s m args below meth c H locs cells slots Q (F0 m pc ls (va_rf o :: rest)) := by
  cases o with
  | none => exact lv_ifnonnullN hexec hb hdg (kf rfl)
  | some a => exact lv_ifnonnull hexec hb hdg ht (kt (fun h => by cases h))
theorem xFp81 : ∀ F, 81 ∈ xFc F → xFp F < 2 := by
  intro F
  by_cases hF : F < xFt.length
  · have : ∀ F, F < xFt.length → 81 ∈ xFc F → xFp F < 2 := by decide +kernel
    exact this F hF
  · intro h
    unfold xFc at h
    rw [List.getD_eq_getElem?_getD, List.getElem?_eq_none (Nat.le_of_not_lt hF)] at h
    cases h
theorem sh_get (C : xC p m c s args cc nL own V A) (hW : xW V A G H) {F : Nat} {o : Option Nat} {ow ref nm ds : String} {fin : Bool} (hF : xFb F ow nm ds fin = true) {index : Nat} (hl : Cond.fieldLink own index ref nm ds ∈ lw_all) (hsame : ∀ x, s.fieldFound? ow nm ds = some x → s.fieldFound? ref nm ds = some x) {v : Value} (hv : gF G F o = some v) (hdg : decode cc pc = .ok (.getfield index, 3))
    (kk : W p l e R s m args below meth c H locs cells slots Q (F0 m (pc + 3) ls (v :: rest))) : W p l e R s m args below meth c H locs cells slots Q (F0 m pc ls (va_rf o :: rest)) := by
  obtain ⟨⟨hx, hb, -, hown, hts⟩, hK, -⟩ := C
  cases o with
  | none => cases hv
  | some a =>
    obtain ⟨ci, fs, hG, hci, hfs⟩ := gF_of hv
    have h1 := List.all_eq_true.mp hF ci hci
    cases hr : xCl[ci % 64]? with
    | none => rw [hr] at h1; cases h1
    | some r =>
      rw [hr] at h1
      simp only [Bool.and_eq_true, decide_eq_true_eq] at h1
      obtain ⟨hk, ht⟩ := h1
      by_cases hc : ci < 64
      · refine va_get (C := r.1) (T := r.2.1) (N := r.2.2) hx hb hts (xCl_in _ _ hr) hown hK.va (hW.obj hG hc) 0 rfl hr (xFp F) hk (ref := ref) ?_ ?_ hfs hdg kk
        · rw [ht]; exact hts _ hl
        · rw [ht]; exact hsame
      · have h1 := (hW.1 a _ hG).1
        unfold xAt at h1
        simp only at h1
        rw [if_neg hc] at h1
        obtain ⟨h0, cell, q1, q3, -, -, q4⟩ := h1
        subst h0
        cases hr
        obtain ⟨hS, hfc, kC, hkC, hkind⟩ := hK.1 17 _ rfl
        obtain ⟨cf, kf, fi, f, hi, hsl⟩ := hS (xFp F) hk
        have hlay := u_lays (N := 4) hts (xCl_in 17 _ rfl) hk
        have hp : xFp F < 2 := xFp81 F hci
        rw [ht] at hi hlay
        refine W.getf hx hb hown (hts _ hl) (hsame _ hi) (u_facts hfc hkC hlay hi).1 q1 q3 (v := v) ?_ rfl rfl hdg kk
        rw [hsl, q4 _ hp]
        unfold vp_V
        rw [List.getD_eq_getElem?_getD, hfs]
        rfl
theorem sh_getN (C : xC p m c s args cc nL own V A) (hW : xW V A G H) {F : Nat} {o : Option Nat} {ow ref nm ds host : String} {fin : Bool} (hF : xFb F ow nm ds fin = true) {index : Nat} (hl : Cond.fieldLinkNest own index ref nm ds host ∈ lw_tbl) (hsame : ∀ x, s.fieldFound? ow nm ds = some x → s.fieldFound? ref nm ds = some x) {v : Value} (hno : (xFc F).all (fun c => decide (c < 64)) = true) (hv : gF G F o = some v) (hdg : decode cc pc = .ok (.getfield index, 3))
    (kk : W p l e R s m args below meth c H locs cells slots Q (F0 m (pc + 3) ls (v :: rest))) : W p l e R s m args below meth c H locs cells slots Q (F0 m pc ls (va_rf o :: rest)) := by
  obtain ⟨⟨hx, hb, -, hown, hts⟩, hK, -⟩ := C
  cases o with
  | none => cases hv
  | some a =>
    obtain ⟨ci, fs, hG, hci, hfs⟩ := gF_of hv
    have h1 := List.all_eq_true.mp hF ci hci
    cases hr : xCl[ci % 64]? with
    | none => rw [hr] at h1; cases h1
    | some r =>
      rw [hr] at h1
      simp only [Bool.and_eq_true, decide_eq_true_eq] at h1
      obtain ⟨hk, ht⟩ := h1
      refine va_getN (C := r.1) (T := r.2.1) (N := r.2.2) (host := host) hx hb hts (xCl_in _ _ hr) hown hK.va (hW.obj hG (by have := List.all_eq_true.mp hno ci hci; exact of_decide_eq_true this)) 0 rfl hr (xFp F) hk (ref := ref) ?_ ?_ hfs hdg kk
      · rw [ht]; exact va_Nw.use rfl (hK.2.2.1 _ hl rfl)
      · rw [ht]; exact hsame
theorem sh_put (C : xC p m c s args cc nL own V A) (hW : xW V A G H) (hS : va_S A s.heap H locs) {F : Nat} {o : Option Nat} {ow ref nm ds : String} (hF : xFb F ow nm ds false = true) {index : Nat} (hl : Cond.fieldLink own index ref nm ds ∈ lw_all) (hsame : ∀ x, s.fieldFound? ow nm ds = some x → s.fieldFound? ref nm ds = some x) {ty : FieldType} {v : Value} (hd : parseFieldDescriptor ds = some ty) (hn : narrow ty v = v) (hfit : fits ty v = true) {K : GM → Prop} (h : gPF G F o v K) (hdg : decode cc pc = .ok (.putfield index, 3))
    (kk : ∀ (G1 : GM) (H1 : Heap) (locs1 : List Loc), xW V A G1 H1 → va_S A s.heap H1 locs1 → K G1 → W p l e R s m args below meth c H1 locs1 cells slots Q (F0 m (pc + 3) ls rest)) : W p l e R s m args below meth c H locs cells slots Q (F0 m pc ls (v :: va_rf o :: rest)) := by
  obtain ⟨⟨hx, hb, -, hown, hts⟩, hKx, -⟩ := C
  obtain ⟨a, ci, fs, ho, hG, hci, h64, hlen, hKK⟩ := h
  subst ho
  have h1 := List.all_eq_true.mp hF ci hci
  have hA : A a := (hW.1 a _ hG).2 (by show decide (64 ≤ ci) = false; exact decide_eq_false (Nat.not_le.mpr h64))
  obtain ⟨r, hr, cell, q1, q2, q3, q4⟩ := (xAt_o h64).mp (hW.1 a _ hG).1
  rw [hr] at h1
  simp only [Bool.and_eq_true, decide_eq_true_eq] at h1
  obtain ⟨hk, ht⟩ := h1
  obtain ⟨⟨ty0, hty⟩, hnm⟩ := xCl_ty _ _ hr
  have hin := xCl_in _ _ hr
  have hap := va_apart (own := own) (C := r.1) (T := r.2.1) (N := r.2.2) hts hin ty0 hty hnm hKx.va hr
  obtain ⟨hSl, hfc, kC, hkC, hkind⟩ := hKx.1 _ _ hr
  obtain ⟨cf, kf, fi, f, hi, hsl⟩ := hSl (xFp F) hk
  have hlay := hts _ (hin _ (u_in_lay hk))
  unfold u_lay at hlay
  have hst := (u_facts hfc hkC (u_lays hts hin hk) hi).1
  rw [ht] at hlay hi
  rw [if_neg (fun h => by cases h)] at hlay
  have h6 := u_store hfc hkC hkind hlay hi hd hn hfit
  refine W.putK hx hb (f := f) ⟨hown, hts _ hl, ⟨_, _, _, hsame _ hi⟩, hst⟩ (by rw [q2]; exact h6) q1 q3 (by rw [hsl]; exact k2_hasslot (q4 _ hk)) rfl rfl hdg fun H' e1 e2 e3 => ?_
  rw [hsl] at e1 ⊢
  exact kk _ H' _ (hW.set (e := .inr (ci, fs.set (xFp F) v)) ((xAt_o h64).mpr ⟨r, hr, t_OB.to (V := updV (vp_V fs) (xFp F) v) ⟨_, e1, q2, q3, t_set q4 hap hk v⟩ (fun j _ => vp_updV_set hlen v j)⟩) hA e3) (hS.put e2 e3 hA) hKK
theorem sh_putN (C : xC p m c s args cc nL own V A) (hW : xW V A G H) (hS : va_S A s.heap H locs) {F : Nat} {o : Option Nat} {ow ref nm ds host : String} (hF : xFb F ow nm ds false = true) {index : Nat} (hl : Cond.fieldLinkNest own index ref nm ds host ∈ lw_tbl) (hsame : ∀ x, s.fieldFound? ow nm ds = some x → s.fieldFound? ref nm ds = some x) {ty : FieldType} {v : Value} (hd : parseFieldDescriptor ds = some ty) (hn : narrow ty v = v) (hfit : fits ty v = true) {K : GM → Prop} (h : gPF G F o v K) (hdg : decode cc pc = .ok (.putfield index, 3))
    (kk : ∀ (G1 : GM) (H1 : Heap) (locs1 : List Loc), xW V A G1 H1 → va_S A s.heap H1 locs1 → K G1 → W p l e R s m args below meth c H1 locs1 cells slots Q (F0 m (pc + 3) ls rest)) : W p l e R s m args below meth c H locs cells slots Q (F0 m pc ls (v :: va_rf o :: rest)) := by
  obtain ⟨⟨hx, hb, -, hown, hts⟩, hKx, -⟩ := C
  obtain ⟨a, ci, fs, ho, hG, hci, h64, hlen, hKK⟩ := h
  subst ho
  have h1 := List.all_eq_true.mp hF ci hci
  have hA : A a := (hW.1 a _ hG).2 (by show decide (64 ≤ ci) = false; exact decide_eq_false (Nat.not_le.mpr h64))
  obtain ⟨r, hr, cell, q1, q2, q3, q4⟩ := (xAt_o h64).mp (hW.1 a _ hG).1
  rw [hr] at h1
  simp only [Bool.and_eq_true, decide_eq_true_eq] at h1
  obtain ⟨hk, ht⟩ := h1
  obtain ⟨⟨ty0, hty⟩, hnm⟩ := xCl_ty _ _ hr
  have hin := xCl_in _ _ hr
  have hap := va_apart (own := own) (C := r.1) (T := r.2.1) (N := r.2.2) hts hin ty0 hty hnm hKx.va hr
  obtain ⟨hSl, hfc, kC, hkC, hkind⟩ := hKx.1 _ _ hr
  obtain ⟨cf, kf, fi, f, hi, hsl⟩ := hSl (xFp F) hk
  have hlay := hts _ (hin _ (u_in_lay hk))
  unfold u_lay at hlay
  have hst := (u_facts hfc hkC (u_lays hts hin hk) hi).1
  rw [ht] at hlay hi
  rw [if_neg (fun h => by cases h)] at hlay
  have h6 := u_store hfc hkC hkind hlay hi hd hn hfit
  refine va_WputK hx hb (f := f) hown (va_Nw.use rfl (hKx.2.2.1 _ hl rfl)) (hsame _ hi) hst (by rw [q2]; exact h6) q1 q3 (by rw [hsl]; exact k2_hasslot (q4 _ hk)) rfl rfl hdg fun H' e1 e2 e3 => ?_
  rw [hsl] at e1 ⊢
  exact kk _ H' _ (hW.set (e := .inr (ci, fs.set (xFp F) v)) ((xAt_o h64).mpr ⟨r, hr, t_OB.to (V := updV (vp_V fs) (xFp F) v) ⟨_, e1, q2, q3, t_set q4 hap hk v⟩ (fun j _ => vp_updV_set hlen v j)⟩) hA e3) (hS.put e2 e3 hA) hKK
theorem sh_putF (C : xC p m c s args cc nL own V A) (hW : xW V A G H) (hS : va_S A s.heap H locs) {F : Nat} {o : Option Nat} {ow ref nm ds : String} (hF : xFb F ow nm ds true = true) {index : Nat} (hl : Cond.fieldLink own index ref nm ds ∈ lw_all) (hsame : ∀ x, s.fieldFound? ow nm ds = some x → s.fieldFound? ref nm ds = some x) (hin2 : meth.name = "<init>") (hdecl : ow = own) {ty : FieldType} {v : Value} (hd : parseFieldDescriptor ds = some ty) (hn : narrow ty v = v) (hfit : fits ty v = true) {K : GM → Prop} (h : gPF G F o v K) (hdg : decode cc pc = .ok (.putfield index, 3))
    (kk : ∀ (G1 : GM) (H1 : Heap) (locs1 : List Loc), xW V A G1 H1 → va_S A s.heap H1 locs1 → K G1 → W p l e R s m args below meth c H1 locs1 cells slots Q (F0 m (pc + 3) ls rest)) : W p l e R s m args below meth c H locs cells slots Q (F0 m pc ls (v :: va_rf o :: rest)) := by
  obtain ⟨⟨hx, hb, -, hown, hts⟩, hKx, -⟩ := C
  obtain ⟨a, ci, fs, ho, hG, hci, h64, hlen, hKK⟩ := h
  subst ho
  have h1 := List.all_eq_true.mp hF ci hci
  have hA : A a := (hW.1 a _ hG).2 (by show decide (64 ≤ ci) = false; exact decide_eq_false (Nat.not_le.mpr h64))
  obtain ⟨r, hr, cell, q1, q2, q3, q4⟩ := (xAt_o h64).mp (hW.1 a _ hG).1
  rw [hr] at h1
  simp only [Bool.and_eq_true, decide_eq_true_eq] at h1
  obtain ⟨hk, ht⟩ := h1
  obtain ⟨⟨ty0, hty⟩, hnm⟩ := xCl_ty _ _ hr
  have hin := xCl_in _ _ hr
  have hap := va_apart (own := own) (C := r.1) (T := r.2.1) (N := r.2.2) hts hin ty0 hty hnm hKx.va hr
  obtain ⟨hSl, hfc, kC, hkC, hkind⟩ := hKx.1 _ _ hr
  obtain ⟨cf, kf, fi, f, hi, hsl⟩ := hSl (xFp F) hk
  have hlay := hts _ (hin _ (u_in_lay hk))
  unfold u_lay at hlay
  have hst := (u_facts hfc hkC (u_lays hts hin hk) hi).1
  rw [ht] at hlay hi
  rw [if_pos rfl] at hlay
  have hcf : m.cls = cf := by
    obtain ⟨_, _, c', _, _, _, -, -, hf', -, -, -, hown2, -⟩ := Cond.laysFinal_spec hlay
    have e1 : c' = cf := by have := hi.symm.trans hf'; simp at this; exact this.1.symm
    rw [hdecl] at hown2
    rw [← e1]; exact Option.some.inj (hown.symm.trans hown2)
  have h6 := u_fits hfc hkC hkind (Or.inr hlay) hi hd hn hfit
  refine W.putFinK hx hb hown (hts _ hl) (hsame _ hi) hst hcf hin2 (by rw [q2]; exact h6) q1 q3 (by rw [hsl]; exact k2_hasslot (q4 _ hk)) rfl rfl hdg fun H' e1 e2 e3 => ?_
  rw [hsl] at e1 ⊢
  exact kk _ H' _ (hW.set (e := .inr (ci, fs.set (xFp F) v)) ((xAt_o h64).mpr ⟨r, hr, t_OB.to (V := updV (vp_V fs) (xFp F) v) ⟨_, e1, q2, q3, t_set q4 hap hk v⟩ (fun j _ => vp_updV_set hlen v j)⟩) hA e3) (hS.put e2 e3 hA) hKK
theorem sh_in {n j : Nat} (h : j < n) (hN : n < 2 ^ 31) {f : Nat → Value} {cA : ClassId} : ¬ (nI j < 0 ∨ (arrV cA n f).slots.size ≤ (nI j).toNatClampNeg) := by rw [arrV_size]; exact nI_in h hN
theorem sh_vin {n j : Nat} (h : j < n) (hN : n < 2 ^ 31) : vp_in (nI j) n := vp_in_nI h hN
theorem sh_inC {n j k : Nat} (h : j < n) (hN : n < 2 ^ 31) (hk : n ≤ k) : ¬ (nI j < 0 ∨ k ≤ (nI j).toNatClampNeg) := by
  rw [nI_clamp (Nat.lt_trans h hN)]
  intro q
  rcases q with q | q
  · exact (nI_pos (Nat.lt_trans h hN)) q
  · omega
theorem sh_len (C : xC p m c s args cc nL own V A) (hW : xW V A G H) {o : Option Nat} {K : Int32 → Prop} (h : gLn G o K) (hdg : decode cc pc = .ok (.arraylength, 1))
    (kk : ∀ v : Int32, K v → W p l e R s m args below meth c H locs cells slots Q (F0 m (pc + 1) ls (.int v :: rest))) : W p l e R s m args below meth c H locs cells slots Q (F0 m pc ls (va_rf o :: rest)) := by
  obtain ⟨⟨hx, hb, -, hown, hts⟩, hKx, -⟩ := C
  obtain ⟨n, h1, h⟩ := h
  cases o with
  | none => cases h1
  | some a =>
    obtain ⟨t, x, hG, ht⟩ := gAN_of h1
    obtain ⟨cell, g1, g2, g3, g4, g5, g6, g7⟩ := hW.cellA hKx hG ht
    exact W.alen (n := nI n) hx hb g1 g2 g6 rfl rfl hdg (kk _ h)
theorem sh_iald (C : xC p m c s args cc nL own V A) (hW : xW V A G H) {o : Option Nat} {i : Int32} {K : Int32 → Prop} (h : gIL G 0 o i K) (hdg : decode cc pc = .ok (.iaload, 1))
    (kk : ∀ v : Int32, K v → W p l e R s m args below meth c H locs cells slots Q (F0 m (pc + 1) ls (.int v :: rest))) : W p l e R s m args below meth c H locs cells slots Q (F0 m pc ls (.int i :: va_rf o :: rest)) := by
  obtain ⟨⟨hx, hb, -, hown, hts⟩, hKx, -⟩ := C
  obtain ⟨n, f, j, h1, h2, h3, h4, h⟩ := h
  subst h2
  cases o with
  | none => cases h1
  | some a =>
    obtain ⟨t, hG, ht⟩ := gAI_of h1
    obtain ⟨cell, g1, g2, g3, g4, g5, g6, g7⟩ := hW.cellA hKx hG (by omega)
    rw [ht] at g2
    exact W.iald (v := .int (f j)) hx hb g1 g2 g3 (sh_inC h3 h4 g5) (by rw [nI_clamp (Nat.lt_trans h3 h4)]; exact g7 j h3) rfl rfl hdg (kk _ h)
theorem sh_bald (C : xC p m c s args cc nL own V A) (hW : xW V A G H) {o : Option Nat} {i : Int32} {K : Int32 → Prop} (h : gIL G 2 o i K) (hdg : decode cc pc = .ok (.baload, 1))
    (kk : ∀ v : Int32, K v → W p l e R s m args below meth c H locs cells slots Q (F0 m (pc + 1) ls (.int v :: rest))) : W p l e R s m args below meth c H locs cells slots Q (F0 m pc ls (.int i :: va_rf o :: rest)) := by
  obtain ⟨⟨hx, hb, -, hown, hts⟩, hKx, -⟩ := C
  obtain ⟨n, f, j, h1, h2, h3, h4, h⟩ := h
  subst h2
  cases o with
  | none => cases h1
  | some a =>
    obtain ⟨t, hG, ht⟩ := gAI_of h1
    obtain ⟨cell, g1, g2, g3, g4, g5, g6, g7⟩ := hW.cellA hKx hG (by omega)
    rw [ht] at g2
    exact W.bald (v := .int (f j)) hx hb g1 g2 g3 (sh_inC h3 h4 g5) (by rw [nI_clamp (Nat.lt_trans h3 h4)]; exact g7 j h3) rfl rfl hdg (kk _ h)
theorem sh_zald (C : xC p m c s args cc nL own V A) (hW : xW V A G H) {o : Option Nat} {i : Int32} {K : Int32 → Prop} (h : gIL G 3 o i K) (hdg : decode cc pc = .ok (.baload, 1))
    (kk : ∀ v : Int32, K v → W p l e R s m args below meth c H locs cells slots Q (F0 m (pc + 1) ls (.int v :: rest))) : W p l e R s m args below meth c H locs cells slots Q (F0 m pc ls (.int i :: va_rf o :: rest)) := by
  obtain ⟨⟨hx, hb, -, hown, hts⟩, hKx, -⟩ := C
  obtain ⟨n, f, j, h1, h2, h3, h4, h⟩ := h
  subst h2
  cases o with
  | none => cases h1
  | some a =>
    obtain ⟨t, hG, ht⟩ := gAI_of h1
    obtain ⟨cell, g1, g2, g3, g4, g5, g6, g7⟩ := hW.cellA hKx hG (by omega)
    rw [ht] at g2
    exact W.zald (v := .int (f j)) hx hb g1 g2 g3 (sh_inC h3 h4 g5) (by rw [nI_clamp (Nat.lt_trans h3 h4)]; exact g7 j h3) rfl rfl hdg (kk _ h)
theorem sh_lald (C : xC p m c s args cc nL own V A) (hW : xW V A G H) {o : Option Nat} {i : Int32} {K : Int64 → Prop} (h : gJL G 1 o i K) (hdg : decode cc pc = .ok (.laload, 1))
    (kk : ∀ v : Int64, K v → W p l e R s m args below meth c H locs cells slots Q (F0 m (pc + 1) ls (.long v :: rest))) : W p l e R s m args below meth c H locs cells slots Q (F0 m pc ls (.int i :: va_rf o :: rest)) := by
  obtain ⟨⟨hx, hb, -, hown, hts⟩, hKx, -⟩ := C
  obtain ⟨n, f, j, h1, h2, h3, h4, h⟩ := h
  subst h2
  cases o with
  | none => cases h1
  | some a =>
    obtain ⟨t, hG, ht⟩ := gAJ_of h1
    obtain ⟨cell, g1, g2, g3, g4, g5, g6, g7⟩ := hW.cellA hKx hG (by omega)
    rw [ht] at g2
    exact W.lald (v := .long (f j)) hx hb g1 g2 g3 (sh_inC h3 h4 g5) (by rw [nI_clamp (Nat.lt_trans h3 h4)]; exact g7 j h3) rfl rfl hdg (kk _ h)
theorem sh_aald (C : xC p m c s args cc nL own V A) (hW : xW V A G H) {o : Option Nat} {i : Int32} {K : Option Nat → Prop} (h : gRL G o i K) (hdg : decode cc pc = .ok (.aaload, 1))
    (kk : ∀ v : Option Nat, K v → W p l e R s m args below meth c H locs cells slots Q (F0 m (pc + 1) ls (va_rf v :: rest))) : W p l e R s m args below meth c H locs cells slots Q (F0 m pc ls (.int i :: va_rf o :: rest)) := by
  obtain ⟨⟨hx, hb, -, hown, hts⟩, hKx, -⟩ := C
  obtain ⟨t, n, f, j, h1, h2, h3, h4, h⟩ := h
  subst h2
  cases o with
  | none => cases h1
  | some a =>
    obtain ⟨t', hG, ht, h5, h7⟩ := gAR_of h1
    obtain ⟨cell, g1, g2, g3, g4, g5, g6, g7⟩ := hW.cellA hKx hG (by omega)
    rw [ht] at g2
    have key : ∃ E, xTy t = .object E := by
      rcases (show t = 5 ∨ t = 6 ∨ t = 7 by omega) with e | e | e <;> subst e <;> exact ⟨_, rfl⟩
    obtain ⟨E, hE⟩ := key
    rw [hE] at g2
    exact W.aald (v := va_rf (f j)) (ty := .object E) hx hb g1 g2 rfl g3 (sh_inC h3 h4 g5) (by rw [nI_clamp (Nat.lt_trans h3 h4)]; exact g7 j h3) rfl rfl hdg (kk _ h)
theorem sh_iast (C : xC p m c s args cc nL own V A) (hW : xW V A G H) (hS : va_S A s.heap H locs) {o : Option Nat} {i : Int32} {v : Int32} {K : GM → Prop} (h : gIS G 0 o i v K) (hdg : decode cc pc = .ok (.iastore, 1))
    (kk : ∀ (G1 : GM) (H1 : Heap) (locs1 : List Loc), xW V A G1 H1 → va_S A s.heap H1 locs1 → K G1 → W p l e R s m args below meth c H1 locs1 cells slots Q (F0 m (pc + 1) ls rest)) : W p l e R s m args below meth c H locs cells slots Q (F0 m pc ls (.int v :: .int i :: va_rf o :: rest)) := by
  obtain ⟨⟨hx, hb, -, hown, hts⟩, hKx, -⟩ := C
  obtain ⟨a, n, f, j, ho, hG, h2, h3, h4, h⟩ := h
  subst h2 ho
  have hA : A a := (hW.1 a _ hG).2 rfl
  have hc : H[a]? = some (arrV (V.2.2.1 0) n (fun j => .int (f j))) := (hW.1 a _ hG).1
  refine W.iast hx hb hc ((hKx.2.1 0 (by decide)).1 n (fun j => .int (f j))) (fun q => by cases q) (sh_in h3 h4) rfl rfl hdg fun H1 e z oq => ?_
  refine kk _ H1 _ (hW.set ?_ hA oq) (hS.put z oq hA) h
  show H1[a]? = some (vp_cell _ _)
  rw [e, vp_cell_i, arrV_store, nI_clamp (Nat.lt_trans h3 h4)]
  congr 2
  funext q
  by_cases hq : q = j
  · subst hq
    simp [updV, upd]
    try rfl
  · simp [updV, upd, hq]
theorem sh_bast (C : xC p m c s args cc nL own V A) (hW : xW V A G H) (hS : va_S A s.heap H locs) {o : Option Nat} {i : Int32} {v : Int32} {K : GM → Prop} (h : gIS G 2 o i (vp_nar .byte v) K) (hdg : decode cc pc = .ok (.bastore, 1))
    (kk : ∀ (G1 : GM) (H1 : Heap) (locs1 : List Loc), xW V A G1 H1 → va_S A s.heap H1 locs1 → K G1 → W p l e R s m args below meth c H1 locs1 cells slots Q (F0 m (pc + 1) ls rest)) : W p l e R s m args below meth c H locs cells slots Q (F0 m pc ls (.int v :: .int i :: va_rf o :: rest)) := by
  obtain ⟨⟨hx, hb, -, hown, hts⟩, hKx, -⟩ := C
  obtain ⟨a, n, f, j, ho, hG, h2, h3, h4, h⟩ := h
  subst h2 ho
  have hA : A a := (hW.1 a _ hG).2 rfl
  have hc : H[a]? = some (arrV (V.2.2.1 2) n (fun j => .int (f j))) := (hW.1 a _ hG).1
  refine W.bast hx hb hc ((hKx.2.1 2 (by decide)).1 n (fun j => .int (f j))) (fun q => by cases q) (sh_in h3 h4) rfl rfl hdg fun H1 e z oq => ?_
  refine kk _ H1 _ (hW.set ?_ hA oq) (hS.put z oq hA) h
  show H1[a]? = some (vp_cell _ _)
  rw [e, vp_cell_i, arrV_store, nI_clamp (Nat.lt_trans h3 h4)]
  congr 2
  funext q
  by_cases hq : q = j
  · subst hq
    simp [updV, upd, vp_nar]
    try rfl
  · simp [updV, upd, vp_nar, hq]
theorem sh_zast (C : xC p m c s args cc nL own V A) (hW : xW V A G H) (hS : va_S A s.heap H locs) {o : Option Nat} {i : Int32} {v : Int32} {K : GM → Prop} (h : gIS G 3 o i (vp_nar .boolean v) K) (hdg : decode cc pc = .ok (.bastore, 1))
    (kk : ∀ (G1 : GM) (H1 : Heap) (locs1 : List Loc), xW V A G1 H1 → va_S A s.heap H1 locs1 → K G1 → W p l e R s m args below meth c H1 locs1 cells slots Q (F0 m (pc + 1) ls rest)) : W p l e R s m args below meth c H locs cells slots Q (F0 m pc ls (.int v :: .int i :: va_rf o :: rest)) := by
  obtain ⟨⟨hx, hb, -, hown, hts⟩, hKx, -⟩ := C
  obtain ⟨a, n, f, j, ho, hG, h2, h3, h4, h⟩ := h
  subst h2 ho
  have hA : A a := (hW.1 a _ hG).2 rfl
  have hc : H[a]? = some (arrV (V.2.2.1 3) n (fun j => .int (f j))) := (hW.1 a _ hG).1
  refine W.zast hx hb hc ((hKx.2.1 3 (by decide)).1 n (fun j => .int (f j))) (fun q => by cases q) (sh_in h3 h4) rfl rfl hdg fun H1 e z oq => ?_
  refine kk _ H1 _ (hW.set ?_ hA oq) (hS.put z oq hA) h
  show H1[a]? = some (vp_cell _ _)
  rw [e, vp_cell_i, arrV_store, nI_clamp (Nat.lt_trans h3 h4)]
  congr 2
  funext q
  by_cases hq : q = j
  · subst hq
    simp [updV, upd, vp_nar]
    try rfl
  · simp [updV, upd, vp_nar, hq]
theorem sh_last (C : xC p m c s args cc nL own V A) (hW : xW V A G H) (hS : va_S A s.heap H locs) {o : Option Nat} {i : Int32} {v : Int64} {K : GM → Prop} (h : gJS G 1 o i v K) (hdg : decode cc pc = .ok (.lastore, 1))
    (kk : ∀ (G1 : GM) (H1 : Heap) (locs1 : List Loc), xW V A G1 H1 → va_S A s.heap H1 locs1 → K G1 → W p l e R s m args below meth c H1 locs1 cells slots Q (F0 m (pc + 1) ls rest)) : W p l e R s m args below meth c H locs cells slots Q (F0 m pc ls (.long v :: .int i :: va_rf o :: rest)) := by
  obtain ⟨⟨hx, hb, -, hown, hts⟩, hKx, -⟩ := C
  obtain ⟨a, n, f, j, ho, hG, h2, h3, h4, h⟩ := h
  subst h2 ho
  have hA : A a := (hW.1 a _ hG).2 rfl
  have hc : H[a]? = some (arrV (V.2.2.1 1) n (fun j => .long (f j))) := (hW.1 a _ hG).1
  refine W.last hx hb hc ((hKx.2.1 1 (by decide)).1 n (fun j => .long (f j))) (fun q => by cases q) (sh_in h3 h4) rfl rfl hdg fun H1 e z oq => ?_
  refine kk _ H1 _ (hW.set ?_ hA oq) (hS.put z oq hA) h
  show H1[a]? = some (vp_cell _ _)
  rw [e, vp_cell_l, arrV_store, nI_clamp (Nat.lt_trans h3 h4)]
  congr 2
  funext q
  by_cases hq : q = j
  · subst hq
    simp [updV, vp_updL]
    try rfl
  · simp [updV, vp_updL, hq]
theorem sh_dast (C : xC p m c s args cc nL own V A) (hW : xW V A G H) (hS : va_S A s.heap H locs) {o : Option Nat} {i : Int32} {v : UInt64} {K : GM → Prop} (h : gDS G 4 o i v K) (hdg : decode cc pc = .ok (.dastore, 1))
    (kk : ∀ (G1 : GM) (H1 : Heap) (locs1 : List Loc), xW V A G1 H1 → va_S A s.heap H1 locs1 → K G1 → W p l e R s m args below meth c H1 locs1 cells slots Q (F0 m (pc + 1) ls rest)) : W p l e R s m args below meth c H locs cells slots Q (F0 m pc ls (.double v :: .int i :: va_rf o :: rest)) := by
  obtain ⟨⟨hx, hb, -, hown, hts⟩, hKx, -⟩ := C
  obtain ⟨a, n, f, j, ho, hG, h2, h3, h4, h⟩ := h
  subst h2 ho
  have hA : A a := (hW.1 a _ hG).2 rfl
  have hc : H[a]? = some (arrV (V.2.2.1 4) n (fun j => .double (f j))) := (hW.1 a _ hG).1
  refine W.dast hx hb hc ((hKx.2.1 4 (by decide)).1 n (fun j => .double (f j))) (fun q => by cases q) (sh_in h3 h4) rfl rfl hdg fun H1 e z oq => ?_
  refine kk _ H1 _ (hW.set ?_ hA oq) (hS.put z oq hA) h
  show H1[a]? = some (vp_cell _ _)
  rw [e, vp_cell_d, arrV_store, nI_clamp (Nat.lt_trans h3 h4)]
  congr 2
  funext q
  by_cases hq : q = j
  · subst hq
    simp [updV, vf_upd]
    try rfl
  · simp [updV, vf_upd, hq]
/-- what gOk says, over the machine -/
theorem gOk_any (hKx : xK V s) (hW : xW V A G H) {t b : Nat} (h5 : 5 ≤ t) (h7 : t ≤ 7) (h : gOk G t (some b)) {E : String} (hE : xTy t = .object E) : va_Any E s H b := by
  have cast : ∀ {C : String} {ci : Nat} {fs : List Value} (w : Cond.castable C E ∈ lw_tbl), G b = some (.inr (ci, fs)) → (∃ r : vw_C, xCl[ci % 64]? = some r ∧ r.1 = C) → va_Any E s H b := by
    intro C ci fs w hG hr
    obtain ⟨r, hr, rfl⟩ := hr
    obtain ⟨cell, g1, g2, g3⟩ := hW.recv hKx hG hr
    obtain ⟨kC, hkC, -⟩ := Vm.findClass_spec g3
    refine ⟨cell, g1, g2, ⟨kC, hkC⟩, fun comp hcomp => ?_⟩
    obtain ⟨c0, t0, f1, f2, f3⟩ := Cond.castable_spec (hKx.2.2.1 _ w rfl)
    cases hcomp.symm.trans f2
    cases g3.symm.trans f1
    exact f3
  unfold gOk at h
  simp only at h
  split at h
  · rename_i x hx
    obtain ⟨rfl, h0⟩ := h
    cases hE
    have hP := (hW.1 b _ hx).1
    obtain ⟨t0, n, cc0⟩ := x
    have hc : H[b]? = some (vp_cell (V.2.2.1 0) (n, cc0)) := by have := (xAt_a (by simp only at h0; omega)).mp hP; simp only at h0; rw [h0] at this; exact this
    have hcl : (vp_cell (V.2.2.1 0) (n, cc0)).cls = V.2.2.1 0 := by obtain f | f | f | f | f := cc0 <;> rfl
    have hvm : (vp_cell (V.2.2.1 0) (n, cc0)).vm = .none := by obtain f | f | f | f | f := cc0 <;> rfl
    have hI : s.vm.findClass "[I" = some (V.2.2.1 0) := (hKx.2.1 0 (by decide)).2
    obtain ⟨kC, hkC, -⟩ := Vm.findClass_spec hI
    refine ⟨_, hc, by rw [hvm]; rfl, ⟨kC, by rw [hcl]; exact hkC⟩, fun comp hcomp => ?_⟩
    obtain ⟨c0, t1, f1, f2, f3⟩ := Cond.castable_spec (hKx.2.2.1 _ q2260 rfl)
    cases hcomp.symm.trans f2
    cases hI.symm.trans f1
    rw [hcl]
    exact f3
  · rename_i x hx
    obtain ⟨ci, fs⟩ := x
    rcases (show t = 5 ∨ t = 6 ∨ t = 7 by omega) with e | e | e
    · subst e
      rw [if_neg (by decide), if_neg (by decide)] at h
      cases hE
      simp only at h
      rcases h with h | h | h | h | h | h | h <;> subst h
      · exact cast q2237 hx ⟨_, rfl, rfl⟩
      · exact cast q2239 hx ⟨_, rfl, rfl⟩
      · exact cast q2240 hx ⟨_, rfl, rfl⟩
      · exact cast q2243 hx ⟨_, rfl, rfl⟩
      · exact cast q2244 hx ⟨_, rfl, rfl⟩
      · exact cast q2245 hx ⟨_, rfl, rfl⟩
      · exact cast q2249 hx ⟨_, rfl, rfl⟩
    · subst e
      rw [if_neg (by decide), if_pos rfl] at h
      cases hE
      simp only at h
      rcases h with h | h | h | h <;> subst h
      · exact cast q2223 hx ⟨_, rfl, rfl⟩
      · exact cast q2224 hx ⟨_, rfl, rfl⟩
      · exact cast q2221 hx ⟨_, rfl, rfl⟩
      · exact cast q2222 hx ⟨_, rfl, rfl⟩
    · subst e
      rw [if_pos rfl] at h
      cases hE
      simp only at h
      subst h
      obtain ⟨cell, g1, g2, g3⟩ := hW.recv hKx hx (r := (RX8, TX8, 2)) rfl
      obtain ⟨kC, hkC, -⟩ := Vm.findClass_spec g3
      refine ⟨cell, g1, g2, ⟨kC, hkC⟩, fun comp hcomp => ?_⟩
      cases hcomp.symm.trans g3
      exact va_asg _ _
  · exact False.elim h
theorem sh_aast (C : xC p m c s args cc nL own V A) (hW : xW V A G H) (hS : va_S A s.heap H locs) {o v : Option Nat} {i : Int32} {K : GM → Prop} (h : gRS G o i v K) (hdg : decode cc pc = .ok (.aastore, 1))
    (kk : ∀ (G1 : GM) (H1 : Heap) (locs1 : List Loc), xW V A G1 H1 → va_S A s.heap H1 locs1 → K G1 → W p l e R s m args below meth c H1 locs1 cells slots Q (F0 m (pc + 1) ls rest)) : W p l e R s m args below meth c H locs cells slots Q (F0 m pc ls (va_rf v :: .int i :: va_rf o :: rest)) := by
  obtain ⟨⟨hx, hb, -, hown, hts⟩, hKx, -⟩ := C
  obtain ⟨a, t, n, f, j, ho, hG, h5, h7, hv, h2, h3, h4, h⟩ := h
  subst h2 ho
  have hA : A a := (hW.1 a _ hG).2 (by show decide (16 ≤ t) = false; exact decide_eq_false (by omega))
  have key : ∃ E, xTy t = .object E := by
    rcases (show t = 5 ∨ t = 6 ∨ t = 7 by omega) with e | e | e <;> subst e <;> exact ⟨_, rfl⟩
  obtain ⟨E, hE⟩ := key
  have htm : t % 16 = t := Nat.mod_eq_of_lt (by omega)
  have hc : H[a]? = some (vp_cell (V.2.2.1 t) (n, .inr (.inr (.inr (.inr f))))) := by
    have := (xAt_a (by omega)).mp (hW.1 a _ hG).1
    rw [htm] at this
    exact this
  have hT := hKx.2.1 t (by omega)
  rw [hE] at hT
  have h31 := Nat.lt_trans h3 h4
  have fin : ∀ (H1 : Heap) (z : H1.size = H.size) (oq : ∀ q : Nat, q ≠ a → H1[q]? = H[q]?) (x : Nat), H1[a]? = some ((vp_cell (V.2.2.1 t) (n, .inr (.inr (.inr (.inr f))))).setSlot j (va_rf v)) → W p l e R s m args below meth c H1 (locs ++ [⟨a, x⟩]) cells slots Q (F0 m (pc + 1) ls rest) := by
    intro H1 z oq x e1
    refine kk _ H1 _ (hW.set ?_ hA oq) (hS.put z oq hA) h
    refine (xAt_a (by omega)).mpr ?_
    rw [htm, e1, vp_cell_q, vp_cell_q, arrV_store]
    congr 2
    funext q
    by_cases hq : q = j
    · subst hq; simp [updV, va_up]
    · simp [updV, va_up, hq]
  cases v with
  | none =>
    refine va_WaastN (C := E) hx hb hc (hT.1 n (fun j => va_rf (f j))) (fun h => by cases h) (sh_in h3 h4) rfl rfl hdg fun H1 e z oq => ?_
    exact fin H1 z oq _ (by rw [e, nI_clamp h31]; rfl)
  | some b =>
    obtain ⟨cellV, g1, g3, ⟨kC, hkC⟩, hasg⟩ := gOk_any hKx hW h5 h7 hv hE
    obtain ⟨kA, comp, k1, k2, k3, -⟩ := hT.2
    obtain ⟨kE, hkE, -⟩ := Vm.findClass_spec k3
    refine W.aast hx hb hc (fun q h => by cases h) (fun h => by cases h) k1 k2 rfl hkE ⟨nI_pos h31, by rw [nI_clamp h31]; show _ < (arrV _ _ _).slots.size; rw [arrV_size]; exact h3⟩ g1 (fun q h => by rw [h] at g3; cases g3) hkC (hasg _ k3) rfl rfl hdg fun H1 e z oq => ?_
    exact fin H1 z oq _ (by rw [e, nI_clamp h31]; rfl)
/-- making an object -/
theorem sh_new {c0 : Code} (C : xC p m c0 s args cc nL own V A) (hW : xW V A G H) (hS : va_S A s.heap H locs) {Cn : String} {T : u_T} {N ci index kc ks : Nat} (hr : xCl[ci]? = some (Cn, T, N)) (h64 : ci < 64) (hcl : Cond.classLink own index Cn ∈ lw_all) (hinst : Cond.instantiable Cn N ∈ lw_all) (hini : Cond.initialized Cn ∈ lw_all) {ty : Nat → FieldType} (hty : ∀ k, k < N → parseFieldDescriptor (T k).2.2.1 = some (ty k)) {fs : List Value} (hfs : ∀ j, j < N → defaultValue (ty j) = vp_V fs j) {K : Nat → GM → Prop} (h : gNw G ci N fs kc ks K) (hkc : cells + kc ≤ R.cells) (hks : slots + ks ≤ R.slots) (hdg : decode cc pc = .ok (.new index, 3))
    (kk : ∀ (q : Nat) (G1 : GM) (H1 : Heap), xW V A G1 H1 → va_S A s.heap H1 locs → K q G1 → (cells + 1) + (kc - 1) ≤ R.cells → (slots + N) + (ks - N) ≤ R.slots → W p l e R s m args below meth c0 H1 locs (cells + 1) (slots + N) Q (F0 m (pc + 3) ls (va_rf (some q) :: rest))) : W p l e R s m args below meth c0 H locs cells slots Q (F0 m pc ls rest) := by
  obtain ⟨⟨hx, hb, -, hown, hts⟩, hKx, -, hA⟩ := C
  obtain ⟨h1, h2, h3⟩ := h
  have hKn := hKx.1 ci _ hr
  refine W.newcK hx hb hown (hts _ hcl) (hts _ hinst) (hts _ hini) rfl hdg (by omega) (by omega) hKn.2.1 rfl fun H1 kC hkC e1 z1 o1 => ?_
  have hb1 := u_born ty hts (xCl_in _ _ hr) hKn hkC e1 hty
  refine kk H.size _ H1 (hW.new (e := .inr (ci, fs)) ((xAt_o h64).mpr ⟨_, by rw [Nat.mod_eq_of_lt h64]; exact hr, ?_⟩) (hA _ hS.1) o1) ⟨Nat.le_trans hS.1 (by omega), fun x g1 g2 => (o1 x (Nat.lt_of_lt_of_le g1 hS.1)).trans (hS.2.1 x g1 g2), hS.2.2⟩ (h3 _ (hW.fresh (Nat.le_refl _))) (by omega) (by omega)
  show t_OB H.size (V.1 (ci % 64)) N (V.2.1 (ci % 64)) H1 (vp_V fs)
  rw [Nat.mod_eq_of_lt h64]
  exact hb1.to hfs
/-- making an array of ints, longs, bytes .. -/
theorem sh_newa (C : xC p m c s args cc nL own V A) (hW : xW V A G H) (hS : va_S A s.heap H locs) {atype : ArrayType} {t kc ks : Nat} (ht : newarray.typeOf atype = xTy t) (h9 : t < 5) (harr : Cond.arrayClass (newarray.typeOf atype) ∈ lw_all) {mk : Nat → vp_A} (hmk : ∀ N cA, vp_cell cA (mk N) = arrV cA N (fun _ => defaultValue (xTy t))) (hby : componentBytes (xTy t) ≤ 8) {n : Int32} {K : Nat → Nat → GM → Prop} (h : gNa G t mk n kc ks K) (hkc : cells + kc ≤ R.cells) (hks : slots + ks ≤ R.slots) (hdg : decode cc pc = .ok (.newarray atype, 2))
    (kk : ∀ (q N : Nat) (G1 : GM) (H1 : Heap), xW V A G1 H1 → va_S A s.heap H1 locs → K q N G1 → N ≤ ks → (cells + 1) + (kc - 1) ≤ R.cells → (slots + N) + (ks - N) ≤ R.slots → W p l e R s m args below meth c H1 locs (cells + 1) (slots + N) Q (F0 m (pc + 2) ls (va_rf (some q) :: rest))) : W p l e R s m args below meth c H locs cells slots Q (F0 m pc ls (.int n :: rest)) := by
  obtain ⟨⟨hx, hb, -, hown, hts⟩, hKx, -, hA⟩ := C
  obtain ⟨N, hn, h1, h2, h3, h4⟩ := h
  subst hn
  have h31 : N < 2 ^ 31 := by omega
  refine va_newaK hx hb (hts _ harr) rfl hdg rfl (nI_pos h31) (nI_clamp h31) ?_ (by omega) (by omega) rfl fun H1 cA e1 z1 o1 hAr hNm => ?_
  · rw [ht]
    calc N * componentBytes (xTy t) ≤ 65536 * 8 := Nat.mul_le_mul h1 hby
      _ ≤ 536870912 := by decide
  · have hcA : cA = V.2.2.1 t := by
      have h5 := (hKx.2.1 t (by omega)).2
      rw [ht] at hNm
      rcases (show t = 0 ∨ t = 1 ∨ t = 2 ∨ t = 3 ∨ t = 4 by omega) with e | e | e | e | e <;> subst e <;> exact Option.some.inj (hNm.symm.trans h5)
    refine kk H.size N _ H1 (hW.new (e := .inl (t, mk N)) ?_ (hA _ hS.1) o1) ⟨Nat.le_trans hS.1 (by omega), fun x g1 g2 => (o1 x (Nat.lt_of_lt_of_le g1 hS.1)).trans (hS.2.1 x g1 g2), hS.2.2⟩ (h4 _ (hW.fresh (Nat.le_refl _))) h3 (by omega) (by omega)
    refine (xAt_a (by omega)).mpr ?_
    rw [Nat.mod_eq_of_lt (by omega), hmk, e1, hcA, ht]
/-- making an array of references -/
theorem sh_newq (C : xC p m c s args cc nL own V A) (hW : xW V A G H) (hS : va_S A s.heap H locs) {index t kc ks : Nat} {E : String} (ht : xTy t = .object E) (h9 : t < 8) (hcl : Cond.classLink own index E ∈ lw_all) (hov : Cond.arrayOver (.object E) ∈ lw_tbl) {n : Int32} {K : Nat → Nat → GM → Prop} (h : gNa G t (fun N => (N, .inr (.inr (.inr (.inr (fun _ => none)))))) n kc ks K) (hkc : cells + kc ≤ R.cells) (hks : slots + ks ≤ R.slots) (hdg : decode cc pc = .ok (.anewarray index, 3))
    (kk : ∀ (q N : Nat) (G1 : GM) (H1 : Heap), xW V A G1 H1 → va_S A s.heap H1 locs → K q N G1 → N ≤ ks → (cells + 1) + (kc - 1) ≤ R.cells → (slots + N) + (ks - N) ≤ R.slots → W p l e R s m args below meth c H1 locs (cells + 1) (slots + N) Q (F0 m (pc + 3) ls (va_rf (some q) :: rest))) : W p l e R s m args below meth c H locs cells slots Q (F0 m pc ls (.int n :: rest)) := by
  obtain ⟨⟨hx, hb, -, hown, hts⟩, hKx, -, hA⟩ := C
  obtain ⟨N, hn, h1, h2, h3, h4⟩ := h
  subst hn
  have h31 : N < 2 ^ 31 := by omega
  refine W.anew hx hb hown (hts _ hcl) (va_AO.use (hKx.2.2.2.2.1 _ hov)) rfl hdg rfl (nI_pos h31) (by rw [nI_clamp h31]; omega) (by omega) (by rw [nI_clamp h31]; omega) fun cA kA comp f1 f2 f3 f4 => ?_
  rw [nI_clamp h31]
  generalize hH1 : H.push ({ cls := cA, slots := Array.replicate N .null, vm := .none } : Cell) = H1
  have z1 : H1.size = H.size + 1 := by rw [← hH1, Array.size_push]
  have e1 : H1[H.size]? = some (arrV cA N (fun _ => .null)) := by rw [← hH1, Array.getElem?_push_size, ← arrV_new]
  have o1 : ∀ q : Nat, q < H.size → H1[q]? = H[q]? := fun q hq => by rw [← hH1, Array.getElem?_push, if_neg (Nat.ne_of_lt hq)]
  have hcA : cA = V.2.2.1 t := by
    have h5 := (hKx.2.1 t h9).2
    rw [ht] at h5
    obtain ⟨_, _, _, _, _, h6⟩ := h5
    exact Option.some.inj (f1.symm.trans h6)
  refine kk H.size N _ H1 (hW.new (e := .inl (t, (N, .inr (.inr (.inr (.inr (fun _ => none))))))) ?_ (hA _ hS.1) o1) ⟨Nat.le_trans hS.1 (by omega), fun x g1 g2 => (o1 x (Nat.lt_of_lt_of_le g1 hS.1)).trans (hS.2.1 x g1 g2), hS.2.2⟩ (h4 _ (hW.fresh (Nat.le_refl _))) h3 (by omega) (by omega)
  refine (xAt_a (by omega)).mpr ?_
  rw [Nat.mod_eq_of_lt (by omega), vp_cell_q, e1, hcA]
  rfl
end GROWS
