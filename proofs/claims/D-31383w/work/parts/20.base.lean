/-! MY BASE ROWS: branches of a predicate, calls that write nothing old, frames -/
theorem wif_t {c A B : Prop} [Decidable c] (h : if c then A else B) (hc : c) : A := by rwa [if_pos hc] at h
theorem wif_f {c A B : Prop} [Decidable c] (h : if c then A else B) (hc : ¬ c) : B := by rwa [if_neg hc] at h
/-- new cells alone -/
def mN (sz : Nat) : Nat → Prop := fun q => sz ≤ q
/-- an int that a boolean may hold -/
def isZ (v : Int32) : Prop := v = 0 ∨ v = 1
theorem isZ_0 : isZ 0 := Or.inl rfl
theorem isZ_1 : isZ 1 := Or.inr rfl
theorem isZ.nar {v : Int32} (h : isZ v) : narrow .boolean (.int v) = .int v := by
  rcases h with h | h <;> subst h <;> rfl
theorem isZ_ite {c : Prop} [Decidable c] : isZ (if c then 1 else 0) := by
  by_cases h : c
  · rw [if_pos h]; exact isZ_1
  · rw [if_neg h]; exact isZ_0
/-- a loop's predicate: some number of rounds leads out -/
def wL {σ : Type} (B : (σ → Prop) → σ → Prop) : Nat → σ → Prop
  | 0 => fun _ => False
  | n + 1 => fun s => B (wL B n) s
def wLoop {σ : Type} (B : (σ → Prop) → σ → Prop) (s : σ) : Prop := ∃ n, wL B n s
theorem wLoop_inv {σ : Type} {B : (σ → Prop) → σ → Prop} (I : σ → Prop) (μ : σ → Nat) (hs : ∀ s rec, I s → (∀ s', I s' → μ s' < μ s → rec s') → B rec s) {s : σ} (h : I s) : wLoop B s := by
  have key : ∀ n s, I s → μ s < n → wL B n s := by
    intro n
    induction n with
    | zero => intro s _ h; exact absurd h (Nat.not_lt_zero _)
    | succ n ih =>
      intro s hI hn
      exact hs s (wL B n) hI fun s' hI' hlt => ih s' hI' (by omega)
  exact ⟨μ s + 1, key _ s h (Nat.lt_succ_self _)⟩
theorem loop_walk {σ : Type} {B : (σ → Prop) → σ → Prop} (G : σ → Prop) (hs : ∀ (rec : σ → Prop), (∀ s, rec s → G s) → ∀ s, B rec s → G s) : ∀ s, wLoop B s → G s := by
  have key : ∀ n s, wL B n s → G s := by
    intro n
    induction n with
    | zero => intro s h; exact False.elim h
    | succ n ih => intro s h; exact hs (wL B n) ih s h
  rintro s ⟨n, h⟩
  exact key n s h
/-- the words and places that a call's row asks, of a callee whose room is small enough -/
def cRoom (R rm : Room) (mL : Nat) : Prop := rm.frames + 1 ≤ R.frames ∧ 8 + (mL + 11) + rm.locals ≤ R.locals
theorem cRoom.of {R rm : Room} {mL f n : Nat} (hf : f ≤ R.frames) (hn : n ≤ R.locals) (h1 : Nat.ble (rm.frames + 1) f = true) (h2 : Nat.ble (8 + (mL + 11) + rm.locals) n = true) : cRoom R rm mL := ⟨Nat.le_trans (Nat.le_of_ble_eq_true h1) hf, Nat.le_trans (Nat.le_of_ble_eq_true h2) hn⟩
/-- a text of a table switch: an int that is none of the cases -/
theorem sw_ne {x k : Int32} (h : ¬ x = k) : x.toInt ≠ k.toInt := fun e => h (Int32.toInt_inj.mp e)
section BASE
variable {p : Program} {l : Launch} {e : Env} {R : Room} {s : State} {m : MethodId} {args : Array Value} {below : List Frame} {meth : Method} {c : Code} {H : Heap} {locs : List Loc} {cells slots mc ms : Nat} {Q : State → Prop}
variable {pc : Nat} {ls : Array Slot} {rest st0 : List Value} {A : Nat → Prop} {a : Array Value}
theorem ro_i {P : Int32 → Prop} (hr : va_Run p l e R s m args below meth c H locs cells slots mc ms (F0 m pc ls st0) rest (va_Qi (fun r (_ : Unit) => P r) (fun _ _ => True) (mN H.size) a) (mN H.size)) (hS : va_S A s.heap H locs) (hA : ∀ q, s.heap.size ≤ q → A q)
    (kk : ∀ (r : Int32) (H1 : Heap) (locs1 : List Loc), P r → H.size ≤ H1.size → (∀ q : Nat, q < H.size → H1[q]? = H[q]?) → va_S A s.heap H1 locs1 → W p l e R s m args below meth c H1 locs1 (cells + mc) (slots + ms) Q (F0 m (pc + 3) ls (.int r :: rest))) : W p l e R s m args below meth c H locs cells slots Q (F0 m pc ls st0) :=
  va_calli hr hS (fun q h1 h2 => absurd h1 (Nat.not_lt.mpr h2)) (fun q h => hA q (Nat.le_trans hS.1 h)) (fun r _ _ H1 locs1 _ _ hp _ hz hk hS1 => kk r H1 locs1 hp hz (fun q hq => hk q hq (Nat.not_le.mpr hq)) hS1)
theorem ro_l {P : Int64 → Prop} (hr : va_Run p l e R s m args below meth c H locs cells slots mc ms (F0 m pc ls st0) rest (va_Ql (fun r (_ : Unit) => P r) (fun _ _ => True) (mN H.size) a) (mN H.size)) (hS : va_S A s.heap H locs) (hA : ∀ q, s.heap.size ≤ q → A q)
    (kk : ∀ (r : Int64) (H1 : Heap) (locs1 : List Loc), P r → H.size ≤ H1.size → (∀ q : Nat, q < H.size → H1[q]? = H[q]?) → va_S A s.heap H1 locs1 → W p l e R s m args below meth c H1 locs1 (cells + mc) (slots + ms) Q (F0 m (pc + 3) ls (.long r :: rest))) : W p l e R s m args below meth c H locs cells slots Q (F0 m pc ls st0) :=
  va_calll hr hS (fun q h1 h2 => absurd h1 (Nat.not_lt.mpr h2)) (fun q h => hA q (Nat.le_trans hS.1 h)) (fun r _ _ H1 locs1 _ _ hp _ hz hk hS1 => kk r H1 locs1 hp hz (fun q hq => hk q hq (Nat.not_le.mpr hq)) hS1)
theorem ro_f {P : UInt32 → Prop} (hr : va_Run p l e R s m args below meth c H locs cells slots mc ms (F0 m pc ls st0) rest (va_Qf (fun r (_ : Unit) => P r) (fun _ _ => True) (mN H.size) a) (mN H.size)) (hS : va_S A s.heap H locs) (hA : ∀ q, s.heap.size ≤ q → A q)
    (kk : ∀ (r : UInt32) (H1 : Heap) (locs1 : List Loc), P r → H.size ≤ H1.size → (∀ q : Nat, q < H.size → H1[q]? = H[q]?) → va_S A s.heap H1 locs1 → W p l e R s m args below meth c H1 locs1 (cells + mc) (slots + ms) Q (F0 m (pc + 3) ls (.float r :: rest))) : W p l e R s m args below meth c H locs cells slots Q (F0 m pc ls st0) :=
  va_callf hr hS (fun q h1 h2 => absurd h1 (Nat.not_lt.mpr h2)) (fun q h => hA q (Nat.le_trans hS.1 h)) (fun r _ _ H1 locs1 _ _ hp _ hz hk hS1 => kk r H1 locs1 hp hz (fun q hq => hk q hq (Nat.not_le.mpr hq)) hS1)
theorem ro_d {P : UInt64 → Prop} (hr : va_Run p l e R s m args below meth c H locs cells slots mc ms (F0 m pc ls st0) rest (va_Qd (fun r (_ : Unit) => P r) (fun _ _ => True) (mN H.size) a) (mN H.size)) (hS : va_S A s.heap H locs) (hA : ∀ q, s.heap.size ≤ q → A q)
    (kk : ∀ (r : UInt64) (H1 : Heap) (locs1 : List Loc), P r → H.size ≤ H1.size → (∀ q : Nat, q < H.size → H1[q]? = H[q]?) → va_S A s.heap H1 locs1 → W p l e R s m args below meth c H1 locs1 (cells + mc) (slots + ms) Q (F0 m (pc + 3) ls (.double r :: rest))) : W p l e R s m args below meth c H locs cells slots Q (F0 m pc ls st0) :=
  va_calld hr hS (fun q h1 h2 => absurd h1 (Nat.not_lt.mpr h2)) (fun q h => hA q (Nat.le_trans hS.1 h)) (fun r _ _ H1 locs1 _ _ hp _ hz hk hS1 => kk r H1 locs1 hp hz (fun q hq => hk q hq (Nat.not_le.mpr hq)) hS1)
theorem ro_v {P : Prop} (hr : va_Run p l e R s m args below meth c H locs cells slots mc ms (F0 m pc ls st0) rest (va_Qv (fun (_ : Unit) => P) (fun _ _ => True) (mN H.size) a) (mN H.size)) (hS : va_S A s.heap H locs) (hA : ∀ q, s.heap.size ≤ q → A q)
    (kk : ∀ (H1 : Heap) (locs1 : List Loc), P → H.size ≤ H1.size → (∀ q : Nat, q < H.size → H1[q]? = H[q]?) → va_S A s.heap H1 locs1 → W p l e R s m args below meth c H1 locs1 (cells + mc) (slots + ms) Q (F0 m (pc + 3) ls rest)) : W p l e R s m args below meth c H locs cells slots Q (F0 m pc ls st0) :=
  va_callv hr hS (fun q h1 h2 => absurd h1 (Nat.not_lt.mpr h2)) (fun q h => hA q (Nat.le_trans hS.1 h)) (fun _ _ H1 locs1 _ _ hp _ hz hk hS1 => kk H1 locs1 hp hz (fun q hq => hk q hq (Nat.not_le.mpr hq)) hS1)
end BASE
theorem le_lit {a b c : Nat} (h : b ≤ c) (k : Nat.ble a b = true) : a ≤ c := Nat.le_trans (Nat.le_of_ble_eq_true k) h
section LDCW
variable {p : Program} {l : Launch} {e : Env} {R : Room} {s : State} {m : MethodId} {args : Array Value} {below : List Frame} {meth : Method} {c : Code} {H : Heap} {locs : List Loc} {cells slots : Nat} {Q : State → Prop} {cc : ByteArray} {pc : Nat} {ls : Array Slot} {rest : List Value}
theorem ldcwF {T : State} (X : Stand p l e R s m args below meth c T locs cells slots) (hexec : p.tables.exec = Jvm.exec) {own : String} {index : Nat} {v : UInt32} (hown : s.vm.findClass own = some m.cls)
    (hconst : (Cond.constantFloat own index v).before args s = true) {g : JFrame} (hg : g.method = m) (hdg : decode c.code g.pc = .ok (.ldc_w index, 3)) :
    ∀ target, Steps p.tables e below (T.setTop { g with pc := g.pc + 3, stack := .float v :: g.stack }) target → Steps p.tables e below (T.setTop g) target := by
  obtain ⟨k, cf, hk, hcf, hcp⟩ := Cond.constantFloat_spec hown hconst
  obtain ⟨k', hk', he⟩ := X.warmed.alike.2.2 _ _ hk
  intro target hrest
  subst hg
  jvm_step X.here [hexec, hdg, ldc_w.wp_float (s := T) (f := g) X.here.top hk' (by rw [he]; exact hcf) hcp]
  exact hrest
theorem lv_ldcwF (hexec : p.tables.exec = Jvm.exec) (hb : c.code = cc) {own : String} {index : Nat} {v : UInt32} (hown : s.vm.findClass own = some m.cls) (hconst : (Jvm.Cond.constantFloat own index v).before args s = true) (hdg : decode cc pc = .ok (.ldc_w index, 3)) (k : W p l e R s m args below meth c H locs cells slots Q (F0 m (pc + 3) ls (.float v :: rest))) : W p l e R s m args below meth c H locs cells slots Q (F0 m pc ls rest) := by
  intro T hT X
  obtain ⟨t, a, b⟩ := k T hT X
  exact ⟨t, ldcwF X hexec hown hconst (g := F0 m pc ls rest) rfl (by rw [hb]; exact hdg) t a, b⟩
end LDCW
/-- Met.ofW for a method of java/lang/Math that no entry of the machine runs -/
theorem Met.ofWF {l : Launch} {y : MethodName} {ws ws' : List Cond} {rm : Room} {Pc : Array Value → State → Prop} {Qc : Array Value → State → Outcome → State → Prop} {mc ms : Nat} {free : Addr → Prop} {cc : ByteArray} {maxL : Nat} {ret : Option FieldType}
    (hy : plainFor y = true) (hw : ws = Cond.code y cc maxL ret :: ws')
    (body : ∀ p e s m args below meth c s₁, BodyLoose p l y (headSpec ws rm) cc maxL ret e s m args below meth c s₁ → c.maxLocals = maxL → Pc args s →
      W p l e (headSpec ws rm).room s m args below meth c s.heap [] 0 0 (MQ below Qc args s mc ms free) (entryFrame m args maxL)) : Met l y ws rm Pc Qc mc ms free := by
  refine MetFree.of_bodySF (code := cc) (maxLocals := maxL) (ret := ret) hy ?_ ?_
  · intro args s m h hn
    obtain ⟨meth, c, h1, h2, h3, h4, h5, h6, -, -⟩ := Cond.code_spec hn (atoms_spec (ws := ws) h _ (by rw [hw]; exact List.mem_cons_self))
    exact ⟨meth, c, h1, h2, h3, h4, h5, h6⟩
  · intro p e s m args below meth c s₁ B hml hP _
    have hh0 : s₁.heap = s.heap := by rw [B.state]; rfl
    obtain ⟨t, a1, o, b1, b2, b3⟩ := body p e s m args below meth c s₁ B hml hP s₁ hh0 (Stand.of_body B)
    exact ⟨t, o, a1, b1, b2, ⟨b3.1, b3.2⟩⟩
theorem lw_U {own : String} {idx : Nat} {C owner : String} {x y : MethodName} {b : ByteArray} {L : Nat} {r : Option FieldType} (h1 : Cond.methodLink own idx x ∈ lw_all) (h2 : Cond.sameMethod x.cls owner x.name x.desc ∈ lw_all) (h3 : Cond.selects C x y ∈ lw_all) (h4 : Cond.instanceMethod y ∈ lw_all) (h5 : Cond.initialized y.cls ∈ lw_all) (h6 : Cond.code y b L r ∈ lw_all) : GoodIn lw_all (va_wsU own idx C owner x y (ws_ y b L r)) := by
  refine lw_app ?_ (lw_meth h6)
  intro w hw
  simp only [List.mem_cons, List.not_mem_nil, or_false] at hw
  rcases hw with e | e | e | e | e
  · rw [e]; exact h1
  · rw [e]; exact h2
  · rw [e]; exact h3
  · rw [e]; exact h4
  · rw [e]; exact h5
theorem lw_O {own : String} {idx : Nat} {C owner : String} {x y : MethodName} {b : ByteArray} {L : Nat} {r : Option FieldType} (h1 : Cond.methodLink own idx x ∈ lw_all) (h2 : Cond.sameMethod x.cls owner x.name x.desc ∈ lw_all) (h0 : Cond.instanceMethod ⟨owner, x.name, x.desc⟩ ∈ lw_all) (h3 : Cond.selects C x y ∈ lw_all) (h4 : Cond.instanceMethod y ∈ lw_all) (h5 : Cond.initialized y.cls ∈ lw_all) (h6 : Cond.code y b L r ∈ lw_all) : GoodIn lw_all (va_wsO own idx C owner x y (ws_ y b L r)) := by
  refine lw_app ?_ (lw_meth h6)
  intro w hw
  simp only [List.mem_cons, List.not_mem_nil, or_false] at hw
  rcases hw with e | e | e | e | e | e
  · rw [e]; exact h1
  · rw [e]; exact h2
  · rw [e]; exact h0
  · rw [e]; exact h3
  · rw [e]; exact h4
  · rw [e]; exact h5
theorem lw_F {own : String} {idx : Nat} {C : String} {x y : MethodName} {b : ByteArray} {L : Nat} {r : Option FieldType} (h1 : Cond.methodLink own idx x ∈ lw_all) (h3 : Cond.selects C x y ∈ lw_all) (h4 : Cond.instanceMethod y ∈ lw_all) (h5 : Cond.initialized y.cls ∈ lw_all) (h6 : Cond.code y b L r ∈ lw_all) : GoodIn lw_all (va_wsF own idx C x y (ws_ y b L r)) := by
  refine lw_app ?_ (lw_meth h6)
  intro w hw
  simp only [List.mem_cons, List.not_mem_nil, or_false] at hw
  rcases hw with e | e | e | e
  · rw [e]; exact h1
  · rw [e]; exact h3
  · rw [e]; exact h4
  · rw [e]; exact h5
theorem lw_SU {own : String} {idx : Nat} {y : MethodName} {b : ByteArray} {L : Nat} {r : Option FieldType} (h1 : Cond.methodLink own idx y ∈ lw_all) (h2 : Cond.sameMethod y.cls y.cls y.name y.desc ∈ lw_all) (h3 : Cond.superclass own y.cls ∈ lw_all) (h4 : Cond.instanceMethod y ∈ lw_all) (h5 : Cond.initialized y.cls ∈ lw_all) (h6 : Cond.code y b L r ∈ lw_all) : GoodIn lw_all (va_wsSU own idx y (ws_ y b L r)) := by
  refine lw_app ?_ (lw_meth h6)
  intro w hw
  simp only [List.mem_cons, List.not_mem_nil, or_false] at hw
  rcases hw with e | e | e | e | e
  · rw [e]; exact h1
  · rw [e]; exact h2
  · rw [e]; exact h3
  · rw [e]; exact h4
  · rw [e]; exact h5
section RQ
variable {p : Program} {l : Launch} {e : Env} {R : Room} {s : State} {m : MethodId} {args : Array Value} {below : List Frame} {meth : Method} {c : Code} {H : Heap} {locs : List Loc} {cells slots mc ms : Nat} {Q : State → Prop}
variable {pc : Nat} {ls : Array Slot} {rest st0 : List Value} {A : Nat → Prop} {a : Array Value}
theorem ro_q {P : Option Nat → Prop} (hr : va_Run p l e R s m args below meth c H locs cells slots mc ms (F0 m pc ls st0) rest (va_Qq (fun r (_ : Unit) => P r) (fun _ _ => True) (mN H.size) a) (mN H.size)) (hS : va_S A s.heap H locs) (hA : ∀ q, s.heap.size ≤ q → A q)
    (kk : ∀ (r : Option Nat) (H1 : Heap) (locs1 : List Loc), P r → H.size ≤ H1.size → (∀ q : Nat, q < H.size → H1[q]? = H[q]?) → va_S A s.heap H1 locs1 → W p l e R s m args below meth c H1 locs1 (cells + mc) (slots + ms) Q (F0 m (pc + 3) ls (va_rf r :: rest))) : W p l e R s m args below meth c H locs cells slots Q (F0 m pc ls st0) :=
  va_callq hr hS (fun q h1 h2 => absurd h1 (Nat.not_lt.mpr h2)) (fun q h => hA q (Nat.le_trans hS.1 h)) (fun r _ _ H1 locs1 _ _ hp _ hz hk hS1 => kk r H1 locs1 hp hz (fun q hq => hk q hq (Nat.not_le.mpr hq)) hS1)
end RQ
