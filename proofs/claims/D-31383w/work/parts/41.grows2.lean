/-! G-MODE ROWS, second half: constants, statics, casts, arraycopy -/
/-- a cast of an object to a class that those of cs are -/
def gCk (G : GM) (cs : List Nat) (o : Option Nat) (K : Prop) : Prop := (o = none ∨ ∃ ci, gCi G o = some ci ∧ ci ∈ cs) ∧ K
def gCkA (G : GM) (t : Nat) (o : Option Nat) (K : Prop) : Prop := (o = none ∨ ∃ (x : vp_A), o.bind G = some (.inl (t, x))) ∧ K
/-- instanceof: yes for the classes of ys, no for those of ns -/
def gIo (G : GM) (ys ns : List Nat) (o : Option Nat) (K : Int32 → Prop) : Prop := (o = none ∧ K 0) ∨ ∃ ci, gCi G o = some ci ∧ ((ci ∈ ys ∧ K 1) ∨ (ci ∈ ns ∧ K 0))
def gCI (G : GM) (t : Nat) (src : Option Nat) (sp : Int32) (dst : Option Nat) (dp n : Int32) (K : GM → Prop) : Prop := ∃ a n0 n1 f g i j k, dst = some a ∧ gAI G t src = some (n0, f) ∧ G a = some (.inl (t, n1, .inl g)) ∧ sp = nI i ∧ dp = nI j ∧ n = nI k ∧ i + k ≤ n0 ∧ j + k ≤ n1 ∧ n0 < 2 ^ 31 ∧ n1 < 2 ^ 31 ∧ (∀ z, z < k → fits (xTy t) (.int (f (i + z))) = true) ∧ K (upG G a (.inl (t, n1, .inl (va_cpy f g i j k))))
def gCR (G : GM) (src : Option Nat) (sp : Int32) (dst : Option Nat) (dp n : Int32) (K : GM → Prop) : Prop := ∃ a a0 t0 n0 n1 f g i j k, dst = some a ∧ src = some a0 ∧ G a0 = some (.inl (t0, n0, .inr (.inr (.inr (.inr f))))) ∧ 5 ≤ t0 ∧ t0 ≤ 7 ∧ G a = some (.inl (5, n1, .inr (.inr (.inr (.inr g))))) ∧ sp = nI i ∧ dp = nI j ∧ n = nI k ∧ i + k ≤ n0 ∧ j + k ≤ n1 ∧ n0 < 2 ^ 31 ∧ n1 < 2 ^ 31 ∧ (∀ z, z < k → gOk G 5 (f (i + z))) ∧ K (upG G a (.inl (5, n1, .inr (.inr (.inr (.inr (va_cpy f g i j k)))))))
/-- the receiver of a call: there, an object of class ci -/
def gRcv (G : GM) (o : Option Nat) (K : Nat → Nat → Prop) : Prop := ∃ a ci, o = some a ∧ gCi G (some a) = some ci ∧ K a ci
def xCa (nm : String) (cs : List Nat) : Prop := ∀ ci, ci ∈ cs → ∃ r : vw_C, xCl[ci % 64]? = some r ∧ (r.1 = nm ∨ Cond.castable r.1 nm ∈ lw_tbl)
def xCn (nm : String) (cs : List Nat) : Prop := ∀ ci, ci ∈ cs → ∃ r : vw_C, xCl[ci % 64]? = some r ∧ (r.1, nm) ∈ xNc
theorem rf_nar_o (Cn : String) (o : Option Nat) : narrow (.object Cn) (va_rf o) = va_rf o := by cases o <;> rfl
theorem rf_fit_o (Cn : String) (o : Option Nat) : fits (.object Cn) (va_rf o) = true := by cases o <;> rfl
theorem rf_nar_a (t : FieldType) (o : Option Nat) : narrow (.array t) (va_rf o) = va_rf o := by cases o <;> rfl
theorem rf_fit_a (t : FieldType) (o : Option Nat) : fits (.array t) (va_rf o) = true := by cases o <;> rfl
theorem isZ.fit {v : Int32} (h : isZ v) : fits .boolean (.int v) = true := by rcases h with h | h <;> subst h <;> rfl
section GROWS2
variable {p : Program} {l : Launch} {e : Env} {R : Room} {s : State} {m : MethodId} {args : Array Value} {below : List Frame} {meth : Method} {c : Code} {H : Heap} {locs : List Loc} {cells slots : Nat} {Q : State → Prop}
variable {cc : ByteArray} {pc nL : Nat} {ls : Array Slot} {rest : List Value} {A : Nat → Prop} {V : XV} {G : GM} {own : String}
theorem sh_ldcS (C : xC p m c s args cc nL own V A) {index : Nat} {tx : String} (hl : Cond.stringRef own index tx ∈ lw_tbl) (hdg : decode cc pc = .ok (.ldc index, 2))
    (k : W p l e R s m args below meth c H locs cells slots Q (F0 m (pc + 2) ls (va_rf (some (xsr V own index)) :: rest))) : W p l e R s m args below meth c H locs cells slots Q (F0 m pc ls rest) :=
  va_ldcS C.1.1 C.1.2.1 C.1.2.2.2.1 (C.2.1.2.2.2.2.2.1 _ _ _ hl) hdg k
theorem sh_ldcM (C : xC p m c s args cc nL own V A) {index : Nat} (hl : Cond.classLink own index "[Ljava/lang/Object;" ∈ lw_all) (hdg : decode cc pc = .ok (.ldc index, 2))
    (k : W p l e R s m args below meth c H locs cells slots Q (F0 m (pc + 2) ls (va_rf (some (xsr V "#mirror" 0)) :: rest))) : W p l e R s m args below meth c H locs cells slots Q (F0 m pc ls rest) :=
  va_ldcM C.1.1 C.1.2.1 C.1.2.2.2.1 (C.1.2.2.2.2 _ hl) C.2.1.2.2.2.2.2.2.2.1 hdg k
theorem sh_getsR (C : xC p m c s args cc nL own V A) (hS : va_S A s.heap H locs) {Cn n d ref : String} {index : Nat} (hst : Cond.laysStatic Cn n d ∈ lw_tbl) (hlink : Cond.fieldLink own index ref n d ∈ lw_all) (hsame : ∀ x, s.fieldFound? Cn n d = some x → s.fieldFound? ref n d = some x) {K : Option Nat → Prop} (h : ∃ o, xst V Cn n = va_rf o ∧ K o) (hdg : decode cc pc = .ok (.getstatic index, 3))
    (kk : ∀ o, K o → W p l e R s m args below meth c H locs cells slots Q (F0 m (pc + 3) ls (va_rf o :: rest))) : W p l e R s m args below meth c H locs cells slots Q (F0 m pc ls rest) := by
  obtain ⟨o, h1, h2⟩ := h
  have hZ := C.2.2.1.1 Cn n d hst
  rw [h1] at hZ
  exact va_gets C.1.1 C.1.2.1 hZ hS C.1.2.2.2.1 (C.1.2.2.2.2 _ hlink) hsame hdg (kk o h2)
theorem sh_getsI (C : xC p m c s args cc nL own V A) (hS : va_S A s.heap H locs) {Cn n d ref : String} {index : Nat} (hst : Cond.laysStatic Cn n d ∈ lw_tbl) (hlink : Cond.fieldLink own index ref n d ∈ lw_all) (hsame : ∀ x, s.fieldFound? Cn n d = some x → s.fieldFound? ref n d = some x) {K : Int32 → Prop} (h : ∃ o, xst V Cn n = .int o ∧ K o) (hdg : decode cc pc = .ok (.getstatic index, 3))
    (kk : ∀ o, K o → W p l e R s m args below meth c H locs cells slots Q (F0 m (pc + 3) ls (.int o :: rest))) : W p l e R s m args below meth c H locs cells slots Q (F0 m pc ls rest) := by
  obtain ⟨o, h1, h2⟩ := h
  have hZ := C.2.2.1.1 Cn n d hst
  rw [h1] at hZ
  exact va_gets C.1.1 C.1.2.1 hZ hS C.1.2.2.2.1 (C.1.2.2.2.2 _ hlink) hsame hdg (kk o h2)
theorem sh_getsRN (C : xC p m c s args cc nL own V A) (hS : va_S A s.heap H locs) {Cn n d ref host : String} {index : Nat} (hst : Cond.laysStatic Cn n d ∈ lw_tbl) (hlink : Cond.fieldLinkNest own index ref n d host ∈ lw_tbl) (hsame : ∀ x, s.fieldFound? Cn n d = some x → s.fieldFound? ref n d = some x) {K : Option Nat → Prop} (h : ∃ o, xst V Cn n = va_rf o ∧ K o) (hdg : decode cc pc = .ok (.getstatic index, 3))
    (kk : ∀ o, K o → W p l e R s m args below meth c H locs cells slots Q (F0 m (pc + 3) ls (va_rf o :: rest))) : W p l e R s m args below meth c H locs cells slots Q (F0 m pc ls rest) := by
  obtain ⟨o, h1, h2⟩ := h
  have hZ := C.2.2.1.1 Cn n d hst
  rw [h1] at hZ
  exact va_getsN (host := host) C.1.1 C.1.2.1 hZ hS C.1.2.2.2.1 (va_Nw.use rfl (C.2.1.2.2.1 _ hlink rfl)) hsame hdg (kk o h2)
theorem sh_castN {T : State} (X : Stand p l e R s m args below meth c T locs cells slots) : True := trivial
theorem sh_cast (C : xC p m c s args cc nL own V A) (hW : xW V A G H) {cs : List Nat} {nm : String} {o : Option Nat} {index : Nat} {K : Prop} (hl : Cond.classLink own index nm ∈ lw_all) (hc : xCa nm cs) (h : gCk G cs o K) (hdg : decode cc pc = .ok (.checkcast index, 3))
    (k : K → W p l e R s m args below meth c H locs cells slots Q (F0 m (pc + 3) ls (va_rf o :: rest))) : W p l e R s m args below meth c H locs cells slots Q (F0 m pc ls (va_rf o :: rest)) := by
  obtain ⟨⟨hx, hb, -, hown, hts⟩, hKx, -⟩ := C
  obtain ⟨h0, h⟩ := h
  cases o with
  | none => exact lv_castN hx hb hdg (k h)
  | some a =>
    rcases h0 with h0 | ⟨ci, h1, h2⟩
    · cases h0
    · obtain ⟨fs, hG⟩ := gCi_of h1
      obtain ⟨r, hr, h3⟩ := hc ci h2
      have hrecv := hW.recv hKx hG hr
      rcases h3 with h3 | h3
      · subst h3
        exact va_castS hx hb hown (hts _ hl) (hKx.1 _ _ hr).2 hrecv hdg (k h)
      · exact va_castY hx hb hown (hts _ hl) (hKx.2.2.1 _ h3 rfl) hrecv hdg (k h)
theorem sh_castA (C : xC p m c s args cc nL own V A) (hW : xW V A G H) {t : Nat} (h16 : t < 16) {nm : String} {o : Option Nat} {index : Nat} {K : Prop} (hl : Cond.classLink own index nm ∈ lw_all) (hnm : s.vm.findClass nm = some (V.2.2.1 t)) (h : gCkA G t o K) (hdg : decode cc pc = .ok (.checkcast index, 3))
    (k : K → W p l e R s m args below meth c H locs cells slots Q (F0 m (pc + 3) ls (va_rf o :: rest))) : W p l e R s m args below meth c H locs cells slots Q (F0 m pc ls (va_rf o :: rest)) := by
  obtain ⟨⟨hx, hb, -, hown, hts⟩, hKx, -⟩ := C
  obtain ⟨h0, h⟩ := h
  cases o with
  | none => exact lv_castN hx hb hdg (k h)
  | some a =>
    rcases h0 with h0 | ⟨x, h1⟩
    · cases h0
    · have hP := hW.arr h1 h16
      rw [Nat.mod_eq_of_lt h16] at hP
      exact va_castA hx hb hown (hts _ hl) hP 0 rfl hnm hdg (k h)
theorem sh_inst (C : xC p m c s args cc nL own V A) (hW : xW V A G H) {ys ns : List Nat} {nm : String} {o : Option Nat} {index : Nat} {K : Int32 → Prop} (hl : Cond.classLink own index nm ∈ lw_all) (hc : xCa nm ys) (hn : xCn nm ns) (h : gIo G ys ns o K) (hdg : decode cc pc = .ok (.instanceof index, 3))
    (k : ∀ v, K v → W p l e R s m args below meth c H locs cells slots Q (F0 m (pc + 3) ls (.int v :: rest))) : W p l e R s m args below meth c H locs cells slots Q (F0 m pc ls (va_rf o :: rest)) := by
  obtain ⟨⟨hx, hb, -, hown, hts⟩, hKx, -⟩ := C
  rcases h with ⟨h0, h⟩ | ⟨ci, h1, h⟩
  · subst h0
    exact lv_instN hx hb hdg (k 0 h)
  · cases o with
    | none => cases h1
    | some a =>
      obtain ⟨fs, hG⟩ := gCi_of h1
      rcases h with ⟨h2, h⟩ | ⟨h2, h⟩
      · obtain ⟨r, hr, h3⟩ := hc ci h2
        have hrecv := hW.recv hKx hG hr
        rcases h3 with h3 | h3
        · subst h3
          exact va_instS hx hb hown (hts _ hl) (hKx.1 _ _ hr).2 hrecv hdg (k 1 h)
        · exact va_instY hx hb hown (hts _ hl) (hKx.2.2.1 _ h3 rfl) hrecv hdg (k 1 h)
      · obtain ⟨r, hr, h3⟩ := hn ci h2
        exact va_instNo hx hb hown (hts _ hl) (hKx.2.2.2.2.2.2.1 _ h3) (hW.recv hKx hG hr) hdg (k 0 h)
theorem sh_objInit (C : xC p m c s args cc nL own V A) {index a : Nat} (hl : Cond.methodLink own index Lib.objectInit ∈ lw_all) (hi : Cond.instanceMethod Lib.objectInit ∈ lw_all) (hc : Cond.code Lib.objectInit ⟨#[0xb1]⟩ 1 none ∈ lw_all) (hz : ls.size = nL) (hf : 1 ≤ R.frames) (hlo : 20 ≤ R.locals) (hr8 : (rest.map fun v => v.category).sum ≤ 8) (hdg : decode cc pc = .ok (.invokespecial index, 3))
    (k : W p l e R s m args below meth c H locs cells slots Q (F0 m (pc + 3) ls rest)) : W p l e R s m args below meth c H locs cells slots Q (F0 m pc ls (va_rf (some a) :: rest)) := by
  obtain ⟨⟨hx, hb, hml, hown, hts⟩, -⟩ := C
  exact W.objInit hx hb hown (hts _ hl) (hts _ hi) (hts _ hc) rfl (by rw [hml]; exact hz) rfl hdg hf (by show 2 * 0 + _ + 12 ≤ _; omega) k
theorem sh_nn (z : Int32) (n : Nat) (h : z = nI n) (hn : n < 2 ^ 31) : z.toInt = (n : Int) := by rw [h, nI_toInt hn]
theorem sh_copyI (C : xC p m c s args cc nL own V A) (hW : xW V A G H) (hS : va_S A s.heap H locs) {t index : Nat} (ht9 : t < 5) (hprim : refKind (xTy t) = false) {src dst : Option Nat} {sp dp n : Int32} {K : GM → Prop} (hlink : Cond.methodLink own index arraycopyName ∈ lw_all) (hnat : Cond.native arraycopyName ∈ lw_all) (hstat : Cond.static arraycopyName ∈ lw_all) (hini : Cond.initialized "java/lang/System" ∈ lw_all) (hz : ls.size = nL)
    (hframes : 1 ≤ R.frames) (hlocals : (rest.map fun v => v.category).sum + (nativeFrameWords "java/lang/System" "arraycopy" 5 + 11) ≤ R.locals) (h : gCI G t src sp dst dp n K) (hdg : decode cc pc = .ok (.invokestatic index, 3))
    (kk : ∀ (G1 : GM) (H1 : Heap) (locs1 : List Loc), xW V A G1 H1 → va_S A s.heap H1 locs1 → K G1 → W p l e R s m args below meth c H1 locs1 cells slots Q (F0 m (pc + 3) ls rest)) : W p l e R s m args below meth c H locs cells slots Q (F0 m pc ls (.int n :: .int dp :: va_rf dst :: .int sp :: va_rf src :: rest)) := by
  obtain ⟨⟨hx, hb, hml, hown, hts⟩, hKx, -⟩ := C
  obtain ⟨a, n0, n1, f, g, i, j, k, hd, h1, hG, e1, e2, e3, hi, hj, b0, b1, hfit, h⟩ := h
  subst hd e1 e2 e3
  cases src with
  | none => cases h1
  | some a0 =>
    obtain ⟨t', hG0, ht⟩ := gAI_of h1
    obtain ⟨cs, hc0, g2, g3, -, g5, -, g7⟩ := hW.cellA hKx hG0 (by omega)
    rw [ht] at g2
    have htm : t % 16 = t := Nat.mod_eq_of_lt (by omega)
    have hc1 : H[a]? = some (arrV (V.2.2.1 t) n1 (fun j => .int (g j))) := by
      have := (xAt_a (by omega)).mp (hW.1 a _ hG).1
      rw [htm] at this
      exact this
    have hA : A a := (hW.1 a _ hG).2 (by show decide (16 ≤ t) = false; exact decide_eq_false (by omega))
    have ci : (nI i).toNatClampNeg = i := nI_clamp (by omega)
    have cj : (nI j).toNatClampNeg = j := nI_clamp (by omega)
    have ck : (nI k).toNatClampNeg = k := nI_clamp (by omega)
    have hAr := (hKx.2.1 t (by omega)).1
    intro T hT X
    obtain ⟨hst0, k0, hk0, cm0, hkk0⟩ := g2
    obtain ⟨-, k1, hk1, cm1, hkk1⟩ := hAr n1 (fun j => .int (g j))
    obtain ⟨vm', X', step⟩ := X.arraycopy hx hown (hts _ hlink) (hts _ hnat) (hts _ hstat) (hts _ hini) (src := a0) (dst := a) (cs := cs) (cd := arrV (V.2.2.1 t) n1 (fun j => .int (g j))) (srcPos := nI i) (destPos := nI j) (n := nI k) (by rw [hT]; exact hc0) (by rw [hT]; exact hc1)
      hst0 (fun _ h => by cases h) g3 (fun h => by cases h) hk0 hk1 hkk0 hkk1 (by simp [hprim]) (nI_pos (by omega)) (nI_pos (by omega)) (nI_pos (by omega))
      (by rw [nI_toInt (by omega), nI_toInt (by omega)]; omega)
      (by rw [nI_toInt (by omega), nI_toInt (by omega), arrV_size]; omega)
      (fun vm₁ _ z hz => by
        rw [ck] at hz
        have e : cs.slots.getD ((nI i).toNatClampNeg + z) .null = .int (f (i + z)) := by
          rw [Array.getD_eq_getD_getElem?, ci, g7 _ (by omega)]
          rfl
        refine ⟨?_, ?_⟩
        · rw [e]; exact hfit z hz
        · rw [e]; exact trivial)
      (g := F0 m pc ls (.int (nI k) :: .int (nI j) :: .ref a :: .int (nI i) :: .ref a0 :: rest)) rfl (by rw [hml]; exact hz) (rest := rest) rfl (by rw [hb]; exact hdg) hframes (by show 2 * 0 + _ + _ ≤ _; omega)
    have est : cs.stretch i k = (arrV (V.2.2.1 t) n0 (fun j => Value.int (f j))).stretch i k := by
      unfold Cell.stretch
      refine List.map_congr_left fun z hz => ?_
      have hz := List.mem_range.mp hz
      rw [Array.getD_eq_getD_getElem?, Array.getD_eq_getD_getElem?, g7 _ (by omega), arrV_read _ _ (by omega)]
      rfl
    have e1 : copied cs (arrV (V.2.2.1 t) n1 (fun j => .int (g j))) (nI i) (nI j) (nI k) = arrV (V.2.2.1 t) n1 (fun z => .int (va_cpy f g i j k z)) := by
      have := va_copied (fun z => Value.int z) (V.2.2.1 t) (V.2.2.1 t) (n1 := n1) (dp := (nI j).toNatClampNeg) f g (show (nI i).toNatClampNeg + (nI k).toNatClampNeg ≤ n0 by rw [ci, ck]; exact hi)
      rw [ci, cj, ck] at this
      show (arrV _ n1 _).storeRun (nI j).toNatClampNeg (cs.stretch (nI i).toNatClampNeg (nI k).toNatClampNeg) = _
      rw [ci, cj, ck, est]
      exact this
    rw [e1] at X' step
    have hl : a < H.size := (Array.getElem?_eq_some_iff.mp hc1).1
    have hheap : ((T.setVm vm').setCell a (arrV (V.2.2.1 t) n1 (fun z => .int (va_cpy f g i j k z)))).heap = H.setIfInBounds a (arrV (V.2.2.1 t) n1 (fun z => .int (va_cpy f g i j k z))) := by rw [← hT]; rfl
    have oq : ∀ q : Nat, q ≠ a → (H.setIfInBounds a (arrV (V.2.2.1 t) n1 (fun z => .int (va_cpy f g i j k z))))[q]? = H[q]? := fun q hq => by simp [Array.getElem?_setIfInBounds, Ne.symm hq]
    obtain ⟨t2, a1, b1⟩ := kk _ _ _ (hW.set (e := .inl (t, n1, .inl (va_cpy f g i j k))) (by refine (xAt_a (by omega)).mpr ?_; rw [htm]; simp [Array.getElem?_setIfInBounds, hl, vp_cell]) hA oq) ⟨by simp; exact hS.1, fun q g1 g2 => by
        rw [oq q (fun e => g2 (by rw [e]; exact hA))]
        exact hS.2.1 q g1 g2, fun q hq => by
        rcases List.mem_append.mp hq with h | h
        · exact hS.2.2 q h
        · obtain ⟨z, -, hz⟩ := List.mem_map.mp h
          rw [← hz]
          exact hA⟩ h _ hheap X'
    exact ⟨t2, step t2 a1, b1⟩
theorem sh_copyR (C : xC p m c s args cc nL own V A) (hW : xW V A G H) (hS : va_S A s.heap H locs) {index : Nat} {src dst : Option Nat} {sp dp n : Int32} {K : GM → Prop} (hlink : Cond.methodLink own index arraycopyName ∈ lw_all) (hnat : Cond.native arraycopyName ∈ lw_all) (hstat : Cond.static arraycopyName ∈ lw_all) (hini : Cond.initialized "java/lang/System" ∈ lw_all) (hz : ls.size = nL)
    (hframes : 1 ≤ R.frames) (hlocals : (rest.map fun v => v.category).sum + (nativeFrameWords "java/lang/System" "arraycopy" 5 + 11) ≤ R.locals) (h : gCR G src sp dst dp n K) (hdg : decode cc pc = .ok (.invokestatic index, 3))
    (kk : ∀ (G1 : GM) (H1 : Heap) (locs1 : List Loc), xW V A G1 H1 → va_S A s.heap H1 locs1 → K G1 → W p l e R s m args below meth c H1 locs1 cells slots Q (F0 m (pc + 3) ls rest)) : W p l e R s m args below meth c H locs cells slots Q (F0 m pc ls (.int n :: .int dp :: va_rf dst :: .int sp :: va_rf src :: rest)) := by
  obtain ⟨⟨hx, hb, hml, hown, hts⟩, hKx, -⟩ := C
  obtain ⟨a, a0, t0, n0, n1, f, g, i, j, k, hd, hs0, hG0, h5, h7, hG, e1, e2, e3, hi, hj, b0, b1, hel, h⟩ := h
  subst hd hs0 e1 e2 e3
  · have hc0 : H[a0]? = some (arrV (V.2.2.1 t0) n0 (fun j => va_rf (f j))) := by
      have := (xAt_a (by omega)).mp (hW.1 a0 _ hG0).1
      rw [Nat.mod_eq_of_lt (by omega)] at this
      exact this
    have hc1 : H[a]? = some (arrV (V.2.2.1 5) n1 (fun j => va_rf (g j))) := (hW.1 a _ hG).1
    have hA : A a := (hW.1 a _ hG).2 rfl
    have ci : (nI i).toNatClampNeg = i := nI_clamp (by omega)
    have cj : (nI j).toNatClampNeg = j := nI_clamp (by omega)
    have ck : (nI k).toNatClampNeg = k := nI_clamp (by omega)
    have key : ∃ E, xTy t0 = .object E := by
      rcases (show t0 = 5 ∨ t0 = 6 ∨ t0 = 7 by omega) with e | e | e <;> subst e <;> exact ⟨_, rfl⟩
    obtain ⟨E0, hE0⟩ := key
    have hT0 := (hKx.2.1 t0 (by omega)).1
    have hT1 := hKx.2.1 5 (by decide)
    intro T hT X
    obtain ⟨-, k0, hk0, cm0, hkk0⟩ := hT0 n0 (fun j => va_rf (f j))
    obtain ⟨-, k1, hk1, cm1, hkk1⟩ := hT1.1 n1 (fun j => va_rf (g j))
    obtain ⟨vm', X', step⟩ := X.arraycopy hx hown (hts _ hlink) (hts _ hnat) (hts _ hstat) (hts _ hini) (src := a0) (dst := a) (cs := arrV (V.2.2.1 t0) n0 (fun j => va_rf (f j))) (cd := arrV (V.2.2.1 5) n1 (fun j => va_rf (g j))) (srcPos := nI i) (destPos := nI j) (n := nI k) (by rw [hT]; exact hc0) (by rw [hT]; exact hc1)
      (fun _ h => by cases h) (fun _ h => by cases h) (fun h => by cases h) (fun h => by cases h) hk0 hk1 hkk0 hkk1 (by rw [hE0]; rfl) (nI_pos (by omega)) (nI_pos (by omega)) (nI_pos (by omega))
      (by rw [nI_toInt (by omega), nI_toInt (by omega), arrV_size]; omega)
      (by rw [nI_toInt (by omega), nI_toInt (by omega), arrV_size]; omega)
      (fun vm₁ hal z hz => by
        rw [ck] at hz
        have e : (arrV (V.2.2.1 t0) n0 (fun j => va_rf (f j))).slots.getD ((nI i).toNatClampNeg + z) .null = va_rf (f (i + z)) := by
          rw [Array.getD_eq_getD_getElem?, ci, arrV_read _ _ (by omega)]
          rfl
        rw [e]
        have hok := hel z hz
        cases hy : f (i + z) with
        | none => exact ⟨rfl, trivial⟩
        | some y =>
          rw [hy] at hok
          obtain ⟨cellV, g1, g2, ⟨kC, hkC⟩, hasg⟩ := gOk_any hKx hW (t := 5) (by decide) (by decide) hok rfl
          obtain ⟨kA, comp, r1, r2, r3, -⟩ := hT1.2
          cases hk1.symm.trans r1
          cases hkk1.symm.trans r2
          obtain ⟨kE, hkE, -⟩ := Vm.findClass_spec r3
          obtain ⟨kC', hkC', -⟩ := hal.2.2 _ _ hkC
          obtain ⟨kE', hkE', -⟩ := hal.2.2 _ _ hkE
          refine ⟨rfl, cellV, (show T.heap[y]? = some cellV by rw [hT]; exact g1), (fun q h => by rw [h] at g2; cases g2), ⟨kC', hkC'⟩, ?_, ?_⟩
          · exact ⟨kE', hkE'⟩
          · show vm₁.assignable _ _ = true
            rw [hal.assignable]
            exact hasg _ r3)
      (g := F0 m pc ls (.int (nI k) :: .int (nI j) :: .ref a :: .int (nI i) :: .ref a0 :: rest)) rfl (by rw [hml]; exact hz) (rest := rest) rfl (by rw [hb]; exact hdg) hframes (by show 2 * 0 + _ + _ ≤ _; omega)
    have e1 : copied (arrV (V.2.2.1 t0) n0 (fun j => va_rf (f j))) (arrV (V.2.2.1 5) n1 (fun j => va_rf (g j))) (nI i) (nI j) (nI k) = arrV (V.2.2.1 5) n1 (fun z => va_rf (va_cpy f g i j k z)) := by
      have := va_copied (fun z => va_rf z) (V.2.2.1 t0) (V.2.2.1 5) (n1 := n1) (dp := (nI j).toNatClampNeg) f g (show (nI i).toNatClampNeg + (nI k).toNatClampNeg ≤ n0 by rw [ci, ck]; exact hi)
      rw [ci, cj, ck] at this
      show (arrV _ n1 _).storeRun (nI j).toNatClampNeg ((arrV _ n0 _).stretch (nI i).toNatClampNeg (nI k).toNatClampNeg) = _
      rw [ci, cj, ck]
      exact this
    rw [e1] at X' step
    have hl : a < H.size := (Array.getElem?_eq_some_iff.mp hc1).1
    have hheap : ((T.setVm vm').setCell a (arrV (V.2.2.1 5) n1 (fun z => va_rf (va_cpy f g i j k z)))).heap = H.setIfInBounds a (arrV (V.2.2.1 5) n1 (fun z => va_rf (va_cpy f g i j k z))) := by rw [← hT]; rfl
    have oq : ∀ q : Nat, q ≠ a → (H.setIfInBounds a (arrV (V.2.2.1 5) n1 (fun z => va_rf (va_cpy f g i j k z))))[q]? = H[q]? := fun q hq => by simp [Array.getElem?_setIfInBounds, Ne.symm hq]
    obtain ⟨t2, a1, b1⟩ := kk _ _ _ (hW.set (e := .inl (5, n1, .inr (.inr (.inr (.inr (va_cpy f g i j k)))))) (by show (H.setIfInBounds a _)[a]? = some (vp_cell (V.2.2.1 5) _); simp [Array.getElem?_setIfInBounds, hl, vp_cell]) hA oq) ⟨by simp; exact hS.1, fun q g1 g2 => by
        rw [oq q (fun e => g2 (by rw [e]; exact hA))]
        exact hS.2.1 q g1 g2, fun q hq => by
        rcases List.mem_append.mp hq with h | h
        · exact hS.2.2 q h
        · obtain ⟨z, -, hz⟩ := List.mem_map.mp h
          rw [← hz]
          exact hA⟩ h _ hheap X'
    exact ⟨t2, step t2 a1, b1⟩
/-- what a call needs: the callee's cells are among ours -/
theorem xA.sub (hW : xW V A G H) (hS : va_S A s.heap H locs) (hA : ∀ q, s.heap.size ≤ q → A q) : ∀ q, xA G H.size q → A q := fun q h => h.elim (fun ⟨e, h1, h2⟩ => (hW.1 q e h1).2 h2) (fun h => hA q (Nat.le_trans hS.1 h))
theorem xZ.call (hZ : xZ V A s s.heap) (hW : xW V A G H) (hS : va_S A s.heap H locs) (hA : ∀ q, s.heap.size ≤ q → A q) {U : State} (hU : U.heap = H) (hv : s.vm.Alike U.vm) : xZ V (xA G H.size) U U.heap := by
  rw [hU]
  exact (xZ.moved hv (xZ.kept hZ hS.2.1)).narrow (xA.sub hW hS hA)
end GROWS2
