/-! G-MODE: getClass of an Object[], a byte[]'s clone, a default method called through its interface -/
/-- a clone of a byte array -/
def gCl (G : GM) (o : Option Nat) (kc ks : Nat) (K : Nat → Nat → GM → Prop) : Prop := ∃ a n f, o = some a ∧ G a = some (.inl (2, n, .inl f)) ∧ (∀ z, z < n → fits .byte (.int (f z)) = true) ∧ 1 ≤ kc ∧ n ≤ ks ∧ ∀ q, G q = none → K q n (upG G q (.inl (2, n, .inl f)))
section GMORE
variable {p : Program} {l : Launch} {e : Env} {R : Room} {s : State} {m : MethodId} {args : Array Value} {below : List Frame} {meth : Method} {c : Code} {H : Heap} {locs : List Loc} {cells slots : Nat} {Q : State → Prop}
variable {cc : ByteArray} {pc nL : Nat} {ls : Array Slot} {rest : List Value} {A : Nat → Prop} {V : XV} {G : GM} {own : String}
theorem sh_getC (C : xC p m c s args cc nL own V A) (hW : xW V A G H) {index : Nat} {o : Option Nat} (hlink : Cond.methodLink own index ⟨"java/lang/Object", "getClass", "()Ljava/lang/Class;"⟩ ∈ lw_all) (hg : ∃ n f, o.bind G = some (.inl (5, n, .inr (.inr (.inr (.inr f)))))) (hz : ls.size = nL) (hframes : 1 ≤ R.frames) (hlocals : 60 ≤ R.locals) (hr8 : (rest.map fun v => v.category).sum ≤ 8) (hdg : decode cc pc = .ok (.invokevirtual index, 3))
    (k : W p l e R s m args below meth c H locs cells slots Q (F0 m (pc + 3) ls (va_rf (some (xsr V "#mirror" 0)) :: rest))) : W p l e R s m args below meth c H locs cells slots Q (F0 m pc ls (va_rf o :: rest)) := by
  obtain ⟨⟨hx, hb, hml, hown, hts⟩, hKx, -⟩ := C
  obtain ⟨n, f, hg⟩ := hg
  cases o with
  | none => cases hg
  | some a =>
    have hP := (xAt_a (by decide)).mp (hW.1 a _ hg).1
    have hnm : s.vm.findClass "[Ljava/lang/Object;" = some (V.2.2.1 5) := va_nmO (hKx.2.1 5 (by decide)).2 (by decide +kernel)
    exact va_getC hx hb (hml.trans hz.symm) hown (hts _ hlink) (va_Nw.use rfl (hKx.2.2.1 _ q2254 rfl)) (hts _ q2253) (hts _ q701) (hts _ q728) hKx.2.2.2.2.2.2.2.1 ⟨_, hP, rfl, hnm⟩ hframes (by omega) hdg k
theorem sh_cloneB (C : xC p m c s args cc nL own V A) (hW : xW V A G H) (hS : va_S A s.heap H locs) {index : Nat} {o : Option Nat} {kc ks : Nat} {K : Nat → Nat → GM → Prop} (hlink : Cond.methodLink own index ⟨"[B", "clone", "()Ljava/lang/Object;"⟩ ∈ lw_all) (h : gCl G o kc ks K) (hkc : cells + kc ≤ R.cells) (hks : slots + ks ≤ R.slots) (hz : ls.size = nL) (hframes : 1 ≤ R.frames) (hlocals : 60 ≤ R.locals) (hr8 : (rest.map fun v => v.category).sum ≤ 8) (hdg : decode cc pc = .ok (.invokevirtual index, 3))
    (kk : ∀ (q N : Nat) (G1 : GM) (H1 : Heap), xW V A G1 H1 → va_S A s.heap H1 locs → K q N G1 → N ≤ ks → (cells + 1) + (kc - 1) ≤ R.cells → (slots + N) + (ks - N) ≤ R.slots → W p l e R s m args below meth c H1 locs (cells + 1) (slots + N) Q (F0 m (pc + 3) ls (va_rf (some q) :: rest))) : W p l e R s m args below meth c H locs cells slots Q (F0 m pc ls (va_rf o :: rest)) := by
  obtain ⟨⟨hx, hb, hml, hown, hts⟩, hKx, -, hA⟩ := C
  obtain ⟨a, n, f, rfl, hG, hfit, h1, h2, h4⟩ := h
  have hcell : H[a]? = some (arrV (V.2.2.1 2) n (fun j => .int (f j))) := (hW.1 a _ hG).1
  have hAr := (hKx.2.1 2 (by decide)).1
  have hnm : s.vm.findClass "[B" = some (V.2.2.1 2) := (hKx.2.1 2 (by decide)).2
  obtain ⟨c0, t0', f1, f2, f3⟩ := Cond.castable_spec (va_Nw.use (A := args) rfl (hKx.2.2.1 _ q296 rfl))
  cases hnm.symm.trans f1
  intro T hT X
  have hcellT : T.heap[a]? = some (arrV (V.2.2.1 2) n (fun j => .int (f j))) := by rw [hT]; exact hcell
  obtain ⟨-, kA, hkA, comp, hkind⟩ := State.isArrayOf_alike X.warmed.alike (hAr 0 (fun _ => .null))
  obtain ⟨-, kS, hkS, compS, hkindS⟩ := hAr 0 (fun _ => .null)
  obtain ⟨vm', X', st⟩ := X.cloneArray hx hown (hts _ hlink) (hts _ q292) (hts _ q293) (hts _ q294) (hts _ q295) (a := a) (cell := arrV (V.2.2.1 2) n (fun j => .int (f j))) hcellT (fun k h => by cases h) (fun h => by cases h) hnm f2 f3
    (fun i v hv => by
      have hk' : T.vm.classes[V.2.2.1 2]? = some kA := hkA
      have hv' : fits .byte v = true := va_fit (ty := .byte) hfit i v hv
      rw [show (arrV (V.2.2.1 2) n (fun j => Value.int (f j))).cls = V.2.2.1 2 from rfl]
      simpa [State.fitsSlot, State.slotType?, hk', hkind, xTy] using hv')
    (g := F0 m pc ls (.ref a :: rest)) rfl (by rw [hml]; exact hz) rfl (by rw [hb]; exact hdg) hframes (by show 2 * 0 + _ + 14 ≤ _; omega) (by omega) (by rw [arrV_size]; omega) (hloader := Vm.clonesLoader_of_array hkS hkindS)
  have hcellE : ({ cls := (arrV (V.2.2.1 2) n (fun j => Value.int (f j))).cls, slots := (arrV (V.2.2.1 2) n (fun j => Value.int (f j))).slots } : Cell) = arrV (V.2.2.1 2) n (fun j => .int (f j)) := rfl
  rw [hcellE, arrV_size] at X'
  generalize hH1 : H.push (arrV (V.2.2.1 2) n (fun j => .int (f j))) = H1
  have z1 : H1.size = H.size + 1 := by rw [← hH1, Array.size_push]
  have e1 : H1[H.size]? = some (arrV (V.2.2.1 2) n (fun j => .int (f j))) := by rw [← hH1, Array.getElem?_push_size]
  have o1 : ∀ q : Nat, q < H.size → H1[q]? = H[q]? := fun q hq => by rw [← hH1, Array.getElem?_push, if_neg (Nat.ne_of_lt hq)]
  obtain ⟨t, b1, b2⟩ := kk H.size n _ H1 (hW.new (e := .inl (2, n, .inl f)) e1 (hA _ hS.1) o1) ⟨Nat.le_trans hS.1 (by omega), fun y h1 h2 => (o1 y (Nat.lt_of_lt_of_le h1 hS.1)).trans (hS.2.1 y h1 h2), hS.2.2⟩ (h4 _ (hW.fresh (Nat.le_refl _))) h2 (by omega) (by omega)
    ((T.setVm vm').pushCell (arrV (V.2.2.1 2) n (fun j => .int (f j)))) (by rw [← hH1, ← hT]; rfl) X'
  refine ⟨t, st t ?_, b2⟩
  rw [hcellE, hT]
  exact b1
end GMORE
section FD
variable {p : Program} {l : Launch} {e : Env} {R : Room} {s : State} {m : MethodId} {args : Array Value} {below : List Frame} {meth : Method} {c : Code} {H : Heap} {locs : List Loc} {cells slots : Nat} {Q : State → Prop}
theorem gx_runFD {y : MethodName} {bytes cc : ByteArray} {maxL nL mc ms n index count : Nat} {ret : Option FieldType} {ws ws' : List Cond} {rm : Room} {Pc : Array Value → State → Prop} {Qc : Array Value → State → Outcome → State → Prop} {free : Addr → Prop} {Ts : List Cond} {own C : String} {cC : ClassId} {b : Addr} {As rest : List Value} {g : JFrame}
    (hat : ClassAt s C cC) (S : CallFix p m c cc nL s args Ts own) (hM : Met l y ws rm Pc Qc mc ms free) (hT : GoodIn Ts ws) (hw : ws = Cond.code y bytes maxL ret :: ws') (hrc : rm.cells = mc) (hrs : rm.slots = ms) (hR : rm.frames + 1 ≤ R.frames ∧ 8 + (maxL + 11) + rm.locals ≤ R.locals)
    (hlink : Cond.methodLink own index y ∈ Ts) (hD : xDw C y s) (hinst : Cond.instanceMethod y ∈ Ts) (hini : Cond.initialized y.cls ∈ Ts) (hd : y.cls ≠ "java/lang/invoke/MethodHandle" ∧ y.cls ≠ "java/lang/invoke/VarHandle" ∧ (parseMethodDescriptor y.desc).map (fun d => d.parameters.length) = some n) (hp : PreV s H C b Pc As)
    (hg : g.method = m) (hn : As.length = n) (hsize : g.locals.size = nL) (hstack : g.stack = As.reverse ++ .ref b :: rest) (hW : 2 * g.monitorRoom + (rest.map fun v => v.category).sum ≤ 8) (hdg : decode cc g.pc = .ok (.invokeinterface index count, 5)) (hf : cells + mc ≤ R.cells ∧ slots + ms ≤ R.slots) :
    va_Run5 p l e R s m args below meth c H locs cells slots mc ms g rest (Qc (Value.ref b :: As).toArray) (free) := by
  obtain ⟨hx, hb, hml, ho, ht⟩ := S
  have hcw : Cond.code y bytes maxL ret ∈ ws := by rw [hw]; exact List.mem_cons_self
  have hws := pay_in ht hT
  have hini' := ht _ hini
  have hK : Back l R p e below s args y 5 8 (PreOf R mc ms Pc) (PostOf Qc mc ms free) := back_of (bytes := bytes) (maxL := maxL) (ret := ret) hM hp.1 hrc hrs hR.1 hR.2 hws hcw (fun a' U hW => word_at hW (Or.inl (by first | rfl | simp [Cond.onTables, Cond.keeps, Cond.steady])) hini')
  obtain ⟨-, ⟨cellB, hcB, hoB, hclB⟩, hPc⟩ := hp
  obtain ⟨hfc, kB, hkB, -⟩ := hat
  cases hfc.symm.trans hclB
  intro T hT' X
  obtain ⟨v, vm₁, ⟨U', l2, c2, s2⟩, hW₁, X', ⟨g', mk, t, L, e1, e2, hq, h1, hL, h2, h3⟩, st⟩ := X.interfaceBackD hx (C := C) (xi := y) (y := y) ho (ht _ hlink) (va_Nw.use rfl hD.1) (va_Nw.use rfl hD.2.1) (hD.2.2.2.1 _) (ht _ hinst) (va_Nw.use rfl hD.2.2.1) (va_Nw.use rfl hD.2.2.2.2) ⟨hd.1, hd.2.1⟩ hK
    (b := b) hclB hkB ⟨cellB, by rw [hT']; exact hcB, rfl, hoB⟩ (g := g) hg (hsize.trans hml.symm) (Steps.refl _) (argsL := As) (rest := rest) (fun sig h => by
      have h2 := hd.2.2
      rw [h] at h2
      exact hn.trans (Option.some.inj h2).symm) hstack hW (by rw [hb]; exact hdg)
    (fun vm₁ hW₁ => ⟨hf.1, hf.2, hPc (T.setVm vm₁) hT' hW₁⟩)
  dsimp only [Pt.U, Pt.locs, Pt.cells, Pt.slots] at X' e1 e2 h1 h2 h3 st
  subst h1; subst h2; subst h3
  exact ⟨v, (T.setVm vm₁).calling g' mk (Value.ref b :: As).toArray, t, U', L, hT', X', hL, e1, e2, hq, fun target h => st.trans h⟩
end FD
theorem sh_hat {args : Array Value} {s : State} {V : XV} (hts : ∀ w ∈ lw_all, w.before args s = true) (hK : xK V s) {ws : List Cond} (h : ∃ ps : List Nat, ws = ps.filterMap (fun i => lw_tbl[i]?) ∧ ws.all (fun w => goodWord w || xKw w) = true) : ∀ w ∈ ws, w.before args s = true := by
  obtain ⟨ps, hp, hg⟩ := h
  intro w hw
  have h1 := List.all_eq_true.mp hg w hw
  rw [hp] at hw
  obtain ⟨i, -, hi⟩ := List.mem_filterMap.mp hw
  simp only [Bool.or_eq_true] at h1
  rcases h1 with h1 | h1
  · exact hts w (lw_w i hi h1)
  · exact va_Nw.use (xKw_tab h1) (hK.2.2.1 w (List.mem_of_getElem? hi) h1)
/-- an exception of 'own' that is made by 'new X; dup; X.<init>(); athrow' -/
def xEx (own : String) (ik ic : Nat) (E : String) : Prop := Bundle.fit E = true ∧ Cond.classLink own ik E ∈ lw_all ∧ Cond.initialized E ∈ lw_all ∧ ((Cond.classLink own ik E :: Cond.initialized E :: vx_at0 own ic E ["java/lang/RuntimeException", "java/lang/Exception"]).all vx_ot = true) ∧ ∃ ps : List Nat, vx_at0 own ic E ["java/lang/RuntimeException", "java/lang/Exception"] = ps.filterMap (fun i => lw_tbl[i]?) ∧ (vx_at0 own ic E ["java/lang/RuntimeException", "java/lang/Exception"]).all (fun w => goodWord w || xKw w) = true
theorem sh_throw {p : Program} {l : Launch} {e : Env} {R : Room} {s : State} {m : MethodId} {args : Array Value} {below : List Frame} {meth : Method} {c : Code} {H : Heap} {locs : List Loc} {cells slots mc ms : Nat} {cc : ByteArray} {pc nL ik ic : Nat} {ls : Array Slot} {A : Nat → Prop} {V : XV} {G : GM} {own E : String} {X : String → GM → Prop} {Qc : Array Value → State → Outcome → State → Prop}
    (C : xC p m c s args cc nL own V A) (hfl : l.stackTraces = false) (hext : ∀ x ∈ c.exceptionTable.toList, covers x (pc + 7) = false) (hlocks : meth.locks = false) (hE : xEx own ik ic E) (hz : ls.size = nL) (hW : xW V A G H) (hS : va_S A s.heap H locs) (hf : 12 ≤ R.frames) (hlo : 200 ≤ R.locals) (hc : cells + 1 ≤ R.cells) (hs : slots + 6 ≤ R.slots)
    (hmc : R.cells ≤ mc) (hms : R.slots ≤ ms) (d0 : decode cc pc = .ok (.new ik, 3)) (d3 : decode cc (pc + 3) = .ok (.dup, 1)) (d4 : decode cc (pc + 4) = .ok (.invokespecial ic, 3)) (d7 : decode cc (pc + 7) = .ok (.athrow, 1)) (hX : X E G) :
    W p l e R s m args below meth c H locs cells slots (vx_MQ below Qc (vx_X (fun u : String × GM => X u.1 u.2) (fun E u t => E = u.1 ∧ xW V A u.2 t.heap) A) args s mc ms A) (F0 m pc ls []) := by
  obtain ⟨⟨hx, hb, hml, hown, hts⟩, hKx, hZ, hA⟩ := C
  obtain ⟨h1, h2, h3, h4, h5⟩ := hE
  exact vx_throw0 hx hb hfl (names := ["java/lang/RuntimeException", "java/lang/Exception"]) hown h1 (by decide +kernel) (hts _ h2) (hts _ h3) (sh_hat hts hKx h5) (List.all_eq_true.mp h4) hZ.2.1 hZ.2.2 hS (hz.trans hml.symm) d0 d3 d4 d7 hext (by show 2 + 3 < _; omega) (by show 0 + (13 * (2 + 1) + 42) ≤ _; omega) hc hs hlocks
    (fun t hal hsz hq => ⟨(E, G), hX, ⟨rfl, hW.kept hq⟩, ⟨Nat.le_trans hS.1 hsz, fun q g1 g2 => (hq q (Nat.lt_of_lt_of_le g1 hS.1)).trans (hS.2.1 q g1 g2)⟩⟩) hS.2.2 (Nat.le_trans hc hmc) (Nat.le_trans hs hms)
/-! the words of an exception of Shapelayer (printed) -/
theorem xEx_iae : xEx "Shapelayer" 1 3 "java/lang/IllegalArgumentException" := ⟨by decide +kernel, q790, q82, by decide +kernel, ⟨[69, 461, 470, 477, 480, 482, 462, 463, 110, 111, 464, 469, 478, 503, 451, 504, 453, 505, 455, 465, 467, 457, 792, 793, 794, 649, 442, 649, 650, 651, 652, 444, 652, 653, 654, 462, 446, 791, 440, 441, 448, 449, 450, 452, 454, 456, 460, 459, 458], by decide +kernel, by decide +kernel⟩⟩
theorem xEx_ise : xEx "Shapelayer" 7 9 "java/lang/IllegalStateException" := ⟨by decide +kernel, q636, q84, by decide +kernel, ⟨[69, 461, 470, 477, 480, 482, 462, 463, 110, 111, 464, 469, 478, 503, 451, 504, 453, 505, 455, 465, 467, 457, 646, 647, 648, 649, 442, 649, 650, 651, 652, 444, 652, 653, 654, 462, 446, 645, 637, 638, 639, 473, 640, 641, 642, 643, 460, 459, 644], by decide +kernel, by decide +kernel⟩⟩
theorem xEx_ioobe : xEx "Shapelayer" 10 12 "java/lang/IndexOutOfBoundsException" := ⟨by decide +kernel, q755, q72, by decide +kernel, ⟨[69, 461, 470, 477, 480, 482, 462, 463, 110, 111, 464, 469, 478, 503, 451, 504, 453, 505, 455, 465, 467, 457, 765, 766, 767, 649, 442, 649, 650, 651, 652, 444, 652, 653, 654, 462, 446, 764, 756, 757, 758, 474, 759, 760, 761, 762, 460, 459, 763], by decide +kernel, by decide +kernel⟩⟩
theorem xEx_nse : xEx "Shapelayer" 228 230 "java/util/NoSuchElementException" := ⟨by decide +kernel, q1299, q93, by decide +kernel, ⟨[69, 461, 470, 477, 480, 482, 462, 463, 110, 111, 464, 469, 478, 503, 451, 504, 453, 505, 455, 465, 467, 457, 1018, 1019, 1020, 649, 442, 649, 650, 651, 652, 444, 652, 653, 654, 462, 446, 1300, 1009, 1010, 1011, 476, 1012, 1013, 1014, 1015, 460, 459, 1016], by decide +kernel, by decide +kernel⟩⟩

