def CT_J13_max (l : Launch) (fr lo : Nat) (w : (Int32 → Prop) → Int32 → Int32 → Prop) : Prop := ∀ (sz : Nat) (Q : Int32 → Prop) (x0 : Int32) (x1 : Int32), Met l yJ13_max (ws_ yJ13_max cJ13_max 2 (some .int)) { frames := fr, cells := 0, slots := 0, locals := lo } (va_Pc [.int x0, .int x1] (fun U => U.heap.size = sz ∧ w Q x0 x1)) (va_Qi (fun r (_ : Unit) => Q r) (fun _ _ => True) (mN sz)) 0 0 (mN sz)
theorem call_J13_max {p : Program} {l : Launch} {e : Env} {R : Room} {s : State} {m : MethodId} {args : Array Value} {below : List Frame} {meth : Method} {c : Code} {H : Heap} {locs : List Loc} {cells slots : Nat} {Z : State → Prop} {A : Nat → Prop} {cc : ByteArray} {nL pc : Nat} {ls : Array Slot} {rest : List Value} {own : String} {index fr lo : Nat} {w : (Int32 → Prop) → Int32 → Int32 → Prop} {x0 : Int32} {x1 : Int32} (hM : CT_J13_max l fr lo w) (S : CallFix p m c cc nL s args lw_all own) (hS : va_S A s.heap H locs) (hA : ∀ q, s.heap.size ≤ q → A q) (hlink : Cond.methodLink own index yJ13_max ∈ lw_all) (hRf : fr + 1 ≤ R.frames) (hRl : 8 + (2 + 11) + lo ≤ R.locals) (hcs : cells ≤ R.cells ∧ slots ≤ R.slots) (hz : ls.size = nL) (hr8 : (rest.map fun v => v.category).sum ≤ 8) (hdg : decode cc pc = .ok (.invokestatic index, 3)) {Q1 : Int32 → Prop} (h : w Q1 x0 x1) (kk : ∀ (r : Int32) (H1 : Heap) (locs1 : List Loc), Q1 r → (∀ q : Nat, q < H.size → H1[q]? = H[q]?) → va_S A s.heap H1 locs1 → W p l e R s m args below meth c H1 locs1 cells slots Z (F0 m (pc + 3) ls (.int r :: rest))) : W p l e R s m args below meth c H locs cells slots Z (F0 m pc ls (.int x1 :: .int x0 :: rest)) := by
  exact ro_i (va_runS (As := [.int x0, .int x1]) (rest := rest) S (hM H.size Q1 x0 x1) (va_cwS 2 S.2.2.2.2 (lw_S hlink q281 q75 q282) rfl rfl rfl (by decide +kernel) ⟨hRf, hRl⟩) ⟨fun a U g mk q => by obtain ⟨q0, q1, qw⟩ := q; exact ⟨q0, q1, qw⟩, fun U hU hWm => ⟨rfl, by rw [hU], h⟩⟩ rfl rfl hz rfl (lv_room hr8) hdg hcs) hS hA (fun r H1 locs1 hp hz hk hS1 => kk r H1 locs1 hp hk hS1)
def w_J13_max (Q : Int32 → Prop) (x0 : Int32) (x1 : Int32) : Prop := if x0 < x1 then (Q x1) else (Q x0)
set_option maxRecDepth 100000 in
set_option maxHeartbeats 4000000 in
theorem wk_J13_max {p : Program} {l : Launch} {e : Env} {R : Room} {s : State} {m : MethodId} {args : Array Value} {below : List Frame} {meth : Method} {c : Code} {cells slots : Nat} {Z : State → Prop} {A : Nat → Prop}  (Q : Int32 → Prop) (S : CallFix p m c cJ13_max 2 s args lw_all RJ13) (hA : ∀ q, s.heap.size ≤ q → A q) (hRf : 0 ≤ R.frames) (hRl : 0 ≤ R.locals) (hcs : cells ≤ R.cells ∧ slots ≤ R.slots) (hret : ∀ (v : Int32) (pc : Nat) (ls : Array Slot) (H : Heap) (locs : List Loc), decode cJ13_max pc = .ok (.ireturn, 1) → va_S A s.heap H locs → Q v → W p l e R s m args below meth c H locs cells slots Z (F0 m pc ls [.int v])) (x0 : Int32) (x1 : Int32) : w_J13_max Q x0 x1 → ∀ (ls : Array Slot) (H : Heap) (locs : List Loc), lv_has ls 2 [(0, .int x0), (1, .int x1)] → va_S A s.heap H locs → W p l e R s m args below meth c H locs cells slots Z (F0 m 0 ls []) := by
  obtain ⟨hx, hb, hml, hown, hts⟩ := S; have S : CallFix p m c cJ13_max 2 s args lw_all RJ13 := ⟨hx, hb, hml, hown, hts⟩
  intro h
  intro ls H locs hl hS
  refine lv_iload_n hx hb dJ13_max_0 rfl (lv_at hl 0 rfl) ?_
  refine lv_iload_n hx hb dJ13_max_1 rfl (lv_at hl 1 rfl) ?_
  refine lv_icmp_lt (tgt := 9) hx hb dJ13_max_2 (by decide) (fun c1 => ?_) (fun c1 => ?_)
  · have h := wif_t h c1
    refine lv_iload_n hx hb dJ13_max_9 rfl (lv_at hl 1 rfl) ?_
    exact hret _ _ _ _ _ dJ13_max_10 hS h
  · have h := wif_f h c1
    refine lv_iload_n hx hb dJ13_max_5 rfl (lv_at hl 0 rfl) ?_
    refine lv_goto (tgt := 10) hx hb dJ13_max_6 (by decide) ?_
    exact hret _ _ _ _ _ dJ13_max_10 hS h
theorem ct_J13_max (l : Launch) : CT_J13_max l 0 0 w_J13_max := by
  intro sz Q x0 x1
  refine Met.ofWF (cc := cJ13_max) (maxL := 2) (ret := (some .int)) (by decide +kernel) rfl ?_
  intro p e s m args below meth c s₁ B hml hv
  obtain ⟨rfl, hsz, h⟩ := hv
  subst hsz
  have hts := atoms_spec (ws := ws_ yJ13_max cJ13_max 2 (some .int)) B.pre
  have hts : ∀ w ∈ lw_all, w.before _ s = true := fun w h => hts w (List.mem_cons_of_mem _ h)
  have hl := lv_entry ([.int x0, .int x1]) (n := 2) (Nat.le_of_ble_eq_true rfl)
  rw [lg_entry_eq]
  generalize (lg_sl ([.int x0, .int x1]) ++ List.replicate (2 - (lg_sl ([.int x0, .int x1])).length) Slot.unset).toArray = ls at hl ⊢
  exact wk_J13_max Q ⟨B.exec, B.bytes, hml, findClass_of_methodNamed B.named, hts⟩ (fun q h => h) (Nat.le_refl _) (Nat.le_refl _) ⟨Nat.le_refl _, Nat.le_refl _⟩ (fun v pc ls H locs hd hS hQ => W.iret (v := v) B.exec B.bytes B.returns (fun t ht _ => ⟨⟨v, (), rfl, hQ, trivial⟩, hS.F ht⟩) hS.2.2 hd) x0 x1 h ls _ [] hl va_S.rf
def CT_J13_min (l : Launch) (fr lo : Nat) (w : (Int32 → Prop) → Int32 → Int32 → Prop) : Prop := ∀ (sz : Nat) (Q : Int32 → Prop) (x0 : Int32) (x1 : Int32), Met l yJ13_min (ws_ yJ13_min cJ13_min 2 (some .int)) { frames := fr, cells := 0, slots := 0, locals := lo } (va_Pc [.int x0, .int x1] (fun U => U.heap.size = sz ∧ w Q x0 x1)) (va_Qi (fun r (_ : Unit) => Q r) (fun _ _ => True) (mN sz)) 0 0 (mN sz)
theorem call_J13_min {p : Program} {l : Launch} {e : Env} {R : Room} {s : State} {m : MethodId} {args : Array Value} {below : List Frame} {meth : Method} {c : Code} {H : Heap} {locs : List Loc} {cells slots : Nat} {Z : State → Prop} {A : Nat → Prop} {cc : ByteArray} {nL pc : Nat} {ls : Array Slot} {rest : List Value} {own : String} {index fr lo : Nat} {w : (Int32 → Prop) → Int32 → Int32 → Prop} {x0 : Int32} {x1 : Int32} (hM : CT_J13_min l fr lo w) (S : CallFix p m c cc nL s args lw_all own) (hS : va_S A s.heap H locs) (hA : ∀ q, s.heap.size ≤ q → A q) (hlink : Cond.methodLink own index yJ13_min ∈ lw_all) (hRf : fr + 1 ≤ R.frames) (hRl : 8 + (2 + 11) + lo ≤ R.locals) (hcs : cells ≤ R.cells ∧ slots ≤ R.slots) (hz : ls.size = nL) (hr8 : (rest.map fun v => v.category).sum ≤ 8) (hdg : decode cc pc = .ok (.invokestatic index, 3)) {Q1 : Int32 → Prop} (h : w Q1 x0 x1) (kk : ∀ (r : Int32) (H1 : Heap) (locs1 : List Loc), Q1 r → (∀ q : Nat, q < H.size → H1[q]? = H[q]?) → va_S A s.heap H1 locs1 → W p l e R s m args below meth c H1 locs1 cells slots Z (F0 m (pc + 3) ls (.int r :: rest))) : W p l e R s m args below meth c H locs cells slots Z (F0 m pc ls (.int x1 :: .int x0 :: rest)) := by
  exact ro_i (va_runS (As := [.int x0, .int x1]) (rest := rest) S (hM H.size Q1 x0 x1) (va_cwS 2 S.2.2.2.2 (lw_S hlink q299 q75 q300) rfl rfl rfl (by decide +kernel) ⟨hRf, hRl⟩) ⟨fun a U g mk q => by obtain ⟨q0, q1, qw⟩ := q; exact ⟨q0, q1, qw⟩, fun U hU hWm => ⟨rfl, by rw [hU], h⟩⟩ rfl rfl hz rfl (lv_room hr8) hdg hcs) hS hA (fun r H1 locs1 hp hz hk hS1 => kk r H1 locs1 hp hk hS1)
def w_J13_min (Q : Int32 → Prop) (x0 : Int32) (x1 : Int32) : Prop := if x1 < x0 then (Q x1) else (Q x0)
set_option maxRecDepth 100000 in
set_option maxHeartbeats 4000000 in
theorem wk_J13_min {p : Program} {l : Launch} {e : Env} {R : Room} {s : State} {m : MethodId} {args : Array Value} {below : List Frame} {meth : Method} {c : Code} {cells slots : Nat} {Z : State → Prop} {A : Nat → Prop}  (Q : Int32 → Prop) (S : CallFix p m c cJ13_min 2 s args lw_all RJ13) (hA : ∀ q, s.heap.size ≤ q → A q) (hRf : 0 ≤ R.frames) (hRl : 0 ≤ R.locals) (hcs : cells ≤ R.cells ∧ slots ≤ R.slots) (hret : ∀ (v : Int32) (pc : Nat) (ls : Array Slot) (H : Heap) (locs : List Loc), decode cJ13_min pc = .ok (.ireturn, 1) → va_S A s.heap H locs → Q v → W p l e R s m args below meth c H locs cells slots Z (F0 m pc ls [.int v])) (x0 : Int32) (x1 : Int32) : w_J13_min Q x0 x1 → ∀ (ls : Array Slot) (H : Heap) (locs : List Loc), lv_has ls 2 [(0, .int x0), (1, .int x1)] → va_S A s.heap H locs → W p l e R s m args below meth c H locs cells slots Z (F0 m 0 ls []) := by
  obtain ⟨hx, hb, hml, hown, hts⟩ := S; have S : CallFix p m c cJ13_min 2 s args lw_all RJ13 := ⟨hx, hb, hml, hown, hts⟩
  intro h
  intro ls H locs hl hS
  refine lv_iload_n hx hb dJ13_min_0 rfl (lv_at hl 0 rfl) ?_
  refine lv_iload_n hx hb dJ13_min_1 rfl (lv_at hl 1 rfl) ?_
  refine lv_icmp_gt (tgt := 9) hx hb dJ13_min_2 (by decide) (fun c1 => ?_) (fun c1 => ?_)
  · have h := wif_t h c1
    refine lv_iload_n hx hb dJ13_min_9 rfl (lv_at hl 1 rfl) ?_
    exact hret _ _ _ _ _ dJ13_min_10 hS h
  · have h := wif_f h c1
    refine lv_iload_n hx hb dJ13_min_5 rfl (lv_at hl 0 rfl) ?_
    refine lv_goto (tgt := 10) hx hb dJ13_min_6 (by decide) ?_
    exact hret _ _ _ _ _ dJ13_min_10 hS h
theorem ct_J13_min (l : Launch) : CT_J13_min l 0 0 w_J13_min := by
  intro sz Q x0 x1
  refine Met.ofWF (cc := cJ13_min) (maxL := 2) (ret := (some .int)) (by decide +kernel) rfl ?_
  intro p e s m args below meth c s₁ B hml hv
  obtain ⟨rfl, hsz, h⟩ := hv
  subst hsz
  have hts := atoms_spec (ws := ws_ yJ13_min cJ13_min 2 (some .int)) B.pre
  have hts : ∀ w ∈ lw_all, w.before _ s = true := fun w h => hts w (List.mem_cons_of_mem _ h)
  have hl := lv_entry ([.int x0, .int x1]) (n := 2) (Nat.le_of_ble_eq_true rfl)
  rw [lg_entry_eq]
  generalize (lg_sl ([.int x0, .int x1]) ++ List.replicate (2 - (lg_sl ([.int x0, .int x1])).length) Slot.unset).toArray = ls at hl ⊢
  exact wk_J13_min Q ⟨B.exec, B.bytes, hml, findClass_of_methodNamed B.named, hts⟩ (fun q h => h) (Nat.le_refl _) (Nat.le_refl _) ⟨Nat.le_refl _, Nat.le_refl _⟩ (fun v pc ls H locs hd hS hQ => W.iret (v := v) B.exec B.bytes B.returns (fun t ht _ => ⟨⟨v, (), rfl, hQ, trivial⟩, hS.F ht⟩) hS.2.2 hd) x0 x1 h ls _ [] hl va_S.rf
def CT_J13_abs (l : Launch) (fr lo : Nat) (w : (Int32 → Prop) → Int32 → Prop) : Prop := ∀ (sz : Nat) (Q : Int32 → Prop) (x0 : Int32), Met l yJ13_abs (ws_ yJ13_abs cJ13_abs 1 (some .int)) { frames := fr, cells := 0, slots := 0, locals := lo } (va_Pc [.int x0] (fun U => U.heap.size = sz ∧ w Q x0)) (va_Qi (fun r (_ : Unit) => Q r) (fun _ _ => True) (mN sz)) 0 0 (mN sz)
theorem call_J13_abs {p : Program} {l : Launch} {e : Env} {R : Room} {s : State} {m : MethodId} {args : Array Value} {below : List Frame} {meth : Method} {c : Code} {H : Heap} {locs : List Loc} {cells slots : Nat} {Z : State → Prop} {A : Nat → Prop} {cc : ByteArray} {nL pc : Nat} {ls : Array Slot} {rest : List Value} {own : String} {index fr lo : Nat} {w : (Int32 → Prop) → Int32 → Prop} {x0 : Int32} (hM : CT_J13_abs l fr lo w) (S : CallFix p m c cc nL s args lw_all own) (hS : va_S A s.heap H locs) (hA : ∀ q, s.heap.size ≤ q → A q) (hlink : Cond.methodLink own index yJ13_abs ∈ lw_all) (hRf : fr + 1 ≤ R.frames) (hRl : 8 + (1 + 11) + lo ≤ R.locals) (hcs : cells ≤ R.cells ∧ slots ≤ R.slots) (hz : ls.size = nL) (hr8 : (rest.map fun v => v.category).sum ≤ 8) (hdg : decode cc pc = .ok (.invokestatic index, 3)) {Q1 : Int32 → Prop} (h : w Q1 x0) (kk : ∀ (r : Int32) (H1 : Heap) (locs1 : List Loc), Q1 r → (∀ q : Nat, q < H.size → H1[q]? = H[q]?) → va_S A s.heap H1 locs1 → W p l e R s m args below meth c H1 locs1 cells slots Z (F0 m (pc + 3) ls (.int r :: rest))) : W p l e R s m args below meth c H locs cells slots Z (F0 m pc ls (.int x0 :: rest)) := by
  exact ro_i (va_runS (As := [.int x0]) (rest := rest) S (hM H.size Q1 x0) (va_cwS 1 S.2.2.2.2 (lw_S hlink q952 q75 q953) rfl rfl rfl (by decide +kernel) ⟨hRf, hRl⟩) ⟨fun a U g mk q => by obtain ⟨q0, q1, qw⟩ := q; exact ⟨q0, q1, qw⟩, fun U hU hWm => ⟨rfl, by rw [hU], h⟩⟩ rfl rfl hz rfl (lv_room hr8) hdg hcs) hS hA (fun r H1 locs1 hp hz hk hS1 => kk r H1 locs1 hp hk hS1)
def w_J13_abs (Q : Int32 → Prop) (x0 : Int32) : Prop := if 0 ≤ x0 then (Q x0) else (Q (-x0))
set_option maxRecDepth 100000 in
set_option maxHeartbeats 4000000 in
theorem wk_J13_abs {p : Program} {l : Launch} {e : Env} {R : Room} {s : State} {m : MethodId} {args : Array Value} {below : List Frame} {meth : Method} {c : Code} {cells slots : Nat} {Z : State → Prop} {A : Nat → Prop}  (Q : Int32 → Prop) (S : CallFix p m c cJ13_abs 1 s args lw_all RJ13) (hA : ∀ q, s.heap.size ≤ q → A q) (hRf : 0 ≤ R.frames) (hRl : 0 ≤ R.locals) (hcs : cells ≤ R.cells ∧ slots ≤ R.slots) (hret : ∀ (v : Int32) (pc : Nat) (ls : Array Slot) (H : Heap) (locs : List Loc), decode cJ13_abs pc = .ok (.ireturn, 1) → va_S A s.heap H locs → Q v → W p l e R s m args below meth c H locs cells slots Z (F0 m pc ls [.int v])) (x0 : Int32) : w_J13_abs Q x0 → ∀ (ls : Array Slot) (H : Heap) (locs : List Loc), lv_has ls 1 [(0, .int x0)] → va_S A s.heap H locs → W p l e R s m args below meth c H locs cells slots Z (F0 m 0 ls []) := by
  obtain ⟨hx, hb, hml, hown, hts⟩ := S; have S : CallFix p m c cJ13_abs 1 s args lw_all RJ13 := ⟨hx, hb, hml, hown, hts⟩
  intro h
  intro ls H locs hl hS
  refine lv_iload_n hx hb dJ13_abs_0 rfl (lv_at hl 0 rfl) ?_
  refine lv_if_ge (tgt := 9) hx hb dJ13_abs_1 (by decide) (fun c1 => ?_) (fun c1 => ?_)
  · have h := wif_t h c1
    refine lv_iload_n hx hb dJ13_abs_9 rfl (lv_at hl 0 rfl) ?_
    exact hret _ _ _ _ _ dJ13_abs_10 hS h
  · have h := wif_f h c1
    refine lv_iload_n hx hb dJ13_abs_4 rfl (lv_at hl 0 rfl) ?_
    refine lv_ineg hx hb dJ13_abs_5 ?_
    refine lv_goto (tgt := 10) hx hb dJ13_abs_6 (by decide) ?_
    exact hret _ _ _ _ _ dJ13_abs_10 hS h
theorem ct_J13_abs (l : Launch) : CT_J13_abs l 0 0 w_J13_abs := by
  intro sz Q x0
  refine Met.ofWF (cc := cJ13_abs) (maxL := 1) (ret := (some .int)) (by decide +kernel) rfl ?_
  intro p e s m args below meth c s₁ B hml hv
  obtain ⟨rfl, hsz, h⟩ := hv
  subst hsz
  have hts := atoms_spec (ws := ws_ yJ13_abs cJ13_abs 1 (some .int)) B.pre
  have hts : ∀ w ∈ lw_all, w.before _ s = true := fun w h => hts w (List.mem_cons_of_mem _ h)
  have hl := lv_entry ([.int x0]) (n := 1) (Nat.le_of_ble_eq_true rfl)
  rw [lg_entry_eq]
  generalize (lg_sl ([.int x0]) ++ List.replicate (1 - (lg_sl ([.int x0])).length) Slot.unset).toArray = ls at hl ⊢
  exact wk_J13_abs Q ⟨B.exec, B.bytes, hml, findClass_of_methodNamed B.named, hts⟩ (fun q h => h) (Nat.le_refl _) (Nat.le_refl _) ⟨Nat.le_refl _, Nat.le_refl _⟩ (fun v pc ls H locs hd hS hQ => W.iret (v := v) B.exec B.bytes B.returns (fun t ht _ => ⟨⟨v, (), rfl, hQ, trivial⟩, hS.F ht⟩) hS.2.2 hd) x0 h ls _ [] hl va_S.rf
def CT_J13_floorDiv (l : Launch) (fr lo : Nat) (w : (Int64 → Prop) → Int64 → Int64 → Prop) : Prop := ∀ (sz : Nat) (Q : Int64 → Prop) (x0 : Int64) (x2 : Int64), Met l yJ13_floorDiv (ws_ yJ13_floorDiv cJ13_floorDiv 6 (some .long)) { frames := fr, cells := 0, slots := 0, locals := lo } (va_Pc [.long x0, .long x2] (fun U => U.heap.size = sz ∧ w Q x0 x2)) (va_Ql (fun r (_ : Unit) => Q r) (fun _ _ => True) (mN sz)) 0 0 (mN sz)
theorem call_J13_floorDiv {p : Program} {l : Launch} {e : Env} {R : Room} {s : State} {m : MethodId} {args : Array Value} {below : List Frame} {meth : Method} {c : Code} {H : Heap} {locs : List Loc} {cells slots : Nat} {Z : State → Prop} {A : Nat → Prop} {cc : ByteArray} {nL pc : Nat} {ls : Array Slot} {rest : List Value} {own : String} {index fr lo : Nat} {w : (Int64 → Prop) → Int64 → Int64 → Prop} {x0 : Int64} {x2 : Int64} (hM : CT_J13_floorDiv l fr lo w) (S : CallFix p m c cc nL s args lw_all own) (hS : va_S A s.heap H locs) (hA : ∀ q, s.heap.size ≤ q → A q) (hlink : Cond.methodLink own index yJ13_floorDiv ∈ lw_all) (hRf : fr + 1 ≤ R.frames) (hRl : 8 + (6 + 11) + lo ≤ R.locals) (hcs : cells ≤ R.cells ∧ slots ≤ R.slots) (hz : ls.size = nL) (hr8 : (rest.map fun v => v.category).sum ≤ 8) (hdg : decode cc pc = .ok (.invokestatic index, 3)) {Q1 : Int64 → Prop} (h : w Q1 x0 x2) (kk : ∀ (r : Int64) (H1 : Heap) (locs1 : List Loc), Q1 r → (∀ q : Nat, q < H.size → H1[q]? = H[q]?) → va_S A s.heap H1 locs1 → W p l e R s m args below meth c H1 locs1 cells slots Z (F0 m (pc + 3) ls (.long r :: rest))) : W p l e R s m args below meth c H locs cells slots Z (F0 m pc ls (.long x2 :: .long x0 :: rest)) := by
  exact ro_l (va_runS (As := [.long x0, .long x2]) (rest := rest) S (hM H.size Q1 x0 x2) (va_cwS 2 S.2.2.2.2 (lw_S hlink q1359 q75 q1360) rfl rfl rfl (by decide +kernel) ⟨hRf, hRl⟩) ⟨fun a U g mk q => by obtain ⟨q0, q1, qw⟩ := q; exact ⟨q0, q1, qw⟩, fun U hU hWm => ⟨rfl, by rw [hU], h⟩⟩ rfl rfl hz rfl (lv_room hr8) hdg hcs) hS hA (fun r H1 locs1 hp hz hk hS1 => kk r H1 locs1 hp hk hS1)
def w_J13_floorDiv (Q : Int64 → Prop) (x0 : Int64) (x2 : Int64) : Prop := ¬ x2 = 0 ∧ (if 0 ≤ (lg_cmp (x0 ^^^ x2) (0 : Int64)) then (Q (x0 / x2)) else (if (lg_cmp ((x0 / x2) * x2) x0) = 0 then (Q (x0 / x2)) else (Q ((x0 / x2) - (1 : Int64)))))
set_option maxRecDepth 100000 in
set_option maxHeartbeats 4000000 in
theorem wk_J13_floorDiv {p : Program} {l : Launch} {e : Env} {R : Room} {s : State} {m : MethodId} {args : Array Value} {below : List Frame} {meth : Method} {c : Code} {cells slots : Nat} {Z : State → Prop} {A : Nat → Prop}  (Q : Int64 → Prop) (S : CallFix p m c cJ13_floorDiv 6 s args lw_all RJ13) (hA : ∀ q, s.heap.size ≤ q → A q) (hRf : 0 ≤ R.frames) (hRl : 0 ≤ R.locals) (hcs : cells ≤ R.cells ∧ slots ≤ R.slots) (hret : ∀ (v : Int64) (pc : Nat) (ls : Array Slot) (H : Heap) (locs : List Loc), decode cJ13_floorDiv pc = .ok (.lreturn, 1) → va_S A s.heap H locs → Q v → W p l e R s m args below meth c H locs cells slots Z (F0 m pc ls [.long v])) (x0 : Int64) (x2 : Int64) : w_J13_floorDiv Q x0 x2 → ∀ (ls : Array Slot) (H : Heap) (locs : List Loc), lv_has ls 6 [(0, .long x0), (2, .long x2)] → va_S A s.heap H locs → W p l e R s m args below meth c H locs cells slots Z (F0 m 0 ls []) := by
  obtain ⟨hx, hb, hml, hown, hts⟩ := S; have S : CallFix p m c cJ13_floorDiv 6 s args lw_all RJ13 := ⟨hx, hb, hml, hown, hts⟩
  intro h
  intro ls H locs hl hS
  refine lv_lload_n hx hb dJ13_floorDiv_0 rfl (lv_at hl 0 rfl) ?_
  refine lv_lload_n hx hb dJ13_floorDiv_1 rfl (lv_at hl 1 rfl) ?_
  refine lv_ldiv hx hb dJ13_floorDiv_2 h.1 ?_
  have h := h.2
  refine lv_lstore (lv' := [(4, .long (x0 / x2)), (0, .long x0), (2, .long x2)]) hx hb dJ13_floorDiv_3 hl (by decide) rfl (fun ls hl => ?_)
  refine lv_lload_n hx hb dJ13_floorDiv_5 rfl (lv_at hl 1 rfl) ?_
  refine lv_lload_n hx hb dJ13_floorDiv_6 rfl (lv_at hl 2 rfl) ?_
  refine lv_lxor hx hb dJ13_floorDiv_7 ?_
  refine lv_lconst (v := 0) hx hb dJ13_floorDiv_8 (by decide) ?_
  refine W.lcmp hx hb dJ13_floorDiv_9 ?_
  refine lv_if_ge (tgt := 27) hx hb dJ13_floorDiv_10 (by decide) (fun c2 => ?_) (fun c2 => ?_)
  · have h := wif_t h c2
    refine lv_lload hx hb dJ13_floorDiv_27 (lv_at hl 0 rfl) ?_
    exact hret _ _ _ _ _ dJ13_floorDiv_29 hS h
  · have h := wif_f h c2
    refine lv_lload hx hb dJ13_floorDiv_13 (lv_at hl 0 rfl) ?_
    refine lv_lload_n hx hb dJ13_floorDiv_15 rfl (lv_at hl 2 rfl) ?_
    refine lv_lmul hx hb dJ13_floorDiv_16 ?_
    refine lv_lload_n hx hb dJ13_floorDiv_17 rfl (lv_at hl 1 rfl) ?_
    refine W.lcmp hx hb dJ13_floorDiv_18 ?_
    refine lv_if_eq (tgt := 27) hx hb dJ13_floorDiv_19 (by decide) (fun c1 => ?_) (fun c1 => ?_)
    · have h := wif_t h c1
      refine lv_lload hx hb dJ13_floorDiv_27 (lv_at hl 0 rfl) ?_
      exact hret _ _ _ _ _ dJ13_floorDiv_29 hS h
    · have h := wif_f h c1
      refine lv_lload hx hb dJ13_floorDiv_22 (lv_at hl 0 rfl) ?_
      refine lv_lconst (v := 1) hx hb dJ13_floorDiv_24 (by decide) ?_
      refine lv_lsub hx hb dJ13_floorDiv_25 ?_
      exact hret _ _ _ _ _ dJ13_floorDiv_26 hS h
theorem ct_J13_floorDiv (l : Launch) : CT_J13_floorDiv l 0 0 w_J13_floorDiv := by
  intro sz Q x0 x2
  refine Met.ofWF (cc := cJ13_floorDiv) (maxL := 6) (ret := (some .long)) (by decide +kernel) rfl ?_
  intro p e s m args below meth c s₁ B hml hv
  obtain ⟨rfl, hsz, h⟩ := hv
  subst hsz
  have hts := atoms_spec (ws := ws_ yJ13_floorDiv cJ13_floorDiv 6 (some .long)) B.pre
  have hts : ∀ w ∈ lw_all, w.before _ s = true := fun w h => hts w (List.mem_cons_of_mem _ h)
  have hl := lv_entry ([.long x0, .long x2]) (n := 6) (Nat.le_of_ble_eq_true rfl)
  rw [lg_entry_eq]
  generalize (lg_sl ([.long x0, .long x2]) ++ List.replicate (6 - (lg_sl ([.long x0, .long x2])).length) Slot.unset).toArray = ls at hl ⊢
  exact wk_J13_floorDiv Q ⟨B.exec, B.bytes, hml, findClass_of_methodNamed B.named, hts⟩ (fun q h => h) (Nat.le_refl _) (Nat.le_refl _) ⟨Nat.le_refl _, Nat.le_refl _⟩ (fun v pc ls H locs hd hS hQ => W.lret (v := v) B.exec B.bytes B.returns (fun t ht _ => ⟨⟨v, (), rfl, hQ, trivial⟩, hS.F ht⟩) hS.2.2 hd) x0 x2 h ls _ [] hl va_S.rf
def CT_J13_floorMod (l : Launch) (fr lo : Nat) (w : (Int32 → Prop) → Int32 → Int32 → Prop) : Prop := ∀ (sz : Nat) (Q : Int32 → Prop) (x0 : Int32) (x1 : Int32), Met l yJ13_floorMod (ws_ yJ13_floorMod cJ13_floorMod 3 (some .int)) { frames := fr, cells := 0, slots := 0, locals := lo } (va_Pc [.int x0, .int x1] (fun U => U.heap.size = sz ∧ w Q x0 x1)) (va_Qi (fun r (_ : Unit) => Q r) (fun _ _ => True) (mN sz)) 0 0 (mN sz)
theorem call_J13_floorMod {p : Program} {l : Launch} {e : Env} {R : Room} {s : State} {m : MethodId} {args : Array Value} {below : List Frame} {meth : Method} {c : Code} {H : Heap} {locs : List Loc} {cells slots : Nat} {Z : State → Prop} {A : Nat → Prop} {cc : ByteArray} {nL pc : Nat} {ls : Array Slot} {rest : List Value} {own : String} {index fr lo : Nat} {w : (Int32 → Prop) → Int32 → Int32 → Prop} {x0 : Int32} {x1 : Int32} (hM : CT_J13_floorMod l fr lo w) (S : CallFix p m c cc nL s args lw_all own) (hS : va_S A s.heap H locs) (hA : ∀ q, s.heap.size ≤ q → A q) (hlink : Cond.methodLink own index yJ13_floorMod ∈ lw_all) (hRf : fr + 1 ≤ R.frames) (hRl : 8 + (3 + 11) + lo ≤ R.locals) (hcs : cells ≤ R.cells ∧ slots ≤ R.slots) (hz : ls.size = nL) (hr8 : (rest.map fun v => v.category).sum ≤ 8) (hdg : decode cc pc = .ok (.invokestatic index, 3)) {Q1 : Int32 → Prop} (h : w Q1 x0 x1) (kk : ∀ (r : Int32) (H1 : Heap) (locs1 : List Loc), Q1 r → (∀ q : Nat, q < H.size → H1[q]? = H[q]?) → va_S A s.heap H1 locs1 → W p l e R s m args below meth c H1 locs1 cells slots Z (F0 m (pc + 3) ls (.int r :: rest))) : W p l e R s m args below meth c H locs cells slots Z (F0 m pc ls (.int x1 :: .int x0 :: rest)) := by
  exact ro_i (va_runS (As := [.int x0, .int x1]) (rest := rest) S (hM H.size Q1 x0 x1) (va_cwS 2 S.2.2.2.2 (lw_S hlink q1392 q75 q1393) rfl rfl rfl (by decide +kernel) ⟨hRf, hRl⟩) ⟨fun a U g mk q => by obtain ⟨q0, q1, qw⟩ := q; exact ⟨q0, q1, qw⟩, fun U hU hWm => ⟨rfl, by rw [hU], h⟩⟩ rfl rfl hz rfl (lv_room hr8) hdg hcs) hS hA (fun r H1 locs1 hp hz hk hS1 => kk r H1 locs1 hp hk hS1)
def w_J13_floorMod (Q : Int32 → Prop) (x0 : Int32) (x1 : Int32) : Prop := ¬ x1 = 0 ∧ (if 0 ≤ (x0 ^^^ x1) then (Q (x0 - x0 / x1 * x1)) else (if (x0 - x0 / x1 * x1) = 0 then (Q (x0 - x0 / x1 * x1)) else (Q ((x0 - x0 / x1 * x1) + x1))))
set_option maxRecDepth 100000 in
set_option maxHeartbeats 4000000 in
theorem wk_J13_floorMod {p : Program} {l : Launch} {e : Env} {R : Room} {s : State} {m : MethodId} {args : Array Value} {below : List Frame} {meth : Method} {c : Code} {cells slots : Nat} {Z : State → Prop} {A : Nat → Prop}  (Q : Int32 → Prop) (S : CallFix p m c cJ13_floorMod 3 s args lw_all RJ13) (hA : ∀ q, s.heap.size ≤ q → A q) (hRf : 0 ≤ R.frames) (hRl : 0 ≤ R.locals) (hcs : cells ≤ R.cells ∧ slots ≤ R.slots) (hret : ∀ (v : Int32) (pc : Nat) (ls : Array Slot) (H : Heap) (locs : List Loc), decode cJ13_floorMod pc = .ok (.ireturn, 1) → va_S A s.heap H locs → Q v → W p l e R s m args below meth c H locs cells slots Z (F0 m pc ls [.int v])) (x0 : Int32) (x1 : Int32) : w_J13_floorMod Q x0 x1 → ∀ (ls : Array Slot) (H : Heap) (locs : List Loc), lv_has ls 3 [(0, .int x0), (1, .int x1)] → va_S A s.heap H locs → W p l e R s m args below meth c H locs cells slots Z (F0 m 0 ls []) := by
  obtain ⟨hx, hb, hml, hown, hts⟩ := S; have S : CallFix p m c cJ13_floorMod 3 s args lw_all RJ13 := ⟨hx, hb, hml, hown, hts⟩
  intro h
  intro ls H locs hl hS
  refine lv_iload_n hx hb dJ13_floorMod_0 rfl (lv_at hl 0 rfl) ?_
  refine lv_iload_n hx hb dJ13_floorMod_1 rfl (lv_at hl 1 rfl) ?_
  refine lv_irem hx hb dJ13_floorMod_2 h.1 ?_
  have h := h.2
  refine lv_istore_n (lv' := [(2, .int (x0 - x0 / x1 * x1)), (0, .int x0), (1, .int x1)]) hx hb dJ13_floorMod_3 rfl hl (by decide) rfl (fun ls hl => ?_)
  refine lv_iload_n hx hb dJ13_floorMod_4 rfl (lv_at hl 1 rfl) ?_
  refine lv_iload_n hx hb dJ13_floorMod_5 rfl (lv_at hl 2 rfl) ?_
  refine lv_ixor hx hb dJ13_floorMod_6 ?_
  refine lv_if_ge (tgt := 18) hx hb dJ13_floorMod_7 (by decide) (fun c2 => ?_) (fun c2 => ?_)
  · have h := wif_t h c2
    refine lv_iload_n hx hb dJ13_floorMod_18 rfl (lv_at hl 0 rfl) ?_
    exact hret _ _ _ _ _ dJ13_floorMod_19 hS h
  · have h := wif_f h c2
    refine lv_iload_n hx hb dJ13_floorMod_10 rfl (lv_at hl 0 rfl) ?_
    refine lv_if_eq (tgt := 18) hx hb dJ13_floorMod_11 (by decide) (fun c1 => ?_) (fun c1 => ?_)
    · have h := wif_t h c1
      refine lv_iload_n hx hb dJ13_floorMod_18 rfl (lv_at hl 0 rfl) ?_
      exact hret _ _ _ _ _ dJ13_floorMod_19 hS h
    · have h := wif_f h c1
      refine lv_iload_n hx hb dJ13_floorMod_14 rfl (lv_at hl 0 rfl) ?_
      refine lv_iload_n hx hb dJ13_floorMod_15 rfl (lv_at hl 2 rfl) ?_
      refine lv_iadd hx hb dJ13_floorMod_16 ?_
      exact hret _ _ _ _ _ dJ13_floorMod_17 hS h
theorem ct_J13_floorMod (l : Launch) : CT_J13_floorMod l 0 0 w_J13_floorMod := by
  intro sz Q x0 x1
  refine Met.ofWF (cc := cJ13_floorMod) (maxL := 3) (ret := (some .int)) (by decide +kernel) rfl ?_
  intro p e s m args below meth c s₁ B hml hv
  obtain ⟨rfl, hsz, h⟩ := hv
  subst hsz
  have hts := atoms_spec (ws := ws_ yJ13_floorMod cJ13_floorMod 3 (some .int)) B.pre
  have hts : ∀ w ∈ lw_all, w.before _ s = true := fun w h => hts w (List.mem_cons_of_mem _ h)
  have hl := lv_entry ([.int x0, .int x1]) (n := 3) (Nat.le_of_ble_eq_true rfl)
  rw [lg_entry_eq]
  generalize (lg_sl ([.int x0, .int x1]) ++ List.replicate (3 - (lg_sl ([.int x0, .int x1])).length) Slot.unset).toArray = ls at hl ⊢
  exact wk_J13_floorMod Q ⟨B.exec, B.bytes, hml, findClass_of_methodNamed B.named, hts⟩ (fun q h => h) (Nat.le_refl _) (Nat.le_refl _) ⟨Nat.le_refl _, Nat.le_refl _⟩ (fun v pc ls H locs hd hS hQ => W.iret (v := v) B.exec B.bytes B.returns (fun t ht _ => ⟨⟨v, (), rfl, hQ, trivial⟩, hS.F ht⟩) hS.2.2 hd) x0 x1 h ls _ [] hl va_S.rf
def CT_J13_min_2 (l : Launch) (fr lo : Nat) (w : (Int64 → Prop) → Int64 → Int64 → Prop) : Prop := ∀ (sz : Nat) (Q : Int64 → Prop) (x0 : Int64) (x2 : Int64), Met l yJ13_min_2 (ws_ yJ13_min_2 cJ13_min_2 4 (some .long)) { frames := fr, cells := 0, slots := 0, locals := lo } (va_Pc [.long x0, .long x2] (fun U => U.heap.size = sz ∧ w Q x0 x2)) (va_Ql (fun r (_ : Unit) => Q r) (fun _ _ => True) (mN sz)) 0 0 (mN sz)
theorem call_J13_min_2 {p : Program} {l : Launch} {e : Env} {R : Room} {s : State} {m : MethodId} {args : Array Value} {below : List Frame} {meth : Method} {c : Code} {H : Heap} {locs : List Loc} {cells slots : Nat} {Z : State → Prop} {A : Nat → Prop} {cc : ByteArray} {nL pc : Nat} {ls : Array Slot} {rest : List Value} {own : String} {index fr lo : Nat} {w : (Int64 → Prop) → Int64 → Int64 → Prop} {x0 : Int64} {x2 : Int64} (hM : CT_J13_min_2 l fr lo w) (S : CallFix p m c cc nL s args lw_all own) (hS : va_S A s.heap H locs) (hA : ∀ q, s.heap.size ≤ q → A q) (hlink : Cond.methodLink own index yJ13_min_2 ∈ lw_all) (hRf : fr + 1 ≤ R.frames) (hRl : 8 + (4 + 11) + lo ≤ R.locals) (hcs : cells ≤ R.cells ∧ slots ≤ R.slots) (hz : ls.size = nL) (hr8 : (rest.map fun v => v.category).sum ≤ 8) (hdg : decode cc pc = .ok (.invokestatic index, 3)) {Q1 : Int64 → Prop} (h : w Q1 x0 x2) (kk : ∀ (r : Int64) (H1 : Heap) (locs1 : List Loc), Q1 r → (∀ q : Nat, q < H.size → H1[q]? = H[q]?) → va_S A s.heap H1 locs1 → W p l e R s m args below meth c H1 locs1 cells slots Z (F0 m (pc + 3) ls (.long r :: rest))) : W p l e R s m args below meth c H locs cells slots Z (F0 m pc ls (.long x2 :: .long x0 :: rest)) := by
  exact ro_l (va_runS (As := [.long x0, .long x2]) (rest := rest) S (hM H.size Q1 x0 x2) (va_cwS 2 S.2.2.2.2 (lw_S hlink q1417 q75 q1418) rfl rfl rfl (by decide +kernel) ⟨hRf, hRl⟩) ⟨fun a U g mk q => by obtain ⟨q0, q1, qw⟩ := q; exact ⟨q0, q1, qw⟩, fun U hU hWm => ⟨rfl, by rw [hU], h⟩⟩ rfl rfl hz rfl (lv_room hr8) hdg hcs) hS hA (fun r H1 locs1 hp hz hk hS1 => kk r H1 locs1 hp hk hS1)
def w_J13_min_2 (Q : Int64 → Prop) (x0 : Int64) (x2 : Int64) : Prop := if 0 < (lg_cmp x0 x2) then (Q x2) else (Q x0)
set_option maxRecDepth 100000 in
set_option maxHeartbeats 4000000 in
theorem wk_J13_min_2 {p : Program} {l : Launch} {e : Env} {R : Room} {s : State} {m : MethodId} {args : Array Value} {below : List Frame} {meth : Method} {c : Code} {cells slots : Nat} {Z : State → Prop} {A : Nat → Prop}  (Q : Int64 → Prop) (S : CallFix p m c cJ13_min_2 4 s args lw_all RJ13) (hA : ∀ q, s.heap.size ≤ q → A q) (hRf : 0 ≤ R.frames) (hRl : 0 ≤ R.locals) (hcs : cells ≤ R.cells ∧ slots ≤ R.slots) (hret : ∀ (v : Int64) (pc : Nat) (ls : Array Slot) (H : Heap) (locs : List Loc), decode cJ13_min_2 pc = .ok (.lreturn, 1) → va_S A s.heap H locs → Q v → W p l e R s m args below meth c H locs cells slots Z (F0 m pc ls [.long v])) (x0 : Int64) (x2 : Int64) : w_J13_min_2 Q x0 x2 → ∀ (ls : Array Slot) (H : Heap) (locs : List Loc), lv_has ls 4 [(0, .long x0), (2, .long x2)] → va_S A s.heap H locs → W p l e R s m args below meth c H locs cells slots Z (F0 m 0 ls []) := by
  obtain ⟨hx, hb, hml, hown, hts⟩ := S; have S : CallFix p m c cJ13_min_2 4 s args lw_all RJ13 := ⟨hx, hb, hml, hown, hts⟩
  intro h
  intro ls H locs hl hS
  refine lv_lload_n hx hb dJ13_min_2_0 rfl (lv_at hl 0 rfl) ?_
  refine lv_lload_n hx hb dJ13_min_2_1 rfl (lv_at hl 1 rfl) ?_
  refine W.lcmp hx hb dJ13_min_2_2 ?_
  refine lv_if_gt (tgt := 10) hx hb dJ13_min_2_3 (by decide) (fun c1 => ?_) (fun c1 => ?_)
  · have h := wif_t h c1
    refine lv_lload_n hx hb dJ13_min_2_10 rfl (lv_at hl 1 rfl) ?_
    exact hret _ _ _ _ _ dJ13_min_2_11 hS h
  · have h := wif_f h c1
    refine lv_lload_n hx hb dJ13_min_2_6 rfl (lv_at hl 0 rfl) ?_
    refine lv_goto (tgt := 11) hx hb dJ13_min_2_7 (by decide) ?_
    exact hret _ _ _ _ _ dJ13_min_2_11 hS h
theorem ct_J13_min_2 (l : Launch) : CT_J13_min_2 l 0 0 w_J13_min_2 := by
  intro sz Q x0 x2
  refine Met.ofWF (cc := cJ13_min_2) (maxL := 4) (ret := (some .long)) (by decide +kernel) rfl ?_
  intro p e s m args below meth c s₁ B hml hv
  obtain ⟨rfl, hsz, h⟩ := hv
  subst hsz
  have hts := atoms_spec (ws := ws_ yJ13_min_2 cJ13_min_2 4 (some .long)) B.pre
  have hts : ∀ w ∈ lw_all, w.before _ s = true := fun w h => hts w (List.mem_cons_of_mem _ h)
  have hl := lv_entry ([.long x0, .long x2]) (n := 4) (Nat.le_of_ble_eq_true rfl)
  rw [lg_entry_eq]
  generalize (lg_sl ([.long x0, .long x2]) ++ List.replicate (4 - (lg_sl ([.long x0, .long x2])).length) Slot.unset).toArray = ls at hl ⊢
  exact wk_J13_min_2 Q ⟨B.exec, B.bytes, hml, findClass_of_methodNamed B.named, hts⟩ (fun q h => h) (Nat.le_refl _) (Nat.le_refl _) ⟨Nat.le_refl _, Nat.le_refl _⟩ (fun v pc ls H locs hd hS hQ => W.lret (v := v) B.exec B.bytes B.returns (fun t ht _ => ⟨⟨v, (), rfl, hQ, trivial⟩, hS.F ht⟩) hS.2.2 hd) x0 x2 h ls _ [] hl va_S.rf
def CT_J13_max_2 (l : Launch) (fr lo : Nat) (w : (Int64 → Prop) → Int64 → Int64 → Prop) : Prop := ∀ (sz : Nat) (Q : Int64 → Prop) (x0 : Int64) (x2 : Int64), Met l yJ13_max_2 (ws_ yJ13_max_2 cJ13_max_2 4 (some .long)) { frames := fr, cells := 0, slots := 0, locals := lo } (va_Pc [.long x0, .long x2] (fun U => U.heap.size = sz ∧ w Q x0 x2)) (va_Ql (fun r (_ : Unit) => Q r) (fun _ _ => True) (mN sz)) 0 0 (mN sz)
theorem call_J13_max_2 {p : Program} {l : Launch} {e : Env} {R : Room} {s : State} {m : MethodId} {args : Array Value} {below : List Frame} {meth : Method} {c : Code} {H : Heap} {locs : List Loc} {cells slots : Nat} {Z : State → Prop} {A : Nat → Prop} {cc : ByteArray} {nL pc : Nat} {ls : Array Slot} {rest : List Value} {own : String} {index fr lo : Nat} {w : (Int64 → Prop) → Int64 → Int64 → Prop} {x0 : Int64} {x2 : Int64} (hM : CT_J13_max_2 l fr lo w) (S : CallFix p m c cc nL s args lw_all own) (hS : va_S A s.heap H locs) (hA : ∀ q, s.heap.size ≤ q → A q) (hlink : Cond.methodLink own index yJ13_max_2 ∈ lw_all) (hRf : fr + 1 ≤ R.frames) (hRl : 8 + (4 + 11) + lo ≤ R.locals) (hcs : cells ≤ R.cells ∧ slots ≤ R.slots) (hz : ls.size = nL) (hr8 : (rest.map fun v => v.category).sum ≤ 8) (hdg : decode cc pc = .ok (.invokestatic index, 3)) {Q1 : Int64 → Prop} (h : w Q1 x0 x2) (kk : ∀ (r : Int64) (H1 : Heap) (locs1 : List Loc), Q1 r → (∀ q : Nat, q < H.size → H1[q]? = H[q]?) → va_S A s.heap H1 locs1 → W p l e R s m args below meth c H1 locs1 cells slots Z (F0 m (pc + 3) ls (.long r :: rest))) : W p l e R s m args below meth c H locs cells slots Z (F0 m pc ls (.long x2 :: .long x0 :: rest)) := by
  exact ro_l (va_runS (As := [.long x0, .long x2]) (rest := rest) S (hM H.size Q1 x0 x2) (va_cwS 2 S.2.2.2.2 (lw_S hlink q1420 q75 q1421) rfl rfl rfl (by decide +kernel) ⟨hRf, hRl⟩) ⟨fun a U g mk q => by obtain ⟨q0, q1, qw⟩ := q; exact ⟨q0, q1, qw⟩, fun U hU hWm => ⟨rfl, by rw [hU], h⟩⟩ rfl rfl hz rfl (lv_room hr8) hdg hcs) hS hA (fun r H1 locs1 hp hz hk hS1 => kk r H1 locs1 hp hk hS1)
def w_J13_max_2 (Q : Int64 → Prop) (x0 : Int64) (x2 : Int64) : Prop := if (lg_cmp x0 x2) < 0 then (Q x2) else (Q x0)
set_option maxRecDepth 100000 in
set_option maxHeartbeats 4000000 in
theorem wk_J13_max_2 {p : Program} {l : Launch} {e : Env} {R : Room} {s : State} {m : MethodId} {args : Array Value} {below : List Frame} {meth : Method} {c : Code} {cells slots : Nat} {Z : State → Prop} {A : Nat → Prop}  (Q : Int64 → Prop) (S : CallFix p m c cJ13_max_2 4 s args lw_all RJ13) (hA : ∀ q, s.heap.size ≤ q → A q) (hRf : 0 ≤ R.frames) (hRl : 0 ≤ R.locals) (hcs : cells ≤ R.cells ∧ slots ≤ R.slots) (hret : ∀ (v : Int64) (pc : Nat) (ls : Array Slot) (H : Heap) (locs : List Loc), decode cJ13_max_2 pc = .ok (.lreturn, 1) → va_S A s.heap H locs → Q v → W p l e R s m args below meth c H locs cells slots Z (F0 m pc ls [.long v])) (x0 : Int64) (x2 : Int64) : w_J13_max_2 Q x0 x2 → ∀ (ls : Array Slot) (H : Heap) (locs : List Loc), lv_has ls 4 [(0, .long x0), (2, .long x2)] → va_S A s.heap H locs → W p l e R s m args below meth c H locs cells slots Z (F0 m 0 ls []) := by
  obtain ⟨hx, hb, hml, hown, hts⟩ := S; have S : CallFix p m c cJ13_max_2 4 s args lw_all RJ13 := ⟨hx, hb, hml, hown, hts⟩
  intro h
  intro ls H locs hl hS
  refine lv_lload_n hx hb dJ13_max_2_0 rfl (lv_at hl 0 rfl) ?_
  refine lv_lload_n hx hb dJ13_max_2_1 rfl (lv_at hl 1 rfl) ?_
  refine W.lcmp hx hb dJ13_max_2_2 ?_
  refine lv_if_lt (tgt := 10) hx hb dJ13_max_2_3 (by decide) (fun c1 => ?_) (fun c1 => ?_)
  · have h := wif_t h c1
    refine lv_lload_n hx hb dJ13_max_2_10 rfl (lv_at hl 1 rfl) ?_
    exact hret _ _ _ _ _ dJ13_max_2_11 hS h
  · have h := wif_f h c1
    refine lv_lload_n hx hb dJ13_max_2_6 rfl (lv_at hl 0 rfl) ?_
    refine lv_goto (tgt := 11) hx hb dJ13_max_2_7 (by decide) ?_
    exact hret _ _ _ _ _ dJ13_max_2_11 hS h
theorem ct_J13_max_2 (l : Launch) : CT_J13_max_2 l 0 0 w_J13_max_2 := by
  intro sz Q x0 x2
  refine Met.ofWF (cc := cJ13_max_2) (maxL := 4) (ret := (some .long)) (by decide +kernel) rfl ?_
  intro p e s m args below meth c s₁ B hml hv
  obtain ⟨rfl, hsz, h⟩ := hv
  subst hsz
  have hts := atoms_spec (ws := ws_ yJ13_max_2 cJ13_max_2 4 (some .long)) B.pre
  have hts : ∀ w ∈ lw_all, w.before _ s = true := fun w h => hts w (List.mem_cons_of_mem _ h)
  have hl := lv_entry ([.long x0, .long x2]) (n := 4) (Nat.le_of_ble_eq_true rfl)
  rw [lg_entry_eq]
  generalize (lg_sl ([.long x0, .long x2]) ++ List.replicate (4 - (lg_sl ([.long x0, .long x2])).length) Slot.unset).toArray = ls at hl ⊢
  exact wk_J13_max_2 Q ⟨B.exec, B.bytes, hml, findClass_of_methodNamed B.named, hts⟩ (fun q h => h) (Nat.le_refl _) (Nat.le_refl _) ⟨Nat.le_refl _, Nat.le_refl _⟩ (fun v pc ls H locs hd hS hQ => W.lret (v := v) B.exec B.bytes B.returns (fun t ht _ => ⟨⟨v, (), rfl, hQ, trivial⟩, hS.F ht⟩) hS.2.2 hd) x0 x2 h ls _ [] hl va_S.rf
def CT_J13_floorDiv_2 (l : Launch) (fr lo : Nat) (w : (Int32 → Prop) → Int32 → Int32 → Prop) : Prop := ∀ (sz : Nat) (Q : Int32 → Prop) (x0 : Int32) (x1 : Int32), Met l yJ13_floorDiv_2 (ws_ yJ13_floorDiv_2 cJ13_floorDiv_2 3 (some .int)) { frames := fr, cells := 0, slots := 0, locals := lo } (va_Pc [.int x0, .int x1] (fun U => U.heap.size = sz ∧ w Q x0 x1)) (va_Qi (fun r (_ : Unit) => Q r) (fun _ _ => True) (mN sz)) 0 0 (mN sz)
theorem call_J13_floorDiv_2 {p : Program} {l : Launch} {e : Env} {R : Room} {s : State} {m : MethodId} {args : Array Value} {below : List Frame} {meth : Method} {c : Code} {H : Heap} {locs : List Loc} {cells slots : Nat} {Z : State → Prop} {A : Nat → Prop} {cc : ByteArray} {nL pc : Nat} {ls : Array Slot} {rest : List Value} {own : String} {index fr lo : Nat} {w : (Int32 → Prop) → Int32 → Int32 → Prop} {x0 : Int32} {x1 : Int32} (hM : CT_J13_floorDiv_2 l fr lo w) (S : CallFix p m c cc nL s args lw_all own) (hS : va_S A s.heap H locs) (hA : ∀ q, s.heap.size ≤ q → A q) (hlink : Cond.methodLink own index yJ13_floorDiv_2 ∈ lw_all) (hRf : fr + 1 ≤ R.frames) (hRl : 8 + (3 + 11) + lo ≤ R.locals) (hcs : cells ≤ R.cells ∧ slots ≤ R.slots) (hz : ls.size = nL) (hr8 : (rest.map fun v => v.category).sum ≤ 8) (hdg : decode cc pc = .ok (.invokestatic index, 3)) {Q1 : Int32 → Prop} (h : w Q1 x0 x1) (kk : ∀ (r : Int32) (H1 : Heap) (locs1 : List Loc), Q1 r → (∀ q : Nat, q < H.size → H1[q]? = H[q]?) → va_S A s.heap H1 locs1 → W p l e R s m args below meth c H1 locs1 cells slots Z (F0 m (pc + 3) ls (.int r :: rest))) : W p l e R s m args below meth c H locs cells slots Z (F0 m pc ls (.int x1 :: .int x0 :: rest)) := by
  exact ro_i (va_runS (As := [.int x0, .int x1]) (rest := rest) S (hM H.size Q1 x0 x1) (va_cwS 2 S.2.2.2.2 (lw_S hlink q2034 q75 q2035) rfl rfl rfl (by decide +kernel) ⟨hRf, hRl⟩) ⟨fun a U g mk q => by obtain ⟨q0, q1, qw⟩ := q; exact ⟨q0, q1, qw⟩, fun U hU hWm => ⟨rfl, by rw [hU], h⟩⟩ rfl rfl hz rfl (lv_room hr8) hdg hcs) hS hA (fun r H1 locs1 hp hz hk hS1 => kk r H1 locs1 hp hk hS1)
def w_J13_floorDiv_2 (Q : Int32 → Prop) (x0 : Int32) (x1 : Int32) : Prop := ¬ x1 = 0 ∧ (if 0 ≤ (x0 ^^^ x1) then (Q (x0 / x1)) else (if ((x0 / x1) * x1) = x0 then (Q (x0 / x1)) else (Q ((x0 / x1) - (1 : Int32)))))
set_option maxRecDepth 100000 in
set_option maxHeartbeats 4000000 in
theorem wk_J13_floorDiv_2 {p : Program} {l : Launch} {e : Env} {R : Room} {s : State} {m : MethodId} {args : Array Value} {below : List Frame} {meth : Method} {c : Code} {cells slots : Nat} {Z : State → Prop} {A : Nat → Prop}  (Q : Int32 → Prop) (S : CallFix p m c cJ13_floorDiv_2 3 s args lw_all RJ13) (hA : ∀ q, s.heap.size ≤ q → A q) (hRf : 0 ≤ R.frames) (hRl : 0 ≤ R.locals) (hcs : cells ≤ R.cells ∧ slots ≤ R.slots) (hret : ∀ (v : Int32) (pc : Nat) (ls : Array Slot) (H : Heap) (locs : List Loc), decode cJ13_floorDiv_2 pc = .ok (.ireturn, 1) → va_S A s.heap H locs → Q v → W p l e R s m args below meth c H locs cells slots Z (F0 m pc ls [.int v])) (x0 : Int32) (x1 : Int32) : w_J13_floorDiv_2 Q x0 x1 → ∀ (ls : Array Slot) (H : Heap) (locs : List Loc), lv_has ls 3 [(0, .int x0), (1, .int x1)] → va_S A s.heap H locs → W p l e R s m args below meth c H locs cells slots Z (F0 m 0 ls []) := by
  obtain ⟨hx, hb, hml, hown, hts⟩ := S; have S : CallFix p m c cJ13_floorDiv_2 3 s args lw_all RJ13 := ⟨hx, hb, hml, hown, hts⟩
  intro h
  intro ls H locs hl hS
  refine lv_iload_n hx hb dJ13_floorDiv_2_0 rfl (lv_at hl 0 rfl) ?_
  refine lv_iload_n hx hb dJ13_floorDiv_2_1 rfl (lv_at hl 1 rfl) ?_
  refine lv_idiv hx hb dJ13_floorDiv_2_2 h.1 ?_
  have h := h.2
  refine lv_istore_n (lv' := [(2, .int (x0 / x1)), (0, .int x0), (1, .int x1)]) hx hb dJ13_floorDiv_2_3 rfl hl (by decide) rfl (fun ls hl => ?_)
  refine lv_iload_n hx hb dJ13_floorDiv_2_4 rfl (lv_at hl 1 rfl) ?_
  refine lv_iload_n hx hb dJ13_floorDiv_2_5 rfl (lv_at hl 2 rfl) ?_
  refine lv_ixor hx hb dJ13_floorDiv_2_6 ?_
  refine lv_if_ge (tgt := 21) hx hb dJ13_floorDiv_2_7 (by decide) (fun c2 => ?_) (fun c2 => ?_)
  · have h := wif_t h c2
    refine lv_iload_n hx hb dJ13_floorDiv_2_21 rfl (lv_at hl 0 rfl) ?_
    exact hret _ _ _ _ _ dJ13_floorDiv_2_22 hS h
  · have h := wif_f h c2
    refine lv_iload_n hx hb dJ13_floorDiv_2_10 rfl (lv_at hl 0 rfl) ?_
    refine lv_iload_n hx hb dJ13_floorDiv_2_11 rfl (lv_at hl 2 rfl) ?_
    refine lv_imul hx hb dJ13_floorDiv_2_12 ?_
    refine lv_iload_n hx hb dJ13_floorDiv_2_13 rfl (lv_at hl 1 rfl) ?_
    refine lv_icmp_eq (tgt := 21) hx hb dJ13_floorDiv_2_14 (by decide) (fun c1 => ?_) (fun c1 => ?_)
    · have h := wif_t h c1
      refine lv_iload_n hx hb dJ13_floorDiv_2_21 rfl (lv_at hl 0 rfl) ?_
      exact hret _ _ _ _ _ dJ13_floorDiv_2_22 hS h
    · have h := wif_f h c1
      refine lv_iload_n hx hb dJ13_floorDiv_2_17 rfl (lv_at hl 0 rfl) ?_
      refine lv_iconst (v := 1) hx hb dJ13_floorDiv_2_18 (by decide) ?_
      refine lv_isub hx hb dJ13_floorDiv_2_19 ?_
      exact hret _ _ _ _ _ dJ13_floorDiv_2_20 hS h
theorem ct_J13_floorDiv_2 (l : Launch) : CT_J13_floorDiv_2 l 0 0 w_J13_floorDiv_2 := by
  intro sz Q x0 x1
  refine Met.ofWF (cc := cJ13_floorDiv_2) (maxL := 3) (ret := (some .int)) (by decide +kernel) rfl ?_
  intro p e s m args below meth c s₁ B hml hv
  obtain ⟨rfl, hsz, h⟩ := hv
  subst hsz
  have hts := atoms_spec (ws := ws_ yJ13_floorDiv_2 cJ13_floorDiv_2 3 (some .int)) B.pre
  have hts : ∀ w ∈ lw_all, w.before _ s = true := fun w h => hts w (List.mem_cons_of_mem _ h)
  have hl := lv_entry ([.int x0, .int x1]) (n := 3) (Nat.le_of_ble_eq_true rfl)
  rw [lg_entry_eq]
  generalize (lg_sl ([.int x0, .int x1]) ++ List.replicate (3 - (lg_sl ([.int x0, .int x1])).length) Slot.unset).toArray = ls at hl ⊢
  exact wk_J13_floorDiv_2 Q ⟨B.exec, B.bytes, hml, findClass_of_methodNamed B.named, hts⟩ (fun q h => h) (Nat.le_refl _) (Nat.le_refl _) ⟨Nat.le_refl _, Nat.le_refl _⟩ (fun v pc ls H locs hd hS hQ => W.iret (v := v) B.exec B.bytes B.returns (fun t ht _ => ⟨⟨v, (), rfl, hQ, trivial⟩, hS.F ht⟩) hS.2.2 hd) x0 x1 h ls _ [] hl va_S.rf
def CT_J17_signum (l : Launch) (fr lo : Nat) (w : (Int32 → Prop) → Int32 → Prop) : Prop := ∀ (sz : Nat) (Q : Int32 → Prop) (x0 : Int32), Met l yJ17_signum (ws_ yJ17_signum cJ17_signum 1 (some .int)) { frames := fr, cells := 0, slots := 0, locals := lo } (va_Pc [.int x0] (fun U => U.heap.size = sz ∧ w Q x0)) (va_Qi (fun r (_ : Unit) => Q r) (fun _ _ => True) (mN sz)) 0 0 (mN sz)
theorem call_J17_signum {p : Program} {l : Launch} {e : Env} {R : Room} {s : State} {m : MethodId} {args : Array Value} {below : List Frame} {meth : Method} {c : Code} {H : Heap} {locs : List Loc} {cells slots : Nat} {Z : State → Prop} {A : Nat → Prop} {cc : ByteArray} {nL pc : Nat} {ls : Array Slot} {rest : List Value} {own : String} {index fr lo : Nat} {w : (Int32 → Prop) → Int32 → Prop} {x0 : Int32} (hM : CT_J17_signum l fr lo w) (S : CallFix p m c cc nL s args lw_all own) (hS : va_S A s.heap H locs) (hA : ∀ q, s.heap.size ≤ q → A q) (hlink : Cond.methodLink own index yJ17_signum ∈ lw_all) (hRf : fr + 1 ≤ R.frames) (hRl : 8 + (1 + 11) + lo ≤ R.locals) (hcs : cells ≤ R.cells ∧ slots ≤ R.slots) (hz : ls.size = nL) (hr8 : (rest.map fun v => v.category).sum ≤ 8) (hdg : decode cc pc = .ok (.invokestatic index, 3)) {Q1 : Int32 → Prop} (h : w Q1 x0) (kk : ∀ (r : Int32) (H1 : Heap) (locs1 : List Loc), Q1 r → (∀ q : Nat, q < H.size → H1[q]? = H[q]?) → va_S A s.heap H1 locs1 → W p l e R s m args below meth c H1 locs1 cells slots Z (F0 m (pc + 3) ls (.int r :: rest))) : W p l e R s m args below meth c H locs cells slots Z (F0 m pc ls (.int x0 :: rest)) := by
  exact ro_i (va_runS (As := [.int x0]) (rest := rest) S (hM H.size Q1 x0) (va_cwS 1 S.2.2.2.2 (lw_S hlink q1528 q81 q1529) rfl rfl rfl (by decide +kernel) ⟨hRf, hRl⟩) ⟨fun a U g mk q => by obtain ⟨q0, q1, qw⟩ := q; exact ⟨q0, q1, qw⟩, fun U hU hWm => ⟨rfl, by rw [hU], h⟩⟩ rfl rfl hz rfl (lv_room hr8) hdg hcs) hS hA (fun r H1 locs1 hp hz hk hS1 => kk r H1 locs1 hp hk hS1)
def w_J17_signum (Q : Int32 → Prop) (x0 : Int32) : Prop := Q ((x0 >>> ((31 : Int32) &&& 31)) ||| (((-x0).toUInt32 >>> ((31 : Int32).toUInt32 &&& Int32.toUInt32 31)).toInt32))
set_option maxRecDepth 100000 in
set_option maxHeartbeats 4000000 in
theorem wk_J17_signum {p : Program} {l : Launch} {e : Env} {R : Room} {s : State} {m : MethodId} {args : Array Value} {below : List Frame} {meth : Method} {c : Code} {cells slots : Nat} {Z : State → Prop} {A : Nat → Prop}  (Q : Int32 → Prop) (S : CallFix p m c cJ17_signum 1 s args lw_all RJ17) (hA : ∀ q, s.heap.size ≤ q → A q) (hRf : 0 ≤ R.frames) (hRl : 0 ≤ R.locals) (hcs : cells ≤ R.cells ∧ slots ≤ R.slots) (hret : ∀ (v : Int32) (pc : Nat) (ls : Array Slot) (H : Heap) (locs : List Loc), decode cJ17_signum pc = .ok (.ireturn, 1) → va_S A s.heap H locs → Q v → W p l e R s m args below meth c H locs cells slots Z (F0 m pc ls [.int v])) (x0 : Int32) : w_J17_signum Q x0 → ∀ (ls : Array Slot) (H : Heap) (locs : List Loc), lv_has ls 1 [(0, .int x0)] → va_S A s.heap H locs → W p l e R s m args below meth c H locs cells slots Z (F0 m 0 ls []) := by
  obtain ⟨hx, hb, hml, hown, hts⟩ := S; have S : CallFix p m c cJ17_signum 1 s args lw_all RJ17 := ⟨hx, hb, hml, hown, hts⟩
  intro h
  intro ls H locs hl hS
  refine lv_iload_n hx hb dJ17_signum_0 rfl (lv_at hl 0 rfl) ?_
  refine lv_bipush (v := 31) hx hb dJ17_signum_1 (by decide) ?_
  refine lv_ishr hx hb dJ17_signum_3 ?_
  refine lv_iload_n hx hb dJ17_signum_4 rfl (lv_at hl 0 rfl) ?_
  refine lv_ineg hx hb dJ17_signum_5 ?_
  refine lv_bipush (v := 31) hx hb dJ17_signum_6 (by decide) ?_
  refine lv_iushr hx hb dJ17_signum_8 rfl ?_
  refine lv_ior hx hb dJ17_signum_9 ?_
  exact hret _ _ _ _ _ dJ17_signum_10 hS h
theorem ct_J17_signum (l : Launch) : CT_J17_signum l 0 0 w_J17_signum := by
  intro sz Q x0
  refine Met.ofW (cc := cJ17_signum) (maxL := 1) (ret := (some .int)) (by decide) rfl ?_
  intro p e s m args below meth c s₁ B hml hv
  obtain ⟨rfl, hsz, h⟩ := hv
  subst hsz
  have hts := atoms_spec (ws := ws_ yJ17_signum cJ17_signum 1 (some .int)) B.pre
  have hts : ∀ w ∈ lw_all, w.before _ s = true := fun w h => hts w (List.mem_cons_of_mem _ h)
  have hl := lv_entry ([.int x0]) (n := 1) (Nat.le_of_ble_eq_true rfl)
  rw [lg_entry_eq]
  generalize (lg_sl ([.int x0]) ++ List.replicate (1 - (lg_sl ([.int x0])).length) Slot.unset).toArray = ls at hl ⊢
  exact wk_J17_signum Q ⟨B.exec, B.bytes, hml, findClass_of_methodNamed B.named, hts⟩ (fun q h => h) (Nat.le_refl _) (Nat.le_refl _) ⟨Nat.le_refl _, Nat.le_refl _⟩ (fun v pc ls H locs hd hS hQ => W.iret (v := v) B.exec B.bytes B.returns (fun t ht _ => ⟨⟨v, (), rfl, hQ, trivial⟩, hS.F ht⟩) hS.2.2 hd) x0 h ls _ [] hl va_S.rf
def CT_X3_thrown (l : Launch) (fr lo : Nat) (w : (Int32 → Prop) → MM → Prop) : Prop := ∀ (E : mE) (M : MM) (L : ML) (sz : Nat) (Q : Int32 → Prop), Met l yX3_thrown (ws_ yX3_thrown cX3_thrown 1 (some .int)) { frames := fr, cells := 0, slots := 0, locals := lo } (va_Pc [.ref (mh E)] (fun U => U.heap.size = sz ∧ mW E M L U.heap ∧ mK E U ∧ w Q M)) (va_Qi (fun r (_ : Unit) => Q r) (fun _ _ => True) (mN sz)) 0 0 (mN sz)
theorem call_X3_thrown {p : Program} {l : Launch} {e : Env} {R : Room} {s : State} {m : MethodId} {args : Array Value} {below : List Frame} {meth : Method} {c : Code} {H : Heap} {locs : List Loc} {cells slots : Nat} {Z : State → Prop} {A : Nat → Prop} {cc : ByteArray} {nL pc : Nat} {ls : Array Slot} {rest : List Value} {own : String} {index fr lo : Nat} {w : (Int32 → Prop) → MM → Prop} {E : mE} {M : MM} {L : ML} (hM : CT_X3_thrown l fr lo w) (S : CallFix p m c cc nL s args lw_all own) (hK : mK E s) (hW : mW E M L H) (hS : va_S A s.heap H locs) (hA : ∀ q, s.heap.size ≤ q → A q) (hlink : Cond.methodLink own index yX3_thrown ∈ lw_all) (hRf : fr + 1 ≤ R.frames) (hRl : 8 + (1 + 11) + lo ≤ R.locals) (hcs : cells ≤ R.cells ∧ slots ≤ R.slots) (hz : ls.size = nL) (hr8 : (rest.map fun v => v.category).sum ≤ 8) (hdg : decode cc pc = .ok (.invokevirtual index, 3)) {Q1 : Int32 → Prop} (h : w Q1 M) (kk : ∀ (r : Int32) (H1 : Heap) (locs1 : List Loc), Q1 r → (∀ q : Nat, q < H.size → H1[q]? = H[q]?) → va_S A s.heap H1 locs1 → W p l e R s m args below meth c H1 locs1 cells slots Z (F0 m (pc + 3) ls (.int r :: rest))) : W p l e R s m args below meth c H locs cells slots Z (F0 m pc ls (.ref (mh E) :: rest)) := by
  exact ro_i (va_runV (As := []) (rest := rest) S (hM E M L H.size Q1 ) (cwV 0 S.2.2.2.2 (lw_V hlink q1896 q1897 q68 q1898) rfl rfl rfl (by decide +kernel) ⟨hRf, hRl⟩) ⟨fun a U g mk q => by obtain ⟨q0, q1, qW, qK, qw⟩ := q; exact ⟨q0, q1, qW, qK.moved (u := U) (U := U.calling g mk a) (Vm.Alike.refl U.vm), qw⟩, hW.recv (hK := hK), fun U hU hWm => ⟨rfl, by rw [hU], by rw [hU]; exact hW, hK.moved hWm.alike, h⟩⟩ rfl rfl hz rfl (lv_room hr8) hdg hcs) hS hA (fun r H1 locs1 hp hz hk hS1 => kk r H1 locs1 hp hk hS1)
def w_X3_thrown (Q : Int32 → Prop) (M : MM) : Prop := Q (M 0 0)
set_option maxRecDepth 100000 in
set_option maxHeartbeats 4000000 in
theorem wk_X3_thrown {p : Program} {l : Launch} {e : Env} {R : Room} {s : State} {m : MethodId} {args : Array Value} {below : List Frame} {meth : Method} {c : Code} {cells slots : Nat} {Z : State → Prop} {A : Nat → Prop} {E : mE} (Q : Int32 → Prop) (C : mC p m c s args cX3_thrown 1 E) (hA : ∀ q, s.heap.size ≤ q → A q) (hRf : 0 ≤ R.frames) (hRl : 0 ≤ R.locals) (hcs : cells ≤ R.cells ∧ slots ≤ R.slots) (M : MM) (L : ML) (hret : ∀ (v : Int32) (pc : Nat) (ls : Array Slot) (H : Heap) (locs : List Loc), decode cX3_thrown pc = .ok (.ireturn, 1) → va_S A s.heap H locs → Q v → W p l e R s m args below meth c H locs cells slots Z (F0 m pc ls [.int v])) : w_X3_thrown Q M → ∀ (ls : Array Slot) (H : Heap) (locs : List Loc), lv_has ls 1 [(0, .ref (mh E))] → mW E M L H → va_S A s.heap H locs → W p l e R s m args below meth c H locs cells slots Z (F0 m 0 ls []) := by
  obtain ⟨⟨hx, hb, hml, hown, hts⟩, hK⟩ := C; have C : mC p m c s args cX3_thrown 1 E := ⟨⟨hx, hb, hml, hown, hts⟩, hK⟩
  intro h
  intro ls H locs hl hW hS
  refine lv_aload_n hx hb dX3_thrown_0 rfl (lv_at hl 0 rfl) ?_
  refine mr_getI C hW 0 rfl rfl q1803 dX3_thrown_1 ?_
  exact hret _ _ _ _ _ dX3_thrown_4 hS h
theorem ct_X3_thrown (l : Launch) : CT_X3_thrown l 0 0 w_X3_thrown := by
  intro E M L sz Q
  refine Met.ofW (cc := cX3_thrown) (maxL := 1) (ret := (some .int)) (by decide) rfl ?_
  intro p e s m args below meth c s₁ B hml hv
  obtain ⟨rfl, hsz, hW, hK, h⟩ := hv
  subst hsz
  have hts := atoms_spec (ws := ws_ yX3_thrown cX3_thrown 1 (some .int)) B.pre
  have hts : ∀ w ∈ lw_all, w.before _ s = true := fun w h => hts w (List.mem_cons_of_mem _ h)
  have hl := lv_entry ([.ref (mh E)]) (n := 1) (Nat.le_of_ble_eq_true rfl)
  rw [lg_entry_eq]
  generalize (lg_sl ([.ref (mh E)]) ++ List.replicate (1 - (lg_sl ([.ref (mh E)])).length) Slot.unset).toArray = ls at hl ⊢
  exact wk_X3_thrown Q ⟨⟨B.exec, B.bytes, hml, findClass_of_methodNamed B.named, hts⟩, hK⟩ (fun q h => h) (Nat.le_refl _) (Nat.le_refl _) ⟨Nat.le_refl _, Nat.le_refl _⟩ M L (fun v pc ls H locs hd hS hQ => W.iret (v := v) B.exec B.bytes B.returns (fun t ht _ => ⟨⟨v, (), rfl, hQ, trivial⟩, hS.F ht⟩) hS.2.2 hd)  h ls _ [] hl hW va_S.rf
def CT_X3_clear (l : Launch) (fr lo : Nat) (w : (Int32 → MM → Prop) → MM → Prop) : Prop := ∀ (E : mE) (M : MM) (L : ML) (sz : Nat) (Q : Int32 → MM → Prop), Met l yX3_clear (ws_ yX3_clear cX3_clear 2 (some .int)) { frames := fr, cells := 0, slots := 0, locals := lo } (va_Pc [.ref (mh E)] (fun U => U.heap.size = sz ∧ mW E M L U.heap ∧ mK E U ∧ w Q M)) (va_Qi (fun r (u : MM × ML) => u.2 = L ∧ Q r u.1) (fun u t => mW E u.1 u.2 t.heap) (mA E sz)) 0 0 (mA E sz)
theorem call_X3_clear {p : Program} {l : Launch} {e : Env} {R : Room} {s : State} {m : MethodId} {args : Array Value} {below : List Frame} {meth : Method} {c : Code} {H : Heap} {locs : List Loc} {cells slots : Nat} {Z : State → Prop} {A : Nat → Prop} {cc : ByteArray} {nL pc : Nat} {ls : Array Slot} {rest : List Value} {own : String} {index fr lo : Nat} {w : (Int32 → MM → Prop) → MM → Prop} {E : mE} {M : MM} {L : ML} (hM : CT_X3_clear l fr lo w) (S : CallFix p m c cc nL s args lw_all own) (hK : mK E s) (hW : mW E M L H) (hS : va_S A s.heap H locs) (hA : ∀ q, s.heap.size ≤ q → A q) (hAw : ∀ q, mAd E q → A q) (hlink : Cond.methodLink own index yX3_clear ∈ lw_all) (hRf : fr + 1 ≤ R.frames) (hRl : 8 + (2 + 11) + lo ≤ R.locals) (hcs : cells ≤ R.cells ∧ slots ≤ R.slots) (hz : ls.size = nL) (hr8 : (rest.map fun v => v.category).sum ≤ 8) (hdg : decode cc pc = .ok (.invokevirtual index, 3)) {Q1 : Int32 → MM → Prop} (h : w Q1 M) (kk : ∀ (r : Int32) (M1 : MM) (H1 : Heap) (locs1 : List Loc), Q1 r M1 → mW E M1 L H1 → va_S A s.heap H1 locs1 → (∀ q : Nat, q < H.size → ¬ mAd E q → H1[q]? = H[q]?) → W p l e R s m args below meth c H1 locs1 cells slots Z (F0 m (pc + 3) ls (.int r :: rest))) : W p l e R s m args below meth c H locs cells slots Z (F0 m pc ls (.ref (mh E) :: rest)) := by
  refine mw_i (sz := 0) (P := fun r M1 L1 => L1 = L ∧ Q1 r M1) (va_runV (As := []) (rest := rest) S (hM E M L H.size Q1 ) (cwV 0 S.2.2.2.2 (lw_V hlink q1900 q1901 q68 q1902) rfl rfl rfl (by decide +kernel) ⟨hRf, hRl⟩) ⟨fun a U g mk q => by obtain ⟨q0, q1, qW, qK, qw⟩ := q; exact ⟨q0, q1, qW, qK.moved (u := U) (U := U.calling g mk a) (Vm.Alike.refl U.vm), qw⟩, hW.recv (hK := hK), fun U hU hWm => ⟨rfl, by rw [hU], by rw [hU]; exact hW, hK.moved hWm.alike, h⟩⟩ rfl rfl hz rfl (lv_room hr8) hdg hcs) hS hA hAw (fun r M1 L1 H1 locs1 hp hW1 hz hk hS1 => ?_)
  obtain ⟨rfl, hp⟩ := hp
  exact kk r M1 H1 locs1 hp hW1 hS1 hk
def w_X3_clear (Q : Int32 → MM → Prop) (M : MM) : Prop := mPt M 0 (0 : Int32) (fun M1 => mPt M1 1 (0 : Int32) (fun M2 => mPt M2 15 (0 : Int32) (fun M3 => mPt M3 29 (0 : Int32) (fun M4 => Q (M1 1 0) M4))))
set_option maxRecDepth 100000 in
set_option maxHeartbeats 4000000 in
theorem wk_X3_clear {p : Program} {l : Launch} {e : Env} {R : Room} {s : State} {m : MethodId} {args : Array Value} {below : List Frame} {meth : Method} {c : Code} {cells slots : Nat} {Z : State → Prop} {A : Nat → Prop} {E : mE} (Q : Int32 → MM → Prop) (C : mC p m c s args cX3_clear 2 E) (hA : ∀ q, s.heap.size ≤ q → A q) (hAw : ∀ q, mAd E q → A q) (hRf : 0 ≤ R.frames) (hRl : 0 ≤ R.locals) (hcs : cells ≤ R.cells ∧ slots ≤ R.slots) (M : MM) (L : ML) (hret : ∀ (v : Int32) (M : MM) (pc : Nat) (ls : Array Slot) (H : Heap) (locs : List Loc), decode cX3_clear pc = .ok (.ireturn, 1) → va_S A s.heap H locs → mW E M L H → Q v M → W p l e R s m args below meth c H locs cells slots Z (F0 m pc ls [.int v])) : w_X3_clear Q M → ∀ (ls : Array Slot) (H : Heap) (locs : List Loc), lv_has ls 2 [(0, .ref (mh E))] → mW E M L H → va_S A s.heap H locs → W p l e R s m args below meth c H locs cells slots Z (F0 m 0 ls []) := by
  obtain ⟨⟨hx, hb, hml, hown, hts⟩, hK⟩ := C; have C : mC p m c s args cX3_clear 2 E := ⟨⟨hx, hb, hml, hown, hts⟩, hK⟩
  intro h
  intro ls H locs hl hW hS
  refine lv_aload_n hx hb dX3_clear_0 rfl (lv_at hl 0 rfl) ?_
  refine lv_iconst (v := 0) hx hb dX3_clear_1 (by decide) ?_
  refine mr_putI C hW hS hAw 0 rfl rfl q1803 rfl (tyX3_ok 0 (by decide)) h dX3_clear_2 (fun M1 H locs hW hS h => ?_)
  refine lv_aload_n hx hb dX3_clear_5 rfl (lv_at hl 0 rfl) ?_
  refine mr_getI C hW 1 rfl rfl q1804 dX3_clear_6 ?_
  refine lv_istore_n (lv' := [(1, .int (M1 1 0)), (0, .ref (mh E))]) hx hb dX3_clear_9 rfl hl (by decide) rfl (fun ls hl => ?_)
  refine lv_aload_n hx hb dX3_clear_10 rfl (lv_at hl 1 rfl) ?_
  refine lv_iconst (v := 0) hx hb dX3_clear_11 (by decide) ?_
  refine mr_putI C hW hS hAw 1 rfl rfl q1804 rfl (tyX3_ok 1 (by decide)) h dX3_clear_12 (fun M2 H locs hW hS h => ?_)
  refine lv_aload_n hx hb dX3_clear_15 rfl (lv_at hl 1 rfl) ?_
  refine lv_iconst (v := 0) hx hb dX3_clear_16 (by decide) ?_
  refine mr_putI C hW hS hAw 15 rfl rfl q1818 rfl (tyX3_ok 15 (by decide)) h dX3_clear_17 (fun M3 H locs hW hS h => ?_)
  refine lv_aload_n hx hb dX3_clear_20 rfl (lv_at hl 1 rfl) ?_
  refine lv_iconst (v := 0) hx hb dX3_clear_21 (by decide) ?_
  refine mr_putI C hW hS hAw 29 rfl rfl q1832 rfl (tyX3_ok 29 (by decide)) h dX3_clear_22 (fun M4 H locs hW hS h => ?_)
  refine lv_iload_n hx hb dX3_clear_25 rfl (lv_at hl 0 rfl) ?_
  exact hret _ _ _ _ _ _ dX3_clear_26 hS hW h
theorem ct_X3_clear (l : Launch) : CT_X3_clear l 0 0 w_X3_clear := by
  intro E M L sz Q
  refine Met.ofW (cc := cX3_clear) (maxL := 2) (ret := (some .int)) (by decide) rfl ?_
  intro p e s m args below meth c s₁ B hml hv
  obtain ⟨rfl, hsz, hW, hK, h⟩ := hv
  subst hsz
  have hts := atoms_spec (ws := ws_ yX3_clear cX3_clear 2 (some .int)) B.pre
  have hts : ∀ w ∈ lw_all, w.before _ s = true := fun w h => hts w (List.mem_cons_of_mem _ h)
  have hl := lv_entry ([.ref (mh E)]) (n := 2) (Nat.le_of_ble_eq_true rfl)
  rw [lg_entry_eq]
  generalize (lg_sl ([.ref (mh E)]) ++ List.replicate (2 - (lg_sl ([.ref (mh E)])).length) Slot.unset).toArray = ls at hl ⊢
  exact wk_X3_clear Q ⟨⟨B.exec, B.bytes, hml, findClass_of_methodNamed B.named, hts⟩, hK⟩ (fun q h => Or.inr h) (fun q h => Or.inl h) (Nat.le_refl _) (Nat.le_refl _) ⟨Nat.le_refl _, Nat.le_refl _⟩ M L (fun v M pc ls H locs hd hS hW1 hQ => W.iret (v := v) B.exec B.bytes B.returns (fun t ht _ => ⟨⟨v, (M, L), rfl, ⟨rfl, hQ⟩, by rw [← ht] at hW1; exact hW1⟩, hS.F ht⟩) hS.2.2 hd)  h ls _ [] hl hW va_S.rf
def CT_X3_check (l : Launch) (fr lo : Nat) (w : (Int32 → MM → Prop) → Int32 → Int32 → Int32 → MM → Prop) : Prop := ∀ (E : mE) (M : MM) (L : ML) (sz : Nat) (Q : Int32 → MM → Prop) (x1 : Int32) (x2 : Int32) (x3 : Int32), Met l yX3_check (ws_ yX3_check cX3_check 4 (some .boolean)) { frames := fr, cells := 0, slots := 0, locals := lo } (va_Pc [.ref (mh E), .int x1, .int x2, .int x3] (fun U => U.heap.size = sz ∧ mW E M L U.heap ∧ mK E U ∧ w Q x1 x2 x3 M)) (va_Qi (fun r (u : MM × ML) => u.2 = L ∧ Q r u.1) (fun u t => mW E u.1 u.2 t.heap) (mA E sz)) 0 0 (mA E sz)
theorem call_X3_check {p : Program} {l : Launch} {e : Env} {R : Room} {s : State} {m : MethodId} {args : Array Value} {below : List Frame} {meth : Method} {c : Code} {H : Heap} {locs : List Loc} {cells slots : Nat} {Z : State → Prop} {A : Nat → Prop} {cc : ByteArray} {nL pc : Nat} {ls : Array Slot} {rest : List Value} {own : String} {index fr lo : Nat} {w : (Int32 → MM → Prop) → Int32 → Int32 → Int32 → MM → Prop} {E : mE} {M : MM} {L : ML} {x1 : Int32} {x2 : Int32} {x3 : Int32} (hM : CT_X3_check l fr lo w) (S : CallFix p m c cc nL s args lw_all own) (hK : mK E s) (hW : mW E M L H) (hS : va_S A s.heap H locs) (hA : ∀ q, s.heap.size ≤ q → A q) (hAw : ∀ q, mAd E q → A q) (hlink : Cond.methodLink own index yX3_check ∈ lw_all) (hRf : fr + 1 ≤ R.frames) (hRl : 8 + (4 + 11) + lo ≤ R.locals) (hcs : cells ≤ R.cells ∧ slots ≤ R.slots) (hz : ls.size = nL) (hr8 : (rest.map fun v => v.category).sum ≤ 8) (hdg : decode cc pc = .ok (.invokevirtual index, 3)) {Q1 : Int32 → MM → Prop} (h : w Q1 x1 x2 x3 M) (kk : ∀ (r : Int32) (M1 : MM) (H1 : Heap) (locs1 : List Loc), Q1 r M1 → mW E M1 L H1 → va_S A s.heap H1 locs1 → (∀ q : Nat, q < H.size → ¬ mAd E q → H1[q]? = H[q]?) → W p l e R s m args below meth c H1 locs1 cells slots Z (F0 m (pc + 3) ls (.int r :: rest))) : W p l e R s m args below meth c H locs cells slots Z (F0 m pc ls (.int x3 :: .int x2 :: .int x1 :: .ref (mh E) :: rest)) := by
  refine mw_i (sz := 0) (P := fun r M1 L1 => L1 = L ∧ Q1 r M1) (va_runV (As := [.int x1, .int x2, .int x3]) (rest := rest) S (hM E M L H.size Q1 x1 x2 x3) (cwV 3 S.2.2.2.2 (lw_V hlink q1909 qs18 q68 q1910) rfl rfl rfl (by decide +kernel) ⟨hRf, hRl⟩) ⟨fun a U g mk q => by obtain ⟨q0, q1, qW, qK, qw⟩ := q; exact ⟨q0, q1, qW, qK.moved (u := U) (U := U.calling g mk a) (Vm.Alike.refl U.vm), qw⟩, hW.recv (hK := hK), fun U hU hWm => ⟨rfl, by rw [hU], by rw [hU]; exact hW, hK.moved hWm.alike, h⟩⟩ rfl rfl hz rfl (lv_room hr8) hdg hcs) hS hA hAw (fun r M1 L1 H1 locs1 hp hW1 hz hk hS1 => ?_)
  obtain ⟨rfl, hp⟩ := hp
  exact kk r M1 H1 locs1 hp hW1 hS1 hk
def w_X3_check_26 (Q : Int32 → MM → Prop) (y0 : Int32) (M : MM) : Prop := mPt M 0 y0 (fun M1 => if (M1 0 0) = 0 then (Q (1 : Int32) M1) else (Q (0 : Int32) M1))
def w_X3_check (Q : Int32 → MM → Prop) (x1 : Int32) (x2 : Int32) (x3 : Int32) (M : MM) : Prop := if x1 = 0 then (w_X3_check_26 Q (1 : Int32) M) else (if x2 = 0 then (w_X3_check_26 Q (2 : Int32) M) else (if x3 = 0 then (w_X3_check_26 Q (3 : Int32) M) else (w_X3_check_26 Q (0 : Int32) M)))
set_option maxRecDepth 100000 in
set_option maxHeartbeats 4000000 in
theorem wk_X3_check {p : Program} {l : Launch} {e : Env} {R : Room} {s : State} {m : MethodId} {args : Array Value} {below : List Frame} {meth : Method} {c : Code} {cells slots : Nat} {Z : State → Prop} {A : Nat → Prop} {E : mE} (Q : Int32 → MM → Prop) (C : mC p m c s args cX3_check 4 E) (hA : ∀ q, s.heap.size ≤ q → A q) (hAw : ∀ q, mAd E q → A q) (hRf : 0 ≤ R.frames) (hRl : 0 ≤ R.locals) (hcs : cells ≤ R.cells ∧ slots ≤ R.slots) (M : MM) (L : ML) (hret : ∀ (v : Int32) (M : MM) (pc : Nat) (ls : Array Slot) (H : Heap) (locs : List Loc), decode cX3_check pc = .ok (.ireturn, 1) → va_S A s.heap H locs → mW E M L H → isZ v → Q v M → W p l e R s m args below meth c H locs cells slots Z (F0 m pc ls [.int v])) (x1 : Int32) (x2 : Int32) (x3 : Int32) : w_X3_check Q x1 x2 x3 M → ∀ (ls : Array Slot) (H : Heap) (locs : List Loc), lv_has ls 4 [(0, .ref (mh E)), (1, .int x1), (2, .int x2), (3, .int x3)] → mW E M L H → va_S A s.heap H locs → W p l e R s m args below meth c H locs cells slots Z (F0 m 0 ls []) := by
  obtain ⟨⟨hx, hb, hml, hown, hts⟩, hK⟩ := C; have C : mC p m c s args cX3_check 4 E := ⟨⟨hx, hb, hml, hown, hts⟩, hK⟩
  have hb26 : ∀ (y0 : Int32) (M : MM), w_X3_check_26 Q y0 M → ∀ (ls : Array Slot) (H : Heap) (locs : List Loc), lv_has ls 4 [(0, .ref (mh E))] → mW E M L H → va_S A s.heap H locs → W p l e R s m args below meth c H locs cells slots Z (F0 m 26 ls [.int y0, .ref (mh E)]) := by
    intro y0 M h
    intro ls H locs hl hW hS
    refine mr_putI C hW hS hAw 0 rfl rfl q1803 rfl (tyX3_ok 0 (by decide)) h dX3_check_26 (fun M1 H locs hW hS h => ?_)
    refine lv_aload_n hx hb dX3_check_29 rfl (lv_at hl 0 rfl) ?_
    refine mr_getI C hW 0 rfl rfl q1803 dX3_check_30 ?_
    refine lv_if_ne (tgt := 40) hx hb dX3_check_33 (by decide) (fun c2 => ?_) (fun c2 => ?_)
    · have h := wif_f h c2
      refine lv_iconst (v := 0) hx hb dX3_check_40 (by decide) ?_
      exact hret _ _ _ _ _ _ dX3_check_41 hS hW isZ_0 h
    · have h := wif_t h c2
      refine lv_iconst (v := 1) hx hb dX3_check_36 (by decide) ?_
      refine lv_goto (tgt := 41) hx hb dX3_check_37 (by decide) ?_
      exact hret _ _ _ _ _ _ dX3_check_41 hS hW isZ_1 h
  intro h
  intro ls H locs hl hW hS
  refine lv_aload_n hx hb dX3_check_0 rfl (lv_at hl 0 rfl) ?_
  refine lv_iload_n hx hb dX3_check_1 rfl (lv_at hl 1 rfl) ?_
  refine lv_if_ne (tgt := 9) hx hb dX3_check_2 (by decide) (fun c5 => ?_) (fun c5 => ?_)
  · have h := wif_f h c5
    refine lv_iload_n hx hb dX3_check_9 rfl (lv_at hl 2 rfl) ?_
    refine lv_if_ne (tgt := 17) hx hb dX3_check_10 (by decide) (fun c4 => ?_) (fun c4 => ?_)
    · have h := wif_f h c4
      refine lv_iload_n hx hb dX3_check_17 rfl (lv_at hl 3 rfl) ?_
      refine lv_if_ne (tgt := 25) hx hb dX3_check_18 (by decide) (fun c3 => ?_) (fun c3 => ?_)
      · have h := wif_f h c3
        refine lv_iconst (v := 0) hx hb dX3_check_25 (by decide) ?_
        exact hb26 _ _ h ls H locs (lv_sub hl [0] rfl) hW hS
      · have h := wif_t h c3
        refine lv_iconst (v := 3) hx hb dX3_check_21 (by decide) ?_
        refine lv_goto (tgt := 26) hx hb dX3_check_22 (by decide) ?_
        exact hb26 _ _ h ls H locs (lv_sub hl [0] rfl) hW hS
    · have h := wif_t h c4
      refine lv_iconst (v := 2) hx hb dX3_check_13 (by decide) ?_
      refine lv_goto (tgt := 26) hx hb dX3_check_14 (by decide) ?_
      exact hb26 _ _ h ls H locs (lv_sub hl [0] rfl) hW hS
  · have h := wif_t h c5
    refine lv_iconst (v := 1) hx hb dX3_check_5 (by decide) ?_
    refine lv_goto (tgt := 26) hx hb dX3_check_6 (by decide) ?_
    exact hb26 _ _ h ls H locs (lv_sub hl [0] rfl) hW hS
theorem ct_X3_check (l : Launch) : CT_X3_check l 0 0 w_X3_check := by
  intro E M L sz Q x1 x2 x3
  refine Met.ofW (cc := cX3_check) (maxL := 4) (ret := (some .boolean)) (by decide) rfl ?_
  intro p e s m args below meth c s₁ B hml hv
  obtain ⟨rfl, hsz, hW, hK, h⟩ := hv
  subst hsz
  have hts := atoms_spec (ws := ws_ yX3_check cX3_check 4 (some .boolean)) B.pre
  have hts : ∀ w ∈ lw_all, w.before _ s = true := fun w h => hts w (List.mem_cons_of_mem _ h)
  have hl := lv_entry ([.ref (mh E), .int x1, .int x2, .int x3]) (n := 4) (Nat.le_of_ble_eq_true rfl)
  rw [lg_entry_eq]
  generalize (lg_sl ([.ref (mh E), .int x1, .int x2, .int x3]) ++ List.replicate (4 - (lg_sl ([.ref (mh E), .int x1, .int x2, .int x3])).length) Slot.unset).toArray = ls at hl ⊢
  exact wk_X3_check Q ⟨⟨B.exec, B.bytes, hml, findClass_of_methodNamed B.named, hts⟩, hK⟩ (fun q h => Or.inr h) (fun q h => Or.inl h) (Nat.le_refl _) (Nat.le_refl _) ⟨Nat.le_refl _, Nat.le_refl _⟩ M L (fun v M pc ls H locs hd hS hW1 hz hQ => W.zret (v := v) B.exec B.bytes B.returns hz.nar (fun t ht _ => ⟨⟨v, (M, L), rfl, ⟨rfl, hQ⟩, by rw [← ht] at hW1; exact hW1⟩, hS.F ht⟩) hS.2.2 hd) x1 x2 x3 h ls _ [] hl hW va_S.rf
def CT_X3_addComposition (l : Launch) (fr lo : Nat) (w : (Int32 → MM → Prop) → MM → Prop) : Prop := ∀ (E : mE) (M : MM) (L : ML) (sz : Nat) (Q : Int32 → MM → Prop), Met l yX3_addComposition (ws_ yX3_addComposition cX3_addComposition 1 (some .int)) { frames := fr, cells := 0, slots := 0, locals := lo } (va_Pc [.ref (mh E)] (fun U => U.heap.size = sz ∧ mW E M L U.heap ∧ mK E U ∧ w Q M)) (va_Qi (fun r (u : MM × ML) => u.2 = L ∧ Q r u.1) (fun u t => mW E u.1 u.2 t.heap) (mA E sz)) 0 0 (mA E sz)
theorem call_X3_addComposition {p : Program} {l : Launch} {e : Env} {R : Room} {s : State} {m : MethodId} {args : Array Value} {below : List Frame} {meth : Method} {c : Code} {H : Heap} {locs : List Loc} {cells slots : Nat} {Z : State → Prop} {A : Nat → Prop} {cc : ByteArray} {nL pc : Nat} {ls : Array Slot} {rest : List Value} {own : String} {index fr lo : Nat} {w : (Int32 → MM → Prop) → MM → Prop} {E : mE} {M : MM} {L : ML} (hM : CT_X3_addComposition l fr lo w) (S : CallFix p m c cc nL s args lw_all own) (hK : mK E s) (hW : mW E M L H) (hS : va_S A s.heap H locs) (hA : ∀ q, s.heap.size ≤ q → A q) (hAw : ∀ q, mAd E q → A q) (hlink : Cond.methodLink own index yX3_addComposition ∈ lw_all) (hRf : fr + 1 ≤ R.frames) (hRl : 8 + (1 + 11) + lo ≤ R.locals) (hcs : cells ≤ R.cells ∧ slots ≤ R.slots) (hz : ls.size = nL) (hr8 : (rest.map fun v => v.category).sum ≤ 8) (hdg : decode cc pc = .ok (.invokevirtual index, 3)) {Q1 : Int32 → MM → Prop} (h : w Q1 M) (kk : ∀ (r : Int32) (M1 : MM) (H1 : Heap) (locs1 : List Loc), Q1 r M1 → mW E M1 L H1 → va_S A s.heap H1 locs1 → (∀ q : Nat, q < H.size → ¬ mAd E q → H1[q]? = H[q]?) → W p l e R s m args below meth c H1 locs1 cells slots Z (F0 m (pc + 3) ls (.int r :: rest))) : W p l e R s m args below meth c H locs cells slots Z (F0 m pc ls (.ref (mh E) :: rest)) := by
  refine mw_i (sz := 0) (P := fun r M1 L1 => L1 = L ∧ Q1 r M1) (va_runV (As := []) (rest := rest) S (hM E M L H.size Q1 ) (cwV 0 S.2.2.2.2 (lw_V hlink q1904 q1905 q68 q1906) rfl rfl rfl (by decide +kernel) ⟨hRf, hRl⟩) ⟨fun a U g mk q => by obtain ⟨q0, q1, qW, qK, qw⟩ := q; exact ⟨q0, q1, qW, qK.moved (u := U) (U := U.calling g mk a) (Vm.Alike.refl U.vm), qw⟩, hW.recv (hK := hK), fun U hU hWm => ⟨rfl, by rw [hU], by rw [hU]; exact hW, hK.moved hWm.alike, h⟩⟩ rfl rfl hz rfl (lv_room hr8) hdg hcs) hS hA hAw (fun r M1 L1 H1 locs1 hp hW1 hz hk hS1 => ?_)
  obtain ⟨rfl, hp⟩ := hp
  exact kk r M1 H1 locs1 hp hW1 hS1 hk
def w_X3_addComposition_14 (Q : Int32 → MM → Prop) (y0 : Int32) (M : MM) : Prop := w_X3_check (fun r1 M2 => if r1 = 0 then (Q (0 : Int32) M2) else (mWr M2 3 4 (M2 1 0) (0 : Int32) (fun M3 => mPt M3 1 ((M3 1 0) + (1 : Int32)) (fun M4 => Q ((M4 1 0) - (1 : Int32)) M4)))) y0 (1 : Int32) (1 : Int32) M
def w_X3_addComposition (Q : Int32 → MM → Prop) (M : MM) : Prop := if (4 : Int32) ≤ (M 1 0) then (w_X3_addComposition_14 Q (0 : Int32) M) else (w_X3_addComposition_14 Q (1 : Int32) M)
set_option maxRecDepth 100000 in
set_option maxHeartbeats 4000000 in
theorem wk_X3_addComposition {p : Program} {l : Launch} {e : Env} {R : Room} {s : State} {m : MethodId} {args : Array Value} {below : List Frame} {meth : Method} {c : Code} {cells slots : Nat} {Z : State → Prop} {A : Nat → Prop} {E : mE} (Q : Int32 → MM → Prop) (C : mC p m c s args cX3_addComposition 1 E) (hA : ∀ q, s.heap.size ≤ q → A q) (hAw : ∀ q, mAd E q → A q) (hRf : 1 ≤ R.frames) (hRl : 23 ≤ R.locals) (hcs : cells ≤ R.cells ∧ slots ≤ R.slots) (M : MM) (L : ML) (hret : ∀ (v : Int32) (M : MM) (pc : Nat) (ls : Array Slot) (H : Heap) (locs : List Loc), decode cX3_addComposition pc = .ok (.ireturn, 1) → va_S A s.heap H locs → mW E M L H → Q v M → W p l e R s m args below meth c H locs cells slots Z (F0 m pc ls [.int v])) : w_X3_addComposition Q M → ∀ (ls : Array Slot) (H : Heap) (locs : List Loc), lv_has ls 1 [(0, .ref (mh E))] → mW E M L H → va_S A s.heap H locs → W p l e R s m args below meth c H locs cells slots Z (F0 m 0 ls []) := by
  obtain ⟨⟨hx, hb, hml, hown, hts⟩, hK⟩ := C; have C : mC p m c s args cX3_addComposition 1 E := ⟨⟨hx, hb, hml, hown, hts⟩, hK⟩
  have hb14 : ∀ (y0 : Int32) (M : MM), w_X3_addComposition_14 Q y0 M → ∀ (ls : Array Slot) (H : Heap) (locs : List Loc), lv_has ls 1 [(0, .ref (mh E))] → mW E M L H → va_S A s.heap H locs → W p l e R s m args below meth c H locs cells slots Z (F0 m 14 ls [.int y0, .ref (mh E)]) := by
    intro y0 M h
    intro ls H locs hl hW hS
    refine lv_iconst (v := 1) hx hb dX3_addComposition_14 (by decide) ?_
    refine lv_iconst (v := 1) hx hb dX3_addComposition_15 (by decide) ?_
    refine call_X3_check (ct_X3_check l) C.1 C.2 hW hS hA hAw q1907 (le_lit hRf rfl) (le_lit hRl rfl) hcs hl.1 (Nat.le_of_ble_eq_true rfl) dX3_addComposition_16 h (fun r1 M2 H locs h hW hS _ => ?_)
    refine lv_if_ne (tgt := 24) hx hb dX3_addComposition_19 (by decide) (fun c5 => ?_) (fun c5 => ?_)
    · have h := wif_f h c5
      refine lv_aload_n hx hb dX3_addComposition_24 rfl (lv_at hl 0 rfl) ?_
      refine mr_getA C hW 3 rfl rfl q1806 dX3_addComposition_25 ?_
      refine lv_aload_n hx hb dX3_addComposition_28 rfl (lv_at hl 0 rfl) ?_
      refine mr_getI C hW 1 rfl rfl q1804 dX3_addComposition_29 ?_
      refine lv_iconst (v := 0) hx hb dX3_addComposition_32 (by decide) ?_
      refine mr_iast C hW hS hAw 3 rfl rfl rfl h dX3_addComposition_33 (fun M3 H locs hW hS h => ?_)
      refine lv_aload_n hx hb dX3_addComposition_34 rfl (lv_at hl 0 rfl) ?_
      refine lv_dup hx hb dX3_addComposition_35 rfl ?_
      refine mr_getI C hW 1 rfl rfl q1804 dX3_addComposition_36 ?_
      refine lv_iconst (v := 1) hx hb dX3_addComposition_39 (by decide) ?_
      refine lv_iadd hx hb dX3_addComposition_40 ?_
      refine mr_putI C hW hS hAw 1 rfl rfl q1804 rfl (tyX3_ok 1 (by decide)) h dX3_addComposition_41 (fun M4 H locs hW hS h => ?_)
      refine lv_aload_n hx hb dX3_addComposition_44 rfl (lv_at hl 0 rfl) ?_
      refine mr_getI C hW 1 rfl rfl q1804 dX3_addComposition_45 ?_
      refine lv_iconst (v := 1) hx hb dX3_addComposition_48 (by decide) ?_
      refine lv_isub hx hb dX3_addComposition_49 ?_
      exact hret _ _ _ _ _ _ dX3_addComposition_50 hS hW h
    · have h := wif_t h c5
      refine lv_iconst (v := 0) hx hb dX3_addComposition_22 (by decide) ?_
      exact hret _ _ _ _ _ _ dX3_addComposition_23 hS hW h
  intro h
  intro ls H locs hl hW hS
  refine lv_aload_n hx hb dX3_addComposition_0 rfl (lv_at hl 0 rfl) ?_
  refine lv_aload_n hx hb dX3_addComposition_1 rfl (lv_at hl 0 rfl) ?_
  refine mr_getI C hW 1 rfl rfl q1804 dX3_addComposition_2 ?_
  refine lv_iconst (v := 4) hx hb dX3_addComposition_5 (by decide) ?_
  refine lv_icmp_ge (tgt := 13) hx hb dX3_addComposition_6 (by decide) (fun c6 => ?_) (fun c6 => ?_)
  · have h := wif_t h c6
    refine lv_iconst (v := 0) hx hb dX3_addComposition_13 (by decide) ?_
    exact hb14 _ _ h ls H locs (lv_sub hl [0] rfl) hW hS
  · have h := wif_f h c6
    refine lv_iconst (v := 1) hx hb dX3_addComposition_9 (by decide) ?_
    refine lv_goto (tgt := 14) hx hb dX3_addComposition_10 (by decide) ?_
    exact hb14 _ _ h ls H locs (lv_sub hl [0] rfl) hW hS
theorem ct_X3_addComposition (l : Launch) : CT_X3_addComposition l 1 23 w_X3_addComposition := by
  intro E M L sz Q
  refine Met.ofW (cc := cX3_addComposition) (maxL := 1) (ret := (some .int)) (by decide) rfl ?_
  intro p e s m args below meth c s₁ B hml hv
  obtain ⟨rfl, hsz, hW, hK, h⟩ := hv
  subst hsz
  have hts := atoms_spec (ws := ws_ yX3_addComposition cX3_addComposition 1 (some .int)) B.pre
  have hts : ∀ w ∈ lw_all, w.before _ s = true := fun w h => hts w (List.mem_cons_of_mem _ h)
  have hl := lv_entry ([.ref (mh E)]) (n := 1) (Nat.le_of_ble_eq_true rfl)
  rw [lg_entry_eq]
  generalize (lg_sl ([.ref (mh E)]) ++ List.replicate (1 - (lg_sl ([.ref (mh E)])).length) Slot.unset).toArray = ls at hl ⊢
  exact wk_X3_addComposition Q ⟨⟨B.exec, B.bytes, hml, findClass_of_methodNamed B.named, hts⟩, hK⟩ (fun q h => Or.inr h) (fun q h => Or.inl h) (Nat.le_refl _) (Nat.le_refl _) ⟨Nat.le_refl _, Nat.le_refl _⟩ M L (fun v M pc ls H locs hd hS hW1 hQ => W.iret (v := v) B.exec B.bytes B.returns (fun t ht _ => ⟨⟨v, (M, L), rfl, ⟨rfl, hQ⟩, by rw [← ht] at hW1; exact hW1⟩, hS.F ht⟩) hS.2.2 hd)  h ls _ [] hl hW va_S.rf
def CT_X3_isWithin (l : Launch) (fr lo : Nat) (w : (Int32 → Prop) → Int32 → Int32 → Int32 → Prop) : Prop := ∀ (sz : Nat) (Q : Int32 → Prop) (x0 : Int32) (x1 : Int32) (x2 : Int32), Met l yX3_isWithin (ws_ yX3_isWithin cX3_isWithin 3 (some .boolean)) { frames := fr, cells := 0, slots := 0, locals := lo } (va_Pc [.int x0, .int x1, .int x2] (fun U => U.heap.size = sz ∧ w Q x0 x1 x2)) (va_Qi (fun r (_ : Unit) => Q r) (fun _ _ => True) (mN sz)) 0 0 (mN sz)
theorem call_X3_isWithin {p : Program} {l : Launch} {e : Env} {R : Room} {s : State} {m : MethodId} {args : Array Value} {below : List Frame} {meth : Method} {c : Code} {H : Heap} {locs : List Loc} {cells slots : Nat} {Z : State → Prop} {A : Nat → Prop} {cc : ByteArray} {nL pc : Nat} {ls : Array Slot} {rest : List Value} {own : String} {index fr lo : Nat} {w : (Int32 → Prop) → Int32 → Int32 → Int32 → Prop} {x0 : Int32} {x1 : Int32} {x2 : Int32} (hM : CT_X3_isWithin l fr lo w) (S : CallFix p m c cc nL s args lw_all own) (hS : va_S A s.heap H locs) (hA : ∀ q, s.heap.size ≤ q → A q) (hlink : Cond.methodLink own index yX3_isWithin ∈ lw_all) (hRf : fr + 1 ≤ R.frames) (hRl : 8 + (3 + 11) + lo ≤ R.locals) (hcs : cells ≤ R.cells ∧ slots ≤ R.slots) (hz : ls.size = nL) (hr8 : (rest.map fun v => v.category).sum ≤ 8) (hdg : decode cc pc = .ok (.invokestatic index, 3)) {Q1 : Int32 → Prop} (h : w Q1 x0 x1 x2) (kk : ∀ (r : Int32) (H1 : Heap) (locs1 : List Loc), Q1 r → (∀ q : Nat, q < H.size → H1[q]? = H[q]?) → va_S A s.heap H1 locs1 → W p l e R s m args below meth c H1 locs1 cells slots Z (F0 m (pc + 3) ls (.int r :: rest))) : W p l e R s m args below meth c H locs cells slots Z (F0 m pc ls (.int x2 :: .int x1 :: .int x0 :: rest)) := by
  exact ro_i (va_runS (As := [.int x0, .int x1, .int x2]) (rest := rest) S (hM H.size Q1 x0 x1 x2) (va_cwS 3 S.2.2.2.2 (lw_S hlink q1916 q68 q1917) rfl rfl rfl (by decide +kernel) ⟨hRf, hRl⟩) ⟨fun a U g mk q => by obtain ⟨q0, q1, qw⟩ := q; exact ⟨q0, q1, qw⟩, fun U hU hWm => ⟨rfl, by rw [hU], h⟩⟩ rfl rfl hz rfl (lv_room hr8) hdg hcs) hS hA (fun r H1 locs1 hp hz hk hS1 => kk r H1 locs1 hp hk hS1)
def w_X3_isWithin (Q : Int32 → Prop) (x0 : Int32) (x1 : Int32) (x2 : Int32) : Prop := if x0 < x1 then (Q (0 : Int32)) else (if x2 < x0 then (Q (0 : Int32)) else (Q (1 : Int32)))
set_option maxRecDepth 100000 in
set_option maxHeartbeats 4000000 in
theorem wk_X3_isWithin {p : Program} {l : Launch} {e : Env} {R : Room} {s : State} {m : MethodId} {args : Array Value} {below : List Frame} {meth : Method} {c : Code} {cells slots : Nat} {Z : State → Prop} {A : Nat → Prop}  (Q : Int32 → Prop) (S : CallFix p m c cX3_isWithin 3 s args lw_all RX3) (hA : ∀ q, s.heap.size ≤ q → A q) (hRf : 0 ≤ R.frames) (hRl : 0 ≤ R.locals) (hcs : cells ≤ R.cells ∧ slots ≤ R.slots) (hret : ∀ (v : Int32) (pc : Nat) (ls : Array Slot) (H : Heap) (locs : List Loc), decode cX3_isWithin pc = .ok (.ireturn, 1) → va_S A s.heap H locs → isZ v → Q v → W p l e R s m args below meth c H locs cells slots Z (F0 m pc ls [.int v])) (x0 : Int32) (x1 : Int32) (x2 : Int32) : w_X3_isWithin Q x0 x1 x2 → ∀ (ls : Array Slot) (H : Heap) (locs : List Loc), lv_has ls 3 [(0, .int x0), (1, .int x1), (2, .int x2)] → va_S A s.heap H locs → W p l e R s m args below meth c H locs cells slots Z (F0 m 0 ls []) := by
  obtain ⟨hx, hb, hml, hown, hts⟩ := S; have S : CallFix p m c cX3_isWithin 3 s args lw_all RX3 := ⟨hx, hb, hml, hown, hts⟩
  intro h
  intro ls H locs hl hS
  refine lv_iload_n hx hb dX3_isWithin_0 rfl (lv_at hl 0 rfl) ?_
  refine lv_iload_n hx hb dX3_isWithin_1 rfl (lv_at hl 1 rfl) ?_
  refine lv_icmp_lt (tgt := 14) hx hb dX3_isWithin_2 (by decide) (fun c2 => ?_) (fun c2 => ?_)
  · have h := wif_t h c2
    refine lv_iconst (v := 0) hx hb dX3_isWithin_14 (by decide) ?_
    exact hret _ _ _ _ _ dX3_isWithin_15 hS isZ_0 h
  · have h := wif_f h c2
    refine lv_iload_n hx hb dX3_isWithin_5 rfl (lv_at hl 0 rfl) ?_
    refine lv_iload_n hx hb dX3_isWithin_6 rfl (lv_at hl 2 rfl) ?_
    refine lv_icmp_gt (tgt := 14) hx hb dX3_isWithin_7 (by decide) (fun c1 => ?_) (fun c1 => ?_)
    · have h := wif_t h c1
      refine lv_iconst (v := 0) hx hb dX3_isWithin_14 (by decide) ?_
      exact hret _ _ _ _ _ dX3_isWithin_15 hS isZ_0 h
    · have h := wif_f h c1
      refine lv_iconst (v := 1) hx hb dX3_isWithin_10 (by decide) ?_
      refine lv_goto (tgt := 15) hx hb dX3_isWithin_11 (by decide) ?_
      exact hret _ _ _ _ _ dX3_isWithin_15 hS isZ_1 h
theorem ct_X3_isWithin (l : Launch) : CT_X3_isWithin l 0 0 w_X3_isWithin := by
  intro sz Q x0 x1 x2
  refine Met.ofW (cc := cX3_isWithin) (maxL := 3) (ret := (some .boolean)) (by decide) rfl ?_
  intro p e s m args below meth c s₁ B hml hv
  obtain ⟨rfl, hsz, h⟩ := hv
  subst hsz
  have hts := atoms_spec (ws := ws_ yX3_isWithin cX3_isWithin 3 (some .boolean)) B.pre
  have hts : ∀ w ∈ lw_all, w.before _ s = true := fun w h => hts w (List.mem_cons_of_mem _ h)
  have hl := lv_entry ([.int x0, .int x1, .int x2]) (n := 3) (Nat.le_of_ble_eq_true rfl)
  rw [lg_entry_eq]
  generalize (lg_sl ([.int x0, .int x1, .int x2]) ++ List.replicate (3 - (lg_sl ([.int x0, .int x1, .int x2])).length) Slot.unset).toArray = ls at hl ⊢
  exact wk_X3_isWithin Q ⟨B.exec, B.bytes, hml, findClass_of_methodNamed B.named, hts⟩ (fun q h => h) (Nat.le_refl _) (Nat.le_refl _) ⟨Nat.le_refl _, Nat.le_refl _⟩ (fun v pc ls H locs hd hS hz hQ => W.zret (v := v) B.exec B.bytes B.returns hz.nar (fun t ht _ => ⟨⟨v, (), rfl, hQ, trivial⟩, hS.F ht⟩) hS.2.2 hd) x0 x1 x2 h ls _ [] hl va_S.rf
def CT_X3_isComposition (l : Launch) (fr lo : Nat) (w : (Int32 → Prop) → Int32 → MM → Prop) : Prop := ∀ (E : mE) (M : MM) (L : ML) (sz : Nat) (Q : Int32 → Prop) (x1 : Int32), Met l yX3_isComposition (ws_ yX3_isComposition cX3_isComposition 2 (some .boolean)) { frames := fr, cells := 0, slots := 0, locals := lo } (va_Pc [.ref (mh E), .int x1] (fun U => U.heap.size = sz ∧ mW E M L U.heap ∧ mK E U ∧ w Q x1 M)) (va_Qi (fun r (_ : Unit) => Q r) (fun _ _ => True) (mN sz)) 0 0 (mN sz)
theorem call_X3_isComposition {p : Program} {l : Launch} {e : Env} {R : Room} {s : State} {m : MethodId} {args : Array Value} {below : List Frame} {meth : Method} {c : Code} {H : Heap} {locs : List Loc} {cells slots : Nat} {Z : State → Prop} {A : Nat → Prop} {cc : ByteArray} {nL pc : Nat} {ls : Array Slot} {rest : List Value} {own : String} {index fr lo : Nat} {w : (Int32 → Prop) → Int32 → MM → Prop} {E : mE} {M : MM} {L : ML} {x1 : Int32} (hM : CT_X3_isComposition l fr lo w) (S : CallFix p m c cc nL s args lw_all own) (hK : mK E s) (hW : mW E M L H) (hS : va_S A s.heap H locs) (hA : ∀ q, s.heap.size ≤ q → A q) (hlink : Cond.methodLink own index yX3_isComposition ∈ lw_all) (hRf : fr + 1 ≤ R.frames) (hRl : 8 + (2 + 11) + lo ≤ R.locals) (hcs : cells ≤ R.cells ∧ slots ≤ R.slots) (hz : ls.size = nL) (hr8 : (rest.map fun v => v.category).sum ≤ 8) (hdg : decode cc pc = .ok (.invokevirtual index, 3)) {Q1 : Int32 → Prop} (h : w Q1 x1 M) (kk : ∀ (r : Int32) (H1 : Heap) (locs1 : List Loc), Q1 r → (∀ q : Nat, q < H.size → H1[q]? = H[q]?) → va_S A s.heap H1 locs1 → W p l e R s m args below meth c H1 locs1 cells slots Z (F0 m (pc + 3) ls (.int r :: rest))) : W p l e R s m args below meth c H locs cells slots Z (F0 m pc ls (.int x1 :: .ref (mh E) :: rest)) := by
  exact ro_i (va_runV (As := [.int x1]) (rest := rest) S (hM E M L H.size Q1 x1) (cwV 1 S.2.2.2.2 (lw_V hlink q1920 qs19 q68 q1921) rfl rfl rfl (by decide +kernel) ⟨hRf, hRl⟩) ⟨fun a U g mk q => by obtain ⟨q0, q1, qW, qK, qw⟩ := q; exact ⟨q0, q1, qW, qK.moved (u := U) (U := U.calling g mk a) (Vm.Alike.refl U.vm), qw⟩, hW.recv (hK := hK), fun U hU hWm => ⟨rfl, by rw [hU], by rw [hU]; exact hW, hK.moved hWm.alike, h⟩⟩ rfl rfl hz rfl (lv_room hr8) hdg hcs) hS hA (fun r H1 locs1 hp hz hk hS1 => kk r H1 locs1 hp hk hS1)
def w_X3_isComposition (Q : Int32 → Prop) (x1 : Int32) (M : MM) : Prop := w_X3_isWithin (fun r1 => isZ r1 ∧ (Q r1)) x1 (0 : Int32) ((M 1 0) - (1 : Int32))
set_option maxRecDepth 100000 in
set_option maxHeartbeats 4000000 in
theorem wk_X3_isComposition {p : Program} {l : Launch} {e : Env} {R : Room} {s : State} {m : MethodId} {args : Array Value} {below : List Frame} {meth : Method} {c : Code} {cells slots : Nat} {Z : State → Prop} {A : Nat → Prop} {E : mE} (Q : Int32 → Prop) (C : mC p m c s args cX3_isComposition 2 E) (hA : ∀ q, s.heap.size ≤ q → A q) (hRf : 1 ≤ R.frames) (hRl : 22 ≤ R.locals) (hcs : cells ≤ R.cells ∧ slots ≤ R.slots) (M : MM) (L : ML) (hret : ∀ (v : Int32) (pc : Nat) (ls : Array Slot) (H : Heap) (locs : List Loc), decode cX3_isComposition pc = .ok (.ireturn, 1) → va_S A s.heap H locs → isZ v → Q v → W p l e R s m args below meth c H locs cells slots Z (F0 m pc ls [.int v])) (x1 : Int32) : w_X3_isComposition Q x1 M → ∀ (ls : Array Slot) (H : Heap) (locs : List Loc), lv_has ls 2 [(0, .ref (mh E)), (1, .int x1)] → mW E M L H → va_S A s.heap H locs → W p l e R s m args below meth c H locs cells slots Z (F0 m 0 ls []) := by
  obtain ⟨⟨hx, hb, hml, hown, hts⟩, hK⟩ := C; have C : mC p m c s args cX3_isComposition 2 E := ⟨⟨hx, hb, hml, hown, hts⟩, hK⟩
  intro h
  intro ls H locs hl hW hS
  refine lv_iload_n hx hb dX3_isComposition_0 rfl (lv_at hl 1 rfl) ?_
  refine lv_iconst (v := 0) hx hb dX3_isComposition_1 (by decide) ?_
  refine lv_aload_n hx hb dX3_isComposition_2 rfl (lv_at hl 0 rfl) ?_
  refine mr_getI C hW 1 rfl rfl q1804 dX3_isComposition_3 ?_
  refine lv_iconst (v := 1) hx hb dX3_isComposition_6 (by decide) ?_
  refine lv_isub hx hb dX3_isComposition_7 ?_
  refine call_X3_isWithin (ct_X3_isWithin l) C.1 hS hA q1915 (le_lit hRf rfl) (le_lit hRl rfl) hcs hl.1 (Nat.le_of_ble_eq_true rfl) dX3_isComposition_8 h (fun r1 H locs h hk hS => ?_)
  have hW := hW.kept hk
  exact hret _ _ _ _ _ dX3_isComposition_11 hS h.1 h.2
theorem ct_X3_isComposition (l : Launch) : CT_X3_isComposition l 1 22 w_X3_isComposition := by
  intro E M L sz Q x1
  refine Met.ofW (cc := cX3_isComposition) (maxL := 2) (ret := (some .boolean)) (by decide) rfl ?_
  intro p e s m args below meth c s₁ B hml hv
  obtain ⟨rfl, hsz, hW, hK, h⟩ := hv
  subst hsz
  have hts := atoms_spec (ws := ws_ yX3_isComposition cX3_isComposition 2 (some .boolean)) B.pre
  have hts : ∀ w ∈ lw_all, w.before _ s = true := fun w h => hts w (List.mem_cons_of_mem _ h)
  have hl := lv_entry ([.ref (mh E), .int x1]) (n := 2) (Nat.le_of_ble_eq_true rfl)
  rw [lg_entry_eq]
  generalize (lg_sl ([.ref (mh E), .int x1]) ++ List.replicate (2 - (lg_sl ([.ref (mh E), .int x1])).length) Slot.unset).toArray = ls at hl ⊢
  exact wk_X3_isComposition Q ⟨⟨B.exec, B.bytes, hml, findClass_of_methodNamed B.named, hts⟩, hK⟩ (fun q h => h) (Nat.le_refl _) (Nat.le_refl _) ⟨Nat.le_refl _, Nat.le_refl _⟩ M L (fun v pc ls H locs hd hS hz hQ => W.zret (v := v) B.exec B.bytes B.returns hz.nar (fun t ht _ => ⟨⟨v, (), rfl, hQ, trivial⟩, hS.F ht⟩) hS.2.2 hd) x1 h ls _ [] hl hW va_S.rf
def CT_X3_hasRoom (l : Launch) (fr lo : Nat) (w : (Int32 → Prop) → MM → Prop) : Prop := ∀ (E : mE) (M : MM) (L : ML) (sz : Nat) (Q : Int32 → Prop), Met l yX3_hasRoom (ws_ yX3_hasRoom cX3_hasRoom 1 (some .boolean)) { frames := fr, cells := 0, slots := 0, locals := lo } (va_Pc [.ref (mh E)] (fun U => U.heap.size = sz ∧ mW E M L U.heap ∧ mK E U ∧ w Q M)) (va_Qi (fun r (_ : Unit) => Q r) (fun _ _ => True) (mN sz)) 0 0 (mN sz)
theorem call_X3_hasRoom {p : Program} {l : Launch} {e : Env} {R : Room} {s : State} {m : MethodId} {args : Array Value} {below : List Frame} {meth : Method} {c : Code} {H : Heap} {locs : List Loc} {cells slots : Nat} {Z : State → Prop} {A : Nat → Prop} {cc : ByteArray} {nL pc : Nat} {ls : Array Slot} {rest : List Value} {own : String} {index fr lo : Nat} {w : (Int32 → Prop) → MM → Prop} {E : mE} {M : MM} {L : ML} (hM : CT_X3_hasRoom l fr lo w) (S : CallFix p m c cc nL s args lw_all own) (hK : mK E s) (hW : mW E M L H) (hS : va_S A s.heap H locs) (hA : ∀ q, s.heap.size ≤ q → A q) (hlink : Cond.methodLink own index yX3_hasRoom ∈ lw_all) (hRf : fr + 1 ≤ R.frames) (hRl : 8 + (1 + 11) + lo ≤ R.locals) (hcs : cells ≤ R.cells ∧ slots ≤ R.slots) (hz : ls.size = nL) (hr8 : (rest.map fun v => v.category).sum ≤ 8) (hdg : decode cc pc = .ok (.invokevirtual index, 3)) {Q1 : Int32 → Prop} (h : w Q1 M) (kk : ∀ (r : Int32) (H1 : Heap) (locs1 : List Loc), Q1 r → (∀ q : Nat, q < H.size → H1[q]? = H[q]?) → va_S A s.heap H1 locs1 → W p l e R s m args below meth c H1 locs1 cells slots Z (F0 m (pc + 3) ls (.int r :: rest))) : W p l e R s m args below meth c H locs cells slots Z (F0 m pc ls (.ref (mh E) :: rest)) := by
  exact ro_i (va_runV (As := []) (rest := rest) S (hM E M L H.size Q1 ) (cwV 0 S.2.2.2.2 (lw_V hlink q1924 qs20 q68 q1925) rfl rfl rfl (by decide +kernel) ⟨hRf, hRl⟩) ⟨fun a U g mk q => by obtain ⟨q0, q1, qW, qK, qw⟩ := q; exact ⟨q0, q1, qW, qK.moved (u := U) (U := U.calling g mk a) (Vm.Alike.refl U.vm), qw⟩, hW.recv (hK := hK), fun U hU hWm => ⟨rfl, by rw [hU], by rw [hU]; exact hW, hK.moved hWm.alike, h⟩⟩ rfl rfl hz rfl (lv_room hr8) hdg hcs) hS hA (fun r H1 locs1 hp hz hk hS1 => kk r H1 locs1 hp hk hS1)
def w_X3_hasRoom (Q : Int32 → Prop) (M : MM) : Prop := if (12 : Int32) ≤ (M 15 0) then (Q (0 : Int32)) else (Q (1 : Int32))
set_option maxRecDepth 100000 in
set_option maxHeartbeats 4000000 in
theorem wk_X3_hasRoom {p : Program} {l : Launch} {e : Env} {R : Room} {s : State} {m : MethodId} {args : Array Value} {below : List Frame} {meth : Method} {c : Code} {cells slots : Nat} {Z : State → Prop} {A : Nat → Prop} {E : mE} (Q : Int32 → Prop) (C : mC p m c s args cX3_hasRoom 1 E) (hA : ∀ q, s.heap.size ≤ q → A q) (hRf : 0 ≤ R.frames) (hRl : 0 ≤ R.locals) (hcs : cells ≤ R.cells ∧ slots ≤ R.slots) (M : MM) (L : ML) (hret : ∀ (v : Int32) (pc : Nat) (ls : Array Slot) (H : Heap) (locs : List Loc), decode cX3_hasRoom pc = .ok (.ireturn, 1) → va_S A s.heap H locs → isZ v → Q v → W p l e R s m args below meth c H locs cells slots Z (F0 m pc ls [.int v])) : w_X3_hasRoom Q M → ∀ (ls : Array Slot) (H : Heap) (locs : List Loc), lv_has ls 1 [(0, .ref (mh E))] → mW E M L H → va_S A s.heap H locs → W p l e R s m args below meth c H locs cells slots Z (F0 m 0 ls []) := by
  obtain ⟨⟨hx, hb, hml, hown, hts⟩, hK⟩ := C; have C : mC p m c s args cX3_hasRoom 1 E := ⟨⟨hx, hb, hml, hown, hts⟩, hK⟩
  intro h
  intro ls H locs hl hW hS
  refine lv_aload_n hx hb dX3_hasRoom_0 rfl (lv_at hl 0 rfl) ?_
  refine mr_getI C hW 15 rfl rfl q1818 dX3_hasRoom_1 ?_
  refine lv_bipush (v := 12) hx hb dX3_hasRoom_4 (by decide) ?_
  refine lv_icmp_ge (tgt := 13) hx hb dX3_hasRoom_6 (by decide) (fun c1 => ?_) (fun c1 => ?_)
  · have h := wif_t h c1
    refine lv_iconst (v := 0) hx hb dX3_hasRoom_13 (by decide) ?_
    exact hret _ _ _ _ _ dX3_hasRoom_14 hS isZ_0 h
  · have h := wif_f h c1
    refine lv_iconst (v := 1) hx hb dX3_hasRoom_9 (by decide) ?_
    refine lv_goto (tgt := 14) hx hb dX3_hasRoom_10 (by decide) ?_
    exact hret _ _ _ _ _ dX3_hasRoom_14 hS isZ_1 h
theorem ct_X3_hasRoom (l : Launch) : CT_X3_hasRoom l 0 0 w_X3_hasRoom := by
  intro E M L sz Q
  refine Met.ofW (cc := cX3_hasRoom) (maxL := 1) (ret := (some .boolean)) (by decide) rfl ?_
  intro p e s m args below meth c s₁ B hml hv
  obtain ⟨rfl, hsz, hW, hK, h⟩ := hv
  subst hsz
  have hts := atoms_spec (ws := ws_ yX3_hasRoom cX3_hasRoom 1 (some .boolean)) B.pre
  have hts : ∀ w ∈ lw_all, w.before _ s = true := fun w h => hts w (List.mem_cons_of_mem _ h)
  have hl := lv_entry ([.ref (mh E)]) (n := 1) (Nat.le_of_ble_eq_true rfl)
  rw [lg_entry_eq]
  generalize (lg_sl ([.ref (mh E)]) ++ List.replicate (1 - (lg_sl ([.ref (mh E)])).length) Slot.unset).toArray = ls at hl ⊢
  exact wk_X3_hasRoom Q ⟨⟨B.exec, B.bytes, hml, findClass_of_methodNamed B.named, hts⟩, hK⟩ (fun q h => h) (Nat.le_refl _) (Nat.le_refl _) ⟨Nat.le_refl _, Nat.le_refl _⟩ M L (fun v pc ls H locs hd hS hz hQ => W.zret (v := v) B.exec B.bytes B.returns hz.nar (fun t ht _ => ⟨⟨v, (), rfl, hQ, trivial⟩, hS.F ht⟩) hS.2.2 hd)  h ls _ [] hl hW va_S.rf
def CT_X3_add (l : Launch) (fr lo : Nat) (w : (Int32 → MM → Prop) → Int32 → Int32 → Int32 → Int32 → Int32 → MM → Prop) : Prop := ∀ (E : mE) (M : MM) (L : ML) (sz : Nat) (Q : Int32 → MM → Prop) (x1 : Int32) (x2 : Int32) (x3 : Int32) (x4 : Int32) (x5 : Int32), Met l yX3_add (ws_ yX3_add cX3_add 8 (some .int)) { frames := fr, cells := 0, slots := 0, locals := lo } (va_Pc [.ref (mh E), .int x1, .int x2, .int x3, .int x4, .int x5] (fun U => U.heap.size = sz ∧ mW E M L U.heap ∧ mK E U ∧ w Q x1 x2 x3 x4 x5 M)) (va_Qi (fun r (u : MM × ML) => u.2 = L ∧ Q r u.1) (fun u t => mW E u.1 u.2 t.heap) (mA E sz)) 0 0 (mA E sz)
theorem call_X3_add {p : Program} {l : Launch} {e : Env} {R : Room} {s : State} {m : MethodId} {args : Array Value} {below : List Frame} {meth : Method} {c : Code} {H : Heap} {locs : List Loc} {cells slots : Nat} {Z : State → Prop} {A : Nat → Prop} {cc : ByteArray} {nL pc : Nat} {ls : Array Slot} {rest : List Value} {own : String} {index fr lo : Nat} {w : (Int32 → MM → Prop) → Int32 → Int32 → Int32 → Int32 → Int32 → MM → Prop} {E : mE} {M : MM} {L : ML} {x1 : Int32} {x2 : Int32} {x3 : Int32} {x4 : Int32} {x5 : Int32} (hM : CT_X3_add l fr lo w) (S : CallFix p m c cc nL s args lw_all own) (hK : mK E s) (hW : mW E M L H) (hS : va_S A s.heap H locs) (hA : ∀ q, s.heap.size ≤ q → A q) (hAw : ∀ q, mAd E q → A q) (hlink : Cond.methodLink own index yX3_add ∈ lw_all) (hRf : fr + 1 ≤ R.frames) (hRl : 8 + (8 + 11) + lo ≤ R.locals) (hcs : cells ≤ R.cells ∧ slots ≤ R.slots) (hz : ls.size = nL) (hr8 : (rest.map fun v => v.category).sum ≤ 8) (hdg : decode cc pc = .ok (.invokevirtual index, 3)) {Q1 : Int32 → MM → Prop} (h : w Q1 x1 x2 x3 x4 x5 M) (kk : ∀ (r : Int32) (M1 : MM) (H1 : Heap) (locs1 : List Loc), Q1 r M1 → mW E M1 L H1 → va_S A s.heap H1 locs1 → (∀ q : Nat, q < H.size → ¬ mAd E q → H1[q]? = H[q]?) → W p l e R s m args below meth c H1 locs1 cells slots Z (F0 m (pc + 3) ls (.int r :: rest))) : W p l e R s m args below meth c H locs cells slots Z (F0 m pc ls (.int x5 :: .int x4 :: .int x3 :: .int x2 :: .int x1 :: .ref (mh E) :: rest)) := by
  refine mw_i (sz := 0) (P := fun r M1 L1 => L1 = L ∧ Q1 r M1) (va_runV (As := [.int x1, .int x2, .int x3, .int x4, .int x5]) (rest := rest) S (hM E M L H.size Q1 x1 x2 x3 x4 x5) (cwV 5 S.2.2.2.2 (lw_V hlink q1928 qs21 q68 q1929) rfl rfl rfl (by decide +kernel) ⟨hRf, hRl⟩) ⟨fun a U g mk q => by obtain ⟨q0, q1, qW, qK, qw⟩ := q; exact ⟨q0, q1, qW, qK.moved (u := U) (U := U.calling g mk a) (Vm.Alike.refl U.vm), qw⟩, hW.recv (hK := hK), fun U hU hWm => ⟨rfl, by rw [hU], by rw [hU]; exact hW, hK.moved hWm.alike, h⟩⟩ rfl rfl hz rfl (lv_room hr8) hdg hcs) hS hA hAw (fun r M1 L1 H1 locs1 hp hW1 hz hk hS1 => ?_)
  obtain ⟨rfl, hp⟩ := hp
  exact kk r M1 H1 locs1 hp hW1 hS1 hk
def w_X3_add_h119 (Q : Int32 → MM → Prop) (x2 : Int32) (x6 : Int32) (rec119 : Int32 → MM → Prop) (x7 : Int32) (M : MM) : Prop := if (8 : Int32) ≤ x7 then (mRd (M 3) 4 x2 (fun v1 => mWr M 2 48 (((12 : Int32) * x2) + v1) x6 (fun M2 => mRd (M2 3) 4 x2 (fun v3 => mWr M2 3 4 x2 (v3 + (1 : Int32)) (fun M4 => Q x6 M4))))) else (mWr M 19 96 (((8 : Int32) * x6) + x7) (0 : Int32) (fun M5 => rec119 (x7 + (1 : Int32)) M5))
def w_X3_add_L119 (Q : Int32 → MM → Prop) (x2 : Int32) (x6 : Int32) (x7 : Int32) (M : MM) : Prop := wLoop (fun (rec : (Int32 × MM) → Prop) (s : Int32 × MM) => w_X3_add_h119 Q x2 x6 (fun x7 M => rec (x7, M)) s.1 s.2) (x7, M)
def w_X3_add (Q : Int32 → MM → Prop) (x1 : Int32) (x2 : Int32) (x3 : Int32) (x4 : Int32) (x5 : Int32) (M : MM) : Prop := mPt M 15 ((M 15 0) + (1 : Int32)) (fun M7 => mWr M7 4 12 (M 15 0) x1 (fun M8 => mWr M8 5 12 (M 15 0) x2 (fun M9 => mWr M9 6 12 (M 15 0) x3 (fun M10 => mWr M10 7 12 (M 15 0) x4 (fun M11 => mWr M11 8 12 (M 15 0) x5 (fun M12 => mWr M12 9 12 (M 15 0) (-1 : Int32) (fun M13 => mWr M13 10 12 (M 15 0) (-1 : Int32) (fun M14 => mWr M14 11 12 (M 15 0) (zN (0 : Int32)) (fun M15 => mWr M15 12 12 (M 15 0) (0 : Int32) (fun M16 => mWr M16 13 12 (M 15 0) (1000 : Int32) (fun M17 => mWr M17 14 12 (M 15 0) (zN (1 : Int32)) (fun M18 => mWr M18 18 12 (M 15 0) (0 : Int32) (fun M19 => w_X3_add_L119 Q x2 (M 15 0) (0 : Int32) M19)))))))))))))
set_option maxRecDepth 100000 in
set_option maxHeartbeats 4000000 in
theorem wk_X3_add {p : Program} {l : Launch} {e : Env} {R : Room} {s : State} {m : MethodId} {args : Array Value} {below : List Frame} {meth : Method} {c : Code} {cells slots : Nat} {Z : State → Prop} {A : Nat → Prop} {E : mE} (Q : Int32 → MM → Prop) (C : mC p m c s args cX3_add 8 E) (hA : ∀ q, s.heap.size ≤ q → A q) (hAw : ∀ q, mAd E q → A q) (hRf : 0 ≤ R.frames) (hRl : 0 ≤ R.locals) (hcs : cells ≤ R.cells ∧ slots ≤ R.slots) (M : MM) (L : ML) (hret : ∀ (v : Int32) (M : MM) (pc : Nat) (ls : Array Slot) (H : Heap) (locs : List Loc), decode cX3_add pc = .ok (.ireturn, 1) → va_S A s.heap H locs → mW E M L H → Q v M → W p l e R s m args below meth c H locs cells slots Z (F0 m pc ls [.int v])) (x1 : Int32) (x2 : Int32) (x3 : Int32) (x4 : Int32) (x5 : Int32) : w_X3_add Q x1 x2 x3 x4 x5 M → ∀ (ls : Array Slot) (H : Heap) (locs : List Loc), lv_has ls 8 [(0, .ref (mh E)), (1, .int x1), (2, .int x2), (3, .int x3), (4, .int x4), (5, .int x5)] → mW E M L H → va_S A s.heap H locs → W p l e R s m args below meth c H locs cells slots Z (F0 m 0 ls []) := by
  obtain ⟨⟨hx, hb, hml, hown, hts⟩, hK⟩ := C; have C : mC p m c s args cX3_add 8 E := ⟨⟨hx, hb, hml, hown, hts⟩, hK⟩
  have hL119 : ∀ (x6 : Int32) (x7 : Int32) (M : MM), w_X3_add_L119 Q x2 x6 x7 M → ∀ (ls : Array Slot) (H : Heap) (locs : List Loc), lv_has ls 8 [(0, .ref (mh E)), (2, .int x2), (6, .int x6), (7, .int x7)] → mW E M L H → va_S A s.heap H locs → W p l e R s m args below meth c H locs cells slots Z (F0 m 119 ls []) := by
    intro x6
    obtain ⟨G119, hG119⟩ : ∃ G : Int32 → MM → Prop, ∀ (x7 : Int32) (M : MM), G x7 M ↔ (∀ (ls : Array Slot) (H : Heap) (locs : List Loc), lv_has ls 8 [(0, .ref (mh E)), (2, .int x2), (6, .int x6), (7, .int x7)] → mW E M L H → va_S A s.heap H locs → W p l e R s m args below meth c H locs cells slots Z (F0 m 119 ls [])) := ⟨fun x7 M => _, fun x7 M => Iff.rfl⟩
    have hB119 : ∀ (rec119 : Int32 → MM → Prop), (∀ (x7 : Int32) (M : MM), rec119 x7 M → G119 x7 M) → ∀ (x7 : Int32) (M : MM), w_X3_add_h119 Q x2 x6 rec119 x7 M → G119 x7 M := by
      intro rec119 hrec119
      intro x7 M h
      rw [hG119]
      intro ls H locs hl hW hS
      refine lv_iload hx hb dX3_add_119 (lv_at hl 3 rfl) ?_
      refine lv_bipush (v := 8) hx hb dX3_add_121 (by decide) ?_
      refine lv_icmp_ge (tgt := 146) hx hb dX3_add_123 (by decide) (fun c6 => ?_) (fun c6 => ?_)
      · have h := wif_t h c6
        refine lv_aload_n hx hb dX3_add_146 rfl (lv_at hl 0 rfl) ?_
        refine mr_getA C hW 2 rfl rfl q1805 dX3_add_147 ?_
        refine lv_bipush (v := 12) hx hb dX3_add_150 (by decide) ?_
        refine lv_iload_n hx hb dX3_add_152 rfl (lv_at hl 1 rfl) ?_
        refine lv_imul hx hb dX3_add_153 ?_
        refine lv_aload_n hx hb dX3_add_154 rfl (lv_at hl 0 rfl) ?_
        refine mr_getA C hW 3 rfl rfl q1806 dX3_add_155 ?_
        refine lv_iload_n hx hb dX3_add_158 rfl (lv_at hl 1 rfl) ?_
        refine mr_iald C hW 3 rfl rfl rfl h dX3_add_159 (fun v1 h => ?_)
        refine lv_iadd hx hb dX3_add_160 ?_
        refine lv_iload hx hb dX3_add_161 (lv_at hl 2 rfl) ?_
        refine mr_iast C hW hS hAw 2 rfl rfl rfl h dX3_add_163 (fun M2 H locs hW hS h => ?_)
        refine lv_aload_n hx hb dX3_add_164 rfl (lv_at hl 0 rfl) ?_
        refine mr_getA C hW 3 rfl rfl q1806 dX3_add_165 ?_
        refine lv_iload_n hx hb dX3_add_168 rfl (lv_at hl 1 rfl) ?_
        refine lv_dup2_11 hx hb dX3_add_169 rfl rfl ?_
        refine mr_iald C hW 3 rfl rfl rfl h dX3_add_170 (fun v3 h => ?_)
        refine lv_iconst (v := 1) hx hb dX3_add_171 (by decide) ?_
        refine lv_iadd hx hb dX3_add_172 ?_
        refine mr_iast C hW hS hAw 3 rfl rfl rfl h dX3_add_173 (fun M4 H locs hW hS h => ?_)
        refine lv_iload hx hb dX3_add_174 (lv_at hl 2 rfl) ?_
        exact hret _ _ _ _ _ _ dX3_add_176 hS hW h
      · have h := wif_f h c6
        refine lv_aload_n hx hb dX3_add_126 rfl (lv_at hl 0 rfl) ?_
        refine mr_getA C hW 19 rfl rfl q1822 dX3_add_127 ?_
        refine lv_bipush (v := 8) hx hb dX3_add_130 (by decide) ?_
        refine lv_iload hx hb dX3_add_132 (lv_at hl 2 rfl) ?_
        refine lv_imul hx hb dX3_add_134 ?_
        refine lv_iload hx hb dX3_add_135 (lv_at hl 3 rfl) ?_
        refine lv_iadd hx hb dX3_add_137 ?_
        refine lv_iconst (v := 0) hx hb dX3_add_138 (by decide) ?_
        refine mr_iast C hW hS hAw 19 rfl rfl rfl h dX3_add_139 (fun M5 H locs hW hS h => ?_)
        refine lv_iinc (v := x7 + (1 : Int32)) (lv' := [(7, .int (x7 + (1 : Int32))), (0, .ref (mh E)), (2, .int x2), (6, .int x6)]) hx hb dX3_add_140 hl (k := 3) rfl (congrArg (fun z => x7 + z) (by decide)) (by decide) rfl (fun ls hl => ?_)
        refine lv_goto (tgt := 119) hx hb dX3_add_143 (by decide) ?_
        exact (hG119 _ _).mp (hrec119 _ _ h) ls H locs (lv_sub hl [1, 2, 3, 0] rfl) hW hS
    intro x7 M h
    exact (hG119 x7 M).mp (loop_walk (fun s => G119 s.1 s.2) (fun rec hrec s h => hB119 (fun x7 M => rec (x7, M)) (fun x7 M h => hrec (x7, M) h) s.1 s.2 h) (x7, M) h)
  intro h
  intro ls H locs hl hW hS
  refine lv_aload_n hx hb dX3_add_0 rfl (lv_at hl 0 rfl) ?_
  refine mr_getI C hW 15 rfl rfl q1818 dX3_add_1 ?_
  refine lv_istore (lv' := [(6, .int (M 15 0)), (0, .ref (mh E)), (1, .int x1), (2, .int x2), (3, .int x3), (4, .int x4), (5, .int x5)]) hx hb dX3_add_4 hl (by decide) rfl (fun ls hl => ?_)
  refine lv_aload_n hx hb dX3_add_6 rfl (lv_at hl 1 rfl) ?_
  refine lv_dup hx hb dX3_add_7 rfl ?_
  refine mr_getI C hW 15 rfl rfl q1818 dX3_add_8 ?_
  refine lv_iconst (v := 1) hx hb dX3_add_11 (by decide) ?_
  refine lv_iadd hx hb dX3_add_12 ?_
  refine mr_putI C hW hS hAw 15 rfl rfl q1818 rfl (tyX3_ok 15 (by decide)) h dX3_add_13 (fun M7 H locs hW hS h => ?_)
  refine lv_aload_n hx hb dX3_add_16 rfl (lv_at hl 1 rfl) ?_
  refine mr_getA C hW 4 rfl rfl q1807 dX3_add_17 ?_
  refine lv_iload hx hb dX3_add_20 (lv_at hl 0 rfl) ?_
  refine lv_iload_n hx hb dX3_add_22 rfl (lv_at hl 2 rfl) ?_
  refine mr_iast C hW hS hAw 4 rfl rfl rfl h dX3_add_23 (fun M8 H locs hW hS h => ?_)
  refine lv_aload_n hx hb dX3_add_24 rfl (lv_at hl 1 rfl) ?_
  refine mr_getA C hW 5 rfl rfl q1808 dX3_add_25 ?_
  refine lv_iload hx hb dX3_add_28 (lv_at hl 0 rfl) ?_
  refine lv_iload_n hx hb dX3_add_30 rfl (lv_at hl 3 rfl) ?_
  refine mr_iast C hW hS hAw 5 rfl rfl rfl h dX3_add_31 (fun M9 H locs hW hS h => ?_)
  refine lv_aload_n hx hb dX3_add_32 rfl (lv_at hl 1 rfl) ?_
  refine mr_getA C hW 6 rfl rfl q1809 dX3_add_33 ?_
  refine lv_iload hx hb dX3_add_36 (lv_at hl 0 rfl) ?_
  refine lv_iload_n hx hb dX3_add_38 rfl (lv_at hl 4 rfl) ?_
  refine mr_iast C hW hS hAw 6 rfl rfl rfl h dX3_add_39 (fun M10 H locs hW hS h => ?_)
  refine lv_aload_n hx hb dX3_add_40 rfl (lv_at hl 1 rfl) ?_
  refine mr_getA C hW 7 rfl rfl q1810 dX3_add_41 ?_
  refine lv_iload hx hb dX3_add_44 (lv_at hl 0 rfl) ?_
  refine lv_iload hx hb dX3_add_46 (lv_at hl 5 rfl) ?_
  refine mr_iast C hW hS hAw 7 rfl rfl rfl h dX3_add_48 (fun M11 H locs hW hS h => ?_)
  refine lv_aload_n hx hb dX3_add_49 rfl (lv_at hl 1 rfl) ?_
  refine mr_getA C hW 8 rfl rfl q1811 dX3_add_50 ?_
  refine lv_iload hx hb dX3_add_53 (lv_at hl 0 rfl) ?_
  refine lv_iload hx hb dX3_add_55 (lv_at hl 6 rfl) ?_
  refine mr_iast C hW hS hAw 8 rfl rfl rfl h dX3_add_57 (fun M12 H locs hW hS h => ?_)
  refine lv_aload_n hx hb dX3_add_58 rfl (lv_at hl 1 rfl) ?_
  refine mr_getA C hW 9 rfl rfl q1812 dX3_add_59 ?_
  refine lv_iload hx hb dX3_add_62 (lv_at hl 0 rfl) ?_
  refine lv_iconst (v := -1) hx hb dX3_add_64 (by decide) ?_
  refine mr_iast C hW hS hAw 9 rfl rfl rfl h dX3_add_65 (fun M13 H locs hW hS h => ?_)
  refine lv_aload_n hx hb dX3_add_66 rfl (lv_at hl 1 rfl) ?_
  refine mr_getA C hW 10 rfl rfl q1813 dX3_add_67 ?_
  refine lv_iload hx hb dX3_add_70 (lv_at hl 0 rfl) ?_
  refine lv_iconst (v := -1) hx hb dX3_add_72 (by decide) ?_
  refine mr_iast C hW hS hAw 10 rfl rfl rfl h dX3_add_73 (fun M14 H locs hW hS h => ?_)
  refine lv_aload_n hx hb dX3_add_74 rfl (lv_at hl 1 rfl) ?_
  refine mr_getA C hW 11 rfl rfl q1814 dX3_add_75 ?_
  refine lv_iload hx hb dX3_add_78 (lv_at hl 0 rfl) ?_
  refine lv_iconst (v := 0) hx hb dX3_add_80 (by decide) ?_
  refine mr_zast C hW hS hAw 11 rfl rfl rfl h dX3_add_81 (fun M15 H locs hW hS h => ?_)
  refine lv_aload_n hx hb dX3_add_82 rfl (lv_at hl 1 rfl) ?_
  refine mr_getA C hW 12 rfl rfl q1815 dX3_add_83 ?_
  refine lv_iload hx hb dX3_add_86 (lv_at hl 0 rfl) ?_
  refine lv_iconst (v := 0) hx hb dX3_add_88 (by decide) ?_
  refine mr_iast C hW hS hAw 12 rfl rfl rfl h dX3_add_89 (fun M16 H locs hW hS h => ?_)
  refine lv_aload_n hx hb dX3_add_90 rfl (lv_at hl 1 rfl) ?_
  refine mr_getA C hW 13 rfl rfl q1816 dX3_add_91 ?_
  refine lv_iload hx hb dX3_add_94 (lv_at hl 0 rfl) ?_
  refine lv_sipush (v := 1000) hx hb dX3_add_96 (by decide) ?_
  refine mr_iast C hW hS hAw 13 rfl rfl rfl h dX3_add_99 (fun M17 H locs hW hS h => ?_)
  refine lv_aload_n hx hb dX3_add_100 rfl (lv_at hl 1 rfl) ?_
  refine mr_getA C hW 14 rfl rfl q1817 dX3_add_101 ?_
  refine lv_iload hx hb dX3_add_104 (lv_at hl 0 rfl) ?_
  refine lv_iconst (v := 1) hx hb dX3_add_106 (by decide) ?_
  refine mr_zast C hW hS hAw 14 rfl rfl rfl h dX3_add_107 (fun M18 H locs hW hS h => ?_)
  refine lv_aload_n hx hb dX3_add_108 rfl (lv_at hl 1 rfl) ?_
  refine mr_getA C hW 18 rfl rfl q1821 dX3_add_109 ?_
  refine lv_iload hx hb dX3_add_112 (lv_at hl 0 rfl) ?_
  refine lv_iconst (v := 0) hx hb dX3_add_114 (by decide) ?_
  refine mr_iast C hW hS hAw 18 rfl rfl rfl h dX3_add_115 (fun M19 H locs hW hS h => ?_)
  refine lv_iconst (v := 0) hx hb dX3_add_116 (by decide) ?_
  refine lv_istore (lv' := [(7, .int (0 : Int32)), (6, .int (M 15 0)), (0, .ref (mh E)), (1, .int x1), (2, .int x2), (3, .int x3), (4, .int x4), (5, .int x5)]) hx hb dX3_add_117 hl (by decide) rfl (fun ls hl => ?_)
  exact hL119 _ _ _ h ls H locs (lv_sub hl [2, 4, 1, 0] rfl) hW hS
theorem ct_X3_add (l : Launch) : CT_X3_add l 0 0 w_X3_add := by
  intro E M L sz Q x1 x2 x3 x4 x5
  refine Met.ofW (cc := cX3_add) (maxL := 8) (ret := (some .int)) (by decide) rfl ?_
  intro p e s m args below meth c s₁ B hml hv
  obtain ⟨rfl, hsz, hW, hK, h⟩ := hv
  subst hsz
  have hts := atoms_spec (ws := ws_ yX3_add cX3_add 8 (some .int)) B.pre
  have hts : ∀ w ∈ lw_all, w.before _ s = true := fun w h => hts w (List.mem_cons_of_mem _ h)
  have hl := lv_entry ([.ref (mh E), .int x1, .int x2, .int x3, .int x4, .int x5]) (n := 8) (Nat.le_of_ble_eq_true rfl)
  rw [lg_entry_eq]
  generalize (lg_sl ([.ref (mh E), .int x1, .int x2, .int x3, .int x4, .int x5]) ++ List.replicate (8 - (lg_sl ([.ref (mh E), .int x1, .int x2, .int x3, .int x4, .int x5])).length) Slot.unset).toArray = ls at hl ⊢
  exact wk_X3_add Q ⟨⟨B.exec, B.bytes, hml, findClass_of_methodNamed B.named, hts⟩, hK⟩ (fun q h => Or.inr h) (fun q h => Or.inl h) (Nat.le_refl _) (Nat.le_refl _) ⟨Nat.le_refl _, Nat.le_refl _⟩ M L (fun v M pc ls H locs hd hS hW1 hQ => W.iret (v := v) B.exec B.bytes B.returns (fun t ht _ => ⟨⟨v, (M, L), rfl, ⟨rfl, hQ⟩, by rw [← ht] at hW1; exact hW1⟩, hS.F ht⟩) hS.2.2 hd) x1 x2 x3 x4 x5 h ls _ [] hl hW va_S.rf
def CT_X3_addRect (l : Launch) (fr lo : Nat) (w : (Int32 → MM → Prop) → Int32 → Int32 → Int32 → Int32 → MM → Prop) : Prop := ∀ (E : mE) (M : MM) (L : ML) (sz : Nat) (Q : Int32 → MM → Prop) (x1 : Int32) (x2 : Int32) (x3 : Int32) (x4 : Int32), Met l yX3_addRect (ws_ yX3_addRect cX3_addRect 6 (some .int)) { frames := fr, cells := 0, slots := 0, locals := lo } (va_Pc [.ref (mh E), .int x1, .int x2, .int x3, .int x4] (fun U => U.heap.size = sz ∧ mW E M L U.heap ∧ mK E U ∧ w Q x1 x2 x3 x4 M)) (va_Qi (fun r (u : MM × ML) => u.2 = L ∧ Q r u.1) (fun u t => mW E u.1 u.2 t.heap) (mA E sz)) 0 0 (mA E sz)
theorem call_X3_addRect {p : Program} {l : Launch} {e : Env} {R : Room} {s : State} {m : MethodId} {args : Array Value} {below : List Frame} {meth : Method} {c : Code} {H : Heap} {locs : List Loc} {cells slots : Nat} {Z : State → Prop} {A : Nat → Prop} {cc : ByteArray} {nL pc : Nat} {ls : Array Slot} {rest : List Value} {own : String} {index fr lo : Nat} {w : (Int32 → MM → Prop) → Int32 → Int32 → Int32 → Int32 → MM → Prop} {E : mE} {M : MM} {L : ML} {x1 : Int32} {x2 : Int32} {x3 : Int32} {x4 : Int32} (hM : CT_X3_addRect l fr lo w) (S : CallFix p m c cc nL s args lw_all own) (hK : mK E s) (hW : mW E M L H) (hS : va_S A s.heap H locs) (hA : ∀ q, s.heap.size ≤ q → A q) (hAw : ∀ q, mAd E q → A q) (hlink : Cond.methodLink own index yX3_addRect ∈ lw_all) (hRf : fr + 1 ≤ R.frames) (hRl : 8 + (6 + 11) + lo ≤ R.locals) (hcs : cells ≤ R.cells ∧ slots ≤ R.slots) (hz : ls.size = nL) (hr8 : (rest.map fun v => v.category).sum ≤ 8) (hdg : decode cc pc = .ok (.invokevirtual index, 3)) {Q1 : Int32 → MM → Prop} (h : w Q1 x1 x2 x3 x4 M) (kk : ∀ (r : Int32) (M1 : MM) (H1 : Heap) (locs1 : List Loc), Q1 r M1 → mW E M1 L H1 → va_S A s.heap H1 locs1 → (∀ q : Nat, q < H.size → ¬ mAd E q → H1[q]? = H[q]?) → W p l e R s m args below meth c H1 locs1 cells slots Z (F0 m (pc + 3) ls (.int r :: rest))) : W p l e R s m args below meth c H locs cells slots Z (F0 m pc ls (.int x4 :: .int x3 :: .int x2 :: .int x1 :: .ref (mh E) :: rest)) := by
  refine mw_i (sz := 0) (P := fun r M1 L1 => L1 = L ∧ Q1 r M1) (va_runV (As := [.int x1, .int x2, .int x3, .int x4]) (rest := rest) S (hM E M L H.size Q1 x1 x2 x3 x4) (cwV 4 S.2.2.2.2 (lw_V hlink q1912 q1913 q68 q1914) rfl rfl rfl (by decide +kernel) ⟨hRf, hRl⟩) ⟨fun a U g mk q => by obtain ⟨q0, q1, qW, qK, qw⟩ := q; exact ⟨q0, q1, qW, qK.moved (u := U) (U := U.calling g mk a) (Vm.Alike.refl U.vm), qw⟩, hW.recv (hK := hK), fun U hU hWm => ⟨rfl, by rw [hU], by rw [hU]; exact hW, hK.moved hWm.alike, h⟩⟩ rfl rfl hz rfl (lv_room hr8) hdg hcs) hS hA hAw (fun r M1 L1 H1 locs1 hp hW1 hz hk hS1 => ?_)
  obtain ⟨rfl, hp⟩ := hp
  exact kk r M1 H1 locs1 hp hW1 hS1 hk
def w_X3_addRect_36 (Q : Int32 → MM → Prop) (x1 : Int32) (x2 : Int32) (x3 : Int32) (x4 : Int32) (y0 : Int32) (M : MM) : Prop := w_X3_isComposition (fun r1 => w_X3_hasRoom (fun r2 => w_X3_check (fun r3 M4 => if r3 = 0 then (Q (0 : Int32) M4) else (w_X3_add (fun r5 M6 => Q r5 M6) (0 : Int32) x1 x2 x3 x4 M4)) r1 y0 r2 M) M) x1 M
def w_X3_addRect_35 (Q : Int32 → MM → Prop) (x1 : Int32) (x2 : Int32) (x3 : Int32) (x4 : Int32) (M : MM) : Prop := w_X3_addRect_36 Q x1 x2 x3 x4 (0 : Int32) M
def w_X3_addRect (Q : Int32 → MM → Prop) (x1 : Int32) (x2 : Int32) (x3 : Int32) (x4 : Int32) (M : MM) : Prop := w_X3_isWithin (fun r8 => if r8 = 0 then (w_X3_addRect_35 Q x1 x2 x3 x4 M) else (w_X3_isWithin (fun r9 => if r9 = 0 then (w_X3_addRect_35 Q x1 x2 x3 x4 M) else (w_X3_isWithin (fun r10 => if r10 = 0 then (w_X3_addRect_35 Q x1 x2 x3 x4 M) else (w_X3_addRect_36 Q x1 x2 x3 x4 (1 : Int32) M)) x4 (1 : Int32) (9 : Int32))) x3 (1 : Int32) (20 : Int32))) x2 (1 : Int32) (20 : Int32)
set_option maxRecDepth 100000 in
set_option maxHeartbeats 4000000 in
theorem wk_X3_addRect {p : Program} {l : Launch} {e : Env} {R : Room} {s : State} {m : MethodId} {args : Array Value} {below : List Frame} {meth : Method} {c : Code} {cells slots : Nat} {Z : State → Prop} {A : Nat → Prop} {E : mE} (Q : Int32 → MM → Prop) (C : mC p m c s args cX3_addRect 6 E) (hA : ∀ q, s.heap.size ≤ q → A q) (hAw : ∀ q, mAd E q → A q) (hRf : 2 ≤ R.frames) (hRl : 43 ≤ R.locals) (hcs : cells ≤ R.cells ∧ slots ≤ R.slots) (M : MM) (L : ML) (hret : ∀ (v : Int32) (M : MM) (pc : Nat) (ls : Array Slot) (H : Heap) (locs : List Loc), decode cX3_addRect pc = .ok (.ireturn, 1) → va_S A s.heap H locs → mW E M L H → Q v M → W p l e R s m args below meth c H locs cells slots Z (F0 m pc ls [.int v])) (x1 : Int32) (x2 : Int32) (x3 : Int32) (x4 : Int32) : w_X3_addRect Q x1 x2 x3 x4 M → ∀ (ls : Array Slot) (H : Heap) (locs : List Loc), lv_has ls 6 [(0, .ref (mh E)), (1, .int x1), (2, .int x2), (3, .int x3), (4, .int x4)] → mW E M L H → va_S A s.heap H locs → W p l e R s m args below meth c H locs cells slots Z (F0 m 0 ls []) := by
  obtain ⟨⟨hx, hb, hml, hown, hts⟩, hK⟩ := C; have C : mC p m c s args cX3_addRect 6 E := ⟨⟨hx, hb, hml, hown, hts⟩, hK⟩
  have hb36 : ∀ (y0 : Int32) (M : MM), w_X3_addRect_36 Q x1 x2 x3 x4 y0 M → ∀ (ls : Array Slot) (H : Heap) (locs : List Loc), lv_has ls 6 [(0, .ref (mh E)), (1, .int x1), (2, .int x2), (3, .int x3), (4, .int x4)] → mW E M L H → va_S A s.heap H locs → W p l e R s m args below meth c H locs cells slots Z (F0 m 36 ls [.int y0]) := by
    intro y0 M h
    intro ls H locs hl hW hS
    refine lv_istore (lv' := [(5, .int y0), (0, .ref (mh E)), (1, .int x1), (2, .int x2), (3, .int x3), (4, .int x4)]) hx hb dX3_addRect_36 hl (by decide) rfl (fun ls hl => ?_)
    refine lv_aload_n hx hb dX3_addRect_38 rfl (lv_at hl 1 rfl) ?_
    refine lv_aload_n hx hb dX3_addRect_39 rfl (lv_at hl 1 rfl) ?_
    refine lv_iload_n hx hb dX3_addRect_40 rfl (lv_at hl 2 rfl) ?_
    refine call_X3_isComposition (ct_X3_isComposition l) C.1 C.2 hW hS hA q1918 (le_lit hRf rfl) (le_lit hRl rfl) hcs hl.1 (Nat.le_of_ble_eq_true rfl) dX3_addRect_41 h (fun r1 H locs h hk hS => ?_)
    have hW := hW.kept hk
    refine lv_iload hx hb dX3_addRect_44 (lv_at hl 0 rfl) ?_
    refine lv_aload_n hx hb dX3_addRect_46 rfl (lv_at hl 1 rfl) ?_
    refine call_X3_hasRoom (ct_X3_hasRoom l) C.1 C.2 hW hS hA q1922 (le_lit hRf rfl) (le_lit hRl rfl) hcs hl.1 (Nat.le_of_ble_eq_true rfl) dX3_addRect_47 h (fun r2 H locs h hk hS => ?_)
    have hW := hW.kept hk
    refine call_X3_check (ct_X3_check l) C.1 C.2 hW hS hA hAw q1907 (le_lit hRf rfl) (le_lit hRl rfl) hcs hl.1 (Nat.le_of_ble_eq_true rfl) dX3_addRect_50 h (fun r3 M4 H locs h hW hS _ => ?_)
    refine lv_if_eq (tgt := 69) hx hb dX3_addRect_53 (by decide) (fun c7 => ?_) (fun c7 => ?_)
    · have h := wif_t h c7
      refine lv_iconst (v := 0) hx hb dX3_addRect_69 (by decide) ?_
      exact hret _ _ _ _ _ _ dX3_addRect_70 hS hW h
    · have h := wif_f h c7
      refine lv_aload_n hx hb dX3_addRect_56 rfl (lv_at hl 1 rfl) ?_
      refine lv_iconst (v := 0) hx hb dX3_addRect_57 (by decide) ?_
      refine lv_iload_n hx hb dX3_addRect_58 rfl (lv_at hl 2 rfl) ?_
      refine lv_iload_n hx hb dX3_addRect_59 rfl (lv_at hl 3 rfl) ?_
      refine lv_iload_n hx hb dX3_addRect_60 rfl (lv_at hl 4 rfl) ?_
      refine lv_iload hx hb dX3_addRect_61 (lv_at hl 5 rfl) ?_
      refine call_X3_add (ct_X3_add l) C.1 C.2 hW hS hA hAw q1926 (le_lit hRf rfl) (le_lit hRl rfl) hcs hl.1 (Nat.le_of_ble_eq_true rfl) dX3_addRect_63 h (fun r5 M6 H locs h hW hS _ => ?_)
      refine lv_goto (tgt := 70) hx hb dX3_addRect_66 (by decide) ?_
      exact hret _ _ _ _ _ _ dX3_addRect_70 hS hW h
  have hb35 : ∀ (M : MM), w_X3_addRect_35 Q x1 x2 x3 x4 M → ∀ (ls : Array Slot) (H : Heap) (locs : List Loc), lv_has ls 6 [(0, .ref (mh E)), (1, .int x1), (2, .int x2), (3, .int x3), (4, .int x4)] → mW E M L H → va_S A s.heap H locs → W p l e R s m args below meth c H locs cells slots Z (F0 m 35 ls []) := by
    intro M h
    intro ls H locs hl hW hS
    refine lv_iconst (v := 0) hx hb dX3_addRect_35 (by decide) ?_
    exact hb36 _ _ h ls H locs (lv_sub hl [0, 1, 2, 3, 4] rfl) hW hS
  intro h
  intro ls H locs hl hW hS
  refine lv_iload_n hx hb dX3_addRect_0 rfl (lv_at hl 2 rfl) ?_
  refine lv_iconst (v := 1) hx hb dX3_addRect_1 (by decide) ?_
  refine lv_bipush (v := 20) hx hb dX3_addRect_2 (by decide) ?_
  refine call_X3_isWithin (ct_X3_isWithin l) C.1 hS hA q1915 (le_lit hRf rfl) (le_lit hRl rfl) hcs hl.1 (Nat.le_of_ble_eq_true rfl) dX3_addRect_4 h (fun r8 H locs h hk hS => ?_)
  have hW := hW.kept hk
  refine lv_if_eq (tgt := 35) hx hb dX3_addRect_7 (by decide) (fun c13 => ?_) (fun c13 => ?_)
  · have h := wif_t h c13
    exact hb35 _ h ls H locs (lv_sub hl [0, 1, 2, 3, 4] rfl) hW hS
  · have h := wif_f h c13
    refine lv_iload_n hx hb dX3_addRect_10 rfl (lv_at hl 3 rfl) ?_
    refine lv_iconst (v := 1) hx hb dX3_addRect_11 (by decide) ?_
    refine lv_bipush (v := 20) hx hb dX3_addRect_12 (by decide) ?_
    refine call_X3_isWithin (ct_X3_isWithin l) C.1 hS hA q1915 (le_lit hRf rfl) (le_lit hRl rfl) hcs hl.1 (Nat.le_of_ble_eq_true rfl) dX3_addRect_14 h (fun r9 H locs h hk hS => ?_)
    have hW := hW.kept hk
    refine lv_if_eq (tgt := 35) hx hb dX3_addRect_17 (by decide) (fun c12 => ?_) (fun c12 => ?_)
    · have h := wif_t h c12
      exact hb35 _ h ls H locs (lv_sub hl [0, 1, 2, 3, 4] rfl) hW hS
    · have h := wif_f h c12
      refine lv_iload hx hb dX3_addRect_20 (lv_at hl 4 rfl) ?_
      refine lv_iconst (v := 1) hx hb dX3_addRect_22 (by decide) ?_
      refine lv_bipush (v := 9) hx hb dX3_addRect_23 (by decide) ?_
      refine call_X3_isWithin (ct_X3_isWithin l) C.1 hS hA q1915 (le_lit hRf rfl) (le_lit hRl rfl) hcs hl.1 (Nat.le_of_ble_eq_true rfl) dX3_addRect_25 h (fun r10 H locs h hk hS => ?_)
      have hW := hW.kept hk
      refine lv_if_eq (tgt := 35) hx hb dX3_addRect_28 (by decide) (fun c11 => ?_) (fun c11 => ?_)
      · have h := wif_t h c11
        exact hb35 _ h ls H locs (lv_sub hl [0, 1, 2, 3, 4] rfl) hW hS
      · have h := wif_f h c11
        refine lv_iconst (v := 1) hx hb dX3_addRect_31 (by decide) ?_
        refine lv_goto (tgt := 36) hx hb dX3_addRect_32 (by decide) ?_
        exact hb36 _ _ h ls H locs (lv_sub hl [0, 1, 2, 3, 4] rfl) hW hS
theorem ct_X3_addRect (l : Launch) : CT_X3_addRect l 2 43 w_X3_addRect := by
  intro E M L sz Q x1 x2 x3 x4
  refine Met.ofW (cc := cX3_addRect) (maxL := 6) (ret := (some .int)) (by decide) rfl ?_
  intro p e s m args below meth c s₁ B hml hv
  obtain ⟨rfl, hsz, hW, hK, h⟩ := hv
  subst hsz
  have hts := atoms_spec (ws := ws_ yX3_addRect cX3_addRect 6 (some .int)) B.pre
  have hts : ∀ w ∈ lw_all, w.before _ s = true := fun w h => hts w (List.mem_cons_of_mem _ h)
  have hl := lv_entry ([.ref (mh E), .int x1, .int x2, .int x3, .int x4]) (n := 6) (Nat.le_of_ble_eq_true rfl)
  rw [lg_entry_eq]
  generalize (lg_sl ([.ref (mh E), .int x1, .int x2, .int x3, .int x4]) ++ List.replicate (6 - (lg_sl ([.ref (mh E), .int x1, .int x2, .int x3, .int x4])).length) Slot.unset).toArray = ls at hl ⊢
  exact wk_X3_addRect Q ⟨⟨B.exec, B.bytes, hml, findClass_of_methodNamed B.named, hts⟩, hK⟩ (fun q h => Or.inr h) (fun q h => Or.inl h) (Nat.le_refl _) (Nat.le_refl _) ⟨Nat.le_refl _, Nat.le_refl _⟩ M L (fun v M pc ls H locs hd hS hW1 hQ => W.iret (v := v) B.exec B.bytes B.returns (fun t ht _ => ⟨⟨v, (M, L), rfl, ⟨rfl, hQ⟩, by rw [← ht] at hW1; exact hW1⟩, hS.F ht⟩) hS.2.2 hd) x1 x2 x3 x4 h ls _ [] hl hW va_S.rf
def CT_X3_addStroke (l : Launch) (fr lo : Nat) (w : (Int32 → MM → Prop) → Int32 → Int32 → MM → Prop) : Prop := ∀ (E : mE) (M : MM) (L : ML) (sz : Nat) (Q : Int32 → MM → Prop) (x1 : Int32) (x2 : Int32), Met l yX3_addStroke (ws_ yX3_addStroke cX3_addStroke 3 (some .int)) { frames := fr, cells := 0, slots := 0, locals := lo } (va_Pc [.ref (mh E), .int x1, .int x2] (fun U => U.heap.size = sz ∧ mW E M L U.heap ∧ mK E U ∧ w Q x1 x2 M)) (va_Qi (fun r (u : MM × ML) => u.2 = L ∧ Q r u.1) (fun u t => mW E u.1 u.2 t.heap) (mA E sz)) 0 0 (mA E sz)
theorem call_X3_addStroke {p : Program} {l : Launch} {e : Env} {R : Room} {s : State} {m : MethodId} {args : Array Value} {below : List Frame} {meth : Method} {c : Code} {H : Heap} {locs : List Loc} {cells slots : Nat} {Z : State → Prop} {A : Nat → Prop} {cc : ByteArray} {nL pc : Nat} {ls : Array Slot} {rest : List Value} {own : String} {index fr lo : Nat} {w : (Int32 → MM → Prop) → Int32 → Int32 → MM → Prop} {E : mE} {M : MM} {L : ML} {x1 : Int32} {x2 : Int32} (hM : CT_X3_addStroke l fr lo w) (S : CallFix p m c cc nL s args lw_all own) (hK : mK E s) (hW : mW E M L H) (hS : va_S A s.heap H locs) (hA : ∀ q, s.heap.size ≤ q → A q) (hAw : ∀ q, mAd E q → A q) (hlink : Cond.methodLink own index yX3_addStroke ∈ lw_all) (hRf : fr + 1 ≤ R.frames) (hRl : 8 + (3 + 11) + lo ≤ R.locals) (hcs : cells ≤ R.cells ∧ slots ≤ R.slots) (hz : ls.size = nL) (hr8 : (rest.map fun v => v.category).sum ≤ 8) (hdg : decode cc pc = .ok (.invokevirtual index, 3)) {Q1 : Int32 → MM → Prop} (h : w Q1 x1 x2 M) (kk : ∀ (r : Int32) (M1 : MM) (H1 : Heap) (locs1 : List Loc), Q1 r M1 → mW E M1 L H1 → va_S A s.heap H1 locs1 → (∀ q : Nat, q < H.size → ¬ mAd E q → H1[q]? = H[q]?) → W p l e R s m args below meth c H1 locs1 cells slots Z (F0 m (pc + 3) ls (.int r :: rest))) : W p l e R s m args below meth c H locs cells slots Z (F0 m pc ls (.int x2 :: .int x1 :: .ref (mh E) :: rest)) := by
  refine mw_i (sz := 0) (P := fun r M1 L1 => L1 = L ∧ Q1 r M1) (va_runV (As := [.int x1, .int x2]) (rest := rest) S (hM E M L H.size Q1 x1 x2) (cwV 2 S.2.2.2.2 (lw_V hlink q1931 q1932 q68 q1933) rfl rfl rfl (by decide +kernel) ⟨hRf, hRl⟩) ⟨fun a U g mk q => by obtain ⟨q0, q1, qW, qK, qw⟩ := q; exact ⟨q0, q1, qW, qK.moved (u := U) (U := U.calling g mk a) (Vm.Alike.refl U.vm), qw⟩, hW.recv (hK := hK), fun U hU hWm => ⟨rfl, by rw [hU], by rw [hU]; exact hW, hK.moved hWm.alike, h⟩⟩ rfl rfl hz rfl (lv_room hr8) hdg hcs) hS hA hAw (fun r M1 L1 H1 locs1 hp hW1 hz hk hS1 => ?_)
  obtain ⟨rfl, hp⟩ := hp
  exact kk r M1 H1 locs1 hp hW1 hS1 hk
def w_X3_addStroke (Q : Int32 → MM → Prop) (x1 : Int32) (x2 : Int32) (M : MM) : Prop := w_X3_isComposition (fun r1 => w_X3_isWithin (fun r2 => w_X3_hasRoom (fun r3 => w_X3_check (fun r4 M5 => if r4 = 0 then (Q (0 : Int32) M5) else (w_X3_add (fun r6 M7 => Q r6 M7) (1 : Int32) x1 (0 : Int32) (0 : Int32) x2 M5)) r1 r2 r3 M) M) x2 (1 : Int32) (9 : Int32)) x1 M
set_option maxRecDepth 100000 in
set_option maxHeartbeats 4000000 in
theorem wk_X3_addStroke {p : Program} {l : Launch} {e : Env} {R : Room} {s : State} {m : MethodId} {args : Array Value} {below : List Frame} {meth : Method} {c : Code} {cells slots : Nat} {Z : State → Prop} {A : Nat → Prop} {E : mE} (Q : Int32 → MM → Prop) (C : mC p m c s args cX3_addStroke 3 E) (hA : ∀ q, s.heap.size ≤ q → A q) (hAw : ∀ q, mAd E q → A q) (hRf : 2 ≤ R.frames) (hRl : 43 ≤ R.locals) (hcs : cells ≤ R.cells ∧ slots ≤ R.slots) (M : MM) (L : ML) (hret : ∀ (v : Int32) (M : MM) (pc : Nat) (ls : Array Slot) (H : Heap) (locs : List Loc), decode cX3_addStroke pc = .ok (.ireturn, 1) → va_S A s.heap H locs → mW E M L H → Q v M → W p l e R s m args below meth c H locs cells slots Z (F0 m pc ls [.int v])) (x1 : Int32) (x2 : Int32) : w_X3_addStroke Q x1 x2 M → ∀ (ls : Array Slot) (H : Heap) (locs : List Loc), lv_has ls 3 [(0, .ref (mh E)), (1, .int x1), (2, .int x2)] → mW E M L H → va_S A s.heap H locs → W p l e R s m args below meth c H locs cells slots Z (F0 m 0 ls []) := by
  obtain ⟨⟨hx, hb, hml, hown, hts⟩, hK⟩ := C; have C : mC p m c s args cX3_addStroke 3 E := ⟨⟨hx, hb, hml, hown, hts⟩, hK⟩
  intro h
  intro ls H locs hl hW hS
  refine lv_aload_n hx hb dX3_addStroke_0 rfl (lv_at hl 0 rfl) ?_
  refine lv_aload_n hx hb dX3_addStroke_1 rfl (lv_at hl 0 rfl) ?_
  refine lv_iload_n hx hb dX3_addStroke_2 rfl (lv_at hl 1 rfl) ?_
  refine call_X3_isComposition (ct_X3_isComposition l) C.1 C.2 hW hS hA q1918 (le_lit hRf rfl) (le_lit hRl rfl) hcs hl.1 (Nat.le_of_ble_eq_true rfl) dX3_addStroke_3 h (fun r1 H locs h hk hS => ?_)
  have hW := hW.kept hk
  refine lv_iload_n hx hb dX3_addStroke_6 rfl (lv_at hl 2 rfl) ?_
  refine lv_iconst (v := 1) hx hb dX3_addStroke_7 (by decide) ?_
  refine lv_bipush (v := 9) hx hb dX3_addStroke_8 (by decide) ?_
  refine call_X3_isWithin (ct_X3_isWithin l) C.1 hS hA q1915 (le_lit hRf rfl) (le_lit hRl rfl) hcs hl.1 (Nat.le_of_ble_eq_true rfl) dX3_addStroke_10 h (fun r2 H locs h hk hS => ?_)
  have hW := hW.kept hk
  refine lv_aload_n hx hb dX3_addStroke_13 rfl (lv_at hl 0 rfl) ?_
  refine call_X3_hasRoom (ct_X3_hasRoom l) C.1 C.2 hW hS hA q1922 (le_lit hRf rfl) (le_lit hRl rfl) hcs hl.1 (Nat.le_of_ble_eq_true rfl) dX3_addStroke_14 h (fun r3 H locs h hk hS => ?_)
  have hW := hW.kept hk
  refine call_X3_check (ct_X3_check l) C.1 C.2 hW hS hA hAw q1907 (le_lit hRf rfl) (le_lit hRl rfl) hcs hl.1 (Nat.le_of_ble_eq_true rfl) dX3_addStroke_17 h (fun r4 M5 H locs h hW hS _ => ?_)
  refine lv_if_eq (tgt := 35) hx hb dX3_addStroke_20 (by decide) (fun c8 => ?_) (fun c8 => ?_)
  · have h := wif_t h c8
    refine lv_iconst (v := 0) hx hb dX3_addStroke_35 (by decide) ?_
    exact hret _ _ _ _ _ _ dX3_addStroke_36 hS hW h
  · have h := wif_f h c8
    refine lv_aload_n hx hb dX3_addStroke_23 rfl (lv_at hl 0 rfl) ?_
    refine lv_iconst (v := 1) hx hb dX3_addStroke_24 (by decide) ?_
    refine lv_iload_n hx hb dX3_addStroke_25 rfl (lv_at hl 1 rfl) ?_
    refine lv_iconst (v := 0) hx hb dX3_addStroke_26 (by decide) ?_
    refine lv_iconst (v := 0) hx hb dX3_addStroke_27 (by decide) ?_
    refine lv_iload_n hx hb dX3_addStroke_28 rfl (lv_at hl 2 rfl) ?_
    refine call_X3_add (ct_X3_add l) C.1 C.2 hW hS hA hAw q1926 (le_lit hRf rfl) (le_lit hRl rfl) hcs hl.1 (Nat.le_of_ble_eq_true rfl) dX3_addStroke_29 h (fun r6 M7 H locs h hW hS _ => ?_)
    refine lv_goto (tgt := 36) hx hb dX3_addStroke_32 (by decide) ?_
    exact hret _ _ _ _ _ _ dX3_addStroke_36 hS hW h
theorem ct_X3_addStroke (l : Launch) : CT_X3_addStroke l 2 43 w_X3_addStroke := by
  intro E M L sz Q x1 x2
  refine Met.ofW (cc := cX3_addStroke) (maxL := 3) (ret := (some .int)) (by decide) rfl ?_
  intro p e s m args below meth c s₁ B hml hv
  obtain ⟨rfl, hsz, hW, hK, h⟩ := hv
  subst hsz
  have hts := atoms_spec (ws := ws_ yX3_addStroke cX3_addStroke 3 (some .int)) B.pre
  have hts : ∀ w ∈ lw_all, w.before _ s = true := fun w h => hts w (List.mem_cons_of_mem _ h)
  have hl := lv_entry ([.ref (mh E), .int x1, .int x2]) (n := 3) (Nat.le_of_ble_eq_true rfl)
  rw [lg_entry_eq]
  generalize (lg_sl ([.ref (mh E), .int x1, .int x2]) ++ List.replicate (3 - (lg_sl ([.ref (mh E), .int x1, .int x2])).length) Slot.unset).toArray = ls at hl ⊢
  exact wk_X3_addStroke Q ⟨⟨B.exec, B.bytes, hml, findClass_of_methodNamed B.named, hts⟩, hK⟩ (fun q h => Or.inr h) (fun q h => Or.inl h) (Nat.le_refl _) (Nat.le_refl _) ⟨Nat.le_refl _, Nat.le_refl _⟩ M L (fun v M pc ls H locs hd hS hW1 hQ => W.iret (v := v) B.exec B.bytes B.returns (fun t ht _ => ⟨⟨v, (M, L), rfl, ⟨rfl, hQ⟩, by rw [← ht] at hW1; exact hW1⟩, hS.F ht⟩) hS.2.2 hd) x1 x2 h ls _ [] hl hW va_S.rf
def CT_X3_isLayer (l : Launch) (fr lo : Nat) (w : (Int32 → Prop) → Int32 → MM → Prop) : Prop := ∀ (E : mE) (M : MM) (L : ML) (sz : Nat) (Q : Int32 → Prop) (x1 : Int32), Met l yX3_isLayer (ws_ yX3_isLayer cX3_isLayer 2 (some .boolean)) { frames := fr, cells := 0, slots := 0, locals := lo } (va_Pc [.ref (mh E), .int x1] (fun U => U.heap.size = sz ∧ mW E M L U.heap ∧ mK E U ∧ w Q x1 M)) (va_Qi (fun r (_ : Unit) => Q r) (fun _ _ => True) (mN sz)) 0 0 (mN sz)
theorem call_X3_isLayer {p : Program} {l : Launch} {e : Env} {R : Room} {s : State} {m : MethodId} {args : Array Value} {below : List Frame} {meth : Method} {c : Code} {H : Heap} {locs : List Loc} {cells slots : Nat} {Z : State → Prop} {A : Nat → Prop} {cc : ByteArray} {nL pc : Nat} {ls : Array Slot} {rest : List Value} {own : String} {index fr lo : Nat} {w : (Int32 → Prop) → Int32 → MM → Prop} {E : mE} {M : MM} {L : ML} {x1 : Int32} (hM : CT_X3_isLayer l fr lo w) (S : CallFix p m c cc nL s args lw_all own) (hK : mK E s) (hW : mW E M L H) (hS : va_S A s.heap H locs) (hA : ∀ q, s.heap.size ≤ q → A q) (hlink : Cond.methodLink own index yX3_isLayer ∈ lw_all) (hRf : fr + 1 ≤ R.frames) (hRl : 8 + (2 + 11) + lo ≤ R.locals) (hcs : cells ≤ R.cells ∧ slots ≤ R.slots) (hz : ls.size = nL) (hr8 : (rest.map fun v => v.category).sum ≤ 8) (hdg : decode cc pc = .ok (.invokevirtual index, 3)) {Q1 : Int32 → Prop} (h : w Q1 x1 M) (kk : ∀ (r : Int32) (H1 : Heap) (locs1 : List Loc), Q1 r → (∀ q : Nat, q < H.size → H1[q]? = H[q]?) → va_S A s.heap H1 locs1 → W p l e R s m args below meth c H1 locs1 cells slots Z (F0 m (pc + 3) ls (.int r :: rest))) : W p l e R s m args below meth c H locs cells slots Z (F0 m pc ls (.int x1 :: .ref (mh E) :: rest)) := by
  exact ro_i (va_runV (As := [.int x1]) (rest := rest) S (hM E M L H.size Q1 x1) (cwV 1 S.2.2.2.2 (lw_V hlink q1940 qs22 q68 q1941) rfl rfl rfl (by decide +kernel) ⟨hRf, hRl⟩) ⟨fun a U g mk q => by obtain ⟨q0, q1, qW, qK, qw⟩ := q; exact ⟨q0, q1, qW, qK.moved (u := U) (U := U.calling g mk a) (Vm.Alike.refl U.vm), qw⟩, hW.recv (hK := hK), fun U hU hWm => ⟨rfl, by rw [hU], by rw [hU]; exact hW, hK.moved hWm.alike, h⟩⟩ rfl rfl hz rfl (lv_room hr8) hdg hcs) hS hA (fun r H1 locs1 hp hz hk hS1 => kk r H1 locs1 hp hk hS1)
def w_X3_isLayer (Q : Int32 → Prop) (x1 : Int32) (M : MM) : Prop := w_X3_isWithin (fun r1 => if r1 = 0 then (Q (0 : Int32)) else (mRd (M 14) 12 x1 (fun v2 => if v2 = 0 then (Q (0 : Int32)) else (Q (1 : Int32))))) x1 (0 : Int32) ((M 15 0) - (1 : Int32))
set_option maxRecDepth 100000 in
set_option maxHeartbeats 4000000 in
theorem wk_X3_isLayer {p : Program} {l : Launch} {e : Env} {R : Room} {s : State} {m : MethodId} {args : Array Value} {below : List Frame} {meth : Method} {c : Code} {cells slots : Nat} {Z : State → Prop} {A : Nat → Prop} {E : mE} (Q : Int32 → Prop) (C : mC p m c s args cX3_isLayer 2 E) (hA : ∀ q, s.heap.size ≤ q → A q) (hRf : 1 ≤ R.frames) (hRl : 22 ≤ R.locals) (hcs : cells ≤ R.cells ∧ slots ≤ R.slots) (M : MM) (L : ML) (hret : ∀ (v : Int32) (pc : Nat) (ls : Array Slot) (H : Heap) (locs : List Loc), decode cX3_isLayer pc = .ok (.ireturn, 1) → va_S A s.heap H locs → isZ v → Q v → W p l e R s m args below meth c H locs cells slots Z (F0 m pc ls [.int v])) (x1 : Int32) : w_X3_isLayer Q x1 M → ∀ (ls : Array Slot) (H : Heap) (locs : List Loc), lv_has ls 2 [(0, .ref (mh E)), (1, .int x1)] → mW E M L H → va_S A s.heap H locs → W p l e R s m args below meth c H locs cells slots Z (F0 m 0 ls []) := by
  obtain ⟨⟨hx, hb, hml, hown, hts⟩, hK⟩ := C; have C : mC p m c s args cX3_isLayer 2 E := ⟨⟨hx, hb, hml, hown, hts⟩, hK⟩
  intro h
  intro ls H locs hl hW hS
  refine lv_iload_n hx hb dX3_isLayer_0 rfl (lv_at hl 1 rfl) ?_
  refine lv_iconst (v := 0) hx hb dX3_isLayer_1 (by decide) ?_
  refine lv_aload_n hx hb dX3_isLayer_2 rfl (lv_at hl 0 rfl) ?_
  refine mr_getI C hW 15 rfl rfl q1818 dX3_isLayer_3 ?_
  refine lv_iconst (v := 1) hx hb dX3_isLayer_6 (by decide) ?_
  refine lv_isub hx hb dX3_isLayer_7 ?_
  refine call_X3_isWithin (ct_X3_isWithin l) C.1 hS hA q1915 (le_lit hRf rfl) (le_lit hRl rfl) hcs hl.1 (Nat.le_of_ble_eq_true rfl) dX3_isLayer_8 h (fun r1 H locs h hk hS => ?_)
  have hW := hW.kept hk
  refine lv_if_eq (tgt := 27) hx hb dX3_isLayer_11 (by decide) (fun c4 => ?_) (fun c4 => ?_)
  · have h := wif_t h c4
    refine lv_iconst (v := 0) hx hb dX3_isLayer_27 (by decide) ?_
    exact hret _ _ _ _ _ dX3_isLayer_28 hS isZ_0 h
  · have h := wif_f h c4
    refine lv_aload_n hx hb dX3_isLayer_14 rfl (lv_at hl 0 rfl) ?_
    refine mr_getA C hW 14 rfl rfl q1817 dX3_isLayer_15 ?_
    refine lv_iload_n hx hb dX3_isLayer_18 rfl (lv_at hl 1 rfl) ?_
    refine mr_zald C hW 14 rfl rfl rfl h dX3_isLayer_19 (fun v2 h => ?_)
    refine lv_if_eq (tgt := 27) hx hb dX3_isLayer_20 (by decide) (fun c3 => ?_) (fun c3 => ?_)
    · have h := wif_t h c3
      refine lv_iconst (v := 0) hx hb dX3_isLayer_27 (by decide) ?_
      exact hret _ _ _ _ _ dX3_isLayer_28 hS isZ_0 h
    · have h := wif_f h c3
      refine lv_iconst (v := 1) hx hb dX3_isLayer_23 (by decide) ?_
      refine lv_goto (tgt := 28) hx hb dX3_isLayer_24 (by decide) ?_
      exact hret _ _ _ _ _ dX3_isLayer_28 hS isZ_1 h
theorem ct_X3_isLayer (l : Launch) : CT_X3_isLayer l 1 22 w_X3_isLayer := by
  intro E M L sz Q x1
  refine Met.ofW (cc := cX3_isLayer) (maxL := 2) (ret := (some .boolean)) (by decide) rfl ?_
  intro p e s m args below meth c s₁ B hml hv
  obtain ⟨rfl, hsz, hW, hK, h⟩ := hv
  subst hsz
  have hts := atoms_spec (ws := ws_ yX3_isLayer cX3_isLayer 2 (some .boolean)) B.pre
  have hts : ∀ w ∈ lw_all, w.before _ s = true := fun w h => hts w (List.mem_cons_of_mem _ h)
  have hl := lv_entry ([.ref (mh E), .int x1]) (n := 2) (Nat.le_of_ble_eq_true rfl)
  rw [lg_entry_eq]
  generalize (lg_sl ([.ref (mh E), .int x1]) ++ List.replicate (2 - (lg_sl ([.ref (mh E), .int x1])).length) Slot.unset).toArray = ls at hl ⊢
  exact wk_X3_isLayer Q ⟨⟨B.exec, B.bytes, hml, findClass_of_methodNamed B.named, hts⟩, hK⟩ (fun q h => h) (Nat.le_refl _) (Nat.le_refl _) ⟨Nat.le_refl _, Nat.le_refl _⟩ M L (fun v pc ls H locs hd hS hz hQ => W.zret (v := v) B.exec B.bytes B.returns hz.nar (fun t ht _ => ⟨⟨v, (), rfl, hQ, trivial⟩, hS.F ht⟩) hS.2.2 hd) x1 h ls _ [] hl hW va_S.rf
def CT_X3_canAdd (l : Launch) (fr lo : Nat) (w : (Int32 → Prop) → Int32 → Int32 → Int32 → MM → Prop) : Prop := ∀ (E : mE) (M : MM) (L : ML) (sz : Nat) (Q : Int32 → Prop) (x1 : Int32) (x2 : Int32) (x3 : Int32), Met l yX3_canAdd (ws_ yX3_canAdd cX3_canAdd 5 (some .boolean)) { frames := fr, cells := 0, slots := 0, locals := lo } (va_Pc [.ref (mh E), .int x1, .int x2, .int x3] (fun U => U.heap.size = sz ∧ mW E M L U.heap ∧ mK E U ∧ w Q x1 x2 x3 M)) (va_Qi (fun r (_ : Unit) => Q r) (fun _ _ => True) (mN sz)) 0 0 (mN sz)
theorem call_X3_canAdd {p : Program} {l : Launch} {e : Env} {R : Room} {s : State} {m : MethodId} {args : Array Value} {below : List Frame} {meth : Method} {c : Code} {H : Heap} {locs : List Loc} {cells slots : Nat} {Z : State → Prop} {A : Nat → Prop} {cc : ByteArray} {nL pc : Nat} {ls : Array Slot} {rest : List Value} {own : String} {index fr lo : Nat} {w : (Int32 → Prop) → Int32 → Int32 → Int32 → MM → Prop} {E : mE} {M : MM} {L : ML} {x1 : Int32} {x2 : Int32} {x3 : Int32} (hM : CT_X3_canAdd l fr lo w) (S : CallFix p m c cc nL s args lw_all own) (hK : mK E s) (hW : mW E M L H) (hS : va_S A s.heap H locs) (hA : ∀ q, s.heap.size ≤ q → A q) (hlink : Cond.methodLink own index yX3_canAdd ∈ lw_all) (hRf : fr + 1 ≤ R.frames) (hRl : 8 + (5 + 11) + lo ≤ R.locals) (hcs : cells ≤ R.cells ∧ slots ≤ R.slots) (hz : ls.size = nL) (hr8 : (rest.map fun v => v.category).sum ≤ 8) (hdg : decode cc pc = .ok (.invokevirtual index, 3)) {Q1 : Int32 → Prop} (h : w Q1 x1 x2 x3 M) (kk : ∀ (r : Int32) (H1 : Heap) (locs1 : List Loc), Q1 r → (∀ q : Nat, q < H.size → H1[q]? = H[q]?) → va_S A s.heap H1 locs1 → W p l e R s m args below meth c H1 locs1 cells slots Z (F0 m (pc + 3) ls (.int r :: rest))) : W p l e R s m args below meth c H locs cells slots Z (F0 m pc ls (.int x3 :: .int x2 :: .int x1 :: .ref (mh E) :: rest)) := by
  exact ro_i (va_runV (As := [.int x1, .int x2, .int x3]) (rest := rest) S (hM E M L H.size Q1 x1 x2 x3) (cwV 3 S.2.2.2.2 (lw_V hlink q1944 qs23 q68 q1945) rfl rfl rfl (by decide +kernel) ⟨hRf, hRl⟩) ⟨fun a U g mk q => by obtain ⟨q0, q1, qW, qK, qw⟩ := q; exact ⟨q0, q1, qW, qK.moved (u := U) (U := U.calling g mk a) (Vm.Alike.refl U.vm), qw⟩, hW.recv (hK := hK), fun U hU hWm => ⟨rfl, by rw [hU], by rw [hU]; exact hW, hK.moved hWm.alike, h⟩⟩ rfl rfl hz rfl (lv_room hr8) hdg hcs) hS hA (fun r H1 locs1 hp hz hk hS1 => kk r H1 locs1 hp hk hS1)
def w_X3_canAdd_79 (Q : Int32 → Prop) (y0 : Int32) (y1 : Int32) (M : MM) : Prop := if y1 = y0 then (Q (0 : Int32)) else (Q (1 : Int32))
def w_X3_canAdd_63 (Q : Int32 → Prop) (x3 : Int32) (x4 : Int32) (y0 : Int32) (M : MM) : Prop := mRd (M 17) 72 x4 (fun v2 => if v2 = x3 then (w_X3_canAdd_79 Q (1 : Int32) y0 M) else (w_X3_canAdd_79 Q (0 : Int32) y0 M))
def w_X3_canAdd (Q : Int32 → Prop) (x1 : Int32) (x2 : Int32) (x3 : Int32) (M : MM) : Prop := mRd (M 4) 12 x1 (fun v4 => if v4 = (1 : Int32) then (mRd (M 18) 12 x1 (fun v5 => if v5 = (6 : Int32) then (Q (0 : Int32)) else (mRd (M 18) 12 x1 (fun v6 => mRd (M 18) 12 x1 (fun v7 => if v7 = 0 then (Q (1 : Int32)) else (mRd (M 16) 72 ((((6 : Int32) * x1) + v6) - (1 : Int32)) (fun v8 => if v8 = x2 then (w_X3_canAdd_63 Q x3 ((((6 : Int32) * x1) + v6) - (1 : Int32)) (1 : Int32) M) else (w_X3_canAdd_63 Q x3 ((((6 : Int32) * x1) + v6) - (1 : Int32)) (0 : Int32) M)))))))) else (Q (0 : Int32)))
set_option maxRecDepth 100000 in
set_option maxHeartbeats 4000000 in
theorem wk_X3_canAdd {p : Program} {l : Launch} {e : Env} {R : Room} {s : State} {m : MethodId} {args : Array Value} {below : List Frame} {meth : Method} {c : Code} {cells slots : Nat} {Z : State → Prop} {A : Nat → Prop} {E : mE} (Q : Int32 → Prop) (C : mC p m c s args cX3_canAdd 5 E) (hA : ∀ q, s.heap.size ≤ q → A q) (hRf : 0 ≤ R.frames) (hRl : 0 ≤ R.locals) (hcs : cells ≤ R.cells ∧ slots ≤ R.slots) (M : MM) (L : ML) (hret : ∀ (v : Int32) (pc : Nat) (ls : Array Slot) (H : Heap) (locs : List Loc), decode cX3_canAdd pc = .ok (.ireturn, 1) → va_S A s.heap H locs → isZ v → Q v → W p l e R s m args below meth c H locs cells slots Z (F0 m pc ls [.int v])) (x1 : Int32) (x2 : Int32) (x3 : Int32) : w_X3_canAdd Q x1 x2 x3 M → ∀ (ls : Array Slot) (H : Heap) (locs : List Loc), lv_has ls 5 [(0, .ref (mh E)), (1, .int x1), (2, .int x2), (3, .int x3)] → mW E M L H → va_S A s.heap H locs → W p l e R s m args below meth c H locs cells slots Z (F0 m 0 ls []) := by
  obtain ⟨⟨hx, hb, hml, hown, hts⟩, hK⟩ := C; have C : mC p m c s args cX3_canAdd 5 E := ⟨⟨hx, hb, hml, hown, hts⟩, hK⟩
  have hb79 : ∀ (y0 : Int32) (y1 : Int32), w_X3_canAdd_79 Q y0 y1 M → ∀ (ls : Array Slot) (H : Heap) (locs : List Loc), lv_has ls 5 [] → mW E M L H → va_S A s.heap H locs → W p l e R s m args below meth c H locs cells slots Z (F0 m 79 ls [.int y0, .int y1]) := by
    intro y0 y1 h
    intro ls H locs hl hW hS
    refine lv_icmp_eq (tgt := 86) hx hb dX3_canAdd_79 (by decide) (fun c1 => ?_) (fun c1 => ?_)
    · have h := wif_t h c1
      refine lv_iconst (v := 0) hx hb dX3_canAdd_86 (by decide) ?_
      exact hret _ _ _ _ _ dX3_canAdd_87 hS isZ_0 h
    · have h := wif_f h c1
      refine lv_iconst (v := 1) hx hb dX3_canAdd_82 (by decide) ?_
      refine lv_goto (tgt := 87) hx hb dX3_canAdd_83 (by decide) ?_
      exact hret _ _ _ _ _ dX3_canAdd_87 hS isZ_1 h
  have hb63 : ∀ (x4 : Int32) (y0 : Int32), w_X3_canAdd_63 Q x3 x4 y0 M → ∀ (ls : Array Slot) (H : Heap) (locs : List Loc), lv_has ls 5 [(0, .ref (mh E)), (3, .int x3), (4, .int x4)] → mW E M L H → va_S A s.heap H locs → W p l e R s m args below meth c H locs cells slots Z (F0 m 63 ls [.int y0]) := by
    intro x4 y0 h
    intro ls H locs hl hW hS
    refine lv_aload_n hx hb dX3_canAdd_63 rfl (lv_at hl 0 rfl) ?_
    refine mr_getA C hW 17 rfl rfl q1820 dX3_canAdd_64 ?_
    refine lv_iload hx hb dX3_canAdd_67 (lv_at hl 2 rfl) ?_
    refine mr_iald C hW 17 rfl rfl rfl h dX3_canAdd_69 (fun v2 h => ?_)
    refine lv_iload_n hx hb dX3_canAdd_70 rfl (lv_at hl 1 rfl) ?_
    refine lv_icmp_ne (tgt := 78) hx hb dX3_canAdd_71 (by decide) (fun c3 => ?_) (fun c3 => ?_)
    · have h := wif_f h c3
      refine lv_iconst (v := 0) hx hb dX3_canAdd_78 (by decide) ?_
      exact hb79 _ _ h ls H locs (lv_sub hl [] rfl) hW hS
    · have h := wif_t h c3
      refine lv_iconst (v := 1) hx hb dX3_canAdd_74 (by decide) ?_
      refine lv_goto (tgt := 79) hx hb dX3_canAdd_75 (by decide) ?_
      exact hb79 _ _ h ls H locs (lv_sub hl [] rfl) hW hS
  intro h
  intro ls H locs hl hW hS
  refine lv_aload_n hx hb dX3_canAdd_0 rfl (lv_at hl 0 rfl) ?_
  refine mr_getA C hW 4 rfl rfl q1807 dX3_canAdd_1 ?_
  refine lv_iload_n hx hb dX3_canAdd_4 rfl (lv_at hl 1 rfl) ?_
  refine mr_iald C hW 4 rfl rfl rfl h dX3_canAdd_5 (fun v4 h => ?_)
  refine lv_iconst (v := 1) hx hb dX3_canAdd_6 (by decide) ?_
  refine lv_icmp_ne (tgt := 21) hx hb dX3_canAdd_7 (by decide) (fun c12 => ?_) (fun c12 => ?_)
  · have h := wif_f h c12
    refine lv_iconst (v := 0) hx hb dX3_canAdd_21 (by decide) ?_
    exact hret _ _ _ _ _ dX3_canAdd_22 hS isZ_0 h
  · have h := wif_t h c12
    refine lv_aload_n hx hb dX3_canAdd_10 rfl (lv_at hl 0 rfl) ?_
    refine mr_getA C hW 18 rfl rfl q1821 dX3_canAdd_11 ?_
    refine lv_iload_n hx hb dX3_canAdd_14 rfl (lv_at hl 1 rfl) ?_
    refine mr_iald C hW 18 rfl rfl rfl h dX3_canAdd_15 (fun v5 h => ?_)
    refine lv_bipush (v := 6) hx hb dX3_canAdd_16 (by decide) ?_
    refine lv_icmp_ne (tgt := 23) hx hb dX3_canAdd_18 (by decide) (fun c11 => ?_) (fun c11 => ?_)
    · have h := wif_f h c11
      refine lv_bipush (v := 6) hx hb dX3_canAdd_23 (by decide) ?_
      refine lv_iload_n hx hb dX3_canAdd_25 rfl (lv_at hl 1 rfl) ?_
      refine lv_imul hx hb dX3_canAdd_26 ?_
      refine lv_aload_n hx hb dX3_canAdd_27 rfl (lv_at hl 0 rfl) ?_
      refine mr_getA C hW 18 rfl rfl q1821 dX3_canAdd_28 ?_
      refine lv_iload_n hx hb dX3_canAdd_31 rfl (lv_at hl 1 rfl) ?_
      refine mr_iald C hW 18 rfl rfl rfl h dX3_canAdd_32 (fun v6 h => ?_)
      refine lv_iadd hx hb dX3_canAdd_33 ?_
      refine lv_iconst (v := 1) hx hb dX3_canAdd_34 (by decide) ?_
      refine lv_isub hx hb dX3_canAdd_35 ?_
      refine lv_istore (lv' := [(4, .int ((((6 : Int32) * x1) + v6) - (1 : Int32))), (0, .ref (mh E)), (1, .int x1), (2, .int x2), (3, .int x3)]) hx hb dX3_canAdd_36 hl (by decide) rfl (fun ls hl => ?_)
      refine lv_aload_n hx hb dX3_canAdd_38 rfl (lv_at hl 1 rfl) ?_
      refine mr_getA C hW 18 rfl rfl q1821 dX3_canAdd_39 ?_
      refine lv_iload_n hx hb dX3_canAdd_42 rfl (lv_at hl 2 rfl) ?_
      refine mr_iald C hW 18 rfl rfl rfl h dX3_canAdd_43 (fun v7 h => ?_)
      refine lv_if_eq (tgt := 82) hx hb dX3_canAdd_44 (by decide) (fun c10 => ?_) (fun c10 => ?_)
      · have h := wif_t h c10
        refine lv_iconst (v := 1) hx hb dX3_canAdd_82 (by decide) ?_
        refine lv_goto (tgt := 87) hx hb dX3_canAdd_83 (by decide) ?_
        exact hret _ _ _ _ _ dX3_canAdd_87 hS isZ_1 h
      · have h := wif_f h c10
        refine lv_aload_n hx hb dX3_canAdd_47 rfl (lv_at hl 1 rfl) ?_
        refine mr_getA C hW 16 rfl rfl q1819 dX3_canAdd_48 ?_
        refine lv_iload hx hb dX3_canAdd_51 (lv_at hl 0 rfl) ?_
        refine mr_iald C hW 16 rfl rfl rfl h dX3_canAdd_53 (fun v8 h => ?_)
        refine lv_iload_n hx hb dX3_canAdd_54 rfl (lv_at hl 3 rfl) ?_
        refine lv_icmp_ne (tgt := 62) hx hb dX3_canAdd_55 (by decide) (fun c9 => ?_) (fun c9 => ?_)
        · have h := wif_f h c9
          refine lv_iconst (v := 0) hx hb dX3_canAdd_62 (by decide) ?_
          exact hb63 _ _ h ls H locs (lv_sub hl [1, 4, 0] rfl) hW hS
        · have h := wif_t h c9
          refine lv_iconst (v := 1) hx hb dX3_canAdd_58 (by decide) ?_
          refine lv_goto (tgt := 63) hx hb dX3_canAdd_59 (by decide) ?_
          exact hb63 _ _ h ls H locs (lv_sub hl [1, 4, 0] rfl) hW hS
    · have h := wif_t h c11
      refine lv_iconst (v := 0) hx hb dX3_canAdd_21 (by decide) ?_
      exact hret _ _ _ _ _ dX3_canAdd_22 hS isZ_0 h
theorem ct_X3_canAdd (l : Launch) : CT_X3_canAdd l 0 0 w_X3_canAdd := by
  intro E M L sz Q x1 x2 x3
  refine Met.ofW (cc := cX3_canAdd) (maxL := 5) (ret := (some .boolean)) (by decide) rfl ?_
  intro p e s m args below meth c s₁ B hml hv
  obtain ⟨rfl, hsz, hW, hK, h⟩ := hv
  subst hsz
  have hts := atoms_spec (ws := ws_ yX3_canAdd cX3_canAdd 5 (some .boolean)) B.pre
  have hts : ∀ w ∈ lw_all, w.before _ s = true := fun w h => hts w (List.mem_cons_of_mem _ h)
  have hl := lv_entry ([.ref (mh E), .int x1, .int x2, .int x3]) (n := 5) (Nat.le_of_ble_eq_true rfl)
  rw [lg_entry_eq]
  generalize (lg_sl ([.ref (mh E), .int x1, .int x2, .int x3]) ++ List.replicate (5 - (lg_sl ([.ref (mh E), .int x1, .int x2, .int x3])).length) Slot.unset).toArray = ls at hl ⊢
  exact wk_X3_canAdd Q ⟨⟨B.exec, B.bytes, hml, findClass_of_methodNamed B.named, hts⟩, hK⟩ (fun q h => h) (Nat.le_refl _) (Nat.le_refl _) ⟨Nat.le_refl _, Nat.le_refl _⟩ M L (fun v pc ls H locs hd hS hz hQ => W.zret (v := v) B.exec B.bytes B.returns hz.nar (fun t ht _ => ⟨⟨v, (), rfl, hQ, trivial⟩, hS.F ht⟩) hS.2.2 hd) x1 x2 x3 h ls _ [] hl hW va_S.rf
def CT_X3_addPoint (l : Launch) (fr lo : Nat) (w : (Int32 → MM → Prop) → Int32 → Int32 → Int32 → MM → Prop) : Prop := ∀ (E : mE) (M : MM) (L : ML) (sz : Nat) (Q : Int32 → MM → Prop) (x1 : Int32) (x2 : Int32) (x3 : Int32), Met l yX3_addPoint (ws_ yX3_addPoint cX3_addPoint 6 (some .int)) { frames := fr, cells := 0, slots := 0, locals := lo } (va_Pc [.ref (mh E), .int x1, .int x2, .int x3] (fun U => U.heap.size = sz ∧ mW E M L U.heap ∧ mK E U ∧ w Q x1 x2 x3 M)) (va_Qi (fun r (u : MM × ML) => u.2 = L ∧ Q r u.1) (fun u t => mW E u.1 u.2 t.heap) (mA E sz)) 0 0 (mA E sz)
theorem call_X3_addPoint {p : Program} {l : Launch} {e : Env} {R : Room} {s : State} {m : MethodId} {args : Array Value} {below : List Frame} {meth : Method} {c : Code} {H : Heap} {locs : List Loc} {cells slots : Nat} {Z : State → Prop} {A : Nat → Prop} {cc : ByteArray} {nL pc : Nat} {ls : Array Slot} {rest : List Value} {own : String} {index fr lo : Nat} {w : (Int32 → MM → Prop) → Int32 → Int32 → Int32 → MM → Prop} {E : mE} {M : MM} {L : ML} {x1 : Int32} {x2 : Int32} {x3 : Int32} (hM : CT_X3_addPoint l fr lo w) (S : CallFix p m c cc nL s args lw_all own) (hK : mK E s) (hW : mW E M L H) (hS : va_S A s.heap H locs) (hA : ∀ q, s.heap.size ≤ q → A q) (hAw : ∀ q, mAd E q → A q) (hlink : Cond.methodLink own index yX3_addPoint ∈ lw_all) (hRf : fr + 1 ≤ R.frames) (hRl : 8 + (6 + 11) + lo ≤ R.locals) (hcs : cells ≤ R.cells ∧ slots ≤ R.slots) (hz : ls.size = nL) (hr8 : (rest.map fun v => v.category).sum ≤ 8) (hdg : decode cc pc = .ok (.invokevirtual index, 3)) {Q1 : Int32 → MM → Prop} (h : w Q1 x1 x2 x3 M) (kk : ∀ (r : Int32) (M1 : MM) (H1 : Heap) (locs1 : List Loc), Q1 r M1 → mW E M1 L H1 → va_S A s.heap H1 locs1 → (∀ q : Nat, q < H.size → ¬ mAd E q → H1[q]? = H[q]?) → W p l e R s m args below meth c H1 locs1 cells slots Z (F0 m (pc + 3) ls (.int r :: rest))) : W p l e R s m args below meth c H locs cells slots Z (F0 m pc ls (.int x3 :: .int x2 :: .int x1 :: .ref (mh E) :: rest)) := by
  refine mw_i (sz := 0) (P := fun r M1 L1 => L1 = L ∧ Q1 r M1) (va_runV (As := [.int x1, .int x2, .int x3]) (rest := rest) S (hM E M L H.size Q1 x1 x2 x3) (cwV 3 S.2.2.2.2 (lw_V hlink q1935 q1936 q68 q1937) rfl rfl rfl (by decide +kernel) ⟨hRf, hRl⟩) ⟨fun a U g mk q => by obtain ⟨q0, q1, qW, qK, qw⟩ := q; exact ⟨q0, q1, qW, qK.moved (u := U) (U := U.calling g mk a) (Vm.Alike.refl U.vm), qw⟩, hW.recv (hK := hK), fun U hU hWm => ⟨rfl, by rw [hU], by rw [hU]; exact hW, hK.moved hWm.alike, h⟩⟩ rfl rfl hz rfl (lv_room hr8) hdg hcs) hS hA hAw (fun r M1 L1 H1 locs1 hp hW1 hz hk hS1 => ?_)
  obtain ⟨rfl, hp⟩ := hp
  exact kk r M1 H1 locs1 hp hW1 hS1 hk
def w_X3_addPoint_57 (Q : Int32 → MM → Prop) (x1 : Int32) (x2 : Int32) (x3 : Int32) (y0 : Int32) (y1 : Int32) (y2 : Int32) (M : MM) : Prop := w_X3_check (fun r1 M2 => if r1 = 0 then (Q (0 : Int32) M2) else (mRd (M2 18) 12 x1 (fun v3 => mWr M2 16 72 (((6 : Int32) * x1) + v3) x2 (fun M4 => mWr M4 17 72 (((6 : Int32) * x1) + v3) x3 (fun M5 => mRd (M5 18) 12 x1 (fun v6 => mWr M5 18 12 x1 (v6 + (1 : Int32)) (fun M7 => mRd (M7 18) 12 x1 (fun v8 => Q v8 M7)))))))) y2 y1 y0 M
def w_X3_addPoint_56 (Q : Int32 → MM → Prop) (x1 : Int32) (x2 : Int32) (x3 : Int32) (y0 : Int32) (y1 : Int32) (M : MM) : Prop := w_X3_addPoint_57 Q x1 x2 x3 (0 : Int32) y0 y1 M
def w_X3_addPoint_37 (Q : Int32 → MM → Prop) (x1 : Int32) (x2 : Int32) (x3 : Int32) (x4 : Int32) (y0 : Int32) (y1 : Int32) (M : MM) : Prop := if x4 = 0 then (w_X3_addPoint_56 Q x1 x2 x3 y0 y1 M) else (w_X3_canAdd (fun r10 => if r10 = 0 then (w_X3_addPoint_56 Q x1 x2 x3 y0 y1 M) else (w_X3_addPoint_57 Q x1 x2 x3 (1 : Int32) y0 y1 M)) x1 x2 x3 M)
def w_X3_addPoint_36 (Q : Int32 → MM → Prop) (x1 : Int32) (x2 : Int32) (x3 : Int32) (x4 : Int32) (y0 : Int32) (M : MM) : Prop := w_X3_addPoint_37 Q x1 x2 x3 x4 (0 : Int32) y0 M
def w_X3_addPoint (Q : Int32 → MM → Prop) (x1 : Int32) (x2 : Int32) (x3 : Int32) (M : MM) : Prop := w_X3_isLayer (fun r13 => w_X3_isWithin (fun r14 => if r14 = 0 then (w_X3_addPoint_36 Q x1 x2 x3 r13 r13 M) else (w_X3_isWithin (fun r15 => if r15 = 0 then (w_X3_addPoint_36 Q x1 x2 x3 r13 r13 M) else (w_X3_addPoint_37 Q x1 x2 x3 r13 (1 : Int32) r13 M)) x3 (-20 : Int32) (40 : Int32))) x2 (-20 : Int32) (40 : Int32)) x1 M
set_option maxRecDepth 100000 in
set_option maxHeartbeats 4000000 in
theorem wk_X3_addPoint {p : Program} {l : Launch} {e : Env} {R : Room} {s : State} {m : MethodId} {args : Array Value} {below : List Frame} {meth : Method} {c : Code} {cells slots : Nat} {Z : State → Prop} {A : Nat → Prop} {E : mE} (Q : Int32 → MM → Prop) (C : mC p m c s args cX3_addPoint 6 E) (hA : ∀ q, s.heap.size ≤ q → A q) (hAw : ∀ q, mAd E q → A q) (hRf : 2 ≤ R.frames) (hRl : 43 ≤ R.locals) (hcs : cells ≤ R.cells ∧ slots ≤ R.slots) (M : MM) (L : ML) (hret : ∀ (v : Int32) (M : MM) (pc : Nat) (ls : Array Slot) (H : Heap) (locs : List Loc), decode cX3_addPoint pc = .ok (.ireturn, 1) → va_S A s.heap H locs → mW E M L H → Q v M → W p l e R s m args below meth c H locs cells slots Z (F0 m pc ls [.int v])) (x1 : Int32) (x2 : Int32) (x3 : Int32) : w_X3_addPoint Q x1 x2 x3 M → ∀ (ls : Array Slot) (H : Heap) (locs : List Loc), lv_has ls 6 [(0, .ref (mh E)), (1, .int x1), (2, .int x2), (3, .int x3)] → mW E M L H → va_S A s.heap H locs → W p l e R s m args below meth c H locs cells slots Z (F0 m 0 ls []) := by
  obtain ⟨⟨hx, hb, hml, hown, hts⟩, hK⟩ := C; have C : mC p m c s args cX3_addPoint 6 E := ⟨⟨hx, hb, hml, hown, hts⟩, hK⟩
  have hb57 : ∀ (y0 : Int32) (y1 : Int32) (y2 : Int32) (M : MM), w_X3_addPoint_57 Q x1 x2 x3 y0 y1 y2 M → ∀ (ls : Array Slot) (H : Heap) (locs : List Loc), lv_has ls 6 [(0, .ref (mh E)), (1, .int x1), (2, .int x2), (3, .int x3)] → mW E M L H → va_S A s.heap H locs → W p l e R s m args below meth c H locs cells slots Z (F0 m 57 ls [.int y0, .int y1, .int y2, .ref (mh E)]) := by
    intro y0 y1 y2 M h
    intro ls H locs hl hW hS
    refine call_X3_check (ct_X3_check l) C.1 C.2 hW hS hA hAw q1907 (le_lit hRf rfl) (le_lit hRl rfl) hcs hl.1 (Nat.le_of_ble_eq_true rfl) dX3_addPoint_57 h (fun r1 M2 H locs h hW hS _ => ?_)
    refine lv_if_ne (tgt := 65) hx hb dX3_addPoint_60 (by decide) (fun c9 => ?_) (fun c9 => ?_)
    · have h := wif_f h c9
      refine lv_bipush (v := 6) hx hb dX3_addPoint_65 (by decide) ?_
      refine lv_iload_n hx hb dX3_addPoint_67 rfl (lv_at hl 1 rfl) ?_
      refine lv_imul hx hb dX3_addPoint_68 ?_
      refine lv_aload_n hx hb dX3_addPoint_69 rfl (lv_at hl 0 rfl) ?_
      refine mr_getA C hW 18 rfl rfl q1821 dX3_addPoint_70 ?_
      refine lv_iload_n hx hb dX3_addPoint_73 rfl (lv_at hl 1 rfl) ?_
      refine mr_iald C hW 18 rfl rfl rfl h dX3_addPoint_74 (fun v3 h => ?_)
      refine lv_iadd hx hb dX3_addPoint_75 ?_
      refine lv_istore (lv' := [(5, .int (((6 : Int32) * x1) + v3)), (0, .ref (mh E)), (1, .int x1), (2, .int x2), (3, .int x3)]) hx hb dX3_addPoint_76 hl (by decide) rfl (fun ls hl => ?_)
      refine lv_aload_n hx hb dX3_addPoint_78 rfl (lv_at hl 1 rfl) ?_
      refine mr_getA C hW 16 rfl rfl q1819 dX3_addPoint_79 ?_
      refine lv_iload hx hb dX3_addPoint_82 (lv_at hl 0 rfl) ?_
      refine lv_iload_n hx hb dX3_addPoint_84 rfl (lv_at hl 3 rfl) ?_
      refine mr_iast C hW hS hAw 16 rfl rfl rfl h dX3_addPoint_85 (fun M4 H locs hW hS h => ?_)
      refine lv_aload_n hx hb dX3_addPoint_86 rfl (lv_at hl 1 rfl) ?_
      refine mr_getA C hW 17 rfl rfl q1820 dX3_addPoint_87 ?_
      refine lv_iload hx hb dX3_addPoint_90 (lv_at hl 0 rfl) ?_
      refine lv_iload_n hx hb dX3_addPoint_92 rfl (lv_at hl 4 rfl) ?_
      refine mr_iast C hW hS hAw 17 rfl rfl rfl h dX3_addPoint_93 (fun M5 H locs hW hS h => ?_)
      refine lv_aload_n hx hb dX3_addPoint_94 rfl (lv_at hl 1 rfl) ?_
      refine mr_getA C hW 18 rfl rfl q1821 dX3_addPoint_95 ?_
      refine lv_iload_n hx hb dX3_addPoint_98 rfl (lv_at hl 2 rfl) ?_
      refine lv_dup2_11 hx hb dX3_addPoint_99 rfl rfl ?_
      refine mr_iald C hW 18 rfl rfl rfl h dX3_addPoint_100 (fun v6 h => ?_)
      refine lv_iconst (v := 1) hx hb dX3_addPoint_101 (by decide) ?_
      refine lv_iadd hx hb dX3_addPoint_102 ?_
      refine mr_iast C hW hS hAw 18 rfl rfl rfl h dX3_addPoint_103 (fun M7 H locs hW hS h => ?_)
      refine lv_aload_n hx hb dX3_addPoint_104 rfl (lv_at hl 1 rfl) ?_
      refine mr_getA C hW 18 rfl rfl q1821 dX3_addPoint_105 ?_
      refine lv_iload_n hx hb dX3_addPoint_108 rfl (lv_at hl 2 rfl) ?_
      refine mr_iald C hW 18 rfl rfl rfl h dX3_addPoint_109 (fun v8 h => ?_)
      exact hret _ _ _ _ _ _ dX3_addPoint_110 hS hW h
    · have h := wif_t h c9
      refine lv_iconst (v := 0) hx hb dX3_addPoint_63 (by decide) ?_
      exact hret _ _ _ _ _ _ dX3_addPoint_64 hS hW h
  have hb56 : ∀ (y0 : Int32) (y1 : Int32) (M : MM), w_X3_addPoint_56 Q x1 x2 x3 y0 y1 M → ∀ (ls : Array Slot) (H : Heap) (locs : List Loc), lv_has ls 6 [(0, .ref (mh E)), (1, .int x1), (2, .int x2), (3, .int x3)] → mW E M L H → va_S A s.heap H locs → W p l e R s m args below meth c H locs cells slots Z (F0 m 56 ls [.int y0, .int y1, .ref (mh E)]) := by
    intro y0 y1 M h
    intro ls H locs hl hW hS
    refine lv_iconst (v := 0) hx hb dX3_addPoint_56 (by decide) ?_
    exact hb57 _ _ _ _ h ls H locs (lv_sub hl [0, 1, 2, 3] rfl) hW hS
  have hb37 : ∀ (x4 : Int32) (y0 : Int32) (y1 : Int32) (M : MM), w_X3_addPoint_37 Q x1 x2 x3 x4 y0 y1 M → ∀ (ls : Array Slot) (H : Heap) (locs : List Loc), lv_has ls 6 [(0, .ref (mh E)), (1, .int x1), (2, .int x2), (3, .int x3), (4, .int x4)] → mW E M L H → va_S A s.heap H locs → W p l e R s m args below meth c H locs cells slots Z (F0 m 37 ls [.int y0, .int y1, .ref (mh E)]) := by
    intro x4 y0 y1 M h
    intro ls H locs hl hW hS
    refine lv_iload hx hb dX3_addPoint_37 (lv_at hl 4 rfl) ?_
    refine lv_if_eq (tgt := 56) hx hb dX3_addPoint_39 (by decide) (fun c12 => ?_) (fun c12 => ?_)
    · have h := wif_t h c12
      exact hb56 _ _ _ h ls H locs (lv_sub hl [0, 1, 2, 3] rfl) hW hS
    · have h := wif_f h c12
      refine lv_aload_n hx hb dX3_addPoint_42 rfl (lv_at hl 0 rfl) ?_
      refine lv_iload_n hx hb dX3_addPoint_43 rfl (lv_at hl 1 rfl) ?_
      refine lv_iload_n hx hb dX3_addPoint_44 rfl (lv_at hl 2 rfl) ?_
      refine lv_iload_n hx hb dX3_addPoint_45 rfl (lv_at hl 3 rfl) ?_
      refine call_X3_canAdd (ct_X3_canAdd l) C.1 C.2 hW hS hA q1942 (le_lit hRf rfl) (le_lit hRl rfl) hcs hl.1 (Nat.le_of_ble_eq_true rfl) dX3_addPoint_46 h (fun r10 H locs h hk hS => ?_)
      have hW := hW.kept hk
      refine lv_if_eq (tgt := 56) hx hb dX3_addPoint_49 (by decide) (fun c11 => ?_) (fun c11 => ?_)
      · have h := wif_t h c11
        exact hb56 _ _ _ h ls H locs (lv_sub hl [0, 1, 2, 3] rfl) hW hS
      · have h := wif_f h c11
        refine lv_iconst (v := 1) hx hb dX3_addPoint_52 (by decide) ?_
        refine lv_goto (tgt := 57) hx hb dX3_addPoint_53 (by decide) ?_
        exact hb57 _ _ _ _ h ls H locs (lv_sub hl [0, 1, 2, 3] rfl) hW hS
  have hb36 : ∀ (x4 : Int32) (y0 : Int32) (M : MM), w_X3_addPoint_36 Q x1 x2 x3 x4 y0 M → ∀ (ls : Array Slot) (H : Heap) (locs : List Loc), lv_has ls 6 [(0, .ref (mh E)), (1, .int x1), (2, .int x2), (3, .int x3), (4, .int x4)] → mW E M L H → va_S A s.heap H locs → W p l e R s m args below meth c H locs cells slots Z (F0 m 36 ls [.int y0, .ref (mh E)]) := by
    intro x4 y0 M h
    intro ls H locs hl hW hS
    refine lv_iconst (v := 0) hx hb dX3_addPoint_36 (by decide) ?_
    exact hb37 _ _ _ _ h ls H locs (lv_sub hl [0, 1, 2, 3, 4] rfl) hW hS
  intro h
  intro ls H locs hl hW hS
  refine lv_aload_n hx hb dX3_addPoint_0 rfl (lv_at hl 0 rfl) ?_
  refine lv_iload_n hx hb dX3_addPoint_1 rfl (lv_at hl 1 rfl) ?_
  refine call_X3_isLayer (ct_X3_isLayer l) C.1 C.2 hW hS hA q1938 (le_lit hRf rfl) (le_lit hRl rfl) hcs hl.1 (Nat.le_of_ble_eq_true rfl) dX3_addPoint_2 h (fun r13 H locs h hk hS => ?_)
  have hW := hW.kept hk
  refine lv_istore (lv' := [(4, .int r13), (0, .ref (mh E)), (1, .int x1), (2, .int x2), (3, .int x3)]) hx hb dX3_addPoint_5 hl (by decide) rfl (fun ls hl => ?_)
  refine lv_aload_n hx hb dX3_addPoint_7 rfl (lv_at hl 1 rfl) ?_
  refine lv_iload hx hb dX3_addPoint_8 (lv_at hl 0 rfl) ?_
  refine lv_iload_n hx hb dX3_addPoint_10 rfl (lv_at hl 3 rfl) ?_
  refine lv_bipush (v := -20) hx hb dX3_addPoint_11 (by decide) ?_
  refine lv_bipush (v := 40) hx hb dX3_addPoint_13 (by decide) ?_
  refine call_X3_isWithin (ct_X3_isWithin l) C.1 hS hA q1915 (le_lit hRf rfl) (le_lit hRl rfl) hcs hl.1 (Nat.le_of_ble_eq_true rfl) dX3_addPoint_15 h (fun r14 H locs h hk hS => ?_)
  have hW := hW.kept hk
  refine lv_if_eq (tgt := 36) hx hb dX3_addPoint_18 (by decide) (fun c17 => ?_) (fun c17 => ?_)
  · have h := wif_t h c17
    exact hb36 _ _ _ h ls H locs (lv_sub hl [1, 2, 3, 4, 0] rfl) hW hS
  · have h := wif_f h c17
    refine lv_iload_n hx hb dX3_addPoint_21 rfl (lv_at hl 4 rfl) ?_
    refine lv_bipush (v := -20) hx hb dX3_addPoint_22 (by decide) ?_
    refine lv_bipush (v := 40) hx hb dX3_addPoint_24 (by decide) ?_
    refine call_X3_isWithin (ct_X3_isWithin l) C.1 hS hA q1915 (le_lit hRf rfl) (le_lit hRl rfl) hcs hl.1 (Nat.le_of_ble_eq_true rfl) dX3_addPoint_26 h (fun r15 H locs h hk hS => ?_)
    have hW := hW.kept hk
    refine lv_if_eq (tgt := 36) hx hb dX3_addPoint_29 (by decide) (fun c16 => ?_) (fun c16 => ?_)
    · have h := wif_t h c16
      exact hb36 _ _ _ h ls H locs (lv_sub hl [1, 2, 3, 4, 0] rfl) hW hS
    · have h := wif_f h c16
      refine lv_iconst (v := 1) hx hb dX3_addPoint_32 (by decide) ?_
      refine lv_goto (tgt := 37) hx hb dX3_addPoint_33 (by decide) ?_
      exact hb37 _ _ _ _ h ls H locs (lv_sub hl [1, 2, 3, 4, 0] rfl) hW hS
theorem ct_X3_addPoint (l : Launch) : CT_X3_addPoint l 2 43 w_X3_addPoint := by
  intro E M L sz Q x1 x2 x3
  refine Met.ofW (cc := cX3_addPoint) (maxL := 6) (ret := (some .int)) (by decide) rfl ?_
  intro p e s m args below meth c s₁ B hml hv
  obtain ⟨rfl, hsz, hW, hK, h⟩ := hv
  subst hsz
  have hts := atoms_spec (ws := ws_ yX3_addPoint cX3_addPoint 6 (some .int)) B.pre
  have hts : ∀ w ∈ lw_all, w.before _ s = true := fun w h => hts w (List.mem_cons_of_mem _ h)
  have hl := lv_entry ([.ref (mh E), .int x1, .int x2, .int x3]) (n := 6) (Nat.le_of_ble_eq_true rfl)
  rw [lg_entry_eq]
  generalize (lg_sl ([.ref (mh E), .int x1, .int x2, .int x3]) ++ List.replicate (6 - (lg_sl ([.ref (mh E), .int x1, .int x2, .int x3])).length) Slot.unset).toArray = ls at hl ⊢
  exact wk_X3_addPoint Q ⟨⟨B.exec, B.bytes, hml, findClass_of_methodNamed B.named, hts⟩, hK⟩ (fun q h => Or.inr h) (fun q h => Or.inl h) (Nat.le_refl _) (Nat.le_refl _) ⟨Nat.le_refl _, Nat.le_refl _⟩ M L (fun v M pc ls H locs hd hS hW1 hQ => W.iret (v := v) B.exec B.bytes B.returns (fun t ht _ => ⟨⟨v, (M, L), rfl, ⟨rfl, hQ⟩, by rw [← ht] at hW1; exact hW1⟩, hS.F ht⟩) hS.2.2 hd) x1 x2 x3 h ls _ [] hl hW va_S.rf
def CT_X3_isShownIn (l : Launch) (fr lo : Nat) (w : (Int32 → Prop) → Int32 → Int32 → MM → Prop) : Prop := ∀ (E : mE) (M : MM) (L : ML) (sz : Nat) (Q : Int32 → Prop) (x1 : Int32) (x2 : Int32), Met l yX3_isShownIn (ws_ yX3_isShownIn cX3_isShownIn 5 (some .boolean)) { frames := fr, cells := 0, slots := 0, locals := lo } (va_Pc [.ref (mh E), .int x1, .int x2] (fun U => U.heap.size = sz ∧ mW E M L U.heap ∧ mK E U ∧ w Q x1 x2 M)) (va_Qi (fun r (_ : Unit) => Q r) (fun _ _ => True) (mN sz)) 0 0 (mN sz)
theorem call_X3_isShownIn {p : Program} {l : Launch} {e : Env} {R : Room} {s : State} {m : MethodId} {args : Array Value} {below : List Frame} {meth : Method} {c : Code} {H : Heap} {locs : List Loc} {cells slots : Nat} {Z : State → Prop} {A : Nat → Prop} {cc : ByteArray} {nL pc : Nat} {ls : Array Slot} {rest : List Value} {own : String} {index fr lo : Nat} {w : (Int32 → Prop) → Int32 → Int32 → MM → Prop} {E : mE} {M : MM} {L : ML} {x1 : Int32} {x2 : Int32} (hM : CT_X3_isShownIn l fr lo w) (S : CallFix p m c cc nL s args lw_all own) (hK : mK E s) (hW : mW E M L H) (hS : va_S A s.heap H locs) (hA : ∀ q, s.heap.size ≤ q → A q) (hlink : Cond.methodLink own index yX3_isShownIn ∈ lw_all) (hRf : fr + 1 ≤ R.frames) (hRl : 8 + (5 + 11) + lo ≤ R.locals) (hcs : cells ≤ R.cells ∧ slots ≤ R.slots) (hz : ls.size = nL) (hr8 : (rest.map fun v => v.category).sum ≤ 8) (hdg : decode cc pc = .ok (.invokevirtual index, 3)) {Q1 : Int32 → Prop} (h : w Q1 x1 x2 M) (kk : ∀ (r : Int32) (H1 : Heap) (locs1 : List Loc), Q1 r → (∀ q : Nat, q < H.size → H1[q]? = H[q]?) → va_S A s.heap H1 locs1 → W p l e R s m args below meth c H1 locs1 cells slots Z (F0 m (pc + 3) ls (.int r :: rest))) : W p l e R s m args below meth c H locs cells slots Z (F0 m pc ls (.int x2 :: .int x1 :: .ref (mh E) :: rest)) := by
  exact ro_i (va_runV (As := [.int x1, .int x2]) (rest := rest) S (hM E M L H.size Q1 x1 x2) (cwV 2 S.2.2.2.2 (lw_V hlink q1952 qs24 q68 q1953) rfl rfl rfl (by decide +kernel) ⟨hRf, hRl⟩) ⟨fun a U g mk q => by obtain ⟨q0, q1, qW, qK, qw⟩ := q; exact ⟨q0, q1, qW, qK.moved (u := U) (U := U.calling g mk a) (Vm.Alike.refl U.vm), qw⟩, hW.recv (hK := hK), fun U hU hWm => ⟨rfl, by rw [hU], by rw [hU]; exact hW, hK.moved hWm.alike, h⟩⟩ rfl rfl hz rfl (lv_room hr8) hdg hcs) hS hA (fun r H1 locs1 hp hz hk hS1 => kk r H1 locs1 hp hk hS1)
def w_X3_isShownIn_79 (rc : (Int32 → Prop) → Int32 → Int32 → MM → Prop) (Q : Int32 → Prop) (rec14 : Int32 → Int32 → Prop) (x1 : Int32) (x2 : Int32) (x4 : Int32) (y0 : Int32) (M : MM) : Prop := rec14 y0 (x4 + (1 : Int32))
def w_X3_isShownIn_78 (rc : (Int32 → Prop) → Int32 → Int32 → MM → Prop) (Q : Int32 → Prop) (rec14 : Int32 → Int32 → Prop) (x1 : Int32) (x2 : Int32) (x4 : Int32) (M : MM) : Prop := w_X3_isShownIn_79 rc Q rec14 x1 x2 x4 (0 : Int32) M
def w_X3_isShownIn_h14 (rc : (Int32 → Prop) → Int32 → Int32 → MM → Prop) (Q : Int32 → Prop) (x1 : Int32) (x2 : Int32) (M : MM) (rec14 : Int32 → Int32 → Prop) (x3 : Int32) (x4 : Int32) : Prop := if (M 15 0) ≤ x4 then (isZ x3 ∧ (Q x3)) else (if x3 = 0 then (mRd (M 14) 12 x4 (fun v1 => if v1 = 0 then (w_X3_isShownIn_78 rc Q rec14 x1 x2 x4 M) else (mRd (M 4) 12 x4 (fun v2 => if v2 = (2 : Int32) then (mRd (M 5) 12 x4 (fun v3 => if v3 = x2 then (mRd (M 6) 12 x4 (fun v4 => rc (fun r5 => if r5 = 0 then (w_X3_isShownIn_78 rc Q rec14 x1 x2 x4 M) else (w_X3_isShownIn_79 rc Q rec14 x1 x2 x4 (1 : Int32) M)) x1 v4 M)) else (w_X3_isShownIn_78 rc Q rec14 x1 x2 x4 M))) else (w_X3_isShownIn_78 rc Q rec14 x1 x2 x4 M))))) else (isZ x3 ∧ (Q x3)))
def w_X3_isShownIn_L14 (rc : (Int32 → Prop) → Int32 → Int32 → MM → Prop) (Q : Int32 → Prop) (x1 : Int32) (x2 : Int32) (M : MM) (x3 : Int32) (x4 : Int32) : Prop := wLoop (fun (rec : (Int32 × Int32) → Prop) (s : Int32 × Int32) => w_X3_isShownIn_h14 rc Q x1 x2 M (fun x3 x4 => rec (x3, x4)) s.1 s.2) (x3, x4)
def w_X3_isShownIn_10 (rc : (Int32 → Prop) → Int32 → Int32 → MM → Prop) (Q : Int32 → Prop) (x1 : Int32) (x2 : Int32) (y0 : Int32) (M : MM) : Prop := w_X3_isShownIn_L14 rc Q x1 x2 M y0 (0 : Int32)
def w_X3_isShownIn_B (rc : (Int32 → Prop) → Int32 → Int32 → MM → Prop) (Q : Int32 → Prop) (x1 : Int32) (x2 : Int32) (M : MM) : Prop := if x1 = x2 then (w_X3_isShownIn_10 rc Q x1 x2 (1 : Int32) M) else (w_X3_isShownIn_10 rc Q x1 x2 (0 : Int32) M)
def w_X3_isShownIn : Nat → (Int32 → Prop) → Int32 → Int32 → MM → Prop
  | 0 => fun _ _ _ _ => False
  | n + 1 => w_X3_isShownIn_B (w_X3_isShownIn n)
set_option maxRecDepth 100000 in
set_option maxHeartbeats 4000000 in
theorem wk_X3_isShownIn {p : Program} {l : Launch} {e : Env} {R : Room} {s : State} {m : MethodId} {args : Array Value} {below : List Frame} {meth : Method} {c : Code} {cells slots : Nat} {Z : State → Prop} {A : Nat → Prop} {E : mE} {fr lo : Nat} (hB1 : 0 ≤ fr) (hB2 : 0 ≤ lo) {rc : (Int32 → Prop) → Int32 → Int32 → MM → Prop} (hrc : CT_X3_isShownIn l fr lo rc) (Q : Int32 → Prop) (C : mC p m c s args cX3_isShownIn 5 E) (hA : ∀ q, s.heap.size ≤ q → A q) (hRf : fr + 1 ≤ R.frames) (hRl : lo + 24 ≤ R.locals) (hcs : cells ≤ R.cells ∧ slots ≤ R.slots) (M : MM) (L : ML) (hret : ∀ (v : Int32) (pc : Nat) (ls : Array Slot) (H : Heap) (locs : List Loc), decode cX3_isShownIn pc = .ok (.ireturn, 1) → va_S A s.heap H locs → isZ v → Q v → W p l e R s m args below meth c H locs cells slots Z (F0 m pc ls [.int v])) (x1 : Int32) (x2 : Int32) : w_X3_isShownIn_B rc Q x1 x2 M → ∀ (ls : Array Slot) (H : Heap) (locs : List Loc), lv_has ls 5 [(0, .ref (mh E)), (1, .int x1), (2, .int x2)] → mW E M L H → va_S A s.heap H locs → W p l e R s m args below meth c H locs cells slots Z (F0 m 0 ls []) := by
  obtain ⟨⟨hx, hb, hml, hown, hts⟩, hK⟩ := C; have C : mC p m c s args cX3_isShownIn 5 E := ⟨⟨hx, hb, hml, hown, hts⟩, hK⟩
  have hL14 : ∀ (x3 : Int32) (x4 : Int32), w_X3_isShownIn_L14 rc Q x1 x2 M x3 x4 → ∀ (ls : Array Slot) (H : Heap) (locs : List Loc), lv_has ls 5 [(0, .ref (mh E)), (1, .int x1), (2, .int x2), (3, .int x3), (4, .int x4)] → mW E M L H → va_S A s.heap H locs → W p l e R s m args below meth c H locs cells slots Z (F0 m 14 ls []) := by
    obtain ⟨G14, hG14⟩ : ∃ G : Int32 → Int32 → Prop, ∀ (x3 : Int32) (x4 : Int32), G x3 x4 ↔ (∀ (ls : Array Slot) (H : Heap) (locs : List Loc), lv_has ls 5 [(0, .ref (mh E)), (1, .int x1), (2, .int x2), (3, .int x3), (4, .int x4)] → mW E M L H → va_S A s.heap H locs → W p l e R s m args below meth c H locs cells slots Z (F0 m 14 ls [])) := ⟨fun x3 x4 => _, fun x3 x4 => Iff.rfl⟩
    have hB14 : ∀ (rec14 : Int32 → Int32 → Prop), (∀ (x3 : Int32) (x4 : Int32), rec14 x3 x4 → G14 x3 x4) → ∀ (x3 : Int32) (x4 : Int32), w_X3_isShownIn_h14 rc Q x1 x2 M rec14 x3 x4 → G14 x3 x4 := by
      intro rec14 hrec14
      have hb79 : ∀ (x4 : Int32) (y0 : Int32), w_X3_isShownIn_79 rc Q rec14 x1 x2 x4 y0 M → ∀ (ls : Array Slot) (H : Heap) (locs : List Loc), lv_has ls 5 [(0, .ref (mh E)), (1, .int x1), (2, .int x2), (4, .int x4)] → mW E M L H → va_S A s.heap H locs → W p l e R s m args below meth c H locs cells slots Z (F0 m 79 ls [.int y0]) := by
        intro x4 y0 h
        intro ls H locs hl hW hS
        refine lv_istore_n (lv' := [(3, .int y0), (0, .ref (mh E)), (1, .int x1), (2, .int x2), (4, .int x4)]) hx hb dX3_isShownIn_79 rfl hl (by decide) rfl (fun ls hl => ?_)
        refine lv_iinc (v := x4 + (1 : Int32)) (lv' := [(4, .int (x4 + (1 : Int32))), (3, .int y0), (0, .ref (mh E)), (1, .int x1), (2, .int x2)]) hx hb dX3_isShownIn_80 hl (k := 4) rfl (congrArg (fun z => x4 + z) (by decide)) (by decide) rfl (fun ls hl => ?_)
        refine lv_goto (tgt := 14) hx hb dX3_isShownIn_83 (by decide) ?_
        exact (hG14 _ _).mp (hrec14 _ _ h) ls H locs (lv_sub hl [2, 3, 4, 1, 0] rfl) hW hS
      have hb78 : ∀ (x4 : Int32), w_X3_isShownIn_78 rc Q rec14 x1 x2 x4 M → ∀ (ls : Array Slot) (H : Heap) (locs : List Loc), lv_has ls 5 [(0, .ref (mh E)), (1, .int x1), (2, .int x2), (4, .int x4)] → mW E M L H → va_S A s.heap H locs → W p l e R s m args below meth c H locs cells slots Z (F0 m 78 ls []) := by
        intro x4 h
        intro ls H locs hl hW hS
        refine lv_iconst (v := 0) hx hb dX3_isShownIn_78 (by decide) ?_
        exact hb79 _ _ h ls H locs (lv_sub hl [0, 1, 2, 3] rfl) hW hS
      intro x3 x4 h
      rw [hG14]
      intro ls H locs hl hW hS
      refine lv_iload hx hb dX3_isShownIn_14 (lv_at hl 4 rfl) ?_
      refine lv_aload_n hx hb dX3_isShownIn_16 rfl (lv_at hl 0 rfl) ?_
      refine mr_getI C hW 15 rfl rfl q1818 dX3_isShownIn_17 ?_
      refine lv_icmp_ge (tgt := 86) hx hb dX3_isShownIn_20 (by decide) (fun c11 => ?_) (fun c11 => ?_)
      · have h := wif_t h c11
        refine lv_iload_n hx hb dX3_isShownIn_86 rfl (lv_at hl 3 rfl) ?_
        exact hret _ _ _ _ _ dX3_isShownIn_87 hS h.1 h.2
      · have h := wif_f h c11
        refine lv_iload_n hx hb dX3_isShownIn_23 rfl (lv_at hl 3 rfl) ?_
        refine lv_if_ne (tgt := 86) hx hb dX3_isShownIn_24 (by decide) (fun c10 => ?_) (fun c10 => ?_)
        · have h := wif_f h c10
          refine lv_iload_n hx hb dX3_isShownIn_86 rfl (lv_at hl 3 rfl) ?_
          exact hret _ _ _ _ _ dX3_isShownIn_87 hS h.1 h.2
        · have h := wif_t h c10
          refine lv_aload_n hx hb dX3_isShownIn_27 rfl (lv_at hl 0 rfl) ?_
          refine mr_getA C hW 14 rfl rfl q1817 dX3_isShownIn_28 ?_
          refine lv_iload hx hb dX3_isShownIn_31 (lv_at hl 4 rfl) ?_
          refine mr_zald C hW 14 rfl rfl rfl h dX3_isShownIn_33 (fun v1 h => ?_)
          refine lv_if_eq (tgt := 78) hx hb dX3_isShownIn_34 (by decide) (fun c9 => ?_) (fun c9 => ?_)
          · have h := wif_t h c9
            exact hb78 _ h ls H locs (lv_sub hl [0, 1, 2, 4] rfl) hW hS
          · have h := wif_f h c9
            refine lv_aload_n hx hb dX3_isShownIn_37 rfl (lv_at hl 0 rfl) ?_
            refine mr_getA C hW 4 rfl rfl q1807 dX3_isShownIn_38 ?_
            refine lv_iload hx hb dX3_isShownIn_41 (lv_at hl 4 rfl) ?_
            refine mr_iald C hW 4 rfl rfl rfl h dX3_isShownIn_43 (fun v2 h => ?_)
            refine lv_iconst (v := 2) hx hb dX3_isShownIn_44 (by decide) ?_
            refine lv_icmp_ne (tgt := 78) hx hb dX3_isShownIn_45 (by decide) (fun c8 => ?_) (fun c8 => ?_)
            · have h := wif_f h c8
              exact hb78 _ h ls H locs (lv_sub hl [0, 1, 2, 4] rfl) hW hS
            · have h := wif_t h c8
              refine lv_aload_n hx hb dX3_isShownIn_48 rfl (lv_at hl 0 rfl) ?_
              refine mr_getA C hW 5 rfl rfl q1808 dX3_isShownIn_49 ?_
              refine lv_iload hx hb dX3_isShownIn_52 (lv_at hl 4 rfl) ?_
              refine mr_iald C hW 5 rfl rfl rfl h dX3_isShownIn_54 (fun v3 h => ?_)
              refine lv_iload_n hx hb dX3_isShownIn_55 rfl (lv_at hl 2 rfl) ?_
              refine lv_icmp_ne (tgt := 78) hx hb dX3_isShownIn_56 (by decide) (fun c7 => ?_) (fun c7 => ?_)
              · have h := wif_f h c7
                exact hb78 _ h ls H locs (lv_sub hl [0, 1, 2, 4] rfl) hW hS
              · have h := wif_t h c7
                refine lv_aload_n hx hb dX3_isShownIn_59 rfl (lv_at hl 0 rfl) ?_
                refine lv_iload_n hx hb dX3_isShownIn_60 rfl (lv_at hl 1 rfl) ?_
                refine lv_aload_n hx hb dX3_isShownIn_61 rfl (lv_at hl 0 rfl) ?_
                refine mr_getA C hW 6 rfl rfl q1809 dX3_isShownIn_62 ?_
                refine lv_iload hx hb dX3_isShownIn_65 (lv_at hl 4 rfl) ?_
                refine mr_iald C hW 6 rfl rfl rfl h dX3_isShownIn_67 (fun v4 h => ?_)
                refine call_X3_isShownIn hrc C.1 C.2 hW hS hA q1950 (by omega) (by omega) hcs hl.1 (Nat.le_of_ble_eq_true rfl) dX3_isShownIn_68 h (fun r5 H locs h hk hS => ?_)
                have hW := hW.kept hk
                refine lv_if_eq (tgt := 78) hx hb dX3_isShownIn_71 (by decide) (fun c6 => ?_) (fun c6 => ?_)
                · have h := wif_t h c6
                  exact hb78 _ h ls H locs (lv_sub hl [0, 1, 2, 4] rfl) hW hS
                · have h := wif_f h c6
                  refine lv_iconst (v := 1) hx hb dX3_isShownIn_74 (by decide) ?_
                  refine lv_goto (tgt := 79) hx hb dX3_isShownIn_75 (by decide) ?_
                  exact hb79 _ _ h ls H locs (lv_sub hl [0, 1, 2, 4] rfl) hW hS
    intro x3 x4 h
    exact (hG14 x3 x4).mp (loop_walk (fun s => G14 s.1 s.2) (fun rec hrec s h => hB14 (fun x3 x4 => rec (x3, x4)) (fun x3 x4 h => hrec (x3, x4) h) s.1 s.2 h) (x3, x4) h)
  have hb10 : ∀ (y0 : Int32), w_X3_isShownIn_10 rc Q x1 x2 y0 M → ∀ (ls : Array Slot) (H : Heap) (locs : List Loc), lv_has ls 5 [(0, .ref (mh E)), (1, .int x1), (2, .int x2)] → mW E M L H → va_S A s.heap H locs → W p l e R s m args below meth c H locs cells slots Z (F0 m 10 ls [.int y0]) := by
    intro y0 h
    intro ls H locs hl hW hS
    refine lv_istore_n (lv' := [(3, .int y0), (0, .ref (mh E)), (1, .int x1), (2, .int x2)]) hx hb dX3_isShownIn_10 rfl hl (by decide) rfl (fun ls hl => ?_)
    refine lv_iconst (v := 0) hx hb dX3_isShownIn_11 (by decide) ?_
    refine lv_istore (lv' := [(4, .int (0 : Int32)), (3, .int y0), (0, .ref (mh E)), (1, .int x1), (2, .int x2)]) hx hb dX3_isShownIn_12 hl (by decide) rfl (fun ls hl => ?_)
    exact hL14 _ _ h ls H locs (lv_sub hl [2, 3, 4, 1, 0] rfl) hW hS
  intro h
  intro ls H locs hl hW hS
  refine lv_iload_n hx hb dX3_isShownIn_0 rfl (lv_at hl 1 rfl) ?_
  refine lv_iload_n hx hb dX3_isShownIn_1 rfl (lv_at hl 2 rfl) ?_
  refine lv_icmp_ne (tgt := 9) hx hb dX3_isShownIn_2 (by decide) (fun c12 => ?_) (fun c12 => ?_)
  · have h := wif_f h c12
    refine lv_iconst (v := 0) hx hb dX3_isShownIn_9 (by decide) ?_
    exact hb10 _ h ls H locs (lv_sub hl [0, 1, 2] rfl) hW hS
  · have h := wif_t h c12
    refine lv_iconst (v := 1) hx hb dX3_isShownIn_5 (by decide) ?_
    refine lv_goto (tgt := 10) hx hb dX3_isShownIn_6 (by decide) ?_
    exact hb10 _ h ls H locs (lv_sub hl [0, 1, 2] rfl) hW hS
theorem ctB_X3_isShownIn (l : Launch) {fr lo : Nat} (hB1 : 0 ≤ fr) (hB2 : 0 ≤ lo) {rc : (Int32 → Prop) → Int32 → Int32 → MM → Prop} (hrc : CT_X3_isShownIn l fr lo rc) : CT_X3_isShownIn l (fr + 1) (lo + 24) (w_X3_isShownIn_B rc) := by
  intro E M L sz Q x1 x2
  refine Met.ofW (cc := cX3_isShownIn) (maxL := 5) (ret := (some .boolean)) (by decide) rfl ?_
  intro p e s m args below meth c s₁ B hml hv
  obtain ⟨rfl, hsz, hW, hK, h⟩ := hv
  subst hsz
  have hts := atoms_spec (ws := ws_ yX3_isShownIn cX3_isShownIn 5 (some .boolean)) B.pre
  have hts : ∀ w ∈ lw_all, w.before _ s = true := fun w h => hts w (List.mem_cons_of_mem _ h)
  have hl := lv_entry ([.ref (mh E), .int x1, .int x2]) (n := 5) (Nat.le_of_ble_eq_true rfl)
  rw [lg_entry_eq]
  generalize (lg_sl ([.ref (mh E), .int x1, .int x2]) ++ List.replicate (5 - (lg_sl ([.ref (mh E), .int x1, .int x2])).length) Slot.unset).toArray = ls at hl ⊢
  exact wk_X3_isShownIn (hB1 := hB1) (hB2 := hB2) (hrc := hrc) Q ⟨⟨B.exec, B.bytes, hml, findClass_of_methodNamed B.named, hts⟩, hK⟩ (fun q h => h) (Nat.le_refl _) (Nat.le_refl _) ⟨Nat.le_refl _, Nat.le_refl _⟩ M L (fun v pc ls H locs hd hS hz hQ => W.zret (v := v) B.exec B.bytes B.returns hz.nar (fun t ht _ => ⟨⟨v, (), rfl, hQ, trivial⟩, hS.F ht⟩) hS.2.2 hd) x1 x2 h ls _ [] hl hW va_S.rf
theorem ct_X3_isShownIn (l : Launch) : ∀ n, CT_X3_isShownIn l (0 + n * 1) (0 + n * 24) (w_X3_isShownIn n) := by
  intro n
  induction n with
  | zero =>
    intro E M L sz Q x1 x2
    refine Met.ofW (cc := cX3_isShownIn) (maxL := 5) (ret := (some .boolean)) (by decide) rfl ?_
    intro p e s m args below meth c s₁ B hml hv
    obtain ⟨rfl, hsz, hW, hK, h⟩ := hv
    exact False.elim h
  | succ n ih =>
    have h := ctB_X3_isShownIn l (fr := 0 + n * 1) (lo := 0 + n * 24) (by omega) (by omega) ih
    rw [show 0 + n * 1 + 1 = 0 + (n + 1) * 1 by omega, show 0 + n * 24 + 24 = 0 + (n + 1) * 24 by omega] at h
    exact h
def CT_X3_addNested (l : Launch) (fr lo : Nat) (w : (Int32 → MM → Prop) → Int32 → Int32 → MM → Prop) : Prop := ∀ (E : mE) (M : MM) (L : ML) (sz : Nat) (Q : Int32 → MM → Prop) (x1 : Int32) (x2 : Int32), Met l yX3_addNested (ws_ yX3_addNested cX3_addNested 4 (some .int)) { frames := fr, cells := 0, slots := 0, locals := lo } (va_Pc [.ref (mh E), .int x1, .int x2] (fun U => U.heap.size = sz ∧ mW E M L U.heap ∧ mK E U ∧ w Q x1 x2 M)) (va_Qi (fun r (u : MM × ML) => u.2 = L ∧ Q r u.1) (fun u t => mW E u.1 u.2 t.heap) (mA E sz)) 0 0 (mA E sz)
theorem call_X3_addNested {p : Program} {l : Launch} {e : Env} {R : Room} {s : State} {m : MethodId} {args : Array Value} {below : List Frame} {meth : Method} {c : Code} {H : Heap} {locs : List Loc} {cells slots : Nat} {Z : State → Prop} {A : Nat → Prop} {cc : ByteArray} {nL pc : Nat} {ls : Array Slot} {rest : List Value} {own : String} {index fr lo : Nat} {w : (Int32 → MM → Prop) → Int32 → Int32 → MM → Prop} {E : mE} {M : MM} {L : ML} {x1 : Int32} {x2 : Int32} (hM : CT_X3_addNested l fr lo w) (S : CallFix p m c cc nL s args lw_all own) (hK : mK E s) (hW : mW E M L H) (hS : va_S A s.heap H locs) (hA : ∀ q, s.heap.size ≤ q → A q) (hAw : ∀ q, mAd E q → A q) (hlink : Cond.methodLink own index yX3_addNested ∈ lw_all) (hRf : fr + 1 ≤ R.frames) (hRl : 8 + (4 + 11) + lo ≤ R.locals) (hcs : cells ≤ R.cells ∧ slots ≤ R.slots) (hz : ls.size = nL) (hr8 : (rest.map fun v => v.category).sum ≤ 8) (hdg : decode cc pc = .ok (.invokevirtual index, 3)) {Q1 : Int32 → MM → Prop} (h : w Q1 x1 x2 M) (kk : ∀ (r : Int32) (M1 : MM) (H1 : Heap) (locs1 : List Loc), Q1 r M1 → mW E M1 L H1 → va_S A s.heap H1 locs1 → (∀ q : Nat, q < H.size → ¬ mAd E q → H1[q]? = H[q]?) → W p l e R s m args below meth c H1 locs1 cells slots Z (F0 m (pc + 3) ls (.int r :: rest))) : W p l e R s m args below meth c H locs cells slots Z (F0 m pc ls (.int x2 :: .int x1 :: .ref (mh E) :: rest)) := by
  refine mw_i (sz := 0) (P := fun r M1 L1 => L1 = L ∧ Q1 r M1) (va_runV (As := [.int x1, .int x2]) (rest := rest) S (hM E M L H.size Q1 x1 x2) (cwV 2 S.2.2.2.2 (lw_V hlink q1947 q1948 q68 q1949) rfl rfl rfl (by decide +kernel) ⟨hRf, hRl⟩) ⟨fun a U g mk q => by obtain ⟨q0, q1, qW, qK, qw⟩ := q; exact ⟨q0, q1, qW, qK.moved (u := U) (U := U.calling g mk a) (Vm.Alike.refl U.vm), qw⟩, hW.recv (hK := hK), fun U hU hWm => ⟨rfl, by rw [hU], by rw [hU]; exact hW, hK.moved hWm.alike, h⟩⟩ rfl rfl hz rfl (lv_room hr8) hdg hcs) hS hA hAw (fun r M1 L1 H1 locs1 hp hW1 hz hk hS1 => ?_)
  obtain ⟨rfl, hp⟩ := hp
  exact kk r M1 H1 locs1 hp hW1 hS1 hk
def w_X3_addNested_49 (Q : Int32 → MM → Prop) (x1 : Int32) (x2 : Int32) (y0 : Int32) (y1 : Int32) (M : MM) : Prop := w_X3_check (fun r1 M2 => if r1 = 0 then (Q (0 : Int32) M2) else (w_X3_add (fun r3 M4 => Q r3 M4) (2 : Int32) x1 x2 (0 : Int32) (0 : Int32) M2)) y1 y0 (1 : Int32) M
def w_X3_addNested_48 (Q : Int32 → MM → Prop) (x1 : Int32) (x2 : Int32) (y0 : Int32) (M : MM) : Prop := w_X3_addNested_49 Q x1 x2 (0 : Int32) y0 M
def w_X3_addNested_21 (Q : Int32 → MM → Prop) (x1 : Int32) (x2 : Int32) (y0 : Int32) (M : MM) : Prop := if y0 = 0 then (w_X3_addNested_48 Q x1 x2 y0 M) else (w_X3_hasRoom (fun r6 => if r6 = 0 then (w_X3_addNested_48 Q x1 x2 y0 M) else (w_X3_isShownIn 8 (fun r7 => if r7 = 0 then (w_X3_addNested_49 Q x1 x2 (1 : Int32) y0 M) else (w_X3_addNested_48 Q x1 x2 y0 M)) x1 x2 M)) M)
def w_X3_addNested_20 (Q : Int32 → MM → Prop) (x1 : Int32) (x2 : Int32) (M : MM) : Prop := w_X3_addNested_21 Q x1 x2 (0 : Int32) M
def w_X3_addNested (Q : Int32 → MM → Prop) (x1 : Int32) (x2 : Int32) (M : MM) : Prop := w_X3_isComposition (fun r11 => if r11 = 0 then (w_X3_addNested_20 Q x1 x2 M) else (w_X3_isComposition (fun r12 => if r12 = 0 then (w_X3_addNested_20 Q x1 x2 M) else (w_X3_addNested_21 Q x1 x2 (1 : Int32) M)) x2 M)) x1 M
set_option maxRecDepth 100000 in
set_option maxHeartbeats 4000000 in
theorem wk_X3_addNested {p : Program} {l : Launch} {e : Env} {R : Room} {s : State} {m : MethodId} {args : Array Value} {below : List Frame} {meth : Method} {c : Code} {cells slots : Nat} {Z : State → Prop} {A : Nat → Prop} {E : mE} (Q : Int32 → MM → Prop) (C : mC p m c s args cX3_addNested 4 E) (hA : ∀ q, s.heap.size ≤ q → A q) (hAw : ∀ q, mAd E q → A q) (hRf : 9 ≤ R.frames) (hRl : 216 ≤ R.locals) (hcs : cells ≤ R.cells ∧ slots ≤ R.slots) (M : MM) (L : ML) (hret : ∀ (v : Int32) (M : MM) (pc : Nat) (ls : Array Slot) (H : Heap) (locs : List Loc), decode cX3_addNested pc = .ok (.ireturn, 1) → va_S A s.heap H locs → mW E M L H → Q v M → W p l e R s m args below meth c H locs cells slots Z (F0 m pc ls [.int v])) (x1 : Int32) (x2 : Int32) : w_X3_addNested Q x1 x2 M → ∀ (ls : Array Slot) (H : Heap) (locs : List Loc), lv_has ls 4 [(0, .ref (mh E)), (1, .int x1), (2, .int x2)] → mW E M L H → va_S A s.heap H locs → W p l e R s m args below meth c H locs cells slots Z (F0 m 0 ls []) := by
  obtain ⟨⟨hx, hb, hml, hown, hts⟩, hK⟩ := C; have C : mC p m c s args cX3_addNested 4 E := ⟨⟨hx, hb, hml, hown, hts⟩, hK⟩
  have hb49 : ∀ (y0 : Int32) (y1 : Int32) (M : MM), w_X3_addNested_49 Q x1 x2 y0 y1 M → ∀ (ls : Array Slot) (H : Heap) (locs : List Loc), lv_has ls 4 [(0, .ref (mh E)), (1, .int x1), (2, .int x2)] → mW E M L H → va_S A s.heap H locs → W p l e R s m args below meth c H locs cells slots Z (F0 m 49 ls [.int y0, .int y1, .ref (mh E)]) := by
    intro y0 y1 M h
    intro ls H locs hl hW hS
    refine lv_iconst (v := 1) hx hb dX3_addNested_49 (by decide) ?_
    refine call_X3_check (ct_X3_check l) C.1 C.2 hW hS hA hAw q1907 (le_lit hRf rfl) (le_lit hRl rfl) hcs hl.1 (Nat.le_of_ble_eq_true rfl) dX3_addNested_50 h (fun r1 M2 H locs h hW hS _ => ?_)
    refine lv_if_eq (tgt := 68) hx hb dX3_addNested_53 (by decide) (fun c5 => ?_) (fun c5 => ?_)
    · have h := wif_t h c5
      refine lv_iconst (v := 0) hx hb dX3_addNested_68 (by decide) ?_
      exact hret _ _ _ _ _ _ dX3_addNested_69 hS hW h
    · have h := wif_f h c5
      refine lv_aload_n hx hb dX3_addNested_56 rfl (lv_at hl 0 rfl) ?_
      refine lv_iconst (v := 2) hx hb dX3_addNested_57 (by decide) ?_
      refine lv_iload_n hx hb dX3_addNested_58 rfl (lv_at hl 1 rfl) ?_
      refine lv_iload_n hx hb dX3_addNested_59 rfl (lv_at hl 2 rfl) ?_
      refine lv_iconst (v := 0) hx hb dX3_addNested_60 (by decide) ?_
      refine lv_iconst (v := 0) hx hb dX3_addNested_61 (by decide) ?_
      refine call_X3_add (ct_X3_add l) C.1 C.2 hW hS hA hAw q1926 (le_lit hRf rfl) (le_lit hRl rfl) hcs hl.1 (Nat.le_of_ble_eq_true rfl) dX3_addNested_62 h (fun r3 M4 H locs h hW hS _ => ?_)
      refine lv_goto (tgt := 69) hx hb dX3_addNested_65 (by decide) ?_
      exact hret _ _ _ _ _ _ dX3_addNested_69 hS hW h
  have hb48 : ∀ (y0 : Int32) (M : MM), w_X3_addNested_48 Q x1 x2 y0 M → ∀ (ls : Array Slot) (H : Heap) (locs : List Loc), lv_has ls 4 [(0, .ref (mh E)), (1, .int x1), (2, .int x2)] → mW E M L H → va_S A s.heap H locs → W p l e R s m args below meth c H locs cells slots Z (F0 m 48 ls [.int y0, .ref (mh E)]) := by
    intro y0 M h
    intro ls H locs hl hW hS
    refine lv_iconst (v := 0) hx hb dX3_addNested_48 (by decide) ?_
    exact hb49 _ _ _ h ls H locs (lv_sub hl [0, 1, 2] rfl) hW hS
  have hb21 : ∀ (y0 : Int32) (M : MM), w_X3_addNested_21 Q x1 x2 y0 M → ∀ (ls : Array Slot) (H : Heap) (locs : List Loc), lv_has ls 4 [(0, .ref (mh E)), (1, .int x1), (2, .int x2)] → mW E M L H → va_S A s.heap H locs → W p l e R s m args below meth c H locs cells slots Z (F0 m 21 ls [.int y0]) := by
    intro y0 M h
    intro ls H locs hl hW hS
    refine lv_istore_n (lv' := [(3, .int y0), (0, .ref (mh E)), (1, .int x1), (2, .int x2)]) hx hb dX3_addNested_21 rfl hl (by decide) rfl (fun ls hl => ?_)
    refine lv_aload_n hx hb dX3_addNested_22 rfl (lv_at hl 1 rfl) ?_
    refine lv_iload_n hx hb dX3_addNested_23 rfl (lv_at hl 0 rfl) ?_
    refine lv_iload_n hx hb dX3_addNested_24 rfl (lv_at hl 0 rfl) ?_
    refine lv_if_eq (tgt := 48) hx hb dX3_addNested_25 (by decide) (fun c10 => ?_) (fun c10 => ?_)
    · have h := wif_t h c10
      exact hb48 _ _ h ls H locs (lv_sub hl [1, 2, 3] rfl) hW hS
    · have h := wif_f h c10
      refine lv_aload_n hx hb dX3_addNested_28 rfl (lv_at hl 1 rfl) ?_
      refine call_X3_hasRoom (ct_X3_hasRoom l) C.1 C.2 hW hS hA q1922 (le_lit hRf rfl) (le_lit hRl rfl) hcs hl.1 (Nat.le_of_ble_eq_true rfl) dX3_addNested_29 h (fun r6 H locs h hk hS => ?_)
      have hW := hW.kept hk
      refine lv_if_eq (tgt := 48) hx hb dX3_addNested_32 (by decide) (fun c9 => ?_) (fun c9 => ?_)
      · have h := wif_t h c9
        exact hb48 _ _ h ls H locs (lv_sub hl [1, 2, 3] rfl) hW hS
      · have h := wif_f h c9
        refine lv_aload_n hx hb dX3_addNested_35 rfl (lv_at hl 1 rfl) ?_
        refine lv_iload_n hx hb dX3_addNested_36 rfl (lv_at hl 2 rfl) ?_
        refine lv_iload_n hx hb dX3_addNested_37 rfl (lv_at hl 3 rfl) ?_
        refine call_X3_isShownIn (ct_X3_isShownIn l 8) C.1 C.2 hW hS hA q1950 (le_lit hRf rfl) (le_lit hRl rfl) hcs hl.1 (Nat.le_of_ble_eq_true rfl) dX3_addNested_38 h (fun r7 H locs h hk hS => ?_)
        have hW := hW.kept hk
        refine lv_if_ne (tgt := 48) hx hb dX3_addNested_41 (by decide) (fun c8 => ?_) (fun c8 => ?_)
        · have h := wif_f h c8
          exact hb48 _ _ h ls H locs (lv_sub hl [1, 2, 3] rfl) hW hS
        · have h := wif_t h c8
          refine lv_iconst (v := 1) hx hb dX3_addNested_44 (by decide) ?_
          refine lv_goto (tgt := 49) hx hb dX3_addNested_45 (by decide) ?_
          exact hb49 _ _ _ h ls H locs (lv_sub hl [1, 2, 3] rfl) hW hS
  have hb20 : ∀ (M : MM), w_X3_addNested_20 Q x1 x2 M → ∀ (ls : Array Slot) (H : Heap) (locs : List Loc), lv_has ls 4 [(0, .ref (mh E)), (1, .int x1), (2, .int x2)] → mW E M L H → va_S A s.heap H locs → W p l e R s m args below meth c H locs cells slots Z (F0 m 20 ls []) := by
    intro M h
    intro ls H locs hl hW hS
    refine lv_iconst (v := 0) hx hb dX3_addNested_20 (by decide) ?_
    exact hb21 _ _ h ls H locs (lv_sub hl [0, 1, 2] rfl) hW hS
  intro h
  intro ls H locs hl hW hS
  refine lv_aload_n hx hb dX3_addNested_0 rfl (lv_at hl 0 rfl) ?_
  refine lv_iload_n hx hb dX3_addNested_1 rfl (lv_at hl 1 rfl) ?_
  refine call_X3_isComposition (ct_X3_isComposition l) C.1 C.2 hW hS hA q1918 (le_lit hRf rfl) (le_lit hRl rfl) hcs hl.1 (Nat.le_of_ble_eq_true rfl) dX3_addNested_2 h (fun r11 H locs h hk hS => ?_)
  have hW := hW.kept hk
  refine lv_if_eq (tgt := 20) hx hb dX3_addNested_5 (by decide) (fun c14 => ?_) (fun c14 => ?_)
  · have h := wif_t h c14
    exact hb20 _ h ls H locs (lv_sub hl [0, 1, 2] rfl) hW hS
  · have h := wif_f h c14
    refine lv_aload_n hx hb dX3_addNested_8 rfl (lv_at hl 0 rfl) ?_
    refine lv_iload_n hx hb dX3_addNested_9 rfl (lv_at hl 2 rfl) ?_
    refine call_X3_isComposition (ct_X3_isComposition l) C.1 C.2 hW hS hA q1918 (le_lit hRf rfl) (le_lit hRl rfl) hcs hl.1 (Nat.le_of_ble_eq_true rfl) dX3_addNested_10 h (fun r12 H locs h hk hS => ?_)
    have hW := hW.kept hk
    refine lv_if_eq (tgt := 20) hx hb dX3_addNested_13 (by decide) (fun c13 => ?_) (fun c13 => ?_)
    · have h := wif_t h c13
      exact hb20 _ h ls H locs (lv_sub hl [0, 1, 2] rfl) hW hS
    · have h := wif_f h c13
      refine lv_iconst (v := 1) hx hb dX3_addNested_16 (by decide) ?_
      refine lv_goto (tgt := 21) hx hb dX3_addNested_17 (by decide) ?_
      exact hb21 _ _ h ls H locs (lv_sub hl [0, 1, 2] rfl) hW hS
theorem ct_X3_addNested (l : Launch) : CT_X3_addNested l 9 216 w_X3_addNested := by
  intro E M L sz Q x1 x2
  refine Met.ofW (cc := cX3_addNested) (maxL := 4) (ret := (some .int)) (by decide) rfl ?_
  intro p e s m args below meth c s₁ B hml hv
  obtain ⟨rfl, hsz, hW, hK, h⟩ := hv
  subst hsz
  have hts := atoms_spec (ws := ws_ yX3_addNested cX3_addNested 4 (some .int)) B.pre
  have hts : ∀ w ∈ lw_all, w.before _ s = true := fun w h => hts w (List.mem_cons_of_mem _ h)
  have hl := lv_entry ([.ref (mh E), .int x1, .int x2]) (n := 4) (Nat.le_of_ble_eq_true rfl)
  rw [lg_entry_eq]
  generalize (lg_sl ([.ref (mh E), .int x1, .int x2]) ++ List.replicate (4 - (lg_sl ([.ref (mh E), .int x1, .int x2])).length) Slot.unset).toArray = ls at hl ⊢
  exact wk_X3_addNested Q ⟨⟨B.exec, B.bytes, hml, findClass_of_methodNamed B.named, hts⟩, hK⟩ (fun q h => Or.inr h) (fun q h => Or.inl h) (Nat.le_refl _) (Nat.le_refl _) ⟨Nat.le_refl _, Nat.le_refl _⟩ M L (fun v M pc ls H locs hd hS hW1 hQ => W.iret (v := v) B.exec B.bytes B.returns (fun t ht _ => ⟨⟨v, (M, L), rfl, ⟨rfl, hQ⟩, by rw [← ht] at hW1; exact hW1⟩, hS.F ht⟩) hS.2.2 hd) x1 x2 h ls _ [] hl hW va_S.rf
def CT_X3_addNull (l : Launch) (fr lo : Nat) (w : (Int32 → MM → Prop) → Int32 → MM → Prop) : Prop := ∀ (E : mE) (M : MM) (L : ML) (sz : Nat) (Q : Int32 → MM → Prop) (x1 : Int32), Met l yX3_addNull (ws_ yX3_addNull cX3_addNull 2 (some .int)) { frames := fr, cells := 0, slots := 0, locals := lo } (va_Pc [.ref (mh E), .int x1] (fun U => U.heap.size = sz ∧ mW E M L U.heap ∧ mK E U ∧ w Q x1 M)) (va_Qi (fun r (u : MM × ML) => u.2 = L ∧ Q r u.1) (fun u t => mW E u.1 u.2 t.heap) (mA E sz)) 0 0 (mA E sz)
theorem call_X3_addNull {p : Program} {l : Launch} {e : Env} {R : Room} {s : State} {m : MethodId} {args : Array Value} {below : List Frame} {meth : Method} {c : Code} {H : Heap} {locs : List Loc} {cells slots : Nat} {Z : State → Prop} {A : Nat → Prop} {cc : ByteArray} {nL pc : Nat} {ls : Array Slot} {rest : List Value} {own : String} {index fr lo : Nat} {w : (Int32 → MM → Prop) → Int32 → MM → Prop} {E : mE} {M : MM} {L : ML} {x1 : Int32} (hM : CT_X3_addNull l fr lo w) (S : CallFix p m c cc nL s args lw_all own) (hK : mK E s) (hW : mW E M L H) (hS : va_S A s.heap H locs) (hA : ∀ q, s.heap.size ≤ q → A q) (hAw : ∀ q, mAd E q → A q) (hlink : Cond.methodLink own index yX3_addNull ∈ lw_all) (hRf : fr + 1 ≤ R.frames) (hRl : 8 + (2 + 11) + lo ≤ R.locals) (hcs : cells ≤ R.cells ∧ slots ≤ R.slots) (hz : ls.size = nL) (hr8 : (rest.map fun v => v.category).sum ≤ 8) (hdg : decode cc pc = .ok (.invokevirtual index, 3)) {Q1 : Int32 → MM → Prop} (h : w Q1 x1 M) (kk : ∀ (r : Int32) (M1 : MM) (H1 : Heap) (locs1 : List Loc), Q1 r M1 → mW E M1 L H1 → va_S A s.heap H1 locs1 → (∀ q : Nat, q < H.size → ¬ mAd E q → H1[q]? = H[q]?) → W p l e R s m args below meth c H1 locs1 cells slots Z (F0 m (pc + 3) ls (.int r :: rest))) : W p l e R s m args below meth c H locs cells slots Z (F0 m pc ls (.int x1 :: .ref (mh E) :: rest)) := by
  refine mw_i (sz := 0) (P := fun r M1 L1 => L1 = L ∧ Q1 r M1) (va_runV (As := [.int x1]) (rest := rest) S (hM E M L H.size Q1 x1) (cwV 1 S.2.2.2.2 (lw_V hlink q1955 q1956 q68 q1957) rfl rfl rfl (by decide +kernel) ⟨hRf, hRl⟩) ⟨fun a U g mk q => by obtain ⟨q0, q1, qW, qK, qw⟩ := q; exact ⟨q0, q1, qW, qK.moved (u := U) (U := U.calling g mk a) (Vm.Alike.refl U.vm), qw⟩, hW.recv (hK := hK), fun U hU hWm => ⟨rfl, by rw [hU], by rw [hU]; exact hW, hK.moved hWm.alike, h⟩⟩ rfl rfl hz rfl (lv_room hr8) hdg hcs) hS hA hAw (fun r M1 L1 H1 locs1 hp hW1 hz hk hS1 => ?_)
  obtain ⟨rfl, hp⟩ := hp
  exact kk r M1 H1 locs1 hp hW1 hS1 hk
def w_X3_addNull (Q : Int32 → MM → Prop) (x1 : Int32) (M : MM) : Prop := w_X3_isComposition (fun r1 => w_X3_hasRoom (fun r2 => w_X3_check (fun r3 M4 => if r3 = 0 then (Q (0 : Int32) M4) else (w_X3_add (fun r5 M6 => Q r5 M6) (3 : Int32) x1 (0 : Int32) (0 : Int32) (0 : Int32) M4)) r1 r2 (1 : Int32) M) M) x1 M
set_option maxRecDepth 100000 in
set_option maxHeartbeats 4000000 in
theorem wk_X3_addNull {p : Program} {l : Launch} {e : Env} {R : Room} {s : State} {m : MethodId} {args : Array Value} {below : List Frame} {meth : Method} {c : Code} {cells slots : Nat} {Z : State → Prop} {A : Nat → Prop} {E : mE} (Q : Int32 → MM → Prop) (C : mC p m c s args cX3_addNull 2 E) (hA : ∀ q, s.heap.size ≤ q → A q) (hAw : ∀ q, mAd E q → A q) (hRf : 2 ≤ R.frames) (hRl : 43 ≤ R.locals) (hcs : cells ≤ R.cells ∧ slots ≤ R.slots) (M : MM) (L : ML) (hret : ∀ (v : Int32) (M : MM) (pc : Nat) (ls : Array Slot) (H : Heap) (locs : List Loc), decode cX3_addNull pc = .ok (.ireturn, 1) → va_S A s.heap H locs → mW E M L H → Q v M → W p l e R s m args below meth c H locs cells slots Z (F0 m pc ls [.int v])) (x1 : Int32) : w_X3_addNull Q x1 M → ∀ (ls : Array Slot) (H : Heap) (locs : List Loc), lv_has ls 2 [(0, .ref (mh E)), (1, .int x1)] → mW E M L H → va_S A s.heap H locs → W p l e R s m args below meth c H locs cells slots Z (F0 m 0 ls []) := by
  obtain ⟨⟨hx, hb, hml, hown, hts⟩, hK⟩ := C; have C : mC p m c s args cX3_addNull 2 E := ⟨⟨hx, hb, hml, hown, hts⟩, hK⟩
  intro h
  intro ls H locs hl hW hS
  refine lv_aload_n hx hb dX3_addNull_0 rfl (lv_at hl 0 rfl) ?_
  refine lv_aload_n hx hb dX3_addNull_1 rfl (lv_at hl 0 rfl) ?_
  refine lv_iload_n hx hb dX3_addNull_2 rfl (lv_at hl 1 rfl) ?_
  refine call_X3_isComposition (ct_X3_isComposition l) C.1 C.2 hW hS hA q1918 (le_lit hRf rfl) (le_lit hRl rfl) hcs hl.1 (Nat.le_of_ble_eq_true rfl) dX3_addNull_3 h (fun r1 H locs h hk hS => ?_)
  have hW := hW.kept hk
  refine lv_aload_n hx hb dX3_addNull_6 rfl (lv_at hl 0 rfl) ?_
  refine call_X3_hasRoom (ct_X3_hasRoom l) C.1 C.2 hW hS hA q1922 (le_lit hRf rfl) (le_lit hRl rfl) hcs hl.1 (Nat.le_of_ble_eq_true rfl) dX3_addNull_7 h (fun r2 H locs h hk hS => ?_)
  have hW := hW.kept hk
  refine lv_iconst (v := 1) hx hb dX3_addNull_10 (by decide) ?_
  refine call_X3_check (ct_X3_check l) C.1 C.2 hW hS hA hAw q1907 (le_lit hRf rfl) (le_lit hRl rfl) hcs hl.1 (Nat.le_of_ble_eq_true rfl) dX3_addNull_11 h (fun r3 M4 H locs h hW hS _ => ?_)
  refine lv_if_eq (tgt := 29) hx hb dX3_addNull_14 (by decide) (fun c7 => ?_) (fun c7 => ?_)
  · have h := wif_t h c7
    refine lv_iconst (v := 0) hx hb dX3_addNull_29 (by decide) ?_
    exact hret _ _ _ _ _ _ dX3_addNull_30 hS hW h
  · have h := wif_f h c7
    refine lv_aload_n hx hb dX3_addNull_17 rfl (lv_at hl 0 rfl) ?_
    refine lv_iconst (v := 3) hx hb dX3_addNull_18 (by decide) ?_
    refine lv_iload_n hx hb dX3_addNull_19 rfl (lv_at hl 1 rfl) ?_
    refine lv_iconst (v := 0) hx hb dX3_addNull_20 (by decide) ?_
    refine lv_iconst (v := 0) hx hb dX3_addNull_21 (by decide) ?_
    refine lv_iconst (v := 0) hx hb dX3_addNull_22 (by decide) ?_
    refine call_X3_add (ct_X3_add l) C.1 C.2 hW hS hA hAw q1926 (le_lit hRf rfl) (le_lit hRl rfl) hcs hl.1 (Nat.le_of_ble_eq_true rfl) dX3_addNull_23 h (fun r5 M6 H locs h hW hS _ => ?_)
    refine lv_goto (tgt := 30) hx hb dX3_addNull_26 (by decide) ?_
    exact hret _ _ _ _ _ _ dX3_addNull_30 hS hW h
theorem ct_X3_addNull (l : Launch) : CT_X3_addNull l 2 43 w_X3_addNull := by
  intro E M L sz Q x1
  refine Met.ofW (cc := cX3_addNull) (maxL := 2) (ret := (some .int)) (by decide) rfl ?_
  intro p e s m args below meth c s₁ B hml hv
  obtain ⟨rfl, hsz, hW, hK, h⟩ := hv
  subst hsz
  have hts := atoms_spec (ws := ws_ yX3_addNull cX3_addNull 2 (some .int)) B.pre
  have hts : ∀ w ∈ lw_all, w.before _ s = true := fun w h => hts w (List.mem_cons_of_mem _ h)
  have hl := lv_entry ([.ref (mh E), .int x1]) (n := 2) (Nat.le_of_ble_eq_true rfl)
  rw [lg_entry_eq]
  generalize (lg_sl ([.ref (mh E), .int x1]) ++ List.replicate (2 - (lg_sl ([.ref (mh E), .int x1])).length) Slot.unset).toArray = ls at hl ⊢
  exact wk_X3_addNull Q ⟨⟨B.exec, B.bytes, hml, findClass_of_methodNamed B.named, hts⟩, hK⟩ (fun q h => Or.inr h) (fun q h => Or.inl h) (Nat.le_refl _) (Nat.le_refl _) ⟨Nat.le_refl _, Nat.le_refl _⟩ M L (fun v M pc ls H locs hd hS hW1 hQ => W.iret (v := v) B.exec B.bytes B.returns (fun t ht _ => ⟨⟨v, (M, L), rfl, ⟨rfl, hQ⟩, by rw [← ht] at hW1; exact hW1⟩, hS.F ht⟩) hS.2.2 hd) x1 h ls _ [] hl hW va_S.rf
def CT_X3_placeOf (l : Launch) (fr lo : Nat) (w : (Int32 → Prop) → Int32 → MM → Prop) : Prop := ∀ (E : mE) (M : MM) (L : ML) (sz : Nat) (Q : Int32 → Prop) (x1 : Int32), Met l yX3_placeOf (ws_ yX3_placeOf cX3_placeOf 3 (some .int)) { frames := fr, cells := 0, slots := 0, locals := lo } (va_Pc [.ref (mh E), .int x1] (fun U => U.heap.size = sz ∧ mW E M L U.heap ∧ mK E U ∧ w Q x1 M)) (va_Qi (fun r (_ : Unit) => Q r) (fun _ _ => True) (mN sz)) 0 0 (mN sz)
theorem call_X3_placeOf {p : Program} {l : Launch} {e : Env} {R : Room} {s : State} {m : MethodId} {args : Array Value} {below : List Frame} {meth : Method} {c : Code} {H : Heap} {locs : List Loc} {cells slots : Nat} {Z : State → Prop} {A : Nat → Prop} {cc : ByteArray} {nL pc : Nat} {ls : Array Slot} {rest : List Value} {own : String} {index fr lo : Nat} {w : (Int32 → Prop) → Int32 → MM → Prop} {E : mE} {M : MM} {L : ML} {x1 : Int32} (hM : CT_X3_placeOf l fr lo w) (S : CallFix p m c cc nL s args lw_all own) (hK : mK E s) (hW : mW E M L H) (hS : va_S A s.heap H locs) (hA : ∀ q, s.heap.size ≤ q → A q) (hlink : Cond.methodLink own index yX3_placeOf ∈ lw_all) (hRf : fr + 1 ≤ R.frames) (hRl : 8 + (3 + 11) + lo ≤ R.locals) (hcs : cells ≤ R.cells ∧ slots ≤ R.slots) (hz : ls.size = nL) (hr8 : (rest.map fun v => v.category).sum ≤ 8) (hdg : decode cc pc = .ok (.invokevirtual index, 3)) {Q1 : Int32 → Prop} (h : w Q1 x1 M) (kk : ∀ (r : Int32) (H1 : Heap) (locs1 : List Loc), Q1 r → (∀ q : Nat, q < H.size → H1[q]? = H[q]?) → va_S A s.heap H1 locs1 → W p l e R s m args below meth c H1 locs1 cells slots Z (F0 m (pc + 3) ls (.int r :: rest))) : W p l e R s m args below meth c H locs cells slots Z (F0 m pc ls (.int x1 :: .ref (mh E) :: rest)) := by
  exact ro_i (va_runV (As := [.int x1]) (rest := rest) S (hM E M L H.size Q1 x1) (cwV 1 S.2.2.2.2 (lw_V hlink q1968 qs26 q68 q1969) rfl rfl rfl (by decide +kernel) ⟨hRf, hRl⟩) ⟨fun a U g mk q => by obtain ⟨q0, q1, qW, qK, qw⟩ := q; exact ⟨q0, q1, qW, qK.moved (u := U) (U := U.calling g mk a) (Vm.Alike.refl U.vm), qw⟩, hW.recv (hK := hK), fun U hU hWm => ⟨rfl, by rw [hU], by rw [hU]; exact hW, hK.moved hWm.alike, h⟩⟩ rfl rfl hz rfl (lv_room hr8) hdg hcs) hS hA (fun r H1 locs1 hp hz hk hS1 => kk r H1 locs1 hp hk hS1)
def w_X3_placeOf_h2 (Q : Int32 → Prop) (x1 : Int32) (M : MM) (rec2 : Int32 → Prop) (x2 : Int32) : Prop := mRd (M 5) 12 x1 (fun v1 => mRd (M 2) 48 (((12 : Int32) * v1) + x2) (fun v2 => if v2 = x1 then (Q x2) else (rec2 (x2 + (1 : Int32)))))
def w_X3_placeOf_L2 (Q : Int32 → Prop) (x1 : Int32) (M : MM) (x2 : Int32) : Prop := wLoop (fun (rec : Int32 → Prop) (s : Int32) => w_X3_placeOf_h2 Q x1 M (fun x2 => rec x2) s) x2
def w_X3_placeOf (Q : Int32 → Prop) (x1 : Int32) (M : MM) : Prop := w_X3_placeOf_L2 Q x1 M (0 : Int32)
set_option maxRecDepth 100000 in
set_option maxHeartbeats 4000000 in
theorem wk_X3_placeOf {p : Program} {l : Launch} {e : Env} {R : Room} {s : State} {m : MethodId} {args : Array Value} {below : List Frame} {meth : Method} {c : Code} {cells slots : Nat} {Z : State → Prop} {A : Nat → Prop} {E : mE} (Q : Int32 → Prop) (C : mC p m c s args cX3_placeOf 3 E) (hA : ∀ q, s.heap.size ≤ q → A q) (hRf : 0 ≤ R.frames) (hRl : 0 ≤ R.locals) (hcs : cells ≤ R.cells ∧ slots ≤ R.slots) (M : MM) (L : ML) (hret : ∀ (v : Int32) (pc : Nat) (ls : Array Slot) (H : Heap) (locs : List Loc), decode cX3_placeOf pc = .ok (.ireturn, 1) → va_S A s.heap H locs → Q v → W p l e R s m args below meth c H locs cells slots Z (F0 m pc ls [.int v])) (x1 : Int32) : w_X3_placeOf Q x1 M → ∀ (ls : Array Slot) (H : Heap) (locs : List Loc), lv_has ls 3 [(0, .ref (mh E)), (1, .int x1)] → mW E M L H → va_S A s.heap H locs → W p l e R s m args below meth c H locs cells slots Z (F0 m 0 ls []) := by
  obtain ⟨⟨hx, hb, hml, hown, hts⟩, hK⟩ := C; have C : mC p m c s args cX3_placeOf 3 E := ⟨⟨hx, hb, hml, hown, hts⟩, hK⟩
  have hL2 : ∀ (x2 : Int32), w_X3_placeOf_L2 Q x1 M x2 → ∀ (ls : Array Slot) (H : Heap) (locs : List Loc), lv_has ls 3 [(0, .ref (mh E)), (1, .int x1), (2, .int x2)] → mW E M L H → va_S A s.heap H locs → W p l e R s m args below meth c H locs cells slots Z (F0 m 2 ls []) := by
    obtain ⟨G2, hG2⟩ : ∃ G : Int32 → Prop, ∀ (x2 : Int32), G x2 ↔ (∀ (ls : Array Slot) (H : Heap) (locs : List Loc), lv_has ls 3 [(0, .ref (mh E)), (1, .int x1), (2, .int x2)] → mW E M L H → va_S A s.heap H locs → W p l e R s m args below meth c H locs cells slots Z (F0 m 2 ls [])) := ⟨fun x2 => _, fun x2 => Iff.rfl⟩
    have hB2 : ∀ (rec2 : Int32 → Prop), (∀ (x2 : Int32), rec2 x2 → G2 x2) → ∀ (x2 : Int32), w_X3_placeOf_h2 Q x1 M rec2 x2 → G2 x2 := by
      intro rec2 hrec2
      intro x2 h
      rw [hG2]
      intro ls H locs hl hW hS
      refine lv_aload_n hx hb dX3_placeOf_2 rfl (lv_at hl 0 rfl) ?_
      refine mr_getA C hW 2 rfl rfl q1805 dX3_placeOf_3 ?_
      refine lv_bipush (v := 12) hx hb dX3_placeOf_6 (by decide) ?_
      refine lv_aload_n hx hb dX3_placeOf_8 rfl (lv_at hl 0 rfl) ?_
      refine mr_getA C hW 5 rfl rfl q1808 dX3_placeOf_9 ?_
      refine lv_iload_n hx hb dX3_placeOf_12 rfl (lv_at hl 1 rfl) ?_
      refine mr_iald C hW 5 rfl rfl rfl h dX3_placeOf_13 (fun v1 h => ?_)
      refine lv_imul hx hb dX3_placeOf_14 ?_
      refine lv_iload_n hx hb dX3_placeOf_15 rfl (lv_at hl 2 rfl) ?_
      refine lv_iadd hx hb dX3_placeOf_16 ?_
      refine mr_iald C hW 2 rfl rfl rfl h dX3_placeOf_17 (fun v2 h => ?_)
      refine lv_iload_n hx hb dX3_placeOf_18 rfl (lv_at hl 1 rfl) ?_
      refine lv_icmp_eq (tgt := 28) hx hb dX3_placeOf_19 (by decide) (fun c3 => ?_) (fun c3 => ?_)
      · have h := wif_t h c3
        refine lv_iload_n hx hb dX3_placeOf_28 rfl (lv_at hl 2 rfl) ?_
        exact hret _ _ _ _ _ dX3_placeOf_29 hS h
      · have h := wif_f h c3
        refine lv_iinc (v := x2 + (1 : Int32)) (lv' := [(2, .int (x2 + (1 : Int32))), (0, .ref (mh E)), (1, .int x1)]) hx hb dX3_placeOf_22 hl (k := 2) rfl (congrArg (fun z => x2 + z) (by decide)) (by decide) rfl (fun ls hl => ?_)
        refine lv_goto (tgt := 2) hx hb dX3_placeOf_25 (by decide) ?_
        exact (hG2 _).mp (hrec2 _ h) ls H locs (lv_sub hl [1, 2, 0] rfl) hW hS
    intro x2 h
    exact (hG2 x2).mp (loop_walk (fun s => G2 s) (fun rec hrec s h => hB2 (fun x2 => rec x2) (fun x2 h => hrec x2 h) s h) x2 h)
  intro h
  intro ls H locs hl hW hS
  refine lv_iconst (v := 0) hx hb dX3_placeOf_0 (by decide) ?_
  refine lv_istore_n (lv' := [(2, .int (0 : Int32)), (0, .ref (mh E)), (1, .int x1)]) hx hb dX3_placeOf_1 rfl hl (by decide) rfl (fun ls hl => ?_)
  exact hL2 _ h ls H locs (lv_sub hl [1, 2, 0] rfl) hW hS
theorem ct_X3_placeOf (l : Launch) : CT_X3_placeOf l 0 0 w_X3_placeOf := by
  intro E M L sz Q x1
  refine Met.ofW (cc := cX3_placeOf) (maxL := 3) (ret := (some .int)) (by decide) rfl ?_
  intro p e s m args below meth c s₁ B hml hv
  obtain ⟨rfl, hsz, hW, hK, h⟩ := hv
  subst hsz
  have hts := atoms_spec (ws := ws_ yX3_placeOf cX3_placeOf 3 (some .int)) B.pre
  have hts : ∀ w ∈ lw_all, w.before _ s = true := fun w h => hts w (List.mem_cons_of_mem _ h)
  have hl := lv_entry ([.ref (mh E), .int x1]) (n := 3) (Nat.le_of_ble_eq_true rfl)
  rw [lg_entry_eq]
  generalize (lg_sl ([.ref (mh E), .int x1]) ++ List.replicate (3 - (lg_sl ([.ref (mh E), .int x1])).length) Slot.unset).toArray = ls at hl ⊢
  exact wk_X3_placeOf Q ⟨⟨B.exec, B.bytes, hml, findClass_of_methodNamed B.named, hts⟩, hK⟩ (fun q h => h) (Nat.le_refl _) (Nat.le_refl _) ⟨Nat.le_refl _, Nat.le_refl _⟩ M L (fun v pc ls H locs hd hS hQ => W.iret (v := v) B.exec B.bytes B.returns (fun t ht _ => ⟨⟨v, (), rfl, hQ, trivial⟩, hS.F ht⟩) hS.2.2 hd) x1 h ls _ [] hl hW va_S.rf
def CT_X3_takeOut (l : Launch) (fr lo : Nat) (w : (MM → Prop) → Int32 → MM → Prop) : Prop := ∀ (E : mE) (M : MM) (L : ML) (sz : Nat) (Q : MM → Prop) (x1 : Int32), Met l yX3_takeOut (ws_ yX3_takeOut cX3_takeOut 4 none) { frames := fr, cells := 0, slots := 0, locals := lo } (va_Pc [.ref (mh E), .int x1] (fun U => U.heap.size = sz ∧ mW E M L U.heap ∧ mK E U ∧ w Q x1 M)) (va_Qv (fun (u : MM × ML) => u.2 = L ∧ Q u.1) (fun u t => mW E u.1 u.2 t.heap) (mA E sz)) 0 0 (mA E sz)
theorem call_X3_takeOut {p : Program} {l : Launch} {e : Env} {R : Room} {s : State} {m : MethodId} {args : Array Value} {below : List Frame} {meth : Method} {c : Code} {H : Heap} {locs : List Loc} {cells slots : Nat} {Z : State → Prop} {A : Nat → Prop} {cc : ByteArray} {nL pc : Nat} {ls : Array Slot} {rest : List Value} {own : String} {index fr lo : Nat} {w : (MM → Prop) → Int32 → MM → Prop} {E : mE} {M : MM} {L : ML} {x1 : Int32} (hM : CT_X3_takeOut l fr lo w) (S : CallFix p m c cc nL s args lw_all own) (hK : mK E s) (hW : mW E M L H) (hS : va_S A s.heap H locs) (hA : ∀ q, s.heap.size ≤ q → A q) (hAw : ∀ q, mAd E q → A q) (hlink : Cond.methodLink own index yX3_takeOut ∈ lw_all) (hRf : fr + 1 ≤ R.frames) (hRl : 8 + (4 + 11) + lo ≤ R.locals) (hcs : cells ≤ R.cells ∧ slots ≤ R.slots) (hz : ls.size = nL) (hr8 : (rest.map fun v => v.category).sum ≤ 8) (hdg : decode cc pc = .ok (.invokevirtual index, 3)) {Q1 : MM → Prop} (h : w Q1 x1 M) (kk : ∀ (M1 : MM) (H1 : Heap) (locs1 : List Loc), Q1 M1 → mW E M1 L H1 → va_S A s.heap H1 locs1 → (∀ q : Nat, q < H.size → ¬ mAd E q → H1[q]? = H[q]?) → W p l e R s m args below meth c H1 locs1 cells slots Z (F0 m (pc + 3) ls (rest))) : W p l e R s m args below meth c H locs cells slots Z (F0 m pc ls (.int x1 :: .ref (mh E) :: rest)) := by
  refine mw_v (sz := 0) (P := fun M1 L1 => L1 = L ∧ Q1 M1) (va_runV (As := [.int x1]) (rest := rest) S (hM E M L H.size Q1 x1) (cwV 1 S.2.2.2.2 (lw_V hlink q1964 qs25 q68 q1965) rfl rfl rfl (by decide +kernel) ⟨hRf, hRl⟩) ⟨fun a U g mk q => by obtain ⟨q0, q1, qW, qK, qw⟩ := q; exact ⟨q0, q1, qW, qK.moved (u := U) (U := U.calling g mk a) (Vm.Alike.refl U.vm), qw⟩, hW.recv (hK := hK), fun U hU hWm => ⟨rfl, by rw [hU], by rw [hU]; exact hW, hK.moved hWm.alike, h⟩⟩ rfl rfl hz rfl (lv_room hr8) hdg hcs) hS hA hAw (fun M1 L1 H1 locs1 hp hW1 hz hk hS1 => ?_)
  obtain ⟨rfl, hp⟩ := hp
  exact kk M1 H1 locs1 hp hW1 hS1 hk
def w_X3_takeOut_h13 (Q : MM → Prop) (x2 : Int32) (rec13 : Int32 → MM → Prop) (x3 : Int32) (M : MM) : Prop := mRd (M 3) 4 x2 (fun v1 => if (v1 - (1 : Int32)) ≤ x3 then (mRd (M 3) 4 x2 (fun v2 => mWr M 3 4 x2 (v2 - (1 : Int32)) (fun M3 => Q M3))) else (mRd (M 2) 48 ((((12 : Int32) * x2) + x3) + (1 : Int32)) (fun v4 => mWr M 2 48 (((12 : Int32) * x2) + x3) v4 (fun M5 => rec13 (x3 + (1 : Int32)) M5))))
def w_X3_takeOut_L13 (Q : MM → Prop) (x2 : Int32) (x3 : Int32) (M : MM) : Prop := wLoop (fun (rec : (Int32 × MM) → Prop) (s : Int32 × MM) => w_X3_takeOut_h13 Q x2 (fun x3 M => rec (x3, M)) s.1 s.2) (x3, M)
def w_X3_takeOut (Q : MM → Prop) (x1 : Int32) (M : MM) : Prop := mRd (M 5) 12 x1 (fun v7 => w_X3_placeOf (fun r8 => w_X3_takeOut_L13 Q v7 r8 M) x1 M)
set_option maxRecDepth 100000 in
set_option maxHeartbeats 4000000 in
theorem wk_X3_takeOut {p : Program} {l : Launch} {e : Env} {R : Room} {s : State} {m : MethodId} {args : Array Value} {below : List Frame} {meth : Method} {c : Code} {cells slots : Nat} {Z : State → Prop} {A : Nat → Prop} {E : mE} (Q : MM → Prop) (C : mC p m c s args cX3_takeOut 4 E) (hA : ∀ q, s.heap.size ≤ q → A q) (hAw : ∀ q, mAd E q → A q) (hRf : 1 ≤ R.frames) (hRl : 22 ≤ R.locals) (hcs : cells ≤ R.cells ∧ slots ≤ R.slots) (M : MM) (L : ML) (hret : ∀ (M : MM) (pc : Nat) (ls : Array Slot) (H : Heap) (locs : List Loc), decode cX3_takeOut pc = .ok (.return_, 1) → va_S A s.heap H locs → mW E M L H → Q M → W p l e R s m args below meth c H locs cells slots Z (F0 m pc ls [])) (x1 : Int32) : w_X3_takeOut Q x1 M → ∀ (ls : Array Slot) (H : Heap) (locs : List Loc), lv_has ls 4 [(0, .ref (mh E)), (1, .int x1)] → mW E M L H → va_S A s.heap H locs → W p l e R s m args below meth c H locs cells slots Z (F0 m 0 ls []) := by
  obtain ⟨⟨hx, hb, hml, hown, hts⟩, hK⟩ := C; have C : mC p m c s args cX3_takeOut 4 E := ⟨⟨hx, hb, hml, hown, hts⟩, hK⟩
  have hL13 : ∀ (x2 : Int32) (x3 : Int32) (M : MM), w_X3_takeOut_L13 Q x2 x3 M → ∀ (ls : Array Slot) (H : Heap) (locs : List Loc), lv_has ls 4 [(0, .ref (mh E)), (2, .int x2), (3, .int x3)] → mW E M L H → va_S A s.heap H locs → W p l e R s m args below meth c H locs cells slots Z (F0 m 13 ls []) := by
    intro x2
    obtain ⟨G13, hG13⟩ : ∃ G : Int32 → MM → Prop, ∀ (x3 : Int32) (M : MM), G x3 M ↔ (∀ (ls : Array Slot) (H : Heap) (locs : List Loc), lv_has ls 4 [(0, .ref (mh E)), (2, .int x2), (3, .int x3)] → mW E M L H → va_S A s.heap H locs → W p l e R s m args below meth c H locs cells slots Z (F0 m 13 ls [])) := ⟨fun x3 M => _, fun x3 M => Iff.rfl⟩
    have hB13 : ∀ (rec13 : Int32 → MM → Prop), (∀ (x3 : Int32) (M : MM), rec13 x3 M → G13 x3 M) → ∀ (x3 : Int32) (M : MM), w_X3_takeOut_h13 Q x2 rec13 x3 M → G13 x3 M := by
      intro rec13 hrec13
      intro x3 M h
      rw [hG13]
      intro ls H locs hl hW hS
      refine lv_iload_n hx hb dX3_takeOut_13 rfl (lv_at hl 2 rfl) ?_
      refine lv_aload_n hx hb dX3_takeOut_14 rfl (lv_at hl 0 rfl) ?_
      refine mr_getA C hW 3 rfl rfl q1806 dX3_takeOut_15 ?_
      refine lv_iload_n hx hb dX3_takeOut_18 rfl (lv_at hl 1 rfl) ?_
      refine mr_iald C hW 3 rfl rfl rfl h dX3_takeOut_19 (fun v1 h => ?_)
      refine lv_iconst (v := 1) hx hb dX3_takeOut_20 (by decide) ?_
      refine lv_isub hx hb dX3_takeOut_21 ?_
      refine lv_icmp_ge (tgt := 55) hx hb dX3_takeOut_22 (by decide) (fun c6 => ?_) (fun c6 => ?_)
      · have h := wif_t h c6
        refine lv_aload_n hx hb dX3_takeOut_55 rfl (lv_at hl 0 rfl) ?_
        refine mr_getA C hW 3 rfl rfl q1806 dX3_takeOut_56 ?_
        refine lv_iload_n hx hb dX3_takeOut_59 rfl (lv_at hl 1 rfl) ?_
        refine lv_dup2_11 hx hb dX3_takeOut_60 rfl rfl ?_
        refine mr_iald C hW 3 rfl rfl rfl h dX3_takeOut_61 (fun v2 h => ?_)
        refine lv_iconst (v := 1) hx hb dX3_takeOut_62 (by decide) ?_
        refine lv_isub hx hb dX3_takeOut_63 ?_
        refine mr_iast C hW hS hAw 3 rfl rfl rfl h dX3_takeOut_64 (fun M3 H locs hW hS h => ?_)
        exact hret _ _ _ _ _ dX3_takeOut_65 hS hW h
      · have h := wif_f h c6
        refine lv_aload_n hx hb dX3_takeOut_25 rfl (lv_at hl 0 rfl) ?_
        refine mr_getA C hW 2 rfl rfl q1805 dX3_takeOut_26 ?_
        refine lv_bipush (v := 12) hx hb dX3_takeOut_29 (by decide) ?_
        refine lv_iload_n hx hb dX3_takeOut_31 rfl (lv_at hl 1 rfl) ?_
        refine lv_imul hx hb dX3_takeOut_32 ?_
        refine lv_iload_n hx hb dX3_takeOut_33 rfl (lv_at hl 2 rfl) ?_
        refine lv_iadd hx hb dX3_takeOut_34 ?_
        refine lv_aload_n hx hb dX3_takeOut_35 rfl (lv_at hl 0 rfl) ?_
        refine mr_getA C hW 2 rfl rfl q1805 dX3_takeOut_36 ?_
        refine lv_bipush (v := 12) hx hb dX3_takeOut_39 (by decide) ?_
        refine lv_iload_n hx hb dX3_takeOut_41 rfl (lv_at hl 1 rfl) ?_
        refine lv_imul hx hb dX3_takeOut_42 ?_
        refine lv_iload_n hx hb dX3_takeOut_43 rfl (lv_at hl 2 rfl) ?_
        refine lv_iadd hx hb dX3_takeOut_44 ?_
        refine lv_iconst (v := 1) hx hb dX3_takeOut_45 (by decide) ?_
        refine lv_iadd hx hb dX3_takeOut_46 ?_
        refine mr_iald C hW 2 rfl rfl rfl h dX3_takeOut_47 (fun v4 h => ?_)
        refine mr_iast C hW hS hAw 2 rfl rfl rfl h dX3_takeOut_48 (fun M5 H locs hW hS h => ?_)
        refine lv_iinc (v := x3 + (1 : Int32)) (lv' := [(3, .int (x3 + (1 : Int32))), (0, .ref (mh E)), (2, .int x2)]) hx hb dX3_takeOut_49 hl (k := 2) rfl (congrArg (fun z => x3 + z) (by decide)) (by decide) rfl (fun ls hl => ?_)
        refine lv_goto (tgt := 13) hx hb dX3_takeOut_52 (by decide) ?_
        exact (hG13 _ _).mp (hrec13 _ _ h) ls H locs (lv_sub hl [1, 2, 0] rfl) hW hS
    intro x3 M h
    exact (hG13 x3 M).mp (loop_walk (fun s => G13 s.1 s.2) (fun rec hrec s h => hB13 (fun x3 M => rec (x3, M)) (fun x3 M h => hrec (x3, M) h) s.1 s.2 h) (x3, M) h)
  intro h
  intro ls H locs hl hW hS
  refine lv_aload_n hx hb dX3_takeOut_0 rfl (lv_at hl 0 rfl) ?_
  refine mr_getA C hW 5 rfl rfl q1808 dX3_takeOut_1 ?_
  refine lv_iload_n hx hb dX3_takeOut_4 rfl (lv_at hl 1 rfl) ?_
  refine mr_iald C hW 5 rfl rfl rfl h dX3_takeOut_5 (fun v7 h => ?_)
  refine lv_istore_n (lv' := [(2, .int v7), (0, .ref (mh E)), (1, .int x1)]) hx hb dX3_takeOut_6 rfl hl (by decide) rfl (fun ls hl => ?_)
  refine lv_aload_n hx hb dX3_takeOut_7 rfl (lv_at hl 1 rfl) ?_
  refine lv_iload_n hx hb dX3_takeOut_8 rfl (lv_at hl 2 rfl) ?_
  refine call_X3_placeOf (ct_X3_placeOf l) C.1 C.2 hW hS hA q1966 (le_lit hRf rfl) (le_lit hRl rfl) hcs hl.1 (Nat.le_of_ble_eq_true rfl) dX3_takeOut_9 h (fun r8 H locs h hk hS => ?_)
  have hW := hW.kept hk
  refine lv_istore_n (lv' := [(3, .int r8), (2, .int v7), (0, .ref (mh E)), (1, .int x1)]) hx hb dX3_takeOut_12 rfl hl (by decide) rfl (fun ls hl => ?_)
  exact hL13 _ _ _ h ls H locs (lv_sub hl [2, 1, 0] rfl) hW hS
theorem ct_X3_takeOut (l : Launch) : CT_X3_takeOut l 1 22 w_X3_takeOut := by
  intro E M L sz Q x1
  refine Met.ofW (cc := cX3_takeOut) (maxL := 4) (ret := none) (by decide) rfl ?_
  intro p e s m args below meth c s₁ B hml hv
  obtain ⟨rfl, hsz, hW, hK, h⟩ := hv
  subst hsz
  have hts := atoms_spec (ws := ws_ yX3_takeOut cX3_takeOut 4 none) B.pre
  have hts : ∀ w ∈ lw_all, w.before _ s = true := fun w h => hts w (List.mem_cons_of_mem _ h)
  have hl := lv_entry ([.ref (mh E), .int x1]) (n := 4) (Nat.le_of_ble_eq_true rfl)
  rw [lg_entry_eq]
  generalize (lg_sl ([.ref (mh E), .int x1]) ++ List.replicate (4 - (lg_sl ([.ref (mh E), .int x1])).length) Slot.unset).toArray = ls at hl ⊢
  exact wk_X3_takeOut Q ⟨⟨B.exec, B.bytes, hml, findClass_of_methodNamed B.named, hts⟩, hK⟩ (fun q h => Or.inr h) (fun q h => Or.inl h) (Nat.le_refl _) (Nat.le_refl _) ⟨Nat.le_refl _, Nat.le_refl _⟩ M L (fun M pc ls H locs hd hS hW1 hQ => W.vret B.exec B.bytes B.returns (fun t ht _ => ⟨⟨(M, L), rfl, ⟨rfl, hQ⟩, by rw [← ht] at hW1; exact hW1⟩, hS.F ht⟩) hS.2.2 hd) x1 h ls _ [] hl hW va_S.rf
def CT_X3_remove (l : Launch) (fr lo : Nat) (w : (Int32 → MM → Prop) → Int32 → MM → Prop) : Prop := ∀ (E : mE) (M : MM) (L : ML) (sz : Nat) (Q : Int32 → MM → Prop) (x1 : Int32), Met l yX3_remove (ws_ yX3_remove cX3_remove 3 (some .int)) { frames := fr, cells := 0, slots := 0, locals := lo } (va_Pc [.ref (mh E), .int x1] (fun U => U.heap.size = sz ∧ mW E M L U.heap ∧ mK E U ∧ w Q x1 M)) (va_Qi (fun r (u : MM × ML) => u.2 = L ∧ Q r u.1) (fun u t => mW E u.1 u.2 t.heap) (mA E sz)) 0 0 (mA E sz)
theorem call_X3_remove {p : Program} {l : Launch} {e : Env} {R : Room} {s : State} {m : MethodId} {args : Array Value} {below : List Frame} {meth : Method} {c : Code} {H : Heap} {locs : List Loc} {cells slots : Nat} {Z : State → Prop} {A : Nat → Prop} {cc : ByteArray} {nL pc : Nat} {ls : Array Slot} {rest : List Value} {own : String} {index fr lo : Nat} {w : (Int32 → MM → Prop) → Int32 → MM → Prop} {E : mE} {M : MM} {L : ML} {x1 : Int32} (hM : CT_X3_remove l fr lo w) (S : CallFix p m c cc nL s args lw_all own) (hK : mK E s) (hW : mW E M L H) (hS : va_S A s.heap H locs) (hA : ∀ q, s.heap.size ≤ q → A q) (hAw : ∀ q, mAd E q → A q) (hlink : Cond.methodLink own index yX3_remove ∈ lw_all) (hRf : fr + 1 ≤ R.frames) (hRl : 8 + (3 + 11) + lo ≤ R.locals) (hcs : cells ≤ R.cells ∧ slots ≤ R.slots) (hz : ls.size = nL) (hr8 : (rest.map fun v => v.category).sum ≤ 8) (hdg : decode cc pc = .ok (.invokevirtual index, 3)) {Q1 : Int32 → MM → Prop} (h : w Q1 x1 M) (kk : ∀ (r : Int32) (M1 : MM) (H1 : Heap) (locs1 : List Loc), Q1 r M1 → mW E M1 L H1 → va_S A s.heap H1 locs1 → (∀ q : Nat, q < H.size → ¬ mAd E q → H1[q]? = H[q]?) → W p l e R s m args below meth c H1 locs1 cells slots Z (F0 m (pc + 3) ls (.int r :: rest))) : W p l e R s m args below meth c H locs cells slots Z (F0 m pc ls (.int x1 :: .ref (mh E) :: rest)) := by
  refine mw_i (sz := 0) (P := fun r M1 L1 => L1 = L ∧ Q1 r M1) (va_runV (As := [.int x1]) (rest := rest) S (hM E M L H.size Q1 x1) (cwV 1 S.2.2.2.2 (lw_V hlink q1959 q1960 q68 q1961) rfl rfl rfl (by decide +kernel) ⟨hRf, hRl⟩) ⟨fun a U g mk q => by obtain ⟨q0, q1, qW, qK, qw⟩ := q; exact ⟨q0, q1, qW, qK.moved (u := U) (U := U.calling g mk a) (Vm.Alike.refl U.vm), qw⟩, hW.recv (hK := hK), fun U hU hWm => ⟨rfl, by rw [hU], by rw [hU]; exact hW, hK.moved hWm.alike, h⟩⟩ rfl rfl hz rfl (lv_room hr8) hdg hcs) hS hA hAw (fun r M1 L1 H1 locs1 hp hW1 hz hk hS1 => ?_)
  obtain ⟨rfl, hp⟩ := hp
  exact kk r M1 H1 locs1 hp hW1 hS1 hk
def w_X3_remove_89 (Q : Int32 → MM → Prop) (rec30 : Int32 → MM → Prop) (x1 : Int32) (x2 : Int32) (y0 : Int32) (y1 : Int32) (M : MM) : Prop := mWr M 10 12 y1 y0 (fun M1 => rec30 (x2 + (1 : Int32)) M1)
def w_X3_remove_63 (Q : Int32 → MM → Prop) (rec30 : Int32 → MM → Prop) (x1 : Int32) (x2 : Int32) (y0 : Int32) (y1 : Int32) (M : MM) : Prop := mWr M 9 12 y1 y0 (fun M2 => mRd (M2 10) 12 x2 (fun v3 => if v3 = x1 then (w_X3_remove_89 Q rec30 x1 x2 (-1 : Int32) x2 M2) else (mRd (M2 10) 12 x2 (fun v4 => w_X3_remove_89 Q rec30 x1 x2 v4 x2 M2))))
def w_X3_remove_h30 (Q : Int32 → MM → Prop) (x1 : Int32) (rec30 : Int32 → MM → Prop) (x2 : Int32) (M : MM) : Prop := if (M 15 0) ≤ x2 then (mRd (M 5) 12 x1 (fun v6 => mRd (M 3) 4 v6 (fun v7 => Q v7 M))) else (mRd (M 9) 12 x2 (fun v8 => if v8 = x1 then (w_X3_remove_63 Q rec30 x1 x2 (-1 : Int32) x2 M) else (mRd (M 9) 12 x2 (fun v9 => w_X3_remove_63 Q rec30 x1 x2 v9 x2 M))))
def w_X3_remove_L30 (Q : Int32 → MM → Prop) (x1 : Int32) (x2 : Int32) (M : MM) : Prop := wLoop (fun (rec : (Int32 × MM) → Prop) (s : Int32 × MM) => w_X3_remove_h30 Q x1 (fun x2 M => rec (x2, M)) s.1 s.2) (x2, M)
def w_X3_remove (Q : Int32 → MM → Prop) (x1 : Int32) (M : MM) : Prop := w_X3_isLayer (fun r12 => w_X3_check (fun r13 M14 => if r13 = 0 then (Q (0 : Int32) M14) else (w_X3_takeOut (fun M15 => mWr M15 14 12 x1 (zN (0 : Int32)) (fun M16 => w_X3_remove_L30 Q x1 (0 : Int32) M16)) x1 M14)) r12 (1 : Int32) (1 : Int32) M) x1 M
set_option maxRecDepth 100000 in
set_option maxHeartbeats 4000000 in
theorem wk_X3_remove {p : Program} {l : Launch} {e : Env} {R : Room} {s : State} {m : MethodId} {args : Array Value} {below : List Frame} {meth : Method} {c : Code} {cells slots : Nat} {Z : State → Prop} {A : Nat → Prop} {E : mE} (Q : Int32 → MM → Prop) (C : mC p m c s args cX3_remove 3 E) (hA : ∀ q, s.heap.size ≤ q → A q) (hAw : ∀ q, mAd E q → A q) (hRf : 2 ≤ R.frames) (hRl : 45 ≤ R.locals) (hcs : cells ≤ R.cells ∧ slots ≤ R.slots) (M : MM) (L : ML) (hret : ∀ (v : Int32) (M : MM) (pc : Nat) (ls : Array Slot) (H : Heap) (locs : List Loc), decode cX3_remove pc = .ok (.ireturn, 1) → va_S A s.heap H locs → mW E M L H → Q v M → W p l e R s m args below meth c H locs cells slots Z (F0 m pc ls [.int v])) (x1 : Int32) : w_X3_remove Q x1 M → ∀ (ls : Array Slot) (H : Heap) (locs : List Loc), lv_has ls 3 [(0, .ref (mh E)), (1, .int x1)] → mW E M L H → va_S A s.heap H locs → W p l e R s m args below meth c H locs cells slots Z (F0 m 0 ls []) := by
  obtain ⟨⟨hx, hb, hml, hown, hts⟩, hK⟩ := C; have C : mC p m c s args cX3_remove 3 E := ⟨⟨hx, hb, hml, hown, hts⟩, hK⟩
  have hL30 : ∀ (x2 : Int32) (M : MM), w_X3_remove_L30 Q x1 x2 M → ∀ (ls : Array Slot) (H : Heap) (locs : List Loc), lv_has ls 3 [(0, .ref (mh E)), (1, .int x1), (2, .int x2)] → mW E M L H → va_S A s.heap H locs → W p l e R s m args below meth c H locs cells slots Z (F0 m 30 ls []) := by
    obtain ⟨G30, hG30⟩ : ∃ G : Int32 → MM → Prop, ∀ (x2 : Int32) (M : MM), G x2 M ↔ (∀ (ls : Array Slot) (H : Heap) (locs : List Loc), lv_has ls 3 [(0, .ref (mh E)), (1, .int x1), (2, .int x2)] → mW E M L H → va_S A s.heap H locs → W p l e R s m args below meth c H locs cells slots Z (F0 m 30 ls [])) := ⟨fun x2 M => _, fun x2 M => Iff.rfl⟩
    have hB30 : ∀ (rec30 : Int32 → MM → Prop), (∀ (x2 : Int32) (M : MM), rec30 x2 M → G30 x2 M) → ∀ (x2 : Int32) (M : MM), w_X3_remove_h30 Q x1 rec30 x2 M → G30 x2 M := by
      intro rec30 hrec30
      have hb89 : ∀ (x2 : Int32) (y0 : Int32) (y1 : Int32) (M : MM), w_X3_remove_89 Q rec30 x1 x2 y0 y1 M → ∀ (ls : Array Slot) (H : Heap) (locs : List Loc), lv_has ls 3 [(0, .ref (mh E)), (1, .int x1), (2, .int x2)] → mW E M L H → va_S A s.heap H locs → W p l e R s m args below meth c H locs cells slots Z (F0 m 89 ls [.int y0, .int y1, .ref (ma E 10)]) := by
        intro x2 y0 y1 M h
        intro ls H locs hl hW hS
        refine mr_iast C hW hS hAw 10 rfl rfl rfl h dX3_remove_89 (fun M1 H locs hW hS h => ?_)
        refine lv_iinc (v := x2 + (1 : Int32)) (lv' := [(2, .int (x2 + (1 : Int32))), (0, .ref (mh E)), (1, .int x1)]) hx hb dX3_remove_90 hl (k := 2) rfl (congrArg (fun z => x2 + z) (by decide)) (by decide) rfl (fun ls hl => ?_)
        refine lv_goto (tgt := 30) hx hb dX3_remove_93 (by decide) ?_
        exact (hG30 _ _).mp (hrec30 _ _ h) ls H locs (lv_sub hl [1, 2, 0] rfl) hW hS
      have hb63 : ∀ (x2 : Int32) (y0 : Int32) (y1 : Int32) (M : MM), w_X3_remove_63 Q rec30 x1 x2 y0 y1 M → ∀ (ls : Array Slot) (H : Heap) (locs : List Loc), lv_has ls 3 [(0, .ref (mh E)), (1, .int x1), (2, .int x2)] → mW E M L H → va_S A s.heap H locs → W p l e R s m args below meth c H locs cells slots Z (F0 m 63 ls [.int y0, .int y1, .ref (ma E 9)]) := by
        intro x2 y0 y1 M h
        intro ls H locs hl hW hS
        refine mr_iast C hW hS hAw 9 rfl rfl rfl h dX3_remove_63 (fun M2 H locs hW hS h => ?_)
        refine lv_aload_n hx hb dX3_remove_64 rfl (lv_at hl 0 rfl) ?_
        refine mr_getA C hW 10 rfl rfl q1813 dX3_remove_65 ?_
        refine lv_iload_n hx hb dX3_remove_68 rfl (lv_at hl 2 rfl) ?_
        refine lv_aload_n hx hb dX3_remove_69 rfl (lv_at hl 0 rfl) ?_
        refine mr_getA C hW 10 rfl rfl q1813 dX3_remove_70 ?_
        refine lv_iload_n hx hb dX3_remove_73 rfl (lv_at hl 2 rfl) ?_
        refine mr_iald C hW 10 rfl rfl rfl h dX3_remove_74 (fun v3 h => ?_)
        refine lv_iload_n hx hb dX3_remove_75 rfl (lv_at hl 1 rfl) ?_
        refine lv_icmp_ne (tgt := 83) hx hb dX3_remove_76 (by decide) (fun c5 => ?_) (fun c5 => ?_)
        · have h := wif_f h c5
          refine lv_aload_n hx hb dX3_remove_83 rfl (lv_at hl 0 rfl) ?_
          refine mr_getA C hW 10 rfl rfl q1813 dX3_remove_84 ?_
          refine lv_iload_n hx hb dX3_remove_87 rfl (lv_at hl 2 rfl) ?_
          refine mr_iald C hW 10 rfl rfl rfl h dX3_remove_88 (fun v4 h => ?_)
          exact hb89 _ _ _ _ h ls H locs (lv_sub hl [0, 1, 2] rfl) hW hS
        · have h := wif_t h c5
          refine lv_iconst (v := -1) hx hb dX3_remove_79 (by decide) ?_
          refine lv_goto (tgt := 89) hx hb dX3_remove_80 (by decide) ?_
          exact hb89 _ _ _ _ h ls H locs (lv_sub hl [0, 1, 2] rfl) hW hS
      intro x2 M h
      rw [hG30]
      intro ls H locs hl hW hS
      refine lv_iload_n hx hb dX3_remove_30 rfl (lv_at hl 2 rfl) ?_
      refine lv_aload_n hx hb dX3_remove_31 rfl (lv_at hl 0 rfl) ?_
      refine mr_getI C hW 15 rfl rfl q1818 dX3_remove_32 ?_
      refine lv_icmp_ge (tgt := 96) hx hb dX3_remove_35 (by decide) (fun c11 => ?_) (fun c11 => ?_)
      · have h := wif_t h c11
        refine lv_aload_n hx hb dX3_remove_96 rfl (lv_at hl 0 rfl) ?_
        refine mr_getA C hW 3 rfl rfl q1806 dX3_remove_97 ?_
        refine lv_aload_n hx hb dX3_remove_100 rfl (lv_at hl 0 rfl) ?_
        refine mr_getA C hW 5 rfl rfl q1808 dX3_remove_101 ?_
        refine lv_iload_n hx hb dX3_remove_104 rfl (lv_at hl 1 rfl) ?_
        refine mr_iald C hW 5 rfl rfl rfl h dX3_remove_105 (fun v6 h => ?_)
        refine mr_iald C hW 3 rfl rfl rfl h dX3_remove_106 (fun v7 h => ?_)
        exact hret _ _ _ _ _ _ dX3_remove_107 hS hW h
      · have h := wif_f h c11
        refine lv_aload_n hx hb dX3_remove_38 rfl (lv_at hl 0 rfl) ?_
        refine mr_getA C hW 9 rfl rfl q1812 dX3_remove_39 ?_
        refine lv_iload_n hx hb dX3_remove_42 rfl (lv_at hl 2 rfl) ?_
        refine lv_aload_n hx hb dX3_remove_43 rfl (lv_at hl 0 rfl) ?_
        refine mr_getA C hW 9 rfl rfl q1812 dX3_remove_44 ?_
        refine lv_iload_n hx hb dX3_remove_47 rfl (lv_at hl 2 rfl) ?_
        refine mr_iald C hW 9 rfl rfl rfl h dX3_remove_48 (fun v8 h => ?_)
        refine lv_iload_n hx hb dX3_remove_49 rfl (lv_at hl 1 rfl) ?_
        refine lv_icmp_ne (tgt := 57) hx hb dX3_remove_50 (by decide) (fun c10 => ?_) (fun c10 => ?_)
        · have h := wif_f h c10
          refine lv_aload_n hx hb dX3_remove_57 rfl (lv_at hl 0 rfl) ?_
          refine mr_getA C hW 9 rfl rfl q1812 dX3_remove_58 ?_
          refine lv_iload_n hx hb dX3_remove_61 rfl (lv_at hl 2 rfl) ?_
          refine mr_iald C hW 9 rfl rfl rfl h dX3_remove_62 (fun v9 h => ?_)
          exact hb63 _ _ _ _ h ls H locs (lv_sub hl [0, 1, 2] rfl) hW hS
        · have h := wif_t h c10
          refine lv_iconst (v := -1) hx hb dX3_remove_53 (by decide) ?_
          refine lv_goto (tgt := 63) hx hb dX3_remove_54 (by decide) ?_
          exact hb63 _ _ _ _ h ls H locs (lv_sub hl [0, 1, 2] rfl) hW hS
    intro x2 M h
    exact (hG30 x2 M).mp (loop_walk (fun s => G30 s.1 s.2) (fun rec hrec s h => hB30 (fun x2 M => rec (x2, M)) (fun x2 M h => hrec (x2, M) h) s.1 s.2 h) (x2, M) h)
  intro h
  intro ls H locs hl hW hS
  refine lv_aload_n hx hb dX3_remove_0 rfl (lv_at hl 0 rfl) ?_
  refine lv_aload_n hx hb dX3_remove_1 rfl (lv_at hl 0 rfl) ?_
  refine lv_iload_n hx hb dX3_remove_2 rfl (lv_at hl 1 rfl) ?_
  refine call_X3_isLayer (ct_X3_isLayer l) C.1 C.2 hW hS hA q1938 (le_lit hRf rfl) (le_lit hRl rfl) hcs hl.1 (Nat.le_of_ble_eq_true rfl) dX3_remove_3 h (fun r12 H locs h hk hS => ?_)
  have hW := hW.kept hk
  refine lv_iconst (v := 1) hx hb dX3_remove_6 (by decide) ?_
  refine lv_iconst (v := 1) hx hb dX3_remove_7 (by decide) ?_
  refine call_X3_check (ct_X3_check l) C.1 C.2 hW hS hA hAw q1907 (le_lit hRf rfl) (le_lit hRl rfl) hcs hl.1 (Nat.le_of_ble_eq_true rfl) dX3_remove_8 h (fun r13 M14 H locs h hW hS _ => ?_)
  refine lv_if_ne (tgt := 16) hx hb dX3_remove_11 (by decide) (fun c17 => ?_) (fun c17 => ?_)
  · have h := wif_f h c17
    refine lv_aload_n hx hb dX3_remove_16 rfl (lv_at hl 0 rfl) ?_
    refine lv_iload_n hx hb dX3_remove_17 rfl (lv_at hl 1 rfl) ?_
    refine call_X3_takeOut (ct_X3_takeOut l) C.1 C.2 hW hS hA hAw q1962 (le_lit hRf rfl) (le_lit hRl rfl) hcs hl.1 (Nat.le_of_ble_eq_true rfl) dX3_remove_18 h (fun M15 H locs h hW hS _ => ?_)
    refine lv_aload_n hx hb dX3_remove_21 rfl (lv_at hl 0 rfl) ?_
    refine mr_getA C hW 14 rfl rfl q1817 dX3_remove_22 ?_
    refine lv_iload_n hx hb dX3_remove_25 rfl (lv_at hl 1 rfl) ?_
    refine lv_iconst (v := 0) hx hb dX3_remove_26 (by decide) ?_
    refine mr_zast C hW hS hAw 14 rfl rfl rfl h dX3_remove_27 (fun M16 H locs hW hS h => ?_)
    refine lv_iconst (v := 0) hx hb dX3_remove_28 (by decide) ?_
    refine lv_istore_n (lv' := [(2, .int (0 : Int32)), (0, .ref (mh E)), (1, .int x1)]) hx hb dX3_remove_29 rfl hl (by decide) rfl (fun ls hl => ?_)
    exact hL30 _ _ h ls H locs (lv_sub hl [1, 2, 0] rfl) hW hS
  · have h := wif_t h c17
    refine lv_iconst (v := 0) hx hb dX3_remove_14 (by decide) ?_
    exact hret _ _ _ _ _ _ dX3_remove_15 hS hW h
theorem ct_X3_remove (l : Launch) : CT_X3_remove l 2 45 w_X3_remove := by
  intro E M L sz Q x1
  refine Met.ofW (cc := cX3_remove) (maxL := 3) (ret := (some .int)) (by decide) rfl ?_
  intro p e s m args below meth c s₁ B hml hv
  obtain ⟨rfl, hsz, hW, hK, h⟩ := hv
  subst hsz
  have hts := atoms_spec (ws := ws_ yX3_remove cX3_remove 3 (some .int)) B.pre
  have hts : ∀ w ∈ lw_all, w.before _ s = true := fun w h => hts w (List.mem_cons_of_mem _ h)
  have hl := lv_entry ([.ref (mh E), .int x1]) (n := 3) (Nat.le_of_ble_eq_true rfl)
  rw [lg_entry_eq]
  generalize (lg_sl ([.ref (mh E), .int x1]) ++ List.replicate (3 - (lg_sl ([.ref (mh E), .int x1])).length) Slot.unset).toArray = ls at hl ⊢
  exact wk_X3_remove Q ⟨⟨B.exec, B.bytes, hml, findClass_of_methodNamed B.named, hts⟩, hK⟩ (fun q h => Or.inr h) (fun q h => Or.inl h) (Nat.le_refl _) (Nat.le_refl _) ⟨Nat.le_refl _, Nat.le_refl _⟩ M L (fun v M pc ls H locs hd hS hW1 hQ => W.iret (v := v) B.exec B.bytes B.returns (fun t ht _ => ⟨⟨v, (M, L), rfl, ⟨rfl, hQ⟩, by rw [← ht] at hW1; exact hW1⟩, hS.F ht⟩) hS.2.2 hd) x1 h ls _ [] hl hW va_S.rf
def CT_X3_order (l : Launch) (fr lo : Nat) (w : (Int32 → MM → Prop) → Int32 → Int32 → MM → Prop) : Prop := ∀ (E : mE) (M : MM) (L : ML) (sz : Nat) (Q : Int32 → MM → Prop) (x1 : Int32) (x2 : Int32), Met l yX3_order (ws_ yX3_order cX3_order 7 (some .int)) { frames := fr, cells := 0, slots := 0, locals := lo } (va_Pc [.ref (mh E), .int x1, .int x2] (fun U => U.heap.size = sz ∧ mW E M L U.heap ∧ mK E U ∧ w Q x1 x2 M)) (va_Qi (fun r (u : MM × ML) => u.2 = L ∧ Q r u.1) (fun u t => mW E u.1 u.2 t.heap) (mA E sz)) 0 0 (mA E sz)
theorem call_X3_order {p : Program} {l : Launch} {e : Env} {R : Room} {s : State} {m : MethodId} {args : Array Value} {below : List Frame} {meth : Method} {c : Code} {H : Heap} {locs : List Loc} {cells slots : Nat} {Z : State → Prop} {A : Nat → Prop} {cc : ByteArray} {nL pc : Nat} {ls : Array Slot} {rest : List Value} {own : String} {index fr lo : Nat} {w : (Int32 → MM → Prop) → Int32 → Int32 → MM → Prop} {E : mE} {M : MM} {L : ML} {x1 : Int32} {x2 : Int32} (hM : CT_X3_order l fr lo w) (S : CallFix p m c cc nL s args lw_all own) (hK : mK E s) (hW : mW E M L H) (hS : va_S A s.heap H locs) (hA : ∀ q, s.heap.size ≤ q → A q) (hAw : ∀ q, mAd E q → A q) (hlink : Cond.methodLink own index yX3_order ∈ lw_all) (hRf : fr + 1 ≤ R.frames) (hRl : 8 + (7 + 11) + lo ≤ R.locals) (hcs : cells ≤ R.cells ∧ slots ≤ R.slots) (hz : ls.size = nL) (hr8 : (rest.map fun v => v.category).sum ≤ 8) (hdg : decode cc pc = .ok (.invokevirtual index, 3)) {Q1 : Int32 → MM → Prop} (h : w Q1 x1 x2 M) (kk : ∀ (r : Int32) (M1 : MM) (H1 : Heap) (locs1 : List Loc), Q1 r M1 → mW E M1 L H1 → va_S A s.heap H1 locs1 → (∀ q : Nat, q < H.size → ¬ mAd E q → H1[q]? = H[q]?) → W p l e R s m args below meth c H1 locs1 cells slots Z (F0 m (pc + 3) ls (.int r :: rest))) : W p l e R s m args below meth c H locs cells slots Z (F0 m pc ls (.int x2 :: .int x1 :: .ref (mh E) :: rest)) := by
  refine mw_i (sz := 0) (P := fun r M1 L1 => L1 = L ∧ Q1 r M1) (va_runV (As := [.int x1, .int x2]) (rest := rest) S (hM E M L H.size Q1 x1 x2) (cwV 2 S.2.2.2.2 (lw_V hlink q1971 q1972 q68 q1973) rfl rfl rfl (by decide +kernel) ⟨hRf, hRl⟩) ⟨fun a U g mk q => by obtain ⟨q0, q1, qW, qK, qw⟩ := q; exact ⟨q0, q1, qW, qK.moved (u := U) (U := U.calling g mk a) (Vm.Alike.refl U.vm), qw⟩, hW.recv (hK := hK), fun U hU hWm => ⟨rfl, by rw [hU], by rw [hU]; exact hW, hK.moved hWm.alike, h⟩⟩ rfl rfl hz rfl (lv_room hr8) hdg hcs) hS hA hAw (fun r M1 L1 H1 locs1 hp hW1 hz hk hS1 => ?_)
  obtain ⟨rfl, hp⟩ := hp
  exact kk r M1 H1 locs1 hp hW1 hS1 hk
def w_X3_order_h76 (Q : Int32 → MM → Prop) (x1 : Int32) (x2 : Int32) (x4 : Int32) (x5 : Int32) (rec76 : Int32 → MM → Prop) (x6 : Int32) (M : MM) : Prop := if x6 ≤ x2 then (mWr M 2 48 (((12 : Int32) * x5) + x2) x1 (fun M1 => mRd (M1 3) 4 x5 (fun v2 => mWr M1 3 4 x5 (v2 + (1 : Int32)) (fun M3 => Q x4 M3)))) else (mRd (M 2) 48 ((((12 : Int32) * x5) + x6) - (1 : Int32)) (fun v4 => mWr M 2 48 (((12 : Int32) * x5) + x6) v4 (fun M5 => rec76 (x6 + (-1 : Int32)) M5)))
def w_X3_order_L76 (Q : Int32 → MM → Prop) (x1 : Int32) (x2 : Int32) (x4 : Int32) (x5 : Int32) (x6 : Int32) (M : MM) : Prop := wLoop (fun (rec : (Int32 × MM) → Prop) (s : Int32 × MM) => w_X3_order_h76 Q x1 x2 x4 x5 (fun x6 M => rec (x6, M)) s.1 s.2) (x6, M)
def w_X3_order_38 (Q : Int32 → MM → Prop) (x1 : Int32) (x2 : Int32) (y0 : Int32) (y1 : Int32) (M : MM) : Prop := w_X3_check (fun r7 M8 => if r7 = 0 then (Q (0 : Int32) M8) else (w_X3_placeOf (fun r9 => mRd (M8 5) 12 x1 (fun v10 => w_X3_takeOut (fun M11 => mRd (M11 3) 4 v10 (fun v12 => w_X3_order_L76 Q x1 x2 r9 v10 v12 M11)) x1 M8)) x1 M8)) y1 y0 (1 : Int32) M
def w_X3_order_37 (Q : Int32 → MM → Prop) (x1 : Int32) (x2 : Int32) (y0 : Int32) (M : MM) : Prop := w_X3_order_38 Q x1 x2 (0 : Int32) y0 M
def w_X3_order (Q : Int32 → MM → Prop) (x1 : Int32) (x2 : Int32) (M : MM) : Prop := w_X3_isLayer (fun r14 => if r14 = 0 then (w_X3_order_37 Q x1 x2 r14 M) else (mRd (M 5) 12 x1 (fun v15 => mRd (M 3) 4 v15 (fun v16 => w_X3_isWithin (fun r17 => if r17 = 0 then (w_X3_order_37 Q x1 x2 r14 M) else (w_X3_order_38 Q x1 x2 (1 : Int32) r14 M)) x2 (0 : Int32) (v16 - (1 : Int32)))))) x1 M
set_option maxRecDepth 100000 in
set_option maxHeartbeats 4000000 in
theorem wk_X3_order {p : Program} {l : Launch} {e : Env} {R : Room} {s : State} {m : MethodId} {args : Array Value} {below : List Frame} {meth : Method} {c : Code} {cells slots : Nat} {Z : State → Prop} {A : Nat → Prop} {E : mE} (Q : Int32 → MM → Prop) (C : mC p m c s args cX3_order 7 E) (hA : ∀ q, s.heap.size ≤ q → A q) (hAw : ∀ q, mAd E q → A q) (hRf : 2 ≤ R.frames) (hRl : 45 ≤ R.locals) (hcs : cells ≤ R.cells ∧ slots ≤ R.slots) (M : MM) (L : ML) (hret : ∀ (v : Int32) (M : MM) (pc : Nat) (ls : Array Slot) (H : Heap) (locs : List Loc), decode cX3_order pc = .ok (.ireturn, 1) → va_S A s.heap H locs → mW E M L H → Q v M → W p l e R s m args below meth c H locs cells slots Z (F0 m pc ls [.int v])) (x1 : Int32) (x2 : Int32) : w_X3_order Q x1 x2 M → ∀ (ls : Array Slot) (H : Heap) (locs : List Loc), lv_has ls 7 [(0, .ref (mh E)), (1, .int x1), (2, .int x2)] → mW E M L H → va_S A s.heap H locs → W p l e R s m args below meth c H locs cells slots Z (F0 m 0 ls []) := by
  obtain ⟨⟨hx, hb, hml, hown, hts⟩, hK⟩ := C; have C : mC p m c s args cX3_order 7 E := ⟨⟨hx, hb, hml, hown, hts⟩, hK⟩
  have hL76 : ∀ (x4 : Int32) (x5 : Int32) (x6 : Int32) (M : MM), w_X3_order_L76 Q x1 x2 x4 x5 x6 M → ∀ (ls : Array Slot) (H : Heap) (locs : List Loc), lv_has ls 7 [(0, .ref (mh E)), (1, .int x1), (2, .int x2), (4, .int x4), (5, .int x5), (6, .int x6)] → mW E M L H → va_S A s.heap H locs → W p l e R s m args below meth c H locs cells slots Z (F0 m 76 ls []) := by
    intro x4 x5
    obtain ⟨G76, hG76⟩ : ∃ G : Int32 → MM → Prop, ∀ (x6 : Int32) (M : MM), G x6 M ↔ (∀ (ls : Array Slot) (H : Heap) (locs : List Loc), lv_has ls 7 [(0, .ref (mh E)), (1, .int x1), (2, .int x2), (4, .int x4), (5, .int x5), (6, .int x6)] → mW E M L H → va_S A s.heap H locs → W p l e R s m args below meth c H locs cells slots Z (F0 m 76 ls [])) := ⟨fun x6 M => _, fun x6 M => Iff.rfl⟩
    have hB76 : ∀ (rec76 : Int32 → MM → Prop), (∀ (x6 : Int32) (M : MM), rec76 x6 M → G76 x6 M) → ∀ (x6 : Int32) (M : MM), w_X3_order_h76 Q x1 x2 x4 x5 rec76 x6 M → G76 x6 M := by
      intro rec76 hrec76
      intro x6 M h
      rw [hG76]
      intro ls H locs hl hW hS
      refine lv_iload hx hb dX3_order_76 (lv_at hl 5 rfl) ?_
      refine lv_iload_n hx hb dX3_order_78 rfl (lv_at hl 2 rfl) ?_
      refine lv_icmp_le (tgt := 116) hx hb dX3_order_79 (by decide) (fun c6 => ?_) (fun c6 => ?_)
      · have h := wif_t h c6
        refine lv_aload_n hx hb dX3_order_116 rfl (lv_at hl 0 rfl) ?_
        refine mr_getA C hW 2 rfl rfl q1805 dX3_order_117 ?_
        refine lv_bipush (v := 12) hx hb dX3_order_120 (by decide) ?_
        refine lv_iload hx hb dX3_order_122 (lv_at hl 4 rfl) ?_
        refine lv_imul hx hb dX3_order_124 ?_
        refine lv_iload_n hx hb dX3_order_125 rfl (lv_at hl 2 rfl) ?_
        refine lv_iadd hx hb dX3_order_126 ?_
        refine lv_iload_n hx hb dX3_order_127 rfl (lv_at hl 1 rfl) ?_
        refine mr_iast C hW hS hAw 2 rfl rfl rfl h dX3_order_128 (fun M1 H locs hW hS h => ?_)
        refine lv_aload_n hx hb dX3_order_129 rfl (lv_at hl 0 rfl) ?_
        refine mr_getA C hW 3 rfl rfl q1806 dX3_order_130 ?_
        refine lv_iload hx hb dX3_order_133 (lv_at hl 4 rfl) ?_
        refine lv_dup2_11 hx hb dX3_order_135 rfl rfl ?_
        refine mr_iald C hW 3 rfl rfl rfl h dX3_order_136 (fun v2 h => ?_)
        refine lv_iconst (v := 1) hx hb dX3_order_137 (by decide) ?_
        refine lv_iadd hx hb dX3_order_138 ?_
        refine mr_iast C hW hS hAw 3 rfl rfl rfl h dX3_order_139 (fun M3 H locs hW hS h => ?_)
        refine lv_iload hx hb dX3_order_140 (lv_at hl 3 rfl) ?_
        exact hret _ _ _ _ _ _ dX3_order_142 hS hW h
      · have h := wif_f h c6
        refine lv_aload_n hx hb dX3_order_82 rfl (lv_at hl 0 rfl) ?_
        refine mr_getA C hW 2 rfl rfl q1805 dX3_order_83 ?_
        refine lv_bipush (v := 12) hx hb dX3_order_86 (by decide) ?_
        refine lv_iload hx hb dX3_order_88 (lv_at hl 4 rfl) ?_
        refine lv_imul hx hb dX3_order_90 ?_
        refine lv_iload hx hb dX3_order_91 (lv_at hl 5 rfl) ?_
        refine lv_iadd hx hb dX3_order_93 ?_
        refine lv_aload_n hx hb dX3_order_94 rfl (lv_at hl 0 rfl) ?_
        refine mr_getA C hW 2 rfl rfl q1805 dX3_order_95 ?_
        refine lv_bipush (v := 12) hx hb dX3_order_98 (by decide) ?_
        refine lv_iload hx hb dX3_order_100 (lv_at hl 4 rfl) ?_
        refine lv_imul hx hb dX3_order_102 ?_
        refine lv_iload hx hb dX3_order_103 (lv_at hl 5 rfl) ?_
        refine lv_iadd hx hb dX3_order_105 ?_
        refine lv_iconst (v := 1) hx hb dX3_order_106 (by decide) ?_
        refine lv_isub hx hb dX3_order_107 ?_
        refine mr_iald C hW 2 rfl rfl rfl h dX3_order_108 (fun v4 h => ?_)
        refine mr_iast C hW hS hAw 2 rfl rfl rfl h dX3_order_109 (fun M5 H locs hW hS h => ?_)
        refine lv_iinc (v := x6 + (-1 : Int32)) (lv' := [(6, .int (x6 + (-1 : Int32))), (0, .ref (mh E)), (1, .int x1), (2, .int x2), (4, .int x4), (5, .int x5)]) hx hb dX3_order_110 hl (k := 5) rfl (congrArg (fun z => x6 + z) (by decide)) (by decide) rfl (fun ls hl => ?_)
        refine lv_goto (tgt := 76) hx hb dX3_order_113 (by decide) ?_
        exact (hG76 _ _).mp (hrec76 _ _ h) ls H locs (lv_sub hl [1, 2, 3, 4, 5, 0] rfl) hW hS
    intro x6 M h
    exact (hG76 x6 M).mp (loop_walk (fun s => G76 s.1 s.2) (fun rec hrec s h => hB76 (fun x6 M => rec (x6, M)) (fun x6 M h => hrec (x6, M) h) s.1 s.2 h) (x6, M) h)
  have hb38 : ∀ (y0 : Int32) (y1 : Int32) (M : MM), w_X3_order_38 Q x1 x2 y0 y1 M → ∀ (ls : Array Slot) (H : Heap) (locs : List Loc), lv_has ls 7 [(0, .ref (mh E)), (1, .int x1), (2, .int x2)] → mW E M L H → va_S A s.heap H locs → W p l e R s m args below meth c H locs cells slots Z (F0 m 38 ls [.int y0, .int y1, .ref (mh E)]) := by
    intro y0 y1 M h
    intro ls H locs hl hW hS
    refine lv_iconst (v := 1) hx hb dX3_order_38 (by decide) ?_
    refine call_X3_check (ct_X3_check l) C.1 C.2 hW hS hA hAw q1907 (le_lit hRf rfl) (le_lit hRl rfl) hcs hl.1 (Nat.le_of_ble_eq_true rfl) dX3_order_39 h (fun r7 M8 H locs h hW hS _ => ?_)
    refine lv_if_ne (tgt := 47) hx hb dX3_order_42 (by decide) (fun c13 => ?_) (fun c13 => ?_)
    · have h := wif_f h c13
      refine lv_aload_n hx hb dX3_order_47 rfl (lv_at hl 0 rfl) ?_
      refine lv_iload_n hx hb dX3_order_48 rfl (lv_at hl 1 rfl) ?_
      refine call_X3_placeOf (ct_X3_placeOf l) C.1 C.2 hW hS hA q1966 (le_lit hRf rfl) (le_lit hRl rfl) hcs hl.1 (Nat.le_of_ble_eq_true rfl) dX3_order_49 h (fun r9 H locs h hk hS => ?_)
      have hW := hW.kept hk
      refine lv_istore (lv' := [(4, .int r9), (0, .ref (mh E)), (1, .int x1), (2, .int x2)]) hx hb dX3_order_52 hl (by decide) rfl (fun ls hl => ?_)
      refine lv_aload_n hx hb dX3_order_54 rfl (lv_at hl 1 rfl) ?_
      refine mr_getA C hW 5 rfl rfl q1808 dX3_order_55 ?_
      refine lv_iload_n hx hb dX3_order_58 rfl (lv_at hl 2 rfl) ?_
      refine mr_iald C hW 5 rfl rfl rfl h dX3_order_59 (fun v10 h => ?_)
      refine lv_istore (lv' := [(5, .int v10), (4, .int r9), (0, .ref (mh E)), (1, .int x1), (2, .int x2)]) hx hb dX3_order_60 hl (by decide) rfl (fun ls hl => ?_)
      refine lv_aload_n hx hb dX3_order_62 rfl (lv_at hl 2 rfl) ?_
      refine lv_iload_n hx hb dX3_order_63 rfl (lv_at hl 3 rfl) ?_
      refine call_X3_takeOut (ct_X3_takeOut l) C.1 C.2 hW hS hA hAw q1962 (le_lit hRf rfl) (le_lit hRl rfl) hcs hl.1 (Nat.le_of_ble_eq_true rfl) dX3_order_64 h (fun M11 H locs h hW hS _ => ?_)
      refine lv_aload_n hx hb dX3_order_67 rfl (lv_at hl 2 rfl) ?_
      refine mr_getA C hW 3 rfl rfl q1806 dX3_order_68 ?_
      refine lv_iload hx hb dX3_order_71 (lv_at hl 0 rfl) ?_
      refine mr_iald C hW 3 rfl rfl rfl h dX3_order_73 (fun v12 h => ?_)
      refine lv_istore (lv' := [(6, .int v12), (5, .int v10), (4, .int r9), (0, .ref (mh E)), (1, .int x1), (2, .int x2)]) hx hb dX3_order_74 hl (by decide) rfl (fun ls hl => ?_)
      exact hL76 _ _ _ _ h ls H locs (lv_sub hl [3, 4, 5, 2, 1, 0] rfl) hW hS
    · have h := wif_t h c13
      refine lv_iconst (v := 0) hx hb dX3_order_45 (by decide) ?_
      exact hret _ _ _ _ _ _ dX3_order_46 hS hW h
  have hb37 : ∀ (y0 : Int32) (M : MM), w_X3_order_37 Q x1 x2 y0 M → ∀ (ls : Array Slot) (H : Heap) (locs : List Loc), lv_has ls 7 [(0, .ref (mh E)), (1, .int x1), (2, .int x2)] → mW E M L H → va_S A s.heap H locs → W p l e R s m args below meth c H locs cells slots Z (F0 m 37 ls [.int y0, .ref (mh E)]) := by
    intro y0 M h
    intro ls H locs hl hW hS
    refine lv_iconst (v := 0) hx hb dX3_order_37 (by decide) ?_
    exact hb38 _ _ _ h ls H locs (lv_sub hl [0, 1, 2] rfl) hW hS
  intro h
  intro ls H locs hl hW hS
  refine lv_aload_n hx hb dX3_order_0 rfl (lv_at hl 0 rfl) ?_
  refine lv_iload_n hx hb dX3_order_1 rfl (lv_at hl 1 rfl) ?_
  refine call_X3_isLayer (ct_X3_isLayer l) C.1 C.2 hW hS hA q1938 (le_lit hRf rfl) (le_lit hRl rfl) hcs hl.1 (Nat.le_of_ble_eq_true rfl) dX3_order_2 h (fun r14 H locs h hk hS => ?_)
  have hW := hW.kept hk
  refine lv_istore_n (lv' := [(3, .int r14), (0, .ref (mh E)), (1, .int x1), (2, .int x2)]) hx hb dX3_order_5 rfl hl (by decide) rfl (fun ls hl => ?_)
  refine lv_aload_n hx hb dX3_order_6 rfl (lv_at hl 1 rfl) ?_
  refine lv_iload_n hx hb dX3_order_7 rfl (lv_at hl 0 rfl) ?_
  refine lv_iload_n hx hb dX3_order_8 rfl (lv_at hl 0 rfl) ?_
  refine lv_if_eq (tgt := 37) hx hb dX3_order_9 (by decide) (fun c19 => ?_) (fun c19 => ?_)
  · have h := wif_t h c19
    exact hb37 _ _ h ls H locs (lv_sub hl [1, 2, 3] rfl) hW hS
  · have h := wif_f h c19
    refine lv_iload_n hx hb dX3_order_12 rfl (lv_at hl 3 rfl) ?_
    refine lv_iconst (v := 0) hx hb dX3_order_13 (by decide) ?_
    refine lv_aload_n hx hb dX3_order_14 rfl (lv_at hl 1 rfl) ?_
    refine mr_getA C hW 3 rfl rfl q1806 dX3_order_15 ?_
    refine lv_aload_n hx hb dX3_order_18 rfl (lv_at hl 1 rfl) ?_
    refine mr_getA C hW 5 rfl rfl q1808 dX3_order_19 ?_
    refine lv_iload_n hx hb dX3_order_22 rfl (lv_at hl 2 rfl) ?_
    refine mr_iald C hW 5 rfl rfl rfl h dX3_order_23 (fun v15 h => ?_)
    refine mr_iald C hW 3 rfl rfl rfl h dX3_order_24 (fun v16 h => ?_)
    refine lv_iconst (v := 1) hx hb dX3_order_25 (by decide) ?_
    refine lv_isub hx hb dX3_order_26 ?_
    refine call_X3_isWithin (ct_X3_isWithin l) C.1 hS hA q1915 (le_lit hRf rfl) (le_lit hRl rfl) hcs hl.1 (Nat.le_of_ble_eq_true rfl) dX3_order_27 h (fun r17 H locs h hk hS => ?_)
    have hW := hW.kept hk
    refine lv_if_eq (tgt := 37) hx hb dX3_order_30 (by decide) (fun c18 => ?_) (fun c18 => ?_)
    · have h := wif_t h c18
      exact hb37 _ _ h ls H locs (lv_sub hl [1, 2, 3] rfl) hW hS
    · have h := wif_f h c18
      refine lv_iconst (v := 1) hx hb dX3_order_33 (by decide) ?_
      refine lv_goto (tgt := 38) hx hb dX3_order_34 (by decide) ?_
      exact hb38 _ _ _ h ls H locs (lv_sub hl [1, 2, 3] rfl) hW hS
theorem ct_X3_order (l : Launch) : CT_X3_order l 2 45 w_X3_order := by
  intro E M L sz Q x1 x2
  refine Met.ofW (cc := cX3_order) (maxL := 7) (ret := (some .int)) (by decide) rfl ?_
  intro p e s m args below meth c s₁ B hml hv
  obtain ⟨rfl, hsz, hW, hK, h⟩ := hv
  subst hsz
  have hts := atoms_spec (ws := ws_ yX3_order cX3_order 7 (some .int)) B.pre
  have hts : ∀ w ∈ lw_all, w.before _ s = true := fun w h => hts w (List.mem_cons_of_mem _ h)
  have hl := lv_entry ([.ref (mh E), .int x1, .int x2]) (n := 7) (Nat.le_of_ble_eq_true rfl)
  rw [lg_entry_eq]
  generalize (lg_sl ([.ref (mh E), .int x1, .int x2]) ++ List.replicate (7 - (lg_sl ([.ref (mh E), .int x1, .int x2])).length) Slot.unset).toArray = ls at hl ⊢
  exact wk_X3_order Q ⟨⟨B.exec, B.bytes, hml, findClass_of_methodNamed B.named, hts⟩, hK⟩ (fun q h => Or.inr h) (fun q h => Or.inl h) (Nat.le_refl _) (Nat.le_refl _) ⟨Nat.le_refl _, Nat.le_refl _⟩ M L (fun v M pc ls H locs hd hS hW1 hQ => W.iret (v := v) B.exec B.bytes B.returns (fun t ht _ => ⟨⟨v, (M, L), rfl, ⟨rfl, hQ⟩, by rw [← ht] at hW1; exact hW1⟩, hS.F ht⟩) hS.2.2 hd) x1 x2 h ls _ [] hl hW va_S.rf
def CT_X3_isAbove (l : Launch) (fr lo : Nat) (w : (Int32 → Prop) → Int32 → Int32 → MM → Prop) : Prop := ∀ (E : mE) (M : MM) (L : ML) (sz : Nat) (Q : Int32 → Prop) (x1 : Int32) (x2 : Int32), Met l yX3_isAbove (ws_ yX3_isAbove cX3_isAbove 4 (some .boolean)) { frames := fr, cells := 0, slots := 0, locals := lo } (va_Pc [.ref (mh E), .int x1, .int x2] (fun U => U.heap.size = sz ∧ mW E M L U.heap ∧ mK E U ∧ w Q x1 x2 M)) (va_Qi (fun r (_ : Unit) => Q r) (fun _ _ => True) (mN sz)) 0 0 (mN sz)
theorem call_X3_isAbove {p : Program} {l : Launch} {e : Env} {R : Room} {s : State} {m : MethodId} {args : Array Value} {below : List Frame} {meth : Method} {c : Code} {H : Heap} {locs : List Loc} {cells slots : Nat} {Z : State → Prop} {A : Nat → Prop} {cc : ByteArray} {nL pc : Nat} {ls : Array Slot} {rest : List Value} {own : String} {index fr lo : Nat} {w : (Int32 → Prop) → Int32 → Int32 → MM → Prop} {E : mE} {M : MM} {L : ML} {x1 : Int32} {x2 : Int32} (hM : CT_X3_isAbove l fr lo w) (S : CallFix p m c cc nL s args lw_all own) (hK : mK E s) (hW : mW E M L H) (hS : va_S A s.heap H locs) (hA : ∀ q, s.heap.size ≤ q → A q) (hlink : Cond.methodLink own index yX3_isAbove ∈ lw_all) (hRf : fr + 1 ≤ R.frames) (hRl : 8 + (4 + 11) + lo ≤ R.locals) (hcs : cells ≤ R.cells ∧ slots ≤ R.slots) (hz : ls.size = nL) (hr8 : (rest.map fun v => v.category).sum ≤ 8) (hdg : decode cc pc = .ok (.invokevirtual index, 3)) {Q1 : Int32 → Prop} (h : w Q1 x1 x2 M) (kk : ∀ (r : Int32) (H1 : Heap) (locs1 : List Loc), Q1 r → (∀ q : Nat, q < H.size → H1[q]? = H[q]?) → va_S A s.heap H1 locs1 → W p l e R s m args below meth c H1 locs1 cells slots Z (F0 m (pc + 3) ls (.int r :: rest))) : W p l e R s m args below meth c H locs cells slots Z (F0 m pc ls (.int x2 :: .int x1 :: .ref (mh E) :: rest)) := by
  exact ro_i (va_runV (As := [.int x1, .int x2]) (rest := rest) S (hM E M L H.size Q1 x1 x2) (cwV 2 S.2.2.2.2 (lw_V hlink q1980 qs27 q68 q1981) rfl rfl rfl (by decide +kernel) ⟨hRf, hRl⟩) ⟨fun a U g mk q => by obtain ⟨q0, q1, qW, qK, qw⟩ := q; exact ⟨q0, q1, qW, qK.moved (u := U) (U := U.calling g mk a) (Vm.Alike.refl U.vm), qw⟩, hW.recv (hK := hK), fun U hU hWm => ⟨rfl, by rw [hU], by rw [hU]; exact hW, hK.moved hWm.alike, h⟩⟩ rfl rfl hz rfl (lv_room hr8) hdg hcs) hS hA (fun r H1 locs1 hp hz hk hS1 => kk r H1 locs1 hp hk hS1)
def w_X3_isAbove_22 (Q : Int32 → Prop) (x1 : Int32) (x3 : Int32) (M : MM) : Prop := if x3 = x1 then (Q (1 : Int32)) else (Q (0 : Int32))
def w_X3_isAbove_h2 (Q : Int32 → Prop) (x1 : Int32) (M : MM) (rec2 : Int32 → Prop) (x3 : Int32) : Prop := if x3 = (-1 : Int32) then (w_X3_isAbove_22 Q x1 x3 M) else (if x3 = x1 then (w_X3_isAbove_22 Q x1 x3 M) else (mRd (M 9) 12 x3 (fun v2 => rec2 v2)))
def w_X3_isAbove_L2 (Q : Int32 → Prop) (x1 : Int32) (M : MM) (x3 : Int32) : Prop := wLoop (fun (rec : Int32 → Prop) (s : Int32) => w_X3_isAbove_h2 Q x1 M (fun x3 => rec x3) s) x3
def w_X3_isAbove (Q : Int32 → Prop) (x1 : Int32) (x2 : Int32) (M : MM) : Prop := w_X3_isAbove_L2 Q x1 M x2
set_option maxRecDepth 100000 in
set_option maxHeartbeats 4000000 in
theorem wk_X3_isAbove {p : Program} {l : Launch} {e : Env} {R : Room} {s : State} {m : MethodId} {args : Array Value} {below : List Frame} {meth : Method} {c : Code} {cells slots : Nat} {Z : State → Prop} {A : Nat → Prop} {E : mE} (Q : Int32 → Prop) (C : mC p m c s args cX3_isAbove 4 E) (hA : ∀ q, s.heap.size ≤ q → A q) (hRf : 0 ≤ R.frames) (hRl : 0 ≤ R.locals) (hcs : cells ≤ R.cells ∧ slots ≤ R.slots) (M : MM) (L : ML) (hret : ∀ (v : Int32) (pc : Nat) (ls : Array Slot) (H : Heap) (locs : List Loc), decode cX3_isAbove pc = .ok (.ireturn, 1) → va_S A s.heap H locs → isZ v → Q v → W p l e R s m args below meth c H locs cells slots Z (F0 m pc ls [.int v])) (x1 : Int32) (x2 : Int32) : w_X3_isAbove Q x1 x2 M → ∀ (ls : Array Slot) (H : Heap) (locs : List Loc), lv_has ls 4 [(0, .ref (mh E)), (1, .int x1), (2, .int x2)] → mW E M L H → va_S A s.heap H locs → W p l e R s m args below meth c H locs cells slots Z (F0 m 0 ls []) := by
  obtain ⟨⟨hx, hb, hml, hown, hts⟩, hK⟩ := C; have C : mC p m c s args cX3_isAbove 4 E := ⟨⟨hx, hb, hml, hown, hts⟩, hK⟩
  have hb22 : ∀ (x3 : Int32), w_X3_isAbove_22 Q x1 x3 M → ∀ (ls : Array Slot) (H : Heap) (locs : List Loc), lv_has ls 4 [(1, .int x1), (3, .int x3)] → mW E M L H → va_S A s.heap H locs → W p l e R s m args below meth c H locs cells slots Z (F0 m 22 ls []) := by
    intro x3 h
    intro ls H locs hl hW hS
    refine lv_iload_n hx hb dX3_isAbove_22 rfl (lv_at hl 1 rfl) ?_
    refine lv_iload_n hx hb dX3_isAbove_23 rfl (lv_at hl 0 rfl) ?_
    refine lv_icmp_ne (tgt := 31) hx hb dX3_isAbove_24 (by decide) (fun c1 => ?_) (fun c1 => ?_)
    · have h := wif_f h c1
      refine lv_iconst (v := 0) hx hb dX3_isAbove_31 (by decide) ?_
      exact hret _ _ _ _ _ dX3_isAbove_32 hS isZ_0 h
    · have h := wif_t h c1
      refine lv_iconst (v := 1) hx hb dX3_isAbove_27 (by decide) ?_
      refine lv_goto (tgt := 32) hx hb dX3_isAbove_28 (by decide) ?_
      exact hret _ _ _ _ _ dX3_isAbove_32 hS isZ_1 h
  have hL2 : ∀ (x3 : Int32), w_X3_isAbove_L2 Q x1 M x3 → ∀ (ls : Array Slot) (H : Heap) (locs : List Loc), lv_has ls 4 [(0, .ref (mh E)), (1, .int x1), (3, .int x3)] → mW E M L H → va_S A s.heap H locs → W p l e R s m args below meth c H locs cells slots Z (F0 m 2 ls []) := by
    obtain ⟨G2, hG2⟩ : ∃ G : Int32 → Prop, ∀ (x3 : Int32), G x3 ↔ (∀ (ls : Array Slot) (H : Heap) (locs : List Loc), lv_has ls 4 [(0, .ref (mh E)), (1, .int x1), (3, .int x3)] → mW E M L H → va_S A s.heap H locs → W p l e R s m args below meth c H locs cells slots Z (F0 m 2 ls [])) := ⟨fun x3 => _, fun x3 => Iff.rfl⟩
    have hB2 : ∀ (rec2 : Int32 → Prop), (∀ (x3 : Int32), rec2 x3 → G2 x3) → ∀ (x3 : Int32), w_X3_isAbove_h2 Q x1 M rec2 x3 → G2 x3 := by
      intro rec2 hrec2
      intro x3 h
      rw [hG2]
      intro ls H locs hl hW hS
      refine lv_iload_n hx hb dX3_isAbove_2 rfl (lv_at hl 2 rfl) ?_
      refine lv_iconst (v := -1) hx hb dX3_isAbove_3 (by decide) ?_
      refine lv_icmp_eq (tgt := 22) hx hb dX3_isAbove_4 (by decide) (fun c4 => ?_) (fun c4 => ?_)
      · have h := wif_t h c4
        exact hb22 _ h ls H locs (lv_sub hl [1, 2] rfl) hW hS
      · have h := wif_f h c4
        refine lv_iload_n hx hb dX3_isAbove_7 rfl (lv_at hl 2 rfl) ?_
        refine lv_iload_n hx hb dX3_isAbove_8 rfl (lv_at hl 1 rfl) ?_
        refine lv_icmp_eq (tgt := 22) hx hb dX3_isAbove_9 (by decide) (fun c3 => ?_) (fun c3 => ?_)
        · have h := wif_t h c3
          exact hb22 _ h ls H locs (lv_sub hl [1, 2] rfl) hW hS
        · have h := wif_f h c3
          refine lv_aload_n hx hb dX3_isAbove_12 rfl (lv_at hl 0 rfl) ?_
          refine mr_getA C hW 9 rfl rfl q1812 dX3_isAbove_13 ?_
          refine lv_iload_n hx hb dX3_isAbove_16 rfl (lv_at hl 2 rfl) ?_
          refine mr_iald C hW 9 rfl rfl rfl h dX3_isAbove_17 (fun v2 h => ?_)
          refine lv_istore_n (lv' := [(3, .int v2), (0, .ref (mh E)), (1, .int x1)]) hx hb dX3_isAbove_18 rfl hl (by decide) rfl (fun ls hl => ?_)
          refine lv_goto (tgt := 2) hx hb dX3_isAbove_19 (by decide) ?_
          exact (hG2 _).mp (hrec2 _ h) ls H locs (lv_sub hl [1, 2, 0] rfl) hW hS
    intro x3 h
    exact (hG2 x3).mp (loop_walk (fun s => G2 s) (fun rec hrec s h => hB2 (fun x3 => rec x3) (fun x3 h => hrec x3 h) s h) x3 h)
  intro h
  intro ls H locs hl hW hS
  refine lv_iload_n hx hb dX3_isAbove_0 rfl (lv_at hl 2 rfl) ?_
  refine lv_istore_n (lv' := [(3, .int x2), (0, .ref (mh E)), (1, .int x1), (2, .int x2)]) hx hb dX3_isAbove_1 rfl hl (by decide) rfl (fun ls hl => ?_)
  exact hL2 _ h ls H locs (lv_sub hl [1, 2, 0] rfl) hW hS
theorem ct_X3_isAbove (l : Launch) : CT_X3_isAbove l 0 0 w_X3_isAbove := by
  intro E M L sz Q x1 x2
  refine Met.ofW (cc := cX3_isAbove) (maxL := 4) (ret := (some .boolean)) (by decide) rfl ?_
  intro p e s m args below meth c s₁ B hml hv
  obtain ⟨rfl, hsz, hW, hK, h⟩ := hv
  subst hsz
  have hts := atoms_spec (ws := ws_ yX3_isAbove cX3_isAbove 4 (some .boolean)) B.pre
  have hts : ∀ w ∈ lw_all, w.before _ s = true := fun w h => hts w (List.mem_cons_of_mem _ h)
  have hl := lv_entry ([.ref (mh E), .int x1, .int x2]) (n := 4) (Nat.le_of_ble_eq_true rfl)
  rw [lg_entry_eq]
  generalize (lg_sl ([.ref (mh E), .int x1, .int x2]) ++ List.replicate (4 - (lg_sl ([.ref (mh E), .int x1, .int x2])).length) Slot.unset).toArray = ls at hl ⊢
  exact wk_X3_isAbove Q ⟨⟨B.exec, B.bytes, hml, findClass_of_methodNamed B.named, hts⟩, hK⟩ (fun q h => h) (Nat.le_refl _) (Nat.le_refl _) ⟨Nat.le_refl _, Nat.le_refl _⟩ M L (fun v pc ls H locs hd hS hz hQ => W.zret (v := v) B.exec B.bytes B.returns hz.nar (fun t ht _ => ⟨⟨v, (), rfl, hQ, trivial⟩, hS.F ht⟩) hS.2.2 hd) x1 x2 h ls _ [] hl hW va_S.rf
