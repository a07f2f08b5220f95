def CT_X2_isAmong (l : Launch) (fr lo : Nat) (w : (Int32 → Prop) → Int32 → Int64 → Int64 → Prop) : Prop := ∀ (sz : Nat) (Q : Int32 → Prop) (x0 : Int32) (x1 : Int64) (x3 : Int64), Met l yX2_isAmong (ws_ yX2_isAmong cX2_isAmong 5 (some .boolean)) { frames := fr, cells := 0, slots := 0, locals := lo } (va_Pc [.int x0, .long x1, .long x3] (fun U => U.heap.size = sz ∧ w Q x0 x1 x3)) (va_Qi (fun r (_ : Unit) => Q r) (fun _ _ => True) (mN sz)) 0 0 (mN sz)
theorem call_X2_isAmong {p : Program} {l : Launch} {e : Env} {R : Room} {s : State} {m : MethodId} {args : Array Value} {below : List Frame} {meth : Method} {c : Code} {H : Heap} {locs : List Loc} {cells slots : Nat} {Z : State → Prop} {A : Nat → Prop} {cc : ByteArray} {nL pc : Nat} {ls : Array Slot} {rest : List Value} {own : String} {index fr lo : Nat} {w : (Int32 → Prop) → Int32 → Int64 → Int64 → Prop} {x0 : Int32} {x1 : Int64} {x3 : Int64} (hM : CT_X2_isAmong l fr lo w) (S : CallFix p m c cc nL s args lw_all own) (hS : va_S A s.heap H locs) (hA : ∀ q, s.heap.size ≤ q → A q) (hlink : Cond.methodLink own index yX2_isAmong ∈ lw_all) (hRf : fr + 1 ≤ R.frames) (hRl : 8 + (5 + 11) + lo ≤ R.locals) (hcs : cells ≤ R.cells ∧ slots ≤ R.slots) (hz : ls.size = nL) (hr8 : (rest.map fun v => v.category).sum ≤ 8) (hdg : decode cc pc = .ok (.invokestatic index, 3)) {Q1 : Int32 → Prop} (h : w Q1 x0 x1 x3) (kk : ∀ (r : Int32) (H1 : Heap) (locs1 : List Loc), Q1 r → (∀ q : Nat, q < H.size → H1[q]? = H[q]?) → va_S A s.heap H1 locs1 → W p l e R s m args below meth c H1 locs1 cells slots Z (F0 m (pc + 3) ls (.int r :: rest))) : W p l e R s m args below meth c H locs cells slots Z (F0 m pc ls (.long x3 :: .long x1 :: .int x0 :: rest)) := by
  exact ro_i (va_runS (As := [.int x0, .long x1, .long x3]) (rest := rest) S (hM H.size Q1 x0 x1 x3) (va_cwS 3 S.2.2.2.2 (lw_S hlink q1542 q67 q1543) rfl rfl rfl (by decide +kernel) ⟨hRf, hRl⟩) ⟨fun a U g mk q => by obtain ⟨q0, q1, qw⟩ := q; exact ⟨q0, q1, qw⟩, fun U hU hWm => ⟨rfl, by rw [hU], h⟩⟩ rfl rfl hz rfl (lv_room hr8) hdg hcs) hS hA (fun r H1 locs1 hp hz hk hS1 => kk r H1 locs1 hp hk hS1)
def w_X2_isAmong (Q : Int32 → Prop) (x0 : Int32) (x1 : Int64) (x3 : Int64) : Prop := w_J13_min_2 (fun r1 => if (lg_cmp (x0.toInt64) r1) < 0 then (Q (0 : Int32)) else (w_J13_max_2 (fun r2 => if 0 < (lg_cmp (x0.toInt64) r2) then (Q (0 : Int32)) else (Q (1 : Int32))) x1 x3)) x1 x3
set_option maxRecDepth 100000 in
set_option maxHeartbeats 4000000 in
theorem wk_X2_isAmong {p : Program} {l : Launch} {e : Env} {R : Room} {s : State} {m : MethodId} {args : Array Value} {below : List Frame} {meth : Method} {c : Code} {cells slots : Nat} {Z : State → Prop} {A : Nat → Prop}  (Q : Int32 → Prop) (S : CallFix p m c cX2_isAmong 5 s args lw_all RX2) (hA : ∀ q, s.heap.size ≤ q → A q) (hRf : 1 ≤ R.frames) (hRl : 23 ≤ R.locals) (hcs : cells ≤ R.cells ∧ slots ≤ R.slots) (hret : ∀ (v : Int32) (pc : Nat) (ls : Array Slot) (H : Heap) (locs : List Loc), decode cX2_isAmong pc = .ok (.ireturn, 1) → va_S A s.heap H locs → isZ v → Q v → W p l e R s m args below meth c H locs cells slots Z (F0 m pc ls [.int v])) (x0 : Int32) (x1 : Int64) (x3 : Int64) : w_X2_isAmong Q x0 x1 x3 → ∀ (ls : Array Slot) (H : Heap) (locs : List Loc), lv_has ls 5 [(0, .int x0), (1, .long x1), (3, .long x3)] → va_S A s.heap H locs → W p l e R s m args below meth c H locs cells slots Z (F0 m 0 ls []) := by
  obtain ⟨hx, hb, hml, hown, hts⟩ := S; have S : CallFix p m c cX2_isAmong 5 s args lw_all RX2 := ⟨hx, hb, hml, hown, hts⟩
  intro h
  intro ls H locs hl hS
  refine lv_iload_n hx hb dX2_isAmong_0 rfl (lv_at hl 0 rfl) ?_
  refine lv_i2l hx hb dX2_isAmong_1 rfl ?_
  refine lv_lload_n hx hb dX2_isAmong_2 rfl (lv_at hl 1 rfl) ?_
  refine lv_lload_n hx hb dX2_isAmong_3 rfl (lv_at hl 2 rfl) ?_
  refine call_J13_min_2 (ct_J13_min_2 l) S hS hA q1544 (le_lit hRf rfl) (le_lit hRl rfl) hcs hl.1 (Nat.le_of_ble_eq_true rfl) dX2_isAmong_4 h (fun r1 H locs h hk hS => ?_)
  refine W.lcmp hx hb dX2_isAmong_7 ?_
  refine lv_if_lt (tgt := 26) hx hb dX2_isAmong_8 (by decide) (fun c4 => ?_) (fun c4 => ?_)
  · have h := wif_t h c4
    refine lv_iconst (v := 0) hx hb dX2_isAmong_26 (by decide) ?_
    exact hret _ _ _ _ _ dX2_isAmong_27 hS isZ_0 h
  · have h := wif_f h c4
    refine lv_iload_n hx hb dX2_isAmong_11 rfl (lv_at hl 0 rfl) ?_
    refine lv_i2l hx hb dX2_isAmong_12 rfl ?_
    refine lv_lload_n hx hb dX2_isAmong_13 rfl (lv_at hl 1 rfl) ?_
    refine lv_lload_n hx hb dX2_isAmong_14 rfl (lv_at hl 2 rfl) ?_
    refine call_J13_max_2 (ct_J13_max_2 l) S hS hA q1545 (le_lit hRf rfl) (le_lit hRl rfl) hcs hl.1 (Nat.le_of_ble_eq_true rfl) dX2_isAmong_15 h (fun r2 H locs h hk hS => ?_)
    refine W.lcmp hx hb dX2_isAmong_18 ?_
    refine lv_if_gt (tgt := 26) hx hb dX2_isAmong_19 (by decide) (fun c3 => ?_) (fun c3 => ?_)
    · have h := wif_t h c3
      refine lv_iconst (v := 0) hx hb dX2_isAmong_26 (by decide) ?_
      exact hret _ _ _ _ _ dX2_isAmong_27 hS isZ_0 h
    · have h := wif_f h c3
      refine lv_iconst (v := 1) hx hb dX2_isAmong_22 (by decide) ?_
      refine lv_goto (tgt := 27) hx hb dX2_isAmong_23 (by decide) ?_
      exact hret _ _ _ _ _ dX2_isAmong_27 hS isZ_1 h
theorem ct_X2_isAmong (l : Launch) : CT_X2_isAmong l 1 23 w_X2_isAmong := by
  intro sz Q x0 x1 x3
  refine Met.ofW (cc := cX2_isAmong) (maxL := 5) (ret := (some .boolean)) (by decide) rfl ?_
  intro p e s m args below meth c s₁ B hml hv
  obtain ⟨rfl, hsz, h⟩ := hv
  subst hsz
  have hts := atoms_spec (ws := ws_ yX2_isAmong cX2_isAmong 5 (some .boolean)) B.pre
  have hts : ∀ w ∈ lw_all, w.before _ s = true := fun w h => hts w (List.mem_cons_of_mem _ h)
  have hl := lv_entry ([.int x0, .long x1, .long x3]) (n := 5) (Nat.le_of_ble_eq_true rfl)
  rw [lg_entry_eq]
  generalize (lg_sl ([.int x0, .long x1, .long x3]) ++ List.replicate (5 - (lg_sl ([.int x0, .long x1, .long x3])).length) Slot.unset).toArray = ls at hl ⊢
  exact wk_X2_isAmong Q ⟨B.exec, B.bytes, hml, findClass_of_methodNamed B.named, hts⟩ (fun q h => h) (Nat.le_refl _) (Nat.le_refl _) ⟨Nat.le_refl _, Nat.le_refl _⟩ (fun v pc ls H locs hd hS hz hQ => W.zret (v := v) B.exec B.bytes B.returns hz.nar (fun t ht _ => ⟨⟨v, (), rfl, hQ, trivial⟩, hS.F ht⟩) hS.2.2 hd) x0 x1 x3 h ls _ [] hl va_S.rf
def CT_X2_fill (l : Launch) (fr lo : Nat) (w : XV → (GM → Prop) → Nat → Int64 → Int64 → Int64 → Int64 → Int32 → GM → Prop) : Prop := ∀ (V : XV) (sz : Nat) (G : GM) (Q : GM → Prop) (x0 : Nat) (x1 : Int64) (x3 : Int64) (x5 : Int64) (x7 : Int64) (x9 : Int32), Met l yX2_fill (ws_ yX2_fill cX2_fill 12 none) { frames := fr, cells := 0, slots := 0, locals := lo } (va_Pc [.ref x0, .long x1, .long x3, .long x5, .long x7, .int x9] (fun U => U.heap.size = sz ∧ xW V (xA G sz) G U.heap ∧ xK V U ∧ xZ V (xA G sz) U U.heap ∧ w V Q x0 x1 x3 x5 x7 x9 G)) (va_Qv (fun (u : GM) => Q u) (fun u t => xW V (xA G sz) u t.heap) (xA G sz)) 0 0 (xA G sz)
theorem call_X2_fill_V {p : Program} {l : Launch} {e : Env} {R : Room} {s : State} {m : MethodId} {args : Array Value} {below : List Frame} {meth : Method} {c : Code} {H : Heap} {locs : List Loc} {cells slots : Nat} {Z : State → Prop} {A : Nat → Prop} {cc : ByteArray} {nL pc : Nat} {ls : Array Slot} {rest : List Value} {own : String} {index fr lo : Nat} {w : XV → (GM → Prop) → Nat → Int64 → Int64 → Int64 → Int64 → Int32 → GM → Prop} {V : XV} {G : GM} {o : Option Nat} {ci : Nat} {x0 : Nat} {x1 : Int64} {x3 : Int64} {x5 : Int64} {x7 : Int64} {x9 : Int32} (hM : CT_X2_fill l fr lo w) (C : xC p m c s args cc nL own V A) (hW : xW V A G H) (hS : va_S A s.heap H locs) (hlink : Cond.methodLink own index yX2_fill ∈ lw_all) (ho : o = some x0) (hcv : gCi G (some x0) = some ci) (hci : ci % 64 = 1) (hRf : fr + 1 ≤ R.frames) (hRl : 8 + (12 + 11) + lo ≤ R.locals) (hcs : cells ≤ R.cells ∧ slots ≤ R.slots) (hz : ls.size = nL) (hr8 : (rest.map fun v => v.category).sum ≤ 8) (hdg : decode cc pc = .ok (.invokevirtual index, 3)) {Q1 : GM → Prop} (h : w V Q1 x0 x1 x3 x5 x7 x9 G) (kk : ∀ (G1 : GM) (H1 : Heap) (locs1 : List Loc), Q1 G1 → xW V A G1 H1 → va_S A s.heap H1 locs1 → xFr V G G1 H H1 → W p l e R s m args below meth c H1 locs1 cells slots Z (F0 m (pc + 3) ls (rest))) : W p l e R s m args below meth c H locs cells slots Z (F0 m pc ls (.int x9 :: .long x7 :: .long x5 :: .long x3 :: .long x1 :: va_rf o :: rest)) := by
  subst ho
  obtain ⟨fs, hG⟩ := gCi_of hcv
  exact rg_v3w (va_runV (As := [.long x1, .long x3, .long x5, .long x7, .int x9]) (rest := rest) C.1 (hM V H.size G Q1 x0 x1 x3 x5 x7 x9) (cwV 5 C.1.2.2.2.2 (lw_V hlink q1538 q1539 q67 q1540) rfl rfl rfl (by decide +kernel) ⟨hRf, hRl⟩) ⟨fun a U g mk q => by obtain ⟨q0, q1, qW, qK, qZ, qw⟩ := q; exact ⟨q0, q1, qW, xK.same (u := U) (U := U.calling g mk a) rfl qK, xZ.moved (u := U) (U := U.calling g mk a) (Vm.Alike.refl U.vm) qZ, qw⟩, (hW.recv C.2.1 hG (r := (RX2, TX2, 5)) (by rw [hci]; rfl)), fun U hU hWm => ⟨rfl, by rw [hU], by rw [hU]; exact hW.self _, C.2.1.warm hWm, xZ.call C.2.2.1 hW hS C.2.2.2 hU hWm.alike, h⟩⟩ rfl rfl hz rfl (lv_room hr8) hdg hcs) hW hS C.2.2.2 (fun G1 H1 locs1 hp hW1 hS1 hF1 => kk G1 H1 locs1 hp hW1 hS1 hF1)
def w_X2_fill_52 (V : XV) (Q : GM → Prop) (rec3 : Int32 → GM → Prop) (rec13 : Int32 → GM → Prop) (x0 : Nat) (x1 : Int64) (x3 : Int64) (x5 : Int64) (x7 : Int64) (x9 : Int32) (x10 : Int32) (x11 : Int32) (G : GM) : Prop := rec13 (x11 + (1 : Int32)) G
def w_X2_fill_h13 (V : XV) (Q : GM → Prop) (rec3 : Int32 → GM → Prop) (x0 : Nat) (x1 : Int64) (x3 : Int64) (x5 : Int64) (x7 : Int64) (x9 : Int32) (x10 : Int32) (rec13 : Int32 → GM → Prop) (x11 : Int32) (G : GM) : Prop := if (16 : Int32) ≤ x11 then (rec3 (x10 + (1 : Int32)) G) else (w_X2_isAmong (fun r1 => if r1 = 0 then (w_X2_fill_52 V Q rec3 rec13 x0 x1 x3 x5 x7 x9 x10 x11 G) else (w_X2_isAmong (fun r2 => if r2 = 0 then (w_X2_fill_52 V Q rec3 rec13 x0 x1 x3 x5 x7 x9 x10 x11 G) else (gRcv G (some x0) (fun a3 c4 => (c4 % 64 = 1) ∧ (w_X2_put V (fun G5 => w_X2_fill_52 V Q rec3 rec13 x0 x1 x3 x5 x7 x9 x10 x11 G5) a3 x11 x10 x9 G)))) x10 x3 x7)) x11 x1 x5)
def w_X2_fill_L13 (V : XV) (Q : GM → Prop) (rec3 : Int32 → GM → Prop) (x0 : Nat) (x1 : Int64) (x3 : Int64) (x5 : Int64) (x7 : Int64) (x9 : Int32) (x10 : Int32) (x11 : Int32) (G : GM) : Prop := wLoop (fun (rec : (Int32 × GM) → Prop) (s : Int32 × GM) => w_X2_fill_h13 V Q rec3 x0 x1 x3 x5 x7 x9 x10 (fun x11 G => rec (x11, G)) s.1 s.2) (x11, G)
def w_X2_fill_h3 (V : XV) (Q : GM → Prop) (x0 : Nat) (x1 : Int64) (x3 : Int64) (x5 : Int64) (x7 : Int64) (x9 : Int32) (rec3 : Int32 → GM → Prop) (x10 : Int32) (G : GM) : Prop := if (12 : Int32) ≤ x10 then (Q G) else (w_X2_fill_L13 V Q rec3 x0 x1 x3 x5 x7 x9 x10 (0 : Int32) G)
def w_X2_fill_L3 (V : XV) (Q : GM → Prop) (x0 : Nat) (x1 : Int64) (x3 : Int64) (x5 : Int64) (x7 : Int64) (x9 : Int32) (x10 : Int32) (G : GM) : Prop := wLoop (fun (rec : (Int32 × GM) → Prop) (s : Int32 × GM) => w_X2_fill_h3 V Q x0 x1 x3 x5 x7 x9 (fun x10 G => rec (x10, G)) s.1 s.2) (x10, G)
def w_X2_fill (V : XV) (Q : GM → Prop) (x0 : Nat) (x1 : Int64) (x3 : Int64) (x5 : Int64) (x7 : Int64) (x9 : Int32) (G : GM) : Prop := w_X2_fill_L3 V Q x0 x1 x3 x5 x7 x9 (0 : Int32) G
set_option maxRecDepth 100000 in
set_option maxHeartbeats 4000000 in
theorem wk_X2_fill {p : Program} {l : Launch} {e : Env} {R : Room} {s : State} {m : MethodId} {args : Array Value} {below : List Frame} {meth : Method} {c : Code} {cells slots : Nat} {Z : State → Prop} {A : Nat → Prop} {V : XV} (Q : GM → Prop) (C : xC p m c s args cX2_fill 12 RX2 V A) (hRf : 2 ≤ R.frames) (hRl : 47 ≤ R.locals) (hcs : cells ≤ R.cells ∧ slots ≤ R.slots) (G : GM) (hret : ∀ (G : GM) (pc : Nat) (ls : Array Slot) (H : Heap) (locs : List Loc), decode cX2_fill pc = .ok (.return_, 1) → xW V A G H → va_S A s.heap H locs → Q G → W p l e R s m args below meth c H locs cells slots Z (F0 m pc ls [])) (x0 : Nat) (x1 : Int64) (x3 : Int64) (x5 : Int64) (x7 : Int64) (x9 : Int32) : w_X2_fill V Q x0 x1 x3 x5 x7 x9 G → ∀ (ls : Array Slot) (H : Heap) (locs : List Loc), lv_has ls 12 [(0, va_rf (some x0)), (1, .long x1), (3, .long x3), (5, .long x5), (7, .long x7), (9, .int x9)] → xW V A G H → va_S A s.heap H locs → W p l e R s m args below meth c H locs cells slots Z (F0 m 0 ls []) := by
  have hx := C.1.1; have hb := C.1.2.1; have hml := C.1.2.2.1; have hown := C.1.2.2.2.1; have hts := C.1.2.2.2.2
  have hL3 : ∀ (x10 : Int32) (G : GM), w_X2_fill_L3 V Q x0 x1 x3 x5 x7 x9 x10 G → ∀ (ls : Array Slot) (H : Heap) (locs : List Loc), lv_has ls 12 [(0, va_rf (some x0)), (1, .long x1), (3, .long x3), (5, .long x5), (7, .long x7), (9, .int x9), (10, .int x10)] → xW V A G H → va_S A s.heap H locs → W p l e R s m args below meth c H locs cells slots Z (F0 m 3 ls []) := by
    obtain ⟨GG3, hG3⟩ : ∃ GG : Int32 → GM → Prop, ∀ (x10 : Int32) (G : GM), GG x10 G ↔ (∀ (ls : Array Slot) (H : Heap) (locs : List Loc), lv_has ls 12 [(0, va_rf (some x0)), (1, .long x1), (3, .long x3), (5, .long x5), (7, .long x7), (9, .int x9), (10, .int x10)] → xW V A G H → va_S A s.heap H locs → W p l e R s m args below meth c H locs cells slots Z (F0 m 3 ls [])) := ⟨fun x10 G => _, fun x10 G => Iff.rfl⟩
    have hB3 : ∀ (rec3 : Int32 → GM → Prop), (∀ (x10 : Int32) (G : GM), rec3 x10 G → GG3 x10 G) → ∀ (x10 : Int32) (G : GM), w_X2_fill_h3 V Q x0 x1 x3 x5 x7 x9 rec3 x10 G → GG3 x10 G := by
      intro rec3 hrec3
      have hL13 : ∀ (x10 : Int32) (x11 : Int32) (G : GM), w_X2_fill_L13 V Q rec3 x0 x1 x3 x5 x7 x9 x10 x11 G → ∀ (ls : Array Slot) (H : Heap) (locs : List Loc), lv_has ls 12 [(0, va_rf (some x0)), (1, .long x1), (3, .long x3), (5, .long x5), (7, .long x7), (9, .int x9), (10, .int x10), (11, .int x11)] → xW V A G H → va_S A s.heap H locs → W p l e R s m args below meth c H locs cells slots Z (F0 m 13 ls []) := by
        intro x10
        obtain ⟨GG13, hG13⟩ : ∃ GG : Int32 → GM → Prop, ∀ (x11 : Int32) (G : GM), GG x11 G ↔ (∀ (ls : Array Slot) (H : Heap) (locs : List Loc), lv_has ls 12 [(0, va_rf (some x0)), (1, .long x1), (3, .long x3), (5, .long x5), (7, .long x7), (9, .int x9), (10, .int x10), (11, .int x11)] → xW V A G H → va_S A s.heap H locs → W p l e R s m args below meth c H locs cells slots Z (F0 m 13 ls [])) := ⟨fun x11 G => _, fun x11 G => Iff.rfl⟩
        have hB13 : ∀ (rec13 : Int32 → GM → Prop), (∀ (x11 : Int32) (G : GM), rec13 x11 G → GG13 x11 G) → ∀ (x11 : Int32) (G : GM), w_X2_fill_h13 V Q rec3 x0 x1 x3 x5 x7 x9 x10 rec13 x11 G → GG13 x11 G := by
          intro rec13 hrec13
          have hb52 : ∀ (x11 : Int32) (G : GM), w_X2_fill_52 V Q rec3 rec13 x0 x1 x3 x5 x7 x9 x10 x11 G → ∀ (ls : Array Slot) (H : Heap) (locs : List Loc), lv_has ls 12 [(0, va_rf (some x0)), (1, .long x1), (3, .long x3), (5, .long x5), (7, .long x7), (9, .int x9), (10, .int x10), (11, .int x11)] → xW V A G H → va_S A s.heap H locs → W p l e R s m args below meth c H locs cells slots Z (F0 m 52 ls []) := by
            intro x11 G h
            intro ls H locs hl hW hS
            refine lv_iinc (v := x11 + (1 : Int32)) (lv' := [(11, .int (x11 + (1 : Int32))), (0, va_rf (some x0)), (1, .long x1), (3, .long x3), (5, .long x5), (7, .long x7), (9, .int x9), (10, .int x10)]) hx hb dX2_fill_52 hl (k := 7) rfl (congrArg (fun z => x11 + z) (by decide)) (by decide) rfl (fun ls hl => ?_)
            refine lv_goto (tgt := 13) hx hb dX2_fill_55 (by decide) ?_
            exact (hG13 _ _).mp (hrec13 _ _ h) ls H locs (lv_sub hl [1, 2, 3, 4, 5, 6, 7, 0] rfl) hW hS
          intro x11 G h
          rw [hG13]
          intro ls H locs hl hW hS
          refine lv_iload hx hb dX2_fill_13 (lv_at hl 7 rfl) ?_
          refine lv_bipush (v := 16) hx hb dX2_fill_15 (by decide) ?_
          refine lv_icmp_ge (tgt := 58) hx hb dX2_fill_17 (by decide) (fun c8 => ?_) (fun c8 => ?_)
          · have h := wif_t h c8
            refine lv_iinc (v := x10 + (1 : Int32)) (lv' := [(10, .int (x10 + (1 : Int32))), (0, va_rf (some x0)), (1, .long x1), (3, .long x3), (5, .long x5), (7, .long x7), (9, .int x9), (11, .int x11)]) hx hb dX2_fill_58 hl (k := 6) rfl (congrArg (fun z => x10 + z) (by decide)) (by decide) rfl (fun ls hl => ?_)
            refine lv_goto (tgt := 3) hx hb dX2_fill_61 (by decide) ?_
            exact (hG3 _ _).mp (hrec3 _ _ h) ls H locs (lv_sub hl [1, 2, 3, 4, 5, 6, 0] rfl) hW hS
          · have h := wif_f h c8
            refine lv_iload hx hb dX2_fill_20 (lv_at hl 7 rfl) ?_
            refine lv_lload_n hx hb dX2_fill_22 rfl (lv_at hl 1 rfl) ?_
            refine lv_lload hx hb dX2_fill_23 (lv_at hl 3 rfl) ?_
            refine call_X2_isAmong (ct_X2_isAmong l) C.1 hS C.2.2.2 q1541 (le_lit hRf rfl) (le_lit hRl rfl) hcs hl.1 (Nat.le_of_ble_eq_true rfl) dX2_fill_25 h (fun r1 H locs h hk hS => ?_)
            have hW := hW.kept hk
            refine lv_if_eq (tgt := 52) hx hb dX2_fill_28 (by decide) (fun c7 => ?_) (fun c7 => ?_)
            · have h := wif_t h c7
              exact hb52 _ _ h ls H locs (lv_sub hl [0, 1, 2, 3, 4, 5, 6, 7] rfl) hW hS
            · have h := wif_f h c7
              refine lv_iload hx hb dX2_fill_31 (lv_at hl 6 rfl) ?_
              refine lv_lload_n hx hb dX2_fill_33 rfl (lv_at hl 2 rfl) ?_
              refine lv_lload hx hb dX2_fill_34 (lv_at hl 4 rfl) ?_
              refine call_X2_isAmong (ct_X2_isAmong l) C.1 hS C.2.2.2 q1541 (le_lit hRf rfl) (le_lit hRl rfl) hcs hl.1 (Nat.le_of_ble_eq_true rfl) dX2_fill_36 h (fun r2 H locs h hk hS => ?_)
              have hW := hW.kept hk
              refine lv_if_eq (tgt := 52) hx hb dX2_fill_39 (by decide) (fun c6 => ?_) (fun c6 => ?_)
              · have h := wif_t h c6
                exact hb52 _ _ h ls H locs (lv_sub hl [0, 1, 2, 3, 4, 5, 6, 7] rfl) hW hS
              · have h := wif_f h c6
                refine sh_aload_n hx hb dX2_fill_42 rfl (lv_at hl 0 rfl) ?_
                refine lv_iload hx hb dX2_fill_43 (lv_at hl 7 rfl) ?_
                refine lv_iload hx hb dX2_fill_45 (lv_at hl 6 rfl) ?_
                refine lv_iload hx hb dX2_fill_47 (lv_at hl 5 rfl) ?_
                obtain ⟨a3, c4, ho49, hcv49, h⟩ := h
                have hcc := h.1
                have h := h.2
                refine call_X2_put_V (ct_X2_put l) C hW hS q1546 ho49 hcv49 hcc (le_lit hRf rfl) (le_lit hRl rfl) hcs hl.1 (Nat.le_of_ble_eq_true rfl) dX2_fill_49 h (fun G5 H locs h hW hS _ => ?_)
                exact hb52 _ _ h ls H locs (lv_sub hl [0, 1, 2, 3, 4, 5, 6, 7] rfl) hW hS
        intro x11 G h
        exact (hG13 x11 G).mp (loop_walk (fun s => GG13 s.1 s.2) (fun rec hrec s h => hB13 (fun x11 G => rec (x11, G)) (fun x11 G h => hrec (x11, G) h) s.1 s.2 h) (x11, G) h)
      intro x10 G h
      rw [hG3]
      intro ls H locs hl hW hS
      refine lv_iload hx hb dX2_fill_3 (lv_at hl 6 rfl) ?_
      refine lv_bipush (v := 12) hx hb dX2_fill_5 (by decide) ?_
      refine lv_icmp_ge (tgt := 64) hx hb dX2_fill_7 (by decide) (fun c9 => ?_) (fun c9 => ?_)
      · have h := wif_t h c9
        exact hret _ _ _ _ _ dX2_fill_64 hW hS h
      · have h := wif_f h c9
        refine lv_iconst (v := 0) hx hb dX2_fill_10 (by decide) ?_
        refine lv_istore (lv' := [(11, .int (0 : Int32)), (0, va_rf (some x0)), (1, .long x1), (3, .long x3), (5, .long x5), (7, .long x7), (9, .int x9), (10, .int x10)]) hx hb dX2_fill_11 hl (by decide) rfl (fun ls hl => ?_)
        exact hL13 _ _ _ h ls H locs (lv_sub hl [1, 2, 3, 4, 5, 6, 7, 0] rfl) hW hS
    intro x10 G h
    exact (hG3 x10 G).mp (loop_walk (fun s => GG3 s.1 s.2) (fun rec hrec s h => hB3 (fun x10 G => rec (x10, G)) (fun x10 G h => hrec (x10, G) h) s.1 s.2 h) (x10, G) h)
  intro h
  intro ls H locs hl hW hS
  refine lv_iconst (v := 0) hx hb dX2_fill_0 (by decide) ?_
  refine lv_istore (lv' := [(10, .int (0 : Int32)), (0, va_rf (some x0)), (1, .long x1), (3, .long x3), (5, .long x5), (7, .long x7), (9, .int x9)]) hx hb dX2_fill_1 hl (by decide) rfl (fun ls hl => ?_)
  exact hL3 _ _ h ls H locs (lv_sub hl [1, 2, 3, 4, 5, 6, 0] rfl) hW hS
theorem ct_X2_fill (l : Launch) : CT_X2_fill l 2 47 w_X2_fill := by
  intro V sz G Q x0 x1 x3 x5 x7 x9
  refine Met.ofW (cc := cX2_fill) (maxL := 12) (ret := none) (by decide) rfl ?_
  intro p e s m args below meth c s₁ B hml hv
  obtain ⟨rfl, hsz, hW, hK, hZ, h⟩ := hv
  subst hsz
  have hts := atoms_spec (ws := (ws_ yX2_fill cX2_fill 12 none)) B.pre
  have hts : ∀ w ∈ lw_all, w.before _ s = true := fun w h => hts w (List.mem_cons_of_mem _ h)
  have hl := lv_entry ([.ref x0, .long x1, .long x3, .long x5, .long x7, .int x9]) (n := 12) (Nat.le_of_ble_eq_true rfl)
  rw [lg_entry_eq]
  generalize (lg_sl ([.ref x0, .long x1, .long x3, .long x5, .long x7, .int x9]) ++ List.replicate (12 - (lg_sl ([.ref x0, .long x1, .long x3, .long x5, .long x7, .int x9])).length) Slot.unset).toArray = ls at hl ⊢
  exact wk_X2_fill Q ⟨⟨B.exec, B.bytes, hml, findClass_of_methodNamed B.named, hts⟩, hK, hZ, fun q h => Or.inr h⟩ (Nat.le_refl _) (Nat.le_refl _) ⟨Nat.le_refl _, Nat.le_refl _⟩ G (fun G pc ls H locs hd hW1 hS hQ => W.vret B.exec B.bytes B.returns (fun t ht _ => ⟨⟨G, rfl, hQ, by rw [← ht] at hW1; exact hW1⟩, hS.F ht⟩) hS.2.2 hd) x0 x1 x3 x5 x7 x9 h ls _ [] hl hW va_S.rf
def CT_X9_fill (l : Launch) (fr lo : Nat) (w : XV → (GM → Prop) → Nat → (Option Nat) → (Option Nat) → (Option Nat) → GM → Prop) : Prop := ∀ (V : XV) (sz : Nat) (G : GM) (Q : GM → Prop) (x0 : Nat) (x1 : Option Nat) (x2 : Option Nat) (x3 : Option Nat), Met l yX9_fill (ws_ yX9_fill cX9_fill 4 none) { frames := fr, cells := 0, slots := 0, locals := lo } (va_Pc [.ref x0, va_rf x1, va_rf x2, va_rf x3] (fun U => U.heap.size = sz ∧ xW V (xA G sz) G U.heap ∧ xK V U ∧ xZ V (xA G sz) U U.heap ∧ w V Q x0 x1 x2 x3 G)) (va_Qv (fun (u : GM) => Q u) (fun u t => xW V (xA G sz) u t.heap) (xA G sz)) 0 0 (xA G sz)
theorem call_X9_fill_V {p : Program} {l : Launch} {e : Env} {R : Room} {s : State} {m : MethodId} {args : Array Value} {below : List Frame} {meth : Method} {c : Code} {H : Heap} {locs : List Loc} {cells slots : Nat} {Z : State → Prop} {A : Nat → Prop} {cc : ByteArray} {nL pc : Nat} {ls : Array Slot} {rest : List Value} {own : String} {index fr lo : Nat} {w : XV → (GM → Prop) → Nat → (Option Nat) → (Option Nat) → (Option Nat) → GM → Prop} {V : XV} {G : GM} {o : Option Nat} {ci : Nat} {x0 : Nat} {x1 : Option Nat} {x2 : Option Nat} {x3 : Option Nat} (hM : CT_X9_fill l fr lo w) (C : xC p m c s args cc nL own V A) (hW : xW V A G H) (hS : va_S A s.heap H locs) (hlink : Cond.methodLink own index yX9_fill ∈ lw_all) (ho : o = some x0) (hcv : gCi G (some x0) = some ci) (hci : ci % 64 = 4) (hRf : fr + 1 ≤ R.frames) (hRl : 8 + (4 + 11) + lo ≤ R.locals) (hcs : cells ≤ R.cells ∧ slots ≤ R.slots) (hz : ls.size = nL) (hr8 : (rest.map fun v => v.category).sum ≤ 8) (hdg : decode cc pc = .ok (.invokevirtual index, 3)) {Q1 : GM → Prop} (h : w V Q1 x0 x1 x2 x3 G) (kk : ∀ (G1 : GM) (H1 : Heap) (locs1 : List Loc), Q1 G1 → xW V A G1 H1 → va_S A s.heap H1 locs1 → xFr V G G1 H H1 → W p l e R s m args below meth c H1 locs1 cells slots Z (F0 m (pc + 3) ls (rest))) : W p l e R s m args below meth c H locs cells slots Z (F0 m pc ls (va_rf x3 :: va_rf x2 :: va_rf x1 :: va_rf o :: rest)) := by
  subst ho
  obtain ⟨fs, hG⟩ := gCi_of hcv
  exact rg_v3w (va_runV (As := [va_rf x1, va_rf x2, va_rf x3]) (rest := rest) C.1 (hM V H.size G Q1 x0 x1 x2 x3) (cwV 3 C.1.2.2.2.2 (lw_V hlink q1535 qs16 q91 q1536) rfl rfl rfl (by decide +kernel) ⟨hRf, hRl⟩) ⟨fun a U g mk q => by obtain ⟨q0, q1, qW, qK, qZ, qw⟩ := q; exact ⟨q0, q1, qW, xK.same (u := U) (U := U.calling g mk a) rfl qK, xZ.moved (u := U) (U := U.calling g mk a) (Vm.Alike.refl U.vm) qZ, qw⟩, (hW.recv C.2.1 hG (r := (RX9, TX9, 11)) (by rw [hci]; rfl)), fun U hU hWm => ⟨rfl, by rw [hU], by rw [hU]; exact hW.self _, C.2.1.warm hWm, xZ.call C.2.2.1 hW hS C.2.2.2 hU hWm.alike, h⟩⟩ rfl rfl hz rfl (lv_room hr8) hdg hcs) hW hS C.2.2.2 (fun G1 H1 locs1 hp hW1 hS1 hF1 => kk G1 H1 locs1 hp hW1 hS1 hF1)
def w_X9_fill (V : XV) (Q : GM → Prop) (x0 : Nat) (x1 : Option Nat) (x2 : Option Nat) (x3 : Option Nat) (G : GM) : Prop := gJL G 1 x1 (0 : Int32) (fun v1 => w_J13_floorDiv (fun r2 => gJL G 1 x1 (1 : Int32) (fun v3 => w_J13_floorDiv (fun r4 => gJL G 1 x2 (0 : Int32) (fun v5 => w_J13_floorDiv (fun r6 => gJL G 1 x2 (1 : Int32) (fun v7 => w_J13_floorDiv (fun r8 => gGI G 21 (some x0) (fun v9 => gRcv G x3 (fun a10 c11 => (c11 % 64 = 1) ∧ (w_X2_fill V (fun G12 => Q G12) a10 r2 r4 r6 r8 v9 G)))) v7 (1000 : Int64))) v5 (1000 : Int64))) v3 (1000 : Int64))) v1 (1000 : Int64))
set_option maxRecDepth 100000 in
set_option maxHeartbeats 4000000 in
theorem wk_X9_fill {p : Program} {l : Launch} {e : Env} {R : Room} {s : State} {m : MethodId} {args : Array Value} {below : List Frame} {meth : Method} {c : Code} {cells slots : Nat} {Z : State → Prop} {A : Nat → Prop} {V : XV} (Q : GM → Prop) (C : xC p m c s args cX9_fill 4 RX9 V A) (hRf : 3 ≤ R.frames) (hRl : 78 ≤ R.locals) (hcs : cells ≤ R.cells ∧ slots ≤ R.slots) (G : GM) (hret : ∀ (G : GM) (pc : Nat) (ls : Array Slot) (H : Heap) (locs : List Loc), decode cX9_fill pc = .ok (.return_, 1) → xW V A G H → va_S A s.heap H locs → Q G → W p l e R s m args below meth c H locs cells slots Z (F0 m pc ls [])) (x0 : Nat) (x1 : Option Nat) (x2 : Option Nat) (x3 : Option Nat) : w_X9_fill V Q x0 x1 x2 x3 G → ∀ (ls : Array Slot) (H : Heap) (locs : List Loc), lv_has ls 4 [(0, va_rf (some x0)), (1, va_rf x1), (2, va_rf x2), (3, va_rf x3)] → xW V A G H → va_S A s.heap H locs → W p l e R s m args below meth c H locs cells slots Z (F0 m 0 ls []) := by
  have hx := C.1.1; have hb := C.1.2.1; have hml := C.1.2.2.1; have hown := C.1.2.2.2.1; have hts := C.1.2.2.2.2
  intro h
  intro ls H locs hl hW hS
  refine sh_aload_n hx hb dX9_fill_0 rfl (lv_at hl 3 rfl) ?_
  refine sh_aload_n hx hb dX9_fill_1 rfl (lv_at hl 1 rfl) ?_
  refine lv_iconst (v := 0) hx hb dX9_fill_2 (by decide) ?_
  refine sh_lald C hW h dX9_fill_3 (fun v1 h => ?_)
  refine lv_ldc2 hx hb hown (hts _ q950) dX9_fill_4 ?_
  refine call_J13_floorDiv (ct_J13_floorDiv l) C.1 hS C.2.2.2 q1415 (le_lit hRf rfl) (le_lit hRl rfl) hcs hl.1 (by simp only [List.map_cons, List.map_nil, va_rf_cat]; exact Nat.le_of_ble_eq_true rfl) dX9_fill_7 h (fun r2 H locs h hk hS => ?_)
  have hW := hW.kept hk
  refine sh_aload_n hx hb dX9_fill_10 rfl (lv_at hl 1 rfl) ?_
  refine lv_iconst (v := 1) hx hb dX9_fill_11 (by decide) ?_
  refine sh_lald C hW h dX9_fill_12 (fun v3 h => ?_)
  refine lv_ldc2 hx hb hown (hts _ q950) dX9_fill_13 ?_
  refine call_J13_floorDiv (ct_J13_floorDiv l) C.1 hS C.2.2.2 q1415 (le_lit hRf rfl) (le_lit hRl rfl) hcs hl.1 (by simp only [List.map_cons, List.map_nil, va_rf_cat]; exact Nat.le_of_ble_eq_true rfl) dX9_fill_16 h (fun r4 H locs h hk hS => ?_)
  have hW := hW.kept hk
  refine sh_aload_n hx hb dX9_fill_19 rfl (lv_at hl 2 rfl) ?_
  refine lv_iconst (v := 0) hx hb dX9_fill_20 (by decide) ?_
  refine sh_lald C hW h dX9_fill_21 (fun v5 h => ?_)
  refine lv_ldc2 hx hb hown (hts _ q950) dX9_fill_22 ?_
  refine call_J13_floorDiv (ct_J13_floorDiv l) C.1 hS C.2.2.2 q1415 (le_lit hRf rfl) (le_lit hRl rfl) hcs hl.1 (by simp only [List.map_cons, List.map_nil, va_rf_cat]; exact Nat.le_of_ble_eq_true rfl) dX9_fill_25 h (fun r6 H locs h hk hS => ?_)
  have hW := hW.kept hk
  refine sh_aload_n hx hb dX9_fill_28 rfl (lv_at hl 2 rfl) ?_
  refine lv_iconst (v := 1) hx hb dX9_fill_29 (by decide) ?_
  refine sh_lald C hW h dX9_fill_30 (fun v7 h => ?_)
  refine lv_ldc2 hx hb hown (hts _ q950) dX9_fill_31 ?_
  refine call_J13_floorDiv (ct_J13_floorDiv l) C.1 hS C.2.2.2 q1415 (le_lit hRf rfl) (le_lit hRl rfl) hcs hl.1 (by simp only [List.map_cons, List.map_nil, va_rf_cat]; exact Nat.le_of_ble_eq_true rfl) dX9_fill_34 h (fun r8 H locs h hk hS => ?_)
  have hW := hW.kept hk
  refine sh_aload_n hx hb dX9_fill_37 rfl (lv_at hl 0 rfl) ?_
  obtain ⟨v9, h1, h⟩ := h
  refine sh_get C hW xFb_21 q833 (u_same (hts _ q834)) h1 dX9_fill_38 ?_
  obtain ⟨a10, c11, ho41, hcv41, h⟩ := h
  have hcc := h.1
  have h := h.2
  refine call_X2_fill_V (ct_X2_fill l) C hW hS q1537 ho41 hcv41 hcc (le_lit hRf rfl) (le_lit hRl rfl) hcs hl.1 (Nat.le_of_ble_eq_true rfl) dX9_fill_41 h (fun G12 H locs h hW hS _ => ?_)
  exact hret _ _ _ _ _ dX9_fill_44 hW hS h
theorem ct_X9_fill (l : Launch) : CT_X9_fill l 3 78 w_X9_fill := by
  intro V sz G Q x0 x1 x2 x3
  refine Met.ofW (cc := cX9_fill) (maxL := 4) (ret := none) (by decide) rfl ?_
  intro p e s m args below meth c s₁ B hml hv
  obtain ⟨rfl, hsz, hW, hK, hZ, h⟩ := hv
  subst hsz
  have hts := atoms_spec (ws := (ws_ yX9_fill cX9_fill 4 none)) B.pre
  have hts : ∀ w ∈ lw_all, w.before _ s = true := fun w h => hts w (List.mem_cons_of_mem _ h)
  have key : ∃ ls : Array Slot, entryFrame m ([.ref x0, va_rf x1, va_rf x2, va_rf x3] : List Value).toArray 4 = F0 m 0 ls [] ∧ lv_has ls 4 [(0, va_rf (some x0)), (1, va_rf x1), (2, va_rf x2), (3, va_rf x3)] := by
    cases x1 <;> cases x2 <;> cases x3 <;> (refine ⟨_, by rw [lg_entry_eq], ?_⟩; exact lv_entry _ (Nat.le_of_ble_eq_true rfl))
  obtain ⟨ls, hfr, hl⟩ := key
  rw [hfr]
  exact wk_X9_fill Q ⟨⟨B.exec, B.bytes, hml, findClass_of_methodNamed B.named, hts⟩, hK, hZ, fun q h => Or.inr h⟩ (Nat.le_refl _) (Nat.le_refl _) ⟨Nat.le_refl _, Nat.le_refl _⟩ G (fun G pc ls H locs hd hW1 hS hQ => W.vret B.exec B.bytes B.returns (fun t ht _ => ⟨⟨G, rfl, hQ, by rw [← ht] at hW1; exact hW1⟩, hS.F ht⟩) hS.2.2 hd) x0 x1 x2 x3 h ls _ [] hl hW va_S.rf
def CT_X9_draw (l : Launch) (fr lo : Nat) (w : XV → (GM → Prop) → Nat → Int32 → (Option Nat) → (Option Nat) → GM → Prop) : Prop := ∀ (V : XV) (sz : Nat) (G : GM) (Q : GM → Prop) (x0 : Nat) (x1 : Int32) (x2 : Option Nat) (x3 : Option Nat), Met l yX9_draw (ws_ yX9_draw cX9_draw 17 none) { frames := fr, cells := 0, slots := 0, locals := lo } (va_Pc [.ref x0, .int x1, va_rf x2, va_rf x3] (fun U => U.heap.size = sz ∧ xW V (xA G sz) G U.heap ∧ xK V U ∧ xZ V (xA G sz) U U.heap ∧ w V Q x0 x1 x2 x3 G)) (va_Qv (fun (u : GM) => Q u) (fun u t => xW V (xA G sz) u t.heap) (xA G sz)) 0 0 (xA G sz)
theorem call_X9_draw_O4_Layer {p : Program} {l : Launch} {e : Env} {R : Room} {s : State} {m : MethodId} {args : Array Value} {below : List Frame} {meth : Method} {c : Code} {H : Heap} {locs : List Loc} {cells slots : Nat} {Z : State → Prop} {A : Nat → Prop} {cc : ByteArray} {nL pc : Nat} {ls : Array Slot} {rest : List Value} {own : String} {index fr lo : Nat} {w : XV → (GM → Prop) → Nat → Int32 → (Option Nat) → (Option Nat) → GM → Prop} {V : XV} {G : GM} {o : Option Nat} {ci : Nat} {x0 : Nat} {x1 : Int32} {x2 : Option Nat} {x3 : Option Nat} (hM : CT_X9_draw l fr lo w) (C : xC p m c s args cc nL own V A) (hW : xW V A G H) (hS : va_S A s.heap H locs) (hlink : Cond.methodLink own index ⟨"Shapelayer$Layer", "draw", "(ILShapelayer$Outer;LShapelayer$Raster;)V"⟩ ∈ lw_all) (ho : o = some x0) (hcv : gCi G (some x0) = some ci) (hci : ci % 64 = 4) (hRf : fr + 1 ≤ R.frames) (hRl : 8 + (17 + 11) + lo ≤ R.locals) (hcs : cells ≤ R.cells ∧ slots ≤ R.slots) (hz : ls.size = nL) (hr8 : (rest.map fun v => v.category).sum ≤ 8) (hdg : decode cc pc = .ok (.invokevirtual index, 3)) {Q1 : GM → Prop} (h : w V Q1 x0 x1 x2 x3 G) (kk : ∀ (G1 : GM) (H1 : Heap) (locs1 : List Loc), Q1 G1 → xW V A G1 H1 → va_S A s.heap H1 locs1 → xFr V G G1 H H1 → W p l e R s m args below meth c H1 locs1 cells slots Z (F0 m (pc + 3) ls (rest))) : W p l e R s m args below meth c H locs cells slots Z (F0 m pc ls (va_rf x3 :: va_rf x2 :: .int x1 :: va_rf o :: rest)) := by
  subst ho
  obtain ⟨fs, hG⟩ := gCi_of hcv
  exact rg_v3w (va_runU (As := [.int x1, va_rf x2, va_rf x3]) (rest := rest) C.1 (hM V H.size G Q1 x0 x1 x2 x3) (va_cwO (C := "Shapelayer$Stroke") 3 C.1.2.2.2.2 (lw_O hlink q1466 q1465 q1520 q1521 q91 q1522) rfl rfl rfl q1547 (by decide +kernel) ⟨hRf, hRl⟩) ⟨fun a U g mk q => by obtain ⟨q0, q1, qW, qK, qZ, qw⟩ := q; exact ⟨q0, q1, qW, xK.same (u := U) (U := U.calling g mk a) rfl qK, xZ.moved (u := U) (U := U.calling g mk a) (Vm.Alike.refl U.vm) qZ, qw⟩, (hW.recv C.2.1 hG (r := (RX9, TX9, 11)) (by rw [hci]; rfl)), fun U hU hWm => ⟨rfl, by rw [hU], by rw [hU]; exact hW.self _, C.2.1.warm hWm, xZ.call C.2.2.1 hW hS C.2.2.2 hU hWm.alike, h⟩⟩ rfl rfl hz rfl (lv_room hr8) hdg hcs) hW hS C.2.2.2 (fun G1 H1 locs1 hp hW1 hS1 hF1 => kk G1 H1 locs1 hp hW1 hS1 hF1)
def w_X9_draw_158 (V : XV) (Q : GM → Prop) (rec22 : Int64 → Int32 → GM → Prop) (x0 : Nat) (x1 : Int32) (x2 : Option Nat) (x3 : Option Nat) (x4 : Int64) (x6 : Int64) (x8 : Int64) (x10 : Int32) (G : GM) : Prop := rec22 x8 (x10 + (1 : Int32)) G
def w_X9_draw_h22 (V : XV) (Q : GM → Prop) (x0 : Nat) (x1 : Int32) (x2 : Option Nat) (x3 : Option Nat) (x4 : Int64) (x6 : Int64) (rec22 : Int64 → Int32 → GM → Prop) (x8 : Int64) (x10 : Int32) (G : GM) : Prop := gGR G 24 (some x0) (fun v1 => gRcv G v1 (fun a2 c3 => (c3 % 64 = 15) ∧ (w_J2_size V (fun r4 => if r4 ≤ x10 then (Q G) else (gRcv G (some x0) (fun a5 c6 => (c6 % 64 = 4) ∧ (w_X9_lengthOf V (fun r7 => w_J13_max_2 (fun r8 => w_J13_min_2 (fun r9 => if 0 < (lg_cmp (r9 - x8) (r8 - x8)) then (gRcv G (some x0) (fun a10 c11 => (c11 % 64 = 4) ∧ (w_X9_along V (fun r12 => gRcv G (some x0) (fun a13 c14 => (c14 % 64 = 4) ∧ (w_X9_along V (fun r15 => gGR G 7 x3 (fun v16 => gRcv G (some x0) (fun a17 c18 => (c18 % 64 = 4) ∧ (w_X5_map V (fun G19 => gRcv G19 (some x0) (fun a20 c21 => (c21 % 64 = 4) ∧ (w_X9_along V (fun r22 => gRcv G19 (some x0) (fun a23 c24 => (c24 % 64 = 4) ∧ (w_X9_along V (fun r25 => gGR G19 8 x3 (fun v26 => gRcv G19 (some x0) (fun a27 c28 => (c28 % 64 = 4) ∧ (w_X5_map V (fun G29 => gGR G29 7 x3 (fun v30 => gGR G29 8 x3 (fun v31 => gRcv G29 (some x0) (fun a32 c33 => (c33 % 64 = 4) ∧ (w_X9_fill V (fun G34 => w_X9_draw_158 V Q rec22 x0 x1 x2 x3 x4 x6 (x8 + r7) x10 G34) a32 v30 v31 x3 G29))))) a27 x1 x2 r22 r25 v26 G19)))) a23 x10 (1 : Int32) (r9 - x8) G19))) a20 x10 (0 : Int32) (r9 - x8) G19))) a17 x1 x2 r12 r15 v16 G)))) a13 x10 (1 : Int32) (r8 - x8) G))) a10 x10 (0 : Int32) (r8 - x8) G))) else (w_X9_draw_158 V Q rec22 x0 x1 x2 x3 x4 x6 (x8 + r7) x10 G)) x6 (x8 + r7)) x4 x8) a5 x10 G)))) a2 G)))
def w_X9_draw_L22 (V : XV) (Q : GM → Prop) (x0 : Nat) (x1 : Int32) (x2 : Option Nat) (x3 : Option Nat) (x4 : Int64) (x6 : Int64) (x8 : Int64) (x10 : Int32) (G : GM) : Prop := wLoop (fun (rec : (Int64 × Int32 × GM) → Prop) (s : Int64 × Int32 × GM) => w_X9_draw_h22 V Q x0 x1 x2 x3 x4 x6 (fun x8 x10 G => rec (x8, x10, G)) s.1 s.2.1 s.2.2) (x8, x10, G)
def w_X9_draw (V : XV) (Q : GM → Prop) (x0 : Nat) (x1 : Int32) (x2 : Option Nat) (x3 : Option Nat) (G : GM) : Prop := gRcv G (some x0) (fun a37 c38 => (c38 % 64 = 4) ∧ (w_X9_cut V (fun r39 => gRcv G (some x0) (fun a40 c41 => (c41 % 64 = 4) ∧ (w_X9_cut V (fun r42 => w_X9_draw_L22 V Q x0 x1 x2 x3 r39 r42 (0 : Int64) (1 : Int32) G) a40 (5 : Int32) x1 G))) a37 (4 : Int32) x1 G))
set_option maxRecDepth 100000 in
set_option maxHeartbeats 4000000 in
theorem wk_X9_draw {p : Program} {l : Launch} {e : Env} {R : Room} {s : State} {m : MethodId} {args : Array Value} {below : List Frame} {meth : Method} {c : Code} {cells slots : Nat} {Z : State → Prop} {A : Nat → Prop} {V : XV} (Q : GM → Prop) (C : xC p m c s args cX9_draw 17 RX9 V A) (hRf : 10 ≤ R.frames) (hRl : 228 ≤ R.locals) (hcs : cells ≤ R.cells ∧ slots ≤ R.slots) (G : GM) (hret : ∀ (G : GM) (pc : Nat) (ls : Array Slot) (H : Heap) (locs : List Loc), decode cX9_draw pc = .ok (.return_, 1) → xW V A G H → va_S A s.heap H locs → Q G → W p l e R s m args below meth c H locs cells slots Z (F0 m pc ls [])) (x0 : Nat) (x1 : Int32) (x2 : Option Nat) (x3 : Option Nat) : w_X9_draw V Q x0 x1 x2 x3 G → ∀ (ls : Array Slot) (H : Heap) (locs : List Loc), lv_has ls 17 [(0, va_rf (some x0)), (1, .int x1), (2, va_rf x2), (3, va_rf x3)] → xW V A G H → va_S A s.heap H locs → W p l e R s m args below meth c H locs cells slots Z (F0 m 0 ls []) := by
  have hx := C.1.1; have hb := C.1.2.1; have hml := C.1.2.2.1; have hown := C.1.2.2.2.1; have hts := C.1.2.2.2.2
  have hL22 : ∀ (x4 : Int64) (x6 : Int64) (x8 : Int64) (x10 : Int32) (G : GM), w_X9_draw_L22 V Q x0 x1 x2 x3 x4 x6 x8 x10 G → ∀ (ls : Array Slot) (H : Heap) (locs : List Loc), lv_has ls 17 [(0, va_rf (some x0)), (1, .int x1), (2, va_rf x2), (3, va_rf x3), (4, .long x4), (6, .long x6), (8, .long x8), (10, .int x10)] → xW V A G H → va_S A s.heap H locs → W p l e R s m args below meth c H locs cells slots Z (F0 m 22 ls []) := by
    intro x4 x6
    obtain ⟨GG22, hG22⟩ : ∃ GG : Int64 → Int32 → GM → Prop, ∀ (x8 : Int64) (x10 : Int32) (G : GM), GG x8 x10 G ↔ (∀ (ls : Array Slot) (H : Heap) (locs : List Loc), lv_has ls 17 [(0, va_rf (some x0)), (1, .int x1), (2, va_rf x2), (3, va_rf x3), (4, .long x4), (6, .long x6), (8, .long x8), (10, .int x10)] → xW V A G H → va_S A s.heap H locs → W p l e R s m args below meth c H locs cells slots Z (F0 m 22 ls [])) := ⟨fun x8 x10 G => _, fun x8 x10 G => Iff.rfl⟩
    have hB22 : ∀ (rec22 : Int64 → Int32 → GM → Prop), (∀ (x8 : Int64) (x10 : Int32) (G : GM), rec22 x8 x10 G → GG22 x8 x10 G) → ∀ (x8 : Int64) (x10 : Int32) (G : GM), w_X9_draw_h22 V Q x0 x1 x2 x3 x4 x6 rec22 x8 x10 G → GG22 x8 x10 G := by
      intro rec22 hrec22
      have hb158 : ∀ (x8 : Int64) (x10 : Int32) (G : GM), w_X9_draw_158 V Q rec22 x0 x1 x2 x3 x4 x6 x8 x10 G → ∀ (ls : Array Slot) (H : Heap) (locs : List Loc), lv_has ls 17 [(0, va_rf (some x0)), (1, .int x1), (2, va_rf x2), (3, va_rf x3), (4, .long x4), (6, .long x6), (8, .long x8), (10, .int x10)] → xW V A G H → va_S A s.heap H locs → W p l e R s m args below meth c H locs cells slots Z (F0 m 158 ls []) := by
        intro x8 x10 G h
        intro ls H locs hl hW hS
        refine lv_iinc (v := x10 + (1 : Int32)) (lv' := [(10, .int (x10 + (1 : Int32))), (0, va_rf (some x0)), (1, .int x1), (2, va_rf x2), (3, va_rf x3), (4, .long x4), (6, .long x6), (8, .long x8)]) hx hb dX9_draw_158 hl (k := 7) rfl (congrArg (fun z => x10 + z) (by decide)) (by decide) rfl (fun ls hl => ?_)
        refine lv_goto (tgt := 22) hx hb dX9_draw_161 (by decide) ?_
        exact (hG22 _ _ _).mp (hrec22 _ _ _ h) ls H locs (lv_sub hl [1, 2, 3, 4, 5, 6, 7, 0] rfl) hW hS
      intro x8 x10 G h
      rw [hG22]
      intro ls H locs hl hW hS
      refine lv_iload hx hb dX9_draw_22 (lv_at hl 7 rfl) ?_
      refine sh_aload_n hx hb dX9_draw_24 rfl (lv_at hl 0 rfl) ?_
      obtain ⟨v1, h1, h⟩ := h
      refine sh_get C hW xFb_24 q897 (fun _ h => h) h1 dX9_draw_25 ?_
      obtain ⟨a2, c3, ho28, hcv28, h⟩ := h
      have hcc := h.1
      have h := h.2
      refine call_J2_size_F15_List (ct_J2_size l) C hW hS q942 ho28 hcv28 hcc (le_lit hRf rfl) (le_lit hRl rfl) hcs hl.1 (Nat.le_of_ble_eq_true rfl) dX9_draw_28 h (fun r4 H locs h hW hS _ => ?_)
      refine lv_icmp_ge (tgt := 164) hx hb dX9_draw_33 (by decide) (fun c36 => ?_) (fun c36 => ?_)
      · have h := wif_t h c36
        exact hret _ _ _ _ _ dX9_draw_164 hW hS h
      · have h := wif_f h c36
        refine sh_aload_n hx hb dX9_draw_36 rfl (lv_at hl 0 rfl) ?_
        refine lv_iload hx hb dX9_draw_37 (lv_at hl 7 rfl) ?_
        obtain ⟨a5, c6, ho39, hcv39, h⟩ := h
        have hcc := h.1
        have h := h.2
        refine call_X9_lengthOf_V (ct_X9_lengthOf l) C hW hS q943 ho39 hcv39 hcc (le_lit hRf rfl) (le_lit hRl rfl) hcs hl.1 (Nat.le_of_ble_eq_true rfl) dX9_draw_39 h (fun r7 H locs h hW hS _ => ?_)
        refine lv_lstore (lv' := [(11, .long r7), (0, va_rf (some x0)), (1, .int x1), (2, va_rf x2), (3, va_rf x3), (4, .long x4), (6, .long x6), (8, .long x8), (10, .int x10)]) hx hb dX9_draw_42 hl (by decide) rfl (fun ls hl => ?_)
        refine lv_lload hx hb dX9_draw_44 (lv_at hl 5 rfl) ?_
        refine lv_lload hx hb dX9_draw_46 (lv_at hl 7 rfl) ?_
        refine call_J13_max_2 (ct_J13_max_2 l) C.1 hS C.2.2.2 q1419 (le_lit hRf rfl) (le_lit hRl rfl) hcs hl.1 (Nat.le_of_ble_eq_true rfl) dX9_draw_48 h (fun r8 H locs h hk hS => ?_)
        have hW := hW.kept hk
        refine lv_lload hx hb dX9_draw_51 (lv_at hl 7 rfl) ?_
        refine lv_lsub hx hb dX9_draw_53 ?_
        refine lv_lstore (lv' := [(13, .long (r8 - x8)), (11, .long r7), (0, va_rf (some x0)), (1, .int x1), (2, va_rf x2), (3, va_rf x3), (4, .long x4), (6, .long x6), (8, .long x8), (10, .int x10)]) hx hb dX9_draw_54 hl (by decide) rfl (fun ls hl => ?_)
        refine lv_lload hx hb dX9_draw_56 (lv_at hl 7 rfl) ?_
        refine lv_lload hx hb dX9_draw_58 (lv_at hl 8 rfl) ?_
        refine lv_lload hx hb dX9_draw_60 (lv_at hl 1 rfl) ?_
        refine lv_ladd hx hb dX9_draw_62 ?_
        refine call_J13_min_2 (ct_J13_min_2 l) C.1 hS C.2.2.2 q1416 (le_lit hRf rfl) (le_lit hRl rfl) hcs hl.1 (Nat.le_of_ble_eq_true rfl) dX9_draw_63 h (fun r9 H locs h hk hS => ?_)
        have hW := hW.kept hk
        refine lv_lload hx hb dX9_draw_66 (lv_at hl 8 rfl) ?_
        refine lv_lsub hx hb dX9_draw_68 ?_
        refine lv_lstore (lv' := [(15, .long (r9 - x8)), (13, .long (r8 - x8)), (11, .long r7), (0, va_rf (some x0)), (1, .int x1), (2, va_rf x2), (3, va_rf x3), (4, .long x4), (6, .long x6), (8, .long x8), (10, .int x10)]) hx hb dX9_draw_69 hl (by decide) rfl (fun ls hl => ?_)
        refine lv_lload hx hb dX9_draw_71 (lv_at hl 9 rfl) ?_
        refine lv_lload hx hb dX9_draw_73 (lv_at hl 2 rfl) ?_
        refine lv_ladd hx hb dX9_draw_75 ?_
        refine lv_lstore (lv' := [(8, .long (x8 + r7)), (15, .long (r9 - x8)), (13, .long (r8 - x8)), (11, .long r7), (0, va_rf (some x0)), (1, .int x1), (2, va_rf x2), (3, va_rf x3), (4, .long x4), (6, .long x6), (10, .int x10)]) hx hb dX9_draw_76 hl (by decide) rfl (fun ls hl => ?_)
        refine lv_lload hx hb dX9_draw_78 (lv_at hl 1 rfl) ?_
        refine lv_lload hx hb dX9_draw_80 (lv_at hl 2 rfl) ?_
        refine W.lcmp hx hb dX9_draw_82 ?_
        refine lv_if_gt (tgt := 89) hx hb dX9_draw_83 (by decide) (fun c35 => ?_) (fun c35 => ?_)
        · have h := wif_t h c35
          refine sh_aload_n hx hb dX9_draw_89 rfl (lv_at hl 4 rfl) ?_
          refine lv_iload_n hx hb dX9_draw_90 rfl (lv_at hl 5 rfl) ?_
          refine sh_aload_n hx hb dX9_draw_91 rfl (lv_at hl 6 rfl) ?_
          refine sh_aload_n hx hb dX9_draw_92 rfl (lv_at hl 4 rfl) ?_
          refine lv_iload hx hb dX9_draw_93 (lv_at hl 10 rfl) ?_
          refine lv_iconst (v := 0) hx hb dX9_draw_95 (by decide) ?_
          refine lv_lload hx hb dX9_draw_96 (lv_at hl 2 rfl) ?_
          obtain ⟨a10, c11, ho98, hcv98, h⟩ := h
          have hcc := h.1
          have h := h.2
          refine call_X9_along_V (ct_X9_along l) C hW hS q1523 ho98 hcv98 hcc (le_lit hRf rfl) (le_lit hRl rfl) hcs hl.1 (by simp only [List.map_cons, List.map_nil, va_rf_cat]; exact Nat.le_of_ble_eq_true rfl) dX9_draw_98 h (fun r12 H locs h hW hS _ => ?_)
          refine sh_aload_n hx hb dX9_draw_101 rfl (lv_at hl 4 rfl) ?_
          refine lv_iload hx hb dX9_draw_102 (lv_at hl 10 rfl) ?_
          refine lv_iconst (v := 1) hx hb dX9_draw_104 (by decide) ?_
          refine lv_lload hx hb dX9_draw_105 (lv_at hl 2 rfl) ?_
          obtain ⟨a13, c14, ho107, hcv107, h⟩ := h
          have hcc := h.1
          have h := h.2
          refine call_X9_along_V (ct_X9_along l) C hW hS q1523 ho107 hcv107 hcc (le_lit hRf rfl) (le_lit hRl rfl) hcs hl.1 (by simp only [List.map_cons, List.map_nil, va_rf_cat]; exact Nat.le_of_ble_eq_true rfl) dX9_draw_107 h (fun r15 H locs h hW hS _ => ?_)
          refine sh_aload_n hx hb dX9_draw_110 rfl (lv_at hl 7 rfl) ?_
          obtain ⟨v16, h1, h⟩ := h
          refine sh_getN C hW xFb_7 q183 (fun _ h => h) (by decide) h1 dX9_draw_111 ?_
          obtain ⟨a17, c18, ho114, hcv114, h⟩ := h
          have hcc := h.1
          have h := h.2
          refine call_X5_map_U4_Stroke (ct_X5_map l) C hW hS q1530 ho114 hcv114 hcc (le_lit hRf rfl) (le_lit hRl rfl) hcs hl.1 (Nat.le_of_ble_eq_true rfl) dX9_draw_114 h (fun G19 H locs h hW hS _ => ?_)
          refine sh_aload_n hx hb dX9_draw_117 rfl (lv_at hl 4 rfl) ?_
          refine lv_iload_n hx hb dX9_draw_118 rfl (lv_at hl 5 rfl) ?_
          refine sh_aload_n hx hb dX9_draw_119 rfl (lv_at hl 6 rfl) ?_
          refine sh_aload_n hx hb dX9_draw_120 rfl (lv_at hl 4 rfl) ?_
          refine lv_iload hx hb dX9_draw_121 (lv_at hl 10 rfl) ?_
          refine lv_iconst (v := 0) hx hb dX9_draw_123 (by decide) ?_
          refine lv_lload hx hb dX9_draw_124 (lv_at hl 1 rfl) ?_
          obtain ⟨a20, c21, ho126, hcv126, h⟩ := h
          have hcc := h.1
          have h := h.2
          refine call_X9_along_V (ct_X9_along l) C hW hS q1523 ho126 hcv126 hcc (le_lit hRf rfl) (le_lit hRl rfl) hcs hl.1 (by simp only [List.map_cons, List.map_nil, va_rf_cat]; exact Nat.le_of_ble_eq_true rfl) dX9_draw_126 h (fun r22 H locs h hW hS _ => ?_)
          refine sh_aload_n hx hb dX9_draw_129 rfl (lv_at hl 4 rfl) ?_
          refine lv_iload hx hb dX9_draw_130 (lv_at hl 10 rfl) ?_
          refine lv_iconst (v := 1) hx hb dX9_draw_132 (by decide) ?_
          refine lv_lload hx hb dX9_draw_133 (lv_at hl 1 rfl) ?_
          obtain ⟨a23, c24, ho135, hcv135, h⟩ := h
          have hcc := h.1
          have h := h.2
          refine call_X9_along_V (ct_X9_along l) C hW hS q1523 ho135 hcv135 hcc (le_lit hRf rfl) (le_lit hRl rfl) hcs hl.1 (by simp only [List.map_cons, List.map_nil, va_rf_cat]; exact Nat.le_of_ble_eq_true rfl) dX9_draw_135 h (fun r25 H locs h hW hS _ => ?_)
          refine sh_aload_n hx hb dX9_draw_138 rfl (lv_at hl 7 rfl) ?_
          obtain ⟨v26, h1, h⟩ := h
          refine sh_getN C hW xFb_8 q186 (fun _ h => h) (by decide) h1 dX9_draw_139 ?_
          obtain ⟨a27, c28, ho142, hcv142, h⟩ := h
          have hcc := h.1
          have h := h.2
          refine call_X5_map_U4_Stroke (ct_X5_map l) C hW hS q1530 ho142 hcv142 hcc (le_lit hRf rfl) (le_lit hRl rfl) hcs hl.1 (Nat.le_of_ble_eq_true rfl) dX9_draw_142 h (fun G29 H locs h hW hS _ => ?_)
          refine sh_aload_n hx hb dX9_draw_145 rfl (lv_at hl 4 rfl) ?_
          refine sh_aload_n hx hb dX9_draw_146 rfl (lv_at hl 7 rfl) ?_
          obtain ⟨v30, h1, h⟩ := h
          refine sh_getN C hW xFb_7 q183 (fun _ h => h) (by decide) h1 dX9_draw_147 ?_
          refine sh_aload_n hx hb dX9_draw_150 rfl (lv_at hl 7 rfl) ?_
          obtain ⟨v31, h1, h⟩ := h
          refine sh_getN C hW xFb_8 q186 (fun _ h => h) (by decide) h1 dX9_draw_151 ?_
          refine sh_aload_n hx hb dX9_draw_154 rfl (lv_at hl 7 rfl) ?_
          obtain ⟨a32, c33, ho155, hcv155, h⟩ := h
          have hcc := h.1
          have h := h.2
          refine call_X9_fill_V (ct_X9_fill l) C hW hS q1533 ho155 hcv155 hcc (le_lit hRf rfl) (le_lit hRl rfl) hcs hl.1 (Nat.le_of_ble_eq_true rfl) dX9_draw_155 h (fun G34 H locs h hW hS _ => ?_)
          exact hb158 _ _ _ h ls H locs (lv_sub hl [4, 5, 6, 7, 8, 9, 0, 10] rfl) hW hS
        · have h := wif_f h c35
          refine lv_goto (tgt := 158) hx hb dX9_draw_86 (by decide) ?_
          exact hb158 _ _ _ h ls H locs (lv_sub hl [4, 5, 6, 7, 8, 9, 0, 10] rfl) hW hS
    intro x8 x10 G h
    exact (hG22 x8 x10 G).mp (loop_walk (fun s => GG22 s.1 s.2.1 s.2.2) (fun rec hrec s h => hB22 (fun x8 x10 G => rec (x8, x10, G)) (fun x8 x10 G h => hrec (x8, x10, G) h) s.1 s.2.1 s.2.2 h) (x8, x10, G) h)
  intro h
  intro ls H locs hl hW hS
  refine sh_aload_n hx hb dX9_draw_0 rfl (lv_at hl 0 rfl) ?_
  refine lv_iconst (v := 4) hx hb dX9_draw_1 (by decide) ?_
  refine lv_iload_n hx hb dX9_draw_2 rfl (lv_at hl 1 rfl) ?_
  obtain ⟨a37, c38, ho3, hcv3, h⟩ := h
  have hcc := h.1
  have h := h.2
  refine call_X9_cut_V (ct_X9_cut l) C hW hS q1407 ho3 hcv3 hcc (le_lit hRf rfl) (le_lit hRl rfl) hcs hl.1 (Nat.le_of_ble_eq_true rfl) dX9_draw_3 h (fun r39 H locs h hW hS _ => ?_)
  refine lv_lstore (lv' := [(4, .long r39), (0, va_rf (some x0)), (1, .int x1), (2, va_rf x2), (3, va_rf x3)]) hx hb dX9_draw_6 hl (by decide) (by simp only [List.filter_cons, List.filter_nil, va_rf_cat]; rfl) (fun ls hl => ?_)
  refine sh_aload_n hx hb dX9_draw_8 rfl (lv_at hl 1 rfl) ?_
  refine lv_iconst (v := 5) hx hb dX9_draw_9 (by decide) ?_
  refine lv_iload_n hx hb dX9_draw_10 rfl (lv_at hl 2 rfl) ?_
  obtain ⟨a40, c41, ho11, hcv11, h⟩ := h
  have hcc := h.1
  have h := h.2
  refine call_X9_cut_V (ct_X9_cut l) C hW hS q1407 ho11 hcv11 hcc (le_lit hRf rfl) (le_lit hRl rfl) hcs hl.1 (Nat.le_of_ble_eq_true rfl) dX9_draw_11 h (fun r42 H locs h hW hS _ => ?_)
  refine lv_lstore (lv' := [(6, .long r42), (4, .long r39), (0, va_rf (some x0)), (1, .int x1), (2, va_rf x2), (3, va_rf x3)]) hx hb dX9_draw_14 hl (by decide) rfl (fun ls hl => ?_)
  refine lv_lconst (v := 0) hx hb dX9_draw_16 (by decide) ?_
  refine lv_lstore (lv' := [(8, .long (0 : Int64)), (6, .long r42), (4, .long r39), (0, va_rf (some x0)), (1, .int x1), (2, va_rf x2), (3, va_rf x3)]) hx hb dX9_draw_17 hl (by decide) rfl (fun ls hl => ?_)
  refine lv_iconst (v := 1) hx hb dX9_draw_19 (by decide) ?_
  refine lv_istore (lv' := [(10, .int (1 : Int32)), (8, .long (0 : Int64)), (6, .long r42), (4, .long r39), (0, va_rf (some x0)), (1, .int x1), (2, va_rf x2), (3, va_rf x3)]) hx hb dX9_draw_20 hl (by decide) rfl (fun ls hl => ?_)
  exact hL22 _ _ _ _ _ h ls H locs (lv_sub hl [4, 5, 6, 7, 3, 2, 1, 0] rfl) hW hS
theorem ct_X9_draw (l : Launch) : CT_X9_draw l 10 228 w_X9_draw := by
  intro V sz G Q x0 x1 x2 x3
  refine Met.ofW (cc := cX9_draw) (maxL := 17) (ret := none) (by decide) rfl ?_
  intro p e s m args below meth c s₁ B hml hv
  obtain ⟨rfl, hsz, hW, hK, hZ, h⟩ := hv
  subst hsz
  have hts := atoms_spec (ws := (ws_ yX9_draw cX9_draw 17 none)) B.pre
  have hts : ∀ w ∈ lw_all, w.before _ s = true := fun w h => hts w (List.mem_cons_of_mem _ h)
  have key : ∃ ls : Array Slot, entryFrame m ([.ref x0, .int x1, va_rf x2, va_rf x3] : List Value).toArray 17 = F0 m 0 ls [] ∧ lv_has ls 17 [(0, va_rf (some x0)), (1, .int x1), (2, va_rf x2), (3, va_rf x3)] := by
    cases x2 <;> cases x3 <;> (refine ⟨_, by rw [lg_entry_eq], ?_⟩; exact lv_entry _ (Nat.le_of_ble_eq_true rfl))
  obtain ⟨ls, hfr, hl⟩ := key
  rw [hfr]
  exact wk_X9_draw Q ⟨⟨B.exec, B.bytes, hml, findClass_of_methodNamed B.named, hts⟩, hK, hZ, fun q h => Or.inr h⟩ (Nat.le_refl _) (Nat.le_refl _) ⟨Nat.le_refl _, Nat.le_refl _⟩ G (fun G pc ls H locs hd hW1 hS hQ => W.vret B.exec B.bytes B.returns (fun t ht _ => ⟨⟨G, rfl, hQ, by rw [← ht] at hW1; exact hW1⟩, hS.F ht⟩) hS.2.2 hd) x0 x1 x2 x3 h ls _ [] hl hW va_S.rf
def CT_X2_init (l : Launch) (fr lo : Nat) (w : XV → (GM → Prop) → Nat → GM → Nat → Nat → Prop) : Prop := ∀ (V : XV) (sz : Nat) (G : GM) (Q : GM → Prop) (x0 : Nat) (kc ks : Nat), Met l yX2_init (ws_ yX2_init cX2_init 1 none) { frames := fr, cells := kc, slots := ks, locals := lo } (va_Pc [.ref x0] (fun U => U.heap.size = sz ∧ xW V (xA G sz) G U.heap ∧ xK V U ∧ xZ V (xA G sz) U U.heap ∧ w V Q x0 G kc ks)) (va_Qv (fun (u : GM) => Q u) (fun u t => xW V (xA G sz) u t.heap) (xA G sz)) kc ks (xA G sz)
theorem call_X2_init_I {p : Program} {l : Launch} {e : Env} {R : Room} {s : State} {m : MethodId} {args : Array Value} {below : List Frame} {meth : Method} {c : Code} {H : Heap} {locs : List Loc} {cells slots : Nat} {Z : State → Prop} {A : Nat → Prop} {cc : ByteArray} {nL pc : Nat} {ls : Array Slot} {rest : List Value} {own : String} {index fr lo : Nat} {w : XV → (GM → Prop) → Nat → GM → Nat → Nat → Prop} {V : XV} {G : GM} {o : Option Nat} {kc ks c1 s1 : Nat} {x0 : Nat} (hM : CT_X2_init l fr lo w) (C : xC p m c s args cc nL own V A) (hW : xW V A G H) (hS : va_S A s.heap H locs) (hlink : Cond.methodLink own index yX2_init ∈ lw_all) (ho : o = some x0) (hRf : fr + 1 ≤ R.frames) (hRl : 8 + (1 + 11) + lo ≤ R.locals) (hc1 : c1 ≤ kc) (hs1 : s1 ≤ ks) (hkc : cells + kc ≤ R.cells) (hks : slots + ks ≤ R.slots) (hz : ls.size = nL) (hr8 : (rest.map fun v => v.category).sum ≤ 8) (hdg : decode cc pc = .ok (.invokespecial index, 3)) {Q1 : GM → Prop} (h : w V Q1 x0 G c1 s1) (kk : ∀ (G1 : GM) (H1 : Heap) (locs1 : List Loc), Q1 G1 → xW V A G1 H1 → va_S A s.heap H1 locs1 → xFr V G G1 H H1 → (cells + c1) + (kc - c1) ≤ R.cells → (slots + s1) + (ks - s1) ≤ R.slots → W p l e R s m args below meth c H1 locs1 (cells + c1) (slots + s1) Z (F0 m (pc + 3) ls (rest))) : W p l e R s m args below meth c H locs cells slots Z (F0 m pc ls (va_rf o :: rest)) := by
  subst ho
  exact rg_v3w (va_runI (As := []) (rest := rest) C.1 (hM V H.size G Q1 x0 c1 s1) (cwI 0 C.1.2.2.2.2 (lw_meth q177) rfl rfl rfl (C.1.2.2.2.2 _ q67) (C.1.2.2.2.2 _ hlink) (C.1.2.2.2.2 _ q176) rfl (by decide +kernel) ⟨hRf, hRl⟩) ⟨fun a U g mk q => by obtain ⟨q0, q1, qW, qK, qZ, qw⟩ := q; exact ⟨q0, q1, qW, xK.same (u := U) (U := U.calling g mk a) rfl qK, xZ.moved (u := U) (U := U.calling g mk a) (Vm.Alike.refl U.vm) qZ, qw⟩, fun U hU hWm => ⟨rfl, by rw [hU], by rw [hU]; exact hW.self _, C.2.1.warm hWm, xZ.call C.2.2.1 hW hS C.2.2.2 hU hWm.alike, h⟩⟩ rfl rfl hz rfl (lv_room hr8) hdg ⟨by omega, by omega⟩) hW hS C.2.2.2 (fun G1 H1 locs1 hp hW1 hS1 hF1 => kk G1 H1 locs1 hp hW1 hS1 hF1 (by omega) (by omega))
theorem call_X2_init_IN {p : Program} {l : Launch} {e : Env} {R : Room} {s : State} {m : MethodId} {args : Array Value} {below : List Frame} {meth : Method} {c : Code} {H : Heap} {locs : List Loc} {cells slots : Nat} {Z : State → Prop} {A : Nat → Prop} {cc : ByteArray} {nL pc : Nat} {ls : Array Slot} {rest : List Value} {own : String} {index fr lo : Nat} {w : XV → (GM → Prop) → Nat → GM → Nat → Nat → Prop} {V : XV} {G : GM} {o : Option Nat} {kc ks c1 s1 : Nat} {x0 : Nat} (hM : CT_X2_init l fr lo w) (C : xC p m c s args cc nL own V A) (hW : xW V A G H) (hS : va_S A s.heap H locs) (hlink : Cond.methodLinkNest own index yX2_init "Shapelayer" ∈ lw_tbl) (ho : o = some x0) (hRf : fr + 1 ≤ R.frames) (hRl : 8 + (1 + 11) + lo ≤ R.locals) (hc1 : c1 ≤ kc) (hs1 : s1 ≤ ks) (hkc : cells + kc ≤ R.cells) (hks : slots + ks ≤ R.slots) (hz : ls.size = nL) (hr8 : (rest.map fun v => v.category).sum ≤ 8) (hdg : decode cc pc = .ok (.invokespecial index, 3)) {Q1 : GM → Prop} (h : w V Q1 x0 G c1 s1) (kk : ∀ (G1 : GM) (H1 : Heap) (locs1 : List Loc), Q1 G1 → xW V A G1 H1 → va_S A s.heap H1 locs1 → xFr V G G1 H H1 → (cells + c1) + (kc - c1) ≤ R.cells → (slots + s1) + (ks - s1) ≤ R.slots → W p l e R s m args below meth c H1 locs1 (cells + c1) (slots + s1) Z (F0 m (pc + 3) ls (rest))) : W p l e R s m args below meth c H locs cells slots Z (F0 m pc ls (va_rf o :: rest)) := by
  subst ho
  exact rg_v3w (va_runIN (As := []) (rest := rest) C.1 (hM V H.size G Q1 x0 c1 s1) ⟨va_cnB (host := "Shapelayer") 0 C.1.2.2.2.2 (lw_meth q177) rfl rfl rfl (C.2.1.2.2.1 _ hlink rfl) (C.1.2.2.2.2 _ q67) (by decide +kernel) ⟨hRf, hRl⟩, rfl, C.1.2.2.2.2 _ q176⟩ ⟨fun a U g mk q => by obtain ⟨q0, q1, qW, qK, qZ, qw⟩ := q; exact ⟨q0, q1, qW, xK.same (u := U) (U := U.calling g mk a) rfl qK, xZ.moved (u := U) (U := U.calling g mk a) (Vm.Alike.refl U.vm) qZ, qw⟩, fun U hU hWm => ⟨rfl, by rw [hU], by rw [hU]; exact hW.self _, C.2.1.warm hWm, xZ.call C.2.2.1 hW hS C.2.2.2 hU hWm.alike, h⟩⟩ rfl rfl hz rfl (lv_room hr8) hdg ⟨by omega, by omega⟩) hW hS C.2.2.2 (fun G1 H1 locs1 hp hW1 hS1 hF1 => kk G1 H1 locs1 hp hW1 hS1 hF1 (by omega) (by omega))
def w_X2_init (V : XV) (Q : GM → Prop) (x0 : Nat) (G : GM) (kc : Nat) (ks : Nat) : Prop := gNa G 2 (fun N => (N, .inl (fun _ => 0))) (192 : Int32) kc ks (fun q1 n2 G3 => gPF G3 6 (some x0) (va_rf (some q1)) (fun G4 => gNa G4 1 (fun N => (N, .inr (.inl (fun _ => 0)))) (2 : Int32) (kc - 1) (ks - n2) (fun q5 n6 G7 => gPF G7 7 (some x0) (va_rf (some q5)) (fun G8 => gNa G8 1 (fun N => (N, .inr (.inl (fun _ => 0)))) (2 : Int32) ((kc - 1) - 1) ((ks - n2) - n6) (fun q9 n10 G11 => gPF G11 8 (some x0) (va_rf (some q9)) (fun G12 => Q G12))))))
set_option maxRecDepth 100000 in
set_option maxHeartbeats 4000000 in
theorem wk_X2_init {p : Program} {l : Launch} {e : Env} {R : Room} {s : State} {m : MethodId} {args : Array Value} {below : List Frame} {meth : Method} {c : Code} {Z : State → Prop} {A : Nat → Prop} {V : XV} (Q : GM → Prop) (C : xC p m c s args cX2_init 1 RX2 V A) (hin : meth.name = "<init>") (hRf : 1 ≤ R.frames) (hRl : 20 ≤ R.locals) (G : GM) (hret : ∀ (G : GM) (pc : Nat) (ls : Array Slot) (H : Heap) (locs : List Loc) (cells slots : Nat) {k1 k2 : Nat}, decode cX2_init pc = .ok (.return_, 1) → xW V A G H → va_S A s.heap H locs → cells + k1 ≤ R.cells → slots + k2 ≤ R.slots → Q G → W p l e R s m args below meth c H locs cells slots Z (F0 m pc ls [])) (x0 : Nat) (kc ks : Nat) : w_X2_init V Q x0 G kc ks → ∀ (ls : Array Slot) (H : Heap) (locs : List Loc) (cells slots : Nat), lv_has ls 1 [(0, va_rf (some x0))] → xW V A G H → va_S A s.heap H locs → cells + kc ≤ R.cells → slots + ks ≤ R.slots → W p l e R s m args below meth c H locs cells slots Z (F0 m 0 ls []) := by
  have hx := C.1.1; have hb := C.1.2.1; have hml := C.1.2.2.1; have hown := C.1.2.2.2.1; have hts := C.1.2.2.2.2
  intro h
  intro ls H locs cells slots hl hW hS hkc hks
  refine sh_aload_n hx hb dX2_init_0 rfl (lv_at hl 0 rfl) ?_
  refine sh_objInit C q178 q110 q111 hl.1 (le_lit hRf rfl) (le_lit hRl rfl) (Nat.le_of_ble_eq_true rfl) dX2_init_1 ?_
  refine sh_aload_n hx hb dX2_init_4 rfl (lv_at hl 0 rfl) ?_
  refine lv_sipush (v := 192) hx hb dX2_init_5 (by decide) ?_
  refine sh_newa C hW hS (atype := .byte) (t := 2) rfl (by decide) q172 (fun _ _ => rfl) (by decide) h hkc hks dX2_init_8 (fun q1 n2 G3 H hW hS h hN hkc hks => ?_)
  refine sh_putF C hW hS xFb_6 q179 (fun _ h => h) hin rfl xFd_6 (rf_nar_a _ _) (rf_fit_a _ _) h dX2_init_10 (fun G4 H locs hW hS h => ?_)
  refine sh_aload_n hx hb dX2_init_13 rfl (lv_at hl 0 rfl) ?_
  refine lv_iconst (v := 2) hx hb dX2_init_14 (by decide) ?_
  refine sh_newa C hW hS (atype := .long) (t := 1) rfl (by decide) q200 (fun _ _ => rfl) (by decide) h hkc hks dX2_init_15 (fun q5 n6 G7 H hW hS h hN hkc hks => ?_)
  refine sh_putF C hW hS xFb_7 q181 (fun _ h => h) hin rfl xFd_7 (rf_nar_a _ _) (rf_fit_a _ _) h dX2_init_17 (fun G8 H locs hW hS h => ?_)
  refine sh_aload_n hx hb dX2_init_20 rfl (lv_at hl 0 rfl) ?_
  refine lv_iconst (v := 2) hx hb dX2_init_21 (by decide) ?_
  refine sh_newa C hW hS (atype := .long) (t := 1) rfl (by decide) q200 (fun _ _ => rfl) (by decide) h hkc hks dX2_init_22 (fun q9 n10 G11 H hW hS h hN hkc hks => ?_)
  refine sh_putF C hW hS xFb_8 q184 (fun _ h => h) hin rfl xFd_8 (rf_nar_a _ _) (rf_fit_a _ _) h dX2_init_24 (fun G12 H locs hW hS h => ?_)
  exact hret _ _ _ _ _ _ _ dX2_init_27 hW hS hkc hks h
theorem ct_X2_init (l : Launch) : CT_X2_init l 1 20 w_X2_init := by
  intro V sz G Q x0 kc ks
  refine Met.ofW (cc := cX2_init) (maxL := 1) (ret := none) (by decide) rfl ?_
  intro p e s m args below meth c s₁ B hml hv
  obtain ⟨rfl, hsz, hW, hK, hZ, h⟩ := hv
  subst hsz
  have hts := atoms_spec (ws := (ws_ yX2_init cX2_init 1 none)) B.pre
  have hts : ∀ w ∈ lw_all, w.before _ s = true := fun w h => hts w (List.mem_cons_of_mem _ h)
  have hl := lv_entry ([.ref x0]) (n := 1) (Nat.le_of_ble_eq_true rfl)
  rw [lg_entry_eq]
  generalize (lg_sl ([.ref x0]) ++ List.replicate (1 - (lg_sl ([.ref x0])).length) Slot.unset).toArray = ls at hl ⊢
  exact wk_X2_init Q ⟨⟨B.exec, B.bytes, hml, findClass_of_methodNamed B.named, hts⟩, hK, hZ, fun q h => Or.inr h⟩ (name_of_methodNamed B.named B.method).1 (Nat.le_refl _) (Nat.le_refl _) G (fun G pc ls H locs cells slots _ _ hd hW1 hS hkc hks hQ => W.widen (k := kc) (n := ks) (Nat.le_trans (Nat.le_add_right _ _) hkc) (Nat.le_trans (Nat.le_add_right _ _) hks) (W.vret B.exec B.bytes B.returns (fun t ht _ => ⟨⟨G, rfl, hQ, by rw [← ht] at hW1; exact hW1⟩, hS.F ht⟩) hS.2.2 hd)) x0 kc ks h ls _ [] 0 0 hl hW va_S.rf (by show 0 + kc ≤ kc; omega) (by show 0 + ks ≤ ks; omega)
def CT_X2_own (l : Launch) (fr lo : Nat) (w : XV → (Option Nat → GM → Prop) → Nat → GM → Nat → Nat → Prop) : Prop := ∀ (V : XV) (sz : Nat) (G : GM) (Q : Option Nat → GM → Prop) (x0 : Nat) (kc ks : Nat), Met l yX2_own (ws_ yX2_own cX2_own 1 (some (.object "Shapelayer$Raster"))) { frames := fr, cells := kc, slots := ks, locals := lo } (va_Pc [.ref x0] (fun U => U.heap.size = sz ∧ xW V (xA G sz) G U.heap ∧ xK V U ∧ xZ V (xA G sz) U U.heap ∧ w V Q x0 G kc ks)) (va_Qq (fun r (u : GM) => Q r u) (fun u t => xW V (xA G sz) u t.heap) (xA G sz)) kc ks (xA G sz)
theorem call_X2_own_V {p : Program} {l : Launch} {e : Env} {R : Room} {s : State} {m : MethodId} {args : Array Value} {below : List Frame} {meth : Method} {c : Code} {H : Heap} {locs : List Loc} {cells slots : Nat} {Z : State → Prop} {A : Nat → Prop} {cc : ByteArray} {nL pc : Nat} {ls : Array Slot} {rest : List Value} {own : String} {index fr lo : Nat} {w : XV → (Option Nat → GM → Prop) → Nat → GM → Nat → Nat → Prop} {V : XV} {G : GM} {o : Option Nat} {ci : Nat} {kc ks c1 s1 : Nat} {x0 : Nat} (hM : CT_X2_own l fr lo w) (C : xC p m c s args cc nL own V A) (hW : xW V A G H) (hS : va_S A s.heap H locs) (hlink : Cond.methodLink own index yX2_own ∈ lw_all) (ho : o = some x0) (hcv : gCi G (some x0) = some ci) (hci : ci % 64 = 1) (hRf : fr + 1 ≤ R.frames) (hRl : 8 + (1 + 11) + lo ≤ R.locals) (hc1 : c1 ≤ kc) (hs1 : s1 ≤ ks) (hkc : cells + kc ≤ R.cells) (hks : slots + ks ≤ R.slots) (hz : ls.size = nL) (hr8 : (rest.map fun v => v.category).sum ≤ 8) (hdg : decode cc pc = .ok (.invokevirtual index, 3)) {Q1 : Option Nat → GM → Prop} (h : w V Q1 x0 G c1 s1) (kk : ∀ (r : Option Nat) (G1 : GM) (H1 : Heap) (locs1 : List Loc), Q1 r G1 → xW V A G1 H1 → va_S A s.heap H1 locs1 → xFr V G G1 H H1 → (cells + c1) + (kc - c1) ≤ R.cells → (slots + s1) + (ks - s1) ≤ R.slots → W p l e R s m args below meth c H1 locs1 (cells + c1) (slots + s1) Z (F0 m (pc + 3) ls (va_rf r :: rest))) : W p l e R s m args below meth c H locs cells slots Z (F0 m pc ls (va_rf o :: rest)) := by
  subst ho
  obtain ⟨fs, hG⟩ := gCi_of hcv
  exact rg_q3w (va_runV (As := []) (rest := rest) C.1 (hM V H.size G Q1 x0 c1 s1) (cwV 0 C.1.2.2.2.2 (lw_V hlink q1549 q1550 q67 q1551) rfl rfl rfl (by decide +kernel) ⟨hRf, hRl⟩) ⟨fun a U g mk q => by obtain ⟨q0, q1, qW, qK, qZ, qw⟩ := q; exact ⟨q0, q1, qW, xK.same (u := U) (U := U.calling g mk a) rfl qK, xZ.moved (u := U) (U := U.calling g mk a) (Vm.Alike.refl U.vm) qZ, qw⟩, (hW.recv C.2.1 hG (r := (RX2, TX2, 5)) (by rw [hci]; rfl)), fun U hU hWm => ⟨rfl, by rw [hU], by rw [hU]; exact hW.self _, C.2.1.warm hWm, xZ.call C.2.2.1 hW hS C.2.2.2 hU hWm.alike, h⟩⟩ rfl rfl hz rfl (lv_room hr8) hdg ⟨by omega, by omega⟩) hW hS C.2.2.2 (fun r G1 H1 locs1 hp hW1 hS1 hF1 => kk r G1 H1 locs1 hp hW1 hS1 hF1 (by omega) (by omega))
def w_X2_own (V : XV) (Q : Option Nat → GM → Prop) (x0 : Nat) (G : GM) (kc : Nat) (ks : Nat) : Prop := gGR G 9 (some x0) (fun v1 => if v1 = none then (gNw G 1 5 xdf_X2 kc ks (fun q7 G8 => ∃ c10 s11 : Nat, c10 ≤ (kc - 1) ∧ s11 ≤ (ks - 5) ∧ (w_X2_init V (fun G9 => gPF G9 9 (some x0) (va_rf (some q7)) (fun G12 => gGR G12 9 (some x0) (fun v13 => gRcv G12 v13 (fun a14 c15 => (c15 % 64 = 1) ∧ (w_X2_clear V (fun r16 G17 => Q r16 G17) a14 G12))))) q7 G8 c10 s11))) else (gGR G 9 (some x0) (fun v2 => gRcv G v2 (fun a3 c4 => (c4 % 64 = 1) ∧ (w_X2_clear V (fun r5 G6 => Q r5 G6) a3 G)))))
set_option maxRecDepth 100000 in
set_option maxHeartbeats 4000000 in
theorem wk_X2_own {p : Program} {l : Launch} {e : Env} {R : Room} {s : State} {m : MethodId} {args : Array Value} {below : List Frame} {meth : Method} {c : Code} {Z : State → Prop} {A : Nat → Prop} {V : XV} (Q : Option Nat → GM → Prop) (C : xC p m c s args cX2_own 1 RX2 V A) (hRf : 2 ≤ R.frames) (hRl : 41 ≤ R.locals) (G : GM) (hret : ∀ (v : Option Nat) (G : GM) (pc : Nat) (ls : Array Slot) (H : Heap) (locs : List Loc) (cells slots : Nat) {k1 k2 : Nat}, decode cX2_own pc = .ok (.areturn, 1) → xW V A G H → va_S A s.heap H locs → cells + k1 ≤ R.cells → slots + k2 ≤ R.slots → Q v G → W p l e R s m args below meth c H locs cells slots Z (F0 m pc ls [va_rf v])) (x0 : Nat) (kc ks : Nat) : w_X2_own V Q x0 G kc ks → ∀ (ls : Array Slot) (H : Heap) (locs : List Loc) (cells slots : Nat), lv_has ls 1 [(0, va_rf (some x0))] → xW V A G H → va_S A s.heap H locs → cells + kc ≤ R.cells → slots + ks ≤ R.slots → W p l e R s m args below meth c H locs cells slots Z (F0 m 0 ls []) := by
  have hx := C.1.1; have hb := C.1.2.1; have hml := C.1.2.2.1; have hown := C.1.2.2.2.1; have hts := C.1.2.2.2.2
  intro h
  intro ls H locs cells slots hl hW hS hkc hks
  refine sh_aload_n hx hb dX2_own_0 rfl (lv_at hl 0 rfl) ?_
  obtain ⟨v1, h1, h⟩ := h
  refine sh_get C hW xFb_9 q187 (fun _ h => h) h1 dX2_own_1 ?_
  refine sh_ifnonnull (tgt := 18) hx hb dX2_own_4 (by decide) (fun c18 => ?_) (fun c18 => ?_)
  · have h := wif_f h c18
    refine sh_aload_n hx hb dX2_own_18 rfl (lv_at hl 0 rfl) ?_
    obtain ⟨v2, h1, h⟩ := h
    refine sh_get C hW xFb_9 q187 (fun _ h => h) h1 dX2_own_19 ?_
    obtain ⟨a3, c4, ho22, hcv22, h⟩ := h
    have hcc := h.1
    have h := h.2
    refine call_X2_clear_V (ct_X2_clear l) C hW hS q1554 ho22 hcv22 hcc (le_lit hRf rfl) (le_lit hRl rfl) ⟨Nat.le_trans (Nat.le_add_right _ _) hkc, Nat.le_trans (Nat.le_add_right _ _) hks⟩ hl.1 (Nat.le_of_ble_eq_true rfl) dX2_own_22 h (fun r5 G6 H locs h hW hS _ => ?_)
    exact hret _ _ _ _ _ _ _ _ dX2_own_25 hW hS hkc hks h
  · have h := wif_t h c18
    refine sh_aload_n hx hb dX2_own_7 rfl (lv_at hl 0 rfl) ?_
    refine sh_new C hW hS (ci := 1) rfl (by decide) q1552 q174 q67 tyX2_ok xdf_X2_ok h hkc hks dX2_own_8 (fun q7 G8 H hW hS h hkc hks => ?_)
    refine lv_dup hx hb dX2_own_11 (va_rf_cat _) ?_
    obtain ⟨c10, s11, hc12, hs12, h⟩ := h
    refine call_X2_init_I (ct_X2_init l) C hW hS q1553 rfl (le_lit hRf rfl) (le_lit hRl rfl) hc12 hs12 hkc hks hl.1 (Nat.le_of_ble_eq_true rfl) dX2_own_12 h (fun G9 H locs h hW hS _ hkc hks => ?_)
    refine sh_put C hW hS xFb_9 q187 (fun _ h => h) xFd_9 (rf_nar_o _ _) (rf_fit_o _ _) h dX2_own_15 (fun G12 H locs hW hS h => ?_)
    refine sh_aload_n hx hb dX2_own_18 rfl (lv_at hl 0 rfl) ?_
    obtain ⟨v13, h1, h⟩ := h
    refine sh_get C hW xFb_9 q187 (fun _ h => h) h1 dX2_own_19 ?_
    obtain ⟨a14, c15, ho22, hcv22, h⟩ := h
    have hcc := h.1
    have h := h.2
    refine call_X2_clear_V (ct_X2_clear l) C hW hS q1554 ho22 hcv22 hcc (le_lit hRf rfl) (le_lit hRl rfl) ⟨Nat.le_trans (Nat.le_add_right _ _) hkc, Nat.le_trans (Nat.le_add_right _ _) hks⟩ hl.1 (Nat.le_of_ble_eq_true rfl) dX2_own_22 h (fun r16 G17 H locs h hW hS _ => ?_)
    exact hret _ _ _ _ _ _ _ _ dX2_own_25 hW hS hkc hks h
theorem ct_X2_own (l : Launch) : CT_X2_own l 2 41 w_X2_own := by
  intro V sz G Q x0 kc ks
  refine Met.ofW (cc := cX2_own) (maxL := 1) (ret := (some (.object "Shapelayer$Raster"))) (by decide) rfl ?_
  intro p e s m args below meth c s₁ B hml hv
  obtain ⟨rfl, hsz, hW, hK, hZ, h⟩ := hv
  subst hsz
  have hts := atoms_spec (ws := (ws_ yX2_own cX2_own 1 (some (.object "Shapelayer$Raster")))) B.pre
  have hts : ∀ w ∈ lw_all, w.before _ s = true := fun w h => hts w (List.mem_cons_of_mem _ h)
  have hl := lv_entry ([.ref x0]) (n := 1) (Nat.le_of_ble_eq_true rfl)
  rw [lg_entry_eq]
  generalize (lg_sl ([.ref x0]) ++ List.replicate (1 - (lg_sl ([.ref x0])).length) Slot.unset).toArray = ls at hl ⊢
  exact wk_X2_own Q ⟨⟨B.exec, B.bytes, hml, findClass_of_methodNamed B.named, hts⟩, hK, hZ, fun q h => Or.inr h⟩ (Nat.le_refl _) (Nat.le_refl _) G (fun v G pc ls H locs cells slots _ _ hd hW1 hS hkc hks hQ => W.widen (k := kc) (n := ks) (Nat.le_trans (Nat.le_add_right _ _) hkc) (Nat.le_trans (Nat.le_add_right _ _) hks) (W.aret (v := va_rf v) B.exec B.bytes B.returns (Or.inl ⟨_, rfl⟩) (va_rf_or v) (fun t ht _ => ⟨⟨v, G, rfl, hQ, by rw [← ht] at hW1; exact hW1⟩, hS.F ht⟩) hS.2.2 hd)) x0 kc ks h ls _ [] 0 0 hl hW va_S.rf (by show 0 + kc ≤ kc; omega) (by show 0 + ks ≤ ks; omega)
def CT_X2_mask (l : Launch) (fr lo : Nat) (w : XV → (Option Nat → GM → Prop) → Nat → GM → Nat → Nat → Prop) : Prop := ∀ (V : XV) (sz : Nat) (G : GM) (Q : Option Nat → GM → Prop) (x0 : Nat) (kc ks : Nat), Met l yX2_mask (ws_ yX2_mask cX2_mask 1 (some (.object "Shapelayer$Raster"))) { frames := fr, cells := kc, slots := ks, locals := lo } (va_Pc [.ref x0] (fun U => U.heap.size = sz ∧ xW V (xA G sz) G U.heap ∧ xK V U ∧ xZ V (xA G sz) U U.heap ∧ w V Q x0 G kc ks)) (va_Qq (fun r (u : GM) => Q r u) (fun u t => xW V (xA G sz) u t.heap) (xA G sz)) kc ks (xA G sz)
theorem call_X2_mask_V {p : Program} {l : Launch} {e : Env} {R : Room} {s : State} {m : MethodId} {args : Array Value} {below : List Frame} {meth : Method} {c : Code} {H : Heap} {locs : List Loc} {cells slots : Nat} {Z : State → Prop} {A : Nat → Prop} {cc : ByteArray} {nL pc : Nat} {ls : Array Slot} {rest : List Value} {own : String} {index fr lo : Nat} {w : XV → (Option Nat → GM → Prop) → Nat → GM → Nat → Nat → Prop} {V : XV} {G : GM} {o : Option Nat} {ci : Nat} {kc ks c1 s1 : Nat} {x0 : Nat} (hM : CT_X2_mask l fr lo w) (C : xC p m c s args cc nL own V A) (hW : xW V A G H) (hS : va_S A s.heap H locs) (hlink : Cond.methodLink own index yX2_mask ∈ lw_all) (ho : o = some x0) (hcv : gCi G (some x0) = some ci) (hci : ci % 64 = 1) (hRf : fr + 1 ≤ R.frames) (hRl : 8 + (1 + 11) + lo ≤ R.locals) (hc1 : c1 ≤ kc) (hs1 : s1 ≤ ks) (hkc : cells + kc ≤ R.cells) (hks : slots + ks ≤ R.slots) (hz : ls.size = nL) (hr8 : (rest.map fun v => v.category).sum ≤ 8) (hdg : decode cc pc = .ok (.invokevirtual index, 3)) {Q1 : Option Nat → GM → Prop} (h : w V Q1 x0 G c1 s1) (kk : ∀ (r : Option Nat) (G1 : GM) (H1 : Heap) (locs1 : List Loc), Q1 r G1 → xW V A G1 H1 → va_S A s.heap H1 locs1 → xFr V G G1 H H1 → (cells + c1) + (kc - c1) ≤ R.cells → (slots + s1) + (ks - s1) ≤ R.slots → W p l e R s m args below meth c H1 locs1 (cells + c1) (slots + s1) Z (F0 m (pc + 3) ls (va_rf r :: rest))) : W p l e R s m args below meth c H locs cells slots Z (F0 m pc ls (va_rf o :: rest)) := by
  subst ho
  obtain ⟨fs, hG⟩ := gCi_of hcv
  exact rg_q3w (va_runV (As := []) (rest := rest) C.1 (hM V H.size G Q1 x0 c1 s1) (cwV 0 C.1.2.2.2.2 (lw_V hlink q1556 q1557 q67 q1558) rfl rfl rfl (by decide +kernel) ⟨hRf, hRl⟩) ⟨fun a U g mk q => by obtain ⟨q0, q1, qW, qK, qZ, qw⟩ := q; exact ⟨q0, q1, qW, xK.same (u := U) (U := U.calling g mk a) rfl qK, xZ.moved (u := U) (U := U.calling g mk a) (Vm.Alike.refl U.vm) qZ, qw⟩, (hW.recv C.2.1 hG (r := (RX2, TX2, 5)) (by rw [hci]; rfl)), fun U hU hWm => ⟨rfl, by rw [hU], by rw [hU]; exact hW.self _, C.2.1.warm hWm, xZ.call C.2.2.1 hW hS C.2.2.2 hU hWm.alike, h⟩⟩ rfl rfl hz rfl (lv_room hr8) hdg ⟨by omega, by omega⟩) hW hS C.2.2.2 (fun r G1 H1 locs1 hp hW1 hS1 hF1 => kk r G1 H1 locs1 hp hW1 hS1 hF1 (by omega) (by omega))
def w_X2_mask (V : XV) (Q : Option Nat → GM → Prop) (x0 : Nat) (G : GM) (kc : Nat) (ks : Nat) : Prop := gGR G 10 (some x0) (fun v1 => if v1 = none then (gNw G 1 5 xdf_X2 kc ks (fun q7 G8 => ∃ c10 s11 : Nat, c10 ≤ (kc - 1) ∧ s11 ≤ (ks - 5) ∧ (w_X2_init V (fun G9 => gPF G9 10 (some x0) (va_rf (some q7)) (fun G12 => gGR G12 10 (some x0) (fun v13 => gRcv G12 v13 (fun a14 c15 => (c15 % 64 = 1) ∧ (w_X2_clear V (fun r16 G17 => Q r16 G17) a14 G12))))) q7 G8 c10 s11))) else (gGR G 10 (some x0) (fun v2 => gRcv G v2 (fun a3 c4 => (c4 % 64 = 1) ∧ (w_X2_clear V (fun r5 G6 => Q r5 G6) a3 G)))))
set_option maxRecDepth 100000 in
set_option maxHeartbeats 4000000 in
theorem wk_X2_mask {p : Program} {l : Launch} {e : Env} {R : Room} {s : State} {m : MethodId} {args : Array Value} {below : List Frame} {meth : Method} {c : Code} {Z : State → Prop} {A : Nat → Prop} {V : XV} (Q : Option Nat → GM → Prop) (C : xC p m c s args cX2_mask 1 RX2 V A) (hRf : 2 ≤ R.frames) (hRl : 41 ≤ R.locals) (G : GM) (hret : ∀ (v : Option Nat) (G : GM) (pc : Nat) (ls : Array Slot) (H : Heap) (locs : List Loc) (cells slots : Nat) {k1 k2 : Nat}, decode cX2_mask pc = .ok (.areturn, 1) → xW V A G H → va_S A s.heap H locs → cells + k1 ≤ R.cells → slots + k2 ≤ R.slots → Q v G → W p l e R s m args below meth c H locs cells slots Z (F0 m pc ls [va_rf v])) (x0 : Nat) (kc ks : Nat) : w_X2_mask V Q x0 G kc ks → ∀ (ls : Array Slot) (H : Heap) (locs : List Loc) (cells slots : Nat), lv_has ls 1 [(0, va_rf (some x0))] → xW V A G H → va_S A s.heap H locs → cells + kc ≤ R.cells → slots + ks ≤ R.slots → W p l e R s m args below meth c H locs cells slots Z (F0 m 0 ls []) := by
  have hx := C.1.1; have hb := C.1.2.1; have hml := C.1.2.2.1; have hown := C.1.2.2.2.1; have hts := C.1.2.2.2.2
  intro h
  intro ls H locs cells slots hl hW hS hkc hks
  refine sh_aload_n hx hb dX2_mask_0 rfl (lv_at hl 0 rfl) ?_
  obtain ⟨v1, h1, h⟩ := h
  refine sh_get C hW xFb_10 q188 (fun _ h => h) h1 dX2_mask_1 ?_
  refine sh_ifnonnull (tgt := 18) hx hb dX2_mask_4 (by decide) (fun c18 => ?_) (fun c18 => ?_)
  · have h := wif_f h c18
    refine sh_aload_n hx hb dX2_mask_18 rfl (lv_at hl 0 rfl) ?_
    obtain ⟨v2, h1, h⟩ := h
    refine sh_get C hW xFb_10 q188 (fun _ h => h) h1 dX2_mask_19 ?_
    obtain ⟨a3, c4, ho22, hcv22, h⟩ := h
    have hcc := h.1
    have h := h.2
    refine call_X2_clear_V (ct_X2_clear l) C hW hS q1554 ho22 hcv22 hcc (le_lit hRf rfl) (le_lit hRl rfl) ⟨Nat.le_trans (Nat.le_add_right _ _) hkc, Nat.le_trans (Nat.le_add_right _ _) hks⟩ hl.1 (Nat.le_of_ble_eq_true rfl) dX2_mask_22 h (fun r5 G6 H locs h hW hS _ => ?_)
    exact hret _ _ _ _ _ _ _ _ dX2_mask_25 hW hS hkc hks h
  · have h := wif_t h c18
    refine sh_aload_n hx hb dX2_mask_7 rfl (lv_at hl 0 rfl) ?_
    refine sh_new C hW hS (ci := 1) rfl (by decide) q1552 q174 q67 tyX2_ok xdf_X2_ok h hkc hks dX2_mask_8 (fun q7 G8 H hW hS h hkc hks => ?_)
    refine lv_dup hx hb dX2_mask_11 (va_rf_cat _) ?_
    obtain ⟨c10, s11, hc12, hs12, h⟩ := h
    refine call_X2_init_I (ct_X2_init l) C hW hS q1553 rfl (le_lit hRf rfl) (le_lit hRl rfl) hc12 hs12 hkc hks hl.1 (Nat.le_of_ble_eq_true rfl) dX2_mask_12 h (fun G9 H locs h hW hS _ hkc hks => ?_)
    refine sh_put C hW hS xFb_10 q188 (fun _ h => h) xFd_10 (rf_nar_o _ _) (rf_fit_o _ _) h dX2_mask_15 (fun G12 H locs hW hS h => ?_)
    refine sh_aload_n hx hb dX2_mask_18 rfl (lv_at hl 0 rfl) ?_
    obtain ⟨v13, h1, h⟩ := h
    refine sh_get C hW xFb_10 q188 (fun _ h => h) h1 dX2_mask_19 ?_
    obtain ⟨a14, c15, ho22, hcv22, h⟩ := h
    have hcc := h.1
    have h := h.2
    refine call_X2_clear_V (ct_X2_clear l) C hW hS q1554 ho22 hcv22 hcc (le_lit hRf rfl) (le_lit hRl rfl) ⟨Nat.le_trans (Nat.le_add_right _ _) hkc, Nat.le_trans (Nat.le_add_right _ _) hks⟩ hl.1 (Nat.le_of_ble_eq_true rfl) dX2_mask_22 h (fun r16 G17 H locs h hW hS _ => ?_)
    exact hret _ _ _ _ _ _ _ _ dX2_mask_25 hW hS hkc hks h
theorem ct_X2_mask (l : Launch) : CT_X2_mask l 2 41 w_X2_mask := by
  intro V sz G Q x0 kc ks
  refine Met.ofW (cc := cX2_mask) (maxL := 1) (ret := (some (.object "Shapelayer$Raster"))) (by decide) rfl ?_
  intro p e s m args below meth c s₁ B hml hv
  obtain ⟨rfl, hsz, hW, hK, hZ, h⟩ := hv
  subst hsz
  have hts := atoms_spec (ws := (ws_ yX2_mask cX2_mask 1 (some (.object "Shapelayer$Raster")))) B.pre
  have hts : ∀ w ∈ lw_all, w.before _ s = true := fun w h => hts w (List.mem_cons_of_mem _ h)
  have hl := lv_entry ([.ref x0]) (n := 1) (Nat.le_of_ble_eq_true rfl)
  rw [lg_entry_eq]
  generalize (lg_sl ([.ref x0]) ++ List.replicate (1 - (lg_sl ([.ref x0])).length) Slot.unset).toArray = ls at hl ⊢
  exact wk_X2_mask Q ⟨⟨B.exec, B.bytes, hml, findClass_of_methodNamed B.named, hts⟩, hK, hZ, fun q h => Or.inr h⟩ (Nat.le_refl _) (Nat.le_refl _) G (fun v G pc ls H locs cells slots _ _ hd hW1 hS hkc hks hQ => W.widen (k := kc) (n := ks) (Nat.le_trans (Nat.le_add_right _ _) hkc) (Nat.le_trans (Nat.le_add_right _ _) hks) (W.aret (v := va_rf v) B.exec B.bytes B.returns (Or.inl ⟨_, rfl⟩) (va_rf_or v) (fun t ht _ => ⟨⟨v, G, rfl, hQ, by rw [← ht] at hW1; exact hW1⟩, hS.F ht⟩) hS.2.2 hd)) x0 kc ks h ls _ [] 0 0 hl hW va_S.rf (by show 0 + kc ≤ kc; omega) (by show 0 + ks ≤ ks; omega)
def CT_X2_take (l : Launch) (fr lo : Nat) (w : XV → (GM → Prop) → Nat → (Option Nat) → (Option Nat) → Int32 → GM → Prop) : Prop := ∀ (V : XV) (sz : Nat) (G : GM) (Q : GM → Prop) (x0 : Nat) (x1 : Option Nat) (x2 : Option Nat) (x3 : Int32), Met l yX2_take (ws_ yX2_take cX2_take 5 none) { frames := fr, cells := 0, slots := 0, locals := lo } (va_Pc [.ref x0, va_rf x1, va_rf x2, .int x3] (fun U => U.heap.size = sz ∧ xW V (xA G sz) G U.heap ∧ xK V U ∧ xZ V (xA G sz) U U.heap ∧ w V Q x0 x1 x2 x3 G)) (va_Qv (fun (u : GM) => Q u) (fun u t => xW V (xA G sz) u t.heap) (xA G sz)) 0 0 (xA G sz)
theorem call_X2_take_V {p : Program} {l : Launch} {e : Env} {R : Room} {s : State} {m : MethodId} {args : Array Value} {below : List Frame} {meth : Method} {c : Code} {H : Heap} {locs : List Loc} {cells slots : Nat} {Z : State → Prop} {A : Nat → Prop} {cc : ByteArray} {nL pc : Nat} {ls : Array Slot} {rest : List Value} {own : String} {index fr lo : Nat} {w : XV → (GM → Prop) → Nat → (Option Nat) → (Option Nat) → Int32 → GM → Prop} {V : XV} {G : GM} {o : Option Nat} {ci : Nat} {x0 : Nat} {x1 : Option Nat} {x2 : Option Nat} {x3 : Int32} (hM : CT_X2_take l fr lo w) (C : xC p m c s args cc nL own V A) (hW : xW V A G H) (hS : va_S A s.heap H locs) (hlink : Cond.methodLink own index yX2_take ∈ lw_all) (ho : o = some x0) (hcv : gCi G (some x0) = some ci) (hci : ci % 64 = 1) (hRf : fr + 1 ≤ R.frames) (hRl : 8 + (5 + 11) + lo ≤ R.locals) (hcs : cells ≤ R.cells ∧ slots ≤ R.slots) (hz : ls.size = nL) (hr8 : (rest.map fun v => v.category).sum ≤ 8) (hdg : decode cc pc = .ok (.invokevirtual index, 3)) {Q1 : GM → Prop} (h : w V Q1 x0 x1 x2 x3 G) (kk : ∀ (G1 : GM) (H1 : Heap) (locs1 : List Loc), Q1 G1 → xW V A G1 H1 → va_S A s.heap H1 locs1 → xFr V G G1 H H1 → W p l e R s m args below meth c H1 locs1 cells slots Z (F0 m (pc + 3) ls (rest))) : W p l e R s m args below meth c H locs cells slots Z (F0 m pc ls (.int x3 :: va_rf x2 :: va_rf x1 :: va_rf o :: rest)) := by
  subst ho
  obtain ⟨fs, hG⟩ := gCi_of hcv
  exact rg_v3w (va_runV (As := [va_rf x1, va_rf x2, .int x3]) (rest := rest) C.1 (hM V H.size G Q1 x0 x1 x2 x3) (cwV 3 C.1.2.2.2.2 (lw_V hlink q1560 q1561 q67 q1562) rfl rfl rfl (by decide +kernel) ⟨hRf, hRl⟩) ⟨fun a U g mk q => by obtain ⟨q0, q1, qW, qK, qZ, qw⟩ := q; exact ⟨q0, q1, qW, xK.same (u := U) (U := U.calling g mk a) rfl qK, xZ.moved (u := U) (U := U.calling g mk a) (Vm.Alike.refl U.vm) qZ, qw⟩, (hW.recv C.2.1 hG (r := (RX2, TX2, 5)) (by rw [hci]; rfl)), fun U hU hWm => ⟨rfl, by rw [hU], by rw [hU]; exact hW.self _, C.2.1.warm hWm, xZ.call C.2.2.1 hW hS C.2.2.2 hU hWm.alike, h⟩⟩ rfl rfl hz rfl (lv_room hr8) hdg hcs) hW hS C.2.2.2 (fun G1 H1 locs1 hp hW1 hS1 hF1 => kk G1 H1 locs1 hp hW1 hS1 hF1)
def w_X2_take_56 (V : XV) (Q : GM → Prop) (rec3 : Int32 → GM → Prop) (x0 : Nat) (x1 : Option Nat) (x2 : Option Nat) (x3 : Int32) (x4 : Int32) (G : GM) : Prop := rec3 (x4 + (1 : Int32)) G
def w_X2_take_38 (V : XV) (Q : GM → Prop) (rec3 : Int32 → GM → Prop) (x0 : Nat) (x1 : Option Nat) (x2 : Option Nat) (x3 : Int32) (x4 : Int32) (y0 : Int32) (G : GM) : Prop := if y0 = x3 then (w_X2_take_56 V Q rec3 x0 x1 x2 x3 x4 G) else (gGR G 6 (some x0) (fun v1 => gGR G 6 x1 (fun v2 => gIL G 2 v2 x4 (fun v3 => gIS G 2 v1 x4 (vp_nar .byte v3) (fun G4 => w_X2_take_56 V Q rec3 x0 x1 x2 x3 x4 G4)))))
def w_X2_take_h3 (V : XV) (Q : GM → Prop) (x0 : Nat) (x1 : Option Nat) (x2 : Option Nat) (x3 : Int32) (rec3 : Int32 → GM → Prop) (x4 : Int32) (G : GM) : Prop := gGR G 6 (some x0) (fun v6 => gLn G v6 (fun v7 => if v7 ≤ x4 then (Q G) else (gGR G 6 x1 (fun v8 => gIL G 2 v8 x4 (fun v9 => if v9 = 0 then (w_X2_take_56 V Q rec3 x0 x1 x2 x3 x4 G) else (gGR G 6 x2 (fun v10 => gIL G 2 v10 x4 (fun v11 => if v11 = 0 then (w_X2_take_38 V Q rec3 x0 x1 x2 x3 x4 (0 : Int32) G) else (w_X2_take_38 V Q rec3 x0 x1 x2 x3 x4 (1 : Int32) G)))))))))
def w_X2_take_L3 (V : XV) (Q : GM → Prop) (x0 : Nat) (x1 : Option Nat) (x2 : Option Nat) (x3 : Int32) (x4 : Int32) (G : GM) : Prop := wLoop (fun (rec : (Int32 × GM) → Prop) (s : Int32 × GM) => w_X2_take_h3 V Q x0 x1 x2 x3 (fun x4 G => rec (x4, G)) s.1 s.2) (x4, G)
def w_X2_take (V : XV) (Q : GM → Prop) (x0 : Nat) (x1 : Option Nat) (x2 : Option Nat) (x3 : Int32) (G : GM) : Prop := w_X2_take_L3 V Q x0 x1 x2 x3 (0 : Int32) G
set_option maxRecDepth 100000 in
set_option maxHeartbeats 4000000 in
theorem wk_X2_take {p : Program} {l : Launch} {e : Env} {R : Room} {s : State} {m : MethodId} {args : Array Value} {below : List Frame} {meth : Method} {c : Code} {cells slots : Nat} {Z : State → Prop} {A : Nat → Prop} {V : XV} (Q : GM → Prop) (C : xC p m c s args cX2_take 5 RX2 V A) (hRf : 1 ≤ R.frames) (hRl : 20 ≤ R.locals) (hcs : cells ≤ R.cells ∧ slots ≤ R.slots) (G : GM) (hret : ∀ (G : GM) (pc : Nat) (ls : Array Slot) (H : Heap) (locs : List Loc), decode cX2_take pc = .ok (.return_, 1) → xW V A G H → va_S A s.heap H locs → Q G → W p l e R s m args below meth c H locs cells slots Z (F0 m pc ls [])) (x0 : Nat) (x1 : Option Nat) (x2 : Option Nat) (x3 : Int32) : w_X2_take V Q x0 x1 x2 x3 G → ∀ (ls : Array Slot) (H : Heap) (locs : List Loc), lv_has ls 5 [(0, va_rf (some x0)), (1, va_rf x1), (2, va_rf x2), (3, .int x3)] → xW V A G H → va_S A s.heap H locs → W p l e R s m args below meth c H locs cells slots Z (F0 m 0 ls []) := by
  have hx := C.1.1; have hb := C.1.2.1; have hml := C.1.2.2.1; have hown := C.1.2.2.2.1; have hts := C.1.2.2.2.2
  have hL3 : ∀ (x4 : Int32) (G : GM), w_X2_take_L3 V Q x0 x1 x2 x3 x4 G → ∀ (ls : Array Slot) (H : Heap) (locs : List Loc), lv_has ls 5 [(0, va_rf (some x0)), (1, va_rf x1), (2, va_rf x2), (3, .int x3), (4, .int x4)] → xW V A G H → va_S A s.heap H locs → W p l e R s m args below meth c H locs cells slots Z (F0 m 3 ls []) := by
    obtain ⟨GG3, hG3⟩ : ∃ GG : Int32 → GM → Prop, ∀ (x4 : Int32) (G : GM), GG x4 G ↔ (∀ (ls : Array Slot) (H : Heap) (locs : List Loc), lv_has ls 5 [(0, va_rf (some x0)), (1, va_rf x1), (2, va_rf x2), (3, .int x3), (4, .int x4)] → xW V A G H → va_S A s.heap H locs → W p l e R s m args below meth c H locs cells slots Z (F0 m 3 ls [])) := ⟨fun x4 G => _, fun x4 G => Iff.rfl⟩
    have hB3 : ∀ (rec3 : Int32 → GM → Prop), (∀ (x4 : Int32) (G : GM), rec3 x4 G → GG3 x4 G) → ∀ (x4 : Int32) (G : GM), w_X2_take_h3 V Q x0 x1 x2 x3 rec3 x4 G → GG3 x4 G := by
      intro rec3 hrec3
      have hb56 : ∀ (x4 : Int32) (G : GM), w_X2_take_56 V Q rec3 x0 x1 x2 x3 x4 G → ∀ (ls : Array Slot) (H : Heap) (locs : List Loc), lv_has ls 5 [(0, va_rf (some x0)), (1, va_rf x1), (2, va_rf x2), (3, .int x3), (4, .int x4)] → xW V A G H → va_S A s.heap H locs → W p l e R s m args below meth c H locs cells slots Z (F0 m 56 ls []) := by
        intro x4 G h
        intro ls H locs hl hW hS
        refine lv_iinc (v := x4 + (1 : Int32)) (lv' := [(4, .int (x4 + (1 : Int32))), (0, va_rf (some x0)), (1, va_rf x1), (2, va_rf x2), (3, .int x3)]) hx hb dX2_take_56 hl (k := 4) rfl (congrArg (fun z => x4 + z) (by decide)) (by decide) rfl (fun ls hl => ?_)
        refine lv_goto (tgt := 3) hx hb dX2_take_59 (by decide) ?_
        exact (hG3 _ _).mp (hrec3 _ _ h) ls H locs (lv_sub hl [1, 2, 3, 4, 0] rfl) hW hS
      have hb38 : ∀ (x4 : Int32) (y0 : Int32) (G : GM), w_X2_take_38 V Q rec3 x0 x1 x2 x3 x4 y0 G → ∀ (ls : Array Slot) (H : Heap) (locs : List Loc), lv_has ls 5 [(0, va_rf (some x0)), (1, va_rf x1), (2, va_rf x2), (3, .int x3), (4, .int x4)] → xW V A G H → va_S A s.heap H locs → W p l e R s m args below meth c H locs cells slots Z (F0 m 38 ls [.int y0]) := by
        intro x4 y0 G h
        intro ls H locs hl hW hS
        refine lv_iload_n hx hb dX2_take_38 rfl (lv_at hl 3 rfl) ?_
        refine lv_icmp_eq (tgt := 56) hx hb dX2_take_39 (by decide) (fun c5 => ?_) (fun c5 => ?_)
        · have h := wif_t h c5
          exact hb56 _ _ h ls H locs (lv_sub hl [0, 1, 2, 3, 4] rfl) hW hS
        · have h := wif_f h c5
          refine sh_aload_n hx hb dX2_take_42 rfl (lv_at hl 0 rfl) ?_
          obtain ⟨v1, h1, h⟩ := h
          refine sh_get C hW xFb_6 q179 (fun _ h => h) h1 dX2_take_43 ?_
          refine lv_iload hx hb dX2_take_46 (lv_at hl 4 rfl) ?_
          refine sh_aload_n hx hb dX2_take_48 rfl (lv_at hl 1 rfl) ?_
          obtain ⟨v2, h1, h⟩ := h
          refine sh_get C hW xFb_6 q179 (fun _ h => h) h1 dX2_take_49 ?_
          refine lv_iload hx hb dX2_take_52 (lv_at hl 4 rfl) ?_
          refine sh_bald C hW h dX2_take_54 (fun v3 h => ?_)
          refine sh_bast C hW hS h dX2_take_55 (fun G4 H locs hW hS h => ?_)
          exact hb56 _ _ h ls H locs (lv_sub hl [0, 1, 2, 3, 4] rfl) hW hS
      intro x4 G h
      rw [hG3]
      intro ls H locs hl hW hS
      refine lv_iload hx hb dX2_take_3 (lv_at hl 4 rfl) ?_
      refine sh_aload_n hx hb dX2_take_5 rfl (lv_at hl 0 rfl) ?_
      obtain ⟨v6, h1, h⟩ := h
      refine sh_get C hW xFb_6 q179 (fun _ h => h) h1 dX2_take_6 ?_
      refine sh_len C hW h dX2_take_9 (fun v7 h => ?_)
      refine lv_icmp_ge (tgt := 62) hx hb dX2_take_10 (by decide) (fun c14 => ?_) (fun c14 => ?_)
      · have h := wif_t h c14
        exact hret _ _ _ _ _ dX2_take_62 hW hS h
      · have h := wif_f h c14
        refine sh_aload_n hx hb dX2_take_13 rfl (lv_at hl 1 rfl) ?_
        obtain ⟨v8, h1, h⟩ := h
        refine sh_get C hW xFb_6 q179 (fun _ h => h) h1 dX2_take_14 ?_
        refine lv_iload hx hb dX2_take_17 (lv_at hl 4 rfl) ?_
        refine sh_bald C hW h dX2_take_19 (fun v9 h => ?_)
        refine lv_if_eq (tgt := 56) hx hb dX2_take_20 (by decide) (fun c13 => ?_) (fun c13 => ?_)
        · have h := wif_t h c13
          exact hb56 _ _ h ls H locs (lv_sub hl [0, 1, 2, 3, 4] rfl) hW hS
        · have h := wif_f h c13
          refine sh_aload_n hx hb dX2_take_23 rfl (lv_at hl 2 rfl) ?_
          obtain ⟨v10, h1, h⟩ := h
          refine sh_get C hW xFb_6 q179 (fun _ h => h) h1 dX2_take_24 ?_
          refine lv_iload hx hb dX2_take_27 (lv_at hl 4 rfl) ?_
          refine sh_bald C hW h dX2_take_29 (fun v11 h => ?_)
          refine lv_if_eq (tgt := 37) hx hb dX2_take_30 (by decide) (fun c12 => ?_) (fun c12 => ?_)
          · have h := wif_t h c12
            refine lv_iconst (v := 0) hx hb dX2_take_37 (by decide) ?_
            exact hb38 _ _ _ h ls H locs (lv_sub hl [0, 1, 2, 3, 4] rfl) hW hS
          · have h := wif_f h c12
            refine lv_iconst (v := 1) hx hb dX2_take_33 (by decide) ?_
            refine lv_goto (tgt := 38) hx hb dX2_take_34 (by decide) ?_
            exact hb38 _ _ _ h ls H locs (lv_sub hl [0, 1, 2, 3, 4] rfl) hW hS
    intro x4 G h
    exact (hG3 x4 G).mp (loop_walk (fun s => GG3 s.1 s.2) (fun rec hrec s h => hB3 (fun x4 G => rec (x4, G)) (fun x4 G h => hrec (x4, G) h) s.1 s.2 h) (x4, G) h)
  intro h
  intro ls H locs hl hW hS
  refine lv_iconst (v := 0) hx hb dX2_take_0 (by decide) ?_
  refine lv_istore (lv' := [(4, .int (0 : Int32)), (0, va_rf (some x0)), (1, va_rf x1), (2, va_rf x2), (3, .int x3)]) hx hb dX2_take_1 hl (by decide) rfl (fun ls hl => ?_)
  exact hL3 _ _ h ls H locs (lv_sub hl [1, 2, 3, 4, 0] rfl) hW hS
theorem ct_X2_take (l : Launch) : CT_X2_take l 1 20 w_X2_take := by
  intro V sz G Q x0 x1 x2 x3
  refine Met.ofW (cc := cX2_take) (maxL := 5) (ret := none) (by decide) rfl ?_
  intro p e s m args below meth c s₁ B hml hv
  obtain ⟨rfl, hsz, hW, hK, hZ, h⟩ := hv
  subst hsz
  have hts := atoms_spec (ws := (ws_ yX2_take cX2_take 5 none)) B.pre
  have hts : ∀ w ∈ lw_all, w.before _ s = true := fun w h => hts w (List.mem_cons_of_mem _ h)
  have key : ∃ ls : Array Slot, entryFrame m ([.ref x0, va_rf x1, va_rf x2, .int x3] : List Value).toArray 5 = F0 m 0 ls [] ∧ lv_has ls 5 [(0, va_rf (some x0)), (1, va_rf x1), (2, va_rf x2), (3, .int x3)] := by
    cases x1 <;> cases x2 <;> (refine ⟨_, by rw [lg_entry_eq], ?_⟩; exact lv_entry _ (Nat.le_of_ble_eq_true rfl))
  obtain ⟨ls, hfr, hl⟩ := key
  rw [hfr]
  exact wk_X2_take Q ⟨⟨B.exec, B.bytes, hml, findClass_of_methodNamed B.named, hts⟩, hK, hZ, fun q h => Or.inr h⟩ (Nat.le_refl _) (Nat.le_refl _) ⟨Nat.le_refl _, Nat.le_refl _⟩ G (fun G pc ls H locs hd hW1 hS hQ => W.vret B.exec B.bytes B.returns (fun t ht _ => ⟨⟨G, rfl, hQ, by rw [← ht] at hW1; exact hW1⟩, hS.F ht⟩) hS.2.2 hd) x0 x1 x2 x3 h ls _ [] hl hW va_S.rf
def w_X4_draw_131 (rc : XV → (GM → Prop) → Nat → Int32 → (Option Nat) → (Option Nat) → GM → Nat → Nat → Prop) (V : XV) (Q : GM → Prop) (rec3 : Int32 → GM → Nat → Nat → Prop) (x0 : Nat) (x1 : Int32) (x2 : Option Nat) (x3 : Option Nat) (x4 : Int32) (G : GM) (kc : Nat) (ks : Nat) : Prop := rec3 (x4 + (1 : Int32)) G kc ks
def w_X4_draw_118 (rc : XV → (GM → Prop) → Nat → Int32 → (Option Nat) → (Option Nat) → GM → Nat → Nat → Prop) (V : XV) (Q : GM → Prop) (rec3 : Int32 → GM → Nat → Nat → Prop) (x0 : Nat) (x1 : Int32) (x2 : Option Nat) (x3 : Option Nat) (x4 : Int32) (x5 : Option Nat) (x6 : Option Nat) (x7 : Option Nat) (G : GM) (kc : Nat) (ks : Nat) : Prop := gGI G 18 x5 (fun v1 => gRcv G x3 (fun a2 c3 => (c3 % 64 = 1) ∧ (w_X2_take V (fun G4 => w_X4_draw_131 rc V Q rec3 x0 x1 x2 x3 x4 G4 kc ks) a2 x6 x7 v1 G)))
def w_X4_draw_94 (rc : XV → (GM → Prop) → Nat → Int32 → (Option Nat) → (Option Nat) → GM → Nat → Nat → Prop) (V : XV) (Q : GM → Prop) (rec3 : Int32 → GM → Nat → Nat → Prop) (x0 : Nat) (x1 : Int32) (x2 : Option Nat) (x3 : Option Nat) (x4 : Int32) (x5 : Option Nat) (x6 : Option Nat) (x7 : Option Nat) (G : GM) (kc : Nat) (ks : Nat) : Prop := gGR G 17 x5 (fun v5 => gRcv G v5 (fun a6 c7 => (c7 % 64 = 5 ∨ c7 % 64 = 6 ∨ c7 % 64 = 3 ∨ c7 % 64 = 4) ∧ (w_X5_shows V (fun r8 => if r8 = 0 then (w_X4_draw_118 rc V Q rec3 x0 x1 x2 x3 x4 x5 x6 x7 G kc ks) else (gGR G 17 x5 (fun v9 => gRcv G v9 (fun a10 c11 => if c11 % 64 = 5 then (∃ c13 s14 : Nat, c13 ≤ kc ∧ s14 ≤ ks ∧ (w_X11_draw rc V (fun G12 => w_X4_draw_118 rc V Q rec3 x0 x1 x2 x3 x4 x5 x6 x7 G12 (kc - c13) (ks - s14)) a10 x1 x2 x7 G c13 s14)) else (if c11 % 64 = 6 then (w_X5_draw V (w_X4_draw_118 rc V Q rec3 x0 x1 x2 x3 x4 x5 x6 x7 G kc ks) a10 x1 x2 x7 G) else (if c11 % 64 = 3 then (w_X7_draw V (fun G17 => w_X4_draw_118 rc V Q rec3 x0 x1 x2 x3 x4 x5 x6 x7 G17 kc ks) a10 x1 x2 x7 G) else (if c11 % 64 = 4 then (w_X9_draw V (fun G19 => w_X4_draw_118 rc V Q rec3 x0 x1 x2 x3 x4 x5 x6 x7 G19 kc ks) a10 x1 x2 x7 G) else (False)))))))) a6 x1 G)))
def w_X4_draw_70 (rc : XV → (GM → Prop) → Nat → Int32 → (Option Nat) → (Option Nat) → GM → Nat → Nat → Prop) (V : XV) (Q : GM → Prop) (rec3 : Int32 → GM → Nat → Nat → Prop) (x0 : Nat) (x1 : Int32) (x2 : Option Nat) (x3 : Option Nat) (x4 : Int32) (G : GM) (kc : Nat) (ks : Nat) : Prop := w_X4_draw_131 rc V Q rec3 x0 x1 x2 x3 x4 G kc ks
def w_X4_draw_h3 (rc : XV → (GM → Prop) → Nat → Int32 → (Option Nat) → (Option Nat) → GM → Nat → Nat → Prop) (V : XV) (Q : GM → Prop) (x0 : Nat) (x1 : Int32) (x2 : Option Nat) (x3 : Option Nat) (rec3 : Int32 → GM → Nat → Nat → Prop) (x4 : Int32) (G : GM) (kc : Nat) (ks : Nat) : Prop := gGR G 12 (some x0) (fun v22 => gRcv G v22 (fun a23 c24 => (c24 % 64 = 15) ∧ (w_J2_size V (fun r25 => if r25 ≤ x4 then (Q G) else (gGR G 12 (some x0) (fun v26 => gRcv G v26 (fun a27 c28 => (c28 % 64 = 15) ∧ (w_J2_get V (fun r29 => gCk G [3, 4, 5, 6] r29 (gRcv G (some x0) (fun a30 c31 => (c31 % 64 = 2) ∧ (w_X4_isMatte V (fun r32 => if r32 = 0 then (gRcv G r29 (fun a33 c34 => (c34 % 64 = 5 ∨ c34 % 64 = 6 ∨ c34 % 64 = 3 ∨ c34 % 64 = 4) ∧ (w_X5_shows V (fun r35 => if r35 = 0 then (w_X4_draw_131 rc V Q rec3 x0 x1 x2 x3 x4 G kc ks) else (gGR G 17 r29 (fun v36 => if v36 = none then (gRcv G r29 (fun a60 c61 => if c61 % 64 = 5 then (∃ c63 s64 : Nat, c63 ≤ kc ∧ s64 ≤ ks ∧ (w_X11_draw rc V (fun G62 => w_X4_draw_70 rc V Q rec3 x0 x1 x2 x3 x4 G62 (kc - c63) (ks - s64)) a60 x1 x2 x3 G c63 s64)) else (if c61 % 64 = 6 then (w_X5_draw V (w_X4_draw_70 rc V Q rec3 x0 x1 x2 x3 x4 G kc ks) a60 x1 x2 x3 G) else (if c61 % 64 = 3 then (w_X7_draw V (fun G67 => w_X4_draw_70 rc V Q rec3 x0 x1 x2 x3 x4 G67 kc ks) a60 x1 x2 x3 G) else (if c61 % 64 = 4 then (w_X9_draw V (fun G69 => w_X4_draw_70 rc V Q rec3 x0 x1 x2 x3 x4 G69 kc ks) a60 x1 x2 x3 G) else (False)))))) else (gRcv G x3 (fun a37 c38 => (c38 % 64 = 1) ∧ (∃ c41 s42 : Nat, c41 ≤ kc ∧ s42 ≤ ks ∧ (w_X2_own V (fun r39 G40 => gRcv G40 x3 (fun a43 c44 => (c44 % 64 = 1) ∧ (∃ c47 s48 : Nat, c47 ≤ (kc - c41) ∧ s48 ≤ (ks - s42) ∧ (w_X2_mask V (fun r45 G46 => gRcv G46 r29 (fun a49 c50 => if c50 % 64 = 5 then (∃ c52 s53 : Nat, c52 ≤ ((kc - c41) - c47) ∧ s53 ≤ ((ks - s42) - s48) ∧ (w_X11_draw rc V (fun G51 => w_X4_draw_94 rc V Q rec3 x0 x1 x2 x3 x4 r29 r39 r45 G51 (((kc - c41) - c47) - c52) (((ks - s42) - s48) - s53)) a49 x1 x2 r39 G46 c52 s53)) else (if c50 % 64 = 6 then (w_X5_draw V (w_X4_draw_94 rc V Q rec3 x0 x1 x2 x3 x4 r29 r39 r45 G46 ((kc - c41) - c47) ((ks - s42) - s48)) a49 x1 x2 r39 G46) else (if c50 % 64 = 3 then (w_X7_draw V (fun G56 => w_X4_draw_94 rc V Q rec3 x0 x1 x2 x3 x4 r29 r39 r45 G56 ((kc - c41) - c47) ((ks - s42) - s48)) a49 x1 x2 r39 G46) else (if c50 % 64 = 4 then (w_X9_draw V (fun G58 => w_X4_draw_94 rc V Q rec3 x0 x1 x2 x3 x4 r29 r39 r45 G58 ((kc - c41) - c47) ((ks - s42) - s48)) a49 x1 x2 r39 G46) else (False)))))) a43 G40 c47 s48)))) a37 G c41 s42))))))) a33 x1 G))) else (w_X4_draw_131 rc V Q rec3 x0 x1 x2 x3 x4 G kc ks)) a30 r29 G)))) a27 x4 G))))) a23 G)))
def w_X4_draw_L3 (rc : XV → (GM → Prop) → Nat → Int32 → (Option Nat) → (Option Nat) → GM → Nat → Nat → Prop) (V : XV) (Q : GM → Prop) (x0 : Nat) (x1 : Int32) (x2 : Option Nat) (x3 : Option Nat) (x4 : Int32) (G : GM) (kc : Nat) (ks : Nat) : Prop := wLoop (fun (rec : (Int32 × GM × Nat × Nat) → Prop) (s : Int32 × GM × Nat × Nat) => w_X4_draw_h3 rc V Q x0 x1 x2 x3 (fun x4 G kc ks => rec (x4, G, kc, ks)) s.1 s.2.1 s.2.2.1 s.2.2.2) (x4, G, kc, ks)
def w_X4_draw_B (rc : XV → (GM → Prop) → Nat → Int32 → (Option Nat) → (Option Nat) → GM → Nat → Nat → Prop) (V : XV) (Q : GM → Prop) (x0 : Nat) (x1 : Int32) (x2 : Option Nat) (x3 : Option Nat) (G : GM) (kc : Nat) (ks : Nat) : Prop := w_X4_draw_L3 rc V Q x0 x1 x2 x3 (0 : Int32) G kc ks
def w_X4_draw : Nat → XV → (GM → Prop) → Nat → Int32 → (Option Nat) → (Option Nat) → GM → Nat → Nat → Prop
  | 0 => fun _ _ _ _ _ _ _ _ _ => False
  | n + 1 => w_X4_draw_B (w_X4_draw n)
set_option maxRecDepth 100000 in
set_option maxHeartbeats 4000000 in
theorem wk_X4_draw {p : Program} {l : Launch} {e : Env} {R : Room} {s : State} {m : MethodId} {args : Array Value} {below : List Frame} {meth : Method} {c : Code} {Z : State → Prop} {A : Nat → Prop} {V : XV} {fr lo : Nat} (hB1 : 11 ≤ fr) (hB2 : 264 ≤ lo) {rc : XV → (GM → Prop) → Nat → Int32 → (Option Nat) → (Option Nat) → GM → Nat → Nat → Prop} (hrc : CT_X4_draw l fr lo rc) (Q : GM → Prop) (C : xC p m c s args cX4_draw 8 RX4 V A) (hRf : fr + 2 ≤ R.frames) (hRl : lo + 51 ≤ R.locals) (G : GM) (hret : ∀ (G : GM) (pc : Nat) (ls : Array Slot) (H : Heap) (locs : List Loc) (cells slots : Nat) {k1 k2 : Nat}, decode cX4_draw pc = .ok (.return_, 1) → xW V A G H → va_S A s.heap H locs → cells + k1 ≤ R.cells → slots + k2 ≤ R.slots → Q G → W p l e R s m args below meth c H locs cells slots Z (F0 m pc ls [])) (x0 : Nat) (x1 : Int32) (x2 : Option Nat) (x3 : Option Nat) (kc ks : Nat) : w_X4_draw_B rc V Q x0 x1 x2 x3 G kc ks → ∀ (ls : Array Slot) (H : Heap) (locs : List Loc) (cells slots : Nat), lv_has ls 8 [(0, va_rf (some x0)), (1, .int x1), (2, va_rf x2), (3, va_rf x3)] → xW V A G H → va_S A s.heap H locs → cells + kc ≤ R.cells → slots + ks ≤ R.slots → W p l e R s m args below meth c H locs cells slots Z (F0 m 0 ls []) := by
  have hx := C.1.1; have hb := C.1.2.1; have hml := C.1.2.2.1; have hown := C.1.2.2.2.1; have hts := C.1.2.2.2.2
  have hL3 : ∀ (x4 : Int32) (G : GM) (kc : Nat) (ks : Nat), w_X4_draw_L3 rc V Q x0 x1 x2 x3 x4 G kc ks → ∀ (ls : Array Slot) (H : Heap) (locs : List Loc) (cells slots : Nat), lv_has ls 8 [(0, va_rf (some x0)), (1, .int x1), (2, va_rf x2), (3, va_rf x3), (4, .int x4)] → xW V A G H → va_S A s.heap H locs → cells + kc ≤ R.cells → slots + ks ≤ R.slots → W p l e R s m args below meth c H locs cells slots Z (F0 m 3 ls []) := by
    obtain ⟨GG3, hG3⟩ : ∃ GG : Int32 → GM → Nat → Nat → Prop, ∀ (x4 : Int32) (G : GM) (kc : Nat) (ks : Nat), GG x4 G kc ks ↔ (∀ (ls : Array Slot) (H : Heap) (locs : List Loc) (cells slots : Nat), lv_has ls 8 [(0, va_rf (some x0)), (1, .int x1), (2, va_rf x2), (3, va_rf x3), (4, .int x4)] → xW V A G H → va_S A s.heap H locs → cells + kc ≤ R.cells → slots + ks ≤ R.slots → W p l e R s m args below meth c H locs cells slots Z (F0 m 3 ls [])) := ⟨fun x4 G kc ks => _, fun x4 G kc ks => Iff.rfl⟩
    have hB3 : ∀ (rec3 : Int32 → GM → Nat → Nat → Prop), (∀ (x4 : Int32) (G : GM) (kc : Nat) (ks : Nat), rec3 x4 G kc ks → GG3 x4 G kc ks) → ∀ (x4 : Int32) (G : GM) (kc : Nat) (ks : Nat), w_X4_draw_h3 rc V Q x0 x1 x2 x3 rec3 x4 G kc ks → GG3 x4 G kc ks := by
      intro rec3 hrec3
      have hb131 : ∀ (x4 : Int32) (G : GM) (kc : Nat) (ks : Nat), w_X4_draw_131 rc V Q rec3 x0 x1 x2 x3 x4 G kc ks → ∀ (ls : Array Slot) (H : Heap) (locs : List Loc) (cells slots : Nat), lv_has ls 8 [(0, va_rf (some x0)), (1, .int x1), (2, va_rf x2), (3, va_rf x3), (4, .int x4)] → xW V A G H → va_S A s.heap H locs → cells + kc ≤ R.cells → slots + ks ≤ R.slots → W p l e R s m args below meth c H locs cells slots Z (F0 m 131 ls []) := by
        intro x4 G kc ks h
        intro ls H locs cells slots hl hW hS hkc hks
        refine lv_iinc (v := x4 + (1 : Int32)) (lv' := [(4, .int (x4 + (1 : Int32))), (0, va_rf (some x0)), (1, .int x1), (2, va_rf x2), (3, va_rf x3)]) hx hb dX4_draw_131 hl (k := 4) rfl (congrArg (fun z => x4 + z) (by decide)) (by decide) (by simp only [List.filter_cons, List.filter_nil, va_rf_cat]; rfl) (fun ls hl => ?_)
        refine lv_goto (tgt := 3) hx hb dX4_draw_134 (by decide) ?_
        exact (hG3 _ _ _ _).mp (hrec3 _ _ _ _ h) ls H locs _ _ (lv_sub hl [1, 2, 3, 4, 0] rfl) hW hS hkc hks
      have hb118 : ∀ (x4 : Int32) (x5 : Option Nat) (x6 : Option Nat) (x7 : Option Nat) (G : GM) (kc : Nat) (ks : Nat), w_X4_draw_118 rc V Q rec3 x0 x1 x2 x3 x4 x5 x6 x7 G kc ks → ∀ (ls : Array Slot) (H : Heap) (locs : List Loc) (cells slots : Nat), lv_has ls 8 [(0, va_rf (some x0)), (1, .int x1), (2, va_rf x2), (3, va_rf x3), (4, .int x4), (5, va_rf x5), (6, va_rf x6), (7, va_rf x7)] → xW V A G H → va_S A s.heap H locs → cells + kc ≤ R.cells → slots + ks ≤ R.slots → W p l e R s m args below meth c H locs cells slots Z (F0 m 118 ls []) := by
        intro x4 x5 x6 x7 G kc ks h
        intro ls H locs cells slots hl hW hS hkc hks
        refine sh_aload_n hx hb dX4_draw_118 rfl (lv_at hl 3 rfl) ?_
        refine sh_aload hx hb dX4_draw_119 (lv_at hl 6 rfl) ?_
        refine sh_aload hx hb dX4_draw_121 (lv_at hl 7 rfl) ?_
        refine sh_aload hx hb dX4_draw_123 (lv_at hl 5 rfl) ?_
        obtain ⟨v1, h1, h⟩ := h
        refine sh_getN C hW xFb_18 q846 (fun _ h => h) (by decide) h1 dX4_draw_125 ?_
        obtain ⟨a2, c3, ho128, hcv128, h⟩ := h
        have hcc := h.1
        have h := h.2
        refine call_X2_take_V (ct_X2_take l) C hW hS q1559 ho128 hcv128 hcc (by omega) (by omega) ⟨Nat.le_trans (Nat.le_add_right _ _) hkc, Nat.le_trans (Nat.le_add_right _ _) hks⟩ hl.1 (Nat.le_of_ble_eq_true rfl) dX4_draw_128 h (fun G4 H locs h hW hS _ => ?_)
        exact hb131 _ _ _ _ h ls H locs _ _ (lv_sub hl [0, 1, 2, 3, 4] rfl) hW hS hkc hks
      have hb94 : ∀ (x4 : Int32) (x5 : Option Nat) (x6 : Option Nat) (x7 : Option Nat) (G : GM) (kc : Nat) (ks : Nat), w_X4_draw_94 rc V Q rec3 x0 x1 x2 x3 x4 x5 x6 x7 G kc ks → ∀ (ls : Array Slot) (H : Heap) (locs : List Loc) (cells slots : Nat), lv_has ls 8 [(0, va_rf (some x0)), (1, .int x1), (2, va_rf x2), (3, va_rf x3), (4, .int x4), (5, va_rf x5), (6, va_rf x6), (7, va_rf x7)] → xW V A G H → va_S A s.heap H locs → cells + kc ≤ R.cells → slots + ks ≤ R.slots → W p l e R s m args below meth c H locs cells slots Z (F0 m 94 ls []) := by
        intro x4 x5 x6 x7 G kc ks h
        intro ls H locs cells slots hl hW hS hkc hks
        refine sh_aload hx hb dX4_draw_94 (lv_at hl 5 rfl) ?_
        obtain ⟨v5, h1, h⟩ := h
        refine sh_getN C hW xFb_17 q843 (fun _ h => h) (by decide) h1 dX4_draw_96 ?_
        refine lv_iload_n hx hb dX4_draw_99 rfl (lv_at hl 1 rfl) ?_
        obtain ⟨a6, c7, ho100, hcv100, h⟩ := h
        have hcc := h.1
        have h := h.2
        refine call_X5_shows_U3_4_5_6_Layer (ct_X5_shows l) C hW hS q1455 ho100 hcv100 hcc (by omega) (by omega) ⟨Nat.le_trans (Nat.le_add_right _ _) hkc, Nat.le_trans (Nat.le_add_right _ _) hks⟩ hl.1 (Nat.le_of_ble_eq_true rfl) dX4_draw_100 h (fun r8 H locs h hW hS _ => ?_)
        refine lv_if_eq (tgt := 118) hx hb dX4_draw_103 (by decide) (fun c21 => ?_) (fun c21 => ?_)
        · have h := wif_t h c21
          exact hb118 _ _ _ _ _ _ _ h ls H locs _ _ (lv_sub hl [0, 1, 2, 3, 4, 5, 6, 7] rfl) hW hS hkc hks
        · have h := wif_f h c21
          refine sh_aload hx hb dX4_draw_106 (lv_at hl 5 rfl) ?_
          obtain ⟨v9, h1, h⟩ := h
          refine sh_getN C hW xFb_17 q843 (fun _ h => h) (by decide) h1 dX4_draw_108 ?_
          refine lv_iload_n hx hb dX4_draw_111 rfl (lv_at hl 1 rfl) ?_
          refine sh_aload_n hx hb dX4_draw_112 rfl (lv_at hl 2 rfl) ?_
          refine sh_aload hx hb dX4_draw_113 (lv_at hl 7 rfl) ?_
          obtain ⟨a10, c11, ho115, hcv115, h⟩ := h
          by_cases c15 : c11 % 64 = 5
          · have h := wif_t h c15
            obtain ⟨c13, s14, hc115, hs115, h⟩ := h
            refine call_X11_draw_O5_Layer (ct_X11_draw l hB1 hB2 hrc) C hW hS q1464 ho115 hcv115 c15 (by omega) (by omega) hc115 hs115 hkc hks hl.1 (Nat.le_of_ble_eq_true rfl) dX4_draw_115 h (fun G12 H locs h hW hS _ hkc hks => ?_)
            exact hb118 _ _ _ _ _ _ _ h ls H locs _ _ (lv_sub hl [0, 1, 2, 3, 4, 5, 6, 7] rfl) hW hS hkc hks
          · have h := wif_f h c15
            by_cases c16 : c11 % 64 = 6
            · have h := wif_t h c16
              refine call_X5_draw_U6_Layer (ct_X5_draw l) C hW hS q1464 ho115 hcv115 c16 (by omega) (by omega) ⟨Nat.le_trans (Nat.le_add_right _ _) hkc, Nat.le_trans (Nat.le_add_right _ _) hks⟩ hl.1 (Nat.le_of_ble_eq_true rfl) dX4_draw_115 h (fun  H locs h hW hS _ => ?_)
              exact hb118 _ _ _ _ _ _ _ h ls H locs _ _ (lv_sub hl [0, 1, 2, 3, 4, 5, 6, 7] rfl) hW hS hkc hks
            · have h := wif_f h c16
              by_cases c18 : c11 % 64 = 3
              · have h := wif_t h c18
                refine call_X7_draw_O3_Layer (ct_X7_draw l) C hW hS q1464 ho115 hcv115 c18 (by omega) (by omega) ⟨Nat.le_trans (Nat.le_add_right _ _) hkc, Nat.le_trans (Nat.le_add_right _ _) hks⟩ hl.1 (Nat.le_of_ble_eq_true rfl) dX4_draw_115 h (fun G17 H locs h hW hS _ => ?_)
                exact hb118 _ _ _ _ _ _ _ h ls H locs _ _ (lv_sub hl [0, 1, 2, 3, 4, 5, 6, 7] rfl) hW hS hkc hks
              · have h := wif_f h c18
                by_cases c20 : c11 % 64 = 4
                · have h := wif_t h c20
                  refine call_X9_draw_O4_Layer (ct_X9_draw l) C hW hS q1464 ho115 hcv115 c20 (by omega) (by omega) ⟨Nat.le_trans (Nat.le_add_right _ _) hkc, Nat.le_trans (Nat.le_add_right _ _) hks⟩ hl.1 (Nat.le_of_ble_eq_true rfl) dX4_draw_115 h (fun G19 H locs h hW hS _ => ?_)
                  exact hb118 _ _ _ _ _ _ _ h ls H locs _ _ (lv_sub hl [0, 1, 2, 3, 4, 5, 6, 7] rfl) hW hS hkc hks
                · have h := wif_f h c20
                  exact False.elim h
      have hb70 : ∀ (x4 : Int32) (G : GM) (kc : Nat) (ks : Nat), w_X4_draw_70 rc V Q rec3 x0 x1 x2 x3 x4 G kc ks → ∀ (ls : Array Slot) (H : Heap) (locs : List Loc) (cells slots : Nat), lv_has ls 8 [(0, va_rf (some x0)), (1, .int x1), (2, va_rf x2), (3, va_rf x3), (4, .int x4)] → xW V A G H → va_S A s.heap H locs → cells + kc ≤ R.cells → slots + ks ≤ R.slots → W p l e R s m args below meth c H locs cells slots Z (F0 m 70 ls []) := by
        intro x4 G kc ks h
        intro ls H locs cells slots hl hW hS hkc hks
        refine lv_goto (tgt := 131) hx hb dX4_draw_70 (by decide) ?_
        exact hb131 _ _ _ _ h ls H locs _ _ (lv_sub hl [0, 1, 2, 3, 4] rfl) hW hS hkc hks
      intro x4 G kc ks h
      rw [hG3]
      intro ls H locs cells slots hl hW hS hkc hks
      refine lv_iload hx hb dX4_draw_3 (lv_at hl 4 rfl) ?_
      refine sh_aload_n hx hb dX4_draw_5 rfl (lv_at hl 0 rfl) ?_
      obtain ⟨v22, h1, h⟩ := h
      refine sh_get C hW xFb_12 q667 (fun _ h => h) h1 dX4_draw_6 ?_
      obtain ⟨a23, c24, ho9, hcv9, h⟩ := h
      have hcc := h.1
      have h := h.2
      refine call_J2_size_F15_List (ct_J2_size l) C hW hS q1448 ho9 hcv9 hcc (by omega) (by omega) ⟨Nat.le_trans (Nat.le_add_right _ _) hkc, Nat.le_trans (Nat.le_add_right _ _) hks⟩ hl.1 (Nat.le_of_ble_eq_true rfl) dX4_draw_9 h (fun r25 H locs h hW hS _ => ?_)
      refine lv_icmp_ge (tgt := 137) hx hb dX4_draw_14 (by decide) (fun c74 => ?_) (fun c74 => ?_)
      · have h := wif_t h c74
        exact hret _ _ _ _ _ _ _ dX4_draw_137 hW hS hkc hks h
      · have h := wif_f h c74
        refine sh_aload_n hx hb dX4_draw_17 rfl (lv_at hl 0 rfl) ?_
        obtain ⟨v26, h1, h⟩ := h
        refine sh_get C hW xFb_12 q667 (fun _ h => h) h1 dX4_draw_18 ?_
        refine lv_iload hx hb dX4_draw_21 (lv_at hl 4 rfl) ?_
        obtain ⟨a27, c28, ho23, hcv23, h⟩ := h
        have hcc := h.1
        have h := h.2
        refine call_J2_get_F15_List (ct_J2_get l) C hW hS q1450 ho23 hcv23 hcc (by omega) (by omega) ⟨Nat.le_trans (Nat.le_add_right _ _) hkc, Nat.le_trans (Nat.le_add_right _ _) hks⟩ hl.1 (Nat.le_of_ble_eq_true rfl) dX4_draw_23 h (fun r29 H locs h hW hS _ => ?_)
        refine sh_cast C hW q1026 xCa_Shapelayer_Layer h dX4_draw_28 (fun h => ?_)
        refine sh_astore (lv' := [(5, va_rf r29), (0, va_rf (some x0)), (1, .int x1), (2, va_rf x2), (3, va_rf x3), (4, .int x4)]) hx hb dX4_draw_31 hl (by decide) rfl (fun ls hl => ?_)
        refine sh_aload_n hx hb dX4_draw_33 rfl (lv_at hl 1 rfl) ?_
        refine sh_aload hx hb dX4_draw_34 (lv_at hl 0 rfl) ?_
        obtain ⟨a30, c31, ho36, hcv36, h⟩ := h
        have hcc := h.1
        have h := h.2
        refine call_X4_isMatte_V (ct_X4_isMatte l) C hW hS q1451 ho36 hcv36 hcc (by omega) (by omega) ⟨Nat.le_trans (Nat.le_add_right _ _) hkc, Nat.le_trans (Nat.le_add_right _ _) hks⟩ hl.1 (Nat.le_of_ble_eq_true rfl) dX4_draw_36 h (fun r32 H locs h hW hS _ => ?_)
        refine lv_if_ne (tgt := 131) hx hb dX4_draw_39 (by decide) (fun c73 => ?_) (fun c73 => ?_)
        · have h := wif_f h c73
          exact hb131 _ _ _ _ h ls H locs _ _ (lv_sub hl [1, 2, 3, 4, 5] rfl) hW hS hkc hks
        · have h := wif_t h c73
          refine sh_aload hx hb dX4_draw_42 (lv_at hl 0 rfl) ?_
          refine lv_iload_n hx hb dX4_draw_44 rfl (lv_at hl 2 rfl) ?_
          obtain ⟨a33, c34, ho45, hcv45, h⟩ := h
          have hcc := h.1
          have h := h.2
          refine call_X5_shows_U3_4_5_6_Layer (ct_X5_shows l) C hW hS q1455 ho45 hcv45 hcc (by omega) (by omega) ⟨Nat.le_trans (Nat.le_add_right _ _) hkc, Nat.le_trans (Nat.le_add_right _ _) hks⟩ hl.1 (Nat.le_of_ble_eq_true rfl) dX4_draw_45 h (fun r35 H locs h hW hS _ => ?_)
          refine lv_if_ne (tgt := 54) hx hb dX4_draw_48 (by decide) (fun c72 => ?_) (fun c72 => ?_)
          · have h := wif_f h c72
            refine sh_aload hx hb dX4_draw_54 (lv_at hl 0 rfl) ?_
            obtain ⟨v36, h1, h⟩ := h
            refine sh_getN C hW xFb_17 q843 (fun _ h => h) (by decide) h1 dX4_draw_56 ?_
            refine sh_ifnonnull (tgt := 73) hx hb dX4_draw_59 (by decide) (fun c71 => ?_) (fun c71 => ?_)
            · have h := wif_f h c71
              refine sh_aload_n hx hb dX4_draw_73 rfl (lv_at hl 4 rfl) ?_
              obtain ⟨a37, c38, ho74, hcv74, h⟩ := h
              have hcc := h.1
              have h := h.2
              obtain ⟨c41, s42, hc74, hs74, h⟩ := h
              refine call_X2_own_V (ct_X2_own l) C hW hS q1548 ho74 hcv74 hcc (by omega) (by omega) hc74 hs74 hkc hks hl.1 (Nat.le_of_ble_eq_true rfl) dX4_draw_74 h (fun r39 G40 H locs h hW hS _ hkc hks => ?_)
              refine sh_astore (lv' := [(6, va_rf r39), (5, va_rf r29), (0, va_rf (some x0)), (1, .int x1), (2, va_rf x2), (3, va_rf x3), (4, .int x4)]) hx hb dX4_draw_77 hl (by decide) (by simp only [List.filter_cons, List.filter_nil, va_rf_cat]; rfl) (fun ls hl => ?_)
              refine sh_aload_n hx hb dX4_draw_79 rfl (lv_at hl 5 rfl) ?_
              obtain ⟨a43, c44, ho80, hcv80, h⟩ := h
              have hcc := h.1
              have h := h.2
              obtain ⟨c47, s48, hc80, hs80, h⟩ := h
              refine call_X2_mask_V (ct_X2_mask l) C hW hS q1555 ho80 hcv80 hcc (by omega) (by omega) hc80 hs80 hkc hks hl.1 (Nat.le_of_ble_eq_true rfl) dX4_draw_80 h (fun r45 G46 H locs h hW hS _ hkc hks => ?_)
              refine sh_astore (lv' := [(7, va_rf r45), (6, va_rf r39), (5, va_rf r29), (0, va_rf (some x0)), (1, .int x1), (2, va_rf x2), (3, va_rf x3), (4, .int x4)]) hx hb dX4_draw_83 hl (by decide) (by simp only [List.filter_cons, List.filter_nil, va_rf_cat]; rfl) (fun ls hl => ?_)
              refine sh_aload hx hb dX4_draw_85 (lv_at hl 2 rfl) ?_
              refine lv_iload_n hx hb dX4_draw_87 rfl (lv_at hl 4 rfl) ?_
              refine sh_aload_n hx hb dX4_draw_88 rfl (lv_at hl 5 rfl) ?_
              refine sh_aload hx hb dX4_draw_89 (lv_at hl 1 rfl) ?_
              obtain ⟨a49, c50, ho91, hcv91, h⟩ := h
              by_cases c54 : c50 % 64 = 5
              · have h := wif_t h c54
                obtain ⟨c52, s53, hc91, hs91, h⟩ := h
                refine call_X11_draw_O5_Layer (ct_X11_draw l hB1 hB2 hrc) C hW hS q1464 ho91 hcv91 c54 (by omega) (by omega) hc91 hs91 hkc hks hl.1 (Nat.le_of_ble_eq_true rfl) dX4_draw_91 h (fun G51 H locs h hW hS _ hkc hks => ?_)
                exact hb94 _ _ _ _ _ _ _ h ls H locs _ _ (lv_sub hl [3, 4, 5, 6, 7, 2, 1, 0] rfl) hW hS hkc hks
              · have h := wif_f h c54
                by_cases c55 : c50 % 64 = 6
                · have h := wif_t h c55
                  refine call_X5_draw_U6_Layer (ct_X5_draw l) C hW hS q1464 ho91 hcv91 c55 (by omega) (by omega) ⟨Nat.le_trans (Nat.le_add_right _ _) hkc, Nat.le_trans (Nat.le_add_right _ _) hks⟩ hl.1 (Nat.le_of_ble_eq_true rfl) dX4_draw_91 h (fun  H locs h hW hS _ => ?_)
                  exact hb94 _ _ _ _ _ _ _ h ls H locs _ _ (lv_sub hl [3, 4, 5, 6, 7, 2, 1, 0] rfl) hW hS hkc hks
                · have h := wif_f h c55
                  by_cases c57 : c50 % 64 = 3
                  · have h := wif_t h c57
                    refine call_X7_draw_O3_Layer (ct_X7_draw l) C hW hS q1464 ho91 hcv91 c57 (by omega) (by omega) ⟨Nat.le_trans (Nat.le_add_right _ _) hkc, Nat.le_trans (Nat.le_add_right _ _) hks⟩ hl.1 (Nat.le_of_ble_eq_true rfl) dX4_draw_91 h (fun G56 H locs h hW hS _ => ?_)
                    exact hb94 _ _ _ _ _ _ _ h ls H locs _ _ (lv_sub hl [3, 4, 5, 6, 7, 2, 1, 0] rfl) hW hS hkc hks
                  · have h := wif_f h c57
                    by_cases c59 : c50 % 64 = 4
                    · have h := wif_t h c59
                      refine call_X9_draw_O4_Layer (ct_X9_draw l) C hW hS q1464 ho91 hcv91 c59 (by omega) (by omega) ⟨Nat.le_trans (Nat.le_add_right _ _) hkc, Nat.le_trans (Nat.le_add_right _ _) hks⟩ hl.1 (Nat.le_of_ble_eq_true rfl) dX4_draw_91 h (fun G58 H locs h hW hS _ => ?_)
                      exact hb94 _ _ _ _ _ _ _ h ls H locs _ _ (lv_sub hl [3, 4, 5, 6, 7, 2, 1, 0] rfl) hW hS hkc hks
                    · have h := wif_f h c59
                      exact False.elim h
            · have h := wif_t h c71
              refine sh_aload hx hb dX4_draw_62 (lv_at hl 0 rfl) ?_
              refine lv_iload_n hx hb dX4_draw_64 rfl (lv_at hl 2 rfl) ?_
              refine sh_aload_n hx hb dX4_draw_65 rfl (lv_at hl 3 rfl) ?_
              refine sh_aload_n hx hb dX4_draw_66 rfl (lv_at hl 4 rfl) ?_
              obtain ⟨a60, c61, ho67, hcv67, h⟩ := h
              by_cases c65 : c61 % 64 = 5
              · have h := wif_t h c65
                obtain ⟨c63, s64, hc67, hs67, h⟩ := h
                refine call_X11_draw_O5_Layer (ct_X11_draw l hB1 hB2 hrc) C hW hS q1464 ho67 hcv67 c65 (by omega) (by omega) hc67 hs67 hkc hks hl.1 (Nat.le_of_ble_eq_true rfl) dX4_draw_67 h (fun G62 H locs h hW hS _ hkc hks => ?_)
                exact hb70 _ _ _ _ h ls H locs _ _ (lv_sub hl [1, 2, 3, 4, 5] rfl) hW hS hkc hks
              · have h := wif_f h c65
                by_cases c66 : c61 % 64 = 6
                · have h := wif_t h c66
                  refine call_X5_draw_U6_Layer (ct_X5_draw l) C hW hS q1464 ho67 hcv67 c66 (by omega) (by omega) ⟨Nat.le_trans (Nat.le_add_right _ _) hkc, Nat.le_trans (Nat.le_add_right _ _) hks⟩ hl.1 (Nat.le_of_ble_eq_true rfl) dX4_draw_67 h (fun  H locs h hW hS _ => ?_)
                  exact hb70 _ _ _ _ h ls H locs _ _ (lv_sub hl [1, 2, 3, 4, 5] rfl) hW hS hkc hks
                · have h := wif_f h c66
                  by_cases c68 : c61 % 64 = 3
                  · have h := wif_t h c68
                    refine call_X7_draw_O3_Layer (ct_X7_draw l) C hW hS q1464 ho67 hcv67 c68 (by omega) (by omega) ⟨Nat.le_trans (Nat.le_add_right _ _) hkc, Nat.le_trans (Nat.le_add_right _ _) hks⟩ hl.1 (Nat.le_of_ble_eq_true rfl) dX4_draw_67 h (fun G67 H locs h hW hS _ => ?_)
                    exact hb70 _ _ _ _ h ls H locs _ _ (lv_sub hl [1, 2, 3, 4, 5] rfl) hW hS hkc hks
                  · have h := wif_f h c68
                    by_cases c70 : c61 % 64 = 4
                    · have h := wif_t h c70
                      refine call_X9_draw_O4_Layer (ct_X9_draw l) C hW hS q1464 ho67 hcv67 c70 (by omega) (by omega) ⟨Nat.le_trans (Nat.le_add_right _ _) hkc, Nat.le_trans (Nat.le_add_right _ _) hks⟩ hl.1 (Nat.le_of_ble_eq_true rfl) dX4_draw_67 h (fun G69 H locs h hW hS _ => ?_)
                      exact hb70 _ _ _ _ h ls H locs _ _ (lv_sub hl [1, 2, 3, 4, 5] rfl) hW hS hkc hks
                    · have h := wif_f h c70
                      exact False.elim h
          · have h := wif_t h c72
            refine lv_goto (tgt := 131) hx hb dX4_draw_51 (by decide) ?_
            exact hb131 _ _ _ _ h ls H locs _ _ (lv_sub hl [1, 2, 3, 4, 5] rfl) hW hS hkc hks
    intro x4 G kc ks h
    exact (hG3 x4 G kc ks).mp (loop_walk (fun s => GG3 s.1 s.2.1 s.2.2.1 s.2.2.2) (fun rec hrec s h => hB3 (fun x4 G kc ks => rec (x4, G, kc, ks)) (fun x4 G kc ks h => hrec (x4, G, kc, ks) h) s.1 s.2.1 s.2.2.1 s.2.2.2 h) (x4, G, kc, ks) h)
  intro h
  intro ls H locs cells slots hl hW hS hkc hks
  refine lv_iconst (v := 0) hx hb dX4_draw_0 (by decide) ?_
  refine lv_istore (lv' := [(4, .int (0 : Int32)), (0, va_rf (some x0)), (1, .int x1), (2, va_rf x2), (3, va_rf x3)]) hx hb dX4_draw_1 hl (by decide) (by simp only [List.filter_cons, List.filter_nil, va_rf_cat]; rfl) (fun ls hl => ?_)
  exact hL3 _ _ _ _ h ls H locs _ _ (lv_sub hl [1, 2, 3, 4, 0] rfl) hW hS hkc hks
theorem ctB_X4_draw (l : Launch) {fr lo : Nat} (hB1 : 11 ≤ fr) (hB2 : 264 ≤ lo) {rc : XV → (GM → Prop) → Nat → Int32 → (Option Nat) → (Option Nat) → GM → Nat → Nat → Prop} (hrc : CT_X4_draw l fr lo rc) : CT_X4_draw l (fr + 2) (lo + 51) (w_X4_draw_B rc) := by
  intro V sz G Q x0 x1 x2 x3 kc ks
  refine Met.ofW (cc := cX4_draw) (maxL := 8) (ret := none) (by decide) rfl ?_
  intro p e s m args below meth c s₁ B hml hv
  obtain ⟨rfl, hsz, hW, hK, hZ, h⟩ := hv
  subst hsz
  have hts := atoms_spec (ws := (ws_ yX4_draw cX4_draw 8 none)) B.pre
  have hts : ∀ w ∈ lw_all, w.before _ s = true := fun w h => hts w (List.mem_cons_of_mem _ h)
  have key : ∃ ls : Array Slot, entryFrame m ([.ref x0, .int x1, va_rf x2, va_rf x3] : List Value).toArray 8 = F0 m 0 ls [] ∧ lv_has ls 8 [(0, va_rf (some x0)), (1, .int x1), (2, va_rf x2), (3, va_rf x3)] := by
    cases x2 <;> cases x3 <;> (refine ⟨_, by rw [lg_entry_eq], ?_⟩; exact lv_entry _ (Nat.le_of_ble_eq_true rfl))
  obtain ⟨ls, hfr, hl⟩ := key
  rw [hfr]
  exact wk_X4_draw (hB1 := hB1) (hB2 := hB2) (hrc := hrc) Q ⟨⟨B.exec, B.bytes, hml, findClass_of_methodNamed B.named, hts⟩, hK, hZ, fun q h => Or.inr h⟩ (Nat.le_refl _) (Nat.le_refl _) G (fun G pc ls H locs cells slots _ _ hd hW1 hS hkc hks hQ => W.widen (k := kc) (n := ks) (Nat.le_trans (Nat.le_add_right _ _) hkc) (Nat.le_trans (Nat.le_add_right _ _) hks) (W.vret B.exec B.bytes B.returns (fun t ht _ => ⟨⟨G, rfl, hQ, by rw [← ht] at hW1; exact hW1⟩, hS.F ht⟩) hS.2.2 hd)) x0 x1 x2 x3 kc ks h ls _ [] 0 0 hl hW va_S.rf (by show 0 + kc ≤ kc; omega) (by show 0 + ks ≤ ks; omega)
theorem ct_X4_draw (l : Launch) : ∀ n, CT_X4_draw l (11 + n * 2) (264 + n * 51) (w_X4_draw n) := by
  intro n
  induction n with
  | zero =>
    intro V sz G Q x0 x1 x2 x3 kc ks
    refine Met.ofW (cc := cX4_draw) (maxL := 8) (ret := none) (by decide) rfl ?_
    intro p e s m args below meth c s₁ B hml hv
    obtain ⟨rfl, hsz, hW, hK, hZ, h⟩ := hv
    exact False.elim h
  | succ n ih =>
    have h := ctB_X4_draw l (fr := 11 + n * 2) (lo := 264 + n * 51) (by omega) (by omega) ih
    rw [show 11 + n * 2 + 2 = 11 + (n + 1) * 2 by omega, show 264 + n * 51 + 51 = 264 + (n + 1) * 51 by omega] at h
    exact h
def CT_X1_drawn (l : Launch) (fr lo : Nat) (w : XV → (Option Nat → GM → Prop) → Nat → (Option Nat) → Int32 → GM → Nat → Nat → Prop) : Prop := ∀ (V : XV) (sz : Nat) (G : GM) (Q : Option Nat → GM → Prop) (x0 : Nat) (x1 : Option Nat) (x2 : Int32) (kc ks : Nat), Met l yX1_drawn (ws_ yX1_drawn cX1_drawn 3 (some (.object "Shapelayer$Raster"))) { frames := fr, cells := kc, slots := ks, locals := lo } (va_Pc [.ref x0, va_rf x1, .int x2] (fun U => U.heap.size = sz ∧ xW V (xA G sz) G U.heap ∧ xK V U ∧ xZ V (xA G sz) U U.heap ∧ w V Q x0 x1 x2 G kc ks)) (va_Qq (fun r (u : GM) => Q r u) (fun u t => xW V (xA G sz) u t.heap) (xA G sz)) kc ks (xA G sz)
theorem call_X1_drawn_V {p : Program} {l : Launch} {e : Env} {R : Room} {s : State} {m : MethodId} {args : Array Value} {below : List Frame} {meth : Method} {c : Code} {H : Heap} {locs : List Loc} {cells slots : Nat} {Z : State → Prop} {A : Nat → Prop} {cc : ByteArray} {nL pc : Nat} {ls : Array Slot} {rest : List Value} {own : String} {index fr lo : Nat} {w : XV → (Option Nat → GM → Prop) → Nat → (Option Nat) → Int32 → GM → Nat → Nat → Prop} {V : XV} {G : GM} {o : Option Nat} {ci : Nat} {kc ks c1 s1 : Nat} {x0 : Nat} {x1 : Option Nat} {x2 : Int32} (hM : CT_X1_drawn l fr lo w) (C : xC p m c s args cc nL own V A) (hW : xW V A G H) (hS : va_S A s.heap H locs) (hlink : Cond.methodLink own index yX1_drawn ∈ lw_all) (ho : o = some x0) (hcv : gCi G (some x0) = some ci) (hci : ci % 64 = 0) (hRf : fr + 1 ≤ R.frames) (hRl : 8 + (3 + 11) + lo ≤ R.locals) (hc1 : c1 ≤ kc) (hs1 : s1 ≤ ks) (hkc : cells + kc ≤ R.cells) (hks : slots + ks ≤ R.slots) (hz : ls.size = nL) (hr8 : (rest.map fun v => v.category).sum ≤ 8) (hdg : decode cc pc = .ok (.invokevirtual index, 3)) {Q1 : Option Nat → GM → Prop} (h : w V Q1 x0 x1 x2 G c1 s1) (kk : ∀ (r : Option Nat) (G1 : GM) (H1 : Heap) (locs1 : List Loc), Q1 r G1 → xW V A G1 H1 → va_S A s.heap H1 locs1 → xFr V G G1 H H1 → (cells + c1) + (kc - c1) ≤ R.cells → (slots + s1) + (ks - s1) ≤ R.slots → W p l e R s m args below meth c H1 locs1 (cells + c1) (slots + s1) Z (F0 m (pc + 3) ls (va_rf r :: rest))) : W p l e R s m args below meth c H locs cells slots Z (F0 m pc ls (.int x2 :: va_rf x1 :: va_rf o :: rest)) := by
  subst ho
  obtain ⟨fs, hG⟩ := gCi_of hcv
  exact rg_q3w (va_runV (As := [va_rf x1, .int x2]) (rest := rest) C.1 (hM V H.size G Q1 x0 x1 x2 c1 s1) (cwV 2 C.1.2.2.2.2 (lw_V hlink q1437 qs14 q59 q1438) rfl rfl rfl (by decide +kernel) ⟨hRf, hRl⟩) ⟨fun a U g mk q => by obtain ⟨q0, q1, qW, qK, qZ, qw⟩ := q; exact ⟨q0, q1, qW, xK.same (u := U) (U := U.calling g mk a) rfl qK, xZ.moved (u := U) (U := U.calling g mk a) (Vm.Alike.refl U.vm) qZ, qw⟩, (hW.recv C.2.1 hG (r := (RX1, TX1, 6)) (by rw [hci]; rfl)), fun U hU hWm => ⟨rfl, by rw [hU], by rw [hU]; exact hW.self _, C.2.1.warm hWm, xZ.call C.2.2.1 hW hS C.2.2.2 hU hWm.alike, h⟩⟩ rfl rfl hz rfl (lv_room hr8) hdg ⟨by omega, by omega⟩) hW hS C.2.2.2 (fun r G1 H1 locs1 hp hW1 hS1 hF1 => kk r G1 H1 locs1 hp hW1 hS1 hF1 (by omega) (by omega))
def w_X1_drawn (V : XV) (Q : Option Nat → GM → Prop) (x0 : Nat) (x1 : Option Nat) (x2 : Int32) (G : GM) (kc : Nat) (ks : Nat) : Prop := gGR G 5 (some x0) (fun v1 => gRcv G v1 (fun a2 c3 => (c3 % 64 = 1) ∧ (w_X2_clear V (fun r4 G5 => gRcv G5 x1 (fun a6 c7 => (c7 % 64 = 2) ∧ (∃ c9 s10 : Nat, c9 ≤ kc ∧ s10 ≤ ks ∧ (w_X4_draw 8 V (fun G8 => gGR G8 5 (some x0) (fun v11 => Q v11 G8)) a6 x2 none r4 G5 c9 s10)))) a2 G)))
set_option maxRecDepth 100000 in
set_option maxHeartbeats 4000000 in
theorem wk_X1_drawn {p : Program} {l : Launch} {e : Env} {R : Room} {s : State} {m : MethodId} {args : Array Value} {below : List Frame} {meth : Method} {c : Code} {Z : State → Prop} {A : Nat → Prop} {V : XV} (Q : Option Nat → GM → Prop) (C : xC p m c s args cX1_drawn 3 RX1 V A) (hRf : 28 ≤ R.frames) (hRl : 699 ≤ R.locals) (G : GM) (hret : ∀ (v : Option Nat) (G : GM) (pc : Nat) (ls : Array Slot) (H : Heap) (locs : List Loc) (cells slots : Nat) {k1 k2 : Nat}, decode cX1_drawn pc = .ok (.areturn, 1) → xW V A G H → va_S A s.heap H locs → cells + k1 ≤ R.cells → slots + k2 ≤ R.slots → Q v G → W p l e R s m args below meth c H locs cells slots Z (F0 m pc ls [va_rf v])) (x0 : Nat) (x1 : Option Nat) (x2 : Int32) (kc ks : Nat) : w_X1_drawn V Q x0 x1 x2 G kc ks → ∀ (ls : Array Slot) (H : Heap) (locs : List Loc) (cells slots : Nat), lv_has ls 3 [(0, va_rf (some x0)), (1, va_rf x1), (2, .int x2)] → xW V A G H → va_S A s.heap H locs → cells + kc ≤ R.cells → slots + ks ≤ R.slots → W p l e R s m args below meth c H locs cells slots Z (F0 m 0 ls []) := by
  have hx := C.1.1; have hb := C.1.2.1; have hml := C.1.2.2.1; have hown := C.1.2.2.2.1; have hts := C.1.2.2.2.2
  intro h
  intro ls H locs cells slots hl hW hS hkc hks
  refine sh_aload_n hx hb dX1_drawn_0 rfl (lv_at hl 1 rfl) ?_
  refine lv_iload_n hx hb dX1_drawn_1 rfl (lv_at hl 2 rfl) ?_
  refine sh_null hx hb dX1_drawn_2 ?_
  refine sh_aload_n hx hb dX1_drawn_3 rfl (lv_at hl 0 rfl) ?_
  obtain ⟨v1, h1, h⟩ := h
  refine sh_get C hW xFb_5 q206 (fun _ h => h) h1 dX1_drawn_4 ?_
  obtain ⟨a2, c3, ho7, hcv7, h⟩ := h
  have hcc := h.1
  have h := h.2
  refine call_X2_clear_V (ct_X2_clear l) C hW hS q1439 ho7 hcv7 hcc (le_lit hRf rfl) (le_lit hRl rfl) ⟨Nat.le_trans (Nat.le_add_right _ _) hkc, Nat.le_trans (Nat.le_add_right _ _) hks⟩ hl.1 (by simp only [List.map_cons, List.map_nil, va_rf_cat]; exact Nat.le_of_ble_eq_true rfl) dX1_drawn_7 h (fun r4 G5 H locs h hW hS _ => ?_)
  obtain ⟨a6, c7, ho10, hcv10, h⟩ := h
  have hcc := h.1
  have h := h.2
  obtain ⟨c9, s10, hc10, hs10, h⟩ := h
  refine call_X4_draw_V (ct_X4_draw l 8) C hW hS q1443 ho10 hcv10 hcc (le_lit hRf rfl) (le_lit hRl rfl) hc10 hs10 hkc hks hl.1 (Nat.le_of_ble_eq_true rfl) dX1_drawn_10 h (fun G8 H locs h hW hS _ hkc hks => ?_)
  refine sh_aload_n hx hb dX1_drawn_13 rfl (lv_at hl 0 rfl) ?_
  obtain ⟨v11, h1, h⟩ := h
  refine sh_get C hW xFb_5 q206 (fun _ h => h) h1 dX1_drawn_14 ?_
  exact hret _ _ _ _ _ _ _ _ dX1_drawn_17 hW hS hkc hks h
theorem ct_X1_drawn (l : Launch) : CT_X1_drawn l 28 699 w_X1_drawn := by
  intro V sz G Q x0 x1 x2 kc ks
  refine Met.ofW (cc := cX1_drawn) (maxL := 3) (ret := (some (.object "Shapelayer$Raster"))) (by decide) rfl ?_
  intro p e s m args below meth c s₁ B hml hv
  obtain ⟨rfl, hsz, hW, hK, hZ, h⟩ := hv
  subst hsz
  have hts := atoms_spec (ws := (ws_ yX1_drawn cX1_drawn 3 (some (.object "Shapelayer$Raster")))) B.pre
  have hts : ∀ w ∈ lw_all, w.before _ s = true := fun w h => hts w (List.mem_cons_of_mem _ h)
  have key : ∃ ls : Array Slot, entryFrame m ([.ref x0, va_rf x1, .int x2] : List Value).toArray 3 = F0 m 0 ls [] ∧ lv_has ls 3 [(0, va_rf (some x0)), (1, va_rf x1), (2, .int x2)] := by
    cases x1 <;> (refine ⟨_, by rw [lg_entry_eq], ?_⟩; exact lv_entry _ (Nat.le_of_ble_eq_true rfl))
  obtain ⟨ls, hfr, hl⟩ := key
  rw [hfr]
  exact wk_X1_drawn Q ⟨⟨B.exec, B.bytes, hml, findClass_of_methodNamed B.named, hts⟩, hK, hZ, fun q h => Or.inr h⟩ (Nat.le_refl _) (Nat.le_refl _) G (fun v G pc ls H locs cells slots _ _ hd hW1 hS hkc hks hQ => W.widen (k := kc) (n := ks) (Nat.le_trans (Nat.le_add_right _ _) hkc) (Nat.le_trans (Nat.le_add_right _ _) hks) (W.aret (v := va_rf v) B.exec B.bytes B.returns (Or.inl ⟨_, rfl⟩) (va_rf_or v) (fun t ht _ => ⟨⟨v, G, rfl, hQ, by rw [← ht] at hW1; exact hW1⟩, hS.F ht⟩) hS.2.2 hd)) x0 x1 x2 kc ks h ls _ [] 0 0 hl hW va_S.rf (by show 0 + kc ≤ kc; omega) (by show 0 + ks ≤ ks; omega)
def CT_X2_copy (l : Launch) (fr lo : Nat) (w : XV → (Option Nat → GM → Prop) → Nat → GM → Nat → Nat → Prop) : Prop := ∀ (V : XV) (sz : Nat) (G : GM) (Q : Option Nat → GM → Prop) (x0 : Nat) (kc ks : Nat), Met l yX2_copy (ws_ yX2_copy cX2_copy 3 (some (.object "Shapelayer$Raster"))) { frames := fr, cells := kc, slots := ks, locals := lo } (va_Pc [.ref x0] (fun U => U.heap.size = sz ∧ xW V (xA G sz) G U.heap ∧ xK V U ∧ xZ V (xA G sz) U U.heap ∧ w V Q x0 G kc ks)) (va_Qq (fun r (u : GM) => Q r u) (fun u t => xW V (xA G sz) u t.heap) (xA G sz)) kc ks (xA G sz)
theorem call_X2_copy_V {p : Program} {l : Launch} {e : Env} {R : Room} {s : State} {m : MethodId} {args : Array Value} {below : List Frame} {meth : Method} {c : Code} {H : Heap} {locs : List Loc} {cells slots : Nat} {Z : State → Prop} {A : Nat → Prop} {cc : ByteArray} {nL pc : Nat} {ls : Array Slot} {rest : List Value} {own : String} {index fr lo : Nat} {w : XV → (Option Nat → GM → Prop) → Nat → GM → Nat → Nat → Prop} {V : XV} {G : GM} {o : Option Nat} {ci : Nat} {kc ks c1 s1 : Nat} {x0 : Nat} (hM : CT_X2_copy l fr lo w) (C : xC p m c s args cc nL own V A) (hW : xW V A G H) (hS : va_S A s.heap H locs) (hlink : Cond.methodLink own index yX2_copy ∈ lw_all) (ho : o = some x0) (hcv : gCi G (some x0) = some ci) (hci : ci % 64 = 1) (hRf : fr + 1 ≤ R.frames) (hRl : 8 + (3 + 11) + lo ≤ R.locals) (hc1 : c1 ≤ kc) (hs1 : s1 ≤ ks) (hkc : cells + kc ≤ R.cells) (hks : slots + ks ≤ R.slots) (hz : ls.size = nL) (hr8 : (rest.map fun v => v.category).sum ≤ 8) (hdg : decode cc pc = .ok (.invokevirtual index, 3)) {Q1 : Option Nat → GM → Prop} (h : w V Q1 x0 G c1 s1) (kk : ∀ (r : Option Nat) (G1 : GM) (H1 : Heap) (locs1 : List Loc), Q1 r G1 → xW V A G1 H1 → va_S A s.heap H1 locs1 → xFr V G G1 H H1 → (cells + c1) + (kc - c1) ≤ R.cells → (slots + s1) + (ks - s1) ≤ R.slots → W p l e R s m args below meth c H1 locs1 (cells + c1) (slots + s1) Z (F0 m (pc + 3) ls (va_rf r :: rest))) : W p l e R s m args below meth c H locs cells slots Z (F0 m pc ls (va_rf o :: rest)) := by
  subst ho
  obtain ⟨fs, hG⟩ := gCi_of hcv
  exact rg_q3w (va_runV (As := []) (rest := rest) C.1 (hM V H.size G Q1 x0 c1 s1) (cwV 0 C.1.2.2.2.2 (lw_V hlink q1564 q1565 q67 q1566) rfl rfl rfl (by decide +kernel) ⟨hRf, hRl⟩) ⟨fun a U g mk q => by obtain ⟨q0, q1, qW, qK, qZ, qw⟩ := q; exact ⟨q0, q1, qW, xK.same (u := U) (U := U.calling g mk a) rfl qK, xZ.moved (u := U) (U := U.calling g mk a) (Vm.Alike.refl U.vm) qZ, qw⟩, (hW.recv C.2.1 hG (r := (RX2, TX2, 5)) (by rw [hci]; rfl)), fun U hU hWm => ⟨rfl, by rw [hU], by rw [hU]; exact hW.self _, C.2.1.warm hWm, xZ.call C.2.2.1 hW hS C.2.2.2 hU hWm.alike, h⟩⟩ rfl rfl hz rfl (lv_room hr8) hdg ⟨by omega, by omega⟩) hW hS C.2.2.2 (fun r G1 H1 locs1 hp hW1 hS1 hF1 => kk r G1 H1 locs1 hp hW1 hS1 hF1 (by omega) (by omega))
def w_X2_copy_h10 (V : XV) (Q : Option Nat → GM → Prop) (x0 : Nat) (x1 : Option Nat) (kc : Nat) (ks : Nat) (rec10 : Int32 → GM → Prop) (x2 : Int32) (G : GM) : Prop := gGR G 6 (some x0) (fun v1 => gLn G v1 (fun v2 => if v2 ≤ x2 then (Q x1 G) else (gGR G 6 x1 (fun v3 => gGR G 6 (some x0) (fun v4 => gIL G 2 v4 x2 (fun v5 => gIS G 2 v3 x2 (vp_nar .byte v5) (fun G6 => rec10 (x2 + (1 : Int32)) G6)))))))
def w_X2_copy_L10 (V : XV) (Q : Option Nat → GM → Prop) (x0 : Nat) (x1 : Option Nat) (kc : Nat) (ks : Nat) (x2 : Int32) (G : GM) : Prop := wLoop (fun (rec : (Int32 × GM) → Prop) (s : Int32 × GM) => w_X2_copy_h10 V Q x0 x1 kc ks (fun x2 G => rec (x2, G)) s.1 s.2) (x2, G)
def w_X2_copy (V : XV) (Q : Option Nat → GM → Prop) (x0 : Nat) (G : GM) (kc : Nat) (ks : Nat) : Prop := gNw G 1 5 xdf_X2 kc ks (fun q8 G9 => ∃ c11 s12 : Nat, c11 ≤ (kc - 1) ∧ s12 ≤ (ks - 5) ∧ (w_X2_init V (fun G10 => w_X2_copy_L10 V Q x0 (some q8) ((kc - 1) - c11) ((ks - 5) - s12) (0 : Int32) G10) q8 G9 c11 s12))
set_option maxRecDepth 100000 in
set_option maxHeartbeats 4000000 in
theorem wk_X2_copy {p : Program} {l : Launch} {e : Env} {R : Room} {s : State} {m : MethodId} {args : Array Value} {below : List Frame} {meth : Method} {c : Code} {Z : State → Prop} {A : Nat → Prop} {V : XV} (Q : Option Nat → GM → Prop) (C : xC p m c s args cX2_copy 3 RX2 V A) (hRf : 2 ≤ R.frames) (hRl : 40 ≤ R.locals) (G : GM) (hret : ∀ (v : Option Nat) (G : GM) (pc : Nat) (ls : Array Slot) (H : Heap) (locs : List Loc) (cells slots : Nat) {k1 k2 : Nat}, decode cX2_copy pc = .ok (.areturn, 1) → xW V A G H → va_S A s.heap H locs → cells + k1 ≤ R.cells → slots + k2 ≤ R.slots → Q v G → W p l e R s m args below meth c H locs cells slots Z (F0 m pc ls [va_rf v])) (x0 : Nat) (kc ks : Nat) : w_X2_copy V Q x0 G kc ks → ∀ (ls : Array Slot) (H : Heap) (locs : List Loc) (cells slots : Nat), lv_has ls 3 [(0, va_rf (some x0))] → xW V A G H → va_S A s.heap H locs → cells + kc ≤ R.cells → slots + ks ≤ R.slots → W p l e R s m args below meth c H locs cells slots Z (F0 m 0 ls []) := by
  have hx := C.1.1; have hb := C.1.2.1; have hml := C.1.2.2.1; have hown := C.1.2.2.2.1; have hts := C.1.2.2.2.2
  have hL10 : ∀ (x1 : Option Nat) (kc : Nat) (ks : Nat) (x2 : Int32) (G : GM), w_X2_copy_L10 V Q x0 x1 kc ks x2 G → ∀ (ls : Array Slot) (H : Heap) (locs : List Loc) (cells slots : Nat), lv_has ls 3 [(0, va_rf (some x0)), (1, va_rf x1), (2, .int x2)] → xW V A G H → va_S A s.heap H locs → cells + kc ≤ R.cells → slots + ks ≤ R.slots → W p l e R s m args below meth c H locs cells slots Z (F0 m 10 ls []) := by
    intro x1 kc ks
    obtain ⟨GG10, hG10⟩ : ∃ GG : Int32 → GM → Prop, ∀ (x2 : Int32) (G : GM), GG x2 G ↔ (∀ (ls : Array Slot) (H : Heap) (locs : List Loc) (cells slots : Nat), lv_has ls 3 [(0, va_rf (some x0)), (1, va_rf x1), (2, .int x2)] → xW V A G H → va_S A s.heap H locs → cells + kc ≤ R.cells → slots + ks ≤ R.slots → W p l e R s m args below meth c H locs cells slots Z (F0 m 10 ls [])) := ⟨fun x2 G => _, fun x2 G => Iff.rfl⟩
    have hB10 : ∀ (rec10 : Int32 → GM → Prop), (∀ (x2 : Int32) (G : GM), rec10 x2 G → GG10 x2 G) → ∀ (x2 : Int32) (G : GM), w_X2_copy_h10 V Q x0 x1 kc ks rec10 x2 G → GG10 x2 G := by
      intro rec10 hrec10
      intro x2 G h
      rw [hG10]
      intro ls H locs cells slots hl hW hS hkc hks
      refine lv_iload_n hx hb dX2_copy_10 rfl (lv_at hl 2 rfl) ?_
      refine sh_aload_n hx hb dX2_copy_11 rfl (lv_at hl 0 rfl) ?_
      obtain ⟨v1, h1, h⟩ := h
      refine sh_get C hW xFb_6 q179 (fun _ h => h) h1 dX2_copy_12 ?_
      refine sh_len C hW h dX2_copy_15 (fun v2 h => ?_)
      refine lv_icmp_ge (tgt := 37) hx hb dX2_copy_16 (by decide) (fun c7 => ?_) (fun c7 => ?_)
      · have h := wif_t h c7
        refine sh_aload_n hx hb dX2_copy_37 rfl (lv_at hl 1 rfl) ?_
        exact hret _ _ _ _ _ _ _ _ dX2_copy_38 hW hS hkc hks h
      · have h := wif_f h c7
        refine sh_aload_n hx hb dX2_copy_19 rfl (lv_at hl 1 rfl) ?_
        obtain ⟨v3, h1, h⟩ := h
        refine sh_get C hW xFb_6 q179 (fun _ h => h) h1 dX2_copy_20 ?_
        refine lv_iload_n hx hb dX2_copy_23 rfl (lv_at hl 2 rfl) ?_
        refine sh_aload_n hx hb dX2_copy_24 rfl (lv_at hl 0 rfl) ?_
        obtain ⟨v4, h1, h⟩ := h
        refine sh_get C hW xFb_6 q179 (fun _ h => h) h1 dX2_copy_25 ?_
        refine lv_iload_n hx hb dX2_copy_28 rfl (lv_at hl 2 rfl) ?_
        refine sh_bald C hW h dX2_copy_29 (fun v5 h => ?_)
        refine sh_bast C hW hS h dX2_copy_30 (fun G6 H locs hW hS h => ?_)
        refine lv_iinc (v := x2 + (1 : Int32)) (lv' := [(2, .int (x2 + (1 : Int32))), (0, va_rf (some x0)), (1, va_rf x1)]) hx hb dX2_copy_31 hl (k := 2) rfl (congrArg (fun z => x2 + z) (by decide)) (by decide) (by simp only [List.filter_cons, List.filter_nil, va_rf_cat]; rfl) (fun ls hl => ?_)
        refine lv_goto (tgt := 10) hx hb dX2_copy_34 (by decide) ?_
        exact (hG10 _ _).mp (hrec10 _ _ h) ls H locs _ _ (lv_sub hl [1, 2, 0] rfl) hW hS hkc hks
    intro x2 G h
    exact (hG10 x2 G).mp (loop_walk (fun s => GG10 s.1 s.2) (fun rec hrec s h => hB10 (fun x2 G => rec (x2, G)) (fun x2 G h => hrec (x2, G) h) s.1 s.2 h) (x2, G) h)
  intro h
  intro ls H locs cells slots hl hW hS hkc hks
  refine sh_new C hW hS (ci := 1) rfl (by decide) q1552 q174 q67 tyX2_ok xdf_X2_ok h hkc hks dX2_copy_0 (fun q8 G9 H hW hS h hkc hks => ?_)
  refine lv_dup hx hb dX2_copy_3 (va_rf_cat _) ?_
  obtain ⟨c11, s12, hc4, hs4, h⟩ := h
  refine call_X2_init_I (ct_X2_init l) C hW hS q1553 rfl (le_lit hRf rfl) (le_lit hRl rfl) hc4 hs4 hkc hks hl.1 (Nat.le_of_ble_eq_true rfl) dX2_copy_4 h (fun G10 H locs h hW hS _ hkc hks => ?_)
  refine sh_astore_n (lv' := [(1, va_rf (some q8)), (0, va_rf (some x0))]) hx hb dX2_copy_7 rfl hl (by decide) rfl (fun ls hl => ?_)
  refine lv_iconst (v := 0) hx hb dX2_copy_8 (by decide) ?_
  refine lv_istore_n (lv' := [(2, .int (0 : Int32)), (1, va_rf (some q8)), (0, va_rf (some x0))]) hx hb dX2_copy_9 rfl hl (by decide) (by simp only [List.filter_cons, List.filter_nil, va_rf_cat]; rfl) (fun ls hl => ?_)
  exact hL10 _ _ _ _ _ h ls H locs _ _ (lv_sub hl [2, 1, 0] rfl) hW hS hkc hks
theorem ct_X2_copy (l : Launch) : CT_X2_copy l 2 40 w_X2_copy := by
  intro V sz G Q x0 kc ks
  refine Met.ofW (cc := cX2_copy) (maxL := 3) (ret := (some (.object "Shapelayer$Raster"))) (by decide) rfl ?_
  intro p e s m args below meth c s₁ B hml hv
  obtain ⟨rfl, hsz, hW, hK, hZ, h⟩ := hv
  subst hsz
  have hts := atoms_spec (ws := (ws_ yX2_copy cX2_copy 3 (some (.object "Shapelayer$Raster")))) B.pre
  have hts : ∀ w ∈ lw_all, w.before _ s = true := fun w h => hts w (List.mem_cons_of_mem _ h)
  have hl := lv_entry ([.ref x0]) (n := 3) (Nat.le_of_ble_eq_true rfl)
  rw [lg_entry_eq]
  generalize (lg_sl ([.ref x0]) ++ List.replicate (3 - (lg_sl ([.ref x0])).length) Slot.unset).toArray = ls at hl ⊢
  exact wk_X2_copy Q ⟨⟨B.exec, B.bytes, hml, findClass_of_methodNamed B.named, hts⟩, hK, hZ, fun q h => Or.inr h⟩ (Nat.le_refl _) (Nat.le_refl _) G (fun v G pc ls H locs cells slots _ _ hd hW1 hS hkc hks hQ => W.widen (k := kc) (n := ks) (Nat.le_trans (Nat.le_add_right _ _) hkc) (Nat.le_trans (Nat.le_add_right _ _) hks) (W.aret (v := va_rf v) B.exec B.bytes B.returns (Or.inl ⟨_, rfl⟩) (va_rf_or v) (fun t ht _ => ⟨⟨v, G, rfl, hQ, by rw [← ht] at hW1; exact hW1⟩, hS.F ht⟩) hS.2.2 hd)) x0 kc ks h ls _ [] 0 0 hl hW va_S.rf (by show 0 + kc ≤ kc; omega) (by show 0 + ks ≤ ks; omega)
def CT_X18_init (l : Launch) (fr lo : Nat) (w : XV → (GM → Prop) → Nat → (Option Nat) → Int32 → (Option Nat) → GM → Prop) : Prop := ∀ (V : XV) (sz : Nat) (G : GM) (Q : GM → Prop) (x0 : Nat) (x1 : Option Nat) (x2 : Int32) (x3 : Option Nat), Met l yX18_init (ws_ yX18_init cX18_init 4 none) { frames := fr, cells := 0, slots := 0, locals := lo } (va_Pc [.ref x0, va_rf x1, .int x2, va_rf x3] (fun U => U.heap.size = sz ∧ xW V (xA G sz) G U.heap ∧ xK V U ∧ xZ V (xA G sz) U U.heap ∧ w V Q x0 x1 x2 x3 G)) (va_Qv (fun (u : GM) => Q u) (fun u t => xW V (xA G sz) u t.heap) (xA G sz)) 0 0 (xA G sz)
theorem call_X18_init_I {p : Program} {l : Launch} {e : Env} {R : Room} {s : State} {m : MethodId} {args : Array Value} {below : List Frame} {meth : Method} {c : Code} {H : Heap} {locs : List Loc} {cells slots : Nat} {Z : State → Prop} {A : Nat → Prop} {cc : ByteArray} {nL pc : Nat} {ls : Array Slot} {rest : List Value} {own : String} {index fr lo : Nat} {w : XV → (GM → Prop) → Nat → (Option Nat) → Int32 → (Option Nat) → GM → Prop} {V : XV} {G : GM} {o : Option Nat} {x0 : Nat} {x1 : Option Nat} {x2 : Int32} {x3 : Option Nat} (hM : CT_X18_init l fr lo w) (C : xC p m c s args cc nL own V A) (hW : xW V A G H) (hS : va_S A s.heap H locs) (hlink : Cond.methodLink own index yX18_init ∈ lw_all) (ho : o = some x0) (hRf : fr + 1 ≤ R.frames) (hRl : 8 + (4 + 11) + lo ≤ R.locals) (hcs : cells ≤ R.cells ∧ slots ≤ R.slots) (hz : ls.size = nL) (hr8 : (rest.map fun v => v.category).sum ≤ 8) (hdg : decode cc pc = .ok (.invokespecial index, 3)) {Q1 : GM → Prop} (h : w V Q1 x0 x1 x2 x3 G) (kk : ∀ (G1 : GM) (H1 : Heap) (locs1 : List Loc), Q1 G1 → xW V A G1 H1 → va_S A s.heap H1 locs1 → xFr V G G1 H H1 → W p l e R s m args below meth c H1 locs1 cells slots Z (F0 m (pc + 3) ls (rest))) : W p l e R s m args below meth c H locs cells slots Z (F0 m pc ls (va_rf x3 :: .int x2 :: va_rf x1 :: va_rf o :: rest)) := by
  subst ho
  exact rg_v3w (va_runI (As := [va_rf x1, .int x2, va_rf x3]) (rest := rest) C.1 (hM V H.size G Q1 x0 x1 x2 x3) (cwI 3 C.1.2.2.2.2 (lw_meth q1569) rfl rfl rfl (C.1.2.2.2.2 _ q101) (C.1.2.2.2.2 _ hlink) (C.1.2.2.2.2 _ q1568) rfl (by decide +kernel) ⟨hRf, hRl⟩) ⟨fun a U g mk q => by obtain ⟨q0, q1, qW, qK, qZ, qw⟩ := q; exact ⟨q0, q1, qW, xK.same (u := U) (U := U.calling g mk a) rfl qK, xZ.moved (u := U) (U := U.calling g mk a) (Vm.Alike.refl U.vm) qZ, qw⟩, fun U hU hWm => ⟨rfl, by rw [hU], by rw [hU]; exact hW.self _, C.2.1.warm hWm, xZ.call C.2.2.1 hW hS C.2.2.2 hU hWm.alike, h⟩⟩ rfl rfl hz rfl (lv_room hr8) hdg hcs) hW hS C.2.2.2 (fun G1 H1 locs1 hp hW1 hS1 hF1 => kk G1 H1 locs1 hp hW1 hS1 hF1)
def w_X18_init (V : XV) (Q : GM → Prop) (x0 : Nat) (x1 : Option Nat) (x2 : Int32) (x3 : Option Nat) (G : GM) : Prop := gPF G 34 (some x0) (va_rf x1) (fun G1 => gPF G1 35 (some x0) (.int x2) (fun G2 => gPF G2 36 (some x0) (va_rf x3) (fun G3 => Q G3)))
set_option maxRecDepth 100000 in
set_option maxHeartbeats 4000000 in
theorem wk_X18_init {p : Program} {l : Launch} {e : Env} {R : Room} {s : State} {m : MethodId} {args : Array Value} {below : List Frame} {meth : Method} {c : Code} {cells slots : Nat} {Z : State → Prop} {A : Nat → Prop} {V : XV} (Q : GM → Prop) (C : xC p m c s args cX18_init 4 RX18 V A) (hin : meth.name = "<init>") (hRf : 1 ≤ R.frames) (hRl : 20 ≤ R.locals) (hcs : cells ≤ R.cells ∧ slots ≤ R.slots) (G : GM) (hret : ∀ (G : GM) (pc : Nat) (ls : Array Slot) (H : Heap) (locs : List Loc), decode cX18_init pc = .ok (.return_, 1) → xW V A G H → va_S A s.heap H locs → Q G → W p l e R s m args below meth c H locs cells slots Z (F0 m pc ls [])) (x0 : Nat) (x1 : Option Nat) (x2 : Int32) (x3 : Option Nat) : w_X18_init V Q x0 x1 x2 x3 G → ∀ (ls : Array Slot) (H : Heap) (locs : List Loc), lv_has ls 4 [(0, va_rf (some x0)), (1, va_rf x1), (2, .int x2), (3, va_rf x3)] → xW V A G H → va_S A s.heap H locs → W p l e R s m args below meth c H locs cells slots Z (F0 m 0 ls []) := by
  have hx := C.1.1; have hb := C.1.2.1; have hml := C.1.2.2.1; have hown := C.1.2.2.2.1; have hts := C.1.2.2.2.2
  intro h
  intro ls H locs hl hW hS
  refine sh_aload_n hx hb dX18_init_0 rfl (lv_at hl 0 rfl) ?_
  refine sh_objInit C q1570 q110 q111 hl.1 (le_lit hRf rfl) (le_lit hRl rfl) (Nat.le_of_ble_eq_true rfl) dX18_init_1 ?_
  refine sh_aload_n hx hb dX18_init_4 rfl (lv_at hl 0 rfl) ?_
  refine sh_aload_n hx hb dX18_init_5 rfl (lv_at hl 1 rfl) ?_
  refine sh_putF C hW hS xFb_34 q1571 (fun _ h => h) hin rfl xFd_34 (rf_nar_o _ _) (rf_fit_o _ _) h dX18_init_6 (fun G1 H locs hW hS h => ?_)
  refine sh_aload_n hx hb dX18_init_9 rfl (lv_at hl 0 rfl) ?_
  refine lv_iload_n hx hb dX18_init_10 rfl (lv_at hl 2 rfl) ?_
  refine sh_putF C hW hS xFb_35 q1573 (fun _ h => h) hin rfl xFd_35 rfl rfl h dX18_init_11 (fun G2 H locs hW hS h => ?_)
  refine sh_aload_n hx hb dX18_init_14 rfl (lv_at hl 0 rfl) ?_
  refine sh_aload_n hx hb dX18_init_15 rfl (lv_at hl 3 rfl) ?_
  refine sh_putF C hW hS xFb_36 q1575 (fun _ h => h) hin rfl xFd_36 (rf_nar_o _ _) (rf_fit_o _ _) h dX18_init_16 (fun G3 H locs hW hS h => ?_)
  exact hret _ _ _ _ _ dX18_init_19 hW hS h
theorem ct_X18_init (l : Launch) : CT_X18_init l 1 20 w_X18_init := by
  intro V sz G Q x0 x1 x2 x3
  refine Met.ofW (cc := cX18_init) (maxL := 4) (ret := none) (by decide) rfl ?_
  intro p e s m args below meth c s₁ B hml hv
  obtain ⟨rfl, hsz, hW, hK, hZ, h⟩ := hv
  subst hsz
  have hts := atoms_spec (ws := (ws_ yX18_init cX18_init 4 none)) B.pre
  have hts : ∀ w ∈ lw_all, w.before _ s = true := fun w h => hts w (List.mem_cons_of_mem _ h)
  have key : ∃ ls : Array Slot, entryFrame m ([.ref x0, va_rf x1, .int x2, va_rf x3] : List Value).toArray 4 = F0 m 0 ls [] ∧ lv_has ls 4 [(0, va_rf (some x0)), (1, va_rf x1), (2, .int x2), (3, va_rf x3)] := by
    cases x1 <;> cases x3 <;> (refine ⟨_, by rw [lg_entry_eq], ?_⟩; exact lv_entry _ (Nat.le_of_ble_eq_true rfl))
  obtain ⟨ls, hfr, hl⟩ := key
  rw [hfr]
  exact wk_X18_init Q ⟨⟨B.exec, B.bytes, hml, findClass_of_methodNamed B.named, hts⟩, hK, hZ, fun q h => Or.inr h⟩ (name_of_methodNamed B.named B.method).1 (Nat.le_refl _) (Nat.le_refl _) ⟨Nat.le_refl _, Nat.le_refl _⟩ G (fun G pc ls H locs hd hW1 hS hQ => W.vret B.exec B.bytes B.returns (fun t ht _ => ⟨⟨G, rfl, hQ, by rw [← ht] at hW1; exact hW1⟩, hS.F ht⟩) hS.2.2 hd) x0 x1 x2 x3 h ls _ [] hl hW va_S.rf
def CT_X1_frame (l : Launch) (fr lo : Nat) (w : XV → (Option Nat → GM → Prop) → Nat → (Option Nat) → Int32 → GM → Nat → Nat → Prop) : Prop := ∀ (V : XV) (sz : Nat) (G : GM) (Q : Option Nat → GM → Prop) (x0 : Nat) (x1 : Option Nat) (x2 : Int32) (kc ks : Nat), Met l yX1_frame (ws_ yX1_frame cX1_frame 4 (some (.object "Shapelayer$Raster"))) { frames := fr, cells := kc, slots := ks, locals := lo } (va_Pc [.ref x0, va_rf x1, .int x2] (fun U => U.heap.size = sz ∧ xW V (xA G sz) G U.heap ∧ xK V U ∧ xZ V (xA G sz) U U.heap ∧ w V Q x0 x1 x2 G kc ks)) (va_Qq (fun r (u : GM) => Q r u) (fun u t => xW V (xA G sz) u t.heap) (xA G sz)) kc ks (xA G sz)
theorem call_X1_frame_V {p : Program} {l : Launch} {e : Env} {R : Room} {s : State} {m : MethodId} {args : Array Value} {below : List Frame} {meth : Method} {c : Code} {H : Heap} {locs : List Loc} {cells slots : Nat} {Z : State → Prop} {A : Nat → Prop} {cc : ByteArray} {nL pc : Nat} {ls : Array Slot} {rest : List Value} {own : String} {index fr lo : Nat} {w : XV → (Option Nat → GM → Prop) → Nat → (Option Nat) → Int32 → GM → Nat → Nat → Prop} {V : XV} {G : GM} {o : Option Nat} {ci : Nat} {kc ks c1 s1 : Nat} {x0 : Nat} {x1 : Option Nat} {x2 : Int32} (hM : CT_X1_frame l fr lo w) (C : xC p m c s args cc nL own V A) (hW : xW V A G H) (hS : va_S A s.heap H locs) (hlink : Cond.methodLink own index yX1_frame ∈ lw_all) (ho : o = some x0) (hcv : gCi G (some x0) = some ci) (hci : ci % 64 = 0) (hRf : fr + 1 ≤ R.frames) (hRl : 8 + (4 + 11) + lo ≤ R.locals) (hc1 : c1 ≤ kc) (hs1 : s1 ≤ ks) (hkc : cells + kc ≤ R.cells) (hks : slots + ks ≤ R.slots) (hz : ls.size = nL) (hr8 : (rest.map fun v => v.category).sum ≤ 8) (hdg : decode cc pc = .ok (.invokevirtual index, 3)) {Q1 : Option Nat → GM → Prop} (h : w V Q1 x0 x1 x2 G c1 s1) (kk : ∀ (r : Option Nat) (G1 : GM) (H1 : Heap) (locs1 : List Loc), Q1 r G1 → xW V A G1 H1 → va_S A s.heap H1 locs1 → xFr V G G1 H H1 → (cells + c1) + (kc - c1) ≤ R.cells → (slots + s1) + (ks - s1) ≤ R.slots → W p l e R s m args below meth c H1 locs1 (cells + c1) (slots + s1) Z (F0 m (pc + 3) ls (va_rf r :: rest))) : W p l e R s m args below meth c H locs cells slots Z (F0 m pc ls (.int x2 :: va_rf x1 :: va_rf o :: rest)) := by
  subst ho
  obtain ⟨fs, hG⟩ := gCi_of hcv
  exact rg_q3w (va_runV (As := [va_rf x1, .int x2]) (rest := rest) C.1 (hM V H.size G Q1 x0 x1 x2 c1 s1) (cwV 2 C.1.2.2.2.2 (lw_V hlink q1431 qs13 q59 q1432) rfl rfl rfl (by decide +kernel) ⟨hRf, hRl⟩) ⟨fun a U g mk q => by obtain ⟨q0, q1, qW, qK, qZ, qw⟩ := q; exact ⟨q0, q1, qW, xK.same (u := U) (U := U.calling g mk a) rfl qK, xZ.moved (u := U) (U := U.calling g mk a) (Vm.Alike.refl U.vm) qZ, qw⟩, (hW.recv C.2.1 hG (r := (RX1, TX1, 6)) (by rw [hci]; rfl)), fun U hU hWm => ⟨rfl, by rw [hU], by rw [hU]; exact hW.self _, C.2.1.warm hWm, xZ.call C.2.2.1 hW hS C.2.2.2 hU hWm.alike, h⟩⟩ rfl rfl hz rfl (lv_room hr8) hdg ⟨by omega, by omega⟩) hW hS C.2.2.2 (fun r G1 H1 locs1 hp hW1 hS1 hF1 => kk r G1 H1 locs1 hp hW1 hS1 hF1 (by omega) (by omega))
def w_X1_frame_106 (V : XV) (Q : Option Nat → GM → Prop) (x0 : Nat) (x1 : Option Nat) (x2 : Int32) (G : GM) (kc : Nat) (ks : Nat) : Prop := gNw G 13 3 xdf_X18 kc ks (fun q1 G2 => gRcv G2 (some x0) (fun a3 c4 => (c4 % 64 = 0) ∧ (∃ c7 s8 : Nat, c7 ≤ (kc - 1) ∧ s8 ≤ (ks - 3) ∧ (w_X1_drawn V (fun r5 G6 => gRcv G6 r5 (fun a9 c10 => (c10 % 64 = 1) ∧ (∃ c13 s14 : Nat, c13 ≤ ((kc - 1) - c7) ∧ s14 ≤ ((ks - 3) - s8) ∧ (w_X2_copy V (fun r11 G12 => w_X18_init V (fun G15 => gGR G15 3 (some x0) (fun v16 => gRcv G15 v16 (fun a17 c18 => (c18 % 64 = 15) ∧ (∃ c21 s22 : Nat, c21 ≤ (((kc - 1) - c7) - c13) ∧ s22 ≤ (((ks - 3) - s8) - s14) ∧ (w_J2_add V (fun r19 G20 => gGR G20 36 (some q1) (fun v23 => Q v23 G20)) a17 (some q1) G15 c21 s22))))) q1 x1 x2 r11 G12) a9 G6 c13 s14)))) a3 x1 x2 G2 c7 s8))))
def w_X1_frame_72 (V : XV) (Q : Option Nat → GM → Prop) (rec2 : Int32 → Prop) (x0 : Nat) (x1 : Option Nat) (x2 : Int32) (x3 : Int32) (G : GM) (kc : Nat) (ks : Nat) : Prop := rec2 (x3 + (1 : Int32))
def w_X1_frame_h2 (V : XV) (Q : Option Nat → GM → Prop) (x0 : Nat) (x1 : Option Nat) (x2 : Int32) (G : GM) (kc : Nat) (ks : Nat) (rec2 : Int32 → Prop) (x3 : Int32) : Prop := gGR G 3 (some x0) (fun v24 => gRcv G v24 (fun a25 c26 => (c26 % 64 = 15) ∧ (w_J2_size V (fun r27 => if r27 ≤ x3 then (gGR G 3 (some x0) (fun v28 => gRcv G v28 (fun a29 c30 => (c30 % 64 = 15) ∧ (w_J2_size V (fun r31 => if r31 = (6 : Int32) then (gGR G 3 (some x0) (fun v32 => gRcv G v32 (fun a33 c34 => (c34 % 64 = 15) ∧ (w_J2_remove_2 V (fun r35 G36 => gCk G36 [13] r35 (w_X1_frame_106 V Q x0 x1 x2 G36 kc ks)) a33 (0 : Int32) G)))) else (w_X1_frame_106 V Q x0 x1 x2 G kc ks)) a29 G)))) else (gGR G 3 (some x0) (fun v38 => gRcv G v38 (fun a39 c40 => (c40 % 64 = 15) ∧ (w_J2_get V (fun r41 => gCk G [13] r41 (gGR G 34 r41 (fun v42 => if v42 = x1 then (gGR G 3 (some x0) (fun v43 => gRcv G v43 (fun a44 c45 => (c45 % 64 = 15) ∧ (w_J2_get V (fun r46 => gCk G [13] r46 (gGI G 35 r46 (fun v47 => if v47 = x2 then (gGR G 3 (some x0) (fun v48 => gRcv G v48 (fun a49 c50 => (c50 % 64 = 15) ∧ (w_J2_get V (fun r51 => gCk G [13] r51 (gGR G 36 r51 (fun v52 => Q v52 G))) a49 x3 G)))) else (w_X1_frame_72 V Q rec2 x0 x1 x2 x3 G kc ks)))) a44 x3 G)))) else (w_X1_frame_72 V Q rec2 x0 x1 x2 x3 G kc ks)))) a39 x3 G))))) a25 G)))
def w_X1_frame_L2 (V : XV) (Q : Option Nat → GM → Prop) (x0 : Nat) (x1 : Option Nat) (x2 : Int32) (G : GM) (kc : Nat) (ks : Nat) (x3 : Int32) : Prop := wLoop (fun (rec : Int32 → Prop) (s : Int32) => w_X1_frame_h2 V Q x0 x1 x2 G kc ks (fun x3 => rec x3) s) x3
def w_X1_frame (V : XV) (Q : Option Nat → GM → Prop) (x0 : Nat) (x1 : Option Nat) (x2 : Int32) (G : GM) (kc : Nat) (ks : Nat) : Prop := w_X1_frame_L2 V Q x0 x1 x2 G kc ks (0 : Int32)
set_option maxRecDepth 100000 in
set_option maxHeartbeats 4000000 in
theorem wk_X1_frame {p : Program} {l : Launch} {e : Env} {R : Room} {s : State} {m : MethodId} {args : Array Value} {below : List Frame} {meth : Method} {c : Code} {Z : State → Prop} {A : Nat → Prop} {V : XV} (Q : Option Nat → GM → Prop) (C : xC p m c s args cX1_frame 4 RX1 V A) (hRf : 29 ≤ R.frames) (hRl : 721 ≤ R.locals) (G : GM) (hret : ∀ (v : Option Nat) (G : GM) (pc : Nat) (ls : Array Slot) (H : Heap) (locs : List Loc) (cells slots : Nat) {k1 k2 : Nat}, decode cX1_frame pc = .ok (.areturn, 1) → xW V A G H → va_S A s.heap H locs → cells + k1 ≤ R.cells → slots + k2 ≤ R.slots → Q v G → W p l e R s m args below meth c H locs cells slots Z (F0 m pc ls [va_rf v])) (x0 : Nat) (x1 : Option Nat) (x2 : Int32) (kc ks : Nat) : w_X1_frame V Q x0 x1 x2 G kc ks → ∀ (ls : Array Slot) (H : Heap) (locs : List Loc) (cells slots : Nat), lv_has ls 4 [(0, va_rf (some x0)), (1, va_rf x1), (2, .int x2)] → xW V A G H → va_S A s.heap H locs → cells + kc ≤ R.cells → slots + ks ≤ R.slots → W p l e R s m args below meth c H locs cells slots Z (F0 m 0 ls []) := by
  have hx := C.1.1; have hb := C.1.2.1; have hml := C.1.2.2.1; have hown := C.1.2.2.2.1; have hts := C.1.2.2.2.2
  have hb106 : ∀ (G : GM) (kc : Nat) (ks : Nat), w_X1_frame_106 V Q x0 x1 x2 G kc ks → ∀ (ls : Array Slot) (H : Heap) (locs : List Loc) (cells slots : Nat), lv_has ls 4 [(0, va_rf (some x0)), (1, va_rf x1), (2, .int x2)] → xW V A G H → va_S A s.heap H locs → cells + kc ≤ R.cells → slots + ks ≤ R.slots → W p l e R s m args below meth c H locs cells slots Z (F0 m 106 ls []) := by
    intro G kc ks h
    intro ls H locs cells slots hl hW hS hkc hks
    refine sh_new C hW hS (ci := 13) rfl (by decide) q1433 q1434 q101 tyX18_ok xdf_X18_ok h hkc hks dX1_frame_106 (fun q1 G2 H hW hS h hkc hks => ?_)
    refine lv_dup hx hb dX1_frame_109 (va_rf_cat _) ?_
    refine sh_aload_n hx hb dX1_frame_110 rfl (lv_at hl 1 rfl) ?_
    refine lv_iload_n hx hb dX1_frame_111 rfl (lv_at hl 2 rfl) ?_
    refine sh_aload_n hx hb dX1_frame_112 rfl (lv_at hl 0 rfl) ?_
    refine sh_aload_n hx hb dX1_frame_113 rfl (lv_at hl 1 rfl) ?_
    refine lv_iload_n hx hb dX1_frame_114 rfl (lv_at hl 2 rfl) ?_
    obtain ⟨a3, c4, ho115, hcv115, h⟩ := h
    have hcc := h.1
    have h := h.2
    obtain ⟨c7, s8, hc115, hs115, h⟩ := h
    refine call_X1_drawn_V (ct_X1_drawn l) C hW hS q1435 ho115 hcv115 hcc (le_lit hRf rfl) (le_lit hRl rfl) hc115 hs115 hkc hks hl.1 (by simp only [List.map_cons, List.map_nil, va_rf_cat]; exact Nat.le_of_ble_eq_true rfl) dX1_frame_115 h (fun r5 G6 H locs h hW hS _ hkc hks => ?_)
    obtain ⟨a9, c10, ho118, hcv118, h⟩ := h
    have hcc := h.1
    have h := h.2
    obtain ⟨c13, s14, hc118, hs118, h⟩ := h
    refine call_X2_copy_V (ct_X2_copy l) C hW hS q1563 ho118 hcv118 hcc (le_lit hRf rfl) (le_lit hRl rfl) hc118 hs118 hkc hks hl.1 (by simp only [List.map_cons, List.map_nil, va_rf_cat]; exact Nat.le_of_ble_eq_true rfl) dX1_frame_118 h (fun r11 G12 H locs h hW hS _ hkc hks => ?_)
    refine call_X18_init_I (ct_X18_init l) C hW hS q1567 rfl (le_lit hRf rfl) (le_lit hRl rfl) ⟨Nat.le_trans (Nat.le_add_right _ _) hkc, Nat.le_trans (Nat.le_add_right _ _) hks⟩ hl.1 (Nat.le_of_ble_eq_true rfl) dX1_frame_121 h (fun G15 H locs h hW hS _ => ?_)
    refine sh_astore_n (lv' := [(3, va_rf (some q1)), (0, va_rf (some x0)), (1, va_rf x1), (2, .int x2)]) hx hb dX1_frame_124 rfl hl (by decide) rfl (fun ls hl => ?_)
    refine sh_aload_n hx hb dX1_frame_125 rfl (lv_at hl 1 rfl) ?_
    obtain ⟨v16, h1, h⟩ := h
    refine sh_get C hW xFb_3 q204 (fun _ h => h) h1 dX1_frame_126 ?_
    refine sh_aload_n hx hb dX1_frame_129 rfl (lv_at hl 0 rfl) ?_
    obtain ⟨a17, c18, ho130, hcv130, h⟩ := h
    have hcc := h.1
    have h := h.2
    obtain ⟨c21, s22, hc130, hs130, h⟩ := h
    refine call_J2_add_F15_List (ct_J2_add l) C hW hS q676 ho130 hcv130 hcc (le_lit hRf rfl) (le_lit hRl rfl) hc130 hs130 hkc hks hl.1 (Nat.le_of_ble_eq_true rfl) dX1_frame_130 h (fun r19 G20 H locs h hW hS _ hkc hks => ?_)
    refine lv_pop hx hb dX1_frame_135 rfl ?_
    refine sh_aload_n hx hb dX1_frame_136 rfl (lv_at hl 0 rfl) ?_
    obtain ⟨v23, h1, h⟩ := h
    refine sh_getN C hW xFb_36 q1576 (fun _ h => h) (by decide) h1 dX1_frame_137 ?_
    exact hret _ _ _ _ _ _ _ _ dX1_frame_140 hW hS hkc hks h
  have hL2 : ∀ (G : GM) (kc : Nat) (ks : Nat) (x3 : Int32), w_X1_frame_L2 V Q x0 x1 x2 G kc ks x3 → ∀ (ls : Array Slot) (H : Heap) (locs : List Loc) (cells slots : Nat), lv_has ls 4 [(0, va_rf (some x0)), (1, va_rf x1), (2, .int x2), (3, .int x3)] → xW V A G H → va_S A s.heap H locs → cells + kc ≤ R.cells → slots + ks ≤ R.slots → W p l e R s m args below meth c H locs cells slots Z (F0 m 2 ls []) := by
    intro G kc ks
    obtain ⟨GG2, hG2⟩ : ∃ GG : Int32 → Prop, ∀ (x3 : Int32), GG x3 ↔ (∀ (ls : Array Slot) (H : Heap) (locs : List Loc) (cells slots : Nat), lv_has ls 4 [(0, va_rf (some x0)), (1, va_rf x1), (2, .int x2), (3, .int x3)] → xW V A G H → va_S A s.heap H locs → cells + kc ≤ R.cells → slots + ks ≤ R.slots → W p l e R s m args below meth c H locs cells slots Z (F0 m 2 ls [])) := ⟨fun x3 => _, fun x3 => Iff.rfl⟩
    have hB2 : ∀ (rec2 : Int32 → Prop), (∀ (x3 : Int32), rec2 x3 → GG2 x3) → ∀ (x3 : Int32), w_X1_frame_h2 V Q x0 x1 x2 G kc ks rec2 x3 → GG2 x3 := by
      intro rec2 hrec2
      have hb72 : ∀ (x3 : Int32), w_X1_frame_72 V Q rec2 x0 x1 x2 x3 G kc ks → ∀ (ls : Array Slot) (H : Heap) (locs : List Loc) (cells slots : Nat), lv_has ls 4 [(0, va_rf (some x0)), (1, va_rf x1), (2, .int x2), (3, .int x3)] → xW V A G H → va_S A s.heap H locs → cells + kc ≤ R.cells → slots + ks ≤ R.slots → W p l e R s m args below meth c H locs cells slots Z (F0 m 72 ls []) := by
        intro x3 h
        intro ls H locs cells slots hl hW hS hkc hks
        refine lv_iinc (v := x3 + (1 : Int32)) (lv' := [(3, .int (x3 + (1 : Int32))), (0, va_rf (some x0)), (1, va_rf x1), (2, .int x2)]) hx hb dX1_frame_72 hl (k := 3) rfl (congrArg (fun z => x3 + z) (by decide)) (by decide) rfl (fun ls hl => ?_)
        refine lv_goto (tgt := 2) hx hb dX1_frame_75 (by decide) ?_
        exact (hG2 _).mp (hrec2 _ h) ls H locs _ _ (lv_sub hl [1, 2, 3, 0] rfl) hW hS hkc hks
      intro x3 h
      rw [hG2]
      intro ls H locs cells slots hl hW hS hkc hks
      refine lv_iload_n hx hb dX1_frame_2 rfl (lv_at hl 3 rfl) ?_
      refine sh_aload_n hx hb dX1_frame_3 rfl (lv_at hl 0 rfl) ?_
      obtain ⟨v24, h1, h⟩ := h
      refine sh_get C hW xFb_3 q204 (fun _ h => h) h1 dX1_frame_4 ?_
      obtain ⟨a25, c26, ho7, hcv7, h⟩ := h
      have hcc := h.1
      have h := h.2
      refine call_J2_size_F15_List (ct_J2_size l) C hW hS q225 ho7 hcv7 hcc (le_lit hRf rfl) (le_lit hRl rfl) ⟨Nat.le_trans (Nat.le_add_right _ _) hkc, Nat.le_trans (Nat.le_add_right _ _) hks⟩ hl.1 (Nat.le_of_ble_eq_true rfl) dX1_frame_7 h (fun r27 H locs h hW hS _ => ?_)
      refine lv_icmp_ge (tgt := 78) hx hb dX1_frame_12 (by decide) (fun c55 => ?_) (fun c55 => ?_)
      · have h := wif_t h c55
        refine sh_aload_n hx hb dX1_frame_78 rfl (lv_at hl 0 rfl) ?_
        obtain ⟨v28, h1, h⟩ := h
        refine sh_get C hW xFb_3 q204 (fun _ h => h) h1 dX1_frame_79 ?_
        obtain ⟨a29, c30, ho82, hcv82, h⟩ := h
        have hcc := h.1
        have h := h.2
        refine call_J2_size_F15_List (ct_J2_size l) C hW hS q225 ho82 hcv82 hcc (le_lit hRf rfl) (le_lit hRl rfl) ⟨Nat.le_trans (Nat.le_add_right _ _) hkc, Nat.le_trans (Nat.le_add_right _ _) hks⟩ hl.1 (Nat.le_of_ble_eq_true rfl) dX1_frame_82 h (fun r31 H locs h hW hS _ => ?_)
        refine lv_bipush (v := 6) hx hb dX1_frame_87 (by decide) ?_
        refine lv_icmp_ne (tgt := 106) hx hb dX1_frame_89 (by decide) (fun c37 => ?_) (fun c37 => ?_)
        · have h := wif_f h c37
          exact hb106 _ _ _ h ls H locs _ _ (lv_sub hl [0, 1, 2] rfl) hW hS hkc hks
        · have h := wif_t h c37
          refine sh_aload_n hx hb dX1_frame_92 rfl (lv_at hl 0 rfl) ?_
          obtain ⟨v32, h1, h⟩ := h
          refine sh_get C hW xFb_3 q204 (fun _ h => h) h1 dX1_frame_93 ?_
          refine lv_iconst (v := 0) hx hb dX1_frame_96 (by decide) ?_
          obtain ⟨a33, c34, ho97, hcv97, h⟩ := h
          have hcc := h.1
          have h := h.2
          refine call_J2_remove_2_F15_List (ct_J2_remove_2 l) C hW hS q1151 ho97 hcv97 hcc (le_lit hRf rfl) (le_lit hRl rfl) ⟨Nat.le_trans (Nat.le_add_right _ _) hkc, Nat.le_trans (Nat.le_add_right _ _) hks⟩ hl.1 (Nat.le_of_ble_eq_true rfl) dX1_frame_97 h (fun r35 G36 H locs h hW hS _ => ?_)
          refine sh_cast C hW q1433 xCa_Shapelayer_Frame h dX1_frame_102 (fun h => ?_)
          refine sh_astore_n (lv' := [(3, va_rf r35), (0, va_rf (some x0)), (1, va_rf x1), (2, .int x2)]) hx hb dX1_frame_105 rfl hl (by decide) rfl (fun ls hl => ?_)
          exact hb106 _ _ _ h ls H locs _ _ (lv_sub hl [1, 2, 3] rfl) hW hS hkc hks
      · have h := wif_f h c55
        refine sh_aload_n hx hb dX1_frame_15 rfl (lv_at hl 0 rfl) ?_
        obtain ⟨v38, h1, h⟩ := h
        refine sh_get C hW xFb_3 q204 (fun _ h => h) h1 dX1_frame_16 ?_
        refine lv_iload_n hx hb dX1_frame_19 rfl (lv_at hl 3 rfl) ?_
        obtain ⟨a39, c40, ho20, hcv20, h⟩ := h
        have hcc := h.1
        have h := h.2
        refine call_J2_get_F15_List (ct_J2_get l) C hW hS q771 ho20 hcv20 hcc (le_lit hRf rfl) (le_lit hRl rfl) ⟨Nat.le_trans (Nat.le_add_right _ _) hkc, Nat.le_trans (Nat.le_add_right _ _) hks⟩ hl.1 (Nat.le_of_ble_eq_true rfl) dX1_frame_20 h (fun r41 H locs h hW hS _ => ?_)
        refine sh_cast C hW q1433 xCa_Shapelayer_Frame h dX1_frame_25 (fun h => ?_)
        obtain ⟨v42, h1, h⟩ := h
        refine sh_getN C hW xFb_34 q1572 (fun _ h => h) (by decide) h1 dX1_frame_28 ?_
        refine sh_aload_n hx hb dX1_frame_31 rfl (lv_at hl 1 rfl) ?_
        refine lv_acmp_ne (tgt := 72) hx hb dX1_frame_32 (by decide) (fun c54 => ?_) (fun c54 => ?_)
        · have h := wif_f h c54
          exact hb72 _ h ls H locs _ _ (lv_sub hl [0, 1, 2, 3] rfl) hW hS hkc hks
        · have h := wif_t h c54
          refine sh_aload_n hx hb dX1_frame_35 rfl (lv_at hl 0 rfl) ?_
          obtain ⟨v43, h1, h⟩ := h
          refine sh_get C hW xFb_3 q204 (fun _ h => h) h1 dX1_frame_36 ?_
          refine lv_iload_n hx hb dX1_frame_39 rfl (lv_at hl 3 rfl) ?_
          obtain ⟨a44, c45, ho40, hcv40, h⟩ := h
          have hcc := h.1
          have h := h.2
          refine call_J2_get_F15_List (ct_J2_get l) C hW hS q771 ho40 hcv40 hcc (le_lit hRf rfl) (le_lit hRl rfl) ⟨Nat.le_trans (Nat.le_add_right _ _) hkc, Nat.le_trans (Nat.le_add_right _ _) hks⟩ hl.1 (Nat.le_of_ble_eq_true rfl) dX1_frame_40 h (fun r46 H locs h hW hS _ => ?_)
          refine sh_cast C hW q1433 xCa_Shapelayer_Frame h dX1_frame_45 (fun h => ?_)
          obtain ⟨v47, h1, h⟩ := h
          refine sh_getN C hW xFb_35 q1574 (fun _ h => h) (by decide) h1 dX1_frame_48 ?_
          refine lv_iload_n hx hb dX1_frame_51 rfl (lv_at hl 2 rfl) ?_
          refine lv_icmp_ne (tgt := 72) hx hb dX1_frame_52 (by decide) (fun c53 => ?_) (fun c53 => ?_)
          · have h := wif_f h c53
            exact hb72 _ h ls H locs _ _ (lv_sub hl [0, 1, 2, 3] rfl) hW hS hkc hks
          · have h := wif_t h c53
            refine sh_aload_n hx hb dX1_frame_55 rfl (lv_at hl 0 rfl) ?_
            obtain ⟨v48, h1, h⟩ := h
            refine sh_get C hW xFb_3 q204 (fun _ h => h) h1 dX1_frame_56 ?_
            refine lv_iload_n hx hb dX1_frame_59 rfl (lv_at hl 3 rfl) ?_
            obtain ⟨a49, c50, ho60, hcv60, h⟩ := h
            have hcc := h.1
            have h := h.2
            refine call_J2_get_F15_List (ct_J2_get l) C hW hS q771 ho60 hcv60 hcc (le_lit hRf rfl) (le_lit hRl rfl) ⟨Nat.le_trans (Nat.le_add_right _ _) hkc, Nat.le_trans (Nat.le_add_right _ _) hks⟩ hl.1 (Nat.le_of_ble_eq_true rfl) dX1_frame_60 h (fun r51 H locs h hW hS _ => ?_)
            refine sh_cast C hW q1433 xCa_Shapelayer_Frame h dX1_frame_65 (fun h => ?_)
            obtain ⟨v52, h1, h⟩ := h
            refine sh_getN C hW xFb_36 q1576 (fun _ h => h) (by decide) h1 dX1_frame_68 ?_
            exact hret _ _ _ _ _ _ _ _ dX1_frame_71 hW hS hkc hks h
    intro x3 h
    exact (hG2 x3).mp (loop_walk (fun s => GG2 s) (fun rec hrec s h => hB2 (fun x3 => rec x3) (fun x3 h => hrec x3 h) s h) x3 h)
  intro h
  intro ls H locs cells slots hl hW hS hkc hks
  refine lv_iconst (v := 0) hx hb dX1_frame_0 (by decide) ?_
  refine lv_istore_n (lv' := [(3, .int (0 : Int32)), (0, va_rf (some x0)), (1, va_rf x1), (2, .int x2)]) hx hb dX1_frame_1 rfl hl (by decide) rfl (fun ls hl => ?_)
  exact hL2 _ _ _ _ h ls H locs _ _ (lv_sub hl [1, 2, 3, 0] rfl) hW hS hkc hks
theorem ct_X1_frame (l : Launch) : CT_X1_frame l 29 721 w_X1_frame := by
  intro V sz G Q x0 x1 x2 kc ks
  refine Met.ofW (cc := cX1_frame) (maxL := 4) (ret := (some (.object "Shapelayer$Raster"))) (by decide) rfl ?_
  intro p e s m args below meth c s₁ B hml hv
  obtain ⟨rfl, hsz, hW, hK, hZ, h⟩ := hv
  subst hsz
  have hts := atoms_spec (ws := (ws_ yX1_frame cX1_frame 4 (some (.object "Shapelayer$Raster")))) B.pre
  have hts : ∀ w ∈ lw_all, w.before _ s = true := fun w h => hts w (List.mem_cons_of_mem _ h)
  have key : ∃ ls : Array Slot, entryFrame m ([.ref x0, va_rf x1, .int x2] : List Value).toArray 4 = F0 m 0 ls [] ∧ lv_has ls 4 [(0, va_rf (some x0)), (1, va_rf x1), (2, .int x2)] := by
    cases x1 <;> (refine ⟨_, by rw [lg_entry_eq], ?_⟩; exact lv_entry _ (Nat.le_of_ble_eq_true rfl))
  obtain ⟨ls, hfr, hl⟩ := key
  rw [hfr]
  exact wk_X1_frame Q ⟨⟨B.exec, B.bytes, hml, findClass_of_methodNamed B.named, hts⟩, hK, hZ, fun q h => Or.inr h⟩ (Nat.le_refl _) (Nat.le_refl _) G (fun v G pc ls H locs cells slots _ _ hd hW1 hS hkc hks hQ => W.widen (k := kc) (n := ks) (Nat.le_trans (Nat.le_add_right _ _) hkc) (Nat.le_trans (Nat.le_add_right _ _) hks) (W.aret (v := va_rf v) B.exec B.bytes B.returns (Or.inl ⟨_, rfl⟩) (va_rf_or v) (fun t ht _ => ⟨⟨v, G, rfl, hQ, by rw [← ht] at hW1; exact hW1⟩, hS.F ht⟩) hS.2.2 hd)) x0 x1 x2 kc ks h ls _ [] 0 0 hl hW va_S.rf (by show 0 + kc ≤ kc; omega) (by show 0 + ks ≤ ks; omega)
def CT_X2_at (l : Launch) (fr lo : Nat) (w : XV → (Int32 → Prop) → Nat → Int32 → Int32 → GM → Prop) : Prop := ∀ (V : XV) (sz : Nat) (G : GM) (Q : Int32 → Prop) (x0 : Nat) (x1 : Int32) (x2 : Int32), Met l yX2_at (ws_ yX2_at cX2_at 3 (some .int)) { frames := fr, cells := 0, slots := 0, locals := lo } (va_Pc [.ref x0, .int x1, .int x2] (fun U => U.heap.size = sz ∧ xW V (xA G sz) G U.heap ∧ xK V U ∧ xZ V (xA G sz) U U.heap ∧ w V Q x0 x1 x2 G)) (va_Qi (fun r (u : GM) => u = G ∧ Q r) (fun u t => xW V (xA G sz) u t.heap) (xA G sz)) 0 0 (xA G sz)
theorem call_X2_at_V {p : Program} {l : Launch} {e : Env} {R : Room} {s : State} {m : MethodId} {args : Array Value} {below : List Frame} {meth : Method} {c : Code} {H : Heap} {locs : List Loc} {cells slots : Nat} {Z : State → Prop} {A : Nat → Prop} {cc : ByteArray} {nL pc : Nat} {ls : Array Slot} {rest : List Value} {own : String} {index fr lo : Nat} {w : XV → (Int32 → Prop) → Nat → Int32 → Int32 → GM → Prop} {V : XV} {G : GM} {o : Option Nat} {ci : Nat} {x0 : Nat} {x1 : Int32} {x2 : Int32} (hM : CT_X2_at l fr lo w) (C : xC p m c s args cc nL own V A) (hW : xW V A G H) (hS : va_S A s.heap H locs) (hlink : Cond.methodLink own index yX2_at ∈ lw_all) (ho : o = some x0) (hcv : gCi G (some x0) = some ci) (hci : ci % 64 = 1) (hRf : fr + 1 ≤ R.frames) (hRl : 8 + (3 + 11) + lo ≤ R.locals) (hcs : cells ≤ R.cells ∧ slots ≤ R.slots) (hz : ls.size = nL) (hr8 : (rest.map fun v => v.category).sum ≤ 8) (hdg : decode cc pc = .ok (.invokevirtual index, 3)) {Q1 : Int32 → Prop} (h : w V Q1 x0 x1 x2 G) (kk : ∀ (r : Int32) (H1 : Heap) (locs1 : List Loc), Q1 r → xW V A G H1 → va_S A s.heap H1 locs1 → xFr V G G H H1 → W p l e R s m args below meth c H1 locs1 cells slots Z (F0 m (pc + 3) ls (.int r :: rest))) : W p l e R s m args below meth c H locs cells slots Z (F0 m pc ls (.int x2 :: .int x1 :: va_rf o :: rest)) := by
  subst ho
  obtain ⟨fs, hG⟩ := gCi_of hcv
  exact rg_i3r (va_runV (As := [.int x1, .int x2]) (rest := rest) C.1 (hM V H.size G Q1 x0 x1 x2) (cwV 2 C.1.2.2.2.2 (lw_V hlink q1585 q1586 q67 q1587) rfl rfl rfl (by decide +kernel) ⟨hRf, hRl⟩) ⟨fun a U g mk q => by obtain ⟨q0, q1, qW, qK, qZ, qw⟩ := q; exact ⟨q0, q1, qW, xK.same (u := U) (U := U.calling g mk a) rfl qK, xZ.moved (u := U) (U := U.calling g mk a) (Vm.Alike.refl U.vm) qZ, qw⟩, (hW.recv C.2.1 hG (r := (RX2, TX2, 5)) (by rw [hci]; rfl)), fun U hU hWm => ⟨rfl, by rw [hU], by rw [hU]; exact hW.self _, C.2.1.warm hWm, xZ.call C.2.2.1 hW hS C.2.2.2 hU hWm.alike, h⟩⟩ rfl rfl hz rfl (lv_room hr8) hdg hcs) hW hS C.2.2.2 (fun r H1 locs1 hp hW1 hS1 hF1 => kk r H1 locs1 hp hW1 hS1 hF1)
def w_X2_at (V : XV) (Q : Int32 → Prop) (x0 : Nat) (x1 : Int32) (x2 : Int32) (G : GM) : Prop := gGR G 6 (some x0) (fun v1 => gIL G 2 v1 (((16 : Int32) * x2) + x1) (fun v2 => Q v2))
set_option maxRecDepth 100000 in
set_option maxHeartbeats 4000000 in
theorem wk_X2_at {p : Program} {l : Launch} {e : Env} {R : Room} {s : State} {m : MethodId} {args : Array Value} {below : List Frame} {meth : Method} {c : Code} {cells slots : Nat} {Z : State → Prop} {A : Nat → Prop} {V : XV} (Q : Int32 → Prop) (C : xC p m c s args cX2_at 3 RX2 V A) (hRf : 1 ≤ R.frames) (hRl : 20 ≤ R.locals) (hcs : cells ≤ R.cells ∧ slots ≤ R.slots) (G : GM) (hret : ∀ (v : Int32) (pc : Nat) (ls : Array Slot) (H : Heap) (locs : List Loc), decode cX2_at pc = .ok (.ireturn, 1) → xW V A G H → va_S A s.heap H locs → Q v → W p l e R s m args below meth c H locs cells slots Z (F0 m pc ls [.int v])) (x0 : Nat) (x1 : Int32) (x2 : Int32) : w_X2_at V Q x0 x1 x2 G → ∀ (ls : Array Slot) (H : Heap) (locs : List Loc), lv_has ls 3 [(0, va_rf (some x0)), (1, .int x1), (2, .int x2)] → xW V A G H → va_S A s.heap H locs → W p l e R s m args below meth c H locs cells slots Z (F0 m 0 ls []) := by
  have hx := C.1.1; have hb := C.1.2.1; have hml := C.1.2.2.1; have hown := C.1.2.2.2.1; have hts := C.1.2.2.2.2
  intro h
  intro ls H locs hl hW hS
  refine sh_aload_n hx hb dX2_at_0 rfl (lv_at hl 0 rfl) ?_
  obtain ⟨v1, h1, h⟩ := h
  refine sh_get C hW xFb_6 q179 (fun _ h => h) h1 dX2_at_1 ?_
  refine lv_bipush (v := 16) hx hb dX2_at_4 (by decide) ?_
  refine lv_iload_n hx hb dX2_at_6 rfl (lv_at hl 2 rfl) ?_
  refine lv_imul hx hb dX2_at_7 ?_
  refine lv_iload_n hx hb dX2_at_8 rfl (lv_at hl 1 rfl) ?_
  refine lv_iadd hx hb dX2_at_9 ?_
  refine sh_bald C hW h dX2_at_10 (fun v2 h => ?_)
  exact hret _ _ _ _ _ dX2_at_11 hW hS h
theorem ct_X2_at (l : Launch) : CT_X2_at l 1 20 w_X2_at := by
  intro V sz G Q x0 x1 x2
  refine Met.ofW (cc := cX2_at) (maxL := 3) (ret := (some .int)) (by decide) rfl ?_
  intro p e s m args below meth c s₁ B hml hv
  obtain ⟨rfl, hsz, hW, hK, hZ, h⟩ := hv
  subst hsz
  have hts := atoms_spec (ws := (ws_ yX2_at cX2_at 3 (some .int))) B.pre
  have hts : ∀ w ∈ lw_all, w.before _ s = true := fun w h => hts w (List.mem_cons_of_mem _ h)
  have hl := lv_entry ([.ref x0, .int x1, .int x2]) (n := 3) (Nat.le_of_ble_eq_true rfl)
  rw [lg_entry_eq]
  generalize (lg_sl ([.ref x0, .int x1, .int x2]) ++ List.replicate (3 - (lg_sl ([.ref x0, .int x1, .int x2])).length) Slot.unset).toArray = ls at hl ⊢
  exact wk_X2_at Q ⟨⟨B.exec, B.bytes, hml, findClass_of_methodNamed B.named, hts⟩, hK, hZ, fun q h => Or.inr h⟩ (Nat.le_refl _) (Nat.le_refl _) ⟨Nat.le_refl _, Nat.le_refl _⟩ G (fun v pc ls H locs hd hW1 hS hQ => W.iret (v := v) B.exec B.bytes B.returns (fun t ht _ => ⟨⟨v, G, rfl, ⟨rfl, hQ⟩, by rw [← ht] at hW1; exact hW1⟩, hS.F ht⟩) hS.2.2 hd) x0 x1 x2 h ls _ [] hl hW va_S.rf
def CT_X1_cell (l : Launch) (fr lo : Nat) (w : XV → (Int32 → GM → Prop) → (String → GM → Prop) → Nat → Int32 → Int32 → Int32 → Int32 → GM → Nat → Nat → Prop) : Prop := ∀ (V : XV) (sz : Nat) (G : GM) (Q : Int32 → GM → Prop) (X : String → GM → Prop) (x0 : Nat) (x1 : Int32) (x2 : Int32) (x3 : Int32) (x4 : Int32) (kc ks : Nat), vx_Met l yX1_cell (ws_ yX1_cell cX1_cell 6 (some .int)) { frames := fr, cells := kc, slots := ks, locals := lo } (va_Pc [.ref x0, .int x1, .int x2, .int x3, .int x4] (fun U => U.heap.size = sz ∧ xW V (xA G sz) G U.heap ∧ xK V U ∧ xZ V (xA G sz) U U.heap ∧ w V Q X x0 x1 x2 x3 x4 G kc ks)) (va_Qi (fun r (u : GM) => Q r u) (fun u t => xW V (xA G sz) u t.heap) (xA G sz)) (vx_X (fun u : String × GM => X u.1 u.2) (fun E u t => E = u.1 ∧ xW V (xA G sz) u.2 t.heap) (xA G sz)) kc ks (xA G sz)
theorem call_X1_cell_V {p : Program} {l : Launch} {e : Env} {R : Room} {s : State} {m : MethodId} {args : Array Value} {below : List Frame} {meth : Method} {c : Code} {H : Heap} {locs : List Loc} {cells slots : Nat} {Z : State → Prop} {A : Nat → Prop} {cc : ByteArray} {nL pc : Nat} {ls : Array Slot} {rest : List Value} {own : String} {index fr lo : Nat} {w : XV → (Int32 → GM → Prop) → (String → GM → Prop) → Nat → Int32 → Int32 → Int32 → Int32 → GM → Nat → Nat → Prop} {V : XV} {G : GM} {o : Option Nat} {ci : Nat} {kc ks c1 s1 : Nat} {x0 : Nat} {x1 : Int32} {x2 : Int32} {x3 : Int32} {x4 : Int32} (hM : CT_X1_cell l fr lo w) (C : xC p m c s args cc nL own V A) (hW : xW V A G H) (hS : va_S A s.heap H locs) (hlink : Cond.methodLink own index yX1_cell ∈ lw_all) (ho : o = some x0) (hcv : gCi G (some x0) = some ci) (hci : ci % 64 = 0) (hRf : fr + 1 ≤ R.frames) (hRl : 8 + (6 + 11) + lo ≤ R.locals) (hc1 : c1 ≤ kc) (hs1 : s1 ≤ ks) (hkc : cells + kc ≤ R.cells) (hks : slots + ks ≤ R.slots) (hz : ls.size = nL) (hr8 : (rest.map fun v => v.category).sum ≤ 8) (hdg : decode cc pc = .ok (.invokevirtual index, 3)) {Q1 : Int32 → GM → Prop} {X1 : String → GM → Prop} (h : w V Q1 X1 x0 x1 x2 x3 x4 G c1 s1) (kx : ∀ (E : String) (G1 : GM) (ce : Cell) (q9 : Addr) (H1 : Heap) (locs1 : List Loc), X1 E G1 → xW V A G1 H1 → va_S A s.heap H1 locs1 → H1[q9]? = some ce → ce.vm = .none → s.vm.findClass E = some ce.cls → xFr V G G1 H H1 → vx_W p l e R s m args below meth c H1 locs1 (cells + c1) (slots + s1) Z (F0 m pc ls rest) q9) (kk : ∀ (r : Int32) (G1 : GM) (H1 : Heap) (locs1 : List Loc), Q1 r G1 → xW V A G1 H1 → va_S A s.heap H1 locs1 → xFr V G G1 H H1 → (cells + c1) + (kc - c1) ≤ R.cells → (slots + s1) + (ks - s1) ≤ R.slots → W p l e R s m args below meth c H1 locs1 (cells + c1) (slots + s1) Z (F0 m (pc + 3) ls (.int r :: rest))) : W p l e R s m args below meth c H locs cells slots Z (F0 m pc ls (.int x4 :: .int x3 :: .int x2 :: .int x1 :: va_rf o :: rest)) := by
  subst ho
  obtain ⟨fs, hG⟩ := gCi_of hcv
  exact rx_i3w (vx_runV (As := [.int x1, .int x2, .int x3, .int x4]) (rest := rest) C.1 (hM V H.size G Q1 X1 x0 x1 x2 x3 x4 c1 s1) (cwV 4 C.1.2.2.2.2 (lw_V hlink q1426 q1427 q59 q1428) rfl rfl rfl (by decide +kernel) ⟨hRf, hRl⟩) ⟨fun a U g mk q => by obtain ⟨q0, q1, qW, qK, qZ, qw⟩ := q; exact ⟨q0, q1, qW, xK.same (u := U) (U := U.calling g mk a) rfl qK, xZ.moved (u := U) (U := U.calling g mk a) (Vm.Alike.refl U.vm) qZ, qw⟩, (hW.recv C.2.1 hG (r := (RX1, TX1, 6)) (by rw [hci]; rfl)), fun U hU hWm => ⟨rfl, by rw [hU], by rw [hU]; exact hW.self _, C.2.1.warm hWm, xZ.call C.2.2.1 hW hS C.2.2.2 hU hWm.alike, h⟩⟩ rfl rfl hz rfl (lv_room hr8) hdg ⟨by omega, by omega⟩) hW hS C.2.2.2 kx (fun r G1 H1 locs1 hp hW1 hS1 hF1 => kk r G1 H1 locs1 hp hW1 hS1 hF1 (by omega) (by omega))
def w_X1_cell_37 (V : XV) (Q : Int32 → GM → Prop) (X : String → GM → Prop) (x0 : Nat) (x2 : Int32) (x3 : Int32) (x4 : Int32) (x5 : Option Nat) (y0 : Int32) (G : GM) (kc : Nat) (ks : Nat) : Prop := ∃ c1 s2 : Nat, c1 ≤ kc ∧ s2 ≤ ks ∧ (w_X1_checkArgument V (gRcv G (some x0) (fun a3 c4 => (c4 % 64 = 0) ∧ (∃ c7 s8 : Nat, c7 ≤ (kc - c1) ∧ s8 ≤ (ks - s2) ∧ (w_X1_frame V (fun r5 G6 => gRcv G6 r5 (fun a9 c10 => (c10 % 64 = 1) ∧ (w_X2_at V (fun r11 => Q r11 G6) a9 x3 x4 G6))) a3 x5 x2 G c7 s8)))) X y0 G c1 s2)
def w_X1_cell_36 (V : XV) (Q : Int32 → GM → Prop) (X : String → GM → Prop) (x0 : Nat) (x2 : Int32) (x3 : Int32) (x4 : Int32) (x5 : Option Nat) (G : GM) (kc : Nat) (ks : Nat) : Prop := w_X1_cell_37 V Q X x0 x2 x3 x4 x5 (0 : Int32) G kc ks
def w_X1_cell (V : XV) (Q : Int32 → GM → Prop) (X : String → GM → Prop) (x0 : Nat) (x1 : Int32) (x2 : Int32) (x3 : Int32) (x4 : Int32) (G : GM) (kc : Nat) (ks : Nat) : Prop := gRcv G (some x0) (fun a12 c13 => (c13 % 64 = 0) ∧ (∃ c15 s16 : Nat, c15 ≤ kc ∧ s16 ≤ ks ∧ (w_X1_composition V (fun r14 => ∃ c17 s18 : Nat, c17 ≤ (kc - c15) ∧ s18 ≤ (ks - s16) ∧ (w_X1_checkTime V (w_X1_isBetween V (fun r19 => if r19 = 0 then (w_X1_cell_36 V Q X x0 x2 x3 x4 r14 G ((kc - c15) - c17) ((ks - s16) - s18)) else (w_X1_isBetween V (fun r20 => if r20 = 0 then (w_X1_cell_36 V Q X x0 x2 x3 x4 r14 G ((kc - c15) - c17) ((ks - s16) - s18)) else (w_X1_cell_37 V Q X x0 x2 x3 x4 r14 (1 : Int32) G ((kc - c15) - c17) ((ks - s16) - s18))) x4 (0 : Int32) (11 : Int32) G)) x3 (0 : Int32) (15 : Int32) G) X x2 G c17 s18)) X a12 x1 G c15 s16)))
set_option maxRecDepth 100000 in
set_option maxHeartbeats 4000000 in
theorem wk_X1_cell {p : Program} {l : Launch} {e : Env} {R : Room} {s : State} {m : MethodId} {args : Array Value} {below : List Frame} {meth : Method} {c : Code} {Z : State → Prop} {A : Nat → Prop} {V : XV} (Q : Int32 → GM → Prop) (X : String → GM → Prop) (C : xC p m c s args cX1_cell 6 RX1 V A) (hfl : l.stackTraces = false) (hRf : 30 ≤ R.frames) (hRl : 744 ≤ R.locals) (G : GM) (hret : ∀ (v : Int32) (G : GM) (pc : Nat) (ls : Array Slot) (H : Heap) (locs : List Loc) (cells slots : Nat) {k1 k2 : Nat}, decode cX1_cell pc = .ok (.ireturn, 1) → xW V A G H → va_S A s.heap H locs → cells + k1 ≤ R.cells → slots + k2 ≤ R.slots → Q v G → W p l e R s m args below meth c H locs cells slots Z (F0 m pc ls [.int v])) (hxo : ∀ (E : String) (G : GM) (ce : Cell) (q : Addr) (pc : Nat) (ls : Array Slot) (H : Heap) (locs : List Loc) (cells slots : Nat) (rest : List Value), xW V A G H → va_S A s.heap H locs → X E G → H[q]? = some ce → ce.vm = .none → s.vm.findClass E = some ce.cls → cells ≤ R.cells → slots ≤ R.slots → vx_W p l e R s m args below meth c H locs cells slots Z (F0 m pc ls rest) q) (x0 : Nat) (x1 : Int32) (x2 : Int32) (x3 : Int32) (x4 : Int32) (kc ks : Nat) : w_X1_cell V Q X x0 x1 x2 x3 x4 G kc ks → ∀ (ls : Array Slot) (H : Heap) (locs : List Loc) (cells slots : Nat), lv_has ls 6 [(0, va_rf (some x0)), (1, .int x1), (2, .int x2), (3, .int x3), (4, .int x4)] → xW V A G H → va_S A s.heap H locs → cells + kc ≤ R.cells → slots + ks ≤ R.slots → W p l e R s m args below meth c H locs cells slots Z (F0 m 0 ls []) := by
  have hx := C.1.1; have hb := C.1.2.1; have hml := C.1.2.2.1; have hown := C.1.2.2.2.1; have hts := C.1.2.2.2.2
  have hb37 : ∀ (x5 : Option Nat) (y0 : Int32) (G : GM) (kc : Nat) (ks : Nat), w_X1_cell_37 V Q X x0 x2 x3 x4 x5 y0 G kc ks → ∀ (ls : Array Slot) (H : Heap) (locs : List Loc) (cells slots : Nat), lv_has ls 6 [(0, va_rf (some x0)), (2, .int x2), (3, .int x3), (4, .int x4), (5, va_rf x5)] → xW V A G H → va_S A s.heap H locs → cells + kc ≤ R.cells → slots + ks ≤ R.slots → W p l e R s m args below meth c H locs cells slots Z (F0 m 37 ls [.int y0]) := by
    intro x5 y0 G kc ks h
    intro ls H locs cells slots hl hW hS hkc hks
    obtain ⟨c1, s2, hc37, hs37, h⟩ := h
    refine call_X1_checkArgument_S (ct_X1_checkArgument l hfl) C hW hS q787 (le_lit hRf rfl) (le_lit hRl rfl) hc37 hs37 hkc hks hl.1 (Nat.le_of_ble_eq_true rfl) dX1_cell_37 h (fun E G9 ce q9 H locs hX hW hS h1 h2 h3 _ => hxo E G9 ce q9 37 ls H locs _ _ _ hW hS hX h1 h2 h3 (by omega) (by omega)) (fun  H locs h hW hS _ hkc hks => ?_)
    refine sh_aload_n hx hb dX1_cell_40 rfl (lv_at hl 0 rfl) ?_
    refine sh_aload hx hb dX1_cell_41 (lv_at hl 4 rfl) ?_
    refine lv_iload_n hx hb dX1_cell_43 rfl (lv_at hl 1 rfl) ?_
    obtain ⟨a3, c4, ho44, hcv44, h⟩ := h
    have hcc := h.1
    have h := h.2
    obtain ⟨c7, s8, hc44, hs44, h⟩ := h
    refine call_X1_frame_V (ct_X1_frame l) C hW hS q1429 ho44 hcv44 hcc (le_lit hRf rfl) (le_lit hRl rfl) hc44 hs44 hkc hks hl.1 (Nat.le_of_ble_eq_true rfl) dX1_cell_44 h (fun r5 G6 H locs h hW hS _ hkc hks => ?_)
    refine lv_iload_n hx hb dX1_cell_47 rfl (lv_at hl 2 rfl) ?_
    refine lv_iload hx hb dX1_cell_48 (lv_at hl 3 rfl) ?_
    obtain ⟨a9, c10, ho50, hcv50, h⟩ := h
    have hcc := h.1
    have h := h.2
    refine call_X2_at_V (ct_X2_at l) C hW hS q1584 ho50 hcv50 hcc (le_lit hRf rfl) (le_lit hRl rfl) ⟨Nat.le_trans (Nat.le_add_right _ _) hkc, Nat.le_trans (Nat.le_add_right _ _) hks⟩ hl.1 (Nat.le_of_ble_eq_true rfl) dX1_cell_50 h (fun r11 H locs h hW hS _ => ?_)
    exact hret _ _ _ _ _ _ _ _ dX1_cell_53 hW hS hkc hks h
  have hb36 : ∀ (x5 : Option Nat) (G : GM) (kc : Nat) (ks : Nat), w_X1_cell_36 V Q X x0 x2 x3 x4 x5 G kc ks → ∀ (ls : Array Slot) (H : Heap) (locs : List Loc) (cells slots : Nat), lv_has ls 6 [(0, va_rf (some x0)), (2, .int x2), (3, .int x3), (4, .int x4), (5, va_rf x5)] → xW V A G H → va_S A s.heap H locs → cells + kc ≤ R.cells → slots + ks ≤ R.slots → W p l e R s m args below meth c H locs cells slots Z (F0 m 36 ls []) := by
    intro x5 G kc ks h
    intro ls H locs cells slots hl hW hS hkc hks
    refine lv_iconst (v := 0) hx hb dX1_cell_36 (by decide) ?_
    exact hb37 _ _ _ _ _ h ls H locs _ _ (lv_sub hl [0, 1, 2, 3, 4] rfl) hW hS hkc hks
  intro h
  intro ls H locs cells slots hl hW hS hkc hks
  refine sh_aload_n hx hb dX1_cell_0 rfl (lv_at hl 0 rfl) ?_
  refine lv_iload_n hx hb dX1_cell_1 rfl (lv_at hl 1 rfl) ?_
  obtain ⟨a12, c13, ho2, hcv2, h⟩ := h
  have hcc := h.1
  have h := h.2
  obtain ⟨c15, s16, hc2, hs2, h⟩ := h
  refine call_X1_composition_V (ct_X1_composition l hfl) C hW hS q748 ho2 hcv2 hcc (le_lit hRf rfl) (le_lit hRl rfl) hc2 hs2 hkc hks hl.1 (Nat.le_of_ble_eq_true rfl) dX1_cell_2 h (fun E G9 ce q9 H locs hX hW hS h1 h2 h3 _ => hxo E G9 ce q9 2 ls H locs _ _ _ hW hS hX h1 h2 h3 (by omega) (by omega)) (fun r14 H locs h hW hS _ hkc hks => ?_)
  refine sh_astore (lv' := [(5, va_rf r14), (0, va_rf (some x0)), (1, .int x1), (2, .int x2), (3, .int x3), (4, .int x4)]) hx hb dX1_cell_5 hl (by decide) rfl (fun ls hl => ?_)
  refine lv_iload_n hx hb dX1_cell_7 rfl (lv_at hl 3 rfl) ?_
  obtain ⟨c17, s18, hc8, hs8, h⟩ := h
  refine call_X1_checkTime_S (ct_X1_checkTime l hfl) C hW hS q1228 (le_lit hRf rfl) (le_lit hRl rfl) hc8 hs8 hkc hks hl.1 (Nat.le_of_ble_eq_true rfl) dX1_cell_8 h (fun E G9 ce q9 H locs hX hW hS h1 h2 h3 _ => hxo E G9 ce q9 8 ls H locs _ _ _ hW hS hX h1 h2 h3 (by omega) (by omega)) (fun  H locs h hW hS _ hkc hks => ?_)
  refine lv_iload_n hx hb dX1_cell_11 rfl (lv_at hl 4 rfl) ?_
  refine lv_iconst (v := 0) hx hb dX1_cell_12 (by decide) ?_
  refine lv_bipush (v := 15) hx hb dX1_cell_13 (by decide) ?_
  refine call_X1_isBetween_S (ct_X1_isBetween l) C hW hS q593 (le_lit hRf rfl) (le_lit hRl rfl) ⟨Nat.le_trans (Nat.le_add_right _ _) hkc, Nat.le_trans (Nat.le_add_right _ _) hks⟩ hl.1 (Nat.le_of_ble_eq_true rfl) dX1_cell_15 h (fun r19 H locs h hW hS _ => ?_)
  refine lv_if_eq (tgt := 36) hx hb dX1_cell_18 (by decide) (fun c22 => ?_) (fun c22 => ?_)
  · have h := wif_t h c22
    exact hb36 _ _ _ _ h ls H locs _ _ (lv_sub hl [1, 3, 4, 5, 0] rfl) hW hS hkc hks
  · have h := wif_f h c22
    refine lv_iload hx hb dX1_cell_21 (lv_at hl 5 rfl) ?_
    refine lv_iconst (v := 0) hx hb dX1_cell_23 (by decide) ?_
    refine lv_bipush (v := 11) hx hb dX1_cell_24 (by decide) ?_
    refine call_X1_isBetween_S (ct_X1_isBetween l) C hW hS q593 (le_lit hRf rfl) (le_lit hRl rfl) ⟨Nat.le_trans (Nat.le_add_right _ _) hkc, Nat.le_trans (Nat.le_add_right _ _) hks⟩ hl.1 (Nat.le_of_ble_eq_true rfl) dX1_cell_26 h (fun r20 H locs h hW hS _ => ?_)
    refine lv_if_eq (tgt := 36) hx hb dX1_cell_29 (by decide) (fun c21 => ?_) (fun c21 => ?_)
    · have h := wif_t h c21
      exact hb36 _ _ _ _ h ls H locs _ _ (lv_sub hl [1, 3, 4, 5, 0] rfl) hW hS hkc hks
    · have h := wif_f h c21
      refine lv_iconst (v := 1) hx hb dX1_cell_32 (by decide) ?_
      refine lv_goto (tgt := 37) hx hb dX1_cell_33 (by decide) ?_
      exact hb37 _ _ _ _ _ h ls H locs _ _ (lv_sub hl [1, 3, 4, 5, 0] rfl) hW hS hkc hks
theorem ct_X1_cell (l : Launch) (hfl : l.stackTraces = false) : CT_X1_cell l 30 744 w_X1_cell := by
  intro V sz G Q X x0 x1 x2 x3 x4 kc ks
  refine vx_ofW (cc := cX1_cell) (maxL := 6) (ret := (some .int)) (by decide) rfl ?_
  intro p e s m args below meth c s₁ B hml hext hv
  obtain ⟨rfl, hsz, hW, hK, hZ, h⟩ := hv
  subst hsz
  have hts := atoms_spec (ws := (ws_ yX1_cell cX1_cell 6 (some .int))) B.pre
  have hts : ∀ w ∈ lw_all, w.before _ s = true := fun w h => hts w (List.mem_cons_of_mem _ h)
  have hl := lv_entry ([.ref x0, .int x1, .int x2, .int x3, .int x4]) (n := 6) (Nat.le_of_ble_eq_true rfl)
  rw [lg_entry_eq]
  generalize (lg_sl ([.ref x0, .int x1, .int x2, .int x3, .int x4]) ++ List.replicate (6 - (lg_sl ([.ref x0, .int x1, .int x2, .int x3, .int x4])).length) Slot.unset).toArray = ls at hl ⊢
  exact wk_X1_cell Q X ⟨⟨B.exec, B.bytes, hml, findClass_of_methodNamed B.named, hts⟩, hK, hZ, fun q h => Or.inr h⟩ hfl (Nat.le_refl _) (Nat.le_refl _) G (fun v G pc ls H locs cells slots _ _ hd hW1 hS hkc hks hQ => W.widen (k := kc) (n := ks) (Nat.le_trans (Nat.le_add_right _ _) hkc) (Nat.le_trans (Nat.le_add_right _ _) hks) (vx_ret (W.iret (v := v) B.exec B.bytes B.returns (fun t ht _ => ⟨⟨v, G, rfl, hQ, by rw [← ht] at hW1; exact hW1⟩, hS.F ht⟩) hS.2.2 hd))) (fun E G9 ce q pc ls H locs cells slots rest hW1 hS hX h1 h2 h3 hc hs => vx_out (fun x hx => absurd (hext x hx) id) B.notSynchronized h1 h2 h3 (fun t ht _ => ⟨(E, G9), hX, ⟨rfl, by rw [← ht] at hW1; exact hW1⟩, hS.F ht⟩) hS.2.2 hc hs) x0 x1 x2 x3 x4 kc ks h ls _ [] 0 0 hl hW va_S.rf (by show 0 + kc ≤ kc; omega) (by show 0 + ks ≤ ks; omega)
def CT_X0_cell (l : Launch) (fr lo : Nat) (w : XV → (Int32 → GM → Prop) → (Option Nat) → Int32 → Int32 → Int32 → Int32 → (Option Nat) → GM → Nat → Nat → Prop) : Prop := ∀ (V : XV) (sz : Nat) (G : GM) (Q : Int32 → GM → Prop) (x0 : Option Nat) (x1 : Int32) (x2 : Int32) (x3 : Int32) (x4 : Int32) (x5 : Option Nat) (kc ks : Nat), Met l yX0_cell (wsW_ yX0_cell cX0_cell 7 (some .int) [(0, 14, 17, 19), (0, 14, 21, 21)]) { frames := fr, cells := kc, slots := ks, locals := lo } (va_Pc [va_rf x0, .int x1, .int x2, .int x3, .int x4, va_rf x5] (fun U => U.heap.size = sz ∧ xW V (xA G sz) G U.heap ∧ xK V U ∧ xZ V (xA G sz) U U.heap ∧ w V Q x0 x1 x2 x3 x4 x5 G kc ks)) (va_Qi (fun r (u : GM) => Q r u) (fun u t => xW V (xA G sz) u t.heap) (xA G sz)) kc ks (xA G sz)
def w_X0_cell (V : XV) (Q : Int32 → GM → Prop) (x0 : Option Nat) (x1 : Int32) (x2 : Int32) (x3 : Int32) (x4 : Int32) (x5 : Option Nat) (G : GM) (kc : Nat) (ks : Nat) : Prop := gRcv G x0 (fun a1 c2 => (c2 % 64 = 0) ∧ (∃ c5 s6 : Nat, c5 ≤ kc ∧ s6 ≤ ks ∧ (w_X1_cell V (fun r3 G4 => gJS G4 1 x5 (0 : Int32) (r3.toInt64) (fun G7 => Q (0 : Int32) G7)) (fun E G9 => if E = "java/lang/IndexOutOfBoundsException" then Q (1 : Int32) G9 else (if E = "java/lang/IllegalArgumentException" then Q (2 : Int32) G9 else (False))) a1 x1 x2 x3 x4 G c5 s6)))
set_option maxRecDepth 100000 in
set_option maxHeartbeats 4000000 in
theorem wk_X0_cell {p : Program} {l : Launch} {e : Env} {R : Room} {s : State} {m : MethodId} {args : Array Value} {below : List Frame} {meth : Method} {c : Code} {Z : State → Prop} {A : Nat → Prop} {V : XV} (Q : Int32 → GM → Prop) (C : xC p m c s args cX0_cell 7 RX0 V A) (hfl : l.stackTraces = false) (htab : c.exceptionTable.toList = tableOf [(0, 14, 17, 19), (0, 14, 21, 21)]) (hRf : 31 ≤ R.frames) (hRl : 769 ≤ R.locals) (G : GM) (hret : ∀ (v : Int32) (G : GM) (pc : Nat) (ls : Array Slot) (H : Heap) (locs : List Loc) (cells slots : Nat) {k1 k2 : Nat}, decode cX0_cell pc = .ok (.ireturn, 1) → xW V A G H → va_S A s.heap H locs → cells + k1 ≤ R.cells → slots + k2 ≤ R.slots → Q v G → W p l e R s m args below meth c H locs cells slots Z (F0 m pc ls [.int v])) (x0 : Option Nat) (x1 : Int32) (x2 : Int32) (x3 : Int32) (x4 : Int32) (x5 : Option Nat) (kc ks : Nat) : w_X0_cell V Q x0 x1 x2 x3 x4 x5 G kc ks → ∀ (ls : Array Slot) (H : Heap) (locs : List Loc) (cells slots : Nat), lv_has ls 7 [(0, va_rf x0), (1, .int x1), (2, .int x2), (3, .int x3), (4, .int x4), (5, va_rf x5)] → xW V A G H → va_S A s.heap H locs → cells + kc ≤ R.cells → slots + ks ≤ R.slots → W p l e R s m args below meth c H locs cells slots Z (F0 m 0 ls []) := by
  have hx := C.1.1; have hb := C.1.2.1; have hml := C.1.2.2.1; have hown := C.1.2.2.2.1; have hts := C.1.2.2.2.2
  intro h
  intro ls H locs cells slots hl hW hS hkc hks
  refine sh_aload hx hb dX0_cell_0 (lv_at hl 5 rfl) ?_
  refine lv_iconst (v := 0) hx hb dX0_cell_2 (by decide) ?_
  refine sh_aload_n hx hb dX0_cell_3 rfl (lv_at hl 0 rfl) ?_
  refine lv_iload_n hx hb dX0_cell_4 rfl (lv_at hl 1 rfl) ?_
  refine lv_iload_n hx hb dX0_cell_5 rfl (lv_at hl 2 rfl) ?_
  refine lv_iload_n hx hb dX0_cell_6 rfl (lv_at hl 3 rfl) ?_
  refine lv_iload hx hb dX0_cell_7 (lv_at hl 4 rfl) ?_
  obtain ⟨a1, c2, ho9, hcv9, h⟩ := h
  have hcc := h.1
  have h := h.2
  obtain ⟨c5, s6, hc9, hs9, h⟩ := h
  refine call_X1_cell_V (ct_X1_cell l hfl) C hW hS q1425 ho9 hcv9 hcc (le_lit hRf rfl) (le_lit hRl rfl) hc9 hs9 hkc hks hl.1 (by simp only [List.map_cons, List.map_nil, va_rf_cat]; exact Nat.le_of_ble_eq_true rfl) dX0_cell_9 h (fun E G9 ce q9 H locs hX hW hS h1 h2 h3 _ => by
      by_cases c900 : E = "java/lang/IndexOutOfBoundsException"
      · have hX := wif_t hX c900
        subst c900
        refine vx_catch hown [] ⟨0, 14, 17, 19⟩ [⟨0, 14, 21, 21⟩] (htab.trans rfl) (fun z hz => absurd hz List.not_mem_nil) rfl (by decide) (hts _ q740) (va_Nw.use rfl (C.2.1.2.2.1 _ q757 rfl)) h1 h2 h3 ?_
        refine sh_astore (lv' := [(6, va_rf (some q9)), (0, va_rf x0), (1, .int x1), (2, .int x2), (3, .int x3), (4, .int x4), (5, va_rf x5)]) hx hb dX0_cell_17 hl (by decide) (by simp only [List.filter_cons, List.filter_nil, va_rf_cat]; rfl) (fun ls hl => ?_)
        refine lv_iconst (v := 1) hx hb dX0_cell_19 (by decide) ?_
        exact hret _ _ _ _ _ _ _ _ (k1 := 0) (k2 := 0) dX0_cell_20 hW hS (by omega) (by omega) hX
      have hX := wif_f hX c900
      by_cases c901 : E = "java/lang/IllegalArgumentException"
      · have hX := wif_t hX c901
        subst c901
        refine vx_catch hown [⟨0, 14, 17, 19⟩] ⟨0, 14, 21, 21⟩ [] (htab.trans rfl) (by intro z hz; simp only [List.mem_cons, List.not_mem_nil, or_false] at hz; rcases hz with rfl <;> first | (exact Or.inr ⟨by decide, "java/lang/IndexOutOfBoundsException", hts _ q740, C.2.1.2.2.2.2.2.2.1 ("java/lang/IllegalArgumentException", "java/lang/IndexOutOfBoundsException") (by decide)⟩)) rfl (by decide) (hts _ q743) (va_Nw.use rfl (C.2.1.2.2.1 _ q441 rfl)) h1 h2 h3 ?_
        refine sh_astore (lv' := [(6, va_rf (some q9)), (0, va_rf x0), (1, .int x1), (2, .int x2), (3, .int x3), (4, .int x4), (5, va_rf x5)]) hx hb dX0_cell_21 hl (by decide) (by simp only [List.filter_cons, List.filter_nil, va_rf_cat]; rfl) (fun ls hl => ?_)
        refine lv_iconst (v := 2) hx hb dX0_cell_23 (by decide) ?_
        exact hret _ _ _ _ _ _ _ _ (k1 := 0) (k2 := 0) dX0_cell_24 hW hS (by omega) (by omega) hX
      have hX := wif_f hX c901
      exact False.elim hX) (fun r3 G4 H locs h hW hS _ hkc hks => ?_)
  refine lv_i2l hx hb dX0_cell_12 rfl ?_
  refine sh_last C hW hS h dX0_cell_13 (fun G7 H locs hW hS h => ?_)
  refine lv_goto (tgt := 25) hx hb dX0_cell_14 (by decide) ?_
  refine lv_iconst (v := 0) hx hb dX0_cell_25 (by decide) ?_
  exact hret _ _ _ _ _ _ _ _ dX0_cell_26 hW hS hkc hks h
theorem ct_X0_cell (l : Launch) (hfl : l.stackTraces = false) : CT_X0_cell l 31 769 w_X0_cell := by
  intro V sz G Q x0 x1 x2 x3 x4 x5 kc ks
  refine gx_ofWH (cc := cX0_cell) (maxL := 7) (ret := (some .int)) (hh := [(0, 14, 17, 19), (0, 14, 21, 21)]) (by decide) rfl ?_
  intro p e s m args below meth c s₁ B hml htab hv
  obtain ⟨rfl, hsz, hW, hK, hZ, h⟩ := hv
  subst hsz
  have hts := atoms_spec (ws := (wsW_ yX0_cell cX0_cell 7 (some .int) [(0, 14, 17, 19), (0, 14, 21, 21)])) B.pre
  have hts : ∀ w ∈ lw_all, w.before _ s = true := fun w h => hts w (List.mem_cons_of_mem _ h)
  have key : ∃ ls : Array Slot, entryFrame m ([va_rf x0, .int x1, .int x2, .int x3, .int x4, va_rf x5] : List Value).toArray 7 = F0 m 0 ls [] ∧ lv_has ls 7 [(0, va_rf x0), (1, .int x1), (2, .int x2), (3, .int x3), (4, .int x4), (5, va_rf x5)] := by
    cases x0 <;> cases x5 <;> (refine ⟨_, by rw [lg_entry_eq], ?_⟩; exact lv_entry _ (Nat.le_of_ble_eq_true rfl))
  obtain ⟨ls, hfr, hl⟩ := key
  rw [hfr]
  exact wk_X0_cell Q ⟨⟨B.exec, B.bytes, hml, findClass_of_methodNamed B.named, hts⟩, hK, hZ, fun q h => Or.inr h⟩ hfl htab (Nat.le_refl _) (Nat.le_refl _) G (fun v G pc ls H locs cells slots _ _ hd hW1 hS hkc hks hQ => W.widen (k := kc) (n := ks) (Nat.le_trans (Nat.le_add_right _ _) hkc) (Nat.le_trans (Nat.le_add_right _ _) hks) (W.iret (v := v) B.exec B.bytes B.returns (fun t ht _ => ⟨⟨v, G, rfl, hQ, by rw [← ht] at hW1; exact hW1⟩, hS.F ht⟩) hS.2.2 hd)) x0 x1 x2 x3 x4 x5 kc ks h ls _ [] 0 0 hl hW va_S.rf (by show 0 + kc ≤ kc; omega) (by show 0 + ks ≤ ks; omega)
def CT_X1_asked (l : Launch) (fr lo : Nat) (w : XV → (Option Nat → GM → Prop) → (String → GM → Prop) → Nat → Int32 → Int32 → GM → Nat → Nat → Prop) : Prop := ∀ (V : XV) (sz : Nat) (G : GM) (Q : Option Nat → GM → Prop) (X : String → GM → Prop) (x0 : Nat) (x1 : Int32) (x2 : Int32) (kc ks : Nat), vx_Met l yX1_asked (ws_ yX1_asked cX1_asked 4 (some (.object "Shapelayer$Raster"))) { frames := fr, cells := kc, slots := ks, locals := lo } (va_Pc [.ref x0, .int x1, .int x2] (fun U => U.heap.size = sz ∧ xW V (xA G sz) G U.heap ∧ xK V U ∧ xZ V (xA G sz) U U.heap ∧ w V Q X x0 x1 x2 G kc ks)) (va_Qq (fun r (u : GM) => Q r u) (fun u t => xW V (xA G sz) u t.heap) (xA G sz)) (vx_X (fun u : String × GM => X u.1 u.2) (fun E u t => E = u.1 ∧ xW V (xA G sz) u.2 t.heap) (xA G sz)) kc ks (xA G sz)
theorem call_X1_asked_V {p : Program} {l : Launch} {e : Env} {R : Room} {s : State} {m : MethodId} {args : Array Value} {below : List Frame} {meth : Method} {c : Code} {H : Heap} {locs : List Loc} {cells slots : Nat} {Z : State → Prop} {A : Nat → Prop} {cc : ByteArray} {nL pc : Nat} {ls : Array Slot} {rest : List Value} {own : String} {index fr lo : Nat} {w : XV → (Option Nat → GM → Prop) → (String → GM → Prop) → Nat → Int32 → Int32 → GM → Nat → Nat → Prop} {V : XV} {G : GM} {o : Option Nat} {ci : Nat} {kc ks c1 s1 : Nat} {x0 : Nat} {x1 : Int32} {x2 : Int32} (hM : CT_X1_asked l fr lo w) (C : xC p m c s args cc nL own V A) (hW : xW V A G H) (hS : va_S A s.heap H locs) (hlink : Cond.methodLink own index yX1_asked ∈ lw_all) (ho : o = some x0) (hcv : gCi G (some x0) = some ci) (hci : ci % 64 = 0) (hRf : fr + 1 ≤ R.frames) (hRl : 8 + (4 + 11) + lo ≤ R.locals) (hc1 : c1 ≤ kc) (hs1 : s1 ≤ ks) (hkc : cells + kc ≤ R.cells) (hks : slots + ks ≤ R.slots) (hz : ls.size = nL) (hr8 : (rest.map fun v => v.category).sum ≤ 8) (hdg : decode cc pc = .ok (.invokevirtual index, 3)) {Q1 : Option Nat → GM → Prop} {X1 : String → GM → Prop} (h : w V Q1 X1 x0 x1 x2 G c1 s1) (kx : ∀ (E : String) (G1 : GM) (ce : Cell) (q9 : Addr) (H1 : Heap) (locs1 : List Loc), X1 E G1 → xW V A G1 H1 → va_S A s.heap H1 locs1 → H1[q9]? = some ce → ce.vm = .none → s.vm.findClass E = some ce.cls → xFr V G G1 H H1 → vx_W p l e R s m args below meth c H1 locs1 (cells + c1) (slots + s1) Z (F0 m pc ls rest) q9) (kk : ∀ (r : Option Nat) (G1 : GM) (H1 : Heap) (locs1 : List Loc), Q1 r G1 → xW V A G1 H1 → va_S A s.heap H1 locs1 → xFr V G G1 H H1 → (cells + c1) + (kc - c1) ≤ R.cells → (slots + s1) + (ks - s1) ≤ R.slots → W p l e R s m args below meth c H1 locs1 (cells + c1) (slots + s1) Z (F0 m (pc + 3) ls (va_rf r :: rest))) : W p l e R s m args below meth c H locs cells slots Z (F0 m pc ls (.int x2 :: .int x1 :: va_rf o :: rest)) := by
  subst ho
  obtain ⟨fs, hG⟩ := gCi_of hcv
  exact rx_q3w (vx_runV (As := [.int x1, .int x2]) (rest := rest) C.1 (hM V H.size G Q1 X1 x0 x1 x2 c1 s1) (cwV 2 C.1.2.2.2.2 (lw_V hlink q1597 qs17 q59 q1598) rfl rfl rfl (by decide +kernel) ⟨hRf, hRl⟩) ⟨fun a U g mk q => by obtain ⟨q0, q1, qW, qK, qZ, qw⟩ := q; exact ⟨q0, q1, qW, xK.same (u := U) (U := U.calling g mk a) rfl qK, xZ.moved (u := U) (U := U.calling g mk a) (Vm.Alike.refl U.vm) qZ, qw⟩, (hW.recv C.2.1 hG (r := (RX1, TX1, 6)) (by rw [hci]; rfl)), fun U hU hWm => ⟨rfl, by rw [hU], by rw [hU]; exact hW.self _, C.2.1.warm hWm, xZ.call C.2.2.1 hW hS C.2.2.2 hU hWm.alike, h⟩⟩ rfl rfl hz rfl (lv_room hr8) hdg ⟨by omega, by omega⟩) hW hS C.2.2.2 kx (fun r G1 H1 locs1 hp hW1 hS1 hF1 => kk r G1 H1 locs1 hp hW1 hS1 hF1 (by omega) (by omega))
def w_X1_asked (V : XV) (Q : Option Nat → GM → Prop) (X : String → GM → Prop) (x0 : Nat) (x1 : Int32) (x2 : Int32) (G : GM) (kc : Nat) (ks : Nat) : Prop := gRcv G (some x0) (fun a1 c2 => (c2 % 64 = 0) ∧ (∃ c4 s5 : Nat, c4 ≤ kc ∧ s5 ≤ ks ∧ (w_X1_composition V (fun r3 => ∃ c6 s7 : Nat, c6 ≤ (kc - c4) ∧ s7 ≤ (ks - s5) ∧ (w_X1_checkTime V (gRcv G (some x0) (fun a8 c9 => (c9 % 64 = 0) ∧ (∃ c12 s13 : Nat, c12 ≤ ((kc - c4) - c6) ∧ s13 ≤ ((ks - s5) - s7) ∧ (w_X1_frame V (fun r10 G11 => Q r10 G11) a8 r3 x2 G c12 s13)))) X x2 G c6 s7)) X a1 x1 G c4 s5)))
set_option maxRecDepth 100000 in
set_option maxHeartbeats 4000000 in
theorem wk_X1_asked {p : Program} {l : Launch} {e : Env} {R : Room} {s : State} {m : MethodId} {args : Array Value} {below : List Frame} {meth : Method} {c : Code} {Z : State → Prop} {A : Nat → Prop} {V : XV} (Q : Option Nat → GM → Prop) (X : String → GM → Prop) (C : xC p m c s args cX1_asked 4 RX1 V A) (hfl : l.stackTraces = false) (hRf : 30 ≤ R.frames) (hRl : 744 ≤ R.locals) (G : GM) (hret : ∀ (v : Option Nat) (G : GM) (pc : Nat) (ls : Array Slot) (H : Heap) (locs : List Loc) (cells slots : Nat) {k1 k2 : Nat}, decode cX1_asked pc = .ok (.areturn, 1) → xW V A G H → va_S A s.heap H locs → cells + k1 ≤ R.cells → slots + k2 ≤ R.slots → Q v G → W p l e R s m args below meth c H locs cells slots Z (F0 m pc ls [va_rf v])) (hxo : ∀ (E : String) (G : GM) (ce : Cell) (q : Addr) (pc : Nat) (ls : Array Slot) (H : Heap) (locs : List Loc) (cells slots : Nat) (rest : List Value), xW V A G H → va_S A s.heap H locs → X E G → H[q]? = some ce → ce.vm = .none → s.vm.findClass E = some ce.cls → cells ≤ R.cells → slots ≤ R.slots → vx_W p l e R s m args below meth c H locs cells slots Z (F0 m pc ls rest) q) (x0 : Nat) (x1 : Int32) (x2 : Int32) (kc ks : Nat) : w_X1_asked V Q X x0 x1 x2 G kc ks → ∀ (ls : Array Slot) (H : Heap) (locs : List Loc) (cells slots : Nat), lv_has ls 4 [(0, va_rf (some x0)), (1, .int x1), (2, .int x2)] → xW V A G H → va_S A s.heap H locs → cells + kc ≤ R.cells → slots + ks ≤ R.slots → W p l e R s m args below meth c H locs cells slots Z (F0 m 0 ls []) := by
  have hx := C.1.1; have hb := C.1.2.1; have hml := C.1.2.2.1; have hown := C.1.2.2.2.1; have hts := C.1.2.2.2.2
  intro h
  intro ls H locs cells slots hl hW hS hkc hks
  refine sh_aload_n hx hb dX1_asked_0 rfl (lv_at hl 0 rfl) ?_
  refine lv_iload_n hx hb dX1_asked_1 rfl (lv_at hl 1 rfl) ?_
  obtain ⟨a1, c2, ho2, hcv2, h⟩ := h
  have hcc := h.1
  have h := h.2
  obtain ⟨c4, s5, hc2, hs2, h⟩ := h
  refine call_X1_composition_V (ct_X1_composition l hfl) C hW hS q748 ho2 hcv2 hcc (le_lit hRf rfl) (le_lit hRl rfl) hc2 hs2 hkc hks hl.1 (Nat.le_of_ble_eq_true rfl) dX1_asked_2 h (fun E G9 ce q9 H locs hX hW hS h1 h2 h3 _ => hxo E G9 ce q9 2 ls H locs _ _ _ hW hS hX h1 h2 h3 (by omega) (by omega)) (fun r3 H locs h hW hS _ hkc hks => ?_)
  refine sh_astore_n (lv' := [(3, va_rf r3), (0, va_rf (some x0)), (1, .int x1), (2, .int x2)]) hx hb dX1_asked_5 rfl hl (by decide) rfl (fun ls hl => ?_)
  refine lv_iload_n hx hb dX1_asked_6 rfl (lv_at hl 3 rfl) ?_
  obtain ⟨c6, s7, hc7, hs7, h⟩ := h
  refine call_X1_checkTime_S (ct_X1_checkTime l hfl) C hW hS q1228 (le_lit hRf rfl) (le_lit hRl rfl) hc7 hs7 hkc hks hl.1 (Nat.le_of_ble_eq_true rfl) dX1_asked_7 h (fun E G9 ce q9 H locs hX hW hS h1 h2 h3 _ => hxo E G9 ce q9 7 ls H locs _ _ _ hW hS hX h1 h2 h3 (by omega) (by omega)) (fun  H locs h hW hS _ hkc hks => ?_)
  refine sh_aload_n hx hb dX1_asked_10 rfl (lv_at hl 1 rfl) ?_
  refine sh_aload_n hx hb dX1_asked_11 rfl (lv_at hl 0 rfl) ?_
  refine lv_iload_n hx hb dX1_asked_12 rfl (lv_at hl 3 rfl) ?_
  obtain ⟨a8, c9, ho13, hcv13, h⟩ := h
  have hcc := h.1
  have h := h.2
  obtain ⟨c12, s13, hc13, hs13, h⟩ := h
  refine call_X1_frame_V (ct_X1_frame l) C hW hS q1429 ho13 hcv13 hcc (le_lit hRf rfl) (le_lit hRl rfl) hc13 hs13 hkc hks hl.1 (Nat.le_of_ble_eq_true rfl) dX1_asked_13 h (fun r10 G11 H locs h hW hS _ hkc hks => ?_)
  exact hret _ _ _ _ _ _ _ _ dX1_asked_16 hW hS hkc hks h
theorem ct_X1_asked (l : Launch) (hfl : l.stackTraces = false) : CT_X1_asked l 30 744 w_X1_asked := by
  intro V sz G Q X x0 x1 x2 kc ks
  refine vx_ofW (cc := cX1_asked) (maxL := 4) (ret := (some (.object "Shapelayer$Raster"))) (by decide) rfl ?_
  intro p e s m args below meth c s₁ B hml hext hv
  obtain ⟨rfl, hsz, hW, hK, hZ, h⟩ := hv
  subst hsz
  have hts := atoms_spec (ws := (ws_ yX1_asked cX1_asked 4 (some (.object "Shapelayer$Raster")))) B.pre
  have hts : ∀ w ∈ lw_all, w.before _ s = true := fun w h => hts w (List.mem_cons_of_mem _ h)
  have hl := lv_entry ([.ref x0, .int x1, .int x2]) (n := 4) (Nat.le_of_ble_eq_true rfl)
  rw [lg_entry_eq]
  generalize (lg_sl ([.ref x0, .int x1, .int x2]) ++ List.replicate (4 - (lg_sl ([.ref x0, .int x1, .int x2])).length) Slot.unset).toArray = ls at hl ⊢
  exact wk_X1_asked Q X ⟨⟨B.exec, B.bytes, hml, findClass_of_methodNamed B.named, hts⟩, hK, hZ, fun q h => Or.inr h⟩ hfl (Nat.le_refl _) (Nat.le_refl _) G (fun v G pc ls H locs cells slots _ _ hd hW1 hS hkc hks hQ => W.widen (k := kc) (n := ks) (Nat.le_trans (Nat.le_add_right _ _) hkc) (Nat.le_trans (Nat.le_add_right _ _) hks) (vx_ret (W.aret (v := va_rf v) B.exec B.bytes B.returns (Or.inl ⟨_, rfl⟩) (va_rf_or v) (fun t ht _ => ⟨⟨v, G, rfl, hQ, by rw [← ht] at hW1; exact hW1⟩, hS.F ht⟩) hS.2.2 hd))) (fun E G9 ce q pc ls H locs cells slots rest hW1 hS hX h1 h2 h3 hc hs => vx_out (fun x hx => absurd (hext x hx) id) B.notSynchronized h1 h2 h3 (fun t ht _ => ⟨(E, G9), hX, ⟨rfl, by rw [← ht] at hW1; exact hW1⟩, hS.F ht⟩) hS.2.2 hc hs) x0 x1 x2 kc ks h ls _ [] 0 0 hl hW va_S.rf (by show 0 + kc ≤ kc; omega) (by show 0 + ks ≤ ks; omega)
def CT_X2_count (l : Launch) (fr lo : Nat) (w : XV → (Int32 → Prop) → Nat → GM → Prop) : Prop := ∀ (V : XV) (sz : Nat) (G : GM) (Q : Int32 → Prop) (x0 : Nat), Met l yX2_count (ws_ yX2_count cX2_count 6 (some .int)) { frames := fr, cells := 0, slots := 0, locals := lo } (va_Pc [.ref x0] (fun U => U.heap.size = sz ∧ xW V (xA G sz) G U.heap ∧ xK V U ∧ xZ V (xA G sz) U U.heap ∧ w V Q x0 G)) (va_Qi (fun r (u : GM) => u = G ∧ Q r) (fun u t => xW V (xA G sz) u t.heap) (xA G sz)) 0 0 (xA G sz)
theorem call_X2_count_V {p : Program} {l : Launch} {e : Env} {R : Room} {s : State} {m : MethodId} {args : Array Value} {below : List Frame} {meth : Method} {c : Code} {H : Heap} {locs : List Loc} {cells slots : Nat} {Z : State → Prop} {A : Nat → Prop} {cc : ByteArray} {nL pc : Nat} {ls : Array Slot} {rest : List Value} {own : String} {index fr lo : Nat} {w : XV → (Int32 → Prop) → Nat → GM → Prop} {V : XV} {G : GM} {o : Option Nat} {ci : Nat} {x0 : Nat} (hM : CT_X2_count l fr lo w) (C : xC p m c s args cc nL own V A) (hW : xW V A G H) (hS : va_S A s.heap H locs) (hlink : Cond.methodLink own index yX2_count ∈ lw_all) (ho : o = some x0) (hcv : gCi G (some x0) = some ci) (hci : ci % 64 = 1) (hRf : fr + 1 ≤ R.frames) (hRl : 8 + (6 + 11) + lo ≤ R.locals) (hcs : cells ≤ R.cells ∧ slots ≤ R.slots) (hz : ls.size = nL) (hr8 : (rest.map fun v => v.category).sum ≤ 8) (hdg : decode cc pc = .ok (.invokevirtual index, 3)) {Q1 : Int32 → Prop} (h : w V Q1 x0 G) (kk : ∀ (r : Int32) (H1 : Heap) (locs1 : List Loc), Q1 r → xW V A G H1 → va_S A s.heap H1 locs1 → xFr V G G H H1 → W p l e R s m args below meth c H1 locs1 cells slots Z (F0 m (pc + 3) ls (.int r :: rest))) : W p l e R s m args below meth c H locs cells slots Z (F0 m pc ls (va_rf o :: rest)) := by
  subst ho
  obtain ⟨fs, hG⟩ := gCi_of hcv
  exact rg_i3r (va_runV (As := []) (rest := rest) C.1 (hM V H.size G Q1 x0) (cwV 0 C.1.2.2.2.2 (lw_V hlink q1600 q1601 q67 q1602) rfl rfl rfl (by decide +kernel) ⟨hRf, hRl⟩) ⟨fun a U g mk q => by obtain ⟨q0, q1, qW, qK, qZ, qw⟩ := q; exact ⟨q0, q1, qW, xK.same (u := U) (U := U.calling g mk a) rfl qK, xZ.moved (u := U) (U := U.calling g mk a) (Vm.Alike.refl U.vm) qZ, qw⟩, (hW.recv C.2.1 hG (r := (RX2, TX2, 5)) (by rw [hci]; rfl)), fun U hU hWm => ⟨rfl, by rw [hU], by rw [hU]; exact hW.self _, C.2.1.warm hWm, xZ.call C.2.2.1 hW hS C.2.2.2 hU hWm.alike, h⟩⟩ rfl rfl hz rfl (lv_room hr8) hdg hcs) hW hS C.2.2.2 (fun r H1 locs1 hp hW1 hS1 hF1 => kk r H1 locs1 hp hW1 hS1 hF1)
def w_X2_count_33 (V : XV) (Q : Int32 → Prop) (rec13 : Int32 → Int32 → Prop) (x1 : Int32) (x2 : Option Nat) (x3 : Int32) (x4 : Int32) (G : GM) : Prop := rec13 x1 (x4 + (1 : Int32))
def w_X2_count_h13 (V : XV) (Q : Int32 → Prop) (x2 : Option Nat) (x3 : Int32) (G : GM) (rec13 : Int32 → Int32 → Prop) (x1 : Int32) (x4 : Int32) : Prop := if x3 ≤ x4 then (Q x1) else (gIL G 2 x2 x4 (fun v1 => if v1 = 0 then (w_X2_count_33 V Q rec13 x1 x2 x3 x4 G) else (w_X2_count_33 V Q rec13 (x1 + (1 : Int32)) x2 x3 x4 G)))
def w_X2_count_L13 (V : XV) (Q : Int32 → Prop) (x2 : Option Nat) (x3 : Int32) (G : GM) (x1 : Int32) (x4 : Int32) : Prop := wLoop (fun (rec : (Int32 × Int32) → Prop) (s : Int32 × Int32) => w_X2_count_h13 V Q x2 x3 G (fun x1 x4 => rec (x1, x4)) s.1 s.2) (x1, x4)
def w_X2_count (V : XV) (Q : Int32 → Prop) (x0 : Nat) (G : GM) : Prop := gGR G 6 (some x0) (fun v4 => gLn G v4 (fun v5 => w_X2_count_L13 V Q v4 v5 G (0 : Int32) (0 : Int32)))
set_option maxRecDepth 100000 in
set_option maxHeartbeats 4000000 in
theorem wk_X2_count {p : Program} {l : Launch} {e : Env} {R : Room} {s : State} {m : MethodId} {args : Array Value} {below : List Frame} {meth : Method} {c : Code} {cells slots : Nat} {Z : State → Prop} {A : Nat → Prop} {V : XV} (Q : Int32 → Prop) (C : xC p m c s args cX2_count 6 RX2 V A) (hRf : 1 ≤ R.frames) (hRl : 20 ≤ R.locals) (hcs : cells ≤ R.cells ∧ slots ≤ R.slots) (G : GM) (hret : ∀ (v : Int32) (pc : Nat) (ls : Array Slot) (H : Heap) (locs : List Loc), decode cX2_count pc = .ok (.ireturn, 1) → xW V A G H → va_S A s.heap H locs → Q v → W p l e R s m args below meth c H locs cells slots Z (F0 m pc ls [.int v])) (x0 : Nat) : w_X2_count V Q x0 G → ∀ (ls : Array Slot) (H : Heap) (locs : List Loc), lv_has ls 6 [(0, va_rf (some x0))] → xW V A G H → va_S A s.heap H locs → W p l e R s m args below meth c H locs cells slots Z (F0 m 0 ls []) := by
  have hx := C.1.1; have hb := C.1.2.1; have hml := C.1.2.2.1; have hown := C.1.2.2.2.1; have hts := C.1.2.2.2.2
  have hL13 : ∀ (x2 : Option Nat) (x3 : Int32) (x1 : Int32) (x4 : Int32), w_X2_count_L13 V Q x2 x3 G x1 x4 → ∀ (ls : Array Slot) (H : Heap) (locs : List Loc), lv_has ls 6 [(1, .int x1), (2, va_rf x2), (3, .int x3), (4, .int x4)] → xW V A G H → va_S A s.heap H locs → W p l e R s m args below meth c H locs cells slots Z (F0 m 13 ls []) := by
    intro x2 x3
    obtain ⟨GG13, hG13⟩ : ∃ GG : Int32 → Int32 → Prop, ∀ (x1 : Int32) (x4 : Int32), GG x1 x4 ↔ (∀ (ls : Array Slot) (H : Heap) (locs : List Loc), lv_has ls 6 [(1, .int x1), (2, va_rf x2), (3, .int x3), (4, .int x4)] → xW V A G H → va_S A s.heap H locs → W p l e R s m args below meth c H locs cells slots Z (F0 m 13 ls [])) := ⟨fun x1 x4 => _, fun x1 x4 => Iff.rfl⟩
    have hB13 : ∀ (rec13 : Int32 → Int32 → Prop), (∀ (x1 : Int32) (x4 : Int32), rec13 x1 x4 → GG13 x1 x4) → ∀ (x1 : Int32) (x4 : Int32), w_X2_count_h13 V Q x2 x3 G rec13 x1 x4 → GG13 x1 x4 := by
      intro rec13 hrec13
      have hb33 : ∀ (x1 : Int32) (x4 : Int32), w_X2_count_33 V Q rec13 x1 x2 x3 x4 G → ∀ (ls : Array Slot) (H : Heap) (locs : List Loc), lv_has ls 6 [(1, .int x1), (2, va_rf x2), (3, .int x3), (4, .int x4)] → xW V A G H → va_S A s.heap H locs → W p l e R s m args below meth c H locs cells slots Z (F0 m 33 ls []) := by
        intro x1 x4 h
        intro ls H locs hl hW hS
        refine lv_iinc (v := x4 + (1 : Int32)) (lv' := [(4, .int (x4 + (1 : Int32))), (1, .int x1), (2, va_rf x2), (3, .int x3)]) hx hb dX2_count_33 hl (k := 3) rfl (congrArg (fun z => x4 + z) (by decide)) (by decide) rfl (fun ls hl => ?_)
        refine lv_goto (tgt := 13) hx hb dX2_count_36 (by decide) ?_
        exact (hG13 _ _).mp (hrec13 _ _ h) ls H locs (lv_sub hl [1, 2, 3, 0] rfl) hW hS
      intro x1 x4 h
      rw [hG13]
      intro ls H locs hl hW hS
      refine lv_iload hx hb dX2_count_13 (lv_at hl 3 rfl) ?_
      refine lv_iload_n hx hb dX2_count_15 rfl (lv_at hl 2 rfl) ?_
      refine lv_icmp_ge (tgt := 39) hx hb dX2_count_16 (by decide) (fun c3 => ?_) (fun c3 => ?_)
      · have h := wif_t h c3
        refine lv_iload_n hx hb dX2_count_39 rfl (lv_at hl 0 rfl) ?_
        exact hret _ _ _ _ _ dX2_count_40 hW hS h
      · have h := wif_f h c3
        refine sh_aload_n hx hb dX2_count_19 rfl (lv_at hl 1 rfl) ?_
        refine lv_iload hx hb dX2_count_20 (lv_at hl 3 rfl) ?_
        refine sh_bald C hW h dX2_count_22 (fun v1 h => ?_)
        refine lv_istore (lv' := [(5, .int v1), (1, .int x1), (2, va_rf x2), (3, .int x3), (4, .int x4)]) hx hb dX2_count_23 hl (by decide) rfl (fun ls hl => ?_)
        refine lv_iload hx hb dX2_count_25 (lv_at hl 0 rfl) ?_
        refine lv_if_eq (tgt := 33) hx hb dX2_count_27 (by decide) (fun c2 => ?_) (fun c2 => ?_)
        · have h := wif_t h c2
          exact hb33 _ _ h ls H locs (lv_sub hl [1, 2, 3, 4] rfl) hW hS
        · have h := wif_f h c2
          refine lv_iinc (v := x1 + (1 : Int32)) (lv' := [(1, .int (x1 + (1 : Int32))), (5, .int v1), (2, va_rf x2), (3, .int x3), (4, .int x4)]) hx hb dX2_count_30 hl (k := 1) rfl (congrArg (fun z => x1 + z) (by decide)) (by decide) rfl (fun ls hl => ?_)
          exact hb33 _ _ h ls H locs (lv_sub hl [0, 2, 3, 4] rfl) hW hS
    intro x1 x4 h
    exact (hG13 x1 x4).mp (loop_walk (fun s => GG13 s.1 s.2) (fun rec hrec s h => hB13 (fun x1 x4 => rec (x1, x4)) (fun x1 x4 h => hrec (x1, x4) h) s.1 s.2 h) (x1, x4) h)
  intro h
  intro ls H locs hl hW hS
  refine lv_iconst (v := 0) hx hb dX2_count_0 (by decide) ?_
  refine lv_istore_n (lv' := [(1, .int (0 : Int32)), (0, va_rf (some x0))]) hx hb dX2_count_1 rfl hl (by decide) rfl (fun ls hl => ?_)
  refine sh_aload_n hx hb dX2_count_2 rfl (lv_at hl 1 rfl) ?_
  obtain ⟨v4, h1, h⟩ := h
  refine sh_get C hW xFb_6 q179 (fun _ h => h) h1 dX2_count_3 ?_
  refine sh_astore_n (lv' := [(2, va_rf v4), (1, .int (0 : Int32)), (0, va_rf (some x0))]) hx hb dX2_count_6 rfl hl (by decide) rfl (fun ls hl => ?_)
  refine sh_aload_n hx hb dX2_count_7 rfl (lv_at hl 0 rfl) ?_
  refine sh_len C hW h dX2_count_8 (fun v5 h => ?_)
  refine lv_istore_n (lv' := [(3, .int v5), (2, va_rf v4), (1, .int (0 : Int32)), (0, va_rf (some x0))]) hx hb dX2_count_9 rfl hl (by decide) (by simp only [List.filter_cons, List.filter_nil, va_rf_cat]; rfl) (fun ls hl => ?_)
  refine lv_iconst (v := 0) hx hb dX2_count_10 (by decide) ?_
  refine lv_istore (lv' := [(4, .int (0 : Int32)), (3, .int v5), (2, va_rf v4), (1, .int (0 : Int32)), (0, va_rf (some x0))]) hx hb dX2_count_11 hl (by decide) rfl (fun ls hl => ?_)
  exact hL13 _ _ _ _ h ls H locs (lv_sub hl [3, 2, 1, 0] rfl) hW hS
theorem ct_X2_count (l : Launch) : CT_X2_count l 1 20 w_X2_count := by
  intro V sz G Q x0
  refine Met.ofW (cc := cX2_count) (maxL := 6) (ret := (some .int)) (by decide) rfl ?_
  intro p e s m args below meth c s₁ B hml hv
  obtain ⟨rfl, hsz, hW, hK, hZ, h⟩ := hv
  subst hsz
  have hts := atoms_spec (ws := (ws_ yX2_count cX2_count 6 (some .int))) B.pre
  have hts : ∀ w ∈ lw_all, w.before _ s = true := fun w h => hts w (List.mem_cons_of_mem _ h)
  have hl := lv_entry ([.ref x0]) (n := 6) (Nat.le_of_ble_eq_true rfl)
  rw [lg_entry_eq]
  generalize (lg_sl ([.ref x0]) ++ List.replicate (6 - (lg_sl ([.ref x0])).length) Slot.unset).toArray = ls at hl ⊢
  exact wk_X2_count Q ⟨⟨B.exec, B.bytes, hml, findClass_of_methodNamed B.named, hts⟩, hK, hZ, fun q h => Or.inr h⟩ (Nat.le_refl _) (Nat.le_refl _) ⟨Nat.le_refl _, Nat.le_refl _⟩ G (fun v pc ls H locs hd hW1 hS hQ => W.iret (v := v) B.exec B.bytes B.returns (fun t ht _ => ⟨⟨v, G, rfl, ⟨rfl, hQ⟩, by rw [← ht] at hW1; exact hW1⟩, hS.F ht⟩) hS.2.2 hd) x0 h ls _ [] hl hW va_S.rf
def CT_X1_covered (l : Launch) (fr lo : Nat) (w : XV → (Int32 → GM → Prop) → (String → GM → Prop) → Nat → Int32 → Int32 → GM → Nat → Nat → Prop) : Prop := ∀ (V : XV) (sz : Nat) (G : GM) (Q : Int32 → GM → Prop) (X : String → GM → Prop) (x0 : Nat) (x1 : Int32) (x2 : Int32) (kc ks : Nat), vx_Met l yX1_covered (ws_ yX1_covered cX1_covered 3 (some .int)) { frames := fr, cells := kc, slots := ks, locals := lo } (va_Pc [.ref x0, .int x1, .int x2] (fun U => U.heap.size = sz ∧ xW V (xA G sz) G U.heap ∧ xK V U ∧ xZ V (xA G sz) U U.heap ∧ w V Q X x0 x1 x2 G kc ks)) (va_Qi (fun r (u : GM) => Q r u) (fun u t => xW V (xA G sz) u t.heap) (xA G sz)) (vx_X (fun u : String × GM => X u.1 u.2) (fun E u t => E = u.1 ∧ xW V (xA G sz) u.2 t.heap) (xA G sz)) kc ks (xA G sz)
theorem call_X1_covered_V {p : Program} {l : Launch} {e : Env} {R : Room} {s : State} {m : MethodId} {args : Array Value} {below : List Frame} {meth : Method} {c : Code} {H : Heap} {locs : List Loc} {cells slots : Nat} {Z : State → Prop} {A : Nat → Prop} {cc : ByteArray} {nL pc : Nat} {ls : Array Slot} {rest : List Value} {own : String} {index fr lo : Nat} {w : XV → (Int32 → GM → Prop) → (String → GM → Prop) → Nat → Int32 → Int32 → GM → Nat → Nat → Prop} {V : XV} {G : GM} {o : Option Nat} {ci : Nat} {kc ks c1 s1 : Nat} {x0 : Nat} {x1 : Int32} {x2 : Int32} (hM : CT_X1_covered l fr lo w) (C : xC p m c s args cc nL own V A) (hW : xW V A G H) (hS : va_S A s.heap H locs) (hlink : Cond.methodLink own index yX1_covered ∈ lw_all) (ho : o = some x0) (hcv : gCi G (some x0) = some ci) (hci : ci % 64 = 0) (hRf : fr + 1 ≤ R.frames) (hRl : 8 + (3 + 11) + lo ≤ R.locals) (hc1 : c1 ≤ kc) (hs1 : s1 ≤ ks) (hkc : cells + kc ≤ R.cells) (hks : slots + ks ≤ R.slots) (hz : ls.size = nL) (hr8 : (rest.map fun v => v.category).sum ≤ 8) (hdg : decode cc pc = .ok (.invokevirtual index, 3)) {Q1 : Int32 → GM → Prop} {X1 : String → GM → Prop} (h : w V Q1 X1 x0 x1 x2 G c1 s1) (kx : ∀ (E : String) (G1 : GM) (ce : Cell) (q9 : Addr) (H1 : Heap) (locs1 : List Loc), X1 E G1 → xW V A G1 H1 → va_S A s.heap H1 locs1 → H1[q9]? = some ce → ce.vm = .none → s.vm.findClass E = some ce.cls → xFr V G G1 H H1 → vx_W p l e R s m args below meth c H1 locs1 (cells + c1) (slots + s1) Z (F0 m pc ls rest) q9) (kk : ∀ (r : Int32) (G1 : GM) (H1 : Heap) (locs1 : List Loc), Q1 r G1 → xW V A G1 H1 → va_S A s.heap H1 locs1 → xFr V G G1 H H1 → (cells + c1) + (kc - c1) ≤ R.cells → (slots + s1) + (ks - s1) ≤ R.slots → W p l e R s m args below meth c H1 locs1 (cells + c1) (slots + s1) Z (F0 m (pc + 3) ls (.int r :: rest))) : W p l e R s m args below meth c H locs cells slots Z (F0 m pc ls (.int x2 :: .int x1 :: va_rf o :: rest)) := by
  subst ho
  obtain ⟨fs, hG⟩ := gCi_of hcv
  exact rx_i3w (vx_runV (As := [.int x1, .int x2]) (rest := rest) C.1 (hM V H.size G Q1 X1 x0 x1 x2 c1 s1) (cwV 2 C.1.2.2.2.2 (lw_V hlink q1592 q1593 q59 q1594) rfl rfl rfl (by decide +kernel) ⟨hRf, hRl⟩) ⟨fun a U g mk q => by obtain ⟨q0, q1, qW, qK, qZ, qw⟩ := q; exact ⟨q0, q1, qW, xK.same (u := U) (U := U.calling g mk a) rfl qK, xZ.moved (u := U) (U := U.calling g mk a) (Vm.Alike.refl U.vm) qZ, qw⟩, (hW.recv C.2.1 hG (r := (RX1, TX1, 6)) (by rw [hci]; rfl)), fun U hU hWm => ⟨rfl, by rw [hU], by rw [hU]; exact hW.self _, C.2.1.warm hWm, xZ.call C.2.2.1 hW hS C.2.2.2 hU hWm.alike, h⟩⟩ rfl rfl hz rfl (lv_room hr8) hdg ⟨by omega, by omega⟩) hW hS C.2.2.2 kx (fun r G1 H1 locs1 hp hW1 hS1 hF1 => kk r G1 H1 locs1 hp hW1 hS1 hF1 (by omega) (by omega))
def w_X1_covered (V : XV) (Q : Int32 → GM → Prop) (X : String → GM → Prop) (x0 : Nat) (x1 : Int32) (x2 : Int32) (G : GM) (kc : Nat) (ks : Nat) : Prop := gRcv G (some x0) (fun a1 c2 => (c2 % 64 = 0) ∧ (∃ c5 s6 : Nat, c5 ≤ kc ∧ s6 ≤ ks ∧ (w_X1_asked V (fun r3 G4 => gRcv G4 r3 (fun a7 c8 => (c8 % 64 = 1) ∧ (w_X2_count V (fun r9 => Q r9 G4) a7 G4))) X a1 x1 x2 G c5 s6)))
set_option maxRecDepth 100000 in
set_option maxHeartbeats 4000000 in
theorem wk_X1_covered {p : Program} {l : Launch} {e : Env} {R : Room} {s : State} {m : MethodId} {args : Array Value} {below : List Frame} {meth : Method} {c : Code} {Z : State → Prop} {A : Nat → Prop} {V : XV} (Q : Int32 → GM → Prop) (X : String → GM → Prop) (C : xC p m c s args cX1_covered 3 RX1 V A) (hfl : l.stackTraces = false) (hRf : 31 ≤ R.frames) (hRl : 767 ≤ R.locals) (G : GM) (hret : ∀ (v : Int32) (G : GM) (pc : Nat) (ls : Array Slot) (H : Heap) (locs : List Loc) (cells slots : Nat) {k1 k2 : Nat}, decode cX1_covered pc = .ok (.ireturn, 1) → xW V A G H → va_S A s.heap H locs → cells + k1 ≤ R.cells → slots + k2 ≤ R.slots → Q v G → W p l e R s m args below meth c H locs cells slots Z (F0 m pc ls [.int v])) (hxo : ∀ (E : String) (G : GM) (ce : Cell) (q : Addr) (pc : Nat) (ls : Array Slot) (H : Heap) (locs : List Loc) (cells slots : Nat) (rest : List Value), xW V A G H → va_S A s.heap H locs → X E G → H[q]? = some ce → ce.vm = .none → s.vm.findClass E = some ce.cls → cells ≤ R.cells → slots ≤ R.slots → vx_W p l e R s m args below meth c H locs cells slots Z (F0 m pc ls rest) q) (x0 : Nat) (x1 : Int32) (x2 : Int32) (kc ks : Nat) : w_X1_covered V Q X x0 x1 x2 G kc ks → ∀ (ls : Array Slot) (H : Heap) (locs : List Loc) (cells slots : Nat), lv_has ls 3 [(0, va_rf (some x0)), (1, .int x1), (2, .int x2)] → xW V A G H → va_S A s.heap H locs → cells + kc ≤ R.cells → slots + ks ≤ R.slots → W p l e R s m args below meth c H locs cells slots Z (F0 m 0 ls []) := by
  have hx := C.1.1; have hb := C.1.2.1; have hml := C.1.2.2.1; have hown := C.1.2.2.2.1; have hts := C.1.2.2.2.2
  intro h
  intro ls H locs cells slots hl hW hS hkc hks
  refine sh_aload_n hx hb dX1_covered_0 rfl (lv_at hl 0 rfl) ?_
  refine lv_iload_n hx hb dX1_covered_1 rfl (lv_at hl 1 rfl) ?_
  refine lv_iload_n hx hb dX1_covered_2 rfl (lv_at hl 2 rfl) ?_
  obtain ⟨a1, c2, ho3, hcv3, h⟩ := h
  have hcc := h.1
  have h := h.2
  obtain ⟨c5, s6, hc3, hs3, h⟩ := h
  refine call_X1_asked_V (ct_X1_asked l hfl) C hW hS q1595 ho3 hcv3 hcc (le_lit hRf rfl) (le_lit hRl rfl) hc3 hs3 hkc hks hl.1 (Nat.le_of_ble_eq_true rfl) dX1_covered_3 h (fun E G9 ce q9 H locs hX hW hS h1 h2 h3 _ => hxo E G9 ce q9 3 ls H locs _ _ _ hW hS hX h1 h2 h3 (by omega) (by omega)) (fun r3 G4 H locs h hW hS _ hkc hks => ?_)
  obtain ⟨a7, c8, ho6, hcv6, h⟩ := h
  have hcc := h.1
  have h := h.2
  refine call_X2_count_V (ct_X2_count l) C hW hS q1599 ho6 hcv6 hcc (le_lit hRf rfl) (le_lit hRl rfl) ⟨Nat.le_trans (Nat.le_add_right _ _) hkc, Nat.le_trans (Nat.le_add_right _ _) hks⟩ hl.1 (Nat.le_of_ble_eq_true rfl) dX1_covered_6 h (fun r9 H locs h hW hS _ => ?_)
  exact hret _ _ _ _ _ _ _ _ dX1_covered_9 hW hS hkc hks h
theorem ct_X1_covered (l : Launch) (hfl : l.stackTraces = false) : CT_X1_covered l 31 767 w_X1_covered := by
  intro V sz G Q X x0 x1 x2 kc ks
  refine vx_ofW (cc := cX1_covered) (maxL := 3) (ret := (some .int)) (by decide) rfl ?_
  intro p e s m args below meth c s₁ B hml hext hv
  obtain ⟨rfl, hsz, hW, hK, hZ, h⟩ := hv
  subst hsz
  have hts := atoms_spec (ws := (ws_ yX1_covered cX1_covered 3 (some .int))) B.pre
  have hts : ∀ w ∈ lw_all, w.before _ s = true := fun w h => hts w (List.mem_cons_of_mem _ h)
  have hl := lv_entry ([.ref x0, .int x1, .int x2]) (n := 3) (Nat.le_of_ble_eq_true rfl)
  rw [lg_entry_eq]
  generalize (lg_sl ([.ref x0, .int x1, .int x2]) ++ List.replicate (3 - (lg_sl ([.ref x0, .int x1, .int x2])).length) Slot.unset).toArray = ls at hl ⊢
  exact wk_X1_covered Q X ⟨⟨B.exec, B.bytes, hml, findClass_of_methodNamed B.named, hts⟩, hK, hZ, fun q h => Or.inr h⟩ hfl (Nat.le_refl _) (Nat.le_refl _) G (fun v G pc ls H locs cells slots _ _ hd hW1 hS hkc hks hQ => W.widen (k := kc) (n := ks) (Nat.le_trans (Nat.le_add_right _ _) hkc) (Nat.le_trans (Nat.le_add_right _ _) hks) (vx_ret (W.iret (v := v) B.exec B.bytes B.returns (fun t ht _ => ⟨⟨v, G, rfl, hQ, by rw [← ht] at hW1; exact hW1⟩, hS.F ht⟩) hS.2.2 hd))) (fun E G9 ce q pc ls H locs cells slots rest hW1 hS hX h1 h2 h3 hc hs => vx_out (fun x hx => absurd (hext x hx) id) B.notSynchronized h1 h2 h3 (fun t ht _ => ⟨(E, G9), hX, ⟨rfl, by rw [← ht] at hW1; exact hW1⟩, hS.F ht⟩) hS.2.2 hc hs) x0 x1 x2 kc ks h ls _ [] 0 0 hl hW va_S.rf (by show 0 + kc ≤ kc; omega) (by show 0 + ks ≤ ks; omega)
def CT_X0_covered (l : Launch) (fr lo : Nat) (w : XV → (Int32 → GM → Prop) → (Option Nat) → Int32 → Int32 → (Option Nat) → GM → Nat → Nat → Prop) : Prop := ∀ (V : XV) (sz : Nat) (G : GM) (Q : Int32 → GM → Prop) (x0 : Option Nat) (x1 : Int32) (x2 : Int32) (x3 : Option Nat) (kc ks : Nat), Met l yX0_covered (wsW_ yX0_covered cX0_covered 5 (some .int) [(0, 10, 13, 19), (0, 10, 17, 21)]) { frames := fr, cells := kc, slots := ks, locals := lo } (va_Pc [va_rf x0, .int x1, .int x2, va_rf x3] (fun U => U.heap.size = sz ∧ xW V (xA G sz) G U.heap ∧ xK V U ∧ xZ V (xA G sz) U U.heap ∧ w V Q x0 x1 x2 x3 G kc ks)) (va_Qi (fun r (u : GM) => Q r u) (fun u t => xW V (xA G sz) u t.heap) (xA G sz)) kc ks (xA G sz)
def w_X0_covered (V : XV) (Q : Int32 → GM → Prop) (x0 : Option Nat) (x1 : Int32) (x2 : Int32) (x3 : Option Nat) (G : GM) (kc : Nat) (ks : Nat) : Prop := gRcv G x0 (fun a1 c2 => (c2 % 64 = 0) ∧ (∃ c5 s6 : Nat, c5 ≤ kc ∧ s6 ≤ ks ∧ (w_X1_covered V (fun r3 G4 => gJS G4 1 x3 (0 : Int32) (r3.toInt64) (fun G7 => Q (0 : Int32) G7)) (fun E G9 => if E = "java/lang/IndexOutOfBoundsException" then Q (1 : Int32) G9 else (if E = "java/lang/IllegalArgumentException" then Q (2 : Int32) G9 else (False))) a1 x1 x2 G c5 s6)))
set_option maxRecDepth 100000 in
set_option maxHeartbeats 4000000 in
theorem wk_X0_covered {p : Program} {l : Launch} {e : Env} {R : Room} {s : State} {m : MethodId} {args : Array Value} {below : List Frame} {meth : Method} {c : Code} {Z : State → Prop} {A : Nat → Prop} {V : XV} (Q : Int32 → GM → Prop) (C : xC p m c s args cX0_covered 5 RX0 V A) (hfl : l.stackTraces = false) (htab : c.exceptionTable.toList = tableOf [(0, 10, 13, 19), (0, 10, 17, 21)]) (hRf : 32 ≤ R.frames) (hRl : 789 ≤ R.locals) (G : GM) (hret : ∀ (v : Int32) (G : GM) (pc : Nat) (ls : Array Slot) (H : Heap) (locs : List Loc) (cells slots : Nat) {k1 k2 : Nat}, decode cX0_covered pc = .ok (.ireturn, 1) → xW V A G H → va_S A s.heap H locs → cells + k1 ≤ R.cells → slots + k2 ≤ R.slots → Q v G → W p l e R s m args below meth c H locs cells slots Z (F0 m pc ls [.int v])) (x0 : Option Nat) (x1 : Int32) (x2 : Int32) (x3 : Option Nat) (kc ks : Nat) : w_X0_covered V Q x0 x1 x2 x3 G kc ks → ∀ (ls : Array Slot) (H : Heap) (locs : List Loc) (cells slots : Nat), lv_has ls 5 [(0, va_rf x0), (1, .int x1), (2, .int x2), (3, va_rf x3)] → xW V A G H → va_S A s.heap H locs → cells + kc ≤ R.cells → slots + ks ≤ R.slots → W p l e R s m args below meth c H locs cells slots Z (F0 m 0 ls []) := by
  have hx := C.1.1; have hb := C.1.2.1; have hml := C.1.2.2.1; have hown := C.1.2.2.2.1; have hts := C.1.2.2.2.2
  intro h
  intro ls H locs cells slots hl hW hS hkc hks
  refine sh_aload_n hx hb dX0_covered_0 rfl (lv_at hl 3 rfl) ?_
  refine lv_iconst (v := 0) hx hb dX0_covered_1 (by decide) ?_
  refine sh_aload_n hx hb dX0_covered_2 rfl (lv_at hl 0 rfl) ?_
  refine lv_iload_n hx hb dX0_covered_3 rfl (lv_at hl 1 rfl) ?_
  refine lv_iload_n hx hb dX0_covered_4 rfl (lv_at hl 2 rfl) ?_
  obtain ⟨a1, c2, ho5, hcv5, h⟩ := h
  have hcc := h.1
  have h := h.2
  obtain ⟨c5, s6, hc5, hs5, h⟩ := h
  refine call_X1_covered_V (ct_X1_covered l hfl) C hW hS q1591 ho5 hcv5 hcc (le_lit hRf rfl) (le_lit hRl rfl) hc5 hs5 hkc hks hl.1 (by simp only [List.map_cons, List.map_nil, va_rf_cat]; exact Nat.le_of_ble_eq_true rfl) dX0_covered_5 h (fun E G9 ce q9 H locs hX hW hS h1 h2 h3 _ => by
      by_cases c900 : E = "java/lang/IndexOutOfBoundsException"
      · have hX := wif_t hX c900
        subst c900
        refine vx_catch hown [] ⟨0, 10, 13, 19⟩ [⟨0, 10, 17, 21⟩] (htab.trans rfl) (fun z hz => absurd hz List.not_mem_nil) rfl (by decide) (hts _ q740) (va_Nw.use rfl (C.2.1.2.2.1 _ q757 rfl)) h1 h2 h3 ?_
        refine sh_astore (lv' := [(4, va_rf (some q9)), (0, va_rf x0), (1, .int x1), (2, .int x2), (3, va_rf x3)]) hx hb dX0_covered_13 hl (by decide) (by simp only [List.filter_cons, List.filter_nil, va_rf_cat]; rfl) (fun ls hl => ?_)
        refine lv_iconst (v := 1) hx hb dX0_covered_15 (by decide) ?_
        exact hret _ _ _ _ _ _ _ _ (k1 := 0) (k2 := 0) dX0_covered_16 hW hS (by omega) (by omega) hX
      have hX := wif_f hX c900
      by_cases c901 : E = "java/lang/IllegalArgumentException"
      · have hX := wif_t hX c901
        subst c901
        refine vx_catch hown [⟨0, 10, 13, 19⟩] ⟨0, 10, 17, 21⟩ [] (htab.trans rfl) (by intro z hz; simp only [List.mem_cons, List.not_mem_nil, or_false] at hz; rcases hz with rfl <;> first | (exact Or.inr ⟨by decide, "java/lang/IndexOutOfBoundsException", hts _ q740, C.2.1.2.2.2.2.2.2.1 ("java/lang/IllegalArgumentException", "java/lang/IndexOutOfBoundsException") (by decide)⟩)) rfl (by decide) (hts _ q743) (va_Nw.use rfl (C.2.1.2.2.1 _ q441 rfl)) h1 h2 h3 ?_
        refine sh_astore (lv' := [(4, va_rf (some q9)), (0, va_rf x0), (1, .int x1), (2, .int x2), (3, va_rf x3)]) hx hb dX0_covered_17 hl (by decide) (by simp only [List.filter_cons, List.filter_nil, va_rf_cat]; rfl) (fun ls hl => ?_)
        refine lv_iconst (v := 2) hx hb dX0_covered_19 (by decide) ?_
        exact hret _ _ _ _ _ _ _ _ (k1 := 0) (k2 := 0) dX0_covered_20 hW hS (by omega) (by omega) hX
      have hX := wif_f hX c901
      exact False.elim hX) (fun r3 G4 H locs h hW hS _ hkc hks => ?_)
  refine lv_i2l hx hb dX0_covered_8 rfl ?_
  refine sh_last C hW hS h dX0_covered_9 (fun G7 H locs hW hS h => ?_)
  refine lv_goto (tgt := 21) hx hb dX0_covered_10 (by decide) ?_
  refine lv_iconst (v := 0) hx hb dX0_covered_21 (by decide) ?_
  exact hret _ _ _ _ _ _ _ _ dX0_covered_22 hW hS hkc hks h
theorem ct_X0_covered (l : Launch) (hfl : l.stackTraces = false) : CT_X0_covered l 32 789 w_X0_covered := by
  intro V sz G Q x0 x1 x2 x3 kc ks
  refine gx_ofWH (cc := cX0_covered) (maxL := 5) (ret := (some .int)) (hh := [(0, 10, 13, 19), (0, 10, 17, 21)]) (by decide) rfl ?_
  intro p e s m args below meth c s₁ B hml htab hv
  obtain ⟨rfl, hsz, hW, hK, hZ, h⟩ := hv
  subst hsz
  have hts := atoms_spec (ws := (wsW_ yX0_covered cX0_covered 5 (some .int) [(0, 10, 13, 19), (0, 10, 17, 21)])) B.pre
  have hts : ∀ w ∈ lw_all, w.before _ s = true := fun w h => hts w (List.mem_cons_of_mem _ h)
  have key : ∃ ls : Array Slot, entryFrame m ([va_rf x0, .int x1, .int x2, va_rf x3] : List Value).toArray 5 = F0 m 0 ls [] ∧ lv_has ls 5 [(0, va_rf x0), (1, .int x1), (2, .int x2), (3, va_rf x3)] := by
    cases x0 <;> cases x3 <;> (refine ⟨_, by rw [lg_entry_eq], ?_⟩; exact lv_entry _ (Nat.le_of_ble_eq_true rfl))
  obtain ⟨ls, hfr, hl⟩ := key
  rw [hfr]
  exact wk_X0_covered Q ⟨⟨B.exec, B.bytes, hml, findClass_of_methodNamed B.named, hts⟩, hK, hZ, fun q h => Or.inr h⟩ hfl htab (Nat.le_refl _) (Nat.le_refl _) G (fun v G pc ls H locs cells slots _ _ hd hW1 hS hkc hks hQ => W.widen (k := kc) (n := ks) (Nat.le_trans (Nat.le_add_right _ _) hkc) (Nat.le_trans (Nat.le_add_right _ _) hks) (W.iret (v := v) B.exec B.bytes B.returns (fun t ht _ => ⟨⟨v, G, rfl, hQ, by rw [← ht] at hW1; exact hW1⟩, hS.F ht⟩) hS.2.2 hd)) x0 x1 x2 x3 kc ks h ls _ [] 0 0 hl hW va_S.rf (by show 0 + kc ≤ kc; omega) (by show 0 + ks ≤ ks; omega)
