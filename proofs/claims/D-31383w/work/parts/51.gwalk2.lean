def CT_J2_indexOfRange (l : Launch) (fr lo : Nat) (w : XV → (Int32 → Prop) → Nat → (Option Nat) → Int32 → Int32 → GM → Prop) : Prop := ∀ (V : XV) (sz : Nat) (G : GM) (Q : Int32 → Prop) (x0 : Nat) (x1 : Option Nat) (x2 : Int32) (x3 : Int32), Met l yJ2_indexOfRange (ws_ yJ2_indexOfRange cJ2_indexOfRange 6 (some .int)) { frames := fr, cells := 0, slots := 0, locals := lo } (va_Pc [.ref x0, va_rf x1, .int x2, .int x3] (fun U => U.heap.size = sz ∧ xW V (xA G sz) G U.heap ∧ xK V U ∧ xZ V (xA G sz) U U.heap ∧ w V Q x0 x1 x2 x3 G)) (va_Qi (fun r (u : GM) => u = G ∧ Q r) (fun u t => xW V (xA G sz) u t.heap) (xA G sz)) 0 0 (xA G sz)
theorem call_J2_indexOfRange_V {p : Program} {l : Launch} {e : Env} {R : Room} {s : State} {m : MethodId} {args : Array Value} {below : List Frame} {meth : Method} {c : Code} {H : Heap} {locs : List Loc} {cells slots : Nat} {Z : State → Prop} {A : Nat → Prop} {cc : ByteArray} {nL pc : Nat} {ls : Array Slot} {rest : List Value} {own : String} {index fr lo : Nat} {w : XV → (Int32 → Prop) → Nat → (Option Nat) → Int32 → Int32 → GM → Prop} {V : XV} {G : GM} {o : Option Nat} {ci : Nat} {x0 : Nat} {x1 : Option Nat} {x2 : Int32} {x3 : Int32} (hM : CT_J2_indexOfRange l fr lo w) (C : xC p m c s args cc nL own V A) (hW : xW V A G H) (hS : va_S A s.heap H locs) (hlink : Cond.methodLink own index yJ2_indexOfRange ∈ lw_all) (ho : o = some x0) (hcv : gCi G (some x0) = some ci) (hci : ci % 64 = 15) (hRf : fr + 1 ≤ R.frames) (hRl : 8 + (6 + 11) + lo ≤ R.locals) (hcs : cells ≤ R.cells ∧ slots ≤ R.slots) (hz : ls.size = nL) (hr8 : (rest.map fun v => v.category).sum ≤ 8) (hdg : decode cc pc = .ok (.invokevirtual index, 3)) {Q1 : Int32 → Prop} (h : w V Q1 x0 x1 x2 x3 G) (kk : ∀ (r : Int32) (H1 : Heap) (locs1 : List Loc), Q1 r → xW V A G H1 → va_S A s.heap H1 locs1 → xFr V G G H H1 → W p l e R s m args below meth c H1 locs1 cells slots Z (F0 m (pc + 3) ls (.int r :: rest))) : W p l e R s m args below meth c H locs cells slots Z (F0 m pc ls (.int x3 :: .int x2 :: va_rf x1 :: va_rf o :: rest)) := by
  subst ho
  obtain ⟨fs, hG⟩ := gCi_of hcv
  exact rg_i3r (va_runV (As := [va_rf x1, .int x2, .int x3]) (rest := rest) C.1 (hM V H.size G Q1 x0 x1 x2 x3) (cwV 3 C.1.2.2.2.2 (lw_V hlink q1147 q1148 q62 q1149) rfl rfl rfl (by decide +kernel) ⟨hRf, hRl⟩) ⟨fun a U g mk q => by obtain ⟨q0, q1, qW, qK, qZ, qw⟩ := q; exact ⟨q0, q1, qW, xK.same (u := U) (U := U.calling g mk a) rfl qK, xZ.moved (u := U) (U := U.calling g mk a) (Vm.Alike.refl U.vm) qZ, qw⟩, (hW.recv C.2.1 hG (r := (RJ2, TJ2, 3)) (by rw [hci]; rfl)), fun U hU hWm => ⟨rfl, by rw [hU], by rw [hU]; exact hW.self _, C.2.1.warm hWm, xZ.call C.2.2.1 hW hS C.2.2.2 hU hWm.alike, h⟩⟩ rfl rfl hz rfl (lv_room hr8) hdg hcs) hW hS C.2.2.2 (fun r H1 locs1 hp hW1 hS1 hF1 => kk r H1 locs1 hp hW1 hS1 hF1)
def w_J2_indexOfRange_h42 (V : XV) (Q : Int32 → Prop) (x1 : Option Nat) (x3 : Int32) (x4 : Option Nat) (G : GM) (rec42 : Int32 → Prop) (x5 : Int32) : Prop := if x3 ≤ x5 then (Q (-1 : Int32)) else (gRL G x4 x5 (fun v1 => gRcv G x1 (fun a2 c3 => (c3 % 64 = 16 ∨ c3 % 64 = 0 ∨ c3 % 64 = 12 ∨ c3 % 64 = 5 ∨ c3 % 64 = 6 ∨ c3 % 64 = 8 ∨ c3 % 64 = 9 ∨ c3 % 64 = 10 ∨ c3 % 64 = 11 ∨ c3 % 64 = 13 ∨ c3 % 64 = 14 ∨ c3 % 64 = 1 ∨ c3 % 64 = 18 ∨ c3 % 64 = 2 ∨ c3 % 64 = 3 ∨ c3 % 64 = 7 ∨ c3 % 64 = 4) ∧ (w_J24_equals V (fun r4 => if r4 = 0 then (rec42 (x5 + (1 : Int32))) else (Q x5)) a2 v1 G))))
def w_J2_indexOfRange_L42 (V : XV) (Q : Int32 → Prop) (x1 : Option Nat) (x3 : Int32) (x4 : Option Nat) (G : GM) (x5 : Int32) : Prop := wLoop (fun (rec : Int32 → Prop) (s : Int32) => w_J2_indexOfRange_h42 V Q x1 x3 x4 G (fun x5 => rec x5) s) x5
def w_J2_indexOfRange_h13 (V : XV) (Q : Int32 → Prop) (x3 : Int32) (x4 : Option Nat) (G : GM) (rec13 : Int32 → Prop) (x5 : Int32) : Prop := if x3 ≤ x5 then (Q (-1 : Int32)) else (gRL G x4 x5 (fun v7 => if v7 = none then (Q x5) else (rec13 (x5 + (1 : Int32)))))
def w_J2_indexOfRange_L13 (V : XV) (Q : Int32 → Prop) (x3 : Int32) (x4 : Option Nat) (G : GM) (x5 : Int32) : Prop := wLoop (fun (rec : Int32 → Prop) (s : Int32) => w_J2_indexOfRange_h13 V Q x3 x4 G (fun x5 => rec x5) s) x5
def w_J2_indexOfRange (V : XV) (Q : Int32 → Prop) (x0 : Nat) (x1 : Option Nat) (x2 : Int32) (x3 : Int32) (G : GM) : Prop := gGR G 41 (some x0) (fun v10 => if x1 = none then (w_J2_indexOfRange_L13 V Q x3 v10 G x2) else (w_J2_indexOfRange_L42 V Q x1 x3 v10 G x2))
set_option maxRecDepth 100000 in
set_option maxHeartbeats 4000000 in
theorem wk_J2_indexOfRange {p : Program} {l : Launch} {e : Env} {R : Room} {s : State} {m : MethodId} {args : Array Value} {below : List Frame} {meth : Method} {c : Code} {cells slots : Nat} {Z : State → Prop} {A : Nat → Prop} {V : XV} (Q : Int32 → Prop) (C : xC p m c s args cJ2_indexOfRange 6 RJ2 V A) (hRf : 2 ≤ R.frames) (hRl : 41 ≤ R.locals) (hcs : cells ≤ R.cells ∧ slots ≤ R.slots) (G : GM) (hret : ∀ (v : Int32) (pc : Nat) (ls : Array Slot) (H : Heap) (locs : List Loc), decode cJ2_indexOfRange pc = .ok (.ireturn, 1) → xW V A G H → va_S A s.heap H locs → Q v → W p l e R s m args below meth c H locs cells slots Z (F0 m pc ls [.int v])) (x0 : Nat) (x1 : Option Nat) (x2 : Int32) (x3 : Int32) : w_J2_indexOfRange V Q x0 x1 x2 x3 G → ∀ (ls : Array Slot) (H : Heap) (locs : List Loc), lv_has ls 6 [(0, va_rf (some x0)), (1, va_rf x1), (2, .int x2), (3, .int x3)] → xW V A G H → va_S A s.heap H locs → W p l e R s m args below meth c H locs cells slots Z (F0 m 0 ls []) := by
  have hx := C.1.1; have hb := C.1.2.1; have hml := C.1.2.2.1; have hown := C.1.2.2.2.1; have hts := C.1.2.2.2.2
  have hL42 : ∀ (x4 : Option Nat) (x5 : Int32), w_J2_indexOfRange_L42 V Q x1 x3 x4 G x5 → ∀ (ls : Array Slot) (H : Heap) (locs : List Loc), lv_has ls 6 [(1, va_rf x1), (3, .int x3), (4, va_rf x4), (5, .int x5)] → xW V A G H → va_S A s.heap H locs → W p l e R s m args below meth c H locs cells slots Z (F0 m 42 ls []) := by
    intro x4
    obtain ⟨GG42, hG42⟩ : ∃ GG : Int32 → Prop, ∀ (x5 : Int32), GG x5 ↔ (∀ (ls : Array Slot) (H : Heap) (locs : List Loc), lv_has ls 6 [(1, va_rf x1), (3, .int x3), (4, va_rf x4), (5, .int x5)] → xW V A G H → va_S A s.heap H locs → W p l e R s m args below meth c H locs cells slots Z (F0 m 42 ls [])) := ⟨fun x5 => _, fun x5 => Iff.rfl⟩
    have hB42 : ∀ (rec42 : Int32 → Prop), (∀ (x5 : Int32), rec42 x5 → GG42 x5) → ∀ (x5 : Int32), w_J2_indexOfRange_h42 V Q x1 x3 x4 G rec42 x5 → GG42 x5 := by
      intro rec42 hrec42
      intro x5 h
      rw [hG42]
      intro ls H locs hl hW hS
      refine lv_iload hx hb dJ2_indexOfRange_42 (lv_at hl 3 rfl) ?_
      refine lv_iload_n hx hb dJ2_indexOfRange_44 rfl (lv_at hl 1 rfl) ?_
      refine lv_icmp_ge (tgt := 69) hx hb dJ2_indexOfRange_45 (by decide) (fun c6 => ?_) (fun c6 => ?_)
      · have h := wif_t h c6
        refine lv_iconst (v := -1) hx hb dJ2_indexOfRange_69 (by decide) ?_
        exact hret _ _ _ _ _ dJ2_indexOfRange_70 hW hS h
      · have h := wif_f h c6
        refine sh_aload_n hx hb dJ2_indexOfRange_48 rfl (lv_at hl 0 rfl) ?_
        refine sh_aload hx hb dJ2_indexOfRange_49 (lv_at hl 2 rfl) ?_
        refine lv_iload hx hb dJ2_indexOfRange_51 (lv_at hl 3 rfl) ?_
        refine sh_aald C hW h dJ2_indexOfRange_53 (fun v1 h => ?_)
        obtain ⟨a2, c3, ho54, hcv54, h⟩ := h
        have hcc := h.1
        have h := h.2
        refine call_J24_equals_U0_1_2_3_4_5_6_7_8_9_10_11_12_13_14_16_18_Object (ct_J24_equals l) C hW hS q1087 ho54 hcv54 hcc (le_lit hRf rfl) (le_lit hRl rfl) hcs hl.1 (Nat.le_of_ble_eq_true rfl) dJ2_indexOfRange_54 h (fun r4 H locs h hW hS _ => ?_)
        refine lv_if_eq (tgt := 63) hx hb dJ2_indexOfRange_57 (by decide) (fun c5 => ?_) (fun c5 => ?_)
        · have h := wif_t h c5
          refine lv_iinc (v := x5 + (1 : Int32)) (lv' := [(5, .int (x5 + (1 : Int32))), (1, va_rf x1), (3, .int x3), (4, va_rf x4)]) hx hb dJ2_indexOfRange_63 hl (k := 3) rfl (congrArg (fun z => x5 + z) (by decide)) (by decide) (by simp only [List.filter_cons, List.filter_nil, va_rf_cat]; rfl) (fun ls hl => ?_)
          refine lv_goto (tgt := 42) hx hb dJ2_indexOfRange_66 (by decide) ?_
          exact (hG42 _).mp (hrec42 _ h) ls H locs (lv_sub hl [1, 2, 3, 0] rfl) hW hS
        · have h := wif_f h c5
          refine lv_iload hx hb dJ2_indexOfRange_60 (lv_at hl 3 rfl) ?_
          exact hret _ _ _ _ _ dJ2_indexOfRange_62 hW hS h
    intro x5 h
    exact (hG42 x5).mp (loop_walk (fun s => GG42 s) (fun rec hrec s h => hB42 (fun x5 => rec x5) (fun x5 h => hrec x5 h) s h) x5 h)
  have hL13 : ∀ (x4 : Option Nat) (x5 : Int32), w_J2_indexOfRange_L13 V Q x3 x4 G x5 → ∀ (ls : Array Slot) (H : Heap) (locs : List Loc), lv_has ls 6 [(3, .int x3), (4, va_rf x4), (5, .int x5)] → xW V A G H → va_S A s.heap H locs → W p l e R s m args below meth c H locs cells slots Z (F0 m 13 ls []) := by
    intro x4
    obtain ⟨GG13, hG13⟩ : ∃ GG : Int32 → Prop, ∀ (x5 : Int32), GG x5 ↔ (∀ (ls : Array Slot) (H : Heap) (locs : List Loc), lv_has ls 6 [(3, .int x3), (4, va_rf x4), (5, .int x5)] → xW V A G H → va_S A s.heap H locs → W p l e R s m args below meth c H locs cells slots Z (F0 m 13 ls [])) := ⟨fun x5 => _, fun x5 => Iff.rfl⟩
    have hB13 : ∀ (rec13 : Int32 → Prop), (∀ (x5 : Int32), rec13 x5 → GG13 x5) → ∀ (x5 : Int32), w_J2_indexOfRange_h13 V Q x3 x4 G rec13 x5 → GG13 x5 := by
      intro rec13 hrec13
      intro x5 h
      rw [hG13]
      intro ls H locs hl hW hS
      refine lv_iload hx hb dJ2_indexOfRange_13 (lv_at hl 2 rfl) ?_
      refine lv_iload_n hx hb dJ2_indexOfRange_15 rfl (lv_at hl 0 rfl) ?_
      refine lv_icmp_ge (tgt := 36) hx hb dJ2_indexOfRange_16 (by decide) (fun c9 => ?_) (fun c9 => ?_)
      · have h := wif_t h c9
        refine lv_goto (tgt := 69) hx hb dJ2_indexOfRange_36 (by decide) ?_
        refine lv_iconst (v := -1) hx hb dJ2_indexOfRange_69 (by decide) ?_
        exact hret _ _ _ _ _ dJ2_indexOfRange_70 hW hS h
      · have h := wif_f h c9
        refine sh_aload hx hb dJ2_indexOfRange_19 (lv_at hl 1 rfl) ?_
        refine lv_iload hx hb dJ2_indexOfRange_21 (lv_at hl 2 rfl) ?_
        refine sh_aald C hW h dJ2_indexOfRange_23 (fun v7 h => ?_)
        refine sh_ifnonnull (tgt := 30) hx hb dJ2_indexOfRange_24 (by decide) (fun c8 => ?_) (fun c8 => ?_)
        · have h := wif_f h c8
          refine lv_iinc (v := x5 + (1 : Int32)) (lv' := [(5, .int (x5 + (1 : Int32))), (3, .int x3), (4, va_rf x4)]) hx hb dJ2_indexOfRange_30 hl (k := 2) rfl (congrArg (fun z => x5 + z) (by decide)) (by decide) (by simp only [List.filter_cons, List.filter_nil, va_rf_cat]; rfl) (fun ls hl => ?_)
          refine lv_goto (tgt := 13) hx hb dJ2_indexOfRange_33 (by decide) ?_
          exact (hG13 _).mp (hrec13 _ h) ls H locs (lv_sub hl [1, 2, 0] rfl) hW hS
        · have h := wif_t h c8
          refine lv_iload hx hb dJ2_indexOfRange_27 (lv_at hl 2 rfl) ?_
          exact hret _ _ _ _ _ dJ2_indexOfRange_29 hW hS h
    intro x5 h
    exact (hG13 x5).mp (loop_walk (fun s => GG13 s) (fun rec hrec s h => hB13 (fun x5 => rec x5) (fun x5 h => hrec x5 h) s h) x5 h)
  intro h
  intro ls H locs hl hW hS
  refine sh_aload_n hx hb dJ2_indexOfRange_0 rfl (lv_at hl 0 rfl) ?_
  obtain ⟨v10, h1, h⟩ := h
  refine sh_get C hW xFb_41 q126 (fun _ h => h) h1 dJ2_indexOfRange_1 ?_
  refine sh_astore (lv' := [(4, va_rf v10), (0, va_rf (some x0)), (1, va_rf x1), (2, .int x2), (3, .int x3)]) hx hb dJ2_indexOfRange_4 hl (by decide) rfl (fun ls hl => ?_)
  refine sh_aload_n hx hb dJ2_indexOfRange_6 rfl (lv_at hl 2 rfl) ?_
  refine sh_ifnonnull (tgt := 39) hx hb dJ2_indexOfRange_7 (by decide) (fun c11 => ?_) (fun c11 => ?_)
  · have h := wif_f h c11
    refine lv_iload_n hx hb dJ2_indexOfRange_39 rfl (lv_at hl 3 rfl) ?_
    refine lv_istore (lv' := [(5, .int x2), (4, va_rf v10), (0, va_rf (some x0)), (1, va_rf x1), (2, .int x2), (3, .int x3)]) hx hb dJ2_indexOfRange_40 hl (by decide) (by simp only [List.filter_cons, List.filter_nil, va_rf_cat]; rfl) (fun ls hl => ?_)
    exact hL42 _ _ h ls H locs (lv_sub hl [3, 5, 1, 0] rfl) hW hS
  · have h := wif_t h c11
    refine lv_iload_n hx hb dJ2_indexOfRange_10 rfl (lv_at hl 3 rfl) ?_
    refine lv_istore (lv' := [(5, .int x2), (4, va_rf v10), (0, va_rf (some x0)), (1, va_rf x1), (2, .int x2), (3, .int x3)]) hx hb dJ2_indexOfRange_11 hl (by decide) (by simp only [List.filter_cons, List.filter_nil, va_rf_cat]; rfl) (fun ls hl => ?_)
    exact hL13 _ _ h ls H locs (lv_sub hl [5, 1, 0] rfl) hW hS
theorem ct_J2_indexOfRange (l : Launch) : CT_J2_indexOfRange l 2 41 w_J2_indexOfRange := by
  intro V sz G Q x0 x1 x2 x3
  refine Met.ofW (cc := cJ2_indexOfRange) (maxL := 6) (ret := (some .int)) (by decide) rfl ?_
  intro p e s m args below meth c s₁ B hml hv
  obtain ⟨rfl, hsz, hW, hK, hZ, h⟩ := hv
  subst hsz
  have hts := atoms_spec (ws := (ws_ yJ2_indexOfRange cJ2_indexOfRange 6 (some .int))) B.pre
  have hts : ∀ w ∈ lw_all, w.before _ s = true := fun w h => hts w (List.mem_cons_of_mem _ h)
  have key : ∃ ls : Array Slot, entryFrame m ([.ref x0, va_rf x1, .int x2, .int x3] : List Value).toArray 6 = F0 m 0 ls [] ∧ lv_has ls 6 [(0, va_rf (some x0)), (1, va_rf x1), (2, .int x2), (3, .int x3)] := by
    cases x1 <;> (refine ⟨_, by rw [lg_entry_eq], ?_⟩; exact lv_entry _ (Nat.le_of_ble_eq_true rfl))
  obtain ⟨ls, hfr, hl⟩ := key
  rw [hfr]
  exact wk_J2_indexOfRange Q ⟨⟨B.exec, B.bytes, hml, findClass_of_methodNamed B.named, hts⟩, hK, hZ, fun q h => Or.inr h⟩ (Nat.le_refl _) (Nat.le_refl _) ⟨Nat.le_refl _, Nat.le_refl _⟩ G (fun v pc ls H locs hd hW1 hS hQ => W.iret (v := v) B.exec B.bytes B.returns (fun t ht _ => ⟨⟨v, G, rfl, ⟨rfl, hQ⟩, by rw [← ht] at hW1; exact hW1⟩, hS.F ht⟩) hS.2.2 hd) x0 x1 x2 x3 h ls _ [] hl hW va_S.rf
def CT_J2_indexOf (l : Launch) (fr lo : Nat) (w : XV → (Int32 → Prop) → Nat → (Option Nat) → GM → Prop) : Prop := ∀ (V : XV) (sz : Nat) (G : GM) (Q : Int32 → Prop) (x0 : Nat) (x1 : Option Nat), Met l yJ2_indexOf (ws_ yJ2_indexOf cJ2_indexOf 2 (some .int)) { frames := fr, cells := 0, slots := 0, locals := lo } (va_Pc [.ref x0, va_rf x1] (fun U => U.heap.size = sz ∧ xW V (xA G sz) G U.heap ∧ xK V U ∧ xZ V (xA G sz) U U.heap ∧ w V Q x0 x1 G)) (va_Qi (fun r (u : GM) => u = G ∧ Q r) (fun u t => xW V (xA G sz) u t.heap) (xA G sz)) 0 0 (xA G sz)
theorem call_J2_indexOf_F15_List {p : Program} {l : Launch} {e : Env} {R : Room} {s : State} {m : MethodId} {args : Array Value} {below : List Frame} {meth : Method} {c : Code} {H : Heap} {locs : List Loc} {cells slots : Nat} {Z : State → Prop} {A : Nat → Prop} {cc : ByteArray} {nL pc : Nat} {ls : Array Slot} {rest : List Value} {own : String} {index fr lo : Nat} {w : XV → (Int32 → Prop) → Nat → (Option Nat) → GM → Prop} {V : XV} {G : GM} {count : Nat} {o : Option Nat} {ci : Nat} {x0 : Nat} {x1 : Option Nat} (hM : CT_J2_indexOf l fr lo w) (C : xC p m c s args cc nL own V A) (hW : xW V A G H) (hS : va_S A s.heap H locs) (hlink : Cond.methodLink own index ⟨"java/util/List", "indexOf", "(Ljava/lang/Object;)I"⟩ ∈ lw_all) (ho : o = some x0) (hcv : gCi G (some x0) = some ci) (hci : ci % 64 = 15) (hRf : fr + 1 ≤ R.frames) (hRl : 8 + (2 + 11) + lo ≤ R.locals) (hcs : cells ≤ R.cells ∧ slots ≤ R.slots) (hz : ls.size = nL) (hr8 : (rest.map fun v => v.category).sum ≤ 8) (hdg : decode cc pc = .ok (.invokeinterface index count, 5)) {Q1 : Int32 → Prop} (h : w V Q1 x0 x1 G) (kk : ∀ (r : Int32) (H1 : Heap) (locs1 : List Loc), Q1 r → xW V A G H1 → va_S A s.heap H1 locs1 → xFr V G G H H1 → W p l e R s m args below meth c H1 locs1 cells slots Z (F0 m (pc + 5) ls (.int r :: rest))) : W p l e R s m args below meth c H locs cells slots Z (F0 m pc ls (va_rf x1 :: va_rf o :: rest)) := by
  subst ho
  obtain ⟨fs, hG⟩ := gCi_of hcv
  exact rg_i5r (va_runF (As := [va_rf x1]) (rest := rest) (C.2.1.1 15 _ rfl).2 C.1 (hM V H.size G Q1 x0 x1) (va_cwF (C := "java/util/ArrayList") 1 C.1.2.2.2.2 (lw_F hlink q1141 q1143 q62 q1145) rfl rfl rfl (C.2.1.2.2.2.1 "java/util/ArrayList" ⟨"java/util/List", "indexOf", "(Ljava/lang/Object;)I"⟩ yJ2_indexOf ⟨by decide, q1140, q1139, q1144, q1142, q228⟩) (by decide +kernel) ⟨hRf, hRl⟩) ⟨fun a U g mk q => by obtain ⟨q0, q1, qW, qK, qZ, qw⟩ := q; exact ⟨q0, q1, qW, xK.same (u := U) (U := U.calling g mk a) rfl qK, xZ.moved (u := U) (U := U.calling g mk a) (Vm.Alike.refl U.vm) qZ, qw⟩, (hW.recv C.2.1 hG (r := (RJ2, TJ2, 3)) (by rw [hci]; rfl)), fun U hU hWm => ⟨rfl, by rw [hU], by rw [hU]; exact hW.self _, C.2.1.warm hWm, xZ.call C.2.2.1 hW hS C.2.2.2 hU hWm.alike, h⟩⟩ rfl rfl hz rfl (lv_room hr8) hdg hcs) hW hS C.2.2.2 (fun r H1 locs1 hp hW1 hS1 hF1 => kk r H1 locs1 hp hW1 hS1 hF1)
def w_J2_indexOf (V : XV) (Q : Int32 → Prop) (x0 : Nat) (x1 : Option Nat) (G : GM) : Prop := gGI G 42 (some x0) (fun v1 => gRcv G (some x0) (fun a2 c3 => (c3 % 64 = 15) ∧ (w_J2_indexOfRange V (fun r4 => Q r4) a2 x1 (0 : Int32) v1 G)))
set_option maxRecDepth 100000 in
set_option maxHeartbeats 4000000 in
theorem wk_J2_indexOf {p : Program} {l : Launch} {e : Env} {R : Room} {s : State} {m : MethodId} {args : Array Value} {below : List Frame} {meth : Method} {c : Code} {cells slots : Nat} {Z : State → Prop} {A : Nat → Prop} {V : XV} (Q : Int32 → Prop) (C : xC p m c s args cJ2_indexOf 2 RJ2 V A) (hRf : 3 ≤ R.frames) (hRl : 66 ≤ R.locals) (hcs : cells ≤ R.cells ∧ slots ≤ R.slots) (G : GM) (hret : ∀ (v : Int32) (pc : Nat) (ls : Array Slot) (H : Heap) (locs : List Loc), decode cJ2_indexOf pc = .ok (.ireturn, 1) → xW V A G H → va_S A s.heap H locs → Q v → W p l e R s m args below meth c H locs cells slots Z (F0 m pc ls [.int v])) (x0 : Nat) (x1 : Option Nat) : w_J2_indexOf V Q x0 x1 G → ∀ (ls : Array Slot) (H : Heap) (locs : List Loc), lv_has ls 2 [(0, va_rf (some x0)), (1, va_rf x1)] → xW V A G H → va_S A s.heap H locs → W p l e R s m args below meth c H locs cells slots Z (F0 m 0 ls []) := by
  have hx := C.1.1; have hb := C.1.2.1; have hml := C.1.2.2.1; have hown := C.1.2.2.2.1; have hts := C.1.2.2.2.2
  intro h
  intro ls H locs hl hW hS
  refine sh_aload_n hx hb dJ2_indexOf_0 rfl (lv_at hl 0 rfl) ?_
  refine sh_aload_n hx hb dJ2_indexOf_1 rfl (lv_at hl 1 rfl) ?_
  refine lv_iconst (v := 0) hx hb dJ2_indexOf_2 (by decide) ?_
  refine sh_aload_n hx hb dJ2_indexOf_3 rfl (lv_at hl 0 rfl) ?_
  obtain ⟨v1, h1, h⟩ := h
  refine sh_get C hW xFb_42 q127 (fun _ h => h) h1 dJ2_indexOf_4 ?_
  obtain ⟨a2, c3, ho7, hcv7, h⟩ := h
  have hcc := h.1
  have h := h.2
  refine call_J2_indexOfRange_V (ct_J2_indexOfRange l) C hW hS q1146 ho7 hcv7 hcc (le_lit hRf rfl) (le_lit hRl rfl) hcs hl.1 (Nat.le_of_ble_eq_true rfl) dJ2_indexOf_7 h (fun r4 H locs h hW hS _ => ?_)
  exact hret _ _ _ _ _ dJ2_indexOf_10 hW hS h
theorem ct_J2_indexOf (l : Launch) : CT_J2_indexOf l 3 66 w_J2_indexOf := by
  intro V sz G Q x0 x1
  refine Met.ofW (cc := cJ2_indexOf) (maxL := 2) (ret := (some .int)) (by decide) rfl ?_
  intro p e s m args below meth c s₁ B hml hv
  obtain ⟨rfl, hsz, hW, hK, hZ, h⟩ := hv
  subst hsz
  have hts := atoms_spec (ws := (ws_ yJ2_indexOf cJ2_indexOf 2 (some .int))) B.pre
  have hts : ∀ w ∈ lw_all, w.before _ s = true := fun w h => hts w (List.mem_cons_of_mem _ h)
  have key : ∃ ls : Array Slot, entryFrame m ([.ref x0, va_rf x1] : List Value).toArray 2 = F0 m 0 ls [] ∧ lv_has ls 2 [(0, va_rf (some x0)), (1, va_rf x1)] := by
    cases x1 <;> (refine ⟨_, by rw [lg_entry_eq], ?_⟩; exact lv_entry _ (Nat.le_of_ble_eq_true rfl))
  obtain ⟨ls, hfr, hl⟩ := key
  rw [hfr]
  exact wk_J2_indexOf Q ⟨⟨B.exec, B.bytes, hml, findClass_of_methodNamed B.named, hts⟩, hK, hZ, fun q h => Or.inr h⟩ (Nat.le_refl _) (Nat.le_refl _) ⟨Nat.le_refl _, Nat.le_refl _⟩ G (fun v pc ls H locs hd hW1 hS hQ => W.iret (v := v) B.exec B.bytes B.returns (fun t ht _ => ⟨⟨v, G, rfl, ⟨rfl, hQ⟩, by rw [← ht] at hW1; exact hW1⟩, hS.F ht⟩) hS.2.2 hd) x0 x1 h ls _ [] hl hW va_S.rf
def CT_J2_remove_2 (l : Launch) (fr lo : Nat) (w : XV → (Option Nat → GM → Prop) → Nat → Int32 → GM → Prop) : Prop := ∀ (V : XV) (sz : Nat) (G : GM) (Q : Option Nat → GM → Prop) (x0 : Nat) (x1 : Int32), Met l yJ2_remove_2 (ws_ yJ2_remove_2 cJ2_remove_2 4 (some (.object "java/lang/Object"))) { frames := fr, cells := 0, slots := 0, locals := lo } (va_Pc [.ref x0, .int x1] (fun U => U.heap.size = sz ∧ xW V (xA G sz) G U.heap ∧ xK V U ∧ xZ V (xA G sz) U U.heap ∧ w V Q x0 x1 G)) (va_Qq (fun r (u : GM) => Q r u) (fun u t => xW V (xA G sz) u t.heap) (xA G sz)) 0 0 (xA G sz)
theorem call_J2_remove_2_F15_List {p : Program} {l : Launch} {e : Env} {R : Room} {s : State} {m : MethodId} {args : Array Value} {below : List Frame} {meth : Method} {c : Code} {H : Heap} {locs : List Loc} {cells slots : Nat} {Z : State → Prop} {A : Nat → Prop} {cc : ByteArray} {nL pc : Nat} {ls : Array Slot} {rest : List Value} {own : String} {index fr lo : Nat} {w : XV → (Option Nat → GM → Prop) → Nat → Int32 → GM → Prop} {V : XV} {G : GM} {count : Nat} {o : Option Nat} {ci : Nat} {x0 : Nat} {x1 : Int32} (hM : CT_J2_remove_2 l fr lo w) (C : xC p m c s args cc nL own V A) (hW : xW V A G H) (hS : va_S A s.heap H locs) (hlink : Cond.methodLink own index ⟨"java/util/List", "remove", "(I)Ljava/lang/Object;"⟩ ∈ lw_all) (ho : o = some x0) (hcv : gCi G (some x0) = some ci) (hci : ci % 64 = 15) (hRf : fr + 1 ≤ R.frames) (hRl : 8 + (4 + 11) + lo ≤ R.locals) (hcs : cells ≤ R.cells ∧ slots ≤ R.slots) (hz : ls.size = nL) (hr8 : (rest.map fun v => v.category).sum ≤ 8) (hdg : decode cc pc = .ok (.invokeinterface index count, 5)) {Q1 : Option Nat → GM → Prop} (h : w V Q1 x0 x1 G) (kk : ∀ (r : Option Nat) (G1 : GM) (H1 : Heap) (locs1 : List Loc), Q1 r G1 → xW V A G1 H1 → va_S A s.heap H1 locs1 → xFr V G G1 H H1 → W p l e R s m args below meth c H1 locs1 cells slots Z (F0 m (pc + 5) ls (va_rf r :: rest))) : W p l e R s m args below meth c H locs cells slots Z (F0 m pc ls (.int x1 :: va_rf o :: rest)) := by
  subst ho
  obtain ⟨fs, hG⟩ := gCi_of hcv
  exact rg_q5w (va_runF (As := [.int x1]) (rest := rest) (C.2.1.1 15 _ rfl).2 C.1 (hM V H.size G Q1 x0 x1) (va_cwF (C := "java/util/ArrayList") 1 C.1.2.2.2.2 (lw_F hlink q1154 q1156 q62 q1158) rfl rfl rfl (C.2.1.2.2.2.1 "java/util/ArrayList" ⟨"java/util/List", "remove", "(I)Ljava/lang/Object;"⟩ yJ2_remove_2 ⟨by decide, q1153, q1152, q1157, q1155, q228⟩) (by decide +kernel) ⟨hRf, hRl⟩) ⟨fun a U g mk q => by obtain ⟨q0, q1, qW, qK, qZ, qw⟩ := q; exact ⟨q0, q1, qW, xK.same (u := U) (U := U.calling g mk a) rfl qK, xZ.moved (u := U) (U := U.calling g mk a) (Vm.Alike.refl U.vm) qZ, qw⟩, (hW.recv C.2.1 hG (r := (RJ2, TJ2, 3)) (by rw [hci]; rfl)), fun U hU hWm => ⟨rfl, by rw [hU], by rw [hU]; exact hW.self _, C.2.1.warm hWm, xZ.call C.2.2.1 hW hS C.2.2.2 hU hWm.alike, h⟩⟩ rfl rfl hz rfl (lv_room hr8) hdg hcs) hW hS C.2.2.2 (fun r G1 H1 locs1 hp hW1 hS1 hF1 => kk r G1 H1 locs1 hp hW1 hS1 hF1)
def w_J2_remove_2 (V : XV) (Q : Option Nat → GM → Prop) (x0 : Nat) (x1 : Int32) (G : GM) : Prop := gGI G 42 (some x0) (fun v1 => w_J21_checkIndex V (fun r2 => gGR G 41 (some x0) (fun v3 => gRL G v3 x1 (fun v4 => gRcv G (some x0) (fun a5 c6 => (c6 % 64 = 15) ∧ (w_J2_fastRemove V (fun G7 => Q v4 G7) a5 v3 x1 G))))) x1 v1 G)
set_option maxRecDepth 100000 in
set_option maxHeartbeats 4000000 in
theorem wk_J2_remove_2 {p : Program} {l : Launch} {e : Env} {R : Room} {s : State} {m : MethodId} {args : Array Value} {below : List Frame} {meth : Method} {c : Code} {cells slots : Nat} {Z : State → Prop} {A : Nat → Prop} {V : XV} (Q : Option Nat → GM → Prop) (C : xC p m c s args cJ2_remove_2 4 RJ2 V A) (hRf : 3 ≤ R.frames) (hRl : 83 ≤ R.locals) (hcs : cells ≤ R.cells ∧ slots ≤ R.slots) (G : GM) (hret : ∀ (v : Option Nat) (G : GM) (pc : Nat) (ls : Array Slot) (H : Heap) (locs : List Loc), decode cJ2_remove_2 pc = .ok (.areturn, 1) → xW V A G H → va_S A s.heap H locs → Q v G → W p l e R s m args below meth c H locs cells slots Z (F0 m pc ls [va_rf v])) (x0 : Nat) (x1 : Int32) : w_J2_remove_2 V Q x0 x1 G → ∀ (ls : Array Slot) (H : Heap) (locs : List Loc), lv_has ls 4 [(0, va_rf (some x0)), (1, .int x1)] → xW V A G H → va_S A s.heap H locs → W p l e R s m args below meth c H locs cells slots Z (F0 m 0 ls []) := by
  have hx := C.1.1; have hb := C.1.2.1; have hml := C.1.2.2.1; have hown := C.1.2.2.2.1; have hts := C.1.2.2.2.2
  intro h
  intro ls H locs hl hW hS
  refine lv_iload_n hx hb dJ2_remove_2_0 rfl (lv_at hl 1 rfl) ?_
  refine sh_aload_n hx hb dJ2_remove_2_1 rfl (lv_at hl 0 rfl) ?_
  obtain ⟨v1, h1, h⟩ := h
  refine sh_get C hW xFb_42 q127 (fun _ h => h) h1 dJ2_remove_2_2 ?_
  refine call_J21_checkIndex_S (ct_J21_checkIndex l) C hW hS q779 (le_lit hRf rfl) (le_lit hRl rfl) hcs hl.1 (Nat.le_of_ble_eq_true rfl) dJ2_remove_2_5 h (fun r2 H locs h hW hS _ => ?_)
  refine lv_pop hx hb dJ2_remove_2_8 rfl ?_
  refine sh_aload_n hx hb dJ2_remove_2_9 rfl (lv_at hl 0 rfl) ?_
  obtain ⟨v3, h1, h⟩ := h
  refine sh_get C hW xFb_41 q126 (fun _ h => h) h1 dJ2_remove_2_10 ?_
  refine sh_astore_n (lv' := [(2, va_rf v3), (0, va_rf (some x0)), (1, .int x1)]) hx hb dJ2_remove_2_13 rfl hl (by decide) rfl (fun ls hl => ?_)
  refine sh_aload_n hx hb dJ2_remove_2_14 rfl (lv_at hl 0 rfl) ?_
  refine lv_iload_n hx hb dJ2_remove_2_15 rfl (lv_at hl 2 rfl) ?_
  refine sh_aald C hW h dJ2_remove_2_16 (fun v4 h => ?_)
  refine sh_astore_n (lv' := [(3, va_rf v4), (2, va_rf v3), (0, va_rf (some x0)), (1, .int x1)]) hx hb dJ2_remove_2_17 rfl hl (by decide) (by simp only [List.filter_cons, List.filter_nil, va_rf_cat]; rfl) (fun ls hl => ?_)
  refine sh_aload_n hx hb dJ2_remove_2_18 rfl (lv_at hl 2 rfl) ?_
  refine sh_aload_n hx hb dJ2_remove_2_19 rfl (lv_at hl 1 rfl) ?_
  refine lv_iload_n hx hb dJ2_remove_2_20 rfl (lv_at hl 3 rfl) ?_
  obtain ⟨a5, c6, ho21, hcv21, h⟩ := h
  have hcc := h.1
  have h := h.2
  refine call_J2_fastRemove_V (ct_J2_fastRemove l) C hW hS q1120 ho21 hcv21 hcc (le_lit hRf rfl) (le_lit hRl rfl) hcs hl.1 (Nat.le_of_ble_eq_true rfl) dJ2_remove_2_21 h (fun G7 H locs h hW hS _ => ?_)
  refine sh_aload_n hx hb dJ2_remove_2_24 rfl (lv_at hl 0 rfl) ?_
  exact hret _ _ _ _ _ _ dJ2_remove_2_25 hW hS h
theorem ct_J2_remove_2 (l : Launch) : CT_J2_remove_2 l 3 83 w_J2_remove_2 := by
  intro V sz G Q x0 x1
  refine Met.ofW (cc := cJ2_remove_2) (maxL := 4) (ret := (some (.object "java/lang/Object"))) (by decide) rfl ?_
  intro p e s m args below meth c s₁ B hml hv
  obtain ⟨rfl, hsz, hW, hK, hZ, h⟩ := hv
  subst hsz
  have hts := atoms_spec (ws := (ws_ yJ2_remove_2 cJ2_remove_2 4 (some (.object "java/lang/Object")))) B.pre
  have hts : ∀ w ∈ lw_all, w.before _ s = true := fun w h => hts w (List.mem_cons_of_mem _ h)
  have hl := lv_entry ([.ref x0, .int x1]) (n := 4) (Nat.le_of_ble_eq_true rfl)
  rw [lg_entry_eq]
  generalize (lg_sl ([.ref x0, .int x1]) ++ List.replicate (4 - (lg_sl ([.ref x0, .int x1])).length) Slot.unset).toArray = ls at hl ⊢
  exact wk_J2_remove_2 Q ⟨⟨B.exec, B.bytes, hml, findClass_of_methodNamed B.named, hts⟩, hK, hZ, fun q h => Or.inr h⟩ (Nat.le_refl _) (Nat.le_refl _) ⟨Nat.le_refl _, Nat.le_refl _⟩ G (fun v G pc ls H locs hd hW1 hS hQ => W.aret (v := va_rf v) B.exec B.bytes B.returns (Or.inl ⟨_, rfl⟩) (va_rf_or v) (fun t ht _ => ⟨⟨v, G, rfl, hQ, by rw [← ht] at hW1; exact hW1⟩, hS.F ht⟩) hS.2.2 hd) x0 x1 h ls _ [] hl hW va_S.rf
def CT_J2_rangeCheckForAdd (l : Launch) (fr lo : Nat) (w : XV → (Prop) → Nat → Int32 → GM → Prop) : Prop := ∀ (V : XV) (sz : Nat) (G : GM) (Q : Prop) (x0 : Nat) (x1 : Int32), Met l yJ2_rangeCheckForAdd (ws_ yJ2_rangeCheckForAdd cJ2_rangeCheckForAdd 2 none) { frames := fr, cells := 0, slots := 0, locals := lo } (va_Pc [.ref x0, .int x1] (fun U => U.heap.size = sz ∧ xW V (xA G sz) G U.heap ∧ xK V U ∧ xZ V (xA G sz) U U.heap ∧ w V Q x0 x1 G)) (va_Qv (fun (u : GM) => u = G ∧ Q) (fun u t => xW V (xA G sz) u t.heap) (xA G sz)) 0 0 (xA G sz)
theorem call_J2_rangeCheckForAdd_V {p : Program} {l : Launch} {e : Env} {R : Room} {s : State} {m : MethodId} {args : Array Value} {below : List Frame} {meth : Method} {c : Code} {H : Heap} {locs : List Loc} {cells slots : Nat} {Z : State → Prop} {A : Nat → Prop} {cc : ByteArray} {nL pc : Nat} {ls : Array Slot} {rest : List Value} {own : String} {index fr lo : Nat} {w : XV → (Prop) → Nat → Int32 → GM → Prop} {V : XV} {G : GM} {o : Option Nat} {ci : Nat} {x0 : Nat} {x1 : Int32} (hM : CT_J2_rangeCheckForAdd l fr lo w) (C : xC p m c s args cc nL own V A) (hW : xW V A G H) (hS : va_S A s.heap H locs) (hlink : Cond.methodLink own index yJ2_rangeCheckForAdd ∈ lw_all) (ho : o = some x0) (hcv : gCi G (some x0) = some ci) (hci : ci % 64 = 15) (hRf : fr + 1 ≤ R.frames) (hRl : 8 + (2 + 11) + lo ≤ R.locals) (hcs : cells ≤ R.cells ∧ slots ≤ R.slots) (hz : ls.size = nL) (hr8 : (rest.map fun v => v.category).sum ≤ 8) (hdg : decode cc pc = .ok (.invokevirtual index, 3)) {Q1 : Prop} (h : w V Q1 x0 x1 G) (kk : ∀ (H1 : Heap) (locs1 : List Loc), Q1 → xW V A G H1 → va_S A s.heap H1 locs1 → xFr V G G H H1 → W p l e R s m args below meth c H1 locs1 cells slots Z (F0 m (pc + 3) ls (rest))) : W p l e R s m args below meth c H locs cells slots Z (F0 m pc ls (.int x1 :: va_rf o :: rest)) := by
  subst ho
  obtain ⟨fs, hG⟩ := gCi_of hcv
  exact rg_v3r (va_runV (As := [.int x1]) (rest := rest) C.1 (hM V H.size G Q1 x0 x1) (cwV 1 C.1.2.2.2.2 (lw_V hlink q1170 qs9 q62 q1171) rfl rfl rfl (by decide +kernel) ⟨hRf, hRl⟩) ⟨fun a U g mk q => by obtain ⟨q0, q1, qW, qK, qZ, qw⟩ := q; exact ⟨q0, q1, qW, xK.same (u := U) (U := U.calling g mk a) rfl qK, xZ.moved (u := U) (U := U.calling g mk a) (Vm.Alike.refl U.vm) qZ, qw⟩, (hW.recv C.2.1 hG (r := (RJ2, TJ2, 3)) (by rw [hci]; rfl)), fun U hU hWm => ⟨rfl, by rw [hU], by rw [hU]; exact hW.self _, C.2.1.warm hWm, xZ.call C.2.2.1 hW hS C.2.2.2 hU hWm.alike, h⟩⟩ rfl rfl hz rfl (lv_room hr8) hdg hcs) hW hS C.2.2.2 (fun H1 locs1 hp hW1 hS1 hF1 => kk H1 locs1 hp hW1 hS1 hF1)
def w_J2_rangeCheckForAdd (V : XV) (Q : Prop) (x0 : Nat) (x1 : Int32) (G : GM) : Prop := gGI G 42 (some x0) (fun v1 => if v1 < x1 then (False) else (if 0 ≤ x1 then (Q) else (False)))
set_option maxRecDepth 100000 in
set_option maxHeartbeats 4000000 in
theorem wk_J2_rangeCheckForAdd {p : Program} {l : Launch} {e : Env} {R : Room} {s : State} {m : MethodId} {args : Array Value} {below : List Frame} {meth : Method} {c : Code} {cells slots : Nat} {Z : State → Prop} {A : Nat → Prop} {V : XV} (Q : Prop) (C : xC p m c s args cJ2_rangeCheckForAdd 2 RJ2 V A) (hRf : 12 ≤ R.frames) (hRl : 200 ≤ R.locals) (hcs : cells ≤ R.cells ∧ slots ≤ R.slots) (G : GM) (hret : ∀ (pc : Nat) (ls : Array Slot) (H : Heap) (locs : List Loc), decode cJ2_rangeCheckForAdd pc = .ok (.return_, 1) → xW V A G H → va_S A s.heap H locs → Q → W p l e R s m args below meth c H locs cells slots Z (F0 m pc ls [])) (x0 : Nat) (x1 : Int32) : w_J2_rangeCheckForAdd V Q x0 x1 G → ∀ (ls : Array Slot) (H : Heap) (locs : List Loc), lv_has ls 2 [(0, va_rf (some x0)), (1, .int x1)] → xW V A G H → va_S A s.heap H locs → W p l e R s m args below meth c H locs cells slots Z (F0 m 0 ls []) := by
  have hx := C.1.1; have hb := C.1.2.1; have hml := C.1.2.2.1; have hown := C.1.2.2.2.1; have hts := C.1.2.2.2.2
  intro h
  intro ls H locs hl hW hS
  refine lv_iload_n hx hb dJ2_rangeCheckForAdd_0 rfl (lv_at hl 1 rfl) ?_
  refine sh_aload_n hx hb dJ2_rangeCheckForAdd_1 rfl (lv_at hl 0 rfl) ?_
  obtain ⟨v1, h1, h⟩ := h
  refine sh_get C hW xFb_42 q127 (fun _ h => h) h1 dJ2_rangeCheckForAdd_2 ?_
  refine lv_icmp_gt (tgt := 12) hx hb dJ2_rangeCheckForAdd_5 (by decide) (fun c3 => ?_) (fun c3 => ?_)
  · have h := wif_t h c3
    exact False.elim h
  · have h := wif_f h c3
    refine lv_iload_n hx hb dJ2_rangeCheckForAdd_8 rfl (lv_at hl 1 rfl) ?_
    refine lv_if_ge (tgt := 25) hx hb dJ2_rangeCheckForAdd_9 (by decide) (fun c2 => ?_) (fun c2 => ?_)
    · have h := wif_t h c2
      exact hret  _ _ _ _ dJ2_rangeCheckForAdd_25 hW hS h
    · have h := wif_f h c2
      exact False.elim h
theorem ct_J2_rangeCheckForAdd (l : Launch) : CT_J2_rangeCheckForAdd l 12 200 w_J2_rangeCheckForAdd := by
  intro V sz G Q x0 x1
  refine Met.ofW (cc := cJ2_rangeCheckForAdd) (maxL := 2) (ret := none) (by decide) rfl ?_
  intro p e s m args below meth c s₁ B hml hv
  obtain ⟨rfl, hsz, hW, hK, hZ, h⟩ := hv
  subst hsz
  have hts := atoms_spec (ws := (ws_ yJ2_rangeCheckForAdd cJ2_rangeCheckForAdd 2 none)) B.pre
  have hts : ∀ w ∈ lw_all, w.before _ s = true := fun w h => hts w (List.mem_cons_of_mem _ h)
  have hl := lv_entry ([.ref x0, .int x1]) (n := 2) (Nat.le_of_ble_eq_true rfl)
  rw [lg_entry_eq]
  generalize (lg_sl ([.ref x0, .int x1]) ++ List.replicate (2 - (lg_sl ([.ref x0, .int x1])).length) Slot.unset).toArray = ls at hl ⊢
  exact wk_J2_rangeCheckForAdd Q ⟨⟨B.exec, B.bytes, hml, findClass_of_methodNamed B.named, hts⟩, hK, hZ, fun q h => Or.inr h⟩ (Nat.le_refl _) (Nat.le_refl _) ⟨Nat.le_refl _, Nat.le_refl _⟩ G (fun pc ls H locs hd hW1 hS hQ => W.vret B.exec B.bytes B.returns (fun t ht _ => ⟨⟨G, rfl, ⟨rfl, hQ⟩, by rw [← ht] at hW1; exact hW1⟩, hS.F ht⟩) hS.2.2 hd) x0 x1 h ls _ [] hl hW va_S.rf
def CT_J2_add_3 (l : Launch) (fr lo : Nat) (w : XV → (GM → Prop) → Nat → Int32 → (Option Nat) → GM → Nat → Nat → Prop) : Prop := ∀ (V : XV) (sz : Nat) (G : GM) (Q : GM → Prop) (x0 : Nat) (x1 : Int32) (x2 : Option Nat) (kc ks : Nat), Met l yJ2_add_3 (ws_ yJ2_add_3 cJ2_add_3 5 none) { frames := fr, cells := kc, slots := ks, locals := lo } (va_Pc [.ref x0, .int x1, va_rf x2] (fun U => U.heap.size = sz ∧ xW V (xA G sz) G U.heap ∧ xK V U ∧ xZ V (xA G sz) U U.heap ∧ w V Q x0 x1 x2 G kc ks)) (va_Qv (fun (u : GM) => Q u) (fun u t => xW V (xA G sz) u t.heap) (xA G sz)) kc ks (xA G sz)
theorem call_J2_add_3_F15_List {p : Program} {l : Launch} {e : Env} {R : Room} {s : State} {m : MethodId} {args : Array Value} {below : List Frame} {meth : Method} {c : Code} {H : Heap} {locs : List Loc} {cells slots : Nat} {Z : State → Prop} {A : Nat → Prop} {cc : ByteArray} {nL pc : Nat} {ls : Array Slot} {rest : List Value} {own : String} {index fr lo : Nat} {w : XV → (GM → Prop) → Nat → Int32 → (Option Nat) → GM → Nat → Nat → Prop} {V : XV} {G : GM} {count : Nat} {o : Option Nat} {ci : Nat} {kc ks c1 s1 : Nat} {x0 : Nat} {x1 : Int32} {x2 : Option Nat} (hM : CT_J2_add_3 l fr lo w) (C : xC p m c s args cc nL own V A) (hW : xW V A G H) (hS : va_S A s.heap H locs) (hlink : Cond.methodLink own index ⟨"java/util/List", "add", "(ILjava/lang/Object;)V"⟩ ∈ lw_all) (ho : o = some x0) (hcv : gCi G (some x0) = some ci) (hci : ci % 64 = 15) (hRf : fr + 1 ≤ R.frames) (hRl : 8 + (5 + 11) + lo ≤ R.locals) (hc1 : c1 ≤ kc) (hs1 : s1 ≤ ks) (hkc : cells + kc ≤ R.cells) (hks : slots + ks ≤ R.slots) (hz : ls.size = nL) (hr8 : (rest.map fun v => v.category).sum ≤ 8) (hdg : decode cc pc = .ok (.invokeinterface index count, 5)) {Q1 : GM → Prop} (h : w V Q1 x0 x1 x2 G c1 s1) (kk : ∀ (G1 : GM) (H1 : Heap) (locs1 : List Loc), Q1 G1 → xW V A G1 H1 → va_S A s.heap H1 locs1 → xFr V G G1 H H1 → (cells + c1) + (kc - c1) ≤ R.cells → (slots + s1) + (ks - s1) ≤ R.slots → W p l e R s m args below meth c H1 locs1 (cells + c1) (slots + s1) Z (F0 m (pc + 5) ls (rest))) : W p l e R s m args below meth c H locs cells slots Z (F0 m pc ls (va_rf x2 :: .int x1 :: va_rf o :: rest)) := by
  subst ho
  obtain ⟨fs, hG⟩ := gCi_of hcv
  exact rg_v5w (va_runF (As := [.int x1, va_rf x2]) (rest := rest) (C.2.1.1 15 _ rfl).2 C.1 (hM V H.size G Q1 x0 x1 x2 c1 s1) (va_cwF (C := "java/util/ArrayList") 2 C.1.2.2.2.2 (lw_F hlink q1163 q1165 q62 q1167) rfl rfl rfl (C.2.1.2.2.2.1 "java/util/ArrayList" ⟨"java/util/List", "add", "(ILjava/lang/Object;)V"⟩ yJ2_add_3 ⟨by decide, q1162, q1161, q1166, q1164, q228⟩) (by decide +kernel) ⟨hRf, hRl⟩) ⟨fun a U g mk q => by obtain ⟨q0, q1, qW, qK, qZ, qw⟩ := q; exact ⟨q0, q1, qW, xK.same (u := U) (U := U.calling g mk a) rfl qK, xZ.moved (u := U) (U := U.calling g mk a) (Vm.Alike.refl U.vm) qZ, qw⟩, (hW.recv C.2.1 hG (r := (RJ2, TJ2, 3)) (by rw [hci]; rfl)), fun U hU hWm => ⟨rfl, by rw [hU], by rw [hU]; exact hW.self _, C.2.1.warm hWm, xZ.call C.2.2.1 hW hS C.2.2.2 hU hWm.alike, h⟩⟩ rfl rfl hz rfl (lv_room hr8) hdg ⟨by omega, by omega⟩) hW hS C.2.2.2 (fun G1 H1 locs1 hp hW1 hS1 hF1 => kk G1 H1 locs1 hp hW1 hS1 hF1 (by omega) (by omega))
def w_J2_add_3_38 (V : XV) (Q : GM → Prop) (x0 : Nat) (x1 : Int32) (x2 : Option Nat) (x3 : Int32) (x4 : Option Nat) (G : GM) (kc : Nat) (ks : Nat) : Prop := gCR G x4 x1 x4 (x1 + (1 : Int32)) (x3 - x1) (fun G1 => gRS G1 x4 x1 x2 (fun G2 => gPF G2 42 (some x0) (.int (x3 + (1 : Int32))) (fun G3 => Q G3)))
def w_J2_add_3 (V : XV) (Q : GM → Prop) (x0 : Nat) (x1 : Int32) (x2 : Option Nat) (G : GM) (kc : Nat) (ks : Nat) : Prop := gRcv G (some x0) (fun a4 c5 => (c5 % 64 = 15) ∧ (w_J2_rangeCheckForAdd V (gGI G 40 (some x0) (fun v6 => gPF G 40 (some x0) (.int (v6 + (1 : Int32))) (fun G7 => gGI G7 42 (some x0) (fun v8 => gGR G7 41 (some x0) (fun v9 => gLn G7 v9 (fun v10 => if v8 = v10 then (gRcv G7 (some x0) (fun a11 c12 => (c12 % 64 = 15) ∧ (∃ c15 s16 : Nat, c15 ≤ kc ∧ s16 ≤ ks ∧ (w_J2_grow V (fun r13 G14 => w_J2_add_3_38 V Q x0 x1 x2 v8 r13 G14 (kc - c15) (ks - s16)) a11 G7 c15 s16)))) else (w_J2_add_3_38 V Q x0 x1 x2 v8 v9 G7 kc ks))))))) a4 x1 G))
set_option maxRecDepth 100000 in
set_option maxHeartbeats 4000000 in
theorem wk_J2_add_3 {p : Program} {l : Launch} {e : Env} {R : Room} {s : State} {m : MethodId} {args : Array Value} {below : List Frame} {meth : Method} {c : Code} {Z : State → Prop} {A : Nat → Prop} {V : XV} (Q : GM → Prop) (C : xC p m c s args cJ2_add_3 5 RJ2 V A) (hRf : 13 ≤ R.frames) (hRl : 221 ≤ R.locals) (G : GM) (hret : ∀ (G : GM) (pc : Nat) (ls : Array Slot) (H : Heap) (locs : List Loc) (cells slots : Nat) {k1 k2 : Nat}, decode cJ2_add_3 pc = .ok (.return_, 1) → xW V A G H → va_S A s.heap H locs → cells + k1 ≤ R.cells → slots + k2 ≤ R.slots → Q G → W p l e R s m args below meth c H locs cells slots Z (F0 m pc ls [])) (x0 : Nat) (x1 : Int32) (x2 : Option Nat) (kc ks : Nat) : w_J2_add_3 V Q x0 x1 x2 G kc ks → ∀ (ls : Array Slot) (H : Heap) (locs : List Loc) (cells slots : Nat), lv_has ls 5 [(0, va_rf (some x0)), (1, .int x1), (2, va_rf x2)] → xW V A G H → va_S A s.heap H locs → cells + kc ≤ R.cells → slots + ks ≤ R.slots → W p l e R s m args below meth c H locs cells slots Z (F0 m 0 ls []) := by
  have hx := C.1.1; have hb := C.1.2.1; have hml := C.1.2.2.1; have hown := C.1.2.2.2.1; have hts := C.1.2.2.2.2
  have hb38 : ∀ (x3 : Int32) (x4 : Option Nat) (G : GM) (kc : Nat) (ks : Nat), w_J2_add_3_38 V Q x0 x1 x2 x3 x4 G kc ks → ∀ (ls : Array Slot) (H : Heap) (locs : List Loc) (cells slots : Nat), lv_has ls 5 [(0, va_rf (some x0)), (1, .int x1), (2, va_rf x2), (3, .int x3), (4, va_rf x4)] → xW V A G H → va_S A s.heap H locs → cells + kc ≤ R.cells → slots + ks ≤ R.slots → W p l e R s m args below meth c H locs cells slots Z (F0 m 38 ls []) := by
    intro x3 x4 G kc ks h
    intro ls H locs cells slots hl hW hS hkc hks
    refine sh_aload hx hb dJ2_add_3_38 (lv_at hl 4 rfl) ?_
    refine lv_iload_n hx hb dJ2_add_3_40 rfl (lv_at hl 1 rfl) ?_
    refine sh_aload hx hb dJ2_add_3_41 (lv_at hl 4 rfl) ?_
    refine lv_iload_n hx hb dJ2_add_3_43 rfl (lv_at hl 1 rfl) ?_
    refine lv_iconst (v := 1) hx hb dJ2_add_3_44 (by decide) ?_
    refine lv_iadd hx hb dJ2_add_3_45 ?_
    refine lv_iload_n hx hb dJ2_add_3_46 rfl (lv_at hl 3 rfl) ?_
    refine lv_iload_n hx hb dJ2_add_3_47 rfl (lv_at hl 1 rfl) ?_
    refine lv_isub hx hb dJ2_add_3_48 ?_
    refine sh_copyR C hW hS q1124 q303 q302 q77 hl.1 (le_lit hRf rfl) (Nat.le_trans (show _ ≤ 60 by first | decide | (simp [va_rf_cat, Value.category]; decide)) (le_lit hRl rfl)) h dJ2_add_3_49 (fun G1 H locs hW hS h => ?_)
    refine sh_aload hx hb dJ2_add_3_52 (lv_at hl 4 rfl) ?_
    refine lv_iload_n hx hb dJ2_add_3_54 rfl (lv_at hl 1 rfl) ?_
    refine sh_aload_n hx hb dJ2_add_3_55 rfl (lv_at hl 2 rfl) ?_
    refine sh_aast C hW hS h dJ2_add_3_56 (fun G2 H locs hW hS h => ?_)
    refine sh_aload_n hx hb dJ2_add_3_57 rfl (lv_at hl 0 rfl) ?_
    refine lv_iload_n hx hb dJ2_add_3_58 rfl (lv_at hl 3 rfl) ?_
    refine lv_iconst (v := 1) hx hb dJ2_add_3_59 (by decide) ?_
    refine lv_iadd hx hb dJ2_add_3_60 ?_
    refine sh_put C hW hS xFb_42 q127 (fun _ h => h) xFd_42 rfl rfl h dJ2_add_3_61 (fun G3 H locs hW hS h => ?_)
    exact hret _ _ _ _ _ _ _ dJ2_add_3_64 hW hS hkc hks h
  intro h
  intro ls H locs cells slots hl hW hS hkc hks
  refine sh_aload_n hx hb dJ2_add_3_0 rfl (lv_at hl 0 rfl) ?_
  refine lv_iload_n hx hb dJ2_add_3_1 rfl (lv_at hl 1 rfl) ?_
  obtain ⟨a4, c5, ho2, hcv2, h⟩ := h
  have hcc := h.1
  have h := h.2
  refine call_J2_rangeCheckForAdd_V (ct_J2_rangeCheckForAdd l) C hW hS q1168 ho2 hcv2 hcc (le_lit hRf rfl) (le_lit hRl rfl) ⟨Nat.le_trans (Nat.le_add_right _ _) hkc, Nat.le_trans (Nat.le_add_right _ _) hks⟩ hl.1 (Nat.le_of_ble_eq_true rfl) dJ2_add_3_2 h (fun  H locs h hW hS _ => ?_)
  refine sh_aload_n hx hb dJ2_add_3_5 rfl (lv_at hl 0 rfl) ?_
  refine lv_dup hx hb dJ2_add_3_6 (va_rf_cat _) ?_
  obtain ⟨v6, h1, h⟩ := h
  refine sh_get C hW xFb_40 q129 (u_same (hts _ q130)) h1 dJ2_add_3_7 ?_
  refine lv_iconst (v := 1) hx hb dJ2_add_3_10 (by decide) ?_
  refine lv_iadd hx hb dJ2_add_3_11 ?_
  refine sh_put C hW hS xFb_40 q129 (u_same (hts _ q130)) xFd_40 rfl rfl h dJ2_add_3_12 (fun G7 H locs hW hS h => ?_)
  refine sh_aload_n hx hb dJ2_add_3_15 rfl (lv_at hl 0 rfl) ?_
  obtain ⟨v8, h1, h⟩ := h
  refine sh_get C hW xFb_42 q127 (fun _ h => h) h1 dJ2_add_3_16 ?_
  refine lv_dup hx hb dJ2_add_3_19 rfl ?_
  refine lv_istore_n (lv' := [(3, .int v8), (0, va_rf (some x0)), (1, .int x1), (2, va_rf x2)]) hx hb dJ2_add_3_20 rfl hl (by decide) (by simp only [List.filter_cons, List.filter_nil, va_rf_cat]; rfl) (fun ls hl => ?_)
  refine sh_aload_n hx hb dJ2_add_3_21 rfl (lv_at hl 1 rfl) ?_
  obtain ⟨v9, h1, h⟩ := h
  refine sh_get C hW xFb_41 q126 (fun _ h => h) h1 dJ2_add_3_22 ?_
  refine lv_dup hx hb dJ2_add_3_25 (va_rf_cat _) ?_
  refine sh_astore (lv' := [(4, va_rf v9), (3, .int v8), (0, va_rf (some x0)), (1, .int x1), (2, va_rf x2)]) hx hb dJ2_add_3_26 hl (by decide) rfl (fun ls hl => ?_)
  refine sh_len C hW h dJ2_add_3_28 (fun v10 h => ?_)
  refine lv_icmp_ne (tgt := 38) hx hb dJ2_add_3_29 (by decide) (fun c17 => ?_) (fun c17 => ?_)
  · have h := wif_f h c17
    exact hb38 _ _ _ _ _ h ls H locs _ _ (lv_sub hl [2, 3, 4, 1, 0] rfl) hW hS hkc hks
  · have h := wif_t h c17
    refine sh_aload_n hx hb dJ2_add_3_32 rfl (lv_at hl 2 rfl) ?_
    obtain ⟨a11, c12, ho33, hcv33, h⟩ := h
    have hcc := h.1
    have h := h.2
    obtain ⟨c15, s16, hc33, hs33, h⟩ := h
    refine call_J2_grow_V (ct_J2_grow l) C hW hS q688 ho33 hcv33 hcc (le_lit hRf rfl) (le_lit hRl rfl) hc33 hs33 hkc hks hl.1 (Nat.le_of_ble_eq_true rfl) dJ2_add_3_33 h (fun r13 G14 H locs h hW hS _ hkc hks => ?_)
    refine sh_astore (lv' := [(4, va_rf r13), (3, .int v8), (0, va_rf (some x0)), (1, .int x1), (2, va_rf x2)]) hx hb dJ2_add_3_36 hl (by decide) rfl (fun ls hl => ?_)
    exact hb38 _ _ _ _ _ h ls H locs _ _ (lv_sub hl [2, 3, 4, 1, 0] rfl) hW hS hkc hks
theorem ct_J2_add_3 (l : Launch) : CT_J2_add_3 l 13 221 w_J2_add_3 := by
  intro V sz G Q x0 x1 x2 kc ks
  refine Met.ofW (cc := cJ2_add_3) (maxL := 5) (ret := none) (by decide) rfl ?_
  intro p e s m args below meth c s₁ B hml hv
  obtain ⟨rfl, hsz, hW, hK, hZ, h⟩ := hv
  subst hsz
  have hts := atoms_spec (ws := (ws_ yJ2_add_3 cJ2_add_3 5 none)) B.pre
  have hts : ∀ w ∈ lw_all, w.before _ s = true := fun w h => hts w (List.mem_cons_of_mem _ h)
  have key : ∃ ls : Array Slot, entryFrame m ([.ref x0, .int x1, va_rf x2] : List Value).toArray 5 = F0 m 0 ls [] ∧ lv_has ls 5 [(0, va_rf (some x0)), (1, .int x1), (2, va_rf x2)] := by
    cases x2 <;> (refine ⟨_, by rw [lg_entry_eq], ?_⟩; exact lv_entry _ (Nat.le_of_ble_eq_true rfl))
  obtain ⟨ls, hfr, hl⟩ := key
  rw [hfr]
  exact wk_J2_add_3 Q ⟨⟨B.exec, B.bytes, hml, findClass_of_methodNamed B.named, hts⟩, hK, hZ, fun q h => Or.inr h⟩ (Nat.le_refl _) (Nat.le_refl _) G (fun G pc ls H locs cells slots _ _ hd hW1 hS hkc hks hQ => W.widen (k := kc) (n := ks) (Nat.le_trans (Nat.le_add_right _ _) hkc) (Nat.le_trans (Nat.le_add_right _ _) hks) (W.vret B.exec B.bytes B.returns (fun t ht _ => ⟨⟨G, rfl, hQ, by rw [← ht] at hW1; exact hW1⟩, hS.F ht⟩) hS.2.2 hd)) x0 x1 x2 kc ks h ls _ [] 0 0 hl hW va_S.rf (by show 0 + kc ≤ kc; omega) (by show 0 + ks ≤ ks; omega)
def CT_J3_init (l : Launch) (fr lo : Nat) (w : XV → (GM → Prop) → Nat → Int32 → GM → Nat → Nat → Prop) : Prop := ∀ (V : XV) (sz : Nat) (G : GM) (Q : GM → Prop) (x0 : Nat) (x1 : Int32) (kc ks : Nat), Met l yJ3_init (ws_ yJ3_init cJ3_init 2 none) { frames := fr, cells := kc, slots := ks, locals := lo } (va_Pc [.ref x0, .int x1] (fun U => U.heap.size = sz ∧ xW V (xA G sz) G U.heap ∧ xK V U ∧ xZ V (xA G sz) U U.heap ∧ w V Q x0 x1 G kc ks)) (va_Qv (fun (u : GM) => Q u) (fun u t => xW V (xA G sz) u t.heap) (xA G sz)) kc ks (xA G sz)
theorem call_J3_init_I {p : Program} {l : Launch} {e : Env} {R : Room} {s : State} {m : MethodId} {args : Array Value} {below : List Frame} {meth : Method} {c : Code} {H : Heap} {locs : List Loc} {cells slots : Nat} {Z : State → Prop} {A : Nat → Prop} {cc : ByteArray} {nL pc : Nat} {ls : Array Slot} {rest : List Value} {own : String} {index fr lo : Nat} {w : XV → (GM → Prop) → Nat → Int32 → GM → Nat → Nat → Prop} {V : XV} {G : GM} {o : Option Nat} {kc ks c1 s1 : Nat} {x0 : Nat} {x1 : Int32} (hM : CT_J3_init l fr lo w) (C : xC p m c s args cc nL own V A) (hW : xW V A G H) (hS : va_S A s.heap H locs) (hlink : Cond.methodLink own index yJ3_init ∈ lw_all) (ho : o = some x0) (hRf : fr + 1 ≤ R.frames) (hRl : 8 + (2 + 11) + lo ≤ R.locals) (hc1 : c1 ≤ kc) (hs1 : s1 ≤ ks) (hkc : cells + kc ≤ R.cells) (hks : slots + ks ≤ R.slots) (hz : ls.size = nL) (hr8 : (rest.map fun v => v.category).sum ≤ 8) (hdg : decode cc pc = .ok (.invokespecial index, 3)) {Q1 : GM → Prop} (h : w V Q1 x0 x1 G c1 s1) (kk : ∀ (G1 : GM) (H1 : Heap) (locs1 : List Loc), Q1 G1 → xW V A G1 H1 → va_S A s.heap H1 locs1 → xFr V G G1 H H1 → (cells + c1) + (kc - c1) ≤ R.cells → (slots + s1) + (ks - s1) ≤ R.slots → W p l e R s m args below meth c H1 locs1 (cells + c1) (slots + s1) Z (F0 m (pc + 3) ls (rest))) : W p l e R s m args below meth c H locs cells slots Z (F0 m pc ls (.int x1 :: va_rf o :: rest)) := by
  subst ho
  exact rg_v3w (va_runI (As := [.int x1]) (rest := rest) C.1 (hM V H.size G Q1 x0 x1 c1 s1) (cwI 1 C.1.2.2.2.2 (lw_meth q147) rfl rfl rfl (C.1.2.2.2.2 _ q63) (C.1.2.2.2.2 _ hlink) (C.1.2.2.2.2 _ q146) rfl (by decide +kernel) ⟨hRf, hRl⟩) ⟨fun a U g mk q => by obtain ⟨q0, q1, qW, qK, qZ, qw⟩ := q; exact ⟨q0, q1, qW, xK.same (u := U) (U := U.calling g mk a) rfl qK, xZ.moved (u := U) (U := U.calling g mk a) (Vm.Alike.refl U.vm) qZ, qw⟩, fun U hU hWm => ⟨rfl, by rw [hU], by rw [hU]; exact hW.self _, C.2.1.warm hWm, xZ.call C.2.2.1 hW hS C.2.2.2 hU hWm.alike, h⟩⟩ rfl rfl hz rfl (lv_room hr8) hdg ⟨by omega, by omega⟩) hW hS C.2.2.2 (fun G1 H1 locs1 hp hW1 hS1 hF1 => kk G1 H1 locs1 hp hW1 hS1 hF1 (by omega) (by omega))
def w_J3_init (V : XV) (Q : GM → Prop) (x0 : Nat) (x1 : Int32) (G : GM) (kc : Nat) (ks : Nat) : Prop := ∃ v1, xst V "java/lang/String" "COMPACT_STRINGS" = .int v1 ∧ (if v1 = 0 then (False) else (gNa G 2 (fun N => (N, .inl (fun _ => 0))) x1 kc ks (fun q2 n3 G4 => gPF G4 43 (some x0) (va_rf (some q2)) (fun G5 => (narrow .byte (.int (0 : Int32)) = .int (0 : Int32) ∧ fits .byte (.int (0 : Int32)) = true) ∧ (gPF G5 44 (some x0) (.int (0 : Int32)) (fun G6 => Q G6))))))
set_option maxRecDepth 100000 in
set_option maxHeartbeats 4000000 in
theorem wk_J3_init {p : Program} {l : Launch} {e : Env} {R : Room} {s : State} {m : MethodId} {args : Array Value} {below : List Frame} {meth : Method} {c : Code} {Z : State → Prop} {A : Nat → Prop} {V : XV} (Q : GM → Prop) (C : xC p m c s args cJ3_init 2 RJ3 V A) (hin : meth.name = "<init>") (hRf : 1 ≤ R.frames) (hRl : 20 ≤ R.locals) (G : GM) (hret : ∀ (G : GM) (pc : Nat) (ls : Array Slot) (H : Heap) (locs : List Loc) (cells slots : Nat) {k1 k2 : Nat}, decode cJ3_init pc = .ok (.return_, 1) → xW V A G H → va_S A s.heap H locs → cells + k1 ≤ R.cells → slots + k2 ≤ R.slots → Q G → W p l e R s m args below meth c H locs cells slots Z (F0 m pc ls [])) (x0 : Nat) (x1 : Int32) (kc ks : Nat) : w_J3_init V Q x0 x1 G kc ks → ∀ (ls : Array Slot) (H : Heap) (locs : List Loc) (cells slots : Nat), lv_has ls 2 [(0, va_rf (some x0)), (1, .int x1)] → xW V A G H → va_S A s.heap H locs → cells + kc ≤ R.cells → slots + ks ≤ R.slots → W p l e R s m args below meth c H locs cells slots Z (F0 m 0 ls []) := by
  have hx := C.1.1; have hb := C.1.2.1; have hml := C.1.2.2.1; have hown := C.1.2.2.2.1; have hts := C.1.2.2.2.2
  intro h
  intro ls H locs cells slots hl hW hS hkc hks
  refine sh_aload_n hx hb dJ3_init_0 rfl (lv_at hl 0 rfl) ?_
  refine sh_objInit C q148 q110 q111 hl.1 (le_lit hRf rfl) (le_lit hRl rfl) (Nat.le_of_ble_eq_true rfl) dJ3_init_1 ?_
  refine sh_getsI C hS q150 q149 (fun _ h => h) h dJ3_init_4 (fun v1 h => ?_)
  refine lv_if_eq (tgt := 25) hx hb dJ3_init_7 (by decide) (fun c7 => ?_) (fun c7 => ?_)
  · have h := wif_t h c7
    refine sh_aload_n hx hb dJ3_init_25 rfl (lv_at hl 0 rfl) ?_
    refine lv_iload_n hx hb dJ3_init_26 rfl (lv_at hl 1 rfl) ?_
    exact False.elim h
  · have h := wif_f h c7
    refine sh_aload_n hx hb dJ3_init_10 rfl (lv_at hl 0 rfl) ?_
    refine lv_iload_n hx hb dJ3_init_11 rfl (lv_at hl 1 rfl) ?_
    refine sh_newa C hW hS (atype := .byte) (t := 2) rfl (by decide) q172 (fun _ _ => rfl) (by decide) h hkc hks dJ3_init_12 (fun q2 n3 G4 H hW hS h hN hkc hks => ?_)
    refine sh_put C hW hS xFb_43 q158 (fun _ h => h) xFd_43 (rf_nar_a _ _) (rf_fit_a _ _) h dJ3_init_14 (fun G5 H locs hW hS h => ?_)
    refine sh_aload_n hx hb dJ3_init_17 rfl (lv_at hl 0 rfl) ?_
    refine lv_iconst (v := 0) hx hb dJ3_init_18 (by decide) ?_
    have hz := h.1
    have h := h.2
    refine sh_put C hW hS xFb_44 q159 (fun _ h => h) xFd_44 hz.1 hz.2 h dJ3_init_19 (fun G6 H locs hW hS h => ?_)
    refine lv_goto (tgt := 38) hx hb dJ3_init_22 (by decide) ?_
    exact hret _ _ _ _ _ _ _ dJ3_init_38 hW hS hkc hks h
theorem ct_J3_init (l : Launch) : CT_J3_init l 1 20 w_J3_init := by
  intro V sz G Q x0 x1 kc ks
  refine Met.ofW (cc := cJ3_init) (maxL := 2) (ret := none) (by decide) rfl ?_
  intro p e s m args below meth c s₁ B hml hv
  obtain ⟨rfl, hsz, hW, hK, hZ, h⟩ := hv
  subst hsz
  have hts := atoms_spec (ws := (ws_ yJ3_init cJ3_init 2 none)) B.pre
  have hts : ∀ w ∈ lw_all, w.before _ s = true := fun w h => hts w (List.mem_cons_of_mem _ h)
  have hl := lv_entry ([.ref x0, .int x1]) (n := 2) (Nat.le_of_ble_eq_true rfl)
  rw [lg_entry_eq]
  generalize (lg_sl ([.ref x0, .int x1]) ++ List.replicate (2 - (lg_sl ([.ref x0, .int x1])).length) Slot.unset).toArray = ls at hl ⊢
  exact wk_J3_init Q ⟨⟨B.exec, B.bytes, hml, findClass_of_methodNamed B.named, hts⟩, hK, hZ, fun q h => Or.inr h⟩ (name_of_methodNamed B.named B.method).1 (Nat.le_refl _) (Nat.le_refl _) G (fun G pc ls H locs cells slots _ _ hd hW1 hS hkc hks hQ => W.widen (k := kc) (n := ks) (Nat.le_trans (Nat.le_add_right _ _) hkc) (Nat.le_trans (Nat.le_add_right _ _) hks) (W.vret B.exec B.bytes B.returns (fun t ht _ => ⟨⟨G, rfl, hQ, by rw [← ht] at hW1; exact hW1⟩, hS.F ht⟩) hS.2.2 hd)) x0 x1 kc ks h ls _ [] 0 0 hl hW va_S.rf (by show 0 + kc ≤ kc; omega) (by show 0 + ks ≤ ks; omega)
def CT_J3_newCapacity (l : Launch) (fr lo : Nat) (w : XV → (Int32 → Prop) → Nat → Int32 → GM → Prop) : Prop := ∀ (V : XV) (sz : Nat) (G : GM) (Q : Int32 → Prop) (x0 : Nat) (x1 : Int32), Met l yJ3_newCapacity (ws_ yJ3_newCapacity cJ3_newCapacity 6 (some .int)) { frames := fr, cells := 0, slots := 0, locals := lo } (va_Pc [.ref x0, .int x1] (fun U => U.heap.size = sz ∧ xW V (xA G sz) G U.heap ∧ xK V U ∧ xZ V (xA G sz) U U.heap ∧ w V Q x0 x1 G)) (va_Qi (fun r (u : GM) => u = G ∧ Q r) (fun u t => xW V (xA G sz) u t.heap) (xA G sz)) 0 0 (xA G sz)
theorem call_J3_newCapacity_P16_AbstractStringBuilder {p : Program} {l : Launch} {e : Env} {R : Room} {s : State} {m : MethodId} {args : Array Value} {below : List Frame} {meth : Method} {c : Code} {H : Heap} {locs : List Loc} {cells slots : Nat} {Z : State → Prop} {A : Nat → Prop} {cc : ByteArray} {nL pc : Nat} {ls : Array Slot} {rest : List Value} {own : String} {index fr lo : Nat} {w : XV → (Int32 → Prop) → Nat → Int32 → GM → Prop} {V : XV} {G : GM} {o : Option Nat} {ci : Nat} {x0 : Nat} {x1 : Int32} (hM : CT_J3_newCapacity l fr lo w) (C : xC p m c s args cc nL own V A) (hW : xW V A G H) (hS : va_S A s.heap H locs) (hlink : Cond.methodLink own index ⟨"java/lang/AbstractStringBuilder", "newCapacity", "(I)I"⟩ ∈ lw_all) (ho : o = some x0) (hcv : gCi G (some x0) = some ci) (hci : ci % 64 = 16) (hRf : fr + 1 ≤ R.frames) (hRl : 8 + (6 + 11) + lo ≤ R.locals) (hcs : cells ≤ R.cells ∧ slots ≤ R.slots) (hz : ls.size = nL) (hr8 : (rest.map fun v => v.category).sum ≤ 8) (hdg : decode cc pc = .ok (.invokevirtual index, 3)) {Q1 : Int32 → Prop} (h : w V Q1 x0 x1 G) (kk : ∀ (r : Int32) (H1 : Heap) (locs1 : List Loc), Q1 r → xW V A G H1 → va_S A s.heap H1 locs1 → xFr V G G H H1 → W p l e R s m args below meth c H1 locs1 cells slots Z (F0 m (pc + 3) ls (.int r :: rest))) : W p l e R s m args below meth c H locs cells slots Z (F0 m pc ls (.int x1 :: va_rf o :: rest)) := by
  subst ho
  obtain ⟨fs, hG⟩ := gCi_of hcv
  exact rg_i3r (va_runV (C := "java/lang/StringBuilder") (As := [.int x1]) (rest := rest) C.1 (hM V H.size G Q1 x0 x1) ⟨callB_of 1 C.1.2.2.2.2 (lw_meth q276) rfl rfl rfl (C.1.2.2.2.2 _ q63) (C.1.2.2.2.2 _ hlink) (by decide +kernel) ⟨hRf, hRl⟩, C.1.2.2.2.2 _ q275, va_Nw.use rfl (C.2.1.2.2.2.2.2.2.2.2.1 ("java/lang/StringBuilder", yJ3_newCapacity) (by decide +kernel))⟩ ⟨fun a U g mk q => by obtain ⟨q0, q1, qW, qK, qZ, qw⟩ := q; exact ⟨q0, q1, qW, xK.same (u := U) (U := U.calling g mk a) rfl qK, xZ.moved (u := U) (U := U.calling g mk a) (Vm.Alike.refl U.vm) qZ, qw⟩, (hW.recv C.2.1 hG (r := (RJ4, TJ4, 4)) (by rw [hci]; rfl)), fun U hU hWm => ⟨rfl, by rw [hU], by rw [hU]; exact hW.self _, C.2.1.warm hWm, xZ.call C.2.2.1 hW hS C.2.2.2 hU hWm.alike, h⟩⟩ rfl rfl hz rfl (lv_room hr8) hdg hcs) hW hS C.2.2.2 (fun r H1 locs1 hp hW1 hS1 hF1 => kk r H1 locs1 hp hW1 hS1 hF1)
def w_J3_newCapacity (V : XV) (Q : Int32 → Prop) (x0 : Nat) (x1 : Int32) (G : GM) : Prop := gGR G 43 (some x0) (fun v1 => gLn G v1 (fun v2 => gGI G 44 (some x0) (fun v3 => gGI G 44 (some x0) (fun v4 => w_J12_newLength V (fun r5 => if r5 = (2147483647 : Int32) then (False) else (gGI G 44 (some x0) (fun v6 => Q (r5 >>> (v6 &&& 31))))) v2 ((x1 <<< (v3 &&& 31)) - v2) (v2 + ((2 : Int32) <<< (v4 &&& 31))) G))))
set_option maxRecDepth 100000 in
set_option maxHeartbeats 4000000 in
theorem wk_J3_newCapacity {p : Program} {l : Launch} {e : Env} {R : Room} {s : State} {m : MethodId} {args : Array Value} {below : List Frame} {meth : Method} {c : Code} {cells slots : Nat} {Z : State → Prop} {A : Nat → Prop} {V : XV} (Q : Int32 → Prop) (C : xC p m c s args cJ3_newCapacity 6 RJ3 V A) (hRf : 12 ≤ R.frames) (hRl : 200 ≤ R.locals) (hcs : cells ≤ R.cells ∧ slots ≤ R.slots) (G : GM) (hret : ∀ (v : Int32) (pc : Nat) (ls : Array Slot) (H : Heap) (locs : List Loc), decode cJ3_newCapacity pc = .ok (.ireturn, 1) → xW V A G H → va_S A s.heap H locs → Q v → W p l e R s m args below meth c H locs cells slots Z (F0 m pc ls [.int v])) (x0 : Nat) (x1 : Int32) : w_J3_newCapacity V Q x0 x1 G → ∀ (ls : Array Slot) (H : Heap) (locs : List Loc), lv_has ls 6 [(0, va_rf (some x0)), (1, .int x1)] → xW V A G H → va_S A s.heap H locs → W p l e R s m args below meth c H locs cells slots Z (F0 m 0 ls []) := by
  have hx := C.1.1; have hb := C.1.2.1; have hml := C.1.2.2.1; have hown := C.1.2.2.2.1; have hts := C.1.2.2.2.2
  intro h
  intro ls H locs hl hW hS
  refine sh_aload_n hx hb dJ3_newCapacity_0 rfl (lv_at hl 0 rfl) ?_
  obtain ⟨v1, h1, h⟩ := h
  refine sh_get C hW xFb_43 q158 (fun _ h => h) h1 dJ3_newCapacity_1 ?_
  refine sh_len C hW h dJ3_newCapacity_4 (fun v2 h => ?_)
  refine lv_istore_n (lv' := [(2, .int v2), (0, va_rf (some x0)), (1, .int x1)]) hx hb dJ3_newCapacity_5 rfl hl (by decide) rfl (fun ls hl => ?_)
  refine lv_iload_n hx hb dJ3_newCapacity_6 rfl (lv_at hl 2 rfl) ?_
  refine sh_aload_n hx hb dJ3_newCapacity_7 rfl (lv_at hl 1 rfl) ?_
  obtain ⟨v3, h1, h⟩ := h
  refine sh_get C hW xFb_44 q159 (fun _ h => h) h1 dJ3_newCapacity_8 ?_
  refine lv_ishl hx hb dJ3_newCapacity_11 ?_
  refine lv_istore_n (lv' := [(3, .int (x1 <<< (v3 &&& 31))), (2, .int v2), (0, va_rf (some x0)), (1, .int x1)]) hx hb dJ3_newCapacity_12 rfl hl (by decide) rfl (fun ls hl => ?_)
  refine lv_iload_n hx hb dJ3_newCapacity_13 rfl (lv_at hl 0 rfl) ?_
  refine lv_iload_n hx hb dJ3_newCapacity_14 rfl (lv_at hl 1 rfl) ?_
  refine lv_isub hx hb dJ3_newCapacity_15 ?_
  refine lv_istore (lv' := [(4, .int ((x1 <<< (v3 &&& 31)) - v2)), (3, .int (x1 <<< (v3 &&& 31))), (2, .int v2), (0, va_rf (some x0)), (1, .int x1)]) hx hb dJ3_newCapacity_16 hl (by decide) rfl (fun ls hl => ?_)
  refine lv_iload_n hx hb dJ3_newCapacity_18 rfl (lv_at hl 2 rfl) ?_
  refine lv_iload hx hb dJ3_newCapacity_19 (lv_at hl 0 rfl) ?_
  refine lv_iload_n hx hb dJ3_newCapacity_21 rfl (lv_at hl 2 rfl) ?_
  refine lv_iconst (v := 2) hx hb dJ3_newCapacity_22 (by decide) ?_
  refine sh_aload_n hx hb dJ3_newCapacity_23 rfl (lv_at hl 3 rfl) ?_
  obtain ⟨v4, h1, h⟩ := h
  refine sh_get C hW xFb_44 q159 (fun _ h => h) h1 dJ3_newCapacity_24 ?_
  refine lv_ishl hx hb dJ3_newCapacity_27 ?_
  refine lv_iadd hx hb dJ3_newCapacity_28 ?_
  refine call_J12_newLength_S (ct_J12_newLength l) C hW hS q277 (le_lit hRf rfl) (le_lit hRl rfl) hcs hl.1 (Nat.le_of_ble_eq_true rfl) dJ3_newCapacity_29 h (fun r5 H locs h hW hS _ => ?_)
  refine lv_istore (lv' := [(5, .int r5), (4, .int ((x1 <<< (v3 &&& 31)) - v2)), (3, .int (x1 <<< (v3 &&& 31))), (2, .int v2), (0, va_rf (some x0)), (1, .int x1)]) hx hb dJ3_newCapacity_32 hl (by decide) rfl (fun ls hl => ?_)
  refine lv_iload hx hb dJ3_newCapacity_34 (lv_at hl 0 rfl) ?_
  refine lv_ldc hx hb hown (hts _ q287) dJ3_newCapacity_36 ?_
  refine lv_icmp_ne (tgt := 51) hx hb dJ3_newCapacity_38 (by decide) (fun c7 => ?_) (fun c7 => ?_)
  · have h := wif_f h c7
    refine lv_iload hx hb dJ3_newCapacity_51 (lv_at hl 0 rfl) ?_
    refine sh_aload_n hx hb dJ3_newCapacity_53 rfl (lv_at hl 4 rfl) ?_
    obtain ⟨v6, h1, h⟩ := h
    refine sh_get C hW xFb_44 q159 (fun _ h => h) h1 dJ3_newCapacity_54 ?_
    refine lv_ishr hx hb dJ3_newCapacity_57 ?_
    exact hret _ _ _ _ _ dJ3_newCapacity_58 hW hS h
  · have h := wif_t h c7
    exact False.elim h
theorem ct_J3_newCapacity (l : Launch) : CT_J3_newCapacity l 12 200 w_J3_newCapacity := by
  intro V sz G Q x0 x1
  refine Met.ofW (cc := cJ3_newCapacity) (maxL := 6) (ret := (some .int)) (by decide) rfl ?_
  intro p e s m args below meth c s₁ B hml hv
  obtain ⟨rfl, hsz, hW, hK, hZ, h⟩ := hv
  subst hsz
  have hts := atoms_spec (ws := (ws_ yJ3_newCapacity cJ3_newCapacity 6 (some .int))) B.pre
  have hts : ∀ w ∈ lw_all, w.before _ s = true := fun w h => hts w (List.mem_cons_of_mem _ h)
  have hl := lv_entry ([.ref x0, .int x1]) (n := 6) (Nat.le_of_ble_eq_true rfl)
  rw [lg_entry_eq]
  generalize (lg_sl ([.ref x0, .int x1]) ++ List.replicate (6 - (lg_sl ([.ref x0, .int x1])).length) Slot.unset).toArray = ls at hl ⊢
  exact wk_J3_newCapacity Q ⟨⟨B.exec, B.bytes, hml, findClass_of_methodNamed B.named, hts⟩, hK, hZ, fun q h => Or.inr h⟩ (Nat.le_refl _) (Nat.le_refl _) ⟨Nat.le_refl _, Nat.le_refl _⟩ G (fun v pc ls H locs hd hW1 hS hQ => W.iret (v := v) B.exec B.bytes B.returns (fun t ht _ => ⟨⟨v, G, rfl, ⟨rfl, hQ⟩, by rw [← ht] at hW1; exact hW1⟩, hS.F ht⟩) hS.2.2 hd) x0 x1 h ls _ [] hl hW va_S.rf
def CT_J3_ensureCapacityInternal (l : Launch) (fr lo : Nat) (w : XV → (GM → Prop) → Nat → Int32 → GM → Nat → Nat → Prop) : Prop := ∀ (V : XV) (sz : Nat) (G : GM) (Q : GM → Prop) (x0 : Nat) (x1 : Int32) (kc ks : Nat), Met l yJ3_ensureCapacityInternal (ws_ yJ3_ensureCapacityInternal cJ3_ensureCapacityInternal 3 none) { frames := fr, cells := kc, slots := ks, locals := lo } (va_Pc [.ref x0, .int x1] (fun U => U.heap.size = sz ∧ xW V (xA G sz) G U.heap ∧ xK V U ∧ xZ V (xA G sz) U U.heap ∧ w V Q x0 x1 G kc ks)) (va_Qv (fun (u : GM) => Q u) (fun u t => xW V (xA G sz) u t.heap) (xA G sz)) kc ks (xA G sz)
theorem call_J3_ensureCapacityInternal_P16_AbstractStringBuilder {p : Program} {l : Launch} {e : Env} {R : Room} {s : State} {m : MethodId} {args : Array Value} {below : List Frame} {meth : Method} {c : Code} {H : Heap} {locs : List Loc} {cells slots : Nat} {Z : State → Prop} {A : Nat → Prop} {cc : ByteArray} {nL pc : Nat} {ls : Array Slot} {rest : List Value} {own : String} {index fr lo : Nat} {w : XV → (GM → Prop) → Nat → Int32 → GM → Nat → Nat → Prop} {V : XV} {G : GM} {o : Option Nat} {ci : Nat} {kc ks c1 s1 : Nat} {x0 : Nat} {x1 : Int32} (hM : CT_J3_ensureCapacityInternal l fr lo w) (C : xC p m c s args cc nL own V A) (hW : xW V A G H) (hS : va_S A s.heap H locs) (hlink : Cond.methodLink own index ⟨"java/lang/AbstractStringBuilder", "ensureCapacityInternal", "(I)V"⟩ ∈ lw_all) (ho : o = some x0) (hcv : gCi G (some x0) = some ci) (hci : ci % 64 = 16) (hRf : fr + 1 ≤ R.frames) (hRl : 8 + (3 + 11) + lo ≤ R.locals) (hc1 : c1 ≤ kc) (hs1 : s1 ≤ ks) (hkc : cells + kc ≤ R.cells) (hks : slots + ks ≤ R.slots) (hz : ls.size = nL) (hr8 : (rest.map fun v => v.category).sum ≤ 8) (hdg : decode cc pc = .ok (.invokevirtual index, 3)) {Q1 : GM → Prop} (h : w V Q1 x0 x1 G c1 s1) (kk : ∀ (G1 : GM) (H1 : Heap) (locs1 : List Loc), Q1 G1 → xW V A G1 H1 → va_S A s.heap H1 locs1 → xFr V G G1 H H1 → (cells + c1) + (kc - c1) ≤ R.cells → (slots + s1) + (ks - s1) ≤ R.slots → W p l e R s m args below meth c H1 locs1 (cells + c1) (slots + s1) Z (F0 m (pc + 3) ls (rest))) : W p l e R s m args below meth c H locs cells slots Z (F0 m pc ls (.int x1 :: va_rf o :: rest)) := by
  subst ho
  obtain ⟨fs, hG⟩ := gCi_of hcv
  exact rg_v3w (va_runV (C := "java/lang/StringBuilder") (As := [.int x1]) (rest := rest) C.1 (hM V H.size G Q1 x0 x1 c1 s1) ⟨callB_of 1 C.1.2.2.2.2 (lw_meth q272) rfl rfl rfl (C.1.2.2.2.2 _ q63) (C.1.2.2.2.2 _ hlink) (by decide +kernel) ⟨hRf, hRl⟩, C.1.2.2.2.2 _ q271, va_Nw.use rfl (C.2.1.2.2.2.2.2.2.2.2.1 ("java/lang/StringBuilder", yJ3_ensureCapacityInternal) (by decide +kernel))⟩ ⟨fun a U g mk q => by obtain ⟨q0, q1, qW, qK, qZ, qw⟩ := q; exact ⟨q0, q1, qW, xK.same (u := U) (U := U.calling g mk a) rfl qK, xZ.moved (u := U) (U := U.calling g mk a) (Vm.Alike.refl U.vm) qZ, qw⟩, (hW.recv C.2.1 hG (r := (RJ4, TJ4, 4)) (by rw [hci]; rfl)), fun U hU hWm => ⟨rfl, by rw [hU], by rw [hU]; exact hW.self _, C.2.1.warm hWm, xZ.call C.2.2.1 hW hS C.2.2.2 hU hWm.alike, h⟩⟩ rfl rfl hz rfl (lv_room hr8) hdg ⟨by omega, by omega⟩) hW hS C.2.2.2 (fun G1 H1 locs1 hp hW1 hS1 hF1 => kk G1 H1 locs1 hp hW1 hS1 hF1 (by omega) (by omega))
def w_J3_ensureCapacityInternal (V : XV) (Q : GM → Prop) (x0 : Nat) (x1 : Int32) (G : GM) (kc : Nat) (ks : Nat) : Prop := gGR G 43 (some x0) (fun v1 => gLn G v1 (fun v2 => gGI G 44 (some x0) (fun v3 => if (x1 - (v2 >>> (v3 &&& 31))) ≤ 0 then (Q G) else (gGR G 43 (some x0) (fun v4 => gRcv G (some x0) (fun a5 c6 => (c6 % 64 = 16) ∧ (w_J3_newCapacity V (fun r7 => gGI G 44 (some x0) (fun v8 => ∃ c11 s12 : Nat, c11 ≤ kc ∧ s12 ≤ ks ∧ (w_J14_copyOf V (fun r9 G10 => gPF G10 43 (some x0) (va_rf r9) (fun G13 => Q G13)) v4 (r7 <<< (v8 &&& 31)) G c11 s12))) a5 x1 G)))))))
set_option maxRecDepth 100000 in
set_option maxHeartbeats 4000000 in
theorem wk_J3_ensureCapacityInternal {p : Program} {l : Launch} {e : Env} {R : Room} {s : State} {m : MethodId} {args : Array Value} {below : List Frame} {meth : Method} {c : Code} {Z : State → Prop} {A : Nat → Prop} {V : XV} (Q : GM → Prop) (C : xC p m c s args cJ3_ensureCapacityInternal 3 RJ3 V A) (hRf : 13 ≤ R.frames) (hRl : 225 ≤ R.locals) (G : GM) (hret : ∀ (G : GM) (pc : Nat) (ls : Array Slot) (H : Heap) (locs : List Loc) (cells slots : Nat) {k1 k2 : Nat}, decode cJ3_ensureCapacityInternal pc = .ok (.return_, 1) → xW V A G H → va_S A s.heap H locs → cells + k1 ≤ R.cells → slots + k2 ≤ R.slots → Q G → W p l e R s m args below meth c H locs cells slots Z (F0 m pc ls [])) (x0 : Nat) (x1 : Int32) (kc ks : Nat) : w_J3_ensureCapacityInternal V Q x0 x1 G kc ks → ∀ (ls : Array Slot) (H : Heap) (locs : List Loc) (cells slots : Nat), lv_has ls 3 [(0, va_rf (some x0)), (1, .int x1)] → xW V A G H → va_S A s.heap H locs → cells + kc ≤ R.cells → slots + ks ≤ R.slots → W p l e R s m args below meth c H locs cells slots Z (F0 m 0 ls []) := by
  have hx := C.1.1; have hb := C.1.2.1; have hml := C.1.2.2.1; have hown := C.1.2.2.2.1; have hts := C.1.2.2.2.2
  intro h
  intro ls H locs cells slots hl hW hS hkc hks
  refine sh_aload_n hx hb dJ3_ensureCapacityInternal_0 rfl (lv_at hl 0 rfl) ?_
  obtain ⟨v1, h1, h⟩ := h
  refine sh_get C hW xFb_43 q158 (fun _ h => h) h1 dJ3_ensureCapacityInternal_1 ?_
  refine sh_len C hW h dJ3_ensureCapacityInternal_4 (fun v2 h => ?_)
  refine sh_aload_n hx hb dJ3_ensureCapacityInternal_5 rfl (lv_at hl 0 rfl) ?_
  obtain ⟨v3, h1, h⟩ := h
  refine sh_get C hW xFb_44 q159 (fun _ h => h) h1 dJ3_ensureCapacityInternal_6 ?_
  refine lv_ishr hx hb dJ3_ensureCapacityInternal_9 ?_
  refine lv_istore_n (lv' := [(2, .int (v2 >>> (v3 &&& 31))), (0, va_rf (some x0)), (1, .int x1)]) hx hb dJ3_ensureCapacityInternal_10 rfl hl (by decide) rfl (fun ls hl => ?_)
  refine lv_iload_n hx hb dJ3_ensureCapacityInternal_11 rfl (lv_at hl 2 rfl) ?_
  refine lv_iload_n hx hb dJ3_ensureCapacityInternal_12 rfl (lv_at hl 0 rfl) ?_
  refine lv_isub hx hb dJ3_ensureCapacityInternal_13 ?_
  refine lv_if_le (tgt := 38) hx hb dJ3_ensureCapacityInternal_14 (by decide) (fun c14 => ?_) (fun c14 => ?_)
  · have h := wif_t h c14
    exact hret _ _ _ _ _ _ _ dJ3_ensureCapacityInternal_38 hW hS hkc hks h
  · have h := wif_f h c14
    refine sh_aload_n hx hb dJ3_ensureCapacityInternal_17 rfl (lv_at hl 1 rfl) ?_
    refine sh_aload_n hx hb dJ3_ensureCapacityInternal_18 rfl (lv_at hl 1 rfl) ?_
    obtain ⟨v4, h1, h⟩ := h
    refine sh_get C hW xFb_43 q158 (fun _ h => h) h1 dJ3_ensureCapacityInternal_19 ?_
    refine sh_aload_n hx hb dJ3_ensureCapacityInternal_22 rfl (lv_at hl 1 rfl) ?_
    refine lv_iload_n hx hb dJ3_ensureCapacityInternal_23 rfl (lv_at hl 2 rfl) ?_
    obtain ⟨a5, c6, ho24, hcv24, h⟩ := h
    have hcc := h.1
    have h := h.2
    refine call_J3_newCapacity_P16_AbstractStringBuilder (ct_J3_newCapacity l) C hW hS q273 ho24 hcv24 hcc (le_lit hRf rfl) (le_lit hRl rfl) ⟨Nat.le_trans (Nat.le_add_right _ _) hkc, Nat.le_trans (Nat.le_add_right _ _) hks⟩ hl.1 (by simp only [List.map_cons, List.map_nil, va_rf_cat]; exact Nat.le_of_ble_eq_true rfl) dJ3_ensureCapacityInternal_24 h (fun r7 H locs h hW hS _ => ?_)
    refine sh_aload_n hx hb dJ3_ensureCapacityInternal_27 rfl (lv_at hl 1 rfl) ?_
    obtain ⟨v8, h1, h⟩ := h
    refine sh_get C hW xFb_44 q159 (fun _ h => h) h1 dJ3_ensureCapacityInternal_28 ?_
    refine lv_ishl hx hb dJ3_ensureCapacityInternal_31 ?_
    obtain ⟨c11, s12, hc32, hs32, h⟩ := h
    refine call_J14_copyOf_S (ct_J14_copyOf l) C hW hS q288 (le_lit hRf rfl) (le_lit hRl rfl) hc32 hs32 hkc hks hl.1 (Nat.le_of_ble_eq_true rfl) dJ3_ensureCapacityInternal_32 h (fun r9 G10 H locs h hW hS _ hkc hks => ?_)
    refine sh_put C hW hS xFb_43 q158 (fun _ h => h) xFd_43 (rf_nar_a _ _) (rf_fit_a _ _) h dJ3_ensureCapacityInternal_35 (fun G13 H locs hW hS h => ?_)
    exact hret _ _ _ _ _ _ _ dJ3_ensureCapacityInternal_38 hW hS hkc hks h
theorem ct_J3_ensureCapacityInternal (l : Launch) : CT_J3_ensureCapacityInternal l 13 225 w_J3_ensureCapacityInternal := by
  intro V sz G Q x0 x1 kc ks
  refine Met.ofW (cc := cJ3_ensureCapacityInternal) (maxL := 3) (ret := none) (by decide) rfl ?_
  intro p e s m args below meth c s₁ B hml hv
  obtain ⟨rfl, hsz, hW, hK, hZ, h⟩ := hv
  subst hsz
  have hts := atoms_spec (ws := (ws_ yJ3_ensureCapacityInternal cJ3_ensureCapacityInternal 3 none)) B.pre
  have hts : ∀ w ∈ lw_all, w.before _ s = true := fun w h => hts w (List.mem_cons_of_mem _ h)
  have hl := lv_entry ([.ref x0, .int x1]) (n := 3) (Nat.le_of_ble_eq_true rfl)
  rw [lg_entry_eq]
  generalize (lg_sl ([.ref x0, .int x1]) ++ List.replicate (3 - (lg_sl ([.ref x0, .int x1])).length) Slot.unset).toArray = ls at hl ⊢
  exact wk_J3_ensureCapacityInternal Q ⟨⟨B.exec, B.bytes, hml, findClass_of_methodNamed B.named, hts⟩, hK, hZ, fun q h => Or.inr h⟩ (Nat.le_refl _) (Nat.le_refl _) G (fun G pc ls H locs cells slots _ _ hd hW1 hS hkc hks hQ => W.widen (k := kc) (n := ks) (Nat.le_trans (Nat.le_add_right _ _) hkc) (Nat.le_trans (Nat.le_add_right _ _) hks) (W.vret B.exec B.bytes B.returns (fun t ht _ => ⟨⟨G, rfl, hQ, by rw [← ht] at hW1; exact hW1⟩, hS.F ht⟩) hS.2.2 hd)) x0 x1 kc ks h ls _ [] 0 0 hl hW va_S.rf (by show 0 + kc ≤ kc; omega) (by show 0 + ks ≤ ks; omega)
def CT_J3_isLatin1 (l : Launch) (fr lo : Nat) (w : XV → (Int32 → Prop) → Nat → GM → Prop) : Prop := ∀ (V : XV) (sz : Nat) (G : GM) (Q : Int32 → Prop) (x0 : Nat), Met l yJ3_isLatin1 (ws_ yJ3_isLatin1 cJ3_isLatin1 1 (some .boolean)) { frames := fr, cells := 0, slots := 0, locals := lo } (va_Pc [.ref x0] (fun U => U.heap.size = sz ∧ xW V (xA G sz) G U.heap ∧ xK V U ∧ xZ V (xA G sz) U U.heap ∧ w V Q x0 G)) (va_Qi (fun r (u : GM) => u = G ∧ Q r) (fun u t => xW V (xA G sz) u t.heap) (xA G sz)) 0 0 (xA G sz)
theorem call_J3_isLatin1_U16_AbstractStringBuilder {p : Program} {l : Launch} {e : Env} {R : Room} {s : State} {m : MethodId} {args : Array Value} {below : List Frame} {meth : Method} {c : Code} {H : Heap} {locs : List Loc} {cells slots : Nat} {Z : State → Prop} {A : Nat → Prop} {cc : ByteArray} {nL pc : Nat} {ls : Array Slot} {rest : List Value} {own : String} {index fr lo : Nat} {w : XV → (Int32 → Prop) → Nat → GM → Prop} {V : XV} {G : GM} {o : Option Nat} {ci : Nat} {x0 : Nat} (hM : CT_J3_isLatin1 l fr lo w) (C : xC p m c s args cc nL own V A) (hW : xW V A G H) (hS : va_S A s.heap H locs) (hlink : Cond.methodLink own index ⟨"java/lang/AbstractStringBuilder", "isLatin1", "()Z"⟩ ∈ lw_all) (ho : o = some x0) (hcv : gCi G (some x0) = some ci) (hci : ci % 64 = 16) (hRf : fr + 1 ≤ R.frames) (hRl : 8 + (1 + 11) + lo ≤ R.locals) (hcs : cells ≤ R.cells ∧ slots ≤ R.slots) (hz : ls.size = nL) (hr8 : (rest.map fun v => v.category).sum ≤ 8) (hdg : decode cc pc = .ok (.invokevirtual index, 3)) {Q1 : Int32 → Prop} (h : w V Q1 x0 G) (kk : ∀ (r : Int32) (H1 : Heap) (locs1 : List Loc), Q1 r → xW V A G H1 → va_S A s.heap H1 locs1 → xFr V G G H H1 → W p l e R s m args below meth c H1 locs1 cells slots Z (F0 m (pc + 3) ls (.int r :: rest))) : W p l e R s m args below meth c H locs cells slots Z (F0 m pc ls (va_rf o :: rest)) := by
  subst ho
  obtain ⟨fs, hG⟩ := gCi_of hcv
  exact rg_i3r (va_runU (As := []) (rest := rest) C.1 (hM V H.size G Q1 x0) (va_cwU (C := "java/lang/StringBuilder") 0 C.1.2.2.2.2 (lw_U hlink q306 q307 q305 q63 q308) rfl rfl rfl rfl (by decide +kernel) ⟨hRf, hRl⟩) ⟨fun a U g mk q => by obtain ⟨q0, q1, qW, qK, qZ, qw⟩ := q; exact ⟨q0, q1, qW, xK.same (u := U) (U := U.calling g mk a) rfl qK, xZ.moved (u := U) (U := U.calling g mk a) (Vm.Alike.refl U.vm) qZ, qw⟩, (hW.recv C.2.1 hG (r := (RJ4, TJ4, 4)) (by rw [hci]; rfl)), fun U hU hWm => ⟨rfl, by rw [hU], by rw [hU]; exact hW.self _, C.2.1.warm hWm, xZ.call C.2.2.1 hW hS C.2.2.2 hU hWm.alike, h⟩⟩ rfl rfl hz rfl (lv_room hr8) hdg hcs) hW hS C.2.2.2 (fun r H1 locs1 hp hW1 hS1 hF1 => kk r H1 locs1 hp hW1 hS1 hF1)
def w_J3_isLatin1 (V : XV) (Q : Int32 → Prop) (x0 : Nat) (G : GM) : Prop := ∃ v1, xst V "java/lang/String" "COMPACT_STRINGS" = .int v1 ∧ (if v1 = 0 then (Q (0 : Int32)) else (gGI G 44 (some x0) (fun v2 => if v2 = 0 then (Q (1 : Int32)) else (Q (0 : Int32)))))
set_option maxRecDepth 100000 in
set_option maxHeartbeats 4000000 in
theorem wk_J3_isLatin1 {p : Program} {l : Launch} {e : Env} {R : Room} {s : State} {m : MethodId} {args : Array Value} {below : List Frame} {meth : Method} {c : Code} {cells slots : Nat} {Z : State → Prop} {A : Nat → Prop} {V : XV} (Q : Int32 → Prop) (C : xC p m c s args cJ3_isLatin1 1 RJ3 V A) (hRf : 1 ≤ R.frames) (hRl : 20 ≤ R.locals) (hcs : cells ≤ R.cells ∧ slots ≤ R.slots) (G : GM) (hret : ∀ (v : Int32) (pc : Nat) (ls : Array Slot) (H : Heap) (locs : List Loc), decode cJ3_isLatin1 pc = .ok (.ireturn, 1) → xW V A G H → va_S A s.heap H locs → isZ v → Q v → W p l e R s m args below meth c H locs cells slots Z (F0 m pc ls [.int v])) (x0 : Nat) : w_J3_isLatin1 V Q x0 G → ∀ (ls : Array Slot) (H : Heap) (locs : List Loc), lv_has ls 1 [(0, va_rf (some x0))] → xW V A G H → va_S A s.heap H locs → W p l e R s m args below meth c H locs cells slots Z (F0 m 0 ls []) := by
  have hx := C.1.1; have hb := C.1.2.1; have hml := C.1.2.2.1; have hown := C.1.2.2.2.1; have hts := C.1.2.2.2.2
  intro h
  intro ls H locs hl hW hS
  refine sh_getsI C hS q150 q149 (fun _ h => h) h dJ3_isLatin1_0 (fun v1 h => ?_)
  refine lv_if_eq (tgt := 17) hx hb dJ3_isLatin1_3 (by decide) (fun c4 => ?_) (fun c4 => ?_)
  · have h := wif_t h c4
    refine lv_iconst (v := 0) hx hb dJ3_isLatin1_17 (by decide) ?_
    exact hret _ _ _ _ _ dJ3_isLatin1_18 hW hS isZ_0 h
  · have h := wif_f h c4
    refine sh_aload_n hx hb dJ3_isLatin1_6 rfl (lv_at hl 0 rfl) ?_
    obtain ⟨v2, h1, h⟩ := h
    refine sh_get C hW xFb_44 q159 (fun _ h => h) h1 dJ3_isLatin1_7 ?_
    refine lv_if_ne (tgt := 17) hx hb dJ3_isLatin1_10 (by decide) (fun c3 => ?_) (fun c3 => ?_)
    · have h := wif_f h c3
      refine lv_iconst (v := 0) hx hb dJ3_isLatin1_17 (by decide) ?_
      exact hret _ _ _ _ _ dJ3_isLatin1_18 hW hS isZ_0 h
    · have h := wif_t h c3
      refine lv_iconst (v := 1) hx hb dJ3_isLatin1_13 (by decide) ?_
      refine lv_goto (tgt := 18) hx hb dJ3_isLatin1_14 (by decide) ?_
      exact hret _ _ _ _ _ dJ3_isLatin1_18 hW hS isZ_1 h
theorem ct_J3_isLatin1 (l : Launch) : CT_J3_isLatin1 l 1 20 w_J3_isLatin1 := by
  intro V sz G Q x0
  refine Met.ofW (cc := cJ3_isLatin1) (maxL := 1) (ret := (some .boolean)) (by decide) rfl ?_
  intro p e s m args below meth c s₁ B hml hv
  obtain ⟨rfl, hsz, hW, hK, hZ, h⟩ := hv
  subst hsz
  have hts := atoms_spec (ws := (ws_ yJ3_isLatin1 cJ3_isLatin1 1 (some .boolean))) B.pre
  have hts : ∀ w ∈ lw_all, w.before _ s = true := fun w h => hts w (List.mem_cons_of_mem _ h)
  have hl := lv_entry ([.ref x0]) (n := 1) (Nat.le_of_ble_eq_true rfl)
  rw [lg_entry_eq]
  generalize (lg_sl ([.ref x0]) ++ List.replicate (1 - (lg_sl ([.ref x0])).length) Slot.unset).toArray = ls at hl ⊢
  exact wk_J3_isLatin1 Q ⟨⟨B.exec, B.bytes, hml, findClass_of_methodNamed B.named, hts⟩, hK, hZ, fun q h => Or.inr h⟩ (Nat.le_refl _) (Nat.le_refl _) ⟨Nat.le_refl _, Nat.le_refl _⟩ G (fun v pc ls H locs hd hW1 hS hz hQ => W.zret (v := v) B.exec B.bytes B.returns hz.nar (fun t ht _ => ⟨⟨v, G, rfl, ⟨rfl, hQ⟩, by rw [← ht] at hW1; exact hW1⟩, hS.F ht⟩) hS.2.2 hd) x0 h ls _ [] hl hW va_S.rf
def CT_J3_setLength (l : Launch) (fr lo : Nat) (w : XV → (GM → Prop) → Nat → Int32 → GM → Nat → Nat → Prop) : Prop := ∀ (V : XV) (sz : Nat) (G : GM) (Q : GM → Prop) (x0 : Nat) (x1 : Int32) (kc ks : Nat), Met l yJ3_setLength (ws_ yJ3_setLength cJ3_setLength 2 none) { frames := fr, cells := kc, slots := ks, locals := lo } (va_Pc [.ref x0, .int x1] (fun U => U.heap.size = sz ∧ xW V (xA G sz) G U.heap ∧ xK V U ∧ xZ V (xA G sz) U U.heap ∧ w V Q x0 x1 G kc ks)) (va_Qv (fun (u : GM) => Q u) (fun u t => xW V (xA G sz) u t.heap) (xA G sz)) kc ks (xA G sz)
theorem call_J3_setLength_SU_StringBuilder {p : Program} {l : Launch} {e : Env} {R : Room} {s : State} {m : MethodId} {args : Array Value} {below : List Frame} {meth : Method} {c : Code} {H : Heap} {locs : List Loc} {cells slots : Nat} {Z : State → Prop} {A : Nat → Prop} {cc : ByteArray} {nL pc : Nat} {ls : Array Slot} {rest : List Value} {index fr lo : Nat} {w : XV → (GM → Prop) → Nat → Int32 → GM → Nat → Nat → Prop} {V : XV} {G : GM} {o : Option Nat} {ci : Nat} {kc ks c1 s1 : Nat} {x0 : Nat} {x1 : Int32} (hM : CT_J3_setLength l fr lo w) (C : xC p m c s args cc nL "java/lang/StringBuilder" V A) (hW : xW V A G H) (hS : va_S A s.heap H locs) (hlink : Cond.methodLink "java/lang/StringBuilder" index yJ3_setLength ∈ lw_all) (ho : o = some x0) (hcv : gCi G (some x0) = some ci) (hci : ci % 64 = 16) (hRf : fr + 1 ≤ R.frames) (hRl : 8 + (2 + 11) + lo ≤ R.locals) (hc1 : c1 ≤ kc) (hs1 : s1 ≤ ks) (hkc : cells + kc ≤ R.cells) (hks : slots + ks ≤ R.slots) (hz : ls.size = nL) (hr8 : (rest.map fun v => v.category).sum ≤ 8) (hdg : decode cc pc = .ok (.invokespecial index, 3)) {Q1 : GM → Prop} (h : w V Q1 x0 x1 G c1 s1) (kk : ∀ (G1 : GM) (H1 : Heap) (locs1 : List Loc), Q1 G1 → xW V A G1 H1 → va_S A s.heap H1 locs1 → xFr V G G1 H H1 → (cells + c1) + (kc - c1) ≤ R.cells → (slots + s1) + (ks - s1) ≤ R.slots → W p l e R s m args below meth c H1 locs1 (cells + c1) (slots + s1) Z (F0 m (pc + 3) ls (rest))) : W p l e R s m args below meth c H locs cells slots Z (F0 m pc ls (.int x1 :: va_rf o :: rest)) := by
  subst ho
  obtain ⟨fs, hG⟩ := gCi_of hcv
  exact rg_v3w (va_runSU (As := [.int x1]) (rest := rest) (C.2.1.1 16 _ rfl).2 C.1 (hM V H.size G Q1 x0 x1 c1 s1) (va_cwSU 1 C.1.2.2.2.2 (lw_SU hlink q2200 q171 q248 q63 q249) rfl rfl rfl (by decide +kernel) ⟨hRf, hRl⟩) ⟨fun a U g mk q => by obtain ⟨q0, q1, qW, qK, qZ, qw⟩ := q; exact ⟨q0, q1, qW, xK.same (u := U) (U := U.calling g mk a) rfl qK, xZ.moved (u := U) (U := U.calling g mk a) (Vm.Alike.refl U.vm) qZ, qw⟩, (hW.recv C.2.1 hG (r := (RJ4, TJ4, 4)) (by rw [hci]; rfl)), fun U hU hWm => ⟨rfl, by rw [hU], by rw [hU]; exact hW.self _, C.2.1.warm hWm, xZ.call C.2.2.1 hW hS C.2.2.2 hU hWm.alike, h⟩⟩ rfl rfl hz rfl (lv_room hr8) hdg ⟨by omega, by omega⟩) hW hS C.2.2.2 (fun G1 H1 locs1 hp hW1 hS1 hF1 => kk G1 H1 locs1 hp hW1 hS1 hF1 (by omega) (by omega))
def w_J3_setLength (V : XV) (Q : GM → Prop) (x0 : Nat) (x1 : Int32) (G : GM) (kc : Nat) (ks : Nat) : Prop := if 0 ≤ x1 then (gRcv G (some x0) (fun a1 c2 => (c2 % 64 = 16) ∧ (∃ c4 s5 : Nat, c4 ≤ kc ∧ s5 ≤ ks ∧ (w_J3_ensureCapacityInternal V (fun G3 => gGI G3 46 (some x0) (fun v6 => if x1 ≤ v6 then (gGI G3 46 (some x0) (fun v7 => if v7 ≤ x1 then (gPF G3 46 (some x0) (.int x1) (fun G8 => Q G8)) else (gPF G3 45 (some x0) (.int (1 : Int32)) (fun G9 => gPF G9 46 (some x0) (.int x1) (fun G10 => Q G10))))) else (gRcv G3 (some x0) (fun a12 c13 => (c13 % 64 = 16) ∧ (w_J3_isLatin1 V (fun r14 => if r14 = 0 then (gGR G3 43 (some x0) (fun v15 => gGI G3 46 (some x0) (fun v16 => False))) else (gGR G3 43 (some x0) (fun v17 => gGI G3 46 (some x0) (fun v18 => False)))) a12 G3))))) a1 x1 G c4 s5)))) else (False)
set_option maxRecDepth 100000 in
set_option maxHeartbeats 4000000 in
theorem wk_J3_setLength {p : Program} {l : Launch} {e : Env} {R : Room} {s : State} {m : MethodId} {args : Array Value} {below : List Frame} {meth : Method} {c : Code} {Z : State → Prop} {A : Nat → Prop} {V : XV} (Q : GM → Prop) (C : xC p m c s args cJ3_setLength 2 RJ3 V A) (hRf : 14 ≤ R.frames) (hRl : 247 ≤ R.locals) (G : GM) (hret : ∀ (G : GM) (pc : Nat) (ls : Array Slot) (H : Heap) (locs : List Loc) (cells slots : Nat) {k1 k2 : Nat}, decode cJ3_setLength pc = .ok (.return_, 1) → xW V A G H → va_S A s.heap H locs → cells + k1 ≤ R.cells → slots + k2 ≤ R.slots → Q G → W p l e R s m args below meth c H locs cells slots Z (F0 m pc ls [])) (x0 : Nat) (x1 : Int32) (kc ks : Nat) : w_J3_setLength V Q x0 x1 G kc ks → ∀ (ls : Array Slot) (H : Heap) (locs : List Loc) (cells slots : Nat), lv_has ls 2 [(0, va_rf (some x0)), (1, .int x1)] → xW V A G H → va_S A s.heap H locs → cells + kc ≤ R.cells → slots + ks ≤ R.slots → W p l e R s m args below meth c H locs cells slots Z (F0 m 0 ls []) := by
  have hx := C.1.1; have hb := C.1.2.1; have hml := C.1.2.2.1; have hown := C.1.2.2.2.1; have hts := C.1.2.2.2.2
  intro h
  intro ls H locs cells slots hl hW hS hkc hks
  refine lv_iload_n hx hb dJ3_setLength_0 rfl (lv_at hl 1 rfl) ?_
  refine lv_if_ge (tgt := 13) hx hb dJ3_setLength_1 (by decide) (fun c21 => ?_) (fun c21 => ?_)
  · have h := wif_t h c21
    refine sh_aload_n hx hb dJ3_setLength_13 rfl (lv_at hl 0 rfl) ?_
    refine lv_iload_n hx hb dJ3_setLength_14 rfl (lv_at hl 1 rfl) ?_
    obtain ⟨a1, c2, ho15, hcv15, h⟩ := h
    have hcc := h.1
    have h := h.2
    obtain ⟨c4, s5, hc15, hs15, h⟩ := h
    refine call_J3_ensureCapacityInternal_P16_AbstractStringBuilder (ct_J3_ensureCapacityInternal l) C hW hS q269 ho15 hcv15 hcc (le_lit hRf rfl) (le_lit hRl rfl) hc15 hs15 hkc hks hl.1 (Nat.le_of_ble_eq_true rfl) dJ3_setLength_15 h (fun G3 H locs h hW hS _ hkc hks => ?_)
    refine sh_aload_n hx hb dJ3_setLength_18 rfl (lv_at hl 0 rfl) ?_
    obtain ⟨v6, h1, h⟩ := h
    refine sh_get C hW xFb_46 q162 (fun _ h => h) h1 dJ3_setLength_19 ?_
    refine lv_iload_n hx hb dJ3_setLength_22 rfl (lv_at hl 1 rfl) ?_
    refine lv_icmp_ge (tgt := 63) hx hb dJ3_setLength_23 (by decide) (fun c20 => ?_) (fun c20 => ?_)
    · have h := wif_t h c20
      refine sh_aload_n hx hb dJ3_setLength_63 rfl (lv_at hl 0 rfl) ?_
      obtain ⟨v7, h1, h⟩ := h
      refine sh_get C hW xFb_46 q162 (fun _ h => h) h1 dJ3_setLength_64 ?_
      refine lv_iload_n hx hb dJ3_setLength_67 rfl (lv_at hl 1 rfl) ?_
      refine lv_icmp_le (tgt := 76) hx hb dJ3_setLength_68 (by decide) (fun c11 => ?_) (fun c11 => ?_)
      · have h := wif_t h c11
        refine sh_aload_n hx hb dJ3_setLength_76 rfl (lv_at hl 0 rfl) ?_
        refine lv_iload_n hx hb dJ3_setLength_77 rfl (lv_at hl 1 rfl) ?_
        refine sh_put C hW hS xFb_46 q162 (fun _ h => h) xFd_46 rfl rfl h dJ3_setLength_78 (fun G8 H locs hW hS h => ?_)
        exact hret _ _ _ _ _ _ _ dJ3_setLength_81 hW hS hkc hks h
      · have h := wif_f h c11
        refine sh_aload_n hx hb dJ3_setLength_71 rfl (lv_at hl 0 rfl) ?_
        refine lv_iconst (v := 1) hx hb dJ3_setLength_72 (by decide) ?_
        refine sh_put C hW hS xFb_45 q160 (fun _ h => h) xFd_45 isZ_1.nar isZ_1.fit h dJ3_setLength_73 (fun G9 H locs hW hS h => ?_)
        refine sh_aload_n hx hb dJ3_setLength_76 rfl (lv_at hl 0 rfl) ?_
        refine lv_iload_n hx hb dJ3_setLength_77 rfl (lv_at hl 1 rfl) ?_
        refine sh_put C hW hS xFb_46 q162 (fun _ h => h) xFd_46 rfl rfl h dJ3_setLength_78 (fun G10 H locs hW hS h => ?_)
        exact hret _ _ _ _ _ _ _ dJ3_setLength_81 hW hS hkc hks h
    · have h := wif_f h c20
      refine sh_aload_n hx hb dJ3_setLength_26 rfl (lv_at hl 0 rfl) ?_
      obtain ⟨a12, c13, ho27, hcv27, h⟩ := h
      have hcc := h.1
      have h := h.2
      refine call_J3_isLatin1_U16_AbstractStringBuilder (ct_J3_isLatin1 l) C hW hS q304 ho27 hcv27 hcc (le_lit hRf rfl) (le_lit hRl rfl) ⟨Nat.le_trans (Nat.le_add_right _ _) hkc, Nat.le_trans (Nat.le_add_right _ _) hks⟩ hl.1 (Nat.le_of_ble_eq_true rfl) dJ3_setLength_27 h (fun r14 H locs h hW hS _ => ?_)
      refine lv_if_eq (tgt := 48) hx hb dJ3_setLength_30 (by decide) (fun c19 => ?_) (fun c19 => ?_)
      · have h := wif_t h c19
        refine sh_aload_n hx hb dJ3_setLength_48 rfl (lv_at hl 0 rfl) ?_
        obtain ⟨v15, h1, h⟩ := h
        refine sh_get C hW xFb_43 q158 (fun _ h => h) h1 dJ3_setLength_49 ?_
        refine sh_aload_n hx hb dJ3_setLength_52 rfl (lv_at hl 0 rfl) ?_
        obtain ⟨v16, h1, h⟩ := h
        refine sh_get C hW xFb_46 q162 (fun _ h => h) h1 dJ3_setLength_53 ?_
        refine lv_iload_n hx hb dJ3_setLength_56 rfl (lv_at hl 1 rfl) ?_
        exact False.elim h
      · have h := wif_f h c19
        refine sh_aload_n hx hb dJ3_setLength_33 rfl (lv_at hl 0 rfl) ?_
        obtain ⟨v17, h1, h⟩ := h
        refine sh_get C hW xFb_43 q158 (fun _ h => h) h1 dJ3_setLength_34 ?_
        refine sh_aload_n hx hb dJ3_setLength_37 rfl (lv_at hl 0 rfl) ?_
        obtain ⟨v18, h1, h⟩ := h
        refine sh_get C hW xFb_46 q162 (fun _ h => h) h1 dJ3_setLength_38 ?_
        refine lv_iload_n hx hb dJ3_setLength_41 rfl (lv_at hl 1 rfl) ?_
        exact False.elim h
  · have h := wif_f h c21
    exact False.elim h
theorem ct_J3_setLength (l : Launch) : CT_J3_setLength l 14 247 w_J3_setLength := by
  intro V sz G Q x0 x1 kc ks
  refine Met.ofW (cc := cJ3_setLength) (maxL := 2) (ret := none) (by decide) rfl ?_
  intro p e s m args below meth c s₁ B hml hv
  obtain ⟨rfl, hsz, hW, hK, hZ, h⟩ := hv
  subst hsz
  have hts := atoms_spec (ws := (ws_ yJ3_setLength cJ3_setLength 2 none)) B.pre
  have hts : ∀ w ∈ lw_all, w.before _ s = true := fun w h => hts w (List.mem_cons_of_mem _ h)
  have hl := lv_entry ([.ref x0, .int x1]) (n := 2) (Nat.le_of_ble_eq_true rfl)
  rw [lg_entry_eq]
  generalize (lg_sl ([.ref x0, .int x1]) ++ List.replicate (2 - (lg_sl ([.ref x0, .int x1])).length) Slot.unset).toArray = ls at hl ⊢
  exact wk_J3_setLength Q ⟨⟨B.exec, B.bytes, hml, findClass_of_methodNamed B.named, hts⟩, hK, hZ, fun q h => Or.inr h⟩ (Nat.le_refl _) (Nat.le_refl _) G (fun G pc ls H locs cells slots _ _ hd hW1 hS hkc hks hQ => W.widen (k := kc) (n := ks) (Nat.le_trans (Nat.le_add_right _ _) hkc) (Nat.le_trans (Nat.le_add_right _ _) hks) (W.vret B.exec B.bytes B.returns (fun t ht _ => ⟨⟨G, rfl, hQ, by rw [← ht] at hW1; exact hW1⟩, hS.F ht⟩) hS.2.2 hd)) x0 x1 kc ks h ls _ [] 0 0 hl hW va_S.rf (by show 0 + kc ≤ kc; omega) (by show 0 + ks ≤ ks; omega)
def CT_J5_coder (l : Launch) (fr lo : Nat) (w : XV → (Int32 → Prop) → Nat → GM → Prop) : Prop := ∀ (V : XV) (sz : Nat) (G : GM) (Q : Int32 → Prop) (x0 : Nat), Met l yJ5_coder (ws_ yJ5_coder cJ5_coder 1 (some .byte)) { frames := fr, cells := 0, slots := 0, locals := lo } (va_Pc [.ref x0] (fun U => U.heap.size = sz ∧ xW V (xA G sz) G U.heap ∧ xK V U ∧ xZ V (xA G sz) U U.heap ∧ w V Q x0 G)) (va_Qi (fun r (u : GM) => u = G ∧ Q r) (fun u t => xW V (xA G sz) u t.heap) (xA G sz)) 0 0 (xA G sz)
theorem call_J5_coder_V {p : Program} {l : Launch} {e : Env} {R : Room} {s : State} {m : MethodId} {args : Array Value} {below : List Frame} {meth : Method} {c : Code} {H : Heap} {locs : List Loc} {cells slots : Nat} {Z : State → Prop} {A : Nat → Prop} {cc : ByteArray} {nL pc : Nat} {ls : Array Slot} {rest : List Value} {own : String} {index fr lo : Nat} {w : XV → (Int32 → Prop) → Nat → GM → Prop} {V : XV} {G : GM} {o : Option Nat} {ci : Nat} {x0 : Nat} (hM : CT_J5_coder l fr lo w) (C : xC p m c s args cc nL own V A) (hW : xW V A G H) (hS : va_S A s.heap H locs) (hlink : Cond.methodLink own index yJ5_coder ∈ lw_all) (ho : o = some x0) (hcv : gCi G (some x0) = some ci) (hci : ci % 64 = 17) (hRf : fr + 1 ≤ R.frames) (hRl : 8 + (1 + 11) + lo ≤ R.locals) (hcs : cells ≤ R.cells ∧ slots ≤ R.slots) (hz : ls.size = nL) (hr8 : (rest.map fun v => v.category).sum ≤ 8) (hdg : decode cc pc = .ok (.invokevirtual index, 3)) {Q1 : Int32 → Prop} (h : w V Q1 x0 G) (kk : ∀ (r : Int32) (H1 : Heap) (locs1 : List Loc), Q1 r → xW V A G H1 → va_S A s.heap H1 locs1 → xFr V G G H H1 → W p l e R s m args below meth c H1 locs1 cells slots Z (F0 m (pc + 3) ls (.int r :: rest))) : W p l e R s m args below meth c H locs cells slots Z (F0 m pc ls (va_rf o :: rest)) := by
  subst ho
  obtain ⟨fs, hG⟩ := gCi_of hcv
  exact rg_i3r (va_runV (As := []) (rest := rest) C.1 (hM V H.size G Q1 x0) (cwV 0 C.1.2.2.2.2 (lw_V hlink q340 q341 q65 q342) rfl rfl rfl (by decide +kernel) ⟨hRf, hRl⟩) ⟨fun a U g mk q => by obtain ⟨q0, q1, qW, qK, qZ, qw⟩ := q; exact ⟨q0, q1, qW, xK.same (u := U) (U := U.calling g mk a) rfl qK, xZ.moved (u := U) (U := U.calling g mk a) (Vm.Alike.refl U.vm) qZ, qw⟩, (hW.recv C.2.1 hG (r := (RJ5, TJ5, 4)) (by rw [hci]; rfl)), fun U hU hWm => ⟨rfl, by rw [hU], by rw [hU]; exact hW.self _, C.2.1.warm hWm, xZ.call C.2.2.1 hW hS C.2.2.2 hU hWm.alike, h⟩⟩ rfl rfl hz rfl (lv_room hr8) hdg hcs) hW hS C.2.2.2 (fun r H1 locs1 hp hW1 hS1 hF1 => kk r H1 locs1 hp hW1 hS1 hF1)
def w_J5_coder (V : XV) (Q : Int32 → Prop) (x0 : Nat) (G : GM) : Prop := ∃ v1, xst V "java/lang/String" "COMPACT_STRINGS" = .int v1 ∧ (if v1 = 0 then (narrow .byte (.int (1 : Int32)) = .int (1 : Int32) ∧ (Q (1 : Int32))) else (gGI G 48 (some x0) (fun v2 => narrow .byte (.int v2) = .int v2 ∧ (Q v2))))
set_option maxRecDepth 100000 in
set_option maxHeartbeats 4000000 in
theorem wk_J5_coder {p : Program} {l : Launch} {e : Env} {R : Room} {s : State} {m : MethodId} {args : Array Value} {below : List Frame} {meth : Method} {c : Code} {cells slots : Nat} {Z : State → Prop} {A : Nat → Prop} {V : XV} (Q : Int32 → Prop) (C : xC p m c s args cJ5_coder 1 RJ5 V A) (hRf : 1 ≤ R.frames) (hRl : 20 ≤ R.locals) (hcs : cells ≤ R.cells ∧ slots ≤ R.slots) (G : GM) (hret : ∀ (v : Int32) (pc : Nat) (ls : Array Slot) (H : Heap) (locs : List Loc), decode cJ5_coder pc = .ok (.ireturn, 1) → xW V A G H → va_S A s.heap H locs → narrow .byte (.int v) = .int v → Q v → W p l e R s m args below meth c H locs cells slots Z (F0 m pc ls [.int v])) (x0 : Nat) : w_J5_coder V Q x0 G → ∀ (ls : Array Slot) (H : Heap) (locs : List Loc), lv_has ls 1 [(0, va_rf (some x0))] → xW V A G H → va_S A s.heap H locs → W p l e R s m args below meth c H locs cells slots Z (F0 m 0 ls []) := by
  have hx := C.1.1; have hb := C.1.2.1; have hml := C.1.2.2.1; have hown := C.1.2.2.2.1; have hts := C.1.2.2.2.2
  intro h
  intro ls H locs hl hW hS
  refine sh_getsI C hS q150 q343 (fun _ h => h) h dJ5_coder_0 (fun v1 h => ?_)
  refine lv_if_eq (tgt := 13) hx hb dJ5_coder_3 (by decide) (fun c3 => ?_) (fun c3 => ?_)
  · have h := wif_t h c3
    refine lv_iconst (v := 1) hx hb dJ5_coder_13 (by decide) ?_
    exact hret _ _ _ _ _ dJ5_coder_14 hW hS h.1 h.2
  · have h := wif_f h c3
    refine sh_aload_n hx hb dJ5_coder_6 rfl (lv_at hl 0 rfl) ?_
    obtain ⟨v2, h1, h⟩ := h
    refine sh_get C hW xFb_48 q528 (fun _ h => h) h1 dJ5_coder_7 ?_
    refine lv_goto (tgt := 14) hx hb dJ5_coder_10 (by decide) ?_
    exact hret _ _ _ _ _ dJ5_coder_14 hW hS h.1 h.2
theorem ct_J5_coder (l : Launch) : CT_J5_coder l 1 20 w_J5_coder := by
  intro V sz G Q x0
  refine Met.ofW (cc := cJ5_coder) (maxL := 1) (ret := (some .byte)) (by decide) rfl ?_
  intro p e s m args below meth c s₁ B hml hv
  obtain ⟨rfl, hsz, hW, hK, hZ, h⟩ := hv
  subst hsz
  have hts := atoms_spec (ws := (ws_ yJ5_coder cJ5_coder 1 (some .byte))) B.pre
  have hts : ∀ w ∈ lw_all, w.before _ s = true := fun w h => hts w (List.mem_cons_of_mem _ h)
  have hl := lv_entry ([.ref x0]) (n := 1) (Nat.le_of_ble_eq_true rfl)
  rw [lg_entry_eq]
  generalize (lg_sl ([.ref x0]) ++ List.replicate (1 - (lg_sl ([.ref x0])).length) Slot.unset).toArray = ls at hl ⊢
  exact wk_J5_coder Q ⟨⟨B.exec, B.bytes, hml, findClass_of_methodNamed B.named, hts⟩, hK, hZ, fun q h => Or.inr h⟩ (Nat.le_refl _) (Nat.le_refl _) ⟨Nat.le_refl _, Nat.le_refl _⟩ G (fun v pc ls H locs hd hW1 hS hz hQ => W.zret (v := v) B.exec B.bytes B.returns hz (fun t ht _ => ⟨⟨v, G, rfl, ⟨rfl, hQ⟩, by rw [← ht] at hW1; exact hW1⟩, hS.F ht⟩) hS.2.2 hd) x0 h ls _ [] hl hW va_S.rf
def CT_J5_length (l : Launch) (fr lo : Nat) (w : XV → (Int32 → Prop) → Nat → GM → Prop) : Prop := ∀ (V : XV) (sz : Nat) (G : GM) (Q : Int32 → Prop) (x0 : Nat), Met l yJ5_length (ws_ yJ5_length cJ5_length 1 (some .int)) { frames := fr, cells := 0, slots := 0, locals := lo } (va_Pc [.ref x0] (fun U => U.heap.size = sz ∧ xW V (xA G sz) G U.heap ∧ xK V U ∧ xZ V (xA G sz) U U.heap ∧ w V Q x0 G)) (va_Qi (fun r (u : GM) => u = G ∧ Q r) (fun u t => xW V (xA G sz) u t.heap) (xA G sz)) 0 0 (xA G sz)
theorem call_J5_length_V {p : Program} {l : Launch} {e : Env} {R : Room} {s : State} {m : MethodId} {args : Array Value} {below : List Frame} {meth : Method} {c : Code} {H : Heap} {locs : List Loc} {cells slots : Nat} {Z : State → Prop} {A : Nat → Prop} {cc : ByteArray} {nL pc : Nat} {ls : Array Slot} {rest : List Value} {own : String} {index fr lo : Nat} {w : XV → (Int32 → Prop) → Nat → GM → Prop} {V : XV} {G : GM} {o : Option Nat} {ci : Nat} {x0 : Nat} (hM : CT_J5_length l fr lo w) (C : xC p m c s args cc nL own V A) (hW : xW V A G H) (hS : va_S A s.heap H locs) (hlink : Cond.methodLink own index yJ5_length ∈ lw_all) (ho : o = some x0) (hcv : gCi G (some x0) = some ci) (hci : ci % 64 = 17) (hRf : fr + 1 ≤ R.frames) (hRl : 8 + (1 + 11) + lo ≤ R.locals) (hcs : cells ≤ R.cells ∧ slots ≤ R.slots) (hz : ls.size = nL) (hr8 : (rest.map fun v => v.category).sum ≤ 8) (hdg : decode cc pc = .ok (.invokevirtual index, 3)) {Q1 : Int32 → Prop} (h : w V Q1 x0 G) (kk : ∀ (r : Int32) (H1 : Heap) (locs1 : List Loc), Q1 r → xW V A G H1 → va_S A s.heap H1 locs1 → xFr V G G H H1 → W p l e R s m args below meth c H1 locs1 cells slots Z (F0 m (pc + 3) ls (.int r :: rest))) : W p l e R s m args below meth c H locs cells slots Z (F0 m pc ls (va_rf o :: rest)) := by
  subst ho
  obtain ⟨fs, hG⟩ := gCi_of hcv
  exact rg_i3r (va_runV (As := []) (rest := rest) C.1 (hM V H.size G Q1 x0) (cwV 0 C.1.2.2.2.2 (lw_V hlink q336 q337 q65 q338) rfl rfl rfl (by decide +kernel) ⟨hRf, hRl⟩) ⟨fun a U g mk q => by obtain ⟨q0, q1, qW, qK, qZ, qw⟩ := q; exact ⟨q0, q1, qW, xK.same (u := U) (U := U.calling g mk a) rfl qK, xZ.moved (u := U) (U := U.calling g mk a) (Vm.Alike.refl U.vm) qZ, qw⟩, (hW.recv C.2.1 hG (r := (RJ5, TJ5, 4)) (by rw [hci]; rfl)), fun U hU hWm => ⟨rfl, by rw [hU], by rw [hU]; exact hW.self _, C.2.1.warm hWm, xZ.call C.2.2.1 hW hS C.2.2.2 hU hWm.alike, h⟩⟩ rfl rfl hz rfl (lv_room hr8) hdg hcs) hW hS C.2.2.2 (fun r H1 locs1 hp hW1 hS1 hF1 => kk r H1 locs1 hp hW1 hS1 hF1)
def w_J5_length (V : XV) (Q : Int32 → Prop) (x0 : Nat) (G : GM) : Prop := gGR G 47 (some x0) (fun v1 => gLn G v1 (fun v2 => gRcv G (some x0) (fun a3 c4 => (c4 % 64 = 17) ∧ (w_J5_coder V (fun r5 => Q (v2 >>> (r5 &&& 31))) a3 G))))
set_option maxRecDepth 100000 in
set_option maxHeartbeats 4000000 in
theorem wk_J5_length {p : Program} {l : Launch} {e : Env} {R : Room} {s : State} {m : MethodId} {args : Array Value} {below : List Frame} {meth : Method} {c : Code} {cells slots : Nat} {Z : State → Prop} {A : Nat → Prop} {V : XV} (Q : Int32 → Prop) (C : xC p m c s args cJ5_length 1 RJ5 V A) (hRf : 2 ≤ R.frames) (hRl : 40 ≤ R.locals) (hcs : cells ≤ R.cells ∧ slots ≤ R.slots) (G : GM) (hret : ∀ (v : Int32) (pc : Nat) (ls : Array Slot) (H : Heap) (locs : List Loc), decode cJ5_length pc = .ok (.ireturn, 1) → xW V A G H → va_S A s.heap H locs → Q v → W p l e R s m args below meth c H locs cells slots Z (F0 m pc ls [.int v])) (x0 : Nat) : w_J5_length V Q x0 G → ∀ (ls : Array Slot) (H : Heap) (locs : List Loc), lv_has ls 1 [(0, va_rf (some x0))] → xW V A G H → va_S A s.heap H locs → W p l e R s m args below meth c H locs cells slots Z (F0 m 0 ls []) := by
  have hx := C.1.1; have hb := C.1.2.1; have hml := C.1.2.2.1; have hown := C.1.2.2.2.1; have hts := C.1.2.2.2.2
  intro h
  intro ls H locs hl hW hS
  refine sh_aload_n hx hb dJ5_length_0 rfl (lv_at hl 0 rfl) ?_
  obtain ⟨v1, h1, h⟩ := h
  refine sh_get C hW xFb_47 q527 (fun _ h => h) h1 dJ5_length_1 ?_
  refine sh_len C hW h dJ5_length_4 (fun v2 h => ?_)
  refine sh_aload_n hx hb dJ5_length_5 rfl (lv_at hl 0 rfl) ?_
  obtain ⟨a3, c4, ho6, hcv6, h⟩ := h
  have hcc := h.1
  have h := h.2
  refine call_J5_coder_V (ct_J5_coder l) C hW hS q339 ho6 hcv6 hcc (le_lit hRf rfl) (le_lit hRl rfl) hcs hl.1 (Nat.le_of_ble_eq_true rfl) dJ5_length_6 h (fun r5 H locs h hW hS _ => ?_)
  refine lv_ishr hx hb dJ5_length_9 ?_
  exact hret _ _ _ _ _ dJ5_length_10 hW hS h
theorem ct_J5_length (l : Launch) : CT_J5_length l 2 40 w_J5_length := by
  intro V sz G Q x0
  refine Met.ofW (cc := cJ5_length) (maxL := 1) (ret := (some .int)) (by decide) rfl ?_
  intro p e s m args below meth c s₁ B hml hv
  obtain ⟨rfl, hsz, hW, hK, hZ, h⟩ := hv
  subst hsz
  have hts := atoms_spec (ws := (ws_ yJ5_length cJ5_length 1 (some .int))) B.pre
  have hts : ∀ w ∈ lw_all, w.before _ s = true := fun w h => hts w (List.mem_cons_of_mem _ h)
  have hl := lv_entry ([.ref x0]) (n := 1) (Nat.le_of_ble_eq_true rfl)
  rw [lg_entry_eq]
  generalize (lg_sl ([.ref x0]) ++ List.replicate (1 - (lg_sl ([.ref x0])).length) Slot.unset).toArray = ls at hl ⊢
  exact wk_J5_length Q ⟨⟨B.exec, B.bytes, hml, findClass_of_methodNamed B.named, hts⟩, hK, hZ, fun q h => Or.inr h⟩ (Nat.le_refl _) (Nat.le_refl _) ⟨Nat.le_refl _, Nat.le_refl _⟩ G (fun v pc ls H locs hd hW1 hS hQ => W.iret (v := v) B.exec B.bytes B.returns (fun t ht _ => ⟨⟨v, G, rfl, ⟨rfl, hQ⟩, by rw [← ht] at hW1; exact hW1⟩, hS.F ht⟩) hS.2.2 hd) x0 h ls _ [] hl hW va_S.rf
def CT_J3_inflateIfNeededFor (l : Launch) (fr lo : Nat) (w : XV → (Prop) → Nat → (Option Nat) → GM → Prop) : Prop := ∀ (V : XV) (sz : Nat) (G : GM) (Q : Prop) (x0 : Nat) (x1 : Option Nat), Met l yJ3_inflateIfNeededFor (ws_ yJ3_inflateIfNeededFor cJ3_inflateIfNeededFor 2 none) { frames := fr, cells := 0, slots := 0, locals := lo } (va_Pc [.ref x0, va_rf x1] (fun U => U.heap.size = sz ∧ xW V (xA G sz) G U.heap ∧ xK V U ∧ xZ V (xA G sz) U U.heap ∧ w V Q x0 x1 G)) (va_Qv (fun (u : GM) => u = G ∧ Q) (fun u t => xW V (xA G sz) u t.heap) (xA G sz)) 0 0 (xA G sz)
theorem call_J3_inflateIfNeededFor_P16_AbstractStringBuilder {p : Program} {l : Launch} {e : Env} {R : Room} {s : State} {m : MethodId} {args : Array Value} {below : List Frame} {meth : Method} {c : Code} {H : Heap} {locs : List Loc} {cells slots : Nat} {Z : State → Prop} {A : Nat → Prop} {cc : ByteArray} {nL pc : Nat} {ls : Array Slot} {rest : List Value} {own : String} {index fr lo : Nat} {w : XV → (Prop) → Nat → (Option Nat) → GM → Prop} {V : XV} {G : GM} {o : Option Nat} {ci : Nat} {x0 : Nat} {x1 : Option Nat} (hM : CT_J3_inflateIfNeededFor l fr lo w) (C : xC p m c s args cc nL own V A) (hW : xW V A G H) (hS : va_S A s.heap H locs) (hlink : Cond.methodLink own index ⟨"java/lang/AbstractStringBuilder", "inflateIfNeededFor", "(Ljava/lang/String;)V"⟩ ∈ lw_all) (ho : o = some x0) (hcv : gCi G (some x0) = some ci) (hci : ci % 64 = 16) (hRf : fr + 1 ≤ R.frames) (hRl : 8 + (2 + 11) + lo ≤ R.locals) (hcs : cells ≤ R.cells ∧ slots ≤ R.slots) (hz : ls.size = nL) (hr8 : (rest.map fun v => v.category).sum ≤ 8) (hdg : decode cc pc = .ok (.invokevirtual index, 3)) {Q1 : Prop} (h : w V Q1 x0 x1 G) (kk : ∀ (H1 : Heap) (locs1 : List Loc), Q1 → xW V A G H1 → va_S A s.heap H1 locs1 → xFr V G G H H1 → W p l e R s m args below meth c H1 locs1 cells slots Z (F0 m (pc + 3) ls (rest))) : W p l e R s m args below meth c H locs cells slots Z (F0 m pc ls (va_rf x1 :: va_rf o :: rest)) := by
  subst ho
  obtain ⟨fs, hG⟩ := gCi_of hcv
  exact rg_v3r (va_runV (C := "java/lang/StringBuilder") (As := [va_rf x1]) (rest := rest) C.1 (hM V H.size G Q1 x0 x1) ⟨callB_of 1 C.1.2.2.2.2 (lw_meth q351) rfl rfl rfl (C.1.2.2.2.2 _ q63) (C.1.2.2.2.2 _ hlink) (by decide +kernel) ⟨hRf, hRl⟩, C.1.2.2.2.2 _ q350, va_Nw.use rfl (C.2.1.2.2.2.2.2.2.2.2.1 ("java/lang/StringBuilder", yJ3_inflateIfNeededFor) (by decide +kernel))⟩ ⟨fun a U g mk q => by obtain ⟨q0, q1, qW, qK, qZ, qw⟩ := q; exact ⟨q0, q1, qW, xK.same (u := U) (U := U.calling g mk a) rfl qK, xZ.moved (u := U) (U := U.calling g mk a) (Vm.Alike.refl U.vm) qZ, qw⟩, (hW.recv C.2.1 hG (r := (RJ4, TJ4, 4)) (by rw [hci]; rfl)), fun U hU hWm => ⟨rfl, by rw [hU], by rw [hU]; exact hW.self _, C.2.1.warm hWm, xZ.call C.2.2.1 hW hS C.2.2.2 hU hWm.alike, h⟩⟩ rfl rfl hz rfl (lv_room hr8) hdg hcs) hW hS C.2.2.2 (fun H1 locs1 hp hW1 hS1 hF1 => kk H1 locs1 hp hW1 hS1 hF1)
def w_J3_inflateIfNeededFor (V : XV) (Q : Prop) (x0 : Nat) (x1 : Option Nat) (G : GM) : Prop := ∃ v1, xst V "java/lang/String" "COMPACT_STRINGS" = .int v1 ∧ (if v1 = 0 then (Q) else (gGI G 44 (some x0) (fun v2 => gRcv G x1 (fun a3 c4 => (c4 % 64 = 17) ∧ (w_J5_coder V (fun r5 => if v2 = r5 then (Q) else (False)) a3 G)))))
set_option maxRecDepth 100000 in
set_option maxHeartbeats 4000000 in
theorem wk_J3_inflateIfNeededFor {p : Program} {l : Launch} {e : Env} {R : Room} {s : State} {m : MethodId} {args : Array Value} {below : List Frame} {meth : Method} {c : Code} {cells slots : Nat} {Z : State → Prop} {A : Nat → Prop} {V : XV} (Q : Prop) (C : xC p m c s args cJ3_inflateIfNeededFor 2 RJ3 V A) (hRf : 2 ≤ R.frames) (hRl : 40 ≤ R.locals) (hcs : cells ≤ R.cells ∧ slots ≤ R.slots) (G : GM) (hret : ∀ (pc : Nat) (ls : Array Slot) (H : Heap) (locs : List Loc), decode cJ3_inflateIfNeededFor pc = .ok (.return_, 1) → xW V A G H → va_S A s.heap H locs → Q → W p l e R s m args below meth c H locs cells slots Z (F0 m pc ls [])) (x0 : Nat) (x1 : Option Nat) : w_J3_inflateIfNeededFor V Q x0 x1 G → ∀ (ls : Array Slot) (H : Heap) (locs : List Loc), lv_has ls 2 [(0, va_rf (some x0)), (1, va_rf x1)] → xW V A G H → va_S A s.heap H locs → W p l e R s m args below meth c H locs cells slots Z (F0 m 0 ls []) := by
  have hx := C.1.1; have hb := C.1.2.1; have hml := C.1.2.2.1; have hown := C.1.2.2.2.1; have hts := C.1.2.2.2.2
  intro h
  intro ls H locs hl hW hS
  refine sh_getsI C hS q150 q149 (fun _ h => h) h dJ3_inflateIfNeededFor_0 (fun v1 h => ?_)
  refine lv_if_eq (tgt := 21) hx hb dJ3_inflateIfNeededFor_3 (by decide) (fun c7 => ?_) (fun c7 => ?_)
  · have h := wif_t h c7
    exact hret  _ _ _ _ dJ3_inflateIfNeededFor_21 hW hS h
  · have h := wif_f h c7
    refine sh_aload_n hx hb dJ3_inflateIfNeededFor_6 rfl (lv_at hl 0 rfl) ?_
    obtain ⟨v2, h1, h⟩ := h
    refine sh_get C hW xFb_44 q159 (fun _ h => h) h1 dJ3_inflateIfNeededFor_7 ?_
    refine sh_aload_n hx hb dJ3_inflateIfNeededFor_10 rfl (lv_at hl 1 rfl) ?_
    obtain ⟨a3, c4, ho11, hcv11, h⟩ := h
    have hcc := h.1
    have h := h.2
    refine call_J5_coder_V (ct_J5_coder l) C hW hS q352 ho11 hcv11 hcc (le_lit hRf rfl) (le_lit hRl rfl) hcs hl.1 (Nat.le_of_ble_eq_true rfl) dJ3_inflateIfNeededFor_11 h (fun r5 H locs h hW hS _ => ?_)
    refine lv_icmp_eq (tgt := 21) hx hb dJ3_inflateIfNeededFor_14 (by decide) (fun c6 => ?_) (fun c6 => ?_)
    · have h := wif_t h c6
      exact hret  _ _ _ _ dJ3_inflateIfNeededFor_21 hW hS h
    · have h := wif_f h c6
      refine sh_aload_n hx hb dJ3_inflateIfNeededFor_17 rfl (lv_at hl 0 rfl) ?_
      exact False.elim h
theorem ct_J3_inflateIfNeededFor (l : Launch) : CT_J3_inflateIfNeededFor l 2 40 w_J3_inflateIfNeededFor := by
  intro V sz G Q x0 x1
  refine Met.ofW (cc := cJ3_inflateIfNeededFor) (maxL := 2) (ret := none) (by decide) rfl ?_
  intro p e s m args below meth c s₁ B hml hv
  obtain ⟨rfl, hsz, hW, hK, hZ, h⟩ := hv
  subst hsz
  have hts := atoms_spec (ws := (ws_ yJ3_inflateIfNeededFor cJ3_inflateIfNeededFor 2 none)) B.pre
  have hts : ∀ w ∈ lw_all, w.before _ s = true := fun w h => hts w (List.mem_cons_of_mem _ h)
  have key : ∃ ls : Array Slot, entryFrame m ([.ref x0, va_rf x1] : List Value).toArray 2 = F0 m 0 ls [] ∧ lv_has ls 2 [(0, va_rf (some x0)), (1, va_rf x1)] := by
    cases x1 <;> (refine ⟨_, by rw [lg_entry_eq], ?_⟩; exact lv_entry _ (Nat.le_of_ble_eq_true rfl))
  obtain ⟨ls, hfr, hl⟩ := key
  rw [hfr]
  exact wk_J3_inflateIfNeededFor Q ⟨⟨B.exec, B.bytes, hml, findClass_of_methodNamed B.named, hts⟩, hK, hZ, fun q h => Or.inr h⟩ (Nat.le_refl _) (Nat.le_refl _) ⟨Nat.le_refl _, Nat.le_refl _⟩ G (fun pc ls H locs hd hW1 hS hQ => W.vret B.exec B.bytes B.returns (fun t ht _ => ⟨⟨G, rfl, ⟨rfl, hQ⟩, by rw [← ht] at hW1; exact hW1⟩, hS.F ht⟩) hS.2.2 hd) x0 x1 h ls _ [] hl hW va_S.rf
def CT_J5_getBytes (l : Launch) (fr lo : Nat) (w : XV → (GM → Prop) → Nat → (Option Nat) → Int32 → Int32 → GM → Prop) : Prop := ∀ (V : XV) (sz : Nat) (G : GM) (Q : GM → Prop) (x0 : Nat) (x1 : Option Nat) (x2 : Int32) (x3 : Int32), Met l yJ5_getBytes (ws_ yJ5_getBytes cJ5_getBytes 4 none) { frames := fr, cells := 0, slots := 0, locals := lo } (va_Pc [.ref x0, va_rf x1, .int x2, .int x3] (fun U => U.heap.size = sz ∧ xW V (xA G sz) G U.heap ∧ xK V U ∧ xZ V (xA G sz) U U.heap ∧ w V Q x0 x1 x2 x3 G)) (va_Qv (fun (u : GM) => Q u) (fun u t => xW V (xA G sz) u t.heap) (xA G sz)) 0 0 (xA G sz)
theorem call_J5_getBytes_V {p : Program} {l : Launch} {e : Env} {R : Room} {s : State} {m : MethodId} {args : Array Value} {below : List Frame} {meth : Method} {c : Code} {H : Heap} {locs : List Loc} {cells slots : Nat} {Z : State → Prop} {A : Nat → Prop} {cc : ByteArray} {nL pc : Nat} {ls : Array Slot} {rest : List Value} {own : String} {index fr lo : Nat} {w : XV → (GM → Prop) → Nat → (Option Nat) → Int32 → Int32 → GM → Prop} {V : XV} {G : GM} {o : Option Nat} {ci : Nat} {x0 : Nat} {x1 : Option Nat} {x2 : Int32} {x3 : Int32} (hM : CT_J5_getBytes l fr lo w) (C : xC p m c s args cc nL own V A) (hW : xW V A G H) (hS : va_S A s.heap H locs) (hlink : Cond.methodLink own index yJ5_getBytes ∈ lw_all) (ho : o = some x0) (hcv : gCi G (some x0) = some ci) (hci : ci % 64 = 17) (hRf : fr + 1 ≤ R.frames) (hRl : 8 + (4 + 11) + lo ≤ R.locals) (hcs : cells ≤ R.cells ∧ slots ≤ R.slots) (hz : ls.size = nL) (hr8 : (rest.map fun v => v.category).sum ≤ 8) (hdg : decode cc pc = .ok (.invokevirtual index, 3)) {Q1 : GM → Prop} (h : w V Q1 x0 x1 x2 x3 G) (kk : ∀ (G1 : GM) (H1 : Heap) (locs1 : List Loc), Q1 G1 → xW V A G1 H1 → va_S A s.heap H1 locs1 → xFr V G G1 H H1 → W p l e R s m args below meth c H1 locs1 cells slots Z (F0 m (pc + 3) ls (rest))) : W p l e R s m args below meth c H locs cells slots Z (F0 m pc ls (.int x3 :: .int x2 :: va_rf x1 :: va_rf o :: rest)) := by
  subst ho
  obtain ⟨fs, hG⟩ := gCi_of hcv
  exact rg_v3w (va_runV (As := [va_rf x1, .int x2, .int x3]) (rest := rest) C.1 (hM V H.size G Q1 x0 x1 x2 x3) (cwV 3 C.1.2.2.2.2 (lw_V hlink q373 q374 q65 q375) rfl rfl rfl (by decide +kernel) ⟨hRf, hRl⟩) ⟨fun a U g mk q => by obtain ⟨q0, q1, qW, qK, qZ, qw⟩ := q; exact ⟨q0, q1, qW, xK.same (u := U) (U := U.calling g mk a) rfl qK, xZ.moved (u := U) (U := U.calling g mk a) (Vm.Alike.refl U.vm) qZ, qw⟩, (hW.recv C.2.1 hG (r := (RJ5, TJ5, 4)) (by rw [hci]; rfl)), fun U hU hWm => ⟨rfl, by rw [hU], by rw [hU]; exact hW.self _, C.2.1.warm hWm, xZ.call C.2.2.1 hW hS C.2.2.2 hU hWm.alike, h⟩⟩ rfl rfl hz rfl (lv_room hr8) hdg hcs) hW hS C.2.2.2 (fun G1 H1 locs1 hp hW1 hS1 hF1 => kk G1 H1 locs1 hp hW1 hS1 hF1)
def w_J5_getBytes (V : XV) (Q : GM → Prop) (x0 : Nat) (x1 : Option Nat) (x2 : Int32) (x3 : Int32) (G : GM) : Prop := gRcv G (some x0) (fun a1 c2 => (c2 % 64 = 17) ∧ (w_J5_coder V (fun r3 => if r3 = x3 then (gGR G 47 (some x0) (fun v7 => gGR G 47 (some x0) (fun v8 => gLn G v8 (fun v9 => gCI G 2 v7 (0 : Int32) x1 (x2 <<< (x3 &&& 31)) v9 (fun G10 => Q G10))))) else (gGR G 47 (some x0) (fun v4 => gGR G 47 (some x0) (fun v5 => gLn G v5 (fun v6 => False))))) a1 G))
set_option maxRecDepth 100000 in
set_option maxHeartbeats 4000000 in
theorem wk_J5_getBytes {p : Program} {l : Launch} {e : Env} {R : Room} {s : State} {m : MethodId} {args : Array Value} {below : List Frame} {meth : Method} {c : Code} {cells slots : Nat} {Z : State → Prop} {A : Nat → Prop} {V : XV} (Q : GM → Prop) (C : xC p m c s args cJ5_getBytes 4 RJ5 V A) (hRf : 2 ≤ R.frames) (hRl : 60 ≤ R.locals) (hcs : cells ≤ R.cells ∧ slots ≤ R.slots) (G : GM) (hret : ∀ (G : GM) (pc : Nat) (ls : Array Slot) (H : Heap) (locs : List Loc), decode cJ5_getBytes pc = .ok (.return_, 1) → xW V A G H → va_S A s.heap H locs → Q G → W p l e R s m args below meth c H locs cells slots Z (F0 m pc ls [])) (x0 : Nat) (x1 : Option Nat) (x2 : Int32) (x3 : Int32) : w_J5_getBytes V Q x0 x1 x2 x3 G → ∀ (ls : Array Slot) (H : Heap) (locs : List Loc), lv_has ls 4 [(0, va_rf (some x0)), (1, va_rf x1), (2, .int x2), (3, .int x3)] → xW V A G H → va_S A s.heap H locs → W p l e R s m args below meth c H locs cells slots Z (F0 m 0 ls []) := by
  have hx := C.1.1; have hb := C.1.2.1; have hml := C.1.2.2.1; have hown := C.1.2.2.2.1; have hts := C.1.2.2.2.2
  intro h
  intro ls H locs hl hW hS
  refine sh_aload_n hx hb dJ5_getBytes_0 rfl (lv_at hl 0 rfl) ?_
  obtain ⟨a1, c2, ho1, hcv1, h⟩ := h
  have hcc := h.1
  have h := h.2
  refine call_J5_coder_V (ct_J5_coder l) C hW hS q339 ho1 hcv1 hcc (le_lit hRf rfl) (le_lit hRl rfl) hcs hl.1 (Nat.le_of_ble_eq_true rfl) dJ5_getBytes_1 h (fun r3 H locs h hW hS _ => ?_)
  refine lv_iload_n hx hb dJ5_getBytes_4 rfl (lv_at hl 3 rfl) ?_
  refine lv_icmp_ne (tgt := 28) hx hb dJ5_getBytes_5 (by decide) (fun c11 => ?_) (fun c11 => ?_)
  · have h := wif_f h c11
    refine sh_aload_n hx hb dJ5_getBytes_28 rfl (lv_at hl 0 rfl) ?_
    obtain ⟨v4, h1, h⟩ := h
    refine sh_get C hW xFb_47 q527 (fun _ h => h) h1 dJ5_getBytes_29 ?_
    refine lv_iconst (v := 0) hx hb dJ5_getBytes_32 (by decide) ?_
    refine sh_aload_n hx hb dJ5_getBytes_33 rfl (lv_at hl 1 rfl) ?_
    refine lv_iload_n hx hb dJ5_getBytes_34 rfl (lv_at hl 2 rfl) ?_
    refine sh_aload_n hx hb dJ5_getBytes_35 rfl (lv_at hl 0 rfl) ?_
    obtain ⟨v5, h1, h⟩ := h
    refine sh_get C hW xFb_47 q527 (fun _ h => h) h1 dJ5_getBytes_36 ?_
    refine sh_len C hW h dJ5_getBytes_39 (fun v6 h => ?_)
    exact False.elim h
  · have h := wif_t h c11
    refine sh_aload_n hx hb dJ5_getBytes_8 rfl (lv_at hl 0 rfl) ?_
    obtain ⟨v7, h1, h⟩ := h
    refine sh_get C hW xFb_47 q527 (fun _ h => h) h1 dJ5_getBytes_9 ?_
    refine lv_iconst (v := 0) hx hb dJ5_getBytes_12 (by decide) ?_
    refine sh_aload_n hx hb dJ5_getBytes_13 rfl (lv_at hl 1 rfl) ?_
    refine lv_iload_n hx hb dJ5_getBytes_14 rfl (lv_at hl 2 rfl) ?_
    refine lv_iload_n hx hb dJ5_getBytes_15 rfl (lv_at hl 3 rfl) ?_
    refine lv_ishl hx hb dJ5_getBytes_16 ?_
    refine sh_aload_n hx hb dJ5_getBytes_17 rfl (lv_at hl 0 rfl) ?_
    obtain ⟨v8, h1, h⟩ := h
    refine sh_get C hW xFb_47 q527 (fun _ h => h) h1 dJ5_getBytes_18 ?_
    refine sh_len C hW h dJ5_getBytes_21 (fun v9 h => ?_)
    refine sh_copyI C hW hS (t := 2) (by decide) rfl q376 q303 q302 q77 hl.1 (le_lit hRf rfl) (Nat.le_trans (show _ ≤ 60 by first | decide | (simp [va_rf_cat, Value.category]; decide)) (le_lit hRl rfl)) h dJ5_getBytes_22 (fun G10 H locs hW hS h => ?_)
    refine lv_goto (tgt := 43) hx hb dJ5_getBytes_25 (by decide) ?_
    exact hret _ _ _ _ _ dJ5_getBytes_43 hW hS h
theorem ct_J5_getBytes (l : Launch) : CT_J5_getBytes l 2 60 w_J5_getBytes := by
  intro V sz G Q x0 x1 x2 x3
  refine Met.ofW (cc := cJ5_getBytes) (maxL := 4) (ret := none) (by decide) rfl ?_
  intro p e s m args below meth c s₁ B hml hv
  obtain ⟨rfl, hsz, hW, hK, hZ, h⟩ := hv
  subst hsz
  have hts := atoms_spec (ws := (ws_ yJ5_getBytes cJ5_getBytes 4 none)) B.pre
  have hts : ∀ w ∈ lw_all, w.before _ s = true := fun w h => hts w (List.mem_cons_of_mem _ h)
  have key : ∃ ls : Array Slot, entryFrame m ([.ref x0, va_rf x1, .int x2, .int x3] : List Value).toArray 4 = F0 m 0 ls [] ∧ lv_has ls 4 [(0, va_rf (some x0)), (1, va_rf x1), (2, .int x2), (3, .int x3)] := by
    cases x1 <;> (refine ⟨_, by rw [lg_entry_eq], ?_⟩; exact lv_entry _ (Nat.le_of_ble_eq_true rfl))
  obtain ⟨ls, hfr, hl⟩ := key
  rw [hfr]
  exact wk_J5_getBytes Q ⟨⟨B.exec, B.bytes, hml, findClass_of_methodNamed B.named, hts⟩, hK, hZ, fun q h => Or.inr h⟩ (Nat.le_refl _) (Nat.le_refl _) ⟨Nat.le_refl _, Nat.le_refl _⟩ G (fun G pc ls H locs hd hW1 hS hQ => W.vret B.exec B.bytes B.returns (fun t ht _ => ⟨⟨G, rfl, hQ, by rw [← ht] at hW1; exact hW1⟩, hS.F ht⟩) hS.2.2 hd) x0 x1 x2 x3 h ls _ [] hl hW va_S.rf
def CT_J3_putStringAt (l : Launch) (fr lo : Nat) (w : XV → (GM → Prop) → Nat → Int32 → (Option Nat) → GM → Prop) : Prop := ∀ (V : XV) (sz : Nat) (G : GM) (Q : GM → Prop) (x0 : Nat) (x1 : Int32) (x2 : Option Nat), Met l yJ3_putStringAt (ws_ yJ3_putStringAt cJ3_putStringAt 3 none) { frames := fr, cells := 0, slots := 0, locals := lo } (va_Pc [.ref x0, .int x1, va_rf x2] (fun U => U.heap.size = sz ∧ xW V (xA G sz) G U.heap ∧ xK V U ∧ xZ V (xA G sz) U U.heap ∧ w V Q x0 x1 x2 G)) (va_Qv (fun (u : GM) => Q u) (fun u t => xW V (xA G sz) u t.heap) (xA G sz)) 0 0 (xA G sz)
theorem call_J3_putStringAt_P16_AbstractStringBuilder {p : Program} {l : Launch} {e : Env} {R : Room} {s : State} {m : MethodId} {args : Array Value} {below : List Frame} {meth : Method} {c : Code} {H : Heap} {locs : List Loc} {cells slots : Nat} {Z : State → Prop} {A : Nat → Prop} {cc : ByteArray} {nL pc : Nat} {ls : Array Slot} {rest : List Value} {own : String} {index fr lo : Nat} {w : XV → (GM → Prop) → Nat → Int32 → (Option Nat) → GM → Prop} {V : XV} {G : GM} {o : Option Nat} {ci : Nat} {x0 : Nat} {x1 : Int32} {x2 : Option Nat} (hM : CT_J3_putStringAt l fr lo w) (C : xC p m c s args cc nL own V A) (hW : xW V A G H) (hS : va_S A s.heap H locs) (hlink : Cond.methodLink own index ⟨"java/lang/AbstractStringBuilder", "putStringAt", "(ILjava/lang/String;)V"⟩ ∈ lw_all) (ho : o = some x0) (hcv : gCi G (some x0) = some ci) (hci : ci % 64 = 16) (hRf : fr + 1 ≤ R.frames) (hRl : 8 + (3 + 11) + lo ≤ R.locals) (hcs : cells ≤ R.cells ∧ slots ≤ R.slots) (hz : ls.size = nL) (hr8 : (rest.map fun v => v.category).sum ≤ 8) (hdg : decode cc pc = .ok (.invokevirtual index, 3)) {Q1 : GM → Prop} (h : w V Q1 x0 x1 x2 G) (kk : ∀ (G1 : GM) (H1 : Heap) (locs1 : List Loc), Q1 G1 → xW V A G1 H1 → va_S A s.heap H1 locs1 → xFr V G G1 H H1 → W p l e R s m args below meth c H1 locs1 cells slots Z (F0 m (pc + 3) ls (rest))) : W p l e R s m args below meth c H locs cells slots Z (F0 m pc ls (va_rf x2 :: .int x1 :: va_rf o :: rest)) := by
  subst ho
  obtain ⟨fs, hG⟩ := gCi_of hcv
  exact rg_v3w (va_runV (C := "java/lang/StringBuilder") (As := [.int x1, va_rf x2]) (rest := rest) C.1 (hM V H.size G Q1 x0 x1 x2) ⟨callB_of 2 C.1.2.2.2.2 (lw_meth q347) rfl rfl rfl (C.1.2.2.2.2 _ q63) (C.1.2.2.2.2 _ hlink) (by decide +kernel) ⟨hRf, hRl⟩, C.1.2.2.2.2 _ q346, va_Nw.use rfl (C.2.1.2.2.2.2.2.2.2.2.1 ("java/lang/StringBuilder", yJ3_putStringAt) (by decide +kernel))⟩ ⟨fun a U g mk q => by obtain ⟨q0, q1, qW, qK, qZ, qw⟩ := q; exact ⟨q0, q1, qW, xK.same (u := U) (U := U.calling g mk a) rfl qK, xZ.moved (u := U) (U := U.calling g mk a) (Vm.Alike.refl U.vm) qZ, qw⟩, (hW.recv C.2.1 hG (r := (RJ4, TJ4, 4)) (by rw [hci]; rfl)), fun U hU hWm => ⟨rfl, by rw [hU], by rw [hU]; exact hW.self _, C.2.1.warm hWm, xZ.call C.2.2.1 hW hS C.2.2.2 hU hWm.alike, h⟩⟩ rfl rfl hz rfl (lv_room hr8) hdg hcs) hW hS C.2.2.2 (fun G1 H1 locs1 hp hW1 hS1 hF1 => kk G1 H1 locs1 hp hW1 hS1 hF1)
def w_J3_putStringAt (V : XV) (Q : GM → Prop) (x0 : Nat) (x1 : Int32) (x2 : Option Nat) (G : GM) : Prop := gRcv G (some x0) (fun a1 c2 => (c2 % 64 = 16) ∧ (w_J3_inflateIfNeededFor V (gGR G 43 (some x0) (fun v3 => gGI G 44 (some x0) (fun v4 => gRcv G x2 (fun a5 c6 => (c6 % 64 = 17) ∧ (w_J5_getBytes V (fun G7 => Q G7) a5 v3 x1 v4 G))))) a1 x2 G))
set_option maxRecDepth 100000 in
set_option maxHeartbeats 4000000 in
theorem wk_J3_putStringAt {p : Program} {l : Launch} {e : Env} {R : Room} {s : State} {m : MethodId} {args : Array Value} {below : List Frame} {meth : Method} {c : Code} {cells slots : Nat} {Z : State → Prop} {A : Nat → Prop} {V : XV} (Q : GM → Prop) (C : xC p m c s args cJ3_putStringAt 3 RJ3 V A) (hRf : 3 ≤ R.frames) (hRl : 83 ≤ R.locals) (hcs : cells ≤ R.cells ∧ slots ≤ R.slots) (G : GM) (hret : ∀ (G : GM) (pc : Nat) (ls : Array Slot) (H : Heap) (locs : List Loc), decode cJ3_putStringAt pc = .ok (.return_, 1) → xW V A G H → va_S A s.heap H locs → Q G → W p l e R s m args below meth c H locs cells slots Z (F0 m pc ls [])) (x0 : Nat) (x1 : Int32) (x2 : Option Nat) : w_J3_putStringAt V Q x0 x1 x2 G → ∀ (ls : Array Slot) (H : Heap) (locs : List Loc), lv_has ls 3 [(0, va_rf (some x0)), (1, .int x1), (2, va_rf x2)] → xW V A G H → va_S A s.heap H locs → W p l e R s m args below meth c H locs cells slots Z (F0 m 0 ls []) := by
  have hx := C.1.1; have hb := C.1.2.1; have hml := C.1.2.2.1; have hown := C.1.2.2.2.1; have hts := C.1.2.2.2.2
  intro h
  intro ls H locs hl hW hS
  refine sh_aload_n hx hb dJ3_putStringAt_0 rfl (lv_at hl 0 rfl) ?_
  refine sh_aload_n hx hb dJ3_putStringAt_1 rfl (lv_at hl 2 rfl) ?_
  obtain ⟨a1, c2, ho2, hcv2, h⟩ := h
  have hcc := h.1
  have h := h.2
  refine call_J3_inflateIfNeededFor_P16_AbstractStringBuilder (ct_J3_inflateIfNeededFor l) C hW hS q348 ho2 hcv2 hcc (le_lit hRf rfl) (le_lit hRl rfl) hcs hl.1 (Nat.le_of_ble_eq_true rfl) dJ3_putStringAt_2 h (fun  H locs h hW hS _ => ?_)
  refine sh_aload_n hx hb dJ3_putStringAt_5 rfl (lv_at hl 2 rfl) ?_
  refine sh_aload_n hx hb dJ3_putStringAt_6 rfl (lv_at hl 0 rfl) ?_
  obtain ⟨v3, h1, h⟩ := h
  refine sh_get C hW xFb_43 q158 (fun _ h => h) h1 dJ3_putStringAt_7 ?_
  refine lv_iload_n hx hb dJ3_putStringAt_10 rfl (lv_at hl 1 rfl) ?_
  refine sh_aload_n hx hb dJ3_putStringAt_11 rfl (lv_at hl 0 rfl) ?_
  obtain ⟨v4, h1, h⟩ := h
  refine sh_get C hW xFb_44 q159 (fun _ h => h) h1 dJ3_putStringAt_12 ?_
  obtain ⟨a5, c6, ho15, hcv15, h⟩ := h
  have hcc := h.1
  have h := h.2
  refine call_J5_getBytes_V (ct_J5_getBytes l) C hW hS q372 ho15 hcv15 hcc (le_lit hRf rfl) (le_lit hRl rfl) hcs hl.1 (Nat.le_of_ble_eq_true rfl) dJ3_putStringAt_15 h (fun G7 H locs h hW hS _ => ?_)
  exact hret _ _ _ _ _ dJ3_putStringAt_18 hW hS h
theorem ct_J3_putStringAt (l : Launch) : CT_J3_putStringAt l 3 83 w_J3_putStringAt := by
  intro V sz G Q x0 x1 x2
  refine Met.ofW (cc := cJ3_putStringAt) (maxL := 3) (ret := none) (by decide) rfl ?_
  intro p e s m args below meth c s₁ B hml hv
  obtain ⟨rfl, hsz, hW, hK, hZ, h⟩ := hv
  subst hsz
  have hts := atoms_spec (ws := (ws_ yJ3_putStringAt cJ3_putStringAt 3 none)) B.pre
  have hts : ∀ w ∈ lw_all, w.before _ s = true := fun w h => hts w (List.mem_cons_of_mem _ h)
  have key : ∃ ls : Array Slot, entryFrame m ([.ref x0, .int x1, va_rf x2] : List Value).toArray 3 = F0 m 0 ls [] ∧ lv_has ls 3 [(0, va_rf (some x0)), (1, .int x1), (2, va_rf x2)] := by
    cases x2 <;> (refine ⟨_, by rw [lg_entry_eq], ?_⟩; exact lv_entry _ (Nat.le_of_ble_eq_true rfl))
  obtain ⟨ls, hfr, hl⟩ := key
  rw [hfr]
  exact wk_J3_putStringAt Q ⟨⟨B.exec, B.bytes, hml, findClass_of_methodNamed B.named, hts⟩, hK, hZ, fun q h => Or.inr h⟩ (Nat.le_refl _) (Nat.le_refl _) ⟨Nat.le_refl _, Nat.le_refl _⟩ G (fun G pc ls H locs hd hW1 hS hQ => W.vret B.exec B.bytes B.returns (fun t ht _ => ⟨⟨G, rfl, hQ, by rw [← ht] at hW1; exact hW1⟩, hS.F ht⟩) hS.2.2 hd) x0 x1 x2 h ls _ [] hl hW va_S.rf
def CT_J3_append (l : Launch) (fr lo : Nat) (w : XV → (Option Nat → GM → Prop) → Nat → (Option Nat) → GM → Nat → Nat → Prop) : Prop := ∀ (V : XV) (sz : Nat) (G : GM) (Q : Option Nat → GM → Prop) (x0 : Nat) (x1 : Option Nat) (kc ks : Nat), Met l yJ3_append (ws_ yJ3_append cJ3_append 3 (some (.object "java/lang/AbstractStringBuilder"))) { frames := fr, cells := kc, slots := ks, locals := lo } (va_Pc [.ref x0, va_rf x1] (fun U => U.heap.size = sz ∧ xW V (xA G sz) G U.heap ∧ xK V U ∧ xZ V (xA G sz) U U.heap ∧ w V Q x0 x1 G kc ks)) (va_Qq (fun r (u : GM) => Q r u) (fun u t => xW V (xA G sz) u t.heap) (xA G sz)) kc ks (xA G sz)
theorem call_J3_append_SU_StringBuilder {p : Program} {l : Launch} {e : Env} {R : Room} {s : State} {m : MethodId} {args : Array Value} {below : List Frame} {meth : Method} {c : Code} {H : Heap} {locs : List Loc} {cells slots : Nat} {Z : State → Prop} {A : Nat → Prop} {cc : ByteArray} {nL pc : Nat} {ls : Array Slot} {rest : List Value} {index fr lo : Nat} {w : XV → (Option Nat → GM → Prop) → Nat → (Option Nat) → GM → Nat → Nat → Prop} {V : XV} {G : GM} {o : Option Nat} {ci : Nat} {kc ks c1 s1 : Nat} {x0 : Nat} {x1 : Option Nat} (hM : CT_J3_append l fr lo w) (C : xC p m c s args cc nL "java/lang/StringBuilder" V A) (hW : xW V A G H) (hS : va_S A s.heap H locs) (hlink : Cond.methodLink "java/lang/StringBuilder" index yJ3_append ∈ lw_all) (ho : o = some x0) (hcv : gCi G (some x0) = some ci) (hci : ci % 64 = 16) (hRf : fr + 1 ≤ R.frames) (hRl : 8 + (3 + 11) + lo ≤ R.locals) (hc1 : c1 ≤ kc) (hs1 : s1 ≤ ks) (hkc : cells + kc ≤ R.cells) (hks : slots + ks ≤ R.slots) (hz : ls.size = nL) (hr8 : (rest.map fun v => v.category).sum ≤ 8) (hdg : decode cc pc = .ok (.invokespecial index, 3)) {Q1 : Option Nat → GM → Prop} (h : w V Q1 x0 x1 G c1 s1) (kk : ∀ (r : Option Nat) (G1 : GM) (H1 : Heap) (locs1 : List Loc), Q1 r G1 → xW V A G1 H1 → va_S A s.heap H1 locs1 → xFr V G G1 H H1 → (cells + c1) + (kc - c1) ≤ R.cells → (slots + s1) + (ks - s1) ≤ R.slots → W p l e R s m args below meth c H1 locs1 (cells + c1) (slots + s1) Z (F0 m (pc + 3) ls (va_rf r :: rest))) : W p l e R s m args below meth c H locs cells slots Z (F0 m pc ls (va_rf x1 :: va_rf o :: rest)) := by
  subst ho
  obtain ⟨fs, hG⟩ := gCi_of hcv
  exact rg_q3w (va_runSU (As := [va_rf x1]) (rest := rest) (C.2.1.1 16 _ rfl).2 C.1 (hM V H.size G Q1 x0 x1 c1 s1) (va_cwSU 1 C.1.2.2.2.2 (lw_SU hlink q2201 q171 q263 q63 q264) rfl rfl rfl (by decide +kernel) ⟨hRf, hRl⟩) ⟨fun a U g mk q => by obtain ⟨q0, q1, qW, qK, qZ, qw⟩ := q; exact ⟨q0, q1, qW, xK.same (u := U) (U := U.calling g mk a) rfl qK, xZ.moved (u := U) (U := U.calling g mk a) (Vm.Alike.refl U.vm) qZ, qw⟩, (hW.recv C.2.1 hG (r := (RJ4, TJ4, 4)) (by rw [hci]; rfl)), fun U hU hWm => ⟨rfl, by rw [hU], by rw [hU]; exact hW.self _, C.2.1.warm hWm, xZ.call C.2.2.1 hW hS C.2.2.2 hU hWm.alike, h⟩⟩ rfl rfl hz rfl (lv_room hr8) hdg ⟨by omega, by omega⟩) hW hS C.2.2.2 (fun r G1 H1 locs1 hp hW1 hS1 hF1 => kk r G1 H1 locs1 hp hW1 hS1 hF1 (by omega) (by omega))
def w_J3_append (V : XV) (Q : Option Nat → GM → Prop) (x0 : Nat) (x1 : Option Nat) (G : GM) (kc : Nat) (ks : Nat) : Prop := if x1 = none then (False) else (gRcv G x1 (fun a1 c2 => (c2 % 64 = 17) ∧ (w_J5_length V (fun r3 => gGI G 46 (some x0) (fun v4 => gRcv G (some x0) (fun a5 c6 => (c6 % 64 = 16) ∧ (∃ c8 s9 : Nat, c8 ≤ kc ∧ s9 ≤ ks ∧ (w_J3_ensureCapacityInternal V (fun G7 => gGI G7 46 (some x0) (fun v10 => gRcv G7 (some x0) (fun a11 c12 => (c12 % 64 = 16) ∧ (w_J3_putStringAt V (fun G13 => gGI G13 46 (some x0) (fun v14 => gPF G13 46 (some x0) (.int (v14 + r3)) (fun G15 => Q (some x0) G15))) a11 v10 x1 G7)))) a5 (v4 + r3) G c8 s9))))) a1 G)))
set_option maxRecDepth 100000 in
set_option maxHeartbeats 4000000 in
theorem wk_J3_append {p : Program} {l : Launch} {e : Env} {R : Room} {s : State} {m : MethodId} {args : Array Value} {below : List Frame} {meth : Method} {c : Code} {Z : State → Prop} {A : Nat → Prop} {V : XV} (Q : Option Nat → GM → Prop) (C : xC p m c s args cJ3_append 3 RJ3 V A) (hRf : 14 ≤ R.frames) (hRl : 247 ≤ R.locals) (G : GM) (hret : ∀ (v : Option Nat) (G : GM) (pc : Nat) (ls : Array Slot) (H : Heap) (locs : List Loc) (cells slots : Nat) {k1 k2 : Nat}, decode cJ3_append pc = .ok (.areturn, 1) → xW V A G H → va_S A s.heap H locs → cells + k1 ≤ R.cells → slots + k2 ≤ R.slots → Q v G → W p l e R s m args below meth c H locs cells slots Z (F0 m pc ls [va_rf v])) (x0 : Nat) (x1 : Option Nat) (kc ks : Nat) : w_J3_append V Q x0 x1 G kc ks → ∀ (ls : Array Slot) (H : Heap) (locs : List Loc) (cells slots : Nat), lv_has ls 3 [(0, va_rf (some x0)), (1, va_rf x1)] → xW V A G H → va_S A s.heap H locs → cells + kc ≤ R.cells → slots + ks ≤ R.slots → W p l e R s m args below meth c H locs cells slots Z (F0 m 0 ls []) := by
  have hx := C.1.1; have hb := C.1.2.1; have hml := C.1.2.2.1; have hown := C.1.2.2.2.1; have hts := C.1.2.2.2.2
  intro h
  intro ls H locs cells slots hl hW hS hkc hks
  refine sh_aload_n hx hb dJ3_append_0 rfl (lv_at hl 1 rfl) ?_
  refine sh_ifnonnull (tgt := 9) hx hb dJ3_append_1 (by decide) (fun c16 => ?_) (fun c16 => ?_)
  · have h := wif_f h c16
    refine sh_aload_n hx hb dJ3_append_9 rfl (lv_at hl 1 rfl) ?_
    obtain ⟨a1, c2, ho10, hcv10, h⟩ := h
    have hcc := h.1
    have h := h.2
    refine call_J5_length_V (ct_J5_length l) C hW hS q335 ho10 hcv10 hcc (le_lit hRf rfl) (le_lit hRl rfl) ⟨Nat.le_trans (Nat.le_add_right _ _) hkc, Nat.le_trans (Nat.le_add_right _ _) hks⟩ hl.1 (Nat.le_of_ble_eq_true rfl) dJ3_append_10 h (fun r3 H locs h hW hS _ => ?_)
    refine lv_istore_n (lv' := [(2, .int r3), (0, va_rf (some x0)), (1, va_rf x1)]) hx hb dJ3_append_13 rfl hl (by decide) (by simp only [List.filter_cons, List.filter_nil, va_rf_cat]; rfl) (fun ls hl => ?_)
    refine sh_aload_n hx hb dJ3_append_14 rfl (lv_at hl 1 rfl) ?_
    refine sh_aload_n hx hb dJ3_append_15 rfl (lv_at hl 1 rfl) ?_
    obtain ⟨v4, h1, h⟩ := h
    refine sh_get C hW xFb_46 q162 (fun _ h => h) h1 dJ3_append_16 ?_
    refine lv_iload_n hx hb dJ3_append_19 rfl (lv_at hl 0 rfl) ?_
    refine lv_iadd hx hb dJ3_append_20 ?_
    obtain ⟨a5, c6, ho21, hcv21, h⟩ := h
    have hcc := h.1
    have h := h.2
    obtain ⟨c8, s9, hc21, hs21, h⟩ := h
    refine call_J3_ensureCapacityInternal_P16_AbstractStringBuilder (ct_J3_ensureCapacityInternal l) C hW hS q269 ho21 hcv21 hcc (le_lit hRf rfl) (le_lit hRl rfl) hc21 hs21 hkc hks hl.1 (Nat.le_of_ble_eq_true rfl) dJ3_append_21 h (fun G7 H locs h hW hS _ hkc hks => ?_)
    refine sh_aload_n hx hb dJ3_append_24 rfl (lv_at hl 1 rfl) ?_
    refine sh_aload_n hx hb dJ3_append_25 rfl (lv_at hl 1 rfl) ?_
    obtain ⟨v10, h1, h⟩ := h
    refine sh_get C hW xFb_46 q162 (fun _ h => h) h1 dJ3_append_26 ?_
    refine sh_aload_n hx hb dJ3_append_29 rfl (lv_at hl 2 rfl) ?_
    obtain ⟨a11, c12, ho30, hcv30, h⟩ := h
    have hcc := h.1
    have h := h.2
    refine call_J3_putStringAt_P16_AbstractStringBuilder (ct_J3_putStringAt l) C hW hS q344 ho30 hcv30 hcc (le_lit hRf rfl) (le_lit hRl rfl) ⟨Nat.le_trans (Nat.le_add_right _ _) hkc, Nat.le_trans (Nat.le_add_right _ _) hks⟩ hl.1 (Nat.le_of_ble_eq_true rfl) dJ3_append_30 h (fun G13 H locs h hW hS _ => ?_)
    refine sh_aload_n hx hb dJ3_append_33 rfl (lv_at hl 1 rfl) ?_
    refine lv_dup hx hb dJ3_append_34 (va_rf_cat _) ?_
    obtain ⟨v14, h1, h⟩ := h
    refine sh_get C hW xFb_46 q162 (fun _ h => h) h1 dJ3_append_35 ?_
    refine lv_iload_n hx hb dJ3_append_38 rfl (lv_at hl 0 rfl) ?_
    refine lv_iadd hx hb dJ3_append_39 ?_
    refine sh_put C hW hS xFb_46 q162 (fun _ h => h) xFd_46 rfl rfl h dJ3_append_40 (fun G15 H locs hW hS h => ?_)
    refine sh_aload_n hx hb dJ3_append_43 rfl (lv_at hl 1 rfl) ?_
    exact hret _ _ _ _ _ _ _ _ dJ3_append_44 hW hS hkc hks h
  · have h := wif_t h c16
    refine sh_aload_n hx hb dJ3_append_4 rfl (lv_at hl 0 rfl) ?_
    exact False.elim h
theorem ct_J3_append (l : Launch) : CT_J3_append l 14 247 w_J3_append := by
  intro V sz G Q x0 x1 kc ks
  refine Met.ofW (cc := cJ3_append) (maxL := 3) (ret := (some (.object "java/lang/AbstractStringBuilder"))) (by decide) rfl ?_
  intro p e s m args below meth c s₁ B hml hv
  obtain ⟨rfl, hsz, hW, hK, hZ, h⟩ := hv
  subst hsz
  have hts := atoms_spec (ws := (ws_ yJ3_append cJ3_append 3 (some (.object "java/lang/AbstractStringBuilder")))) B.pre
  have hts : ∀ w ∈ lw_all, w.before _ s = true := fun w h => hts w (List.mem_cons_of_mem _ h)
  have key : ∃ ls : Array Slot, entryFrame m ([.ref x0, va_rf x1] : List Value).toArray 3 = F0 m 0 ls [] ∧ lv_has ls 3 [(0, va_rf (some x0)), (1, va_rf x1)] := by
    cases x1 <;> (refine ⟨_, by rw [lg_entry_eq], ?_⟩; exact lv_entry _ (Nat.le_of_ble_eq_true rfl))
  obtain ⟨ls, hfr, hl⟩ := key
  rw [hfr]
  exact wk_J3_append Q ⟨⟨B.exec, B.bytes, hml, findClass_of_methodNamed B.named, hts⟩, hK, hZ, fun q h => Or.inr h⟩ (Nat.le_refl _) (Nat.le_refl _) G (fun v G pc ls H locs cells slots _ _ hd hW1 hS hkc hks hQ => W.widen (k := kc) (n := ks) (Nat.le_trans (Nat.le_add_right _ _) hkc) (Nat.le_trans (Nat.le_add_right _ _) hks) (W.aret (v := va_rf v) B.exec B.bytes B.returns (Or.inl ⟨_, rfl⟩) (va_rf_or v) (fun t ht _ => ⟨⟨v, G, rfl, hQ, by rw [← ht] at hW1; exact hW1⟩, hS.F ht⟩) hS.2.2 hd)) x0 x1 kc ks h ls _ [] 0 0 hl hW va_S.rf (by show 0 + kc ≤ kc; omega) (by show 0 + ks ≤ ks; omega)
def CT_J3_append_2 (l : Launch) (fr lo : Nat) (w : XV → (Option Nat → GM → Prop) → Nat → Int32 → GM → Nat → Nat → Prop) : Prop := ∀ (V : XV) (sz : Nat) (G : GM) (Q : Option Nat → GM → Prop) (x0 : Nat) (x1 : Int32) (kc ks : Nat), Met l yJ3_append_2 (ws_ yJ3_append_2 cJ3_append_2 4 (some (.object "java/lang/AbstractStringBuilder"))) { frames := fr, cells := kc, slots := ks, locals := lo } (va_Pc [.ref x0, .int x1] (fun U => U.heap.size = sz ∧ xW V (xA G sz) G U.heap ∧ xK V U ∧ xZ V (xA G sz) U U.heap ∧ w V Q x0 x1 G kc ks)) (va_Qq (fun r (u : GM) => Q r u) (fun u t => xW V (xA G sz) u t.heap) (xA G sz)) kc ks (xA G sz)
theorem call_J3_append_2_SU_StringBuilder {p : Program} {l : Launch} {e : Env} {R : Room} {s : State} {m : MethodId} {args : Array Value} {below : List Frame} {meth : Method} {c : Code} {H : Heap} {locs : List Loc} {cells slots : Nat} {Z : State → Prop} {A : Nat → Prop} {cc : ByteArray} {nL pc : Nat} {ls : Array Slot} {rest : List Value} {index fr lo : Nat} {w : XV → (Option Nat → GM → Prop) → Nat → Int32 → GM → Nat → Nat → Prop} {V : XV} {G : GM} {o : Option Nat} {ci : Nat} {kc ks c1 s1 : Nat} {x0 : Nat} {x1 : Int32} (hM : CT_J3_append_2 l fr lo w) (C : xC p m c s args cc nL "java/lang/StringBuilder" V A) (hW : xW V A G H) (hS : va_S A s.heap H locs) (hlink : Cond.methodLink "java/lang/StringBuilder" index yJ3_append_2 ∈ lw_all) (ho : o = some x0) (hcv : gCi G (some x0) = some ci) (hci : ci % 64 = 16) (hRf : fr + 1 ≤ R.frames) (hRl : 8 + (4 + 11) + lo ≤ R.locals) (hc1 : c1 ≤ kc) (hs1 : s1 ≤ ks) (hkc : cells + kc ≤ R.cells) (hks : slots + ks ≤ R.slots) (hz : ls.size = nL) (hr8 : (rest.map fun v => v.category).sum ≤ 8) (hdg : decode cc pc = .ok (.invokespecial index, 3)) {Q1 : Option Nat → GM → Prop} (h : w V Q1 x0 x1 G c1 s1) (kk : ∀ (r : Option Nat) (G1 : GM) (H1 : Heap) (locs1 : List Loc), Q1 r G1 → xW V A G1 H1 → va_S A s.heap H1 locs1 → xFr V G G1 H H1 → (cells + c1) + (kc - c1) ≤ R.cells → (slots + s1) + (ks - s1) ≤ R.slots → W p l e R s m args below meth c H1 locs1 (cells + c1) (slots + s1) Z (F0 m (pc + 3) ls (va_rf r :: rest))) : W p l e R s m args below meth c H locs cells slots Z (F0 m pc ls (.int x1 :: va_rf o :: rest)) := by
  subst ho
  obtain ⟨fs, hG⟩ := gCi_of hcv
  exact rg_q3w (va_runSU (As := [.int x1]) (rest := rest) (C.2.1.1 16 _ rfl).2 C.1 (hM V H.size G Q1 x0 x1 c1 s1) (va_cwSU 1 C.1.2.2.2.2 (lw_SU hlink q2208 q171 q383 q63 q384) rfl rfl rfl (by decide +kernel) ⟨hRf, hRl⟩) ⟨fun a U g mk q => by obtain ⟨q0, q1, qW, qK, qZ, qw⟩ := q; exact ⟨q0, q1, qW, xK.same (u := U) (U := U.calling g mk a) rfl qK, xZ.moved (u := U) (U := U.calling g mk a) (Vm.Alike.refl U.vm) qZ, qw⟩, (hW.recv C.2.1 hG (r := (RJ4, TJ4, 4)) (by rw [hci]; rfl)), fun U hU hWm => ⟨rfl, by rw [hU], by rw [hU]; exact hW.self _, C.2.1.warm hWm, xZ.call C.2.2.1 hW hS C.2.2.2 hU hWm.alike, h⟩⟩ rfl rfl hz rfl (lv_room hr8) hdg ⟨by omega, by omega⟩) hW hS C.2.2.2 (fun r G1 H1 locs1 hp hW1 hS1 hF1 => kk r G1 H1 locs1 hp hW1 hS1 hF1 (by omega) (by omega))
def w_J3_append_2 (V : XV) (Q : Option Nat → GM → Prop) (x0 : Nat) (x1 : Int32) (G : GM) (kc : Nat) (ks : Nat) : Prop := gGI G 46 (some x0) (fun v1 => w_J17_stringSize (fun r2 => gRcv G (some x0) (fun a3 c4 => (c4 % 64 = 16) ∧ (∃ c6 s7 : Nat, c6 ≤ kc ∧ s7 ≤ ks ∧ (w_J3_ensureCapacityInternal V (fun G5 => gRcv G5 (some x0) (fun a8 c9 => (c9 % 64 = 16) ∧ (w_J3_isLatin1 V (fun r10 => if r10 = 0 then (gGR G5 43 (some x0) (fun v11 => False)) else (gGR G5 43 (some x0) (fun v12 => w_J17_getChars V (fun r13 G14 => gPF G14 46 (some x0) (.int (v1 + r2)) (fun G15 => Q (some x0) G15)) x1 (v1 + r2) v12 G5))) a8 G5))) a3 (v1 + r2) G c6 s7)))) x1)
set_option maxRecDepth 100000 in
set_option maxHeartbeats 4000000 in
theorem wk_J3_append_2 {p : Program} {l : Launch} {e : Env} {R : Room} {s : State} {m : MethodId} {args : Array Value} {below : List Frame} {meth : Method} {c : Code} {Z : State → Prop} {A : Nat → Prop} {V : XV} (Q : Option Nat → GM → Prop) (C : xC p m c s args cJ3_append_2 4 RJ3 V A) (hRf : 14 ≤ R.frames) (hRl : 247 ≤ R.locals) (G : GM) (hret : ∀ (v : Option Nat) (G : GM) (pc : Nat) (ls : Array Slot) (H : Heap) (locs : List Loc) (cells slots : Nat) {k1 k2 : Nat}, decode cJ3_append_2 pc = .ok (.areturn, 1) → xW V A G H → va_S A s.heap H locs → cells + k1 ≤ R.cells → slots + k2 ≤ R.slots → Q v G → W p l e R s m args below meth c H locs cells slots Z (F0 m pc ls [va_rf v])) (x0 : Nat) (x1 : Int32) (kc ks : Nat) : w_J3_append_2 V Q x0 x1 G kc ks → ∀ (ls : Array Slot) (H : Heap) (locs : List Loc) (cells slots : Nat), lv_has ls 4 [(0, va_rf (some x0)), (1, .int x1)] → xW V A G H → va_S A s.heap H locs → cells + kc ≤ R.cells → slots + ks ≤ R.slots → W p l e R s m args below meth c H locs cells slots Z (F0 m 0 ls []) := by
  have hx := C.1.1; have hb := C.1.2.1; have hml := C.1.2.2.1; have hown := C.1.2.2.2.1; have hts := C.1.2.2.2.2
  intro h
  intro ls H locs cells slots hl hW hS hkc hks
  refine sh_aload_n hx hb dJ3_append_2_0 rfl (lv_at hl 0 rfl) ?_
  obtain ⟨v1, h1, h⟩ := h
  refine sh_get C hW xFb_46 q162 (fun _ h => h) h1 dJ3_append_2_1 ?_
  refine lv_istore_n (lv' := [(2, .int v1), (0, va_rf (some x0)), (1, .int x1)]) hx hb dJ3_append_2_4 rfl hl (by decide) rfl (fun ls hl => ?_)
  refine lv_iload_n hx hb dJ3_append_2_5 rfl (lv_at hl 0 rfl) ?_
  refine lv_iload_n hx hb dJ3_append_2_6 rfl (lv_at hl 2 rfl) ?_
  refine call_J17_stringSize (ct_J17_stringSize l) C.1 hS C.2.2.2 q385 (le_lit hRf rfl) (le_lit hRl rfl) ⟨Nat.le_trans (Nat.le_add_right _ _) hkc, Nat.le_trans (Nat.le_add_right _ _) hks⟩ hl.1 (Nat.le_of_ble_eq_true rfl) dJ3_append_2_7 h (fun r2 H locs h hk hS => ?_)
  have hW := hW.kept hk
  refine lv_iadd hx hb dJ3_append_2_10 ?_
  refine lv_istore_n (lv' := [(3, .int (v1 + r2)), (2, .int v1), (0, va_rf (some x0)), (1, .int x1)]) hx hb dJ3_append_2_11 rfl hl (by decide) rfl (fun ls hl => ?_)
  refine sh_aload_n hx hb dJ3_append_2_12 rfl (lv_at hl 2 rfl) ?_
  refine lv_iload_n hx hb dJ3_append_2_13 rfl (lv_at hl 0 rfl) ?_
  obtain ⟨a3, c4, ho14, hcv14, h⟩ := h
  have hcc := h.1
  have h := h.2
  obtain ⟨c6, s7, hc14, hs14, h⟩ := h
  refine call_J3_ensureCapacityInternal_P16_AbstractStringBuilder (ct_J3_ensureCapacityInternal l) C hW hS q269 ho14 hcv14 hcc (le_lit hRf rfl) (le_lit hRl rfl) hc14 hs14 hkc hks hl.1 (Nat.le_of_ble_eq_true rfl) dJ3_append_2_14 h (fun G5 H locs h hW hS _ hkc hks => ?_)
  refine sh_aload_n hx hb dJ3_append_2_17 rfl (lv_at hl 2 rfl) ?_
  obtain ⟨a8, c9, ho18, hcv18, h⟩ := h
  have hcc := h.1
  have h := h.2
  refine call_J3_isLatin1_U16_AbstractStringBuilder (ct_J3_isLatin1 l) C hW hS q304 ho18 hcv18 hcc (le_lit hRf rfl) (le_lit hRl rfl) ⟨Nat.le_trans (Nat.le_add_right _ _) hkc, Nat.le_trans (Nat.le_add_right _ _) hks⟩ hl.1 (Nat.le_of_ble_eq_true rfl) dJ3_append_2_18 h (fun r10 H locs h hW hS _ => ?_)
  refine lv_if_eq (tgt := 37) hx hb dJ3_append_2_21 (by decide) (fun c16 => ?_) (fun c16 => ?_)
  · have h := wif_t h c16
    refine lv_iload_n hx hb dJ3_append_2_37 rfl (lv_at hl 3 rfl) ?_
    refine lv_iload_n hx hb dJ3_append_2_38 rfl (lv_at hl 1 rfl) ?_
    refine lv_iload_n hx hb dJ3_append_2_39 rfl (lv_at hl 0 rfl) ?_
    refine sh_aload_n hx hb dJ3_append_2_40 rfl (lv_at hl 2 rfl) ?_
    obtain ⟨v11, h1, h⟩ := h
    refine sh_get C hW xFb_43 q158 (fun _ h => h) h1 dJ3_append_2_41 ?_
    exact False.elim h
  · have h := wif_f h c16
    refine lv_iload_n hx hb dJ3_append_2_24 rfl (lv_at hl 3 rfl) ?_
    refine lv_iload_n hx hb dJ3_append_2_25 rfl (lv_at hl 0 rfl) ?_
    refine sh_aload_n hx hb dJ3_append_2_26 rfl (lv_at hl 2 rfl) ?_
    obtain ⟨v12, h1, h⟩ := h
    refine sh_get C hW xFb_43 q158 (fun _ h => h) h1 dJ3_append_2_27 ?_
    refine call_J17_getChars_S (ct_J17_getChars l) C hW hS q388 (le_lit hRf rfl) (le_lit hRl rfl) ⟨Nat.le_trans (Nat.le_add_right _ _) hkc, Nat.le_trans (Nat.le_add_right _ _) hks⟩ hl.1 (Nat.le_of_ble_eq_true rfl) dJ3_append_2_30 h (fun r13 G14 H locs h hW hS _ => ?_)
    refine lv_pop hx hb dJ3_append_2_33 rfl ?_
    refine lv_goto (tgt := 48) hx hb dJ3_append_2_34 (by decide) ?_
    refine sh_aload_n hx hb dJ3_append_2_48 rfl (lv_at hl 2 rfl) ?_
    refine lv_iload_n hx hb dJ3_append_2_49 rfl (lv_at hl 0 rfl) ?_
    refine sh_put C hW hS xFb_46 q162 (fun _ h => h) xFd_46 rfl rfl h dJ3_append_2_50 (fun G15 H locs hW hS h => ?_)
    refine sh_aload_n hx hb dJ3_append_2_53 rfl (lv_at hl 2 rfl) ?_
    exact hret _ _ _ _ _ _ _ _ dJ3_append_2_54 hW hS hkc hks h
theorem ct_J3_append_2 (l : Launch) : CT_J3_append_2 l 14 247 w_J3_append_2 := by
  intro V sz G Q x0 x1 kc ks
  refine Met.ofW (cc := cJ3_append_2) (maxL := 4) (ret := (some (.object "java/lang/AbstractStringBuilder"))) (by decide) rfl ?_
  intro p e s m args below meth c s₁ B hml hv
  obtain ⟨rfl, hsz, hW, hK, hZ, h⟩ := hv
  subst hsz
  have hts := atoms_spec (ws := (ws_ yJ3_append_2 cJ3_append_2 4 (some (.object "java/lang/AbstractStringBuilder")))) B.pre
  have hts : ∀ w ∈ lw_all, w.before _ s = true := fun w h => hts w (List.mem_cons_of_mem _ h)
  have hl := lv_entry ([.ref x0, .int x1]) (n := 4) (Nat.le_of_ble_eq_true rfl)
  rw [lg_entry_eq]
  generalize (lg_sl ([.ref x0, .int x1]) ++ List.replicate (4 - (lg_sl ([.ref x0, .int x1])).length) Slot.unset).toArray = ls at hl ⊢
  exact wk_J3_append_2 Q ⟨⟨B.exec, B.bytes, hml, findClass_of_methodNamed B.named, hts⟩, hK, hZ, fun q h => Or.inr h⟩ (Nat.le_refl _) (Nat.le_refl _) G (fun v G pc ls H locs cells slots _ _ hd hW1 hS hkc hks hQ => W.widen (k := kc) (n := ks) (Nat.le_trans (Nat.le_add_right _ _) hkc) (Nat.le_trans (Nat.le_add_right _ _) hks) (W.aret (v := va_rf v) B.exec B.bytes B.returns (Or.inl ⟨_, rfl⟩) (va_rf_or v) (fun t ht _ => ⟨⟨v, G, rfl, hQ, by rw [← ht] at hW1; exact hW1⟩, hS.F ht⟩) hS.2.2 hd)) x0 x1 kc ks h ls _ [] 0 0 hl hW va_S.rf (by show 0 + kc ≤ kc; omega) (by show 0 + ks ≤ ks; omega)
def CT_J3_getValue (l : Launch) (fr lo : Nat) (w : XV → (Option Nat → Prop) → Nat → GM → Prop) : Prop := ∀ (V : XV) (sz : Nat) (G : GM) (Q : Option Nat → Prop) (x0 : Nat), Met l yJ3_getValue (ws_ yJ3_getValue cJ3_getValue 1 (some (.array .byte))) { frames := fr, cells := 0, slots := 0, locals := lo } (va_Pc [.ref x0] (fun U => U.heap.size = sz ∧ xW V (xA G sz) G U.heap ∧ xK V U ∧ xZ V (xA G sz) U U.heap ∧ w V Q x0 G)) (va_Qq (fun r (u : GM) => u = G ∧ Q r) (fun u t => xW V (xA G sz) u t.heap) (xA G sz)) 0 0 (xA G sz)
theorem call_J3_getValue_U16_AbstractStringBuilder {p : Program} {l : Launch} {e : Env} {R : Room} {s : State} {m : MethodId} {args : Array Value} {below : List Frame} {meth : Method} {c : Code} {H : Heap} {locs : List Loc} {cells slots : Nat} {Z : State → Prop} {A : Nat → Prop} {cc : ByteArray} {nL pc : Nat} {ls : Array Slot} {rest : List Value} {own : String} {index fr lo : Nat} {w : XV → (Option Nat → Prop) → Nat → GM → Prop} {V : XV} {G : GM} {o : Option Nat} {ci : Nat} {x0 : Nat} (hM : CT_J3_getValue l fr lo w) (C : xC p m c s args cc nL own V A) (hW : xW V A G H) (hS : va_S A s.heap H locs) (hlink : Cond.methodLink own index ⟨"java/lang/AbstractStringBuilder", "getValue", "()[B"⟩ ∈ lw_all) (ho : o = some x0) (hcv : gCi G (some x0) = some ci) (hci : ci % 64 = 16) (hRf : fr + 1 ≤ R.frames) (hRl : 8 + (1 + 11) + lo ≤ R.locals) (hcs : cells ≤ R.cells ∧ slots ≤ R.slots) (hz : ls.size = nL) (hr8 : (rest.map fun v => v.category).sum ≤ 8) (hdg : decode cc pc = .ok (.invokevirtual index, 3)) {Q1 : Option Nat → Prop} (h : w V Q1 x0 G) (kk : ∀ (r : Option Nat) (H1 : Heap) (locs1 : List Loc), Q1 r → xW V A G H1 → va_S A s.heap H1 locs1 → xFr V G G H H1 → W p l e R s m args below meth c H1 locs1 cells slots Z (F0 m (pc + 3) ls (va_rf r :: rest))) : W p l e R s m args below meth c H locs cells slots Z (F0 m pc ls (va_rf o :: rest)) := by
  subst ho
  obtain ⟨fs, hG⟩ := gCi_of hcv
  exact rg_q3r (va_runU (As := []) (rest := rest) C.1 (hM V H.size G Q1 x0) (va_cwU (C := "java/lang/StringBuilder") 0 C.1.2.2.2.2 (lw_U hlink q418 q419 q417 q63 q420) rfl rfl rfl rfl (by decide +kernel) ⟨hRf, hRl⟩) ⟨fun a U g mk q => by obtain ⟨q0, q1, qW, qK, qZ, qw⟩ := q; exact ⟨q0, q1, qW, xK.same (u := U) (U := U.calling g mk a) rfl qK, xZ.moved (u := U) (U := U.calling g mk a) (Vm.Alike.refl U.vm) qZ, qw⟩, (hW.recv C.2.1 hG (r := (RJ4, TJ4, 4)) (by rw [hci]; rfl)), fun U hU hWm => ⟨rfl, by rw [hU], by rw [hU]; exact hW.self _, C.2.1.warm hWm, xZ.call C.2.2.1 hW hS C.2.2.2 hU hWm.alike, h⟩⟩ rfl rfl hz rfl (lv_room hr8) hdg hcs) hW hS C.2.2.2 (fun r H1 locs1 hp hW1 hS1 hF1 => kk r H1 locs1 hp hW1 hS1 hF1)
def w_J3_getValue (V : XV) (Q : Option Nat → Prop) (x0 : Nat) (G : GM) : Prop := gGR G 43 (some x0) (fun v1 => Q v1)
set_option maxRecDepth 100000 in
set_option maxHeartbeats 4000000 in
theorem wk_J3_getValue {p : Program} {l : Launch} {e : Env} {R : Room} {s : State} {m : MethodId} {args : Array Value} {below : List Frame} {meth : Method} {c : Code} {cells slots : Nat} {Z : State → Prop} {A : Nat → Prop} {V : XV} (Q : Option Nat → Prop) (C : xC p m c s args cJ3_getValue 1 RJ3 V A) (hRf : 1 ≤ R.frames) (hRl : 20 ≤ R.locals) (hcs : cells ≤ R.cells ∧ slots ≤ R.slots) (G : GM) (hret : ∀ (v : Option Nat) (pc : Nat) (ls : Array Slot) (H : Heap) (locs : List Loc), decode cJ3_getValue pc = .ok (.areturn, 1) → xW V A G H → va_S A s.heap H locs → Q v → W p l e R s m args below meth c H locs cells slots Z (F0 m pc ls [va_rf v])) (x0 : Nat) : w_J3_getValue V Q x0 G → ∀ (ls : Array Slot) (H : Heap) (locs : List Loc), lv_has ls 1 [(0, va_rf (some x0))] → xW V A G H → va_S A s.heap H locs → W p l e R s m args below meth c H locs cells slots Z (F0 m 0 ls []) := by
  have hx := C.1.1; have hb := C.1.2.1; have hml := C.1.2.2.1; have hown := C.1.2.2.2.1; have hts := C.1.2.2.2.2
  intro h
  intro ls H locs hl hW hS
  refine sh_aload_n hx hb dJ3_getValue_0 rfl (lv_at hl 0 rfl) ?_
  obtain ⟨v1, h1, h⟩ := h
  refine sh_get C hW xFb_43 q158 (fun _ h => h) h1 dJ3_getValue_1 ?_
  exact hret _ _ _ _ _ dJ3_getValue_4 hW hS h
theorem ct_J3_getValue (l : Launch) : CT_J3_getValue l 1 20 w_J3_getValue := by
  intro V sz G Q x0
  refine Met.ofW (cc := cJ3_getValue) (maxL := 1) (ret := (some (.array .byte))) (by decide) rfl ?_
  intro p e s m args below meth c s₁ B hml hv
  obtain ⟨rfl, hsz, hW, hK, hZ, h⟩ := hv
  subst hsz
  have hts := atoms_spec (ws := (ws_ yJ3_getValue cJ3_getValue 1 (some (.array .byte)))) B.pre
  have hts : ∀ w ∈ lw_all, w.before _ s = true := fun w h => hts w (List.mem_cons_of_mem _ h)
  have hl := lv_entry ([.ref x0]) (n := 1) (Nat.le_of_ble_eq_true rfl)
  rw [lg_entry_eq]
  generalize (lg_sl ([.ref x0]) ++ List.replicate (1 - (lg_sl ([.ref x0])).length) Slot.unset).toArray = ls at hl ⊢
  exact wk_J3_getValue Q ⟨⟨B.exec, B.bytes, hml, findClass_of_methodNamed B.named, hts⟩, hK, hZ, fun q h => Or.inr h⟩ (Nat.le_refl _) (Nat.le_refl _) ⟨Nat.le_refl _, Nat.le_refl _⟩ G (fun v pc ls H locs hd hW1 hS hQ => W.aret (v := va_rf v) B.exec B.bytes B.returns (Or.inr ⟨_, rfl⟩) (va_rf_or v) (fun t ht _ => ⟨⟨v, G, rfl, ⟨rfl, hQ⟩, by rw [← ht] at hW1; exact hW1⟩, hS.F ht⟩) hS.2.2 hd) x0 h ls _ [] hl hW va_S.rf
def CT_J3_length (l : Launch) (fr lo : Nat) (w : XV → (Int32 → Prop) → Nat → GM → Prop) : Prop := ∀ (V : XV) (sz : Nat) (G : GM) (Q : Int32 → Prop) (x0 : Nat), Met l yJ3_length (ws_ yJ3_length cJ3_length 1 (some .int)) { frames := fr, cells := 0, slots := 0, locals := lo } (va_Pc [.ref x0] (fun U => U.heap.size = sz ∧ xW V (xA G sz) G U.heap ∧ xK V U ∧ xZ V (xA G sz) U U.heap ∧ w V Q x0 G)) (va_Qi (fun r (u : GM) => u = G ∧ Q r) (fun u t => xW V (xA G sz) u t.heap) (xA G sz)) 0 0 (xA G sz)
theorem call_J3_length_SU_StringBuilder {p : Program} {l : Launch} {e : Env} {R : Room} {s : State} {m : MethodId} {args : Array Value} {below : List Frame} {meth : Method} {c : Code} {H : Heap} {locs : List Loc} {cells slots : Nat} {Z : State → Prop} {A : Nat → Prop} {cc : ByteArray} {nL pc : Nat} {ls : Array Slot} {rest : List Value} {index fr lo : Nat} {w : XV → (Int32 → Prop) → Nat → GM → Prop} {V : XV} {G : GM} {o : Option Nat} {ci : Nat} {x0 : Nat} (hM : CT_J3_length l fr lo w) (C : xC p m c s args cc nL "java/lang/StringBuilder" V A) (hW : xW V A G H) (hS : va_S A s.heap H locs) (hlink : Cond.methodLink "java/lang/StringBuilder" index yJ3_length ∈ lw_all) (ho : o = some x0) (hcv : gCi G (some x0) = some ci) (hci : ci % 64 = 16) (hRf : fr + 1 ≤ R.frames) (hRl : 8 + (1 + 11) + lo ≤ R.locals) (hcs : cells ≤ R.cells ∧ slots ≤ R.slots) (hz : ls.size = nL) (hr8 : (rest.map fun v => v.category).sum ≤ 8) (hdg : decode cc pc = .ok (.invokespecial index, 3)) {Q1 : Int32 → Prop} (h : w V Q1 x0 G) (kk : ∀ (r : Int32) (H1 : Heap) (locs1 : List Loc), Q1 r → xW V A G H1 → va_S A s.heap H1 locs1 → xFr V G G H H1 → W p l e R s m args below meth c H1 locs1 cells slots Z (F0 m (pc + 3) ls (.int r :: rest))) : W p l e R s m args below meth c H locs cells slots Z (F0 m pc ls (va_rf o :: rest)) := by
  subst ho
  obtain ⟨fs, hG⟩ := gCi_of hcv
  exact rg_i3r (va_runSU (As := []) (rest := rest) (C.2.1.1 16 _ rfl).2 C.1 (hM V H.size G Q1 x0) (va_cwSU 0 C.1.2.2.2.2 (lw_SU hlink q423 q171 q422 q63 q428) rfl rfl rfl (by decide +kernel) ⟨hRf, hRl⟩) ⟨fun a U g mk q => by obtain ⟨q0, q1, qW, qK, qZ, qw⟩ := q; exact ⟨q0, q1, qW, xK.same (u := U) (U := U.calling g mk a) rfl qK, xZ.moved (u := U) (U := U.calling g mk a) (Vm.Alike.refl U.vm) qZ, qw⟩, (hW.recv C.2.1 hG (r := (RJ4, TJ4, 4)) (by rw [hci]; rfl)), fun U hU hWm => ⟨rfl, by rw [hU], by rw [hU]; exact hW.self _, C.2.1.warm hWm, xZ.call C.2.2.1 hW hS C.2.2.2 hU hWm.alike, h⟩⟩ rfl rfl hz rfl (lv_room hr8) hdg hcs) hW hS C.2.2.2 (fun r H1 locs1 hp hW1 hS1 hF1 => kk r H1 locs1 hp hW1 hS1 hF1)
def w_J3_length (V : XV) (Q : Int32 → Prop) (x0 : Nat) (G : GM) : Prop := gGI G 46 (some x0) (fun v1 => Q v1)
set_option maxRecDepth 100000 in
set_option maxHeartbeats 4000000 in
theorem wk_J3_length {p : Program} {l : Launch} {e : Env} {R : Room} {s : State} {m : MethodId} {args : Array Value} {below : List Frame} {meth : Method} {c : Code} {cells slots : Nat} {Z : State → Prop} {A : Nat → Prop} {V : XV} (Q : Int32 → Prop) (C : xC p m c s args cJ3_length 1 RJ3 V A) (hRf : 1 ≤ R.frames) (hRl : 20 ≤ R.locals) (hcs : cells ≤ R.cells ∧ slots ≤ R.slots) (G : GM) (hret : ∀ (v : Int32) (pc : Nat) (ls : Array Slot) (H : Heap) (locs : List Loc), decode cJ3_length pc = .ok (.ireturn, 1) → xW V A G H → va_S A s.heap H locs → Q v → W p l e R s m args below meth c H locs cells slots Z (F0 m pc ls [.int v])) (x0 : Nat) : w_J3_length V Q x0 G → ∀ (ls : Array Slot) (H : Heap) (locs : List Loc), lv_has ls 1 [(0, va_rf (some x0))] → xW V A G H → va_S A s.heap H locs → W p l e R s m args below meth c H locs cells slots Z (F0 m 0 ls []) := by
  have hx := C.1.1; have hb := C.1.2.1; have hml := C.1.2.2.1; have hown := C.1.2.2.2.1; have hts := C.1.2.2.2.2
  intro h
  intro ls H locs hl hW hS
  refine sh_aload_n hx hb dJ3_length_0 rfl (lv_at hl 0 rfl) ?_
  obtain ⟨v1, h1, h⟩ := h
  refine sh_get C hW xFb_46 q162 (fun _ h => h) h1 dJ3_length_1 ?_
  exact hret _ _ _ _ _ dJ3_length_4 hW hS h
theorem ct_J3_length (l : Launch) : CT_J3_length l 1 20 w_J3_length := by
  intro V sz G Q x0
  refine Met.ofW (cc := cJ3_length) (maxL := 1) (ret := (some .int)) (by decide) rfl ?_
  intro p e s m args below meth c s₁ B hml hv
  obtain ⟨rfl, hsz, hW, hK, hZ, h⟩ := hv
  subst hsz
  have hts := atoms_spec (ws := (ws_ yJ3_length cJ3_length 1 (some .int))) B.pre
  have hts : ∀ w ∈ lw_all, w.before _ s = true := fun w h => hts w (List.mem_cons_of_mem _ h)
  have hl := lv_entry ([.ref x0]) (n := 1) (Nat.le_of_ble_eq_true rfl)
  rw [lg_entry_eq]
  generalize (lg_sl ([.ref x0]) ++ List.replicate (1 - (lg_sl ([.ref x0])).length) Slot.unset).toArray = ls at hl ⊢
  exact wk_J3_length Q ⟨⟨B.exec, B.bytes, hml, findClass_of_methodNamed B.named, hts⟩, hK, hZ, fun q h => Or.inr h⟩ (Nat.le_refl _) (Nat.le_refl _) ⟨Nat.le_refl _, Nat.le_refl _⟩ G (fun v pc ls H locs hd hW1 hS hQ => W.iret (v := v) B.exec B.bytes B.returns (fun t ht _ => ⟨⟨v, G, rfl, ⟨rfl, hQ⟩, by rw [← ht] at hW1; exact hW1⟩, hS.F ht⟩) hS.2.2 hd) x0 h ls _ [] hl hW va_S.rf
def CT_J5_checkIndex (l : Launch) (fr lo : Nat) (w : XV → (Prop) → Int32 → Int32 → GM → Prop) : Prop := ∀ (V : XV) (sz : Nat) (G : GM) (Q : Prop) (x0 : Int32) (x1 : Int32), Met l yJ5_checkIndex (ws_ yJ5_checkIndex cJ5_checkIndex 2 none) { frames := fr, cells := 0, slots := 0, locals := lo } (va_Pc [.int x0, .int x1] (fun U => U.heap.size = sz ∧ xW V (xA G sz) G U.heap ∧ xK V U ∧ xZ V (xA G sz) U U.heap ∧ w V Q x0 x1 G)) (va_Qv (fun (u : GM) => u = G ∧ Q) (fun u t => xW V (xA G sz) u t.heap) (xA G sz)) 0 0 (xA G sz)
theorem call_J5_checkIndex_S {p : Program} {l : Launch} {e : Env} {R : Room} {s : State} {m : MethodId} {args : Array Value} {below : List Frame} {meth : Method} {c : Code} {H : Heap} {locs : List Loc} {cells slots : Nat} {Z : State → Prop} {A : Nat → Prop} {cc : ByteArray} {nL pc : Nat} {ls : Array Slot} {rest : List Value} {own : String} {index fr lo : Nat} {w : XV → (Prop) → Int32 → Int32 → GM → Prop} {V : XV} {G : GM} {x0 : Int32} {x1 : Int32} (hM : CT_J5_checkIndex l fr lo w) (C : xC p m c s args cc nL own V A) (hW : xW V A G H) (hS : va_S A s.heap H locs) (hlink : Cond.methodLink own index yJ5_checkIndex ∈ lw_all) (hRf : fr + 1 ≤ R.frames) (hRl : 8 + (2 + 11) + lo ≤ R.locals) (hcs : cells ≤ R.cells ∧ slots ≤ R.slots) (hz : ls.size = nL) (hr8 : (rest.map fun v => v.category).sum ≤ 8) (hdg : decode cc pc = .ok (.invokestatic index, 3)) {Q1 : Prop} (h : w V Q1 x0 x1 G) (kk : ∀ (H1 : Heap) (locs1 : List Loc), Q1 → xW V A G H1 → va_S A s.heap H1 locs1 → xFr V G G H H1 → W p l e R s m args below meth c H1 locs1 cells slots Z (F0 m (pc + 3) ls (rest))) : W p l e R s m args below meth c H locs cells slots Z (F0 m pc ls (.int x1 :: .int x0 :: rest)) := by
  exact rg_v3r (va_runS (As := [.int x0, .int x1]) (rest := rest) C.1 (hM V H.size G Q1 x0 x1) (va_cwS 2 C.1.2.2.2.2 (lw_S hlink q605 q65 q606) rfl rfl rfl (by decide +kernel) ⟨hRf, hRl⟩) ⟨fun a U g mk q => by obtain ⟨q0, q1, qW, qK, qZ, qw⟩ := q; exact ⟨q0, q1, qW, xK.same (u := U) (U := U.calling g mk a) rfl qK, xZ.moved (u := U) (U := U.calling g mk a) (Vm.Alike.refl U.vm) qZ, qw⟩, fun U hU hWm => ⟨rfl, by rw [hU], by rw [hU]; exact hW.self _, C.2.1.warm hWm, xZ.call C.2.2.1 hW hS C.2.2.2 hU hWm.alike, h⟩⟩ rfl rfl hz rfl (lv_room hr8) hdg hcs) hW hS C.2.2.2 (fun H1 locs1 hp hW1 hS1 hF1 => kk H1 locs1 hp hW1 hS1 hF1)
def w_J5_checkIndex (V : XV) (Q : Prop) (x0 : Int32) (x1 : Int32) (G : GM) : Prop := ∃ v1, xst V "jdk/internal/util/Preconditions" "SIOOBE_FORMATTER" = va_rf v1 ∧ (w_J15_checkIndex V (fun r2 => Q) x0 x1 v1 G)
set_option maxRecDepth 100000 in
set_option maxHeartbeats 4000000 in
theorem wk_J5_checkIndex {p : Program} {l : Launch} {e : Env} {R : Room} {s : State} {m : MethodId} {args : Array Value} {below : List Frame} {meth : Method} {c : Code} {cells slots : Nat} {Z : State → Prop} {A : Nat → Prop} {V : XV} (Q : Prop) (C : xC p m c s args cJ5_checkIndex 2 RJ5 V A) (hRf : 2 ≤ R.frames) (hRl : 42 ≤ R.locals) (hcs : cells ≤ R.cells ∧ slots ≤ R.slots) (G : GM) (hret : ∀ (pc : Nat) (ls : Array Slot) (H : Heap) (locs : List Loc), decode cJ5_checkIndex pc = .ok (.return_, 1) → xW V A G H → va_S A s.heap H locs → Q → W p l e R s m args below meth c H locs cells slots Z (F0 m pc ls [])) (x0 : Int32) (x1 : Int32) : w_J5_checkIndex V Q x0 x1 G → ∀ (ls : Array Slot) (H : Heap) (locs : List Loc), lv_has ls 2 [(0, .int x0), (1, .int x1)] → xW V A G H → va_S A s.heap H locs → W p l e R s m args below meth c H locs cells slots Z (F0 m 0 ls []) := by
  have hx := C.1.1; have hb := C.1.2.1; have hml := C.1.2.2.1; have hown := C.1.2.2.2.1; have hts := C.1.2.2.2.2
  intro h
  intro ls H locs hl hW hS
  refine lv_iload_n hx hb dJ5_checkIndex_0 rfl (lv_at hl 0 rfl) ?_
  refine lv_iload_n hx hb dJ5_checkIndex_1 rfl (lv_at hl 1 rfl) ?_
  refine sh_getsR C hS q322 q321 (fun _ h => h) h dJ5_checkIndex_2 (fun v1 h => ?_)
  refine call_J15_checkIndex_S (ct_J15_checkIndex l) C hW hS q607 (le_lit hRf rfl) (le_lit hRl rfl) hcs hl.1 (Nat.le_of_ble_eq_true rfl) dJ5_checkIndex_5 h (fun r2 H locs h hW hS _ => ?_)
  refine lv_pop hx hb dJ5_checkIndex_8 rfl ?_
  exact hret  _ _ _ _ dJ5_checkIndex_9 hW hS h
theorem ct_J5_checkIndex (l : Launch) : CT_J5_checkIndex l 2 42 w_J5_checkIndex := by
  intro V sz G Q x0 x1
  refine Met.ofW (cc := cJ5_checkIndex) (maxL := 2) (ret := none) (by decide) rfl ?_
  intro p e s m args below meth c s₁ B hml hv
  obtain ⟨rfl, hsz, hW, hK, hZ, h⟩ := hv
  subst hsz
  have hts := atoms_spec (ws := (ws_ yJ5_checkIndex cJ5_checkIndex 2 none)) B.pre
  have hts : ∀ w ∈ lw_all, w.before _ s = true := fun w h => hts w (List.mem_cons_of_mem _ h)
  have hl := lv_entry ([.int x0, .int x1]) (n := 2) (Nat.le_of_ble_eq_true rfl)
  rw [lg_entry_eq]
  generalize (lg_sl ([.int x0, .int x1]) ++ List.replicate (2 - (lg_sl ([.int x0, .int x1])).length) Slot.unset).toArray = ls at hl ⊢
  exact wk_J5_checkIndex Q ⟨⟨B.exec, B.bytes, hml, findClass_of_methodNamed B.named, hts⟩, hK, hZ, fun q h => Or.inr h⟩ (Nat.le_refl _) (Nat.le_refl _) ⟨Nat.le_refl _, Nat.le_refl _⟩ G (fun pc ls H locs hd hW1 hS hQ => W.vret B.exec B.bytes B.returns (fun t ht _ => ⟨⟨G, rfl, ⟨rfl, hQ⟩, by rw [← ht] at hW1; exact hW1⟩, hS.F ht⟩) hS.2.2 hd) x0 x1 h ls _ [] hl hW va_S.rf
def CT_J3_charAt (l : Launch) (fr lo : Nat) (w : XV → (Int32 → Prop) → Nat → Int32 → GM → Prop) : Prop := ∀ (V : XV) (sz : Nat) (G : GM) (Q : Int32 → Prop) (x0 : Nat) (x1 : Int32), Met l yJ3_charAt (ws_ yJ3_charAt cJ3_charAt 5 (some .char)) { frames := fr, cells := 0, slots := 0, locals := lo } (va_Pc [.ref x0, .int x1] (fun U => U.heap.size = sz ∧ xW V (xA G sz) G U.heap ∧ xK V U ∧ xZ V (xA G sz) U U.heap ∧ w V Q x0 x1 G)) (va_Qi (fun r (u : GM) => u = G ∧ Q r) (fun u t => xW V (xA G sz) u t.heap) (xA G sz)) 0 0 (xA G sz)
theorem call_J3_charAt_SU_StringBuilder {p : Program} {l : Launch} {e : Env} {R : Room} {s : State} {m : MethodId} {args : Array Value} {below : List Frame} {meth : Method} {c : Code} {H : Heap} {locs : List Loc} {cells slots : Nat} {Z : State → Prop} {A : Nat → Prop} {cc : ByteArray} {nL pc : Nat} {ls : Array Slot} {rest : List Value} {index fr lo : Nat} {w : XV → (Int32 → Prop) → Nat → Int32 → GM → Prop} {V : XV} {G : GM} {o : Option Nat} {ci : Nat} {x0 : Nat} {x1 : Int32} (hM : CT_J3_charAt l fr lo w) (C : xC p m c s args cc nL "java/lang/StringBuilder" V A) (hW : xW V A G H) (hS : va_S A s.heap H locs) (hlink : Cond.methodLink "java/lang/StringBuilder" index yJ3_charAt ∈ lw_all) (ho : o = some x0) (hcv : gCi G (some x0) = some ci) (hci : ci % 64 = 16) (hRf : fr + 1 ≤ R.frames) (hRl : 8 + (5 + 11) + lo ≤ R.locals) (hcs : cells ≤ R.cells ∧ slots ≤ R.slots) (hz : ls.size = nL) (hr8 : (rest.map fun v => v.category).sum ≤ 8) (hdg : decode cc pc = .ok (.invokespecial index, 3)) {Q1 : Int32 → Prop} (h : w V Q1 x0 x1 G) (kk : ∀ (r : Int32) (H1 : Heap) (locs1 : List Loc), Q1 r → xW V A G H1 → va_S A s.heap H1 locs1 → xFr V G G H H1 → W p l e R s m args below meth c H1 locs1 cells slots Z (F0 m (pc + 3) ls (.int r :: rest))) : W p l e R s m args below meth c H locs cells slots Z (F0 m pc ls (.int x1 :: va_rf o :: rest)) := by
  subst ho
  obtain ⟨fs, hG⟩ := gCi_of hcv
  exact rg_i3r (va_runSU (As := [.int x1]) (rest := rest) (C.2.1.1 16 _ rfl).2 C.1 (hM V H.size G Q1 x0 x1) (va_cwSU 1 C.1.2.2.2.2 (lw_SU hlink q2211 q171 q601 q63 q602) rfl rfl rfl (by decide +kernel) ⟨hRf, hRl⟩) ⟨fun a U g mk q => by obtain ⟨q0, q1, qW, qK, qZ, qw⟩ := q; exact ⟨q0, q1, qW, xK.same (u := U) (U := U.calling g mk a) rfl qK, xZ.moved (u := U) (U := U.calling g mk a) (Vm.Alike.refl U.vm) qZ, qw⟩, (hW.recv C.2.1 hG (r := (RJ4, TJ4, 4)) (by rw [hci]; rfl)), fun U hU hWm => ⟨rfl, by rw [hU], by rw [hU]; exact hW.self _, C.2.1.warm hWm, xZ.call C.2.2.1 hW hS C.2.2.2 hU hWm.alike, h⟩⟩ rfl rfl hz rfl (lv_room hr8) hdg hcs) hW hS C.2.2.2 (fun r H1 locs1 hp hW1 hS1 hF1 => kk r H1 locs1 hp hW1 hS1 hF1)
def w_J3_charAt (V : XV) (Q : Int32 → Prop) (x0 : Nat) (x1 : Int32) (G : GM) : Prop := gGI G 44 (some x0) (fun v1 => gGR G 43 (some x0) (fun v2 => gGI G 46 (some x0) (fun v3 => gLn G v2 (fun v4 => w_J13_min (fun r5 => w_J5_checkIndex V (if v1 = 0 then (gIL G 2 v2 x1 (fun v6 => narrow .char (.int (((v6 &&& (255 : Int32)).toUInt32 % 65536).toInt32)) = .int (((v6 &&& (255 : Int32)).toUInt32 % 65536).toInt32) ∧ (Q (((v6 &&& (255 : Int32)).toUInt32 % 65536).toInt32)))) else (False)) x1 r5 G) v3 (v4 >>> (v1 &&& 31))))))
set_option maxRecDepth 100000 in
set_option maxHeartbeats 4000000 in
theorem wk_J3_charAt {p : Program} {l : Launch} {e : Env} {R : Room} {s : State} {m : MethodId} {args : Array Value} {below : List Frame} {meth : Method} {c : Code} {cells slots : Nat} {Z : State → Prop} {A : Nat → Prop} {V : XV} (Q : Int32 → Prop) (C : xC p m c s args cJ3_charAt 5 RJ3 V A) (hRf : 3 ≤ R.frames) (hRl : 63 ≤ R.locals) (hcs : cells ≤ R.cells ∧ slots ≤ R.slots) (G : GM) (hret : ∀ (v : Int32) (pc : Nat) (ls : Array Slot) (H : Heap) (locs : List Loc), decode cJ3_charAt pc = .ok (.ireturn, 1) → xW V A G H → va_S A s.heap H locs → narrow .char (.int v) = .int v → Q v → W p l e R s m args below meth c H locs cells slots Z (F0 m pc ls [.int v])) (x0 : Nat) (x1 : Int32) : w_J3_charAt V Q x0 x1 G → ∀ (ls : Array Slot) (H : Heap) (locs : List Loc), lv_has ls 5 [(0, va_rf (some x0)), (1, .int x1)] → xW V A G H → va_S A s.heap H locs → W p l e R s m args below meth c H locs cells slots Z (F0 m 0 ls []) := by
  have hx := C.1.1; have hb := C.1.2.1; have hml := C.1.2.2.1; have hown := C.1.2.2.2.1; have hts := C.1.2.2.2.2
  intro h
  intro ls H locs hl hW hS
  refine sh_aload_n hx hb dJ3_charAt_0 rfl (lv_at hl 0 rfl) ?_
  obtain ⟨v1, h1, h⟩ := h
  refine sh_get C hW xFb_44 q159 (fun _ h => h) h1 dJ3_charAt_1 ?_
  refine lv_istore_n (lv' := [(2, .int v1), (0, va_rf (some x0)), (1, .int x1)]) hx hb dJ3_charAt_4 rfl hl (by decide) rfl (fun ls hl => ?_)
  refine sh_aload_n hx hb dJ3_charAt_5 rfl (lv_at hl 1 rfl) ?_
  obtain ⟨v2, h1, h⟩ := h
  refine sh_get C hW xFb_43 q158 (fun _ h => h) h1 dJ3_charAt_6 ?_
  refine sh_astore_n (lv' := [(3, va_rf v2), (2, .int v1), (0, va_rf (some x0)), (1, .int x1)]) hx hb dJ3_charAt_9 rfl hl (by decide) rfl (fun ls hl => ?_)
  refine sh_aload_n hx hb dJ3_charAt_10 rfl (lv_at hl 2 rfl) ?_
  obtain ⟨v3, h1, h⟩ := h
  refine sh_get C hW xFb_46 q162 (fun _ h => h) h1 dJ3_charAt_11 ?_
  refine sh_aload_n hx hb dJ3_charAt_14 rfl (lv_at hl 0 rfl) ?_
  refine sh_len C hW h dJ3_charAt_15 (fun v4 h => ?_)
  refine lv_iload_n hx hb dJ3_charAt_16 rfl (lv_at hl 1 rfl) ?_
  refine lv_ishr hx hb dJ3_charAt_17 ?_
  refine call_J13_min (ct_J13_min l) C.1 hS C.2.2.2 q603 (le_lit hRf rfl) (le_lit hRl rfl) hcs hl.1 (Nat.le_of_ble_eq_true rfl) dJ3_charAt_18 h (fun r5 H locs h hk hS => ?_)
  have hW := hW.kept hk
  refine lv_istore (lv' := [(4, .int r5), (3, va_rf v2), (2, .int v1), (0, va_rf (some x0)), (1, .int x1)]) hx hb dJ3_charAt_21 hl (by decide) (by simp only [List.filter_cons, List.filter_nil, va_rf_cat]; rfl) (fun ls hl => ?_)
  refine lv_iload_n hx hb dJ3_charAt_23 rfl (lv_at hl 4 rfl) ?_
  refine lv_iload hx hb dJ3_charAt_24 (lv_at hl 0 rfl) ?_
  refine call_J5_checkIndex_S (ct_J5_checkIndex l) C hW hS q604 (le_lit hRf rfl) (le_lit hRl rfl) hcs hl.1 (Nat.le_of_ble_eq_true rfl) dJ3_charAt_26 h (fun  H locs h hW hS _ => ?_)
  refine lv_iload_n hx hb dJ3_charAt_29 rfl (lv_at hl 2 rfl) ?_
  refine lv_if_ne (tgt := 42) hx hb dJ3_charAt_30 (by decide) (fun c7 => ?_) (fun c7 => ?_)
  · have h := wif_f h c7
    refine sh_aload_n hx hb dJ3_charAt_42 rfl (lv_at hl 1 rfl) ?_
    refine lv_iload_n hx hb dJ3_charAt_43 rfl (lv_at hl 4 rfl) ?_
    exact False.elim h
  · have h := wif_t h c7
    refine sh_aload_n hx hb dJ3_charAt_33 rfl (lv_at hl 1 rfl) ?_
    refine lv_iload_n hx hb dJ3_charAt_34 rfl (lv_at hl 4 rfl) ?_
    refine sh_bald C hW h dJ3_charAt_35 (fun v6 h => ?_)
    refine lv_sipush (v := 255) hx hb dJ3_charAt_36 (by decide) ?_
    refine lv_iand hx hb dJ3_charAt_39 ?_
    refine lv_i2c hx hb dJ3_charAt_40 rfl ?_
    exact hret _ _ _ _ _ dJ3_charAt_41 hW hS h.1 h.2
theorem ct_J3_charAt (l : Launch) : CT_J3_charAt l 3 63 w_J3_charAt := by
  intro V sz G Q x0 x1
  refine Met.ofW (cc := cJ3_charAt) (maxL := 5) (ret := (some .char)) (by decide) rfl ?_
  intro p e s m args below meth c s₁ B hml hv
  obtain ⟨rfl, hsz, hW, hK, hZ, h⟩ := hv
  subst hsz
  have hts := atoms_spec (ws := (ws_ yJ3_charAt cJ3_charAt 5 (some .char))) B.pre
  have hts : ∀ w ∈ lw_all, w.before _ s = true := fun w h => hts w (List.mem_cons_of_mem _ h)
  have hl := lv_entry ([.ref x0, .int x1]) (n := 5) (Nat.le_of_ble_eq_true rfl)
  rw [lg_entry_eq]
  generalize (lg_sl ([.ref x0, .int x1]) ++ List.replicate (5 - (lg_sl ([.ref x0, .int x1])).length) Slot.unset).toArray = ls at hl ⊢
  exact wk_J3_charAt Q ⟨⟨B.exec, B.bytes, hml, findClass_of_methodNamed B.named, hts⟩, hK, hZ, fun q h => Or.inr h⟩ (Nat.le_refl _) (Nat.le_refl _) ⟨Nat.le_refl _, Nat.le_refl _⟩ G (fun v pc ls H locs hd hW1 hS hz hQ => W.zret (v := v) B.exec B.bytes B.returns hz (fun t ht _ => ⟨⟨v, G, rfl, ⟨rfl, hQ⟩, by rw [← ht] at hW1; exact hW1⟩, hS.F ht⟩) hS.2.2 hd) x0 x1 h ls _ [] hl hW va_S.rf
def CT_J3_append_3 (l : Launch) (fr lo : Nat) (w : XV → (Option Nat → GM → Prop) → Nat → Int32 → GM → Nat → Nat → Prop) : Prop := ∀ (V : XV) (sz : Nat) (G : GM) (Q : Option Nat → GM → Prop) (x0 : Nat) (x1 : Int32) (kc ks : Nat), Met l yJ3_append_3 (ws_ yJ3_append_3 cJ3_append_3 2 (some (.object "java/lang/AbstractStringBuilder"))) { frames := fr, cells := kc, slots := ks, locals := lo } (va_Pc [.ref x0, .int x1] (fun U => U.heap.size = sz ∧ xW V (xA G sz) G U.heap ∧ xK V U ∧ xZ V (xA G sz) U U.heap ∧ w V Q x0 x1 G kc ks)) (va_Qq (fun r (u : GM) => Q r u) (fun u t => xW V (xA G sz) u t.heap) (xA G sz)) kc ks (xA G sz)
theorem call_J3_append_3_SU_StringBuilder {p : Program} {l : Launch} {e : Env} {R : Room} {s : State} {m : MethodId} {args : Array Value} {below : List Frame} {meth : Method} {c : Code} {H : Heap} {locs : List Loc} {cells slots : Nat} {Z : State → Prop} {A : Nat → Prop} {cc : ByteArray} {nL pc : Nat} {ls : Array Slot} {rest : List Value} {index fr lo : Nat} {w : XV → (Option Nat → GM → Prop) → Nat → Int32 → GM → Nat → Nat → Prop} {V : XV} {G : GM} {o : Option Nat} {ci : Nat} {kc ks c1 s1 : Nat} {x0 : Nat} {x1 : Int32} (hM : CT_J3_append_3 l fr lo w) (C : xC p m c s args cc nL "java/lang/StringBuilder" V A) (hW : xW V A G H) (hS : va_S A s.heap H locs) (hlink : Cond.methodLink "java/lang/StringBuilder" index yJ3_append_3 ∈ lw_all) (ho : o = some x0) (hcv : gCi G (some x0) = some ci) (hci : ci % 64 = 16) (hRf : fr + 1 ≤ R.frames) (hRl : 8 + (2 + 11) + lo ≤ R.locals) (hc1 : c1 ≤ kc) (hs1 : s1 ≤ ks) (hkc : cells + kc ≤ R.cells) (hks : slots + ks ≤ R.slots) (hz : ls.size = nL) (hr8 : (rest.map fun v => v.category).sum ≤ 8) (hdg : decode cc pc = .ok (.invokespecial index, 3)) {Q1 : Option Nat → GM → Prop} (h : w V Q1 x0 x1 G c1 s1) (kk : ∀ (r : Option Nat) (G1 : GM) (H1 : Heap) (locs1 : List Loc), Q1 r G1 → xW V A G1 H1 → va_S A s.heap H1 locs1 → xFr V G G1 H H1 → (cells + c1) + (kc - c1) ≤ R.cells → (slots + s1) + (ks - s1) ≤ R.slots → W p l e R s m args below meth c H1 locs1 (cells + c1) (slots + s1) Z (F0 m (pc + 3) ls (va_rf r :: rest))) : W p l e R s m args below meth c H locs cells slots Z (F0 m pc ls (.int x1 :: va_rf o :: rest)) := by
  subst ho
  obtain ⟨fs, hG⟩ := gCi_of hcv
  exact rg_q3w (va_runSU (As := [.int x1]) (rest := rest) (C.2.1.1 16 _ rfl).2 C.1 (hM V H.size G Q1 x0 x1 c1 s1) (va_cwSU 1 C.1.2.2.2.2 (lw_SU hlink q2214 q171 q1633 q63 q1634) rfl rfl rfl (by decide +kernel) ⟨hRf, hRl⟩) ⟨fun a U g mk q => by obtain ⟨q0, q1, qW, qK, qZ, qw⟩ := q; exact ⟨q0, q1, qW, xK.same (u := U) (U := U.calling g mk a) rfl qK, xZ.moved (u := U) (U := U.calling g mk a) (Vm.Alike.refl U.vm) qZ, qw⟩, (hW.recv C.2.1 hG (r := (RJ4, TJ4, 4)) (by rw [hci]; rfl)), fun U hU hWm => ⟨rfl, by rw [hU], by rw [hU]; exact hW.self _, C.2.1.warm hWm, xZ.call C.2.2.1 hW hS C.2.2.2 hU hWm.alike, h⟩⟩ rfl rfl hz rfl (lv_room hr8) hdg ⟨by omega, by omega⟩) hW hS C.2.2.2 (fun r G1 H1 locs1 hp hW1 hS1 hF1 => kk r G1 H1 locs1 hp hW1 hS1 hF1 (by omega) (by omega))
def w_J3_append_3_45 (V : XV) (Q : Option Nat → GM → Prop) (x0 : Nat) (x1 : Int32) (G : GM) (kc : Nat) (ks : Nat) : Prop := gRcv G (some x0) (fun a1 c2 => (c2 % 64 = 16) ∧ (w_J3_isLatin1 V (fun r3 => if r3 = 0 then (gGR G 43 (some x0) (fun v4 => gGI G 46 (some x0) (fun v5 => gPF G 46 (some x0) (.int (v5 + (1 : Int32))) (fun G6 => False)))) else (False)) a1 G))
def w_J3_append_3 (V : XV) (Q : Option Nat → GM → Prop) (x0 : Nat) (x1 : Int32) (G : GM) (kc : Nat) (ks : Nat) : Prop := gGI G 46 (some x0) (fun v8 => gRcv G (some x0) (fun a9 c10 => (c10 % 64 = 16) ∧ (∃ c12 s13 : Nat, c12 ≤ kc ∧ s13 ≤ ks ∧ (w_J3_ensureCapacityInternal V (fun G11 => gRcv G11 (some x0) (fun a14 c15 => (c15 % 64 = 16) ∧ (w_J3_isLatin1 V (fun r16 => if r16 = 0 then (w_J3_append_3_45 V Q x0 x1 G11 (kc - c12) (ks - s13)) else (w_J16_canEncode (fun r17 => if r17 = 0 then (w_J3_append_3_45 V Q x0 x1 G11 (kc - c12) (ks - s13)) else (gGR G11 43 (some x0) (fun v18 => gGI G11 46 (some x0) (fun v19 => gPF G11 46 (some x0) (.int (v19 + (1 : Int32))) (fun G20 => gIS G20 2 v18 v19 (vp_nar .byte (x1.toInt8.toInt32)) (fun G21 => Q (some x0) G21)))))) x1)) a14 G11))) a9 (v8 + (1 : Int32)) G c12 s13))))
set_option maxRecDepth 100000 in
set_option maxHeartbeats 4000000 in
theorem wk_J3_append_3 {p : Program} {l : Launch} {e : Env} {R : Room} {s : State} {m : MethodId} {args : Array Value} {below : List Frame} {meth : Method} {c : Code} {Z : State → Prop} {A : Nat → Prop} {V : XV} (Q : Option Nat → GM → Prop) (C : xC p m c s args cJ3_append_3 2 RJ3 V A) (hRf : 14 ≤ R.frames) (hRl : 247 ≤ R.locals) (G : GM) (hret : ∀ (v : Option Nat) (G : GM) (pc : Nat) (ls : Array Slot) (H : Heap) (locs : List Loc) (cells slots : Nat) {k1 k2 : Nat}, decode cJ3_append_3 pc = .ok (.areturn, 1) → xW V A G H → va_S A s.heap H locs → cells + k1 ≤ R.cells → slots + k2 ≤ R.slots → Q v G → W p l e R s m args below meth c H locs cells slots Z (F0 m pc ls [va_rf v])) (x0 : Nat) (x1 : Int32) (kc ks : Nat) : w_J3_append_3 V Q x0 x1 G kc ks → ∀ (ls : Array Slot) (H : Heap) (locs : List Loc) (cells slots : Nat), lv_has ls 2 [(0, va_rf (some x0)), (1, .int x1)] → xW V A G H → va_S A s.heap H locs → cells + kc ≤ R.cells → slots + ks ≤ R.slots → W p l e R s m args below meth c H locs cells slots Z (F0 m 0 ls []) := by
  have hx := C.1.1; have hb := C.1.2.1; have hml := C.1.2.2.1; have hown := C.1.2.2.2.1; have hts := C.1.2.2.2.2
  have hb45 : ∀ (G : GM) (kc : Nat) (ks : Nat), w_J3_append_3_45 V Q x0 x1 G kc ks → ∀ (ls : Array Slot) (H : Heap) (locs : List Loc) (cells slots : Nat), lv_has ls 2 [(0, va_rf (some x0)), (1, .int x1)] → xW V A G H → va_S A s.heap H locs → cells + kc ≤ R.cells → slots + ks ≤ R.slots → W p l e R s m args below meth c H locs cells slots Z (F0 m 45 ls []) := by
    intro G kc ks h
    intro ls H locs cells slots hl hW hS hkc hks
    refine sh_aload_n hx hb dJ3_append_3_45 rfl (lv_at hl 0 rfl) ?_
    obtain ⟨a1, c2, ho46, hcv46, h⟩ := h
    have hcc := h.1
    have h := h.2
    refine call_J3_isLatin1_U16_AbstractStringBuilder (ct_J3_isLatin1 l) C hW hS q304 ho46 hcv46 hcc (le_lit hRf rfl) (le_lit hRl rfl) ⟨Nat.le_trans (Nat.le_add_right _ _) hkc, Nat.le_trans (Nat.le_add_right _ _) hks⟩ hl.1 (Nat.le_of_ble_eq_true rfl) dJ3_append_3_46 h (fun r3 H locs h hW hS _ => ?_)
    refine lv_if_eq (tgt := 56) hx hb dJ3_append_3_49 (by decide) (fun c7 => ?_) (fun c7 => ?_)
    · have h := wif_t h c7
      refine sh_aload_n hx hb dJ3_append_3_56 rfl (lv_at hl 0 rfl) ?_
      obtain ⟨v4, h1, h⟩ := h
      refine sh_get C hW xFb_43 q158 (fun _ h => h) h1 dJ3_append_3_57 ?_
      refine sh_aload_n hx hb dJ3_append_3_60 rfl (lv_at hl 0 rfl) ?_
      refine lv_dup hx hb dJ3_append_3_61 (va_rf_cat _) ?_
      obtain ⟨v5, h1, h⟩ := h
      refine sh_get C hW xFb_46 q162 (fun _ h => h) h1 dJ3_append_3_62 ?_
      refine lv_dup_x1 hx hb dJ3_append_3_65 rfl (va_rf_cat _) ?_
      refine lv_iconst (v := 1) hx hb dJ3_append_3_66 (by decide) ?_
      refine lv_iadd hx hb dJ3_append_3_67 ?_
      refine sh_put C hW hS xFb_46 q162 (fun _ h => h) xFd_46 rfl rfl h dJ3_append_3_68 (fun G6 H locs hW hS h => ?_)
      refine lv_iload_n hx hb dJ3_append_3_71 rfl (lv_at hl 1 rfl) ?_
      exact False.elim h
    · have h := wif_f h c7
      refine sh_aload_n hx hb dJ3_append_3_52 rfl (lv_at hl 0 rfl) ?_
      exact False.elim h
  intro h
  intro ls H locs cells slots hl hW hS hkc hks
  refine sh_aload_n hx hb dJ3_append_3_0 rfl (lv_at hl 0 rfl) ?_
  refine sh_aload_n hx hb dJ3_append_3_1 rfl (lv_at hl 0 rfl) ?_
  obtain ⟨v8, h1, h⟩ := h
  refine sh_get C hW xFb_46 q162 (fun _ h => h) h1 dJ3_append_3_2 ?_
  refine lv_iconst (v := 1) hx hb dJ3_append_3_5 (by decide) ?_
  refine lv_iadd hx hb dJ3_append_3_6 ?_
  obtain ⟨a9, c10, ho7, hcv7, h⟩ := h
  have hcc := h.1
  have h := h.2
  obtain ⟨c12, s13, hc7, hs7, h⟩ := h
  refine call_J3_ensureCapacityInternal_P16_AbstractStringBuilder (ct_J3_ensureCapacityInternal l) C hW hS q269 ho7 hcv7 hcc (le_lit hRf rfl) (le_lit hRl rfl) hc7 hs7 hkc hks hl.1 (Nat.le_of_ble_eq_true rfl) dJ3_append_3_7 h (fun G11 H locs h hW hS _ hkc hks => ?_)
  refine sh_aload_n hx hb dJ3_append_3_10 rfl (lv_at hl 0 rfl) ?_
  obtain ⟨a14, c15, ho11, hcv11, h⟩ := h
  have hcc := h.1
  have h := h.2
  refine call_J3_isLatin1_U16_AbstractStringBuilder (ct_J3_isLatin1 l) C hW hS q304 ho11 hcv11 hcc (le_lit hRf rfl) (le_lit hRl rfl) ⟨Nat.le_trans (Nat.le_add_right _ _) hkc, Nat.le_trans (Nat.le_add_right _ _) hks⟩ hl.1 (Nat.le_of_ble_eq_true rfl) dJ3_append_3_11 h (fun r16 H locs h hW hS _ => ?_)
  refine lv_if_eq (tgt := 45) hx hb dJ3_append_3_14 (by decide) (fun c23 => ?_) (fun c23 => ?_)
  · have h := wif_t h c23
    exact hb45 _ _ _ h ls H locs _ _ (lv_sub hl [0, 1] rfl) hW hS hkc hks
  · have h := wif_f h c23
    refine lv_iload_n hx hb dJ3_append_3_17 rfl (lv_at hl 1 rfl) ?_
    refine call_J16_canEncode (ct_J16_canEncode l) C.1 hS C.2.2.2 q1635 (le_lit hRf rfl) (le_lit hRl rfl) ⟨Nat.le_trans (Nat.le_add_right _ _) hkc, Nat.le_trans (Nat.le_add_right _ _) hks⟩ hl.1 (Nat.le_of_ble_eq_true rfl) dJ3_append_3_18 h (fun r17 H locs h hk hS => ?_)
    have hW := hW.kept hk
    refine lv_if_eq (tgt := 45) hx hb dJ3_append_3_21 (by decide) (fun c22 => ?_) (fun c22 => ?_)
    · have h := wif_t h c22
      exact hb45 _ _ _ h ls H locs _ _ (lv_sub hl [0, 1] rfl) hW hS hkc hks
    · have h := wif_f h c22
      refine sh_aload_n hx hb dJ3_append_3_24 rfl (lv_at hl 0 rfl) ?_
      obtain ⟨v18, h1, h⟩ := h
      refine sh_get C hW xFb_43 q158 (fun _ h => h) h1 dJ3_append_3_25 ?_
      refine sh_aload_n hx hb dJ3_append_3_28 rfl (lv_at hl 0 rfl) ?_
      refine lv_dup hx hb dJ3_append_3_29 (va_rf_cat _) ?_
      obtain ⟨v19, h1, h⟩ := h
      refine sh_get C hW xFb_46 q162 (fun _ h => h) h1 dJ3_append_3_30 ?_
      refine lv_dup_x1 hx hb dJ3_append_3_33 rfl (va_rf_cat _) ?_
      refine lv_iconst (v := 1) hx hb dJ3_append_3_34 (by decide) ?_
      refine lv_iadd hx hb dJ3_append_3_35 ?_
      refine sh_put C hW hS xFb_46 q162 (fun _ h => h) xFd_46 rfl rfl h dJ3_append_3_36 (fun G20 H locs hW hS h => ?_)
      refine lv_iload_n hx hb dJ3_append_3_39 rfl (lv_at hl 1 rfl) ?_
      refine lv_i2b hx hb dJ3_append_3_40 rfl ?_
      refine sh_bast C hW hS h dJ3_append_3_41 (fun G21 H locs hW hS h => ?_)
      refine lv_goto (tgt := 75) hx hb dJ3_append_3_42 (by decide) ?_
      refine sh_aload_n hx hb dJ3_append_3_75 rfl (lv_at hl 0 rfl) ?_
      exact hret _ _ _ _ _ _ _ _ dJ3_append_3_76 hW hS hkc hks h
theorem ct_J3_append_3 (l : Launch) : CT_J3_append_3 l 14 247 w_J3_append_3 := by
  intro V sz G Q x0 x1 kc ks
  refine Met.ofW (cc := cJ3_append_3) (maxL := 2) (ret := (some (.object "java/lang/AbstractStringBuilder"))) (by decide) rfl ?_
  intro p e s m args below meth c s₁ B hml hv
  obtain ⟨rfl, hsz, hW, hK, hZ, h⟩ := hv
  subst hsz
  have hts := atoms_spec (ws := (ws_ yJ3_append_3 cJ3_append_3 2 (some (.object "java/lang/AbstractStringBuilder")))) B.pre
  have hts : ∀ w ∈ lw_all, w.before _ s = true := fun w h => hts w (List.mem_cons_of_mem _ h)
  have hl := lv_entry ([.ref x0, .int x1]) (n := 2) (Nat.le_of_ble_eq_true rfl)
  rw [lg_entry_eq]
  generalize (lg_sl ([.ref x0, .int x1]) ++ List.replicate (2 - (lg_sl ([.ref x0, .int x1])).length) Slot.unset).toArray = ls at hl ⊢
  exact wk_J3_append_3 Q ⟨⟨B.exec, B.bytes, hml, findClass_of_methodNamed B.named, hts⟩, hK, hZ, fun q h => Or.inr h⟩ (Nat.le_refl _) (Nat.le_refl _) G (fun v G pc ls H locs cells slots _ _ hd hW1 hS hkc hks hQ => W.widen (k := kc) (n := ks) (Nat.le_trans (Nat.le_add_right _ _) hkc) (Nat.le_trans (Nat.le_add_right _ _) hks) (W.aret (v := va_rf v) B.exec B.bytes B.returns (Or.inl ⟨_, rfl⟩) (va_rf_or v) (fun t ht _ => ⟨⟨v, G, rfl, hQ, by rw [← ht] at hW1; exact hW1⟩, hS.F ht⟩) hS.2.2 hd)) x0 x1 kc ks h ls _ [] 0 0 hl hW va_S.rf (by show 0 + kc ≤ kc; omega) (by show 0 + ks ≤ ks; omega)
def CT_J3_reverse (l : Launch) (fr lo : Nat) (w : XV → (Option Nat → GM → Prop) → Nat → GM → Prop) : Prop := ∀ (V : XV) (sz : Nat) (G : GM) (Q : Option Nat → GM → Prop) (x0 : Nat), Met l yJ3_reverse (ws_ yJ3_reverse cJ3_reverse 7 (some (.object "java/lang/AbstractStringBuilder"))) { frames := fr, cells := 0, slots := 0, locals := lo } (va_Pc [.ref x0] (fun U => U.heap.size = sz ∧ xW V (xA G sz) G U.heap ∧ xK V U ∧ xZ V (xA G sz) U U.heap ∧ w V Q x0 G)) (va_Qq (fun r (u : GM) => Q r u) (fun u t => xW V (xA G sz) u t.heap) (xA G sz)) 0 0 (xA G sz)
theorem call_J3_reverse_SU_StringBuilder {p : Program} {l : Launch} {e : Env} {R : Room} {s : State} {m : MethodId} {args : Array Value} {below : List Frame} {meth : Method} {c : Code} {H : Heap} {locs : List Loc} {cells slots : Nat} {Z : State → Prop} {A : Nat → Prop} {cc : ByteArray} {nL pc : Nat} {ls : Array Slot} {rest : List Value} {index fr lo : Nat} {w : XV → (Option Nat → GM → Prop) → Nat → GM → Prop} {V : XV} {G : GM} {o : Option Nat} {ci : Nat} {x0 : Nat} (hM : CT_J3_reverse l fr lo w) (C : xC p m c s args cc nL "java/lang/StringBuilder" V A) (hW : xW V A G H) (hS : va_S A s.heap H locs) (hlink : Cond.methodLink "java/lang/StringBuilder" index yJ3_reverse ∈ lw_all) (ho : o = some x0) (hcv : gCi G (some x0) = some ci) (hci : ci % 64 = 16) (hRf : fr + 1 ≤ R.frames) (hRl : 8 + (7 + 11) + lo ≤ R.locals) (hcs : cells ≤ R.cells ∧ slots ≤ R.slots) (hz : ls.size = nL) (hr8 : (rest.map fun v => v.category).sum ≤ 8) (hdg : decode cc pc = .ok (.invokespecial index, 3)) {Q1 : Option Nat → GM → Prop} (h : w V Q1 x0 G) (kk : ∀ (r : Option Nat) (G1 : GM) (H1 : Heap) (locs1 : List Loc), Q1 r G1 → xW V A G1 H1 → va_S A s.heap H1 locs1 → xFr V G G1 H H1 → W p l e R s m args below meth c H1 locs1 cells slots Z (F0 m (pc + 3) ls (va_rf r :: rest))) : W p l e R s m args below meth c H locs cells slots Z (F0 m pc ls (va_rf o :: rest)) := by
  subst ho
  obtain ⟨fs, hG⟩ := gCi_of hcv
  exact rg_q3w (va_runSU (As := []) (rest := rest) (C.2.1.1 16 _ rfl).2 C.1 (hM V H.size G Q1 x0) (va_cwSU 0 C.1.2.2.2.2 (lw_SU hlink q2215 q171 q1650 q63 q1651) rfl rfl rfl (by decide +kernel) ⟨hRf, hRl⟩) ⟨fun a U g mk q => by obtain ⟨q0, q1, qW, qK, qZ, qw⟩ := q; exact ⟨q0, q1, qW, xK.same (u := U) (U := U.calling g mk a) rfl qK, xZ.moved (u := U) (U := U.calling g mk a) (Vm.Alike.refl U.vm) qZ, qw⟩, (hW.recv C.2.1 hG (r := (RJ4, TJ4, 4)) (by rw [hci]; rfl)), fun U hU hWm => ⟨rfl, by rw [hU], by rw [hU]; exact hW.self _, C.2.1.warm hWm, xZ.call C.2.2.1 hW hS C.2.2.2 hU hWm.alike, h⟩⟩ rfl rfl hz rfl (lv_room hr8) hdg hcs) hW hS C.2.2.2 (fun r G1 H1 locs1 hp hW1 hS1 hF1 => kk r G1 H1 locs1 hp hW1 hS1 hF1)
def w_J3_reverse_h28 (V : XV) (Q : Option Nat → GM → Prop) (x0 : Nat) (x1 : Option Nat) (x3 : Int32) (rec28 : Int32 → GM → Prop) (x4 : Int32) (G : GM) : Prop := if x4 < 0 then (Q (some x0) G) else (gIL G 2 x1 x4 (fun v1 => gIL G 2 x1 (x3 - x4) (fun v2 => gIS G 2 x1 x4 (vp_nar .byte v2) (fun G3 => gIS G3 2 x1 (x3 - x4) (vp_nar .byte v1) (fun G4 => rec28 (x4 + (-1 : Int32)) G4)))))
def w_J3_reverse_L28 (V : XV) (Q : Option Nat → GM → Prop) (x0 : Nat) (x1 : Option Nat) (x3 : Int32) (x4 : Int32) (G : GM) : Prop := wLoop (fun (rec : (Int32 × GM) → Prop) (s : Int32 × GM) => w_J3_reverse_h28 V Q x0 x1 x3 (fun x4 G => rec (x4, G)) s.1 s.2) (x4, G)
def w_J3_reverse (V : XV) (Q : Option Nat → GM → Prop) (x0 : Nat) (G : GM) : Prop := gGR G 43 (some x0) (fun v6 => gGI G 46 (some x0) (fun v7 => gRcv G (some x0) (fun a8 c9 => (c9 % 64 = 16) ∧ (w_J3_isLatin1 V (fun r10 => if r10 = 0 then (False) else (w_J3_reverse_L28 V Q x0 v6 (v7 - (1 : Int32)) (((v7 - (1 : Int32)) - (1 : Int32)) >>> ((1 : Int32) &&& 31)) G)) a8 G))))
set_option maxRecDepth 100000 in
set_option maxHeartbeats 4000000 in
theorem wk_J3_reverse {p : Program} {l : Launch} {e : Env} {R : Room} {s : State} {m : MethodId} {args : Array Value} {below : List Frame} {meth : Method} {c : Code} {cells slots : Nat} {Z : State → Prop} {A : Nat → Prop} {V : XV} (Q : Option Nat → GM → Prop) (C : xC p m c s args cJ3_reverse 7 RJ3 V A) (hRf : 2 ≤ R.frames) (hRl : 40 ≤ R.locals) (hcs : cells ≤ R.cells ∧ slots ≤ R.slots) (G : GM) (hret : ∀ (v : Option Nat) (G : GM) (pc : Nat) (ls : Array Slot) (H : Heap) (locs : List Loc), decode cJ3_reverse pc = .ok (.areturn, 1) → xW V A G H → va_S A s.heap H locs → Q v G → W p l e R s m args below meth c H locs cells slots Z (F0 m pc ls [va_rf v])) (x0 : Nat) : w_J3_reverse V Q x0 G → ∀ (ls : Array Slot) (H : Heap) (locs : List Loc), lv_has ls 7 [(0, va_rf (some x0))] → xW V A G H → va_S A s.heap H locs → W p l e R s m args below meth c H locs cells slots Z (F0 m 0 ls []) := by
  have hx := C.1.1; have hb := C.1.2.1; have hml := C.1.2.2.1; have hown := C.1.2.2.2.1; have hts := C.1.2.2.2.2
  have hL28 : ∀ (x1 : Option Nat) (x3 : Int32) (x4 : Int32) (G : GM), w_J3_reverse_L28 V Q x0 x1 x3 x4 G → ∀ (ls : Array Slot) (H : Heap) (locs : List Loc), lv_has ls 7 [(0, va_rf (some x0)), (1, va_rf x1), (3, .int x3), (4, .int x4)] → xW V A G H → va_S A s.heap H locs → W p l e R s m args below meth c H locs cells slots Z (F0 m 28 ls []) := by
    intro x1 x3
    obtain ⟨GG28, hG28⟩ : ∃ GG : Int32 → GM → Prop, ∀ (x4 : Int32) (G : GM), GG x4 G ↔ (∀ (ls : Array Slot) (H : Heap) (locs : List Loc), lv_has ls 7 [(0, va_rf (some x0)), (1, va_rf x1), (3, .int x3), (4, .int x4)] → xW V A G H → va_S A s.heap H locs → W p l e R s m args below meth c H locs cells slots Z (F0 m 28 ls [])) := ⟨fun x4 G => _, fun x4 G => Iff.rfl⟩
    have hB28 : ∀ (rec28 : Int32 → GM → Prop), (∀ (x4 : Int32) (G : GM), rec28 x4 G → GG28 x4 G) → ∀ (x4 : Int32) (G : GM), w_J3_reverse_h28 V Q x0 x1 x3 rec28 x4 G → GG28 x4 G := by
      intro rec28 hrec28
      intro x4 G h
      rw [hG28]
      intro ls H locs hl hW hS
      refine lv_iload hx hb dJ3_reverse_28 (lv_at hl 3 rfl) ?_
      refine lv_if_lt (tgt := 65) hx hb dJ3_reverse_30 (by decide) (fun c5 => ?_) (fun c5 => ?_)
      · have h := wif_t h c5
        refine lv_goto (tgt := 73) hx hb dJ3_reverse_65 (by decide) ?_
        refine sh_aload_n hx hb dJ3_reverse_73 rfl (lv_at hl 0 rfl) ?_
        exact hret _ _ _ _ _ _ dJ3_reverse_74 hW hS h
      · have h := wif_f h c5
        refine lv_iload_n hx hb dJ3_reverse_33 rfl (lv_at hl 2 rfl) ?_
        refine lv_iload hx hb dJ3_reverse_34 (lv_at hl 3 rfl) ?_
        refine lv_isub hx hb dJ3_reverse_36 ?_
        refine lv_istore (lv' := [(5, .int (x3 - x4)), (0, va_rf (some x0)), (1, va_rf x1), (3, .int x3), (4, .int x4)]) hx hb dJ3_reverse_37 hl (by decide) rfl (fun ls hl => ?_)
        refine sh_aload_n hx hb dJ3_reverse_39 rfl (lv_at hl 2 rfl) ?_
        refine lv_iload hx hb dJ3_reverse_40 (lv_at hl 4 rfl) ?_
        refine sh_bald C hW h dJ3_reverse_42 (fun v1 h => ?_)
        refine lv_istore (lv' := [(6, .int v1), (5, .int (x3 - x4)), (0, va_rf (some x0)), (1, va_rf x1), (3, .int x3), (4, .int x4)]) hx hb dJ3_reverse_43 hl (by decide) rfl (fun ls hl => ?_)
        refine sh_aload_n hx hb dJ3_reverse_45 rfl (lv_at hl 3 rfl) ?_
        refine lv_iload hx hb dJ3_reverse_46 (lv_at hl 5 rfl) ?_
        refine sh_aload_n hx hb dJ3_reverse_48 rfl (lv_at hl 3 rfl) ?_
        refine lv_iload hx hb dJ3_reverse_49 (lv_at hl 1 rfl) ?_
        refine sh_bald C hW h dJ3_reverse_51 (fun v2 h => ?_)
        refine sh_bast C hW hS h dJ3_reverse_52 (fun G3 H locs hW hS h => ?_)
        refine sh_aload_n hx hb dJ3_reverse_53 rfl (lv_at hl 3 rfl) ?_
        refine lv_iload hx hb dJ3_reverse_54 (lv_at hl 1 rfl) ?_
        refine lv_iload hx hb dJ3_reverse_56 (lv_at hl 0 rfl) ?_
        refine sh_bast C hW hS h dJ3_reverse_58 (fun G4 H locs hW hS h => ?_)
        refine lv_iinc (v := x4 + (-1 : Int32)) (lv' := [(4, .int (x4 + (-1 : Int32))), (6, .int v1), (5, .int (x3 - x4)), (0, va_rf (some x0)), (1, va_rf x1), (3, .int x3)]) hx hb dJ3_reverse_59 hl (k := 5) rfl (congrArg (fun z => x4 + z) (by decide)) (by decide) rfl (fun ls hl => ?_)
        refine lv_goto (tgt := 28) hx hb dJ3_reverse_62 (by decide) ?_
        exact (hG28 _ _).mp (hrec28 _ _ h) ls H locs (lv_sub hl [3, 4, 5, 0] rfl) hW hS
    intro x4 G h
    exact (hG28 x4 G).mp (loop_walk (fun s => GG28 s.1 s.2) (fun rec hrec s h => hB28 (fun x4 G => rec (x4, G)) (fun x4 G h => hrec (x4, G) h) s.1 s.2 h) (x4, G) h)
  intro h
  intro ls H locs hl hW hS
  refine sh_aload_n hx hb dJ3_reverse_0 rfl (lv_at hl 0 rfl) ?_
  obtain ⟨v6, h1, h⟩ := h
  refine sh_get C hW xFb_43 q158 (fun _ h => h) h1 dJ3_reverse_1 ?_
  refine sh_astore_n (lv' := [(1, va_rf v6), (0, va_rf (some x0))]) hx hb dJ3_reverse_4 rfl hl (by decide) rfl (fun ls hl => ?_)
  refine sh_aload_n hx hb dJ3_reverse_5 rfl (lv_at hl 1 rfl) ?_
  obtain ⟨v7, h1, h⟩ := h
  refine sh_get C hW xFb_46 q162 (fun _ h => h) h1 dJ3_reverse_6 ?_
  refine lv_istore_n (lv' := [(2, .int v7), (1, va_rf v6), (0, va_rf (some x0))]) hx hb dJ3_reverse_9 rfl hl (by decide) (by simp only [List.filter_cons, List.filter_nil, va_rf_cat]; rfl) (fun ls hl => ?_)
  refine lv_iload_n hx hb dJ3_reverse_10 rfl (lv_at hl 0 rfl) ?_
  refine lv_iconst (v := 1) hx hb dJ3_reverse_11 (by decide) ?_
  refine lv_isub hx hb dJ3_reverse_12 ?_
  refine lv_istore_n (lv' := [(3, .int (v7 - (1 : Int32))), (2, .int v7), (1, va_rf v6), (0, va_rf (some x0))]) hx hb dJ3_reverse_13 rfl hl (by decide) rfl (fun ls hl => ?_)
  refine sh_aload_n hx hb dJ3_reverse_14 rfl (lv_at hl 3 rfl) ?_
  obtain ⟨a8, c9, ho15, hcv15, h⟩ := h
  have hcc := h.1
  have h := h.2
  refine call_J3_isLatin1_U16_AbstractStringBuilder (ct_J3_isLatin1 l) C hW hS q304 ho15 hcv15 hcc (le_lit hRf rfl) (le_lit hRl rfl) hcs hl.1 (Nat.le_of_ble_eq_true rfl) dJ3_reverse_15 h (fun r10 H locs h hW hS _ => ?_)
  refine lv_if_eq (tgt := 68) hx hb dJ3_reverse_18 (by decide) (fun c11 => ?_) (fun c11 => ?_)
  · have h := wif_t h c11
    refine sh_aload_n hx hb dJ3_reverse_68 rfl (lv_at hl 2 rfl) ?_
    refine lv_iload_n hx hb dJ3_reverse_69 rfl (lv_at hl 1 rfl) ?_
    exact False.elim h
  · have h := wif_f h c11
    refine lv_iload_n hx hb dJ3_reverse_21 rfl (lv_at hl 0 rfl) ?_
    refine lv_iconst (v := 1) hx hb dJ3_reverse_22 (by decide) ?_
    refine lv_isub hx hb dJ3_reverse_23 ?_
    refine lv_iconst (v := 1) hx hb dJ3_reverse_24 (by decide) ?_
    refine lv_ishr hx hb dJ3_reverse_25 ?_
    refine lv_istore (lv' := [(4, .int (((v7 - (1 : Int32)) - (1 : Int32)) >>> ((1 : Int32) &&& 31))), (3, .int (v7 - (1 : Int32))), (2, .int v7), (1, va_rf v6), (0, va_rf (some x0))]) hx hb dJ3_reverse_26 hl (by decide) rfl (fun ls hl => ?_)
    exact hL28 _ _ _ _ h ls H locs (lv_sub hl [4, 3, 1, 0] rfl) hW hS
theorem ct_J3_reverse (l : Launch) : CT_J3_reverse l 2 40 w_J3_reverse := by
  intro V sz G Q x0
  refine Met.ofW (cc := cJ3_reverse) (maxL := 7) (ret := (some (.object "java/lang/AbstractStringBuilder"))) (by decide) rfl ?_
  intro p e s m args below meth c s₁ B hml hv
  obtain ⟨rfl, hsz, hW, hK, hZ, h⟩ := hv
  subst hsz
  have hts := atoms_spec (ws := (ws_ yJ3_reverse cJ3_reverse 7 (some (.object "java/lang/AbstractStringBuilder")))) B.pre
  have hts : ∀ w ∈ lw_all, w.before _ s = true := fun w h => hts w (List.mem_cons_of_mem _ h)
  have hl := lv_entry ([.ref x0]) (n := 7) (Nat.le_of_ble_eq_true rfl)
  rw [lg_entry_eq]
  generalize (lg_sl ([.ref x0]) ++ List.replicate (7 - (lg_sl ([.ref x0])).length) Slot.unset).toArray = ls at hl ⊢
  exact wk_J3_reverse Q ⟨⟨B.exec, B.bytes, hml, findClass_of_methodNamed B.named, hts⟩, hK, hZ, fun q h => Or.inr h⟩ (Nat.le_refl _) (Nat.le_refl _) ⟨Nat.le_refl _, Nat.le_refl _⟩ G (fun v G pc ls H locs hd hW1 hS hQ => W.aret (v := va_rf v) B.exec B.bytes B.returns (Or.inl ⟨_, rfl⟩) (va_rf_or v) (fun t ht _ => ⟨⟨v, G, rfl, hQ, by rw [← ht] at hW1; exact hW1⟩, hS.F ht⟩) hS.2.2 hd) x0 h ls _ [] hl hW va_S.rf
def CT_J5_checkOffset (l : Launch) (fr lo : Nat) (w : XV → (Prop) → Int32 → Int32 → GM → Prop) : Prop := ∀ (V : XV) (sz : Nat) (G : GM) (Q : Prop) (x0 : Int32) (x1 : Int32), Met l yJ5_checkOffset (ws_ yJ5_checkOffset cJ5_checkOffset 2 none) { frames := fr, cells := 0, slots := 0, locals := lo } (va_Pc [.int x0, .int x1] (fun U => U.heap.size = sz ∧ xW V (xA G sz) G U.heap ∧ xK V U ∧ xZ V (xA G sz) U U.heap ∧ w V Q x0 x1 G)) (va_Qv (fun (u : GM) => u = G ∧ Q) (fun u t => xW V (xA G sz) u t.heap) (xA G sz)) 0 0 (xA G sz)
theorem call_J5_checkOffset_S {p : Program} {l : Launch} {e : Env} {R : Room} {s : State} {m : MethodId} {args : Array Value} {below : List Frame} {meth : Method} {c : Code} {H : Heap} {locs : List Loc} {cells slots : Nat} {Z : State → Prop} {A : Nat → Prop} {cc : ByteArray} {nL pc : Nat} {ls : Array Slot} {rest : List Value} {own : String} {index fr lo : Nat} {w : XV → (Prop) → Int32 → Int32 → GM → Prop} {V : XV} {G : GM} {x0 : Int32} {x1 : Int32} (hM : CT_J5_checkOffset l fr lo w) (C : xC p m c s args cc nL own V A) (hW : xW V A G H) (hS : va_S A s.heap H locs) (hlink : Cond.methodLink own index yJ5_checkOffset ∈ lw_all) (hRf : fr + 1 ≤ R.frames) (hRl : 8 + (2 + 11) + lo ≤ R.locals) (hcs : cells ≤ R.cells ∧ slots ≤ R.slots) (hz : ls.size = nL) (hr8 : (rest.map fun v => v.category).sum ≤ 8) (hdg : decode cc pc = .ok (.invokestatic index, 3)) {Q1 : Prop} (h : w V Q1 x0 x1 G) (kk : ∀ (H1 : Heap) (locs1 : List Loc), Q1 → xW V A G H1 → va_S A s.heap H1 locs1 → xFr V G G H H1 → W p l e R s m args below meth c H1 locs1 cells slots Z (F0 m (pc + 3) ls (rest))) : W p l e R s m args below meth c H locs cells slots Z (F0 m pc ls (.int x1 :: .int x0 :: rest)) := by
  exact rg_v3r (va_runS (As := [.int x0, .int x1]) (rest := rest) C.1 (hM V H.size G Q1 x0 x1) (va_cwS 2 C.1.2.2.2.2 (lw_S hlink q1659 q65 q1660) rfl rfl rfl (by decide +kernel) ⟨hRf, hRl⟩) ⟨fun a U g mk q => by obtain ⟨q0, q1, qW, qK, qZ, qw⟩ := q; exact ⟨q0, q1, qW, xK.same (u := U) (U := U.calling g mk a) rfl qK, xZ.moved (u := U) (U := U.calling g mk a) (Vm.Alike.refl U.vm) qZ, qw⟩, fun U hU hWm => ⟨rfl, by rw [hU], by rw [hU]; exact hW.self _, C.2.1.warm hWm, xZ.call C.2.2.1 hW hS C.2.2.2 hU hWm.alike, h⟩⟩ rfl rfl hz rfl (lv_room hr8) hdg hcs) hW hS C.2.2.2 (fun H1 locs1 hp hW1 hS1 hF1 => kk H1 locs1 hp hW1 hS1 hF1)
def w_J5_checkOffset (V : XV) (Q : Prop) (x0 : Int32) (x1 : Int32) (G : GM) : Prop := ∃ v1, xst V "jdk/internal/util/Preconditions" "SIOOBE_FORMATTER" = va_rf v1 ∧ (False)
set_option maxRecDepth 100000 in
set_option maxHeartbeats 4000000 in
theorem wk_J5_checkOffset {p : Program} {l : Launch} {e : Env} {R : Room} {s : State} {m : MethodId} {args : Array Value} {below : List Frame} {meth : Method} {c : Code} {cells slots : Nat} {Z : State → Prop} {A : Nat → Prop} {V : XV} (Q : Prop) (C : xC p m c s args cJ5_checkOffset 2 RJ5 V A) (hRf : 1 ≤ R.frames) (hRl : 20 ≤ R.locals) (hcs : cells ≤ R.cells ∧ slots ≤ R.slots) (G : GM) (hret : ∀ (pc : Nat) (ls : Array Slot) (H : Heap) (locs : List Loc), decode cJ5_checkOffset pc = .ok (.return_, 1) → xW V A G H → va_S A s.heap H locs → Q → W p l e R s m args below meth c H locs cells slots Z (F0 m pc ls [])) (x0 : Int32) (x1 : Int32) : w_J5_checkOffset V Q x0 x1 G → ∀ (ls : Array Slot) (H : Heap) (locs : List Loc), lv_has ls 2 [(0, .int x0), (1, .int x1)] → xW V A G H → va_S A s.heap H locs → W p l e R s m args below meth c H locs cells slots Z (F0 m 0 ls []) := by
  have hx := C.1.1; have hb := C.1.2.1; have hml := C.1.2.2.1; have hown := C.1.2.2.2.1; have hts := C.1.2.2.2.2
  intro h
  intro ls H locs hl hW hS
  refine lv_iload_n hx hb dJ5_checkOffset_0 rfl (lv_at hl 0 rfl) ?_
  refine lv_iload_n hx hb dJ5_checkOffset_1 rfl (lv_at hl 1 rfl) ?_
  refine lv_iload_n hx hb dJ5_checkOffset_2 rfl (lv_at hl 1 rfl) ?_
  refine sh_getsR C hS q322 q321 (fun _ h => h) h dJ5_checkOffset_3 (fun v1 h => ?_)
  exact False.elim h
theorem ct_J5_checkOffset (l : Launch) : CT_J5_checkOffset l 1 20 w_J5_checkOffset := by
  intro V sz G Q x0 x1
  refine Met.ofW (cc := cJ5_checkOffset) (maxL := 2) (ret := none) (by decide) rfl ?_
  intro p e s m args below meth c s₁ B hml hv
  obtain ⟨rfl, hsz, hW, hK, hZ, h⟩ := hv
  subst hsz
  have hts := atoms_spec (ws := (ws_ yJ5_checkOffset cJ5_checkOffset 2 none)) B.pre
  have hts : ∀ w ∈ lw_all, w.before _ s = true := fun w h => hts w (List.mem_cons_of_mem _ h)
  have hl := lv_entry ([.int x0, .int x1]) (n := 2) (Nat.le_of_ble_eq_true rfl)
  rw [lg_entry_eq]
  generalize (lg_sl ([.int x0, .int x1]) ++ List.replicate (2 - (lg_sl ([.int x0, .int x1])).length) Slot.unset).toArray = ls at hl ⊢
  exact wk_J5_checkOffset Q ⟨⟨B.exec, B.bytes, hml, findClass_of_methodNamed B.named, hts⟩, hK, hZ, fun q h => Or.inr h⟩ (Nat.le_refl _) (Nat.le_refl _) ⟨Nat.le_refl _, Nat.le_refl _⟩ G (fun pc ls H locs hd hW1 hS hQ => W.vret B.exec B.bytes B.returns (fun t ht _ => ⟨⟨G, rfl, ⟨rfl, hQ⟩, by rw [← ht] at hW1; exact hW1⟩, hS.F ht⟩) hS.2.2 hd) x0 x1 h ls _ [] hl hW va_S.rf
def CT_J3_shift (l : Launch) (fr lo : Nat) (w : XV → (GM → Prop) → Nat → Int32 → Int32 → GM → Prop) : Prop := ∀ (V : XV) (sz : Nat) (G : GM) (Q : GM → Prop) (x0 : Nat) (x1 : Int32) (x2 : Int32), Met l yJ3_shift (ws_ yJ3_shift cJ3_shift 3 none) { frames := fr, cells := 0, slots := 0, locals := lo } (va_Pc [.ref x0, .int x1, .int x2] (fun U => U.heap.size = sz ∧ xW V (xA G sz) G U.heap ∧ xK V U ∧ xZ V (xA G sz) U U.heap ∧ w V Q x0 x1 x2 G)) (va_Qv (fun (u : GM) => Q u) (fun u t => xW V (xA G sz) u t.heap) (xA G sz)) 0 0 (xA G sz)
theorem call_J3_shift_P16_AbstractStringBuilder {p : Program} {l : Launch} {e : Env} {R : Room} {s : State} {m : MethodId} {args : Array Value} {below : List Frame} {meth : Method} {c : Code} {H : Heap} {locs : List Loc} {cells slots : Nat} {Z : State → Prop} {A : Nat → Prop} {cc : ByteArray} {nL pc : Nat} {ls : Array Slot} {rest : List Value} {own : String} {index fr lo : Nat} {w : XV → (GM → Prop) → Nat → Int32 → Int32 → GM → Prop} {V : XV} {G : GM} {o : Option Nat} {ci : Nat} {x0 : Nat} {x1 : Int32} {x2 : Int32} (hM : CT_J3_shift l fr lo w) (C : xC p m c s args cc nL own V A) (hW : xW V A G H) (hS : va_S A s.heap H locs) (hlink : Cond.methodLink own index ⟨"java/lang/AbstractStringBuilder", "shift", "(II)V"⟩ ∈ lw_all) (ho : o = some x0) (hcv : gCi G (some x0) = some ci) (hci : ci % 64 = 16) (hRf : fr + 1 ≤ R.frames) (hRl : 8 + (3 + 11) + lo ≤ R.locals) (hcs : cells ≤ R.cells ∧ slots ≤ R.slots) (hz : ls.size = nL) (hr8 : (rest.map fun v => v.category).sum ≤ 8) (hdg : decode cc pc = .ok (.invokevirtual index, 3)) {Q1 : GM → Prop} (h : w V Q1 x0 x1 x2 G) (kk : ∀ (G1 : GM) (H1 : Heap) (locs1 : List Loc), Q1 G1 → xW V A G1 H1 → va_S A s.heap H1 locs1 → xFr V G G1 H H1 → W p l e R s m args below meth c H1 locs1 cells slots Z (F0 m (pc + 3) ls (rest))) : W p l e R s m args below meth c H locs cells slots Z (F0 m pc ls (.int x2 :: .int x1 :: va_rf o :: rest)) := by
  subst ho
  obtain ⟨fs, hG⟩ := gCi_of hcv
  exact rg_v3w (va_runV (C := "java/lang/StringBuilder") (As := [.int x1, .int x2]) (rest := rest) C.1 (hM V H.size G Q1 x0 x1 x2) ⟨callB_of 2 C.1.2.2.2.2 (lw_meth q1786) rfl rfl rfl (C.1.2.2.2.2 _ q63) (C.1.2.2.2.2 _ hlink) (by decide +kernel) ⟨hRf, hRl⟩, C.1.2.2.2.2 _ q1785, va_Nw.use rfl (C.2.1.2.2.2.2.2.2.2.2.1 ("java/lang/StringBuilder", yJ3_shift) (by decide +kernel))⟩ ⟨fun a U g mk q => by obtain ⟨q0, q1, qW, qK, qZ, qw⟩ := q; exact ⟨q0, q1, qW, xK.same (u := U) (U := U.calling g mk a) rfl qK, xZ.moved (u := U) (U := U.calling g mk a) (Vm.Alike.refl U.vm) qZ, qw⟩, (hW.recv C.2.1 hG (r := (RJ4, TJ4, 4)) (by rw [hci]; rfl)), fun U hU hWm => ⟨rfl, by rw [hU], by rw [hU]; exact hW.self _, C.2.1.warm hWm, xZ.call C.2.2.1 hW hS C.2.2.2 hU hWm.alike, h⟩⟩ rfl rfl hz rfl (lv_room hr8) hdg hcs) hW hS C.2.2.2 (fun G1 H1 locs1 hp hW1 hS1 hF1 => kk G1 H1 locs1 hp hW1 hS1 hF1)
def w_J3_shift (V : XV) (Q : GM → Prop) (x0 : Nat) (x1 : Int32) (x2 : Int32) (G : GM) : Prop := gGR G 43 (some x0) (fun v1 => gGI G 44 (some x0) (fun v2 => gGR G 43 (some x0) (fun v3 => gGI G 44 (some x0) (fun v4 => gGI G 46 (some x0) (fun v5 => gGI G 44 (some x0) (fun v6 => gCI G 2 v1 (x1 <<< (v2 &&& 31)) v3 ((x1 + x2) <<< (v4 &&& 31)) ((v5 - x1) <<< (v6 &&& 31)) (fun G7 => Q G7)))))))
set_option maxRecDepth 100000 in
set_option maxHeartbeats 4000000 in
theorem wk_J3_shift {p : Program} {l : Launch} {e : Env} {R : Room} {s : State} {m : MethodId} {args : Array Value} {below : List Frame} {meth : Method} {c : Code} {cells slots : Nat} {Z : State → Prop} {A : Nat → Prop} {V : XV} (Q : GM → Prop) (C : xC p m c s args cJ3_shift 3 RJ3 V A) (hRf : 1 ≤ R.frames) (hRl : 60 ≤ R.locals) (hcs : cells ≤ R.cells ∧ slots ≤ R.slots) (G : GM) (hret : ∀ (G : GM) (pc : Nat) (ls : Array Slot) (H : Heap) (locs : List Loc), decode cJ3_shift pc = .ok (.return_, 1) → xW V A G H → va_S A s.heap H locs → Q G → W p l e R s m args below meth c H locs cells slots Z (F0 m pc ls [])) (x0 : Nat) (x1 : Int32) (x2 : Int32) : w_J3_shift V Q x0 x1 x2 G → ∀ (ls : Array Slot) (H : Heap) (locs : List Loc), lv_has ls 3 [(0, va_rf (some x0)), (1, .int x1), (2, .int x2)] → xW V A G H → va_S A s.heap H locs → W p l e R s m args below meth c H locs cells slots Z (F0 m 0 ls []) := by
  have hx := C.1.1; have hb := C.1.2.1; have hml := C.1.2.2.1; have hown := C.1.2.2.2.1; have hts := C.1.2.2.2.2
  intro h
  intro ls H locs hl hW hS
  refine sh_aload_n hx hb dJ3_shift_0 rfl (lv_at hl 0 rfl) ?_
  obtain ⟨v1, h1, h⟩ := h
  refine sh_get C hW xFb_43 q158 (fun _ h => h) h1 dJ3_shift_1 ?_
  refine lv_iload_n hx hb dJ3_shift_4 rfl (lv_at hl 1 rfl) ?_
  refine sh_aload_n hx hb dJ3_shift_5 rfl (lv_at hl 0 rfl) ?_
  obtain ⟨v2, h1, h⟩ := h
  refine sh_get C hW xFb_44 q159 (fun _ h => h) h1 dJ3_shift_6 ?_
  refine lv_ishl hx hb dJ3_shift_9 ?_
  refine sh_aload_n hx hb dJ3_shift_10 rfl (lv_at hl 0 rfl) ?_
  obtain ⟨v3, h1, h⟩ := h
  refine sh_get C hW xFb_43 q158 (fun _ h => h) h1 dJ3_shift_11 ?_
  refine lv_iload_n hx hb dJ3_shift_14 rfl (lv_at hl 1 rfl) ?_
  refine lv_iload_n hx hb dJ3_shift_15 rfl (lv_at hl 2 rfl) ?_
  refine lv_iadd hx hb dJ3_shift_16 ?_
  refine sh_aload_n hx hb dJ3_shift_17 rfl (lv_at hl 0 rfl) ?_
  obtain ⟨v4, h1, h⟩ := h
  refine sh_get C hW xFb_44 q159 (fun _ h => h) h1 dJ3_shift_18 ?_
  refine lv_ishl hx hb dJ3_shift_21 ?_
  refine sh_aload_n hx hb dJ3_shift_22 rfl (lv_at hl 0 rfl) ?_
  obtain ⟨v5, h1, h⟩ := h
  refine sh_get C hW xFb_46 q162 (fun _ h => h) h1 dJ3_shift_23 ?_
  refine lv_iload_n hx hb dJ3_shift_26 rfl (lv_at hl 1 rfl) ?_
  refine lv_isub hx hb dJ3_shift_27 ?_
  refine sh_aload_n hx hb dJ3_shift_28 rfl (lv_at hl 0 rfl) ?_
  obtain ⟨v6, h1, h⟩ := h
  refine sh_get C hW xFb_44 q159 (fun _ h => h) h1 dJ3_shift_29 ?_
  refine lv_ishl hx hb dJ3_shift_32 ?_
  refine sh_copyI C hW hS (t := 2) (by decide) rfl q1787 q303 q302 q77 hl.1 (le_lit hRf rfl) (Nat.le_trans (show _ ≤ 60 by first | decide | (simp [va_rf_cat, Value.category]; decide)) (le_lit hRl rfl)) h dJ3_shift_33 (fun G7 H locs hW hS h => ?_)
  exact hret _ _ _ _ _ dJ3_shift_36 hW hS h
theorem ct_J3_shift (l : Launch) : CT_J3_shift l 1 60 w_J3_shift := by
  intro V sz G Q x0 x1 x2
  refine Met.ofW (cc := cJ3_shift) (maxL := 3) (ret := none) (by decide) rfl ?_
  intro p e s m args below meth c s₁ B hml hv
  obtain ⟨rfl, hsz, hW, hK, hZ, h⟩ := hv
  subst hsz
  have hts := atoms_spec (ws := (ws_ yJ3_shift cJ3_shift 3 none)) B.pre
  have hts : ∀ w ∈ lw_all, w.before _ s = true := fun w h => hts w (List.mem_cons_of_mem _ h)
  have hl := lv_entry ([.ref x0, .int x1, .int x2]) (n := 3) (Nat.le_of_ble_eq_true rfl)
  rw [lg_entry_eq]
  generalize (lg_sl ([.ref x0, .int x1, .int x2]) ++ List.replicate (3 - (lg_sl ([.ref x0, .int x1, .int x2])).length) Slot.unset).toArray = ls at hl ⊢
  exact wk_J3_shift Q ⟨⟨B.exec, B.bytes, hml, findClass_of_methodNamed B.named, hts⟩, hK, hZ, fun q h => Or.inr h⟩ (Nat.le_refl _) (Nat.le_refl _) ⟨Nat.le_refl _, Nat.le_refl _⟩ G (fun G pc ls H locs hd hW1 hS hQ => W.vret B.exec B.bytes B.returns (fun t ht _ => ⟨⟨G, rfl, hQ, by rw [← ht] at hW1; exact hW1⟩, hS.F ht⟩) hS.2.2 hd) x0 x1 x2 h ls _ [] hl hW va_S.rf
def CT_J3_insert (l : Launch) (fr lo : Nat) (w : XV → (Option Nat → GM → Prop) → Nat → Int32 → (Option Nat) → GM → Nat → Nat → Prop) : Prop := ∀ (V : XV) (sz : Nat) (G : GM) (Q : Option Nat → GM → Prop) (x0 : Nat) (x1 : Int32) (x2 : Option Nat) (kc ks : Nat), Met l yJ3_insert (ws_ yJ3_insert cJ3_insert 4 (some (.object "java/lang/AbstractStringBuilder"))) { frames := fr, cells := kc, slots := ks, locals := lo } (va_Pc [.ref x0, .int x1, va_rf x2] (fun U => U.heap.size = sz ∧ xW V (xA G sz) G U.heap ∧ xK V U ∧ xZ V (xA G sz) U U.heap ∧ w V Q x0 x1 x2 G kc ks)) (va_Qq (fun r (u : GM) => Q r u) (fun u t => xW V (xA G sz) u t.heap) (xA G sz)) kc ks (xA G sz)
theorem call_J3_insert_SU_StringBuilder {p : Program} {l : Launch} {e : Env} {R : Room} {s : State} {m : MethodId} {args : Array Value} {below : List Frame} {meth : Method} {c : Code} {H : Heap} {locs : List Loc} {cells slots : Nat} {Z : State → Prop} {A : Nat → Prop} {cc : ByteArray} {nL pc : Nat} {ls : Array Slot} {rest : List Value} {index fr lo : Nat} {w : XV → (Option Nat → GM → Prop) → Nat → Int32 → (Option Nat) → GM → Nat → Nat → Prop} {V : XV} {G : GM} {o : Option Nat} {ci : Nat} {kc ks c1 s1 : Nat} {x0 : Nat} {x1 : Int32} {x2 : Option Nat} (hM : CT_J3_insert l fr lo w) (C : xC p m c s args cc nL "java/lang/StringBuilder" V A) (hW : xW V A G H) (hS : va_S A s.heap H locs) (hlink : Cond.methodLink "java/lang/StringBuilder" index yJ3_insert ∈ lw_all) (ho : o = some x0) (hcv : gCi G (some x0) = some ci) (hci : ci % 64 = 16) (hRf : fr + 1 ≤ R.frames) (hRl : 8 + (4 + 11) + lo ≤ R.locals) (hc1 : c1 ≤ kc) (hs1 : s1 ≤ ks) (hkc : cells + kc ≤ R.cells) (hks : slots + ks ≤ R.slots) (hz : ls.size = nL) (hr8 : (rest.map fun v => v.category).sum ≤ 8) (hdg : decode cc pc = .ok (.invokespecial index, 3)) {Q1 : Option Nat → GM → Prop} (h : w V Q1 x0 x1 x2 G c1 s1) (kk : ∀ (r : Option Nat) (G1 : GM) (H1 : Heap) (locs1 : List Loc), Q1 r G1 → xW V A G1 H1 → va_S A s.heap H1 locs1 → xFr V G G1 H H1 → (cells + c1) + (kc - c1) ≤ R.cells → (slots + s1) + (ks - s1) ≤ R.slots → W p l e R s m args below meth c H1 locs1 (cells + c1) (slots + s1) Z (F0 m (pc + 3) ls (va_rf r :: rest))) : W p l e R s m args below meth c H locs cells slots Z (F0 m pc ls (va_rf x2 :: .int x1 :: va_rf o :: rest)) := by
  subst ho
  obtain ⟨fs, hG⟩ := gCi_of hcv
  exact rg_q3w (va_runSU (As := [.int x1, va_rf x2]) (rest := rest) (C.2.1.1 16 _ rfl).2 C.1 (hM V H.size G Q1 x0 x1 x2 c1 s1) (va_cwSU 2 C.1.2.2.2.2 (lw_SU hlink q2216 q171 q1779 q63 q1780) rfl rfl rfl (by decide +kernel) ⟨hRf, hRl⟩) ⟨fun a U g mk q => by obtain ⟨q0, q1, qW, qK, qZ, qw⟩ := q; exact ⟨q0, q1, qW, xK.same (u := U) (U := U.calling g mk a) rfl qK, xZ.moved (u := U) (U := U.calling g mk a) (Vm.Alike.refl U.vm) qZ, qw⟩, (hW.recv C.2.1 hG (r := (RJ4, TJ4, 4)) (by rw [hci]; rfl)), fun U hU hWm => ⟨rfl, by rw [hU], by rw [hU]; exact hW.self _, C.2.1.warm hWm, xZ.call C.2.2.1 hW hS C.2.2.2 hU hWm.alike, h⟩⟩ rfl rfl hz rfl (lv_room hr8) hdg ⟨by omega, by omega⟩) hW hS C.2.2.2 (fun r G1 H1 locs1 hp hW1 hS1 hF1 => kk r G1 H1 locs1 hp hW1 hS1 hF1 (by omega) (by omega))
def w_J3_insert_15 (V : XV) (Q : Option Nat → GM → Prop) (x0 : Nat) (x1 : Int32) (x2 : Option Nat) (G : GM) (kc : Nat) (ks : Nat) : Prop := gRcv G x2 (fun a1 c2 => (c2 % 64 = 17) ∧ (w_J5_length V (fun r3 => gGI G 46 (some x0) (fun v4 => gRcv G (some x0) (fun a5 c6 => (c6 % 64 = 16) ∧ (∃ c8 s9 : Nat, c8 ≤ kc ∧ s9 ≤ ks ∧ (w_J3_ensureCapacityInternal V (fun G7 => gRcv G7 (some x0) (fun a10 c11 => (c11 % 64 = 16) ∧ (w_J3_shift V (fun G12 => gGI G12 46 (some x0) (fun v13 => gPF G12 46 (some x0) (.int (v13 + r3)) (fun G14 => gRcv G14 (some x0) (fun a15 c16 => (c16 % 64 = 16) ∧ (w_J3_putStringAt V (fun G17 => Q (some x0) G17) a15 x1 x2 G14))))) a10 x1 r3 G7))) a5 (v4 + r3) G c8 s9))))) a1 G))
def w_J3_insert (V : XV) (Q : Option Nat → GM → Prop) (x0 : Nat) (x1 : Int32) (x2 : Option Nat) (G : GM) (kc : Nat) (ks : Nat) : Prop := gGI G 46 (some x0) (fun v18 => w_J5_checkOffset V (if x2 = none then (w_J3_insert_15 V Q x0 x1 (some (xsr V "java/lang/AbstractStringBuilder" 230)) G kc ks) else (w_J3_insert_15 V Q x0 x1 x2 G kc ks)) x1 v18 G)
set_option maxRecDepth 100000 in
set_option maxHeartbeats 4000000 in
theorem wk_J3_insert {p : Program} {l : Launch} {e : Env} {R : Room} {s : State} {m : MethodId} {args : Array Value} {below : List Frame} {meth : Method} {c : Code} {Z : State → Prop} {A : Nat → Prop} {V : XV} (Q : Option Nat → GM → Prop) (C : xC p m c s args cJ3_insert 4 RJ3 V A) (hRf : 14 ≤ R.frames) (hRl : 247 ≤ R.locals) (G : GM) (hret : ∀ (v : Option Nat) (G : GM) (pc : Nat) (ls : Array Slot) (H : Heap) (locs : List Loc) (cells slots : Nat) {k1 k2 : Nat}, decode cJ3_insert pc = .ok (.areturn, 1) → xW V A G H → va_S A s.heap H locs → cells + k1 ≤ R.cells → slots + k2 ≤ R.slots → Q v G → W p l e R s m args below meth c H locs cells slots Z (F0 m pc ls [va_rf v])) (x0 : Nat) (x1 : Int32) (x2 : Option Nat) (kc ks : Nat) : w_J3_insert V Q x0 x1 x2 G kc ks → ∀ (ls : Array Slot) (H : Heap) (locs : List Loc) (cells slots : Nat), lv_has ls 4 [(0, va_rf (some x0)), (1, .int x1), (2, va_rf x2)] → xW V A G H → va_S A s.heap H locs → cells + kc ≤ R.cells → slots + ks ≤ R.slots → W p l e R s m args below meth c H locs cells slots Z (F0 m 0 ls []) := by
  have hx := C.1.1; have hb := C.1.2.1; have hml := C.1.2.2.1; have hown := C.1.2.2.2.1; have hts := C.1.2.2.2.2
  have hb15 : ∀ (x2 : Option Nat) (G : GM) (kc : Nat) (ks : Nat), w_J3_insert_15 V Q x0 x1 x2 G kc ks → ∀ (ls : Array Slot) (H : Heap) (locs : List Loc) (cells slots : Nat), lv_has ls 4 [(0, va_rf (some x0)), (1, .int x1), (2, va_rf x2)] → xW V A G H → va_S A s.heap H locs → cells + kc ≤ R.cells → slots + ks ≤ R.slots → W p l e R s m args below meth c H locs cells slots Z (F0 m 15 ls []) := by
    intro x2 G kc ks h
    intro ls H locs cells slots hl hW hS hkc hks
    refine sh_aload_n hx hb dJ3_insert_15 rfl (lv_at hl 2 rfl) ?_
    obtain ⟨a1, c2, ho16, hcv16, h⟩ := h
    have hcc := h.1
    have h := h.2
    refine call_J5_length_V (ct_J5_length l) C hW hS q335 ho16 hcv16 hcc (le_lit hRf rfl) (le_lit hRl rfl) ⟨Nat.le_trans (Nat.le_add_right _ _) hkc, Nat.le_trans (Nat.le_add_right _ _) hks⟩ hl.1 (Nat.le_of_ble_eq_true rfl) dJ3_insert_16 h (fun r3 H locs h hW hS _ => ?_)
    refine lv_istore_n (lv' := [(3, .int r3), (0, va_rf (some x0)), (1, .int x1), (2, va_rf x2)]) hx hb dJ3_insert_19 rfl hl (by decide) (by simp only [List.filter_cons, List.filter_nil, va_rf_cat]; rfl) (fun ls hl => ?_)
    refine sh_aload_n hx hb dJ3_insert_20 rfl (lv_at hl 1 rfl) ?_
    refine sh_aload_n hx hb dJ3_insert_21 rfl (lv_at hl 1 rfl) ?_
    obtain ⟨v4, h1, h⟩ := h
    refine sh_get C hW xFb_46 q162 (fun _ h => h) h1 dJ3_insert_22 ?_
    refine lv_iload_n hx hb dJ3_insert_25 rfl (lv_at hl 0 rfl) ?_
    refine lv_iadd hx hb dJ3_insert_26 ?_
    obtain ⟨a5, c6, ho27, hcv27, h⟩ := h
    have hcc := h.1
    have h := h.2
    obtain ⟨c8, s9, hc27, hs27, h⟩ := h
    refine call_J3_ensureCapacityInternal_P16_AbstractStringBuilder (ct_J3_ensureCapacityInternal l) C hW hS q269 ho27 hcv27 hcc (le_lit hRf rfl) (le_lit hRl rfl) hc27 hs27 hkc hks hl.1 (Nat.le_of_ble_eq_true rfl) dJ3_insert_27 h (fun G7 H locs h hW hS _ hkc hks => ?_)
    refine sh_aload_n hx hb dJ3_insert_30 rfl (lv_at hl 1 rfl) ?_
    refine lv_iload_n hx hb dJ3_insert_31 rfl (lv_at hl 2 rfl) ?_
    refine lv_iload_n hx hb dJ3_insert_32 rfl (lv_at hl 0 rfl) ?_
    obtain ⟨a10, c11, ho33, hcv33, h⟩ := h
    have hcc := h.1
    have h := h.2
    refine call_J3_shift_P16_AbstractStringBuilder (ct_J3_shift l) C hW hS q1783 ho33 hcv33 hcc (le_lit hRf rfl) (le_lit hRl rfl) ⟨Nat.le_trans (Nat.le_add_right _ _) hkc, Nat.le_trans (Nat.le_add_right _ _) hks⟩ hl.1 (Nat.le_of_ble_eq_true rfl) dJ3_insert_33 h (fun G12 H locs h hW hS _ => ?_)
    refine sh_aload_n hx hb dJ3_insert_36 rfl (lv_at hl 1 rfl) ?_
    refine lv_dup hx hb dJ3_insert_37 (va_rf_cat _) ?_
    obtain ⟨v13, h1, h⟩ := h
    refine sh_get C hW xFb_46 q162 (fun _ h => h) h1 dJ3_insert_38 ?_
    refine lv_iload_n hx hb dJ3_insert_41 rfl (lv_at hl 0 rfl) ?_
    refine lv_iadd hx hb dJ3_insert_42 ?_
    refine sh_put C hW hS xFb_46 q162 (fun _ h => h) xFd_46 rfl rfl h dJ3_insert_43 (fun G14 H locs hW hS h => ?_)
    refine sh_aload_n hx hb dJ3_insert_46 rfl (lv_at hl 1 rfl) ?_
    refine lv_iload_n hx hb dJ3_insert_47 rfl (lv_at hl 2 rfl) ?_
    refine sh_aload_n hx hb dJ3_insert_48 rfl (lv_at hl 3 rfl) ?_
    obtain ⟨a15, c16, ho49, hcv49, h⟩ := h
    have hcc := h.1
    have h := h.2
    refine call_J3_putStringAt_P16_AbstractStringBuilder (ct_J3_putStringAt l) C hW hS q344 ho49 hcv49 hcc (le_lit hRf rfl) (le_lit hRl rfl) ⟨Nat.le_trans (Nat.le_add_right _ _) hkc, Nat.le_trans (Nat.le_add_right _ _) hks⟩ hl.1 (Nat.le_of_ble_eq_true rfl) dJ3_insert_49 h (fun G17 H locs h hW hS _ => ?_)
    refine sh_aload_n hx hb dJ3_insert_52 rfl (lv_at hl 1 rfl) ?_
    exact hret _ _ _ _ _ _ _ _ dJ3_insert_53 hW hS hkc hks h
  intro h
  intro ls H locs cells slots hl hW hS hkc hks
  refine lv_iload_n hx hb dJ3_insert_0 rfl (lv_at hl 1 rfl) ?_
  refine sh_aload_n hx hb dJ3_insert_1 rfl (lv_at hl 0 rfl) ?_
  obtain ⟨v18, h1, h⟩ := h
  refine sh_get C hW xFb_46 q162 (fun _ h => h) h1 dJ3_insert_2 ?_
  refine call_J5_checkOffset_S (ct_J5_checkOffset l) C hW hS q1781 (le_lit hRf rfl) (le_lit hRl rfl) ⟨Nat.le_trans (Nat.le_add_right _ _) hkc, Nat.le_trans (Nat.le_add_right _ _) hks⟩ hl.1 (Nat.le_of_ble_eq_true rfl) dJ3_insert_5 h (fun  H locs h hW hS _ => ?_)
  refine sh_aload_n hx hb dJ3_insert_8 rfl (lv_at hl 2 rfl) ?_
  refine sh_ifnonnull (tgt := 15) hx hb dJ3_insert_9 (by decide) (fun c19 => ?_) (fun c19 => ?_)
  · have h := wif_f h c19
    exact hb15 _ _ _ _ h ls H locs _ _ (lv_sub hl [0, 1, 2] rfl) hW hS hkc hks
  · have h := wif_t h c19
    refine sh_ldcS C q1782 dJ3_insert_12 ?_
    refine sh_astore_n (lv' := [(2, va_rf (some (xsr V "java/lang/AbstractStringBuilder" 230))), (0, va_rf (some x0)), (1, .int x1)]) hx hb dJ3_insert_14 rfl hl (by decide) rfl (fun ls hl => ?_)
    exact hb15 _ _ _ _ h ls H locs _ _ (lv_sub hl [1, 2, 0] rfl) hW hS hkc hks
theorem ct_J3_insert (l : Launch) : CT_J3_insert l 14 247 w_J3_insert := by
  intro V sz G Q x0 x1 x2 kc ks
  refine Met.ofW (cc := cJ3_insert) (maxL := 4) (ret := (some (.object "java/lang/AbstractStringBuilder"))) (by decide) rfl ?_
  intro p e s m args below meth c s₁ B hml hv
  obtain ⟨rfl, hsz, hW, hK, hZ, h⟩ := hv
  subst hsz
  have hts := atoms_spec (ws := (ws_ yJ3_insert cJ3_insert 4 (some (.object "java/lang/AbstractStringBuilder")))) B.pre
  have hts : ∀ w ∈ lw_all, w.before _ s = true := fun w h => hts w (List.mem_cons_of_mem _ h)
  have key : ∃ ls : Array Slot, entryFrame m ([.ref x0, .int x1, va_rf x2] : List Value).toArray 4 = F0 m 0 ls [] ∧ lv_has ls 4 [(0, va_rf (some x0)), (1, .int x1), (2, va_rf x2)] := by
    cases x2 <;> (refine ⟨_, by rw [lg_entry_eq], ?_⟩; exact lv_entry _ (Nat.le_of_ble_eq_true rfl))
  obtain ⟨ls, hfr, hl⟩ := key
  rw [hfr]
  exact wk_J3_insert Q ⟨⟨B.exec, B.bytes, hml, findClass_of_methodNamed B.named, hts⟩, hK, hZ, fun q h => Or.inr h⟩ (Nat.le_refl _) (Nat.le_refl _) G (fun v G pc ls H locs cells slots _ _ hd hW1 hS hkc hks hQ => W.widen (k := kc) (n := ks) (Nat.le_trans (Nat.le_add_right _ _) hkc) (Nat.le_trans (Nat.le_add_right _ _) hks) (W.aret (v := va_rf v) B.exec B.bytes B.returns (Or.inl ⟨_, rfl⟩) (va_rf_or v) (fun t ht _ => ⟨⟨v, G, rfl, hQ, by rw [← ht] at hW1; exact hW1⟩, hS.F ht⟩) hS.2.2 hd)) x0 x1 x2 kc ks h ls _ [] 0 0 hl hW va_S.rf (by show 0 + kc ≤ kc; omega) (by show 0 + ks ≤ ks; omega)
def CT_J4_init (l : Launch) (fr lo : Nat) (w : XV → (GM → Prop) → Nat → GM → Nat → Nat → Prop) : Prop := ∀ (V : XV) (sz : Nat) (G : GM) (Q : GM → Prop) (x0 : Nat) (kc ks : Nat), Met l yJ4_init (ws_ yJ4_init cJ4_init 1 none) { frames := fr, cells := kc, slots := ks, locals := lo } (va_Pc [.ref x0] (fun U => U.heap.size = sz ∧ xW V (xA G sz) G U.heap ∧ xK V U ∧ xZ V (xA G sz) U U.heap ∧ w V Q x0 G kc ks)) (va_Qv (fun (u : GM) => Q u) (fun u t => xW V (xA G sz) u t.heap) (xA G sz)) kc ks (xA G sz)
theorem call_J4_init_I {p : Program} {l : Launch} {e : Env} {R : Room} {s : State} {m : MethodId} {args : Array Value} {below : List Frame} {meth : Method} {c : Code} {H : Heap} {locs : List Loc} {cells slots : Nat} {Z : State → Prop} {A : Nat → Prop} {cc : ByteArray} {nL pc : Nat} {ls : Array Slot} {rest : List Value} {own : String} {index fr lo : Nat} {w : XV → (GM → Prop) → Nat → GM → Nat → Nat → Prop} {V : XV} {G : GM} {o : Option Nat} {kc ks c1 s1 : Nat} {x0 : Nat} (hM : CT_J4_init l fr lo w) (C : xC p m c s args cc nL own V A) (hW : xW V A G H) (hS : va_S A s.heap H locs) (hlink : Cond.methodLink own index yJ4_init ∈ lw_all) (ho : o = some x0) (hRf : fr + 1 ≤ R.frames) (hRl : 8 + (1 + 11) + lo ≤ R.locals) (hc1 : c1 ≤ kc) (hs1 : s1 ≤ ks) (hkc : cells + kc ≤ R.cells) (hks : slots + ks ≤ R.slots) (hz : ls.size = nL) (hr8 : (rest.map fun v => v.category).sum ≤ 8) (hdg : decode cc pc = .ok (.invokespecial index, 3)) {Q1 : GM → Prop} (h : w V Q1 x0 G c1 s1) (kk : ∀ (G1 : GM) (H1 : Heap) (locs1 : List Loc), Q1 G1 → xW V A G1 H1 → va_S A s.heap H1 locs1 → xFr V G G1 H H1 → (cells + c1) + (kc - c1) ≤ R.cells → (slots + s1) + (ks - s1) ≤ R.slots → W p l e R s m args below meth c H1 locs1 (cells + c1) (slots + s1) Z (F0 m (pc + 3) ls (rest))) : W p l e R s m args below meth c H locs cells slots Z (F0 m pc ls (va_rf o :: rest)) := by
  subst ho
  exact rg_v3w (va_runI (As := []) (rest := rest) C.1 (hM V H.size G Q1 x0 c1 s1) (cwI 0 C.1.2.2.2.2 (lw_meth q144) rfl rfl rfl (C.1.2.2.2.2 _ q64) (C.1.2.2.2.2 _ hlink) (C.1.2.2.2.2 _ q143) rfl (by decide +kernel) ⟨hRf, hRl⟩) ⟨fun a U g mk q => by obtain ⟨q0, q1, qW, qK, qZ, qw⟩ := q; exact ⟨q0, q1, qW, xK.same (u := U) (U := U.calling g mk a) rfl qK, xZ.moved (u := U) (U := U.calling g mk a) (Vm.Alike.refl U.vm) qZ, qw⟩, fun U hU hWm => ⟨rfl, by rw [hU], by rw [hU]; exact hW.self _, C.2.1.warm hWm, xZ.call C.2.2.1 hW hS C.2.2.2 hU hWm.alike, h⟩⟩ rfl rfl hz rfl (lv_room hr8) hdg ⟨by omega, by omega⟩) hW hS C.2.2.2 (fun G1 H1 locs1 hp hW1 hS1 hF1 => kk G1 H1 locs1 hp hW1 hS1 hF1 (by omega) (by omega))
def w_J4_init (V : XV) (Q : GM → Prop) (x0 : Nat) (G : GM) (kc : Nat) (ks : Nat) : Prop := ∃ c2 s3 : Nat, c2 ≤ kc ∧ s3 ≤ ks ∧ (w_J3_init V (fun G1 => Q G1) x0 (16 : Int32) G c2 s3)
set_option maxRecDepth 100000 in
set_option maxHeartbeats 4000000 in
theorem wk_J4_init {p : Program} {l : Launch} {e : Env} {R : Room} {s : State} {m : MethodId} {args : Array Value} {below : List Frame} {meth : Method} {c : Code} {Z : State → Prop} {A : Nat → Prop} {V : XV} (Q : GM → Prop) (C : xC p m c s args cJ4_init 1 RJ4 V A) (hin : meth.name = "<init>") (hRf : 2 ≤ R.frames) (hRl : 41 ≤ R.locals) (G : GM) (hret : ∀ (G : GM) (pc : Nat) (ls : Array Slot) (H : Heap) (locs : List Loc) (cells slots : Nat) {k1 k2 : Nat}, decode cJ4_init pc = .ok (.return_, 1) → xW V A G H → va_S A s.heap H locs → cells + k1 ≤ R.cells → slots + k2 ≤ R.slots → Q G → W p l e R s m args below meth c H locs cells slots Z (F0 m pc ls [])) (x0 : Nat) (kc ks : Nat) : w_J4_init V Q x0 G kc ks → ∀ (ls : Array Slot) (H : Heap) (locs : List Loc) (cells slots : Nat), lv_has ls 1 [(0, va_rf (some x0))] → xW V A G H → va_S A s.heap H locs → cells + kc ≤ R.cells → slots + ks ≤ R.slots → W p l e R s m args below meth c H locs cells slots Z (F0 m 0 ls []) := by
  have hx := C.1.1; have hb := C.1.2.1; have hml := C.1.2.2.1; have hown := C.1.2.2.2.1; have hts := C.1.2.2.2.2
  intro h
  intro ls H locs cells slots hl hW hS hkc hks
  refine sh_aload_n hx hb dJ4_init_0 rfl (lv_at hl 0 rfl) ?_
  refine lv_bipush (v := 16) hx hb dJ4_init_1 (by decide) ?_
  obtain ⟨c2, s3, hc3, hs3, h⟩ := h
  refine call_J3_init_I (ct_J3_init l) C hW hS q145 rfl (le_lit hRf rfl) (le_lit hRl rfl) hc3 hs3 hkc hks hl.1 (Nat.le_of_ble_eq_true rfl) dJ4_init_3 h (fun G1 H locs h hW hS _ hkc hks => ?_)
  exact hret _ _ _ _ _ _ _ dJ4_init_6 hW hS hkc hks h
theorem ct_J4_init (l : Launch) : CT_J4_init l 2 41 w_J4_init := by
  intro V sz G Q x0 kc ks
  refine Met.ofW (cc := cJ4_init) (maxL := 1) (ret := none) (by decide) rfl ?_
  intro p e s m args below meth c s₁ B hml hv
  obtain ⟨rfl, hsz, hW, hK, hZ, h⟩ := hv
  subst hsz
  have hts := atoms_spec (ws := (ws_ yJ4_init cJ4_init 1 none)) B.pre
  have hts : ∀ w ∈ lw_all, w.before _ s = true := fun w h => hts w (List.mem_cons_of_mem _ h)
  have hl := lv_entry ([.ref x0]) (n := 1) (Nat.le_of_ble_eq_true rfl)
  rw [lg_entry_eq]
  generalize (lg_sl ([.ref x0]) ++ List.replicate (1 - (lg_sl ([.ref x0])).length) Slot.unset).toArray = ls at hl ⊢
  exact wk_J4_init Q ⟨⟨B.exec, B.bytes, hml, findClass_of_methodNamed B.named, hts⟩, hK, hZ, fun q h => Or.inr h⟩ (name_of_methodNamed B.named B.method).1 (Nat.le_refl _) (Nat.le_refl _) G (fun G pc ls H locs cells slots _ _ hd hW1 hS hkc hks hQ => W.widen (k := kc) (n := ks) (Nat.le_trans (Nat.le_add_right _ _) hkc) (Nat.le_trans (Nat.le_add_right _ _) hks) (W.vret B.exec B.bytes B.returns (fun t ht _ => ⟨⟨G, rfl, hQ, by rw [← ht] at hW1; exact hW1⟩, hS.F ht⟩) hS.2.2 hd)) x0 kc ks h ls _ [] 0 0 hl hW va_S.rf (by show 0 + kc ≤ kc; omega) (by show 0 + ks ≤ ks; omega)
def CT_J4_setLength (l : Launch) (fr lo : Nat) (w : XV → (GM → Prop) → Nat → Int32 → GM → Nat → Nat → Prop) : Prop := ∀ (V : XV) (sz : Nat) (G : GM) (Q : GM → Prop) (x0 : Nat) (x1 : Int32) (kc ks : Nat), Met l yJ4_setLength (ws_ yJ4_setLength cJ4_setLength 2 none) { frames := fr, cells := kc, slots := ks, locals := lo } (va_Pc [.ref x0, .int x1] (fun U => U.heap.size = sz ∧ xW V (xA G sz) G U.heap ∧ xK V U ∧ xZ V (xA G sz) U U.heap ∧ w V Q x0 x1 G kc ks)) (va_Qv (fun (u : GM) => Q u) (fun u t => xW V (xA G sz) u t.heap) (xA G sz)) kc ks (xA G sz)
theorem call_J4_setLength_V {p : Program} {l : Launch} {e : Env} {R : Room} {s : State} {m : MethodId} {args : Array Value} {below : List Frame} {meth : Method} {c : Code} {H : Heap} {locs : List Loc} {cells slots : Nat} {Z : State → Prop} {A : Nat → Prop} {cc : ByteArray} {nL pc : Nat} {ls : Array Slot} {rest : List Value} {own : String} {index fr lo : Nat} {w : XV → (GM → Prop) → Nat → Int32 → GM → Nat → Nat → Prop} {V : XV} {G : GM} {o : Option Nat} {ci : Nat} {kc ks c1 s1 : Nat} {x0 : Nat} {x1 : Int32} (hM : CT_J4_setLength l fr lo w) (C : xC p m c s args cc nL own V A) (hW : xW V A G H) (hS : va_S A s.heap H locs) (hlink : Cond.methodLink own index yJ4_setLength ∈ lw_all) (ho : o = some x0) (hcv : gCi G (some x0) = some ci) (hci : ci % 64 = 16) (hRf : fr + 1 ≤ R.frames) (hRl : 8 + (2 + 11) + lo ≤ R.locals) (hc1 : c1 ≤ kc) (hs1 : s1 ≤ ks) (hkc : cells + kc ≤ R.cells) (hks : slots + ks ≤ R.slots) (hz : ls.size = nL) (hr8 : (rest.map fun v => v.category).sum ≤ 8) (hdg : decode cc pc = .ok (.invokevirtual index, 3)) {Q1 : GM → Prop} (h : w V Q1 x0 x1 G c1 s1) (kk : ∀ (G1 : GM) (H1 : Heap) (locs1 : List Loc), Q1 G1 → xW V A G1 H1 → va_S A s.heap H1 locs1 → xFr V G G1 H H1 → (cells + c1) + (kc - c1) ≤ R.cells → (slots + s1) + (ks - s1) ≤ R.slots → W p l e R s m args below meth c H1 locs1 (cells + c1) (slots + s1) Z (F0 m (pc + 3) ls (rest))) : W p l e R s m args below meth c H locs cells slots Z (F0 m pc ls (.int x1 :: va_rf o :: rest)) := by
  subst ho
  obtain ⟨fs, hG⟩ := gCi_of hcv
  exact rg_v3w (va_runV (As := [.int x1]) (rest := rest) C.1 (hM V H.size G Q1 x0 x1 c1 s1) (cwV 1 C.1.2.2.2.2 (lw_V hlink q244 q245 q64 q246) rfl rfl rfl (by decide +kernel) ⟨hRf, hRl⟩) ⟨fun a U g mk q => by obtain ⟨q0, q1, qW, qK, qZ, qw⟩ := q; exact ⟨q0, q1, qW, xK.same (u := U) (U := U.calling g mk a) rfl qK, xZ.moved (u := U) (U := U.calling g mk a) (Vm.Alike.refl U.vm) qZ, qw⟩, (hW.recv C.2.1 hG (r := (RJ4, TJ4, 4)) (by rw [hci]; rfl)), fun U hU hWm => ⟨rfl, by rw [hU], by rw [hU]; exact hW.self _, C.2.1.warm hWm, xZ.call C.2.2.1 hW hS C.2.2.2 hU hWm.alike, h⟩⟩ rfl rfl hz rfl (lv_room hr8) hdg ⟨by omega, by omega⟩) hW hS C.2.2.2 (fun G1 H1 locs1 hp hW1 hS1 hF1 => kk G1 H1 locs1 hp hW1 hS1 hF1 (by omega) (by omega))
def w_J4_setLength (V : XV) (Q : GM → Prop) (x0 : Nat) (x1 : Int32) (G : GM) (kc : Nat) (ks : Nat) : Prop := gRcv G (some x0) (fun a1 c2 => (c2 % 64 = 16) ∧ (∃ c4 s5 : Nat, c4 ≤ kc ∧ s5 ≤ ks ∧ (w_J3_setLength V (fun G3 => Q G3) a1 x1 G c4 s5)))
set_option maxRecDepth 100000 in
set_option maxHeartbeats 4000000 in
theorem wk_J4_setLength {p : Program} {l : Launch} {e : Env} {R : Room} {s : State} {m : MethodId} {args : Array Value} {below : List Frame} {meth : Method} {c : Code} {Z : State → Prop} {A : Nat → Prop} {V : XV} (Q : GM → Prop) (C : xC p m c s args cJ4_setLength 2 RJ4 V A) (hRf : 15 ≤ R.frames) (hRl : 268 ≤ R.locals) (G : GM) (hret : ∀ (G : GM) (pc : Nat) (ls : Array Slot) (H : Heap) (locs : List Loc) (cells slots : Nat) {k1 k2 : Nat}, decode cJ4_setLength pc = .ok (.return_, 1) → xW V A G H → va_S A s.heap H locs → cells + k1 ≤ R.cells → slots + k2 ≤ R.slots → Q G → W p l e R s m args below meth c H locs cells slots Z (F0 m pc ls [])) (x0 : Nat) (x1 : Int32) (kc ks : Nat) : w_J4_setLength V Q x0 x1 G kc ks → ∀ (ls : Array Slot) (H : Heap) (locs : List Loc) (cells slots : Nat), lv_has ls 2 [(0, va_rf (some x0)), (1, .int x1)] → xW V A G H → va_S A s.heap H locs → cells + kc ≤ R.cells → slots + ks ≤ R.slots → W p l e R s m args below meth c H locs cells slots Z (F0 m 0 ls []) := by
  have hx := C.1.1; have hb := C.1.2.1; have hml := C.1.2.2.1; have hown := C.1.2.2.2.1; have hts := C.1.2.2.2.2
  intro h
  intro ls H locs cells slots hl hW hS hkc hks
  refine sh_aload_n hx hb dJ4_setLength_0 rfl (lv_at hl 0 rfl) ?_
  refine lv_iload_n hx hb dJ4_setLength_1 rfl (lv_at hl 1 rfl) ?_
  obtain ⟨a1, c2, ho2, hcv2, h⟩ := h
  have hcc := h.1
  have h := h.2
  obtain ⟨c4, s5, hc2, hs2, h⟩ := h
  refine call_J3_setLength_SU_StringBuilder (ct_J3_setLength l) C hW hS q247 ho2 hcv2 hcc (le_lit hRf rfl) (le_lit hRl rfl) hc2 hs2 hkc hks hl.1 (Nat.le_of_ble_eq_true rfl) dJ4_setLength_2 h (fun G3 H locs h hW hS _ hkc hks => ?_)
  exact hret _ _ _ _ _ _ _ dJ4_setLength_5 hW hS hkc hks h
theorem ct_J4_setLength (l : Launch) : CT_J4_setLength l 15 268 w_J4_setLength := by
  intro V sz G Q x0 x1 kc ks
  refine Met.ofW (cc := cJ4_setLength) (maxL := 2) (ret := none) (by decide) rfl ?_
  intro p e s m args below meth c s₁ B hml hv
  obtain ⟨rfl, hsz, hW, hK, hZ, h⟩ := hv
  subst hsz
  have hts := atoms_spec (ws := (ws_ yJ4_setLength cJ4_setLength 2 none)) B.pre
  have hts : ∀ w ∈ lw_all, w.before _ s = true := fun w h => hts w (List.mem_cons_of_mem _ h)
  have hl := lv_entry ([.ref x0, .int x1]) (n := 2) (Nat.le_of_ble_eq_true rfl)
  rw [lg_entry_eq]
  generalize (lg_sl ([.ref x0, .int x1]) ++ List.replicate (2 - (lg_sl ([.ref x0, .int x1])).length) Slot.unset).toArray = ls at hl ⊢
  exact wk_J4_setLength Q ⟨⟨B.exec, B.bytes, hml, findClass_of_methodNamed B.named, hts⟩, hK, hZ, fun q h => Or.inr h⟩ (Nat.le_refl _) (Nat.le_refl _) G (fun G pc ls H locs cells slots _ _ hd hW1 hS hkc hks hQ => W.widen (k := kc) (n := ks) (Nat.le_trans (Nat.le_add_right _ _) hkc) (Nat.le_trans (Nat.le_add_right _ _) hks) (W.vret B.exec B.bytes B.returns (fun t ht _ => ⟨⟨G, rfl, hQ, by rw [← ht] at hW1; exact hW1⟩, hS.F ht⟩) hS.2.2 hd)) x0 x1 kc ks h ls _ [] 0 0 hl hW va_S.rf (by show 0 + kc ≤ kc; omega) (by show 0 + ks ≤ ks; omega)
def CT_J4_append (l : Launch) (fr lo : Nat) (w : XV → (Option Nat → GM → Prop) → Nat → (Option Nat) → GM → Nat → Nat → Prop) : Prop := ∀ (V : XV) (sz : Nat) (G : GM) (Q : Option Nat → GM → Prop) (x0 : Nat) (x1 : Option Nat) (kc ks : Nat), Met l yJ4_append (ws_ yJ4_append cJ4_append 2 (some (.object "java/lang/StringBuilder"))) { frames := fr, cells := kc, slots := ks, locals := lo } (va_Pc [.ref x0, va_rf x1] (fun U => U.heap.size = sz ∧ xW V (xA G sz) G U.heap ∧ xK V U ∧ xZ V (xA G sz) U U.heap ∧ w V Q x0 x1 G kc ks)) (va_Qq (fun r (u : GM) => Q r u) (fun u t => xW V (xA G sz) u t.heap) (xA G sz)) kc ks (xA G sz)
theorem call_J4_append_V {p : Program} {l : Launch} {e : Env} {R : Room} {s : State} {m : MethodId} {args : Array Value} {below : List Frame} {meth : Method} {c : Code} {H : Heap} {locs : List Loc} {cells slots : Nat} {Z : State → Prop} {A : Nat → Prop} {cc : ByteArray} {nL pc : Nat} {ls : Array Slot} {rest : List Value} {own : String} {index fr lo : Nat} {w : XV → (Option Nat → GM → Prop) → Nat → (Option Nat) → GM → Nat → Nat → Prop} {V : XV} {G : GM} {o : Option Nat} {ci : Nat} {kc ks c1 s1 : Nat} {x0 : Nat} {x1 : Option Nat} (hM : CT_J4_append l fr lo w) (C : xC p m c s args cc nL own V A) (hW : xW V A G H) (hS : va_S A s.heap H locs) (hlink : Cond.methodLink own index yJ4_append ∈ lw_all) (ho : o = some x0) (hcv : gCi G (some x0) = some ci) (hci : ci % 64 = 16) (hRf : fr + 1 ≤ R.frames) (hRl : 8 + (2 + 11) + lo ≤ R.locals) (hc1 : c1 ≤ kc) (hs1 : s1 ≤ ks) (hkc : cells + kc ≤ R.cells) (hks : slots + ks ≤ R.slots) (hz : ls.size = nL) (hr8 : (rest.map fun v => v.category).sum ≤ 8) (hdg : decode cc pc = .ok (.invokevirtual index, 3)) {Q1 : Option Nat → GM → Prop} (h : w V Q1 x0 x1 G c1 s1) (kk : ∀ (r : Option Nat) (G1 : GM) (H1 : Heap) (locs1 : List Loc), Q1 r G1 → xW V A G1 H1 → va_S A s.heap H1 locs1 → xFr V G G1 H H1 → (cells + c1) + (kc - c1) ≤ R.cells → (slots + s1) + (ks - s1) ≤ R.slots → W p l e R s m args below meth c H1 locs1 (cells + c1) (slots + s1) Z (F0 m (pc + 3) ls (va_rf r :: rest))) : W p l e R s m args below meth c H locs cells slots Z (F0 m pc ls (va_rf x1 :: va_rf o :: rest)) := by
  subst ho
  obtain ⟨fs, hG⟩ := gCi_of hcv
  exact rg_q3w (va_runV (As := [va_rf x1]) (rest := rest) C.1 (hM V H.size G Q1 x0 x1 c1 s1) (cwV 1 C.1.2.2.2.2 (lw_V hlink q259 q260 q64 q261) rfl rfl rfl (by decide +kernel) ⟨hRf, hRl⟩) ⟨fun a U g mk q => by obtain ⟨q0, q1, qW, qK, qZ, qw⟩ := q; exact ⟨q0, q1, qW, xK.same (u := U) (U := U.calling g mk a) rfl qK, xZ.moved (u := U) (U := U.calling g mk a) (Vm.Alike.refl U.vm) qZ, qw⟩, (hW.recv C.2.1 hG (r := (RJ4, TJ4, 4)) (by rw [hci]; rfl)), fun U hU hWm => ⟨rfl, by rw [hU], by rw [hU]; exact hW.self _, C.2.1.warm hWm, xZ.call C.2.2.1 hW hS C.2.2.2 hU hWm.alike, h⟩⟩ rfl rfl hz rfl (lv_room hr8) hdg ⟨by omega, by omega⟩) hW hS C.2.2.2 (fun r G1 H1 locs1 hp hW1 hS1 hF1 => kk r G1 H1 locs1 hp hW1 hS1 hF1 (by omega) (by omega))
def w_J4_append (V : XV) (Q : Option Nat → GM → Prop) (x0 : Nat) (x1 : Option Nat) (G : GM) (kc : Nat) (ks : Nat) : Prop := gRcv G (some x0) (fun a1 c2 => (c2 % 64 = 16) ∧ (∃ c5 s6 : Nat, c5 ≤ kc ∧ s6 ≤ ks ∧ (w_J3_append V (fun r3 G4 => Q (some x0) G4) a1 x1 G c5 s6)))
set_option maxRecDepth 100000 in
set_option maxHeartbeats 4000000 in
theorem wk_J4_append {p : Program} {l : Launch} {e : Env} {R : Room} {s : State} {m : MethodId} {args : Array Value} {below : List Frame} {meth : Method} {c : Code} {Z : State → Prop} {A : Nat → Prop} {V : XV} (Q : Option Nat → GM → Prop) (C : xC p m c s args cJ4_append 2 RJ4 V A) (hRf : 15 ≤ R.frames) (hRl : 269 ≤ R.locals) (G : GM) (hret : ∀ (v : Option Nat) (G : GM) (pc : Nat) (ls : Array Slot) (H : Heap) (locs : List Loc) (cells slots : Nat) {k1 k2 : Nat}, decode cJ4_append pc = .ok (.areturn, 1) → xW V A G H → va_S A s.heap H locs → cells + k1 ≤ R.cells → slots + k2 ≤ R.slots → Q v G → W p l e R s m args below meth c H locs cells slots Z (F0 m pc ls [va_rf v])) (x0 : Nat) (x1 : Option Nat) (kc ks : Nat) : w_J4_append V Q x0 x1 G kc ks → ∀ (ls : Array Slot) (H : Heap) (locs : List Loc) (cells slots : Nat), lv_has ls 2 [(0, va_rf (some x0)), (1, va_rf x1)] → xW V A G H → va_S A s.heap H locs → cells + kc ≤ R.cells → slots + ks ≤ R.slots → W p l e R s m args below meth c H locs cells slots Z (F0 m 0 ls []) := by
  have hx := C.1.1; have hb := C.1.2.1; have hml := C.1.2.2.1; have hown := C.1.2.2.2.1; have hts := C.1.2.2.2.2
  intro h
  intro ls H locs cells slots hl hW hS hkc hks
  refine sh_aload_n hx hb dJ4_append_0 rfl (lv_at hl 0 rfl) ?_
  refine sh_aload_n hx hb dJ4_append_1 rfl (lv_at hl 1 rfl) ?_
  obtain ⟨a1, c2, ho2, hcv2, h⟩ := h
  have hcc := h.1
  have h := h.2
  obtain ⟨c5, s6, hc2, hs2, h⟩ := h
  refine call_J3_append_SU_StringBuilder (ct_J3_append l) C hW hS q262 ho2 hcv2 hcc (le_lit hRf rfl) (le_lit hRl rfl) hc2 hs2 hkc hks hl.1 (Nat.le_of_ble_eq_true rfl) dJ4_append_2 h (fun r3 G4 H locs h hW hS _ hkc hks => ?_)
  refine lv_pop hx hb dJ4_append_5 (va_rf_cat _) ?_
  refine sh_aload_n hx hb dJ4_append_6 rfl (lv_at hl 0 rfl) ?_
  exact hret _ _ _ _ _ _ _ _ dJ4_append_7 hW hS hkc hks h
theorem ct_J4_append (l : Launch) : CT_J4_append l 15 269 w_J4_append := by
  intro V sz G Q x0 x1 kc ks
  refine Met.ofW (cc := cJ4_append) (maxL := 2) (ret := (some (.object "java/lang/StringBuilder"))) (by decide) rfl ?_
  intro p e s m args below meth c s₁ B hml hv
  obtain ⟨rfl, hsz, hW, hK, hZ, h⟩ := hv
  subst hsz
  have hts := atoms_spec (ws := (ws_ yJ4_append cJ4_append 2 (some (.object "java/lang/StringBuilder")))) B.pre
  have hts : ∀ w ∈ lw_all, w.before _ s = true := fun w h => hts w (List.mem_cons_of_mem _ h)
  have key : ∃ ls : Array Slot, entryFrame m ([.ref x0, va_rf x1] : List Value).toArray 2 = F0 m 0 ls [] ∧ lv_has ls 2 [(0, va_rf (some x0)), (1, va_rf x1)] := by
    cases x1 <;> (refine ⟨_, by rw [lg_entry_eq], ?_⟩; exact lv_entry _ (Nat.le_of_ble_eq_true rfl))
  obtain ⟨ls, hfr, hl⟩ := key
  rw [hfr]
  exact wk_J4_append Q ⟨⟨B.exec, B.bytes, hml, findClass_of_methodNamed B.named, hts⟩, hK, hZ, fun q h => Or.inr h⟩ (Nat.le_refl _) (Nat.le_refl _) G (fun v G pc ls H locs cells slots _ _ hd hW1 hS hkc hks hQ => W.widen (k := kc) (n := ks) (Nat.le_trans (Nat.le_add_right _ _) hkc) (Nat.le_trans (Nat.le_add_right _ _) hks) (W.aret (v := va_rf v) B.exec B.bytes B.returns (Or.inl ⟨_, rfl⟩) (va_rf_or v) (fun t ht _ => ⟨⟨v, G, rfl, hQ, by rw [← ht] at hW1; exact hW1⟩, hS.F ht⟩) hS.2.2 hd)) x0 x1 kc ks h ls _ [] 0 0 hl hW va_S.rf (by show 0 + kc ≤ kc; omega) (by show 0 + ks ≤ ks; omega)
