def CT_X5_value (l : Launch) (fr lo : Nat) (w : XV → (Int32 → Prop) → Nat → Int32 → Int32 → GM → Prop) : Prop := ∀ (V : XV) (sz : Nat) (G : GM) (Q : Int32 → Prop) (x0 : Nat) (x1 : Int32) (x2 : Int32), Met l yX5_value (ws_ yX5_value cX5_value 3 (some .int)) { frames := fr, cells := 0, slots := 0, locals := lo } (va_Pc [.ref x0, .int x1, .int x2] (fun U => U.heap.size = sz ∧ xW V (xA G sz) G U.heap ∧ xK V U ∧ xZ V (xA G sz) U U.heap ∧ w V Q x0 x1 x2 G)) (va_Qi (fun r (u : GM) => u = G ∧ Q r) (fun u t => xW V (xA G sz) u t.heap) (xA G sz)) 0 0 (xA G sz)
theorem call_X5_value_U3_4_5_6_Layer {p : Program} {l : Launch} {e : Env} {R : Room} {s : State} {m : MethodId} {args : Array Value} {below : List Frame} {meth : Method} {c : Code} {H : Heap} {locs : List Loc} {cells slots : Nat} {Z : State → Prop} {A : Nat → Prop} {cc : ByteArray} {nL pc : Nat} {ls : Array Slot} {rest : List Value} {own : String} {index fr lo : Nat} {w : XV → (Int32 → Prop) → Nat → Int32 → Int32 → GM → Prop} {V : XV} {G : GM} {o : Option Nat} {ci : Nat} {x0 : Nat} {x1 : Int32} {x2 : Int32} (hM : CT_X5_value l fr lo w) (C : xC p m c s args cc nL own V A) (hW : xW V A G H) (hS : va_S A s.heap H locs) (hlink : Cond.methodLink own index ⟨"Shapelayer$Layer", "value", "(II)I"⟩ ∈ lw_all) (ho : o = some x0) (hcv : gCi G (some x0) = some ci) (hci : ci % 64 = 5 ∨ ci % 64 = 6 ∨ ci % 64 = 3 ∨ ci % 64 = 4) (hRf : fr + 1 ≤ R.frames) (hRl : 8 + (3 + 11) + lo ≤ R.locals) (hcs : cells ≤ R.cells ∧ slots ≤ R.slots) (hz : ls.size = nL) (hr8 : (rest.map fun v => v.category).sum ≤ 8) (hdg : decode cc pc = .ok (.invokevirtual index, 3)) {Q1 : Int32 → Prop} (h : w V Q1 x0 x1 x2 G) (kk : ∀ (r : Int32) (H1 : Heap) (locs1 : List Loc), Q1 r → xW V A G H1 → va_S A s.heap H1 locs1 → xFr V G G H H1 → W p l e R s m args below meth c H1 locs1 cells slots Z (F0 m (pc + 3) ls (.int r :: rest))) : W p l e R s m args below meth c H locs cells slots Z (F0 m pc ls (.int x2 :: .int x1 :: va_rf o :: rest)) := by
  subst ho
  obtain ⟨fs, hG⟩ := gCi_of hcv
  rcases hci with hci | hci | hci | hci
  · exact rg_i3r (va_runU (As := [.int x1, .int x2]) (rest := rest) C.1 (hM V H.size G Q1 x0 x1 x2) (va_cwU (C := "Shapelayer$Nested") 2 C.1.2.2.2.2 (lw_U hlink q1310 q1311 q1309 q87 q1315) rfl rfl rfl rfl (by decide +kernel) ⟨hRf, hRl⟩) ⟨fun a U g mk q => by obtain ⟨q0, q1, qW, qK, qZ, qw⟩ := q; exact ⟨q0, q1, qW, xK.same (u := U) (U := U.calling g mk a) rfl qK, xZ.moved (u := U) (U := U.calling g mk a) (Vm.Alike.refl U.vm) qZ, qw⟩, (hW.recv C.2.1 hG (r := (RX11, TX11, 9)) (by rw [hci]; rfl)), fun U hU hWm => ⟨rfl, by rw [hU], by rw [hU]; exact hW.self _, C.2.1.warm hWm, xZ.call C.2.2.1 hW hS C.2.2.2 hU hWm.alike, h⟩⟩ rfl rfl hz rfl (lv_room hr8) hdg hcs) hW hS C.2.2.2 (fun r H1 locs1 hp hW1 hS1 hF1 => kk r H1 locs1 hp hW1 hS1 hF1)
  · exact rg_i3r (va_runU (As := [.int x1, .int x2]) (rest := rest) C.1 (hM V H.size G Q1 x0 x1 x2) (va_cwU (C := "Shapelayer$Null") 2 C.1.2.2.2.2 (lw_U hlink q1310 q1312 q1309 q87 q1315) rfl rfl rfl rfl (by decide +kernel) ⟨hRf, hRl⟩) ⟨fun a U g mk q => by obtain ⟨q0, q1, qW, qK, qZ, qw⟩ := q; exact ⟨q0, q1, qW, xK.same (u := U) (U := U.calling g mk a) rfl qK, xZ.moved (u := U) (U := U.calling g mk a) (Vm.Alike.refl U.vm) qZ, qw⟩, (hW.recv C.2.1 hG (r := (RX12, TX12, 8)) (by rw [hci]; rfl)), fun U hU hWm => ⟨rfl, by rw [hU], by rw [hU]; exact hW.self _, C.2.1.warm hWm, xZ.call C.2.2.1 hW hS C.2.2.2 hU hWm.alike, h⟩⟩ rfl rfl hz rfl (lv_room hr8) hdg hcs) hW hS C.2.2.2 (fun r H1 locs1 hp hW1 hS1 hF1 => kk r H1 locs1 hp hW1 hS1 hF1)
  · exact rg_i3r (va_runU (As := [.int x1, .int x2]) (rest := rest) C.1 (hM V H.size G Q1 x0 x1 x2) (va_cwU (C := "Shapelayer$Rect") 2 C.1.2.2.2.2 (lw_U hlink q1310 q1313 q1309 q87 q1315) rfl rfl rfl rfl (by decide +kernel) ⟨hRf, hRl⟩) ⟨fun a U g mk q => by obtain ⟨q0, q1, qW, qK, qZ, qw⟩ := q; exact ⟨q0, q1, qW, xK.same (u := U) (U := U.calling g mk a) rfl qK, xZ.moved (u := U) (U := U.calling g mk a) (Vm.Alike.refl U.vm) qZ, qw⟩, (hW.recv C.2.1 hG (r := (RX7, TX7, 11)) (by rw [hci]; rfl)), fun U hU hWm => ⟨rfl, by rw [hU], by rw [hU]; exact hW.self _, C.2.1.warm hWm, xZ.call C.2.2.1 hW hS C.2.2.2 hU hWm.alike, h⟩⟩ rfl rfl hz rfl (lv_room hr8) hdg hcs) hW hS C.2.2.2 (fun r H1 locs1 hp hW1 hS1 hF1 => kk r H1 locs1 hp hW1 hS1 hF1)
  · exact rg_i3r (va_runU (As := [.int x1, .int x2]) (rest := rest) C.1 (hM V H.size G Q1 x0 x1 x2) (va_cwU (C := "Shapelayer$Stroke") 2 C.1.2.2.2.2 (lw_U hlink q1310 q1314 q1309 q87 q1315) rfl rfl rfl rfl (by decide +kernel) ⟨hRf, hRl⟩) ⟨fun a U g mk q => by obtain ⟨q0, q1, qW, qK, qZ, qw⟩ := q; exact ⟨q0, q1, qW, xK.same (u := U) (U := U.calling g mk a) rfl qK, xZ.moved (u := U) (U := U.calling g mk a) (Vm.Alike.refl U.vm) qZ, qw⟩, (hW.recv C.2.1 hG (r := (RX9, TX9, 11)) (by rw [hci]; rfl)), fun U hU hWm => ⟨rfl, by rw [hU], by rw [hU]; exact hW.self _, C.2.1.warm hWm, xZ.call C.2.2.1 hW hS C.2.2.2 hU hWm.alike, h⟩⟩ rfl rfl hz rfl (lv_room hr8) hdg hcs) hW hS C.2.2.2 (fun r H1 locs1 hp hW1 hS1 hF1 => kk r H1 locs1 hp hW1 hS1 hF1)
theorem call_X5_value_U4_Stroke {p : Program} {l : Launch} {e : Env} {R : Room} {s : State} {m : MethodId} {args : Array Value} {below : List Frame} {meth : Method} {c : Code} {H : Heap} {locs : List Loc} {cells slots : Nat} {Z : State → Prop} {A : Nat → Prop} {cc : ByteArray} {nL pc : Nat} {ls : Array Slot} {rest : List Value} {own : String} {index fr lo : Nat} {w : XV → (Int32 → Prop) → Nat → Int32 → Int32 → GM → Prop} {V : XV} {G : GM} {o : Option Nat} {ci : Nat} {x0 : Nat} {x1 : Int32} {x2 : Int32} (hM : CT_X5_value l fr lo w) (C : xC p m c s args cc nL own V A) (hW : xW V A G H) (hS : va_S A s.heap H locs) (hlink : Cond.methodLink own index ⟨"Shapelayer$Stroke", "value", "(II)I"⟩ ∈ lw_all) (ho : o = some x0) (hcv : gCi G (some x0) = some ci) (hci : ci % 64 = 4) (hRf : fr + 1 ≤ R.frames) (hRl : 8 + (3 + 11) + lo ≤ R.locals) (hcs : cells ≤ R.cells ∧ slots ≤ R.slots) (hz : ls.size = nL) (hr8 : (rest.map fun v => v.category).sum ≤ 8) (hdg : decode cc pc = .ok (.invokevirtual index, 3)) {Q1 : Int32 → Prop} (h : w V Q1 x0 x1 x2 G) (kk : ∀ (r : Int32) (H1 : Heap) (locs1 : List Loc), Q1 r → xW V A G H1 → va_S A s.heap H1 locs1 → xFr V G G H H1 → W p l e R s m args below meth c H1 locs1 cells slots Z (F0 m (pc + 3) ls (.int r :: rest))) : W p l e R s m args below meth c H locs cells slots Z (F0 m pc ls (.int x2 :: .int x1 :: va_rf o :: rest)) := by
  subst ho
  obtain ⟨fs, hG⟩ := gCi_of hcv
  exact rg_i3r (va_runU (As := [.int x1, .int x2]) (rest := rest) C.1 (hM V H.size G Q1 x0 x1 x2) (va_cwU (C := "Shapelayer$Stroke") 2 C.1.2.2.2.2 (lw_U hlink q1412 q1414 q1309 q87 q1315) rfl rfl rfl rfl (by decide +kernel) ⟨hRf, hRl⟩) ⟨fun a U g mk q => by obtain ⟨q0, q1, qW, qK, qZ, qw⟩ := q; exact ⟨q0, q1, qW, xK.same (u := U) (U := U.calling g mk a) rfl qK, xZ.moved (u := U) (U := U.calling g mk a) (Vm.Alike.refl U.vm) qZ, qw⟩, (hW.recv C.2.1 hG (r := (RX9, TX9, 11)) (by rw [hci]; rfl)), fun U hU hWm => ⟨rfl, by rw [hU], by rw [hU]; exact hW.self _, C.2.1.warm hWm, xZ.call C.2.2.1 hW hS C.2.2.2 hU hWm.alike, h⟩⟩ rfl rfl hz rfl (lv_room hr8) hdg hcs) hW hS C.2.2.2 (fun r H1 locs1 hp hW1 hS1 hF1 => kk r H1 locs1 hp hW1 hS1 hF1)
theorem call_X5_value_U5_Nested {p : Program} {l : Launch} {e : Env} {R : Room} {s : State} {m : MethodId} {args : Array Value} {below : List Frame} {meth : Method} {c : Code} {H : Heap} {locs : List Loc} {cells slots : Nat} {Z : State → Prop} {A : Nat → Prop} {cc : ByteArray} {nL pc : Nat} {ls : Array Slot} {rest : List Value} {own : String} {index fr lo : Nat} {w : XV → (Int32 → Prop) → Nat → Int32 → Int32 → GM → Prop} {V : XV} {G : GM} {o : Option Nat} {ci : Nat} {x0 : Nat} {x1 : Int32} {x2 : Int32} (hM : CT_X5_value l fr lo w) (C : xC p m c s args cc nL own V A) (hW : xW V A G H) (hS : va_S A s.heap H locs) (hlink : Cond.methodLink own index ⟨"Shapelayer$Nested", "value", "(II)I"⟩ ∈ lw_all) (ho : o = some x0) (hcv : gCi G (some x0) = some ci) (hci : ci % 64 = 5) (hRf : fr + 1 ≤ R.frames) (hRl : 8 + (3 + 11) + lo ≤ R.locals) (hcs : cells ≤ R.cells ∧ slots ≤ R.slots) (hz : ls.size = nL) (hr8 : (rest.map fun v => v.category).sum ≤ 8) (hdg : decode cc pc = .ok (.invokevirtual index, 3)) {Q1 : Int32 → Prop} (h : w V Q1 x0 x1 x2 G) (kk : ∀ (r : Int32) (H1 : Heap) (locs1 : List Loc), Q1 r → xW V A G H1 → va_S A s.heap H1 locs1 → xFr V G G H H1 → W p l e R s m args below meth c H1 locs1 cells slots Z (F0 m (pc + 3) ls (.int r :: rest))) : W p l e R s m args below meth c H locs cells slots Z (F0 m pc ls (.int x2 :: .int x1 :: va_rf o :: rest)) := by
  subst ho
  obtain ⟨fs, hG⟩ := gCi_of hcv
  exact rg_i3r (va_runU (As := [.int x1, .int x2]) (rest := rest) C.1 (hM V H.size G Q1 x0 x1 x2) (va_cwU (C := "Shapelayer$Nested") 2 C.1.2.2.2.2 (lw_U hlink q1477 q1478 q1309 q87 q1315) rfl rfl rfl rfl (by decide +kernel) ⟨hRf, hRl⟩) ⟨fun a U g mk q => by obtain ⟨q0, q1, qW, qK, qZ, qw⟩ := q; exact ⟨q0, q1, qW, xK.same (u := U) (U := U.calling g mk a) rfl qK, xZ.moved (u := U) (U := U.calling g mk a) (Vm.Alike.refl U.vm) qZ, qw⟩, (hW.recv C.2.1 hG (r := (RX11, TX11, 9)) (by rw [hci]; rfl)), fun U hU hWm => ⟨rfl, by rw [hU], by rw [hU]; exact hW.self _, C.2.1.warm hWm, xZ.call C.2.2.1 hW hS C.2.2.2 hU hWm.alike, h⟩⟩ rfl rfl hz rfl (lv_room hr8) hdg hcs) hW hS C.2.2.2 (fun r H1 locs1 hp hW1 hS1 hF1 => kk r H1 locs1 hp hW1 hS1 hF1)
def w_X5_value_28 (V : XV) (Q : Int32 → Prop) (x0 : Nat) (x1 : Int32) (x2 : Int32) (G : GM) : Prop := gGR G 15 (some x0) (fun v1 => gRL G v1 x1 (fun v2 => gRcv G v2 (fun a3 c4 => (c4 % 64 = 7) ∧ (w_X8_at V (fun r5 => Q r5) a3 x2 G))))
def w_X5_value (V : XV) (Q : Int32 → Prop) (x0 : Nat) (x1 : Int32) (x2 : Int32) (G : GM) : Prop := if x1 = (6 : Int32) then (gGR G 15 (some x0) (fun v6 => gRL G v6 (6 : Int32) (fun v7 => gGR G 28 v7 (fun v8 => gRcv G v8 (fun a9 c10 => (c10 % 64 = 15) ∧ (w_J2_isEmpty V (fun r11 => if r11 = 0 then (w_X5_value_28 V Q x0 x1 x2 G) else (Q x2)) a9 G)))))) else (w_X5_value_28 V Q x0 x1 x2 G)
set_option maxRecDepth 100000 in
set_option maxHeartbeats 4000000 in
theorem wk_X5_value {p : Program} {l : Launch} {e : Env} {R : Room} {s : State} {m : MethodId} {args : Array Value} {below : List Frame} {meth : Method} {c : Code} {cells slots : Nat} {Z : State → Prop} {A : Nat → Prop} {V : XV} (Q : Int32 → Prop) (C : xC p m c s args cX5_value 3 RX5 V A) (hRf : 6 ≤ R.frames) (hRl : 130 ≤ R.locals) (hcs : cells ≤ R.cells ∧ slots ≤ R.slots) (G : GM) (hret : ∀ (v : Int32) (pc : Nat) (ls : Array Slot) (H : Heap) (locs : List Loc), decode cX5_value pc = .ok (.ireturn, 1) → xW V A G H → va_S A s.heap H locs → Q v → W p l e R s m args below meth c H locs cells slots Z (F0 m pc ls [.int v])) (x0 : Nat) (x1 : Int32) (x2 : Int32) : w_X5_value V Q x0 x1 x2 G → ∀ (ls : Array Slot) (H : Heap) (locs : List Loc), lv_has ls 3 [(0, va_rf (some x0)), (1, .int x1), (2, .int x2)] → xW V A G H → va_S A s.heap H locs → W p l e R s m args below meth c H locs cells slots Z (F0 m 0 ls []) := by
  have hx := C.1.1; have hb := C.1.2.1; have hml := C.1.2.2.1; have hown := C.1.2.2.2.1; have hts := C.1.2.2.2.2
  have hb28 : w_X5_value_28 V Q x0 x1 x2 G → ∀ (ls : Array Slot) (H : Heap) (locs : List Loc), lv_has ls 3 [(0, va_rf (some x0)), (1, .int x1), (2, .int x2)] → xW V A G H → va_S A s.heap H locs → W p l e R s m args below meth c H locs cells slots Z (F0 m 28 ls []) := by
    intro h
    intro ls H locs hl hW hS
    refine sh_aload_n hx hb dX5_value_28 rfl (lv_at hl 0 rfl) ?_
    obtain ⟨v1, h1, h⟩ := h
    refine sh_get C hW xFb_15 q839 (fun _ h => h) h1 dX5_value_29 ?_
    refine lv_iload_n hx hb dX5_value_32 rfl (lv_at hl 1 rfl) ?_
    refine sh_aald C hW h dX5_value_33 (fun v2 h => ?_)
    refine lv_iload_n hx hb dX5_value_34 rfl (lv_at hl 2 rfl) ?_
    obtain ⟨a3, c4, ho35, hcv35, h⟩ := h
    have hcc := h.1
    have h := h.2
    refine call_X8_at_V (ct_X8_at l) C hW hS q1318 ho35 hcv35 hcc (le_lit hRf rfl) (le_lit hRl rfl) hcs hl.1 (Nat.le_of_ble_eq_true rfl) dX5_value_35 h (fun r5 H locs h hW hS _ => ?_)
    exact hret _ _ _ _ _ dX5_value_38 hW hS h
  intro h
  intro ls H locs hl hW hS
  refine lv_iload_n hx hb dX5_value_0 rfl (lv_at hl 1 rfl) ?_
  refine lv_bipush (v := 6) hx hb dX5_value_1 (by decide) ?_
  refine lv_icmp_ne (tgt := 28) hx hb dX5_value_3 (by decide) (fun c13 => ?_) (fun c13 => ?_)
  · have h := wif_f h c13
    exact hb28  h ls H locs (lv_sub hl [0, 1, 2] rfl) hW hS
  · have h := wif_t h c13
    refine sh_aload_n hx hb dX5_value_6 rfl (lv_at hl 0 rfl) ?_
    obtain ⟨v6, h1, h⟩ := h
    refine sh_get C hW xFb_15 q839 (fun _ h => h) h1 dX5_value_7 ?_
    refine lv_bipush (v := 6) hx hb dX5_value_10 (by decide) ?_
    refine sh_aald C hW h dX5_value_12 (fun v7 h => ?_)
    obtain ⟨v8, h1, h⟩ := h
    refine sh_getN C hW xFb_28 q820 (fun _ h => h) (by decide) h1 dX5_value_13 ?_
    obtain ⟨a9, c10, ho16, hcv16, h⟩ := h
    have hcc := h.1
    have h := h.2
    refine call_J2_isEmpty_F15_List (ct_J2_isEmpty l) C hW hS q1317 ho16 hcv16 hcc (le_lit hRf rfl) (le_lit hRl rfl) hcs hl.1 (Nat.le_of_ble_eq_true rfl) dX5_value_16 h (fun r11 H locs h hW hS _ => ?_)
    refine lv_if_eq (tgt := 28) hx hb dX5_value_21 (by decide) (fun c12 => ?_) (fun c12 => ?_)
    · have h := wif_t h c12
      exact hb28  h ls H locs (lv_sub hl [0, 1, 2] rfl) hW hS
    · have h := wif_f h c12
      refine lv_iload_n hx hb dX5_value_24 rfl (lv_at hl 2 rfl) ?_
      refine lv_goto (tgt := 38) hx hb dX5_value_25 (by decide) ?_
      exact hret _ _ _ _ _ dX5_value_38 hW hS h
theorem ct_X5_value (l : Launch) : CT_X5_value l 6 130 w_X5_value := by
  intro V sz G Q x0 x1 x2
  refine Met.ofW (cc := cX5_value) (maxL := 3) (ret := (some .int)) (by decide) rfl ?_
  intro p e s m args below meth c s₁ B hml hv
  obtain ⟨rfl, hsz, hW, hK, hZ, h⟩ := hv
  subst hsz
  have hts := atoms_spec (ws := (ws_ yX5_value cX5_value 3 (some .int))) B.pre
  have hts : ∀ w ∈ lw_all, w.before _ s = true := fun w h => hts w (List.mem_cons_of_mem _ h)
  have hl := lv_entry ([.ref x0, .int x1, .int x2]) (n := 3) (Nat.le_of_ble_eq_true rfl)
  rw [lg_entry_eq]
  generalize (lg_sl ([.ref x0, .int x1, .int x2]) ++ List.replicate (3 - (lg_sl ([.ref x0, .int x1, .int x2])).length) Slot.unset).toArray = ls at hl ⊢
  exact wk_X5_value Q ⟨⟨B.exec, B.bytes, hml, findClass_of_methodNamed B.named, hts⟩, hK, hZ, fun q h => Or.inr h⟩ (Nat.le_refl _) (Nat.le_refl _) ⟨Nat.le_refl _, Nat.le_refl _⟩ G (fun v pc ls H locs hd hW1 hS hQ => W.iret (v := v) B.exec B.bytes B.returns (fun t ht _ => ⟨⟨v, G, rfl, ⟨rfl, hQ⟩, by rw [← ht] at hW1; exact hW1⟩, hS.F ht⟩) hS.2.2 hd) x0 x1 x2 h ls _ [] hl hW va_S.rf
def CT_X1_value (l : Launch) (fr lo : Nat) (w : XV → (Int32 → Prop) → (String → GM → Prop) → Nat → Int32 → Int32 → Int32 → GM → Nat → Nat → Prop) : Prop := ∀ (V : XV) (sz : Nat) (G : GM) (Q : Int32 → Prop) (X : String → GM → Prop) (x0 : Nat) (x1 : Int32) (x2 : Int32) (x3 : Int32) (kc ks : Nat), vx_Met l yX1_value (ws_ yX1_value cX1_value 5 (some .int)) { frames := fr, cells := kc, slots := ks, locals := lo } (va_Pc [.ref x0, .int x1, .int x2, .int x3] (fun U => U.heap.size = sz ∧ xW V (xA G sz) G U.heap ∧ xK V U ∧ xZ V (xA G sz) U U.heap ∧ w V Q X x0 x1 x2 x3 G kc ks)) (va_Qi (fun r (u : GM) => u = G ∧ Q r) (fun u t => xW V (xA G sz) u t.heap) (xA G sz)) (vx_X (fun u : String × GM => X u.1 u.2) (fun E u t => E = u.1 ∧ xW V (xA G sz) u.2 t.heap) (xA G sz)) kc ks (xA G sz)
theorem call_X1_value_V {p : Program} {l : Launch} {e : Env} {R : Room} {s : State} {m : MethodId} {args : Array Value} {below : List Frame} {meth : Method} {c : Code} {H : Heap} {locs : List Loc} {cells slots : Nat} {Z : State → Prop} {A : Nat → Prop} {cc : ByteArray} {nL pc : Nat} {ls : Array Slot} {rest : List Value} {own : String} {index fr lo : Nat} {w : XV → (Int32 → Prop) → (String → GM → Prop) → Nat → Int32 → Int32 → Int32 → GM → Nat → Nat → Prop} {V : XV} {G : GM} {o : Option Nat} {ci : Nat} {kc ks c1 s1 : Nat} {x0 : Nat} {x1 : Int32} {x2 : Int32} {x3 : Int32} (hM : CT_X1_value l fr lo w) (C : xC p m c s args cc nL own V A) (hW : xW V A G H) (hS : va_S A s.heap H locs) (hlink : Cond.methodLink own index yX1_value ∈ lw_all) (ho : o = some x0) (hcv : gCi G (some x0) = some ci) (hci : ci % 64 = 0) (hRf : fr + 1 ≤ R.frames) (hRl : 8 + (5 + 11) + lo ≤ R.locals) (hc1 : c1 ≤ kc) (hs1 : s1 ≤ ks) (hkc : cells + kc ≤ R.cells) (hks : slots + ks ≤ R.slots) (hz : ls.size = nL) (hr8 : (rest.map fun v => v.category).sum ≤ 8) (hdg : decode cc pc = .ok (.invokevirtual index, 3)) {Q1 : Int32 → Prop} {X1 : String → GM → Prop} (h : w V Q1 X1 x0 x1 x2 x3 G c1 s1) (kx : ∀ (E : String) (G1 : GM) (ce : Cell) (q9 : Addr) (H1 : Heap) (locs1 : List Loc), X1 E G1 → xW V A G1 H1 → va_S A s.heap H1 locs1 → H1[q9]? = some ce → ce.vm = .none → s.vm.findClass E = some ce.cls → xFr V G G1 H H1 → vx_W p l e R s m args below meth c H1 locs1 (cells + c1) (slots + s1) Z (F0 m pc ls rest) q9) (kk : ∀ (r : Int32) (H1 : Heap) (locs1 : List Loc), Q1 r → xW V A G H1 → va_S A s.heap H1 locs1 → xFr V G G H H1 → (cells + c1) + (kc - c1) ≤ R.cells → (slots + s1) + (ks - s1) ≤ R.slots → W p l e R s m args below meth c H1 locs1 (cells + c1) (slots + s1) Z (F0 m (pc + 3) ls (.int r :: rest))) : W p l e R s m args below meth c H locs cells slots Z (F0 m pc ls (.int x3 :: .int x2 :: .int x1 :: va_rf o :: rest)) := by
  subst ho
  obtain ⟨fs, hG⟩ := gCi_of hcv
  exact rx_i3r (vx_runV (As := [.int x1, .int x2, .int x3]) (rest := rest) C.1 (hM V H.size G Q1 X1 x0 x1 x2 x3 c1 s1) (cwV 3 C.1.2.2.2.2 (lw_V hlink q1305 q1306 q59 q1307) rfl rfl rfl (by decide +kernel) ⟨hRf, hRl⟩) ⟨fun a U g mk q => by obtain ⟨q0, q1, qW, qK, qZ, qw⟩ := q; exact ⟨q0, q1, qW, xK.same (u := U) (U := U.calling g mk a) rfl qK, xZ.moved (u := U) (U := U.calling g mk a) (Vm.Alike.refl U.vm) qZ, qw⟩, (hW.recv C.2.1 hG (r := (RX1, TX1, 6)) (by rw [hci]; rfl)), fun U hU hWm => ⟨rfl, by rw [hU], by rw [hU]; exact hW.self _, C.2.1.warm hWm, xZ.call C.2.2.1 hW hS C.2.2.2 hU hWm.alike, h⟩⟩ rfl rfl hz rfl (lv_room hr8) hdg ⟨by omega, by omega⟩) hW hS C.2.2.2 kx (fun r H1 locs1 hp hW1 hS1 hF1 => kk r H1 locs1 hp hW1 hS1 hF1 (by omega) (by omega))
def w_X1_value (V : XV) (Q : Int32 → Prop) (X : String → GM → Prop) (x0 : Nat) (x1 : Int32) (x2 : Int32) (x3 : Int32) (G : GM) (kc : Nat) (ks : Nat) : Prop := gRcv G (some x0) (fun a1 c2 => (c2 % 64 = 0) ∧ (∃ c4 s5 : Nat, c4 ≤ kc ∧ s5 ≤ ks ∧ (w_X1_keyed V (fun r3 => ∃ c6 s7 : Nat, c6 ≤ (kc - c4) ∧ s7 ≤ (ks - s5) ∧ (w_X1_checkTime V (gGR G 1 (some x0) (fun v8 => gRL G v8 x1 (fun v9 => gRcv G v9 (fun a10 c11 => (c11 % 64 = 5 ∨ c11 % 64 = 6 ∨ c11 % 64 = 3 ∨ c11 % 64 = 4) ∧ (w_X5_value V (fun r12 => Q r12) a10 x2 x3 G))))) X x3 G c6 s7)) X a1 x1 x2 G c4 s5)))
set_option maxRecDepth 100000 in
set_option maxHeartbeats 4000000 in
theorem wk_X1_value {p : Program} {l : Launch} {e : Env} {R : Room} {s : State} {m : MethodId} {args : Array Value} {below : List Frame} {meth : Method} {c : Code} {Z : State → Prop} {A : Nat → Prop} {V : XV} (Q : Int32 → Prop) (X : String → GM → Prop) (C : xC p m c s args cX1_value 5 RX1 V A) (hfl : l.stackTraces = false) (hRf : 15 ≤ R.frames) (hRl : 264 ≤ R.locals) (G : GM) (hret : ∀ (v : Int32) (pc : Nat) (ls : Array Slot) (H : Heap) (locs : List Loc) (cells slots : Nat) {k1 k2 : Nat}, decode cX1_value pc = .ok (.ireturn, 1) → xW V A G H → va_S A s.heap H locs → cells + k1 ≤ R.cells → slots + k2 ≤ R.slots → Q v → W p l e R s m args below meth c H locs cells slots Z (F0 m pc ls [.int v])) (hxo : ∀ (E : String) (G : GM) (ce : Cell) (q : Addr) (pc : Nat) (ls : Array Slot) (H : Heap) (locs : List Loc) (cells slots : Nat) (rest : List Value), xW V A G H → va_S A s.heap H locs → X E G → H[q]? = some ce → ce.vm = .none → s.vm.findClass E = some ce.cls → cells ≤ R.cells → slots ≤ R.slots → vx_W p l e R s m args below meth c H locs cells slots Z (F0 m pc ls rest) q) (x0 : Nat) (x1 : Int32) (x2 : Int32) (x3 : Int32) (kc ks : Nat) : w_X1_value V Q X x0 x1 x2 x3 G kc ks → ∀ (ls : Array Slot) (H : Heap) (locs : List Loc) (cells slots : Nat), lv_has ls 5 [(0, va_rf (some x0)), (1, .int x1), (2, .int x2), (3, .int x3)] → xW V A G H → va_S A s.heap H locs → cells + kc ≤ R.cells → slots + ks ≤ R.slots → W p l e R s m args below meth c H locs cells slots Z (F0 m 0 ls []) := by
  have hx := C.1.1; have hb := C.1.2.1; have hml := C.1.2.2.1; have hown := C.1.2.2.2.1; have hts := C.1.2.2.2.2
  intro h
  intro ls H locs cells slots hl hW hS hkc hks
  refine sh_aload_n hx hb dX1_value_0 rfl (lv_at hl 0 rfl) ?_
  refine lv_iload_n hx hb dX1_value_1 rfl (lv_at hl 1 rfl) ?_
  refine lv_iload_n hx hb dX1_value_2 rfl (lv_at hl 2 rfl) ?_
  obtain ⟨a1, c2, ho3, hcv3, h⟩ := h
  have hcc := h.1
  have h := h.2
  obtain ⟨c4, s5, hc3, hs3, h⟩ := h
  refine call_X1_keyed_V (ct_X1_keyed l hfl) C hW hS q1224 ho3 hcv3 hcc (le_lit hRf rfl) (le_lit hRl rfl) hc3 hs3 hkc hks hl.1 (Nat.le_of_ble_eq_true rfl) dX1_value_3 h (fun E G9 ce q9 H locs hX hW hS h1 h2 h3 _ => hxo E G9 ce q9 3 ls H locs _ _ _ hW hS hX h1 h2 h3 (by omega) (by omega)) (fun r3 H locs h hW hS _ hkc hks => ?_)
  refine sh_astore (lv' := [(4, va_rf r3), (0, va_rf (some x0)), (1, .int x1), (2, .int x2), (3, .int x3)]) hx hb dX1_value_6 hl (by decide) rfl (fun ls hl => ?_)
  refine lv_iload_n hx hb dX1_value_8 rfl (lv_at hl 4 rfl) ?_
  obtain ⟨c6, s7, hc9, hs9, h⟩ := h
  refine call_X1_checkTime_S (ct_X1_checkTime l hfl) C hW hS q1228 (le_lit hRf rfl) (le_lit hRl rfl) hc9 hs9 hkc hks hl.1 (Nat.le_of_ble_eq_true rfl) dX1_value_9 h (fun E G9 ce q9 H locs hX hW hS h1 h2 h3 _ => hxo E G9 ce q9 9 ls H locs _ _ _ hW hS hX h1 h2 h3 (by omega) (by omega)) (fun  H locs h hW hS _ hkc hks => ?_)
  refine sh_aload_n hx hb dX1_value_12 rfl (lv_at hl 1 rfl) ?_
  obtain ⟨v8, h1, h⟩ := h
  refine sh_get C hW xFb_1 q202 (fun _ h => h) h1 dX1_value_13 ?_
  refine lv_iload_n hx hb dX1_value_16 rfl (lv_at hl 2 rfl) ?_
  refine sh_aald C hW h dX1_value_17 (fun v9 h => ?_)
  refine lv_iload_n hx hb dX1_value_18 rfl (lv_at hl 3 rfl) ?_
  refine lv_iload_n hx hb dX1_value_19 rfl (lv_at hl 4 rfl) ?_
  obtain ⟨a10, c11, ho20, hcv20, h⟩ := h
  have hcc := h.1
  have h := h.2
  refine call_X5_value_U3_4_5_6_Layer (ct_X5_value l) C hW hS q1308 ho20 hcv20 hcc (le_lit hRf rfl) (le_lit hRl rfl) ⟨Nat.le_trans (Nat.le_add_right _ _) hkc, Nat.le_trans (Nat.le_add_right _ _) hks⟩ hl.1 (Nat.le_of_ble_eq_true rfl) dX1_value_20 h (fun r12 H locs h hW hS _ => ?_)
  exact hret _ _ _ _ _ _ _ dX1_value_23 hW hS hkc hks h
theorem ct_X1_value (l : Launch) (hfl : l.stackTraces = false) : CT_X1_value l 15 264 w_X1_value := by
  intro V sz G Q X x0 x1 x2 x3 kc ks
  refine vx_ofW (cc := cX1_value) (maxL := 5) (ret := (some .int)) (by decide) rfl ?_
  intro p e s m args below meth c s₁ B hml hext hv
  obtain ⟨rfl, hsz, hW, hK, hZ, h⟩ := hv
  subst hsz
  have hts := atoms_spec (ws := (ws_ yX1_value cX1_value 5 (some .int))) B.pre
  have hts : ∀ w ∈ lw_all, w.before _ s = true := fun w h => hts w (List.mem_cons_of_mem _ h)
  have hl := lv_entry ([.ref x0, .int x1, .int x2, .int x3]) (n := 5) (Nat.le_of_ble_eq_true rfl)
  rw [lg_entry_eq]
  generalize (lg_sl ([.ref x0, .int x1, .int x2, .int x3]) ++ List.replicate (5 - (lg_sl ([.ref x0, .int x1, .int x2, .int x3])).length) Slot.unset).toArray = ls at hl ⊢
  exact wk_X1_value Q X ⟨⟨B.exec, B.bytes, hml, findClass_of_methodNamed B.named, hts⟩, hK, hZ, fun q h => Or.inr h⟩ hfl (Nat.le_refl _) (Nat.le_refl _) G (fun v pc ls H locs cells slots _ _ hd hW1 hS hkc hks hQ => W.widen (k := kc) (n := ks) (Nat.le_trans (Nat.le_add_right _ _) hkc) (Nat.le_trans (Nat.le_add_right _ _) hks) (vx_ret (W.iret (v := v) B.exec B.bytes B.returns (fun t ht _ => ⟨⟨v, G, rfl, ⟨rfl, hQ⟩, by rw [← ht] at hW1; exact hW1⟩, hS.F ht⟩) hS.2.2 hd))) (fun E G9 ce q pc ls H locs cells slots rest hW1 hS hX h1 h2 h3 hc hs => vx_out (fun x hx => absurd (hext x hx) id) B.notSynchronized h1 h2 h3 (fun t ht _ => ⟨(E, G9), hX, ⟨rfl, by rw [← ht] at hW1; exact hW1⟩, hS.F ht⟩) hS.2.2 hc hs) x0 x1 x2 x3 kc ks h ls _ [] 0 0 hl hW va_S.rf (by show 0 + kc ≤ kc; omega) (by show 0 + ks ≤ ks; omega)
def CT_X0_value (l : Launch) (fr lo : Nat) (w : XV → (Int32 → GM → Prop) → (Option Nat) → Int32 → Int32 → Int32 → (Option Nat) → GM → Nat → Nat → Prop) : Prop := ∀ (V : XV) (sz : Nat) (G : GM) (Q : Int32 → GM → Prop) (x0 : Option Nat) (x1 : Int32) (x2 : Int32) (x3 : Int32) (x4 : Option Nat) (kc ks : Nat), Met l yX0_value (wsW_ yX0_value cX0_value 6 (some .int) [(0, 12, 15, 19), (0, 12, 19, 21)]) { frames := fr, cells := kc, slots := ks, locals := lo } (va_Pc [va_rf x0, .int x1, .int x2, .int x3, va_rf x4] (fun U => U.heap.size = sz ∧ xW V (xA G sz) G U.heap ∧ xK V U ∧ xZ V (xA G sz) U U.heap ∧ w V Q x0 x1 x2 x3 x4 G kc ks)) (va_Qi (fun r (u : GM) => Q r u) (fun u t => xW V (xA G sz) u t.heap) (xA G sz)) kc ks (xA G sz)
def w_X0_value (V : XV) (Q : Int32 → GM → Prop) (x0 : Option Nat) (x1 : Int32) (x2 : Int32) (x3 : Int32) (x4 : Option Nat) (G : GM) (kc : Nat) (ks : Nat) : Prop := gRcv G x0 (fun a1 c2 => (c2 % 64 = 0) ∧ (∃ c4 s5 : Nat, c4 ≤ kc ∧ s5 ≤ ks ∧ (w_X1_value V (fun r3 => gJS G 1 x4 (0 : Int32) (r3.toInt64) (fun G6 => Q (0 : Int32) G6)) (fun E G9 => if E = "java/lang/IndexOutOfBoundsException" then Q (1 : Int32) G9 else (if E = "java/lang/IllegalArgumentException" then Q (2 : Int32) G9 else (False))) a1 x1 x2 x3 G c4 s5)))
set_option maxRecDepth 100000 in
set_option maxHeartbeats 4000000 in
theorem wk_X0_value {p : Program} {l : Launch} {e : Env} {R : Room} {s : State} {m : MethodId} {args : Array Value} {below : List Frame} {meth : Method} {c : Code} {Z : State → Prop} {A : Nat → Prop} {V : XV} (Q : Int32 → GM → Prop) (C : xC p m c s args cX0_value 6 RX0 V A) (hfl : l.stackTraces = false) (htab : c.exceptionTable.toList = tableOf [(0, 12, 15, 19), (0, 12, 19, 21)]) (hRf : 16 ≤ R.frames) (hRl : 288 ≤ R.locals) (G : GM) (hret : ∀ (v : Int32) (G : GM) (pc : Nat) (ls : Array Slot) (H : Heap) (locs : List Loc) (cells slots : Nat) {k1 k2 : Nat}, decode cX0_value pc = .ok (.ireturn, 1) → xW V A G H → va_S A s.heap H locs → cells + k1 ≤ R.cells → slots + k2 ≤ R.slots → Q v G → W p l e R s m args below meth c H locs cells slots Z (F0 m pc ls [.int v])) (x0 : Option Nat) (x1 : Int32) (x2 : Int32) (x3 : Int32) (x4 : Option Nat) (kc ks : Nat) : w_X0_value V Q x0 x1 x2 x3 x4 G kc ks → ∀ (ls : Array Slot) (H : Heap) (locs : List Loc) (cells slots : Nat), lv_has ls 6 [(0, va_rf x0), (1, .int x1), (2, .int x2), (3, .int x3), (4, va_rf x4)] → xW V A G H → va_S A s.heap H locs → cells + kc ≤ R.cells → slots + ks ≤ R.slots → W p l e R s m args below meth c H locs cells slots Z (F0 m 0 ls []) := by
  have hx := C.1.1; have hb := C.1.2.1; have hml := C.1.2.2.1; have hown := C.1.2.2.2.1; have hts := C.1.2.2.2.2
  intro h
  intro ls H locs cells slots hl hW hS hkc hks
  refine sh_aload hx hb dX0_value_0 (lv_at hl 4 rfl) ?_
  refine lv_iconst (v := 0) hx hb dX0_value_2 (by decide) ?_
  refine sh_aload_n hx hb dX0_value_3 rfl (lv_at hl 0 rfl) ?_
  refine lv_iload_n hx hb dX0_value_4 rfl (lv_at hl 1 rfl) ?_
  refine lv_iload_n hx hb dX0_value_5 rfl (lv_at hl 2 rfl) ?_
  refine lv_iload_n hx hb dX0_value_6 rfl (lv_at hl 3 rfl) ?_
  obtain ⟨a1, c2, ho7, hcv7, h⟩ := h
  have hcc := h.1
  have h := h.2
  obtain ⟨c4, s5, hc7, hs7, h⟩ := h
  refine call_X1_value_V (ct_X1_value l hfl) C hW hS q1304 ho7 hcv7 hcc (le_lit hRf rfl) (le_lit hRl rfl) hc7 hs7 hkc hks hl.1 (by simp only [List.map_cons, List.map_nil, va_rf_cat]; exact Nat.le_of_ble_eq_true rfl) dX0_value_7 h (fun E G9 ce q9 H locs hX hW hS h1 h2 h3 _ => by
      by_cases c900 : E = "java/lang/IndexOutOfBoundsException"
      · have hX := wif_t hX c900
        subst c900
        refine vx_catch hown [] ⟨0, 12, 15, 19⟩ [⟨0, 12, 19, 21⟩] (htab.trans rfl) (fun z hz => absurd hz List.not_mem_nil) rfl (by decide) (hts _ q740) (va_Nw.use rfl (C.2.1.2.2.1 _ q757 rfl)) h1 h2 h3 ?_
        refine sh_astore (lv' := [(5, va_rf (some q9)), (0, va_rf x0), (1, .int x1), (2, .int x2), (3, .int x3), (4, va_rf x4)]) hx hb dX0_value_15 hl (by decide) (by simp only [List.filter_cons, List.filter_nil, va_rf_cat]; rfl) (fun ls hl => ?_)
        refine lv_iconst (v := 1) hx hb dX0_value_17 (by decide) ?_
        exact hret _ _ _ _ _ _ _ _ (k1 := 0) (k2 := 0) dX0_value_18 hW hS (by omega) (by omega) hX
      have hX := wif_f hX c900
      by_cases c901 : E = "java/lang/IllegalArgumentException"
      · have hX := wif_t hX c901
        subst c901
        refine vx_catch hown [⟨0, 12, 15, 19⟩] ⟨0, 12, 19, 21⟩ [] (htab.trans rfl) (by intro z hz; simp only [List.mem_cons, List.not_mem_nil, or_false] at hz; rcases hz with rfl <;> first | (exact Or.inr ⟨by decide, "java/lang/IndexOutOfBoundsException", hts _ q740, C.2.1.2.2.2.2.2.2.1 ("java/lang/IllegalArgumentException", "java/lang/IndexOutOfBoundsException") (by decide)⟩)) rfl (by decide) (hts _ q743) (va_Nw.use rfl (C.2.1.2.2.1 _ q441 rfl)) h1 h2 h3 ?_
        refine sh_astore (lv' := [(5, va_rf (some q9)), (0, va_rf x0), (1, .int x1), (2, .int x2), (3, .int x3), (4, va_rf x4)]) hx hb dX0_value_19 hl (by decide) (by simp only [List.filter_cons, List.filter_nil, va_rf_cat]; rfl) (fun ls hl => ?_)
        refine lv_iconst (v := 2) hx hb dX0_value_21 (by decide) ?_
        exact hret _ _ _ _ _ _ _ _ (k1 := 0) (k2 := 0) dX0_value_22 hW hS (by omega) (by omega) hX
      have hX := wif_f hX c901
      exact False.elim hX) (fun r3 H locs h hW hS _ hkc hks => ?_)
  refine lv_i2l hx hb dX0_value_10 rfl ?_
  refine sh_last C hW hS h dX0_value_11 (fun G6 H locs hW hS h => ?_)
  refine lv_goto (tgt := 23) hx hb dX0_value_12 (by decide) ?_
  refine lv_iconst (v := 0) hx hb dX0_value_23 (by decide) ?_
  exact hret _ _ _ _ _ _ _ _ dX0_value_24 hW hS hkc hks h
theorem ct_X0_value (l : Launch) (hfl : l.stackTraces = false) : CT_X0_value l 16 288 w_X0_value := by
  intro V sz G Q x0 x1 x2 x3 x4 kc ks
  refine gx_ofWH (cc := cX0_value) (maxL := 6) (ret := (some .int)) (hh := [(0, 12, 15, 19), (0, 12, 19, 21)]) (by decide) rfl ?_
  intro p e s m args below meth c s₁ B hml htab hv
  obtain ⟨rfl, hsz, hW, hK, hZ, h⟩ := hv
  subst hsz
  have hts := atoms_spec (ws := (wsW_ yX0_value cX0_value 6 (some .int) [(0, 12, 15, 19), (0, 12, 19, 21)])) B.pre
  have hts : ∀ w ∈ lw_all, w.before _ s = true := fun w h => hts w (List.mem_cons_of_mem _ h)
  have key : ∃ ls : Array Slot, entryFrame m ([va_rf x0, .int x1, .int x2, .int x3, va_rf x4] : List Value).toArray 6 = F0 m 0 ls [] ∧ lv_has ls 6 [(0, va_rf x0), (1, .int x1), (2, .int x2), (3, .int x3), (4, va_rf x4)] := by
    cases x0 <;> cases x4 <;> (refine ⟨_, by rw [lg_entry_eq], ?_⟩; exact lv_entry _ (Nat.le_of_ble_eq_true rfl))
  obtain ⟨ls, hfr, hl⟩ := key
  rw [hfr]
  exact wk_X0_value Q ⟨⟨B.exec, B.bytes, hml, findClass_of_methodNamed B.named, hts⟩, hK, hZ, fun q h => Or.inr h⟩ hfl htab (Nat.le_refl _) (Nat.le_refl _) G (fun v G pc ls H locs cells slots _ _ hd hW1 hS hkc hks hQ => W.widen (k := kc) (n := ks) (Nat.le_trans (Nat.le_add_right _ _) hkc) (Nat.le_trans (Nat.le_add_right _ _) hks) (W.iret (v := v) B.exec B.bytes B.returns (fun t ht _ => ⟨⟨v, G, rfl, hQ, by rw [← ht] at hW1; exact hW1⟩, hS.F ht⟩) hS.2.2 hd)) x0 x1 x2 x3 x4 kc ks h ls _ [] 0 0 hl hW va_S.rf (by show 0 + kc ≤ kc; omega) (by show 0 + ks ≤ ks; omega)
def CT_X5_mapOnce (l : Launch) (fr lo : Nat) (w : XV → (GM → Prop) → Nat → Int32 → (Option Nat) → GM → Prop) : Prop := ∀ (V : XV) (sz : Nat) (G : GM) (Q : GM → Prop) (x0 : Nat) (x1 : Int32) (x2 : Option Nat), Met l yX5_mapOnce (ws_ yX5_mapOnce cX5_mapOnce 6 none) { frames := fr, cells := 0, slots := 0, locals := lo } (va_Pc [.ref x0, .int x1, va_rf x2] (fun U => U.heap.size = sz ∧ xW V (xA G sz) G U.heap ∧ xK V U ∧ xZ V (xA G sz) U U.heap ∧ w V Q x0 x1 x2 G)) (va_Qv (fun (u : GM) => Q u) (fun u t => xW V (xA G sz) u t.heap) (xA G sz)) 0 0 (xA G sz)
theorem call_X5_mapOnce_P3_4_5_6_Layer {p : Program} {l : Launch} {e : Env} {R : Room} {s : State} {m : MethodId} {args : Array Value} {below : List Frame} {meth : Method} {c : Code} {H : Heap} {locs : List Loc} {cells slots : Nat} {Z : State → Prop} {A : Nat → Prop} {cc : ByteArray} {nL pc : Nat} {ls : Array Slot} {rest : List Value} {own : String} {index fr lo : Nat} {w : XV → (GM → Prop) → Nat → Int32 → (Option Nat) → GM → Prop} {V : XV} {G : GM} {o : Option Nat} {ci : Nat} {x0 : Nat} {x1 : Int32} {x2 : Option Nat} (hM : CT_X5_mapOnce l fr lo w) (C : xC p m c s args cc nL own V A) (hW : xW V A G H) (hS : va_S A s.heap H locs) (hlink : Cond.methodLink own index ⟨"Shapelayer$Layer", "mapOnce", "(I[J)V"⟩ ∈ lw_all) (ho : o = some x0) (hcv : gCi G (some x0) = some ci) (hci : ci % 64 = 3 ∨ ci % 64 = 4 ∨ ci % 64 = 5 ∨ ci % 64 = 6) (hRf : fr + 1 ≤ R.frames) (hRl : 8 + (6 + 11) + lo ≤ R.locals) (hcs : cells ≤ R.cells ∧ slots ≤ R.slots) (hz : ls.size = nL) (hr8 : (rest.map fun v => v.category).sum ≤ 8) (hdg : decode cc pc = .ok (.invokevirtual index, 3)) {Q1 : GM → Prop} (h : w V Q1 x0 x1 x2 G) (kk : ∀ (G1 : GM) (H1 : Heap) (locs1 : List Loc), Q1 G1 → xW V A G1 H1 → va_S A s.heap H1 locs1 → xFr V G G1 H H1 → W p l e R s m args below meth c H1 locs1 cells slots Z (F0 m (pc + 3) ls (rest))) : W p l e R s m args below meth c H locs cells slots Z (F0 m pc ls (va_rf x2 :: .int x1 :: va_rf o :: rest)) := by
  subst ho
  obtain ⟨fs, hG⟩ := gCi_of hcv
  rcases hci with hci | hci | hci | hci
  · exact rg_v3w (va_runV (C := "Shapelayer$Rect") (As := [.int x1, va_rf x2]) (rest := rest) C.1 (hM V H.size G Q1 x0 x1 x2) ⟨callB_of 2 C.1.2.2.2.2 (lw_meth q1389) rfl rfl rfl (C.1.2.2.2.2 _ q87) (C.1.2.2.2.2 _ hlink) (by decide +kernel) ⟨hRf, hRl⟩, C.1.2.2.2.2 _ q1388, va_Nw.use rfl (C.2.1.2.2.2.2.2.2.2.2.1 ("Shapelayer$Rect", yX5_mapOnce) (by decide +kernel))⟩ ⟨fun a U g mk q => by obtain ⟨q0, q1, qW, qK, qZ, qw⟩ := q; exact ⟨q0, q1, qW, xK.same (u := U) (U := U.calling g mk a) rfl qK, xZ.moved (u := U) (U := U.calling g mk a) (Vm.Alike.refl U.vm) qZ, qw⟩, (hW.recv C.2.1 hG (r := (RX7, TX7, 11)) (by rw [hci]; rfl)), fun U hU hWm => ⟨rfl, by rw [hU], by rw [hU]; exact hW.self _, C.2.1.warm hWm, xZ.call C.2.2.1 hW hS C.2.2.2 hU hWm.alike, h⟩⟩ rfl rfl hz rfl (lv_room hr8) hdg hcs) hW hS C.2.2.2 (fun G1 H1 locs1 hp hW1 hS1 hF1 => kk G1 H1 locs1 hp hW1 hS1 hF1)
  · exact rg_v3w (va_runV (C := "Shapelayer$Stroke") (As := [.int x1, va_rf x2]) (rest := rest) C.1 (hM V H.size G Q1 x0 x1 x2) ⟨callB_of 2 C.1.2.2.2.2 (lw_meth q1389) rfl rfl rfl (C.1.2.2.2.2 _ q87) (C.1.2.2.2.2 _ hlink) (by decide +kernel) ⟨hRf, hRl⟩, C.1.2.2.2.2 _ q1388, va_Nw.use rfl (C.2.1.2.2.2.2.2.2.2.2.1 ("Shapelayer$Stroke", yX5_mapOnce) (by decide +kernel))⟩ ⟨fun a U g mk q => by obtain ⟨q0, q1, qW, qK, qZ, qw⟩ := q; exact ⟨q0, q1, qW, xK.same (u := U) (U := U.calling g mk a) rfl qK, xZ.moved (u := U) (U := U.calling g mk a) (Vm.Alike.refl U.vm) qZ, qw⟩, (hW.recv C.2.1 hG (r := (RX9, TX9, 11)) (by rw [hci]; rfl)), fun U hU hWm => ⟨rfl, by rw [hU], by rw [hU]; exact hW.self _, C.2.1.warm hWm, xZ.call C.2.2.1 hW hS C.2.2.2 hU hWm.alike, h⟩⟩ rfl rfl hz rfl (lv_room hr8) hdg hcs) hW hS C.2.2.2 (fun G1 H1 locs1 hp hW1 hS1 hF1 => kk G1 H1 locs1 hp hW1 hS1 hF1)
  · exact rg_v3w (va_runV (C := "Shapelayer$Nested") (As := [.int x1, va_rf x2]) (rest := rest) C.1 (hM V H.size G Q1 x0 x1 x2) ⟨callB_of 2 C.1.2.2.2.2 (lw_meth q1389) rfl rfl rfl (C.1.2.2.2.2 _ q87) (C.1.2.2.2.2 _ hlink) (by decide +kernel) ⟨hRf, hRl⟩, C.1.2.2.2.2 _ q1388, va_Nw.use rfl (C.2.1.2.2.2.2.2.2.2.2.1 ("Shapelayer$Nested", yX5_mapOnce) (by decide +kernel))⟩ ⟨fun a U g mk q => by obtain ⟨q0, q1, qW, qK, qZ, qw⟩ := q; exact ⟨q0, q1, qW, xK.same (u := U) (U := U.calling g mk a) rfl qK, xZ.moved (u := U) (U := U.calling g mk a) (Vm.Alike.refl U.vm) qZ, qw⟩, (hW.recv C.2.1 hG (r := (RX11, TX11, 9)) (by rw [hci]; rfl)), fun U hU hWm => ⟨rfl, by rw [hU], by rw [hU]; exact hW.self _, C.2.1.warm hWm, xZ.call C.2.2.1 hW hS C.2.2.2 hU hWm.alike, h⟩⟩ rfl rfl hz rfl (lv_room hr8) hdg hcs) hW hS C.2.2.2 (fun G1 H1 locs1 hp hW1 hS1 hF1 => kk G1 H1 locs1 hp hW1 hS1 hF1)
  · exact rg_v3w (va_runV (C := "Shapelayer$Null") (As := [.int x1, va_rf x2]) (rest := rest) C.1 (hM V H.size G Q1 x0 x1 x2) ⟨callB_of 2 C.1.2.2.2.2 (lw_meth q1389) rfl rfl rfl (C.1.2.2.2.2 _ q87) (C.1.2.2.2.2 _ hlink) (by decide +kernel) ⟨hRf, hRl⟩, C.1.2.2.2.2 _ q1388, va_Nw.use rfl (C.2.1.2.2.2.2.2.2.2.2.1 ("Shapelayer$Null", yX5_mapOnce) (by decide +kernel))⟩ ⟨fun a U g mk q => by obtain ⟨q0, q1, qW, qK, qZ, qw⟩ := q; exact ⟨q0, q1, qW, xK.same (u := U) (U := U.calling g mk a) rfl qK, xZ.moved (u := U) (U := U.calling g mk a) (Vm.Alike.refl U.vm) qZ, qw⟩, (hW.recv C.2.1 hG (r := (RX12, TX12, 8)) (by rw [hci]; rfl)), fun U hU hWm => ⟨rfl, by rw [hU], by rw [hU]; exact hW.self _, C.2.1.warm hWm, xZ.call C.2.2.1 hW hS C.2.2.2 hU hWm.alike, h⟩⟩ rfl rfl hz rfl (lv_room hr8) hdg hcs) hW hS C.2.2.2 (fun G1 H1 locs1 hp hW1 hS1 hF1 => kk G1 H1 locs1 hp hW1 hS1 hF1)
def w_X5_mapOnce_h11 (V : XV) (Q : GM → Prop) (x0 : Nat) (x1 : Int32) (x2 : Option Nat) (rec11 : Int32 → GM → Prop) (x3 : Int32) (G : GM) : Prop := if x3 ≤ 0 then (gRcv G (some x0) (fun a1 c2 => (c2 % 64 = 5 ∨ c2 % 64 = 6 ∨ c2 % 64 = 3 ∨ c2 % 64 = 4) ∧ (w_X5_value V (fun r3 => gJL G 1 x2 (0 : Int32) (fun v4 => w_J13_floorDiv (fun r5 => gRcv G (some x0) (fun a6 c7 => (c7 % 64 = 5 ∨ c7 % 64 = 6 ∨ c7 % 64 = 3 ∨ c7 % 64 = 4) ∧ (w_X5_value V (fun r8 => gJS G 1 x2 (0 : Int32) (r5 + (r8.toInt64)) (fun G9 => gJL G9 1 x2 (1 : Int32) (fun v10 => w_J13_floorDiv (fun r11 => gRcv G9 (some x0) (fun a12 c13 => (c13 % 64 = 5 ∨ c13 % 64 = 6 ∨ c13 % 64 = 3 ∨ c13 % 64 = 4) ∧ (w_X5_value V (fun r14 => gJS G9 1 x2 (1 : Int32) (r11 + (r14.toInt64)) (fun G15 => Q G15)) a12 (1 : Int32) x1 G9))) (v10 * (r3.toInt64)) (1000 : Int64)))) a6 (0 : Int32) x1 G))) (v4 * (r3.toInt64)) (1000 : Int64))) a1 (2 : Int32) x1 G))) else (gJL G 1 x2 (0 : Int32) (fun v16 => gJL G 1 x2 (1 : Int32) (fun v17 => gJS G 1 x2 (0 : Int32) (-v17) (fun G18 => gJS G18 1 x2 (1 : Int32) v16 (fun G19 => rec11 (x3 + (-1 : Int32)) G19)))))
def w_X5_mapOnce_L11 (V : XV) (Q : GM → Prop) (x0 : Nat) (x1 : Int32) (x2 : Option Nat) (x3 : Int32) (G : GM) : Prop := wLoop (fun (rec : (Int32 × GM) → Prop) (s : Int32 × GM) => w_X5_mapOnce_h11 V Q x0 x1 x2 (fun x3 G => rec (x3, G)) s.1 s.2) (x3, G)
def w_X5_mapOnce (V : XV) (Q : GM → Prop) (x0 : Nat) (x1 : Int32) (x2 : Option Nat) (G : GM) : Prop := gRcv G (some x0) (fun a21 c22 => (c22 % 64 = 5 ∨ c22 % 64 = 6 ∨ c22 % 64 = 3 ∨ c22 % 64 = 4) ∧ (w_X5_value V (fun r23 => w_J13_floorMod (fun r24 => w_X5_mapOnce_L11 V Q x0 x1 x2 r24 G) r23 (4 : Int32)) a21 (3 : Int32) x1 G))
set_option maxRecDepth 100000 in
set_option maxHeartbeats 4000000 in
theorem wk_X5_mapOnce {p : Program} {l : Launch} {e : Env} {R : Room} {s : State} {m : MethodId} {args : Array Value} {below : List Frame} {meth : Method} {c : Code} {cells slots : Nat} {Z : State → Prop} {A : Nat → Prop} {V : XV} (Q : GM → Prop) (C : xC p m c s args cX5_mapOnce 6 RX5 V A) (hRf : 7 ≤ R.frames) (hRl : 152 ≤ R.locals) (hcs : cells ≤ R.cells ∧ slots ≤ R.slots) (G : GM) (hret : ∀ (G : GM) (pc : Nat) (ls : Array Slot) (H : Heap) (locs : List Loc), decode cX5_mapOnce pc = .ok (.return_, 1) → xW V A G H → va_S A s.heap H locs → Q G → W p l e R s m args below meth c H locs cells slots Z (F0 m pc ls [])) (x0 : Nat) (x1 : Int32) (x2 : Option Nat) : w_X5_mapOnce V Q x0 x1 x2 G → ∀ (ls : Array Slot) (H : Heap) (locs : List Loc), lv_has ls 6 [(0, va_rf (some x0)), (1, .int x1), (2, va_rf x2)] → xW V A G H → va_S A s.heap H locs → W p l e R s m args below meth c H locs cells slots Z (F0 m 0 ls []) := by
  have hx := C.1.1; have hb := C.1.2.1; have hml := C.1.2.2.1; have hown := C.1.2.2.2.1; have hts := C.1.2.2.2.2
  have hL11 : ∀ (x3 : Int32) (G : GM), w_X5_mapOnce_L11 V Q x0 x1 x2 x3 G → ∀ (ls : Array Slot) (H : Heap) (locs : List Loc), lv_has ls 6 [(0, va_rf (some x0)), (1, .int x1), (2, va_rf x2), (3, .int x3)] → xW V A G H → va_S A s.heap H locs → W p l e R s m args below meth c H locs cells slots Z (F0 m 11 ls []) := by
    obtain ⟨GG11, hG11⟩ : ∃ GG : Int32 → GM → Prop, ∀ (x3 : Int32) (G : GM), GG x3 G ↔ (∀ (ls : Array Slot) (H : Heap) (locs : List Loc), lv_has ls 6 [(0, va_rf (some x0)), (1, .int x1), (2, va_rf x2), (3, .int x3)] → xW V A G H → va_S A s.heap H locs → W p l e R s m args below meth c H locs cells slots Z (F0 m 11 ls [])) := ⟨fun x3 G => _, fun x3 G => Iff.rfl⟩
    have hB11 : ∀ (rec11 : Int32 → GM → Prop), (∀ (x3 : Int32) (G : GM), rec11 x3 G → GG11 x3 G) → ∀ (x3 : Int32) (G : GM), w_X5_mapOnce_h11 V Q x0 x1 x2 rec11 x3 G → GG11 x3 G := by
      intro rec11 hrec11
      intro x3 G h
      rw [hG11]
      intro ls H locs hl hW hS
      refine lv_iload_n hx hb dX5_mapOnce_11 rfl (lv_at hl 3 rfl) ?_
      refine lv_if_le (tgt := 38) hx hb dX5_mapOnce_12 (by decide) (fun c20 => ?_) (fun c20 => ?_)
      · have h := wif_t h c20
        refine sh_aload_n hx hb dX5_mapOnce_38 rfl (lv_at hl 0 rfl) ?_
        refine lv_iconst (v := 2) hx hb dX5_mapOnce_39 (by decide) ?_
        refine lv_iload_n hx hb dX5_mapOnce_40 rfl (lv_at hl 1 rfl) ?_
        obtain ⟨a1, c2, ho41, hcv41, h⟩ := h
        have hcc := h.1
        have h := h.2
        refine call_X5_value_U3_4_5_6_Layer (ct_X5_value l) C hW hS q1390 ho41 hcv41 hcc (le_lit hRf rfl) (le_lit hRl rfl) hcs hl.1 (Nat.le_of_ble_eq_true rfl) dX5_mapOnce_41 h (fun r3 H locs h hW hS _ => ?_)
        refine lv_i2l hx hb dX5_mapOnce_44 rfl ?_
        refine lv_lstore_n (lv' := [(3, .long (r3.toInt64)), (0, va_rf (some x0)), (1, .int x1), (2, va_rf x2)]) hx hb dX5_mapOnce_45 rfl hl (by decide) (by simp only [List.filter_cons, List.filter_nil, va_rf_cat]; rfl) (fun ls hl => ?_)
        refine sh_aload_n hx hb dX5_mapOnce_46 rfl (lv_at hl 3 rfl) ?_
        refine lv_iconst (v := 0) hx hb dX5_mapOnce_47 (by decide) ?_
        refine sh_aload_n hx hb dX5_mapOnce_48 rfl (lv_at hl 3 rfl) ?_
        refine lv_iconst (v := 0) hx hb dX5_mapOnce_49 (by decide) ?_
        refine sh_lald C hW h dX5_mapOnce_50 (fun v4 h => ?_)
        refine lv_lload_n hx hb dX5_mapOnce_51 rfl (lv_at hl 0 rfl) ?_
        refine lv_lmul hx hb dX5_mapOnce_52 ?_
        refine lv_ldc2 hx hb hown (hts _ q1394) dX5_mapOnce_53 ?_
        refine call_J13_floorDiv (ct_J13_floorDiv l) C.1 hS C.2.2.2 q1395 (le_lit hRf rfl) (le_lit hRl rfl) hcs hl.1 (by simp only [List.map_cons, List.map_nil, va_rf_cat]; exact Nat.le_of_ble_eq_true rfl) dX5_mapOnce_56 h (fun r5 H locs h hk hS => ?_)
        have hW := hW.kept hk
        refine sh_aload_n hx hb dX5_mapOnce_59 rfl (lv_at hl 1 rfl) ?_
        refine lv_iconst (v := 0) hx hb dX5_mapOnce_60 (by decide) ?_
        refine lv_iload_n hx hb dX5_mapOnce_61 rfl (lv_at hl 2 rfl) ?_
        obtain ⟨a6, c7, ho62, hcv62, h⟩ := h
        have hcc := h.1
        have h := h.2
        refine call_X5_value_U3_4_5_6_Layer (ct_X5_value l) C hW hS q1390 ho62 hcv62 hcc (le_lit hRf rfl) (le_lit hRl rfl) hcs hl.1 (by simp only [List.map_cons, List.map_nil, va_rf_cat]; exact Nat.le_of_ble_eq_true rfl) dX5_mapOnce_62 h (fun r8 H locs h hW hS _ => ?_)
        refine lv_i2l hx hb dX5_mapOnce_65 rfl ?_
        refine lv_ladd hx hb dX5_mapOnce_66 ?_
        refine sh_last C hW hS h dX5_mapOnce_67 (fun G9 H locs hW hS h => ?_)
        refine sh_aload_n hx hb dX5_mapOnce_68 rfl (lv_at hl 3 rfl) ?_
        refine lv_iconst (v := 1) hx hb dX5_mapOnce_69 (by decide) ?_
        refine sh_aload_n hx hb dX5_mapOnce_70 rfl (lv_at hl 3 rfl) ?_
        refine lv_iconst (v := 1) hx hb dX5_mapOnce_71 (by decide) ?_
        refine sh_lald C hW h dX5_mapOnce_72 (fun v10 h => ?_)
        refine lv_lload_n hx hb dX5_mapOnce_73 rfl (lv_at hl 0 rfl) ?_
        refine lv_lmul hx hb dX5_mapOnce_74 ?_
        refine lv_ldc2 hx hb hown (hts _ q1394) dX5_mapOnce_75 ?_
        refine call_J13_floorDiv (ct_J13_floorDiv l) C.1 hS C.2.2.2 q1395 (le_lit hRf rfl) (le_lit hRl rfl) hcs hl.1 (by simp only [List.map_cons, List.map_nil, va_rf_cat]; exact Nat.le_of_ble_eq_true rfl) dX5_mapOnce_78 h (fun r11 H locs h hk hS => ?_)
        have hW := hW.kept hk
        refine sh_aload_n hx hb dX5_mapOnce_81 rfl (lv_at hl 1 rfl) ?_
        refine lv_iconst (v := 1) hx hb dX5_mapOnce_82 (by decide) ?_
        refine lv_iload_n hx hb dX5_mapOnce_83 rfl (lv_at hl 2 rfl) ?_
        obtain ⟨a12, c13, ho84, hcv84, h⟩ := h
        have hcc := h.1
        have h := h.2
        refine call_X5_value_U3_4_5_6_Layer (ct_X5_value l) C hW hS q1390 ho84 hcv84 hcc (le_lit hRf rfl) (le_lit hRl rfl) hcs hl.1 (by simp only [List.map_cons, List.map_nil, va_rf_cat]; exact Nat.le_of_ble_eq_true rfl) dX5_mapOnce_84 h (fun r14 H locs h hW hS _ => ?_)
        refine lv_i2l hx hb dX5_mapOnce_87 rfl ?_
        refine lv_ladd hx hb dX5_mapOnce_88 ?_
        refine sh_last C hW hS h dX5_mapOnce_89 (fun G15 H locs hW hS h => ?_)
        exact hret _ _ _ _ _ dX5_mapOnce_90 hW hS h
      · have h := wif_f h c20
        refine sh_aload_n hx hb dX5_mapOnce_15 rfl (lv_at hl 2 rfl) ?_
        refine lv_iconst (v := 0) hx hb dX5_mapOnce_16 (by decide) ?_
        refine sh_lald C hW h dX5_mapOnce_17 (fun v16 h => ?_)
        refine lv_lstore (lv' := [(4, .long v16), (0, va_rf (some x0)), (1, .int x1), (2, va_rf x2), (3, .int x3)]) hx hb dX5_mapOnce_18 hl (by decide) rfl (fun ls hl => ?_)
        refine sh_aload_n hx hb dX5_mapOnce_20 rfl (lv_at hl 3 rfl) ?_
        refine lv_iconst (v := 0) hx hb dX5_mapOnce_21 (by decide) ?_
        refine sh_aload_n hx hb dX5_mapOnce_22 rfl (lv_at hl 3 rfl) ?_
        refine lv_iconst (v := 1) hx hb dX5_mapOnce_23 (by decide) ?_
        refine sh_lald C hW h dX5_mapOnce_24 (fun v17 h => ?_)
        refine lv_lneg hx hb dX5_mapOnce_25 ?_
        refine sh_last C hW hS h dX5_mapOnce_26 (fun G18 H locs hW hS h => ?_)
        refine sh_aload_n hx hb dX5_mapOnce_27 rfl (lv_at hl 3 rfl) ?_
        refine lv_iconst (v := 1) hx hb dX5_mapOnce_28 (by decide) ?_
        refine lv_lload hx hb dX5_mapOnce_29 (lv_at hl 0 rfl) ?_
        refine sh_last C hW hS h dX5_mapOnce_31 (fun G19 H locs hW hS h => ?_)
        refine lv_iinc (v := x3 + (-1 : Int32)) (lv' := [(3, .int (x3 + (-1 : Int32))), (4, .long v16), (0, va_rf (some x0)), (1, .int x1), (2, va_rf x2)]) hx hb dX5_mapOnce_32 hl (k := 4) rfl (congrArg (fun z => x3 + z) (by decide)) (by decide) (by simp only [List.filter_cons, List.filter_nil, va_rf_cat]; rfl) (fun ls hl => ?_)
        refine lv_goto (tgt := 11) hx hb dX5_mapOnce_35 (by decide) ?_
        exact (hG11 _ _).mp (hrec11 _ _ h) ls H locs (lv_sub hl [2, 3, 4, 0] rfl) hW hS
    intro x3 G h
    exact (hG11 x3 G).mp (loop_walk (fun s => GG11 s.1 s.2) (fun rec hrec s h => hB11 (fun x3 G => rec (x3, G)) (fun x3 G h => hrec (x3, G) h) s.1 s.2 h) (x3, G) h)
  intro h
  intro ls H locs hl hW hS
  refine sh_aload_n hx hb dX5_mapOnce_0 rfl (lv_at hl 0 rfl) ?_
  refine lv_iconst (v := 3) hx hb dX5_mapOnce_1 (by decide) ?_
  refine lv_iload_n hx hb dX5_mapOnce_2 rfl (lv_at hl 1 rfl) ?_
  obtain ⟨a21, c22, ho3, hcv3, h⟩ := h
  have hcc := h.1
  have h := h.2
  refine call_X5_value_U3_4_5_6_Layer (ct_X5_value l) C hW hS q1390 ho3 hcv3 hcc (le_lit hRf rfl) (le_lit hRl rfl) hcs hl.1 (Nat.le_of_ble_eq_true rfl) dX5_mapOnce_3 h (fun r23 H locs h hW hS _ => ?_)
  refine lv_iconst (v := 4) hx hb dX5_mapOnce_6 (by decide) ?_
  refine call_J13_floorMod (ct_J13_floorMod l) C.1 hS C.2.2.2 q1391 (le_lit hRf rfl) (le_lit hRl rfl) hcs hl.1 (Nat.le_of_ble_eq_true rfl) dX5_mapOnce_7 h (fun r24 H locs h hk hS => ?_)
  have hW := hW.kept hk
  refine lv_istore_n (lv' := [(3, .int r24), (0, va_rf (some x0)), (1, .int x1), (2, va_rf x2)]) hx hb dX5_mapOnce_10 rfl hl (by decide) (by simp only [List.filter_cons, List.filter_nil, va_rf_cat]; rfl) (fun ls hl => ?_)
  exact hL11 _ _ h ls H locs (lv_sub hl [1, 2, 3, 0] rfl) hW hS
theorem ct_X5_mapOnce (l : Launch) : CT_X5_mapOnce l 7 152 w_X5_mapOnce := by
  intro V sz G Q x0 x1 x2
  refine Met.ofW (cc := cX5_mapOnce) (maxL := 6) (ret := none) (by decide) rfl ?_
  intro p e s m args below meth c s₁ B hml hv
  obtain ⟨rfl, hsz, hW, hK, hZ, h⟩ := hv
  subst hsz
  have hts := atoms_spec (ws := (ws_ yX5_mapOnce cX5_mapOnce 6 none)) B.pre
  have hts : ∀ w ∈ lw_all, w.before _ s = true := fun w h => hts w (List.mem_cons_of_mem _ h)
  have key : ∃ ls : Array Slot, entryFrame m ([.ref x0, .int x1, va_rf x2] : List Value).toArray 6 = F0 m 0 ls [] ∧ lv_has ls 6 [(0, va_rf (some x0)), (1, .int x1), (2, va_rf x2)] := by
    cases x2 <;> (refine ⟨_, by rw [lg_entry_eq], ?_⟩; exact lv_entry _ (Nat.le_of_ble_eq_true rfl))
  obtain ⟨ls, hfr, hl⟩ := key
  rw [hfr]
  exact wk_X5_mapOnce Q ⟨⟨B.exec, B.bytes, hml, findClass_of_methodNamed B.named, hts⟩, hK, hZ, fun q h => Or.inr h⟩ (Nat.le_refl _) (Nat.le_refl _) ⟨Nat.le_refl _, Nat.le_refl _⟩ G (fun G pc ls H locs hd hW1 hS hQ => W.vret B.exec B.bytes B.returns (fun t ht _ => ⟨⟨G, rfl, hQ, by rw [← ht] at hW1; exact hW1⟩, hS.F ht⟩) hS.2.2 hd) x0 x1 x2 h ls _ [] hl hW va_S.rf
def CT_X5_map_2 (l : Launch) (fr lo : Nat) (w : XV → (GM → Prop) → Nat → Int32 → (Option Nat) → GM → Prop) : Prop := ∀ (V : XV) (sz : Nat) (G : GM) (Q : GM → Prop) (x0 : Nat) (x1 : Int32) (x2 : Option Nat), Met l yX5_map_2 (ws_ yX5_map_2 cX5_map_2 4 none) { frames := fr, cells := 0, slots := 0, locals := lo } (va_Pc [.ref x0, .int x1, va_rf x2] (fun U => U.heap.size = sz ∧ xW V (xA G sz) G U.heap ∧ xK V U ∧ xZ V (xA G sz) U U.heap ∧ w V Q x0 x1 x2 G)) (va_Qv (fun (u : GM) => Q u) (fun u t => xW V (xA G sz) u t.heap) (xA G sz)) 0 0 (xA G sz)
theorem call_X5_map_2_U3_4_5_6_Layer {p : Program} {l : Launch} {e : Env} {R : Room} {s : State} {m : MethodId} {args : Array Value} {below : List Frame} {meth : Method} {c : Code} {H : Heap} {locs : List Loc} {cells slots : Nat} {Z : State → Prop} {A : Nat → Prop} {cc : ByteArray} {nL pc : Nat} {ls : Array Slot} {rest : List Value} {own : String} {index fr lo : Nat} {w : XV → (GM → Prop) → Nat → Int32 → (Option Nat) → GM → Prop} {V : XV} {G : GM} {o : Option Nat} {ci : Nat} {x0 : Nat} {x1 : Int32} {x2 : Option Nat} (hM : CT_X5_map_2 l fr lo w) (C : xC p m c s args cc nL own V A) (hW : xW V A G H) (hS : va_S A s.heap H locs) (hlink : Cond.methodLink own index ⟨"Shapelayer$Layer", "map", "(I[J)V"⟩ ∈ lw_all) (ho : o = some x0) (hcv : gCi G (some x0) = some ci) (hci : ci % 64 = 5 ∨ ci % 64 = 6 ∨ ci % 64 = 3 ∨ ci % 64 = 4) (hRf : fr + 1 ≤ R.frames) (hRl : 8 + (4 + 11) + lo ≤ R.locals) (hcs : cells ≤ R.cells ∧ slots ≤ R.slots) (hz : ls.size = nL) (hr8 : (rest.map fun v => v.category).sum ≤ 8) (hdg : decode cc pc = .ok (.invokevirtual index, 3)) {Q1 : GM → Prop} (h : w V Q1 x0 x1 x2 G) (kk : ∀ (G1 : GM) (H1 : Heap) (locs1 : List Loc), Q1 G1 → xW V A G1 H1 → va_S A s.heap H1 locs1 → xFr V G G1 H H1 → W p l e R s m args below meth c H1 locs1 cells slots Z (F0 m (pc + 3) ls (rest))) : W p l e R s m args below meth c H locs cells slots Z (F0 m pc ls (va_rf x2 :: .int x1 :: va_rf o :: rest)) := by
  subst ho
  obtain ⟨fs, hG⟩ := gCi_of hcv
  rcases hci with hci | hci | hci | hci
  · exact rg_v3w (va_runU (As := [.int x1, va_rf x2]) (rest := rest) C.1 (hM V H.size G Q1 x0 x1 x2) (va_cwU (C := "Shapelayer$Nested") 2 C.1.2.2.2.2 (lw_U hlink q1380 q1381 q1379 q87 q1385) rfl rfl rfl rfl (by decide +kernel) ⟨hRf, hRl⟩) ⟨fun a U g mk q => by obtain ⟨q0, q1, qW, qK, qZ, qw⟩ := q; exact ⟨q0, q1, qW, xK.same (u := U) (U := U.calling g mk a) rfl qK, xZ.moved (u := U) (U := U.calling g mk a) (Vm.Alike.refl U.vm) qZ, qw⟩, (hW.recv C.2.1 hG (r := (RX11, TX11, 9)) (by rw [hci]; rfl)), fun U hU hWm => ⟨rfl, by rw [hU], by rw [hU]; exact hW.self _, C.2.1.warm hWm, xZ.call C.2.2.1 hW hS C.2.2.2 hU hWm.alike, h⟩⟩ rfl rfl hz rfl (lv_room hr8) hdg hcs) hW hS C.2.2.2 (fun G1 H1 locs1 hp hW1 hS1 hF1 => kk G1 H1 locs1 hp hW1 hS1 hF1)
  · exact rg_v3w (va_runU (As := [.int x1, va_rf x2]) (rest := rest) C.1 (hM V H.size G Q1 x0 x1 x2) (va_cwU (C := "Shapelayer$Null") 2 C.1.2.2.2.2 (lw_U hlink q1380 q1382 q1379 q87 q1385) rfl rfl rfl rfl (by decide +kernel) ⟨hRf, hRl⟩) ⟨fun a U g mk q => by obtain ⟨q0, q1, qW, qK, qZ, qw⟩ := q; exact ⟨q0, q1, qW, xK.same (u := U) (U := U.calling g mk a) rfl qK, xZ.moved (u := U) (U := U.calling g mk a) (Vm.Alike.refl U.vm) qZ, qw⟩, (hW.recv C.2.1 hG (r := (RX12, TX12, 8)) (by rw [hci]; rfl)), fun U hU hWm => ⟨rfl, by rw [hU], by rw [hU]; exact hW.self _, C.2.1.warm hWm, xZ.call C.2.2.1 hW hS C.2.2.2 hU hWm.alike, h⟩⟩ rfl rfl hz rfl (lv_room hr8) hdg hcs) hW hS C.2.2.2 (fun G1 H1 locs1 hp hW1 hS1 hF1 => kk G1 H1 locs1 hp hW1 hS1 hF1)
  · exact rg_v3w (va_runU (As := [.int x1, va_rf x2]) (rest := rest) C.1 (hM V H.size G Q1 x0 x1 x2) (va_cwU (C := "Shapelayer$Rect") 2 C.1.2.2.2.2 (lw_U hlink q1380 q1383 q1379 q87 q1385) rfl rfl rfl rfl (by decide +kernel) ⟨hRf, hRl⟩) ⟨fun a U g mk q => by obtain ⟨q0, q1, qW, qK, qZ, qw⟩ := q; exact ⟨q0, q1, qW, xK.same (u := U) (U := U.calling g mk a) rfl qK, xZ.moved (u := U) (U := U.calling g mk a) (Vm.Alike.refl U.vm) qZ, qw⟩, (hW.recv C.2.1 hG (r := (RX7, TX7, 11)) (by rw [hci]; rfl)), fun U hU hWm => ⟨rfl, by rw [hU], by rw [hU]; exact hW.self _, C.2.1.warm hWm, xZ.call C.2.2.1 hW hS C.2.2.2 hU hWm.alike, h⟩⟩ rfl rfl hz rfl (lv_room hr8) hdg hcs) hW hS C.2.2.2 (fun G1 H1 locs1 hp hW1 hS1 hF1 => kk G1 H1 locs1 hp hW1 hS1 hF1)
  · exact rg_v3w (va_runU (As := [.int x1, va_rf x2]) (rest := rest) C.1 (hM V H.size G Q1 x0 x1 x2) (va_cwU (C := "Shapelayer$Stroke") 2 C.1.2.2.2.2 (lw_U hlink q1380 q1384 q1379 q87 q1385) rfl rfl rfl rfl (by decide +kernel) ⟨hRf, hRl⟩) ⟨fun a U g mk q => by obtain ⟨q0, q1, qW, qK, qZ, qw⟩ := q; exact ⟨q0, q1, qW, xK.same (u := U) (U := U.calling g mk a) rfl qK, xZ.moved (u := U) (U := U.calling g mk a) (Vm.Alike.refl U.vm) qZ, qw⟩, (hW.recv C.2.1 hG (r := (RX9, TX9, 11)) (by rw [hci]; rfl)), fun U hU hWm => ⟨rfl, by rw [hU], by rw [hU]; exact hW.self _, C.2.1.warm hWm, xZ.call C.2.2.1 hW hS C.2.2.2 hU hWm.alike, h⟩⟩ rfl rfl hz rfl (lv_room hr8) hdg hcs) hW hS C.2.2.2 (fun G1 H1 locs1 hp hW1 hS1 hF1 => kk G1 H1 locs1 hp hW1 hS1 hF1)
def w_X5_map_2_h2 (V : XV) (Q : GM → Prop) (x1 : Int32) (x2 : Option Nat) (rec2 : (Option Nat) → GM → Prop) (x3 : Option Nat) (G : GM) : Prop := if x3 = none then (Q G) else (gRcv G x3 (fun a1 c2 => (c2 % 64 = 3 ∨ c2 % 64 = 4 ∨ c2 % 64 = 5 ∨ c2 % 64 = 6) ∧ (w_X5_mapOnce V (fun G3 => gGR G3 16 x3 (fun v4 => rec2 v4 G3)) a1 x1 x2 G)))
def w_X5_map_2_L2 (V : XV) (Q : GM → Prop) (x1 : Int32) (x2 : Option Nat) (x3 : Option Nat) (G : GM) : Prop := wLoop (fun (rec : ((Option Nat) × GM) → Prop) (s : (Option Nat) × GM) => w_X5_map_2_h2 V Q x1 x2 (fun x3 G => rec (x3, G)) s.1 s.2) (x3, G)
def w_X5_map_2 (V : XV) (Q : GM → Prop) (x0 : Nat) (x1 : Int32) (x2 : Option Nat) (G : GM) : Prop := w_X5_map_2_L2 V Q x1 x2 (some x0) G
set_option maxRecDepth 100000 in
set_option maxHeartbeats 4000000 in
theorem wk_X5_map_2 {p : Program} {l : Launch} {e : Env} {R : Room} {s : State} {m : MethodId} {args : Array Value} {below : List Frame} {meth : Method} {c : Code} {cells slots : Nat} {Z : State → Prop} {A : Nat → Prop} {V : XV} (Q : GM → Prop) (C : xC p m c s args cX5_map_2 4 RX5 V A) (hRf : 8 ≤ R.frames) (hRl : 177 ≤ R.locals) (hcs : cells ≤ R.cells ∧ slots ≤ R.slots) (G : GM) (hret : ∀ (G : GM) (pc : Nat) (ls : Array Slot) (H : Heap) (locs : List Loc), decode cX5_map_2 pc = .ok (.return_, 1) → xW V A G H → va_S A s.heap H locs → Q G → W p l e R s m args below meth c H locs cells slots Z (F0 m pc ls [])) (x0 : Nat) (x1 : Int32) (x2 : Option Nat) : w_X5_map_2 V Q x0 x1 x2 G → ∀ (ls : Array Slot) (H : Heap) (locs : List Loc), lv_has ls 4 [(0, va_rf (some x0)), (1, .int x1), (2, va_rf x2)] → xW V A G H → va_S A s.heap H locs → W p l e R s m args below meth c H locs cells slots Z (F0 m 0 ls []) := by
  have hx := C.1.1; have hb := C.1.2.1; have hml := C.1.2.2.1; have hown := C.1.2.2.2.1; have hts := C.1.2.2.2.2
  have hL2 : ∀ (x3 : Option Nat) (G : GM), w_X5_map_2_L2 V Q x1 x2 x3 G → ∀ (ls : Array Slot) (H : Heap) (locs : List Loc), lv_has ls 4 [(1, .int x1), (2, va_rf x2), (3, va_rf x3)] → xW V A G H → va_S A s.heap H locs → W p l e R s m args below meth c H locs cells slots Z (F0 m 2 ls []) := by
    obtain ⟨GG2, hG2⟩ : ∃ GG : (Option Nat) → GM → Prop, ∀ (x3 : Option Nat) (G : GM), GG x3 G ↔ (∀ (ls : Array Slot) (H : Heap) (locs : List Loc), lv_has ls 4 [(1, .int x1), (2, va_rf x2), (3, va_rf x3)] → xW V A G H → va_S A s.heap H locs → W p l e R s m args below meth c H locs cells slots Z (F0 m 2 ls [])) := ⟨fun x3 G => _, fun x3 G => Iff.rfl⟩
    have hB2 : ∀ (rec2 : (Option Nat) → GM → Prop), (∀ (x3 : Option Nat) (G : GM), rec2 x3 G → GG2 x3 G) → ∀ (x3 : Option Nat) (G : GM), w_X5_map_2_h2 V Q x1 x2 rec2 x3 G → GG2 x3 G := by
      intro rec2 hrec2
      intro x3 G h
      rw [hG2]
      intro ls H locs hl hW hS
      refine sh_aload_n hx hb dX5_map_2_2 rfl (lv_at hl 2 rfl) ?_
      refine sh_ifnull (tgt := 20) hx hb dX5_map_2_3 (by decide) (fun c5 => ?_) (fun c5 => ?_)
      · have h := wif_t h c5
        exact hret _ _ _ _ _ dX5_map_2_20 hW hS h
      · have h := wif_f h c5
        refine sh_aload_n hx hb dX5_map_2_6 rfl (lv_at hl 2 rfl) ?_
        refine lv_iload_n hx hb dX5_map_2_7 rfl (lv_at hl 0 rfl) ?_
        refine sh_aload_n hx hb dX5_map_2_8 rfl (lv_at hl 1 rfl) ?_
        obtain ⟨a1, c2, ho9, hcv9, h⟩ := h
        have hcc := h.1
        have h := h.2
        refine call_X5_mapOnce_P3_4_5_6_Layer (ct_X5_mapOnce l) C hW hS q1386 ho9 hcv9 hcc (le_lit hRf rfl) (le_lit hRl rfl) hcs hl.1 (Nat.le_of_ble_eq_true rfl) dX5_map_2_9 h (fun G3 H locs h hW hS _ => ?_)
        refine sh_aload_n hx hb dX5_map_2_12 rfl (lv_at hl 2 rfl) ?_
        obtain ⟨v4, h1, h⟩ := h
        refine sh_get C hW xFb_16 q841 (fun _ h => h) h1 dX5_map_2_13 ?_
        refine sh_astore_n (lv' := [(3, va_rf v4), (1, .int x1), (2, va_rf x2)]) hx hb dX5_map_2_16 rfl hl (by decide) (by simp only [List.filter_cons, List.filter_nil, va_rf_cat]; rfl) (fun ls hl => ?_)
        refine lv_goto (tgt := 2) hx hb dX5_map_2_17 (by decide) ?_
        exact (hG2 _ _).mp (hrec2 _ _ h) ls H locs (lv_sub hl [1, 2, 0] rfl) hW hS
    intro x3 G h
    exact (hG2 x3 G).mp (loop_walk (fun s => GG2 s.1 s.2) (fun rec hrec s h => hB2 (fun x3 G => rec (x3, G)) (fun x3 G h => hrec (x3, G) h) s.1 s.2 h) (x3, G) h)
  intro h
  intro ls H locs hl hW hS
  refine sh_aload_n hx hb dX5_map_2_0 rfl (lv_at hl 0 rfl) ?_
  refine sh_astore_n (lv' := [(3, va_rf (some x0)), (0, va_rf (some x0)), (1, .int x1), (2, va_rf x2)]) hx hb dX5_map_2_1 rfl hl (by decide) (by simp only [List.filter_cons, List.filter_nil, va_rf_cat]; rfl) (fun ls hl => ?_)
  exact hL2 _ _ h ls H locs (lv_sub hl [2, 3, 0] rfl) hW hS
theorem ct_X5_map_2 (l : Launch) : CT_X5_map_2 l 8 177 w_X5_map_2 := by
  intro V sz G Q x0 x1 x2
  refine Met.ofW (cc := cX5_map_2) (maxL := 4) (ret := none) (by decide) rfl ?_
  intro p e s m args below meth c s₁ B hml hv
  obtain ⟨rfl, hsz, hW, hK, hZ, h⟩ := hv
  subst hsz
  have hts := atoms_spec (ws := (ws_ yX5_map_2 cX5_map_2 4 none)) B.pre
  have hts : ∀ w ∈ lw_all, w.before _ s = true := fun w h => hts w (List.mem_cons_of_mem _ h)
  have key : ∃ ls : Array Slot, entryFrame m ([.ref x0, .int x1, va_rf x2] : List Value).toArray 4 = F0 m 0 ls [] ∧ lv_has ls 4 [(0, va_rf (some x0)), (1, .int x1), (2, va_rf x2)] := by
    cases x2 <;> (refine ⟨_, by rw [lg_entry_eq], ?_⟩; exact lv_entry _ (Nat.le_of_ble_eq_true rfl))
  obtain ⟨ls, hfr, hl⟩ := key
  rw [hfr]
  exact wk_X5_map_2 Q ⟨⟨B.exec, B.bytes, hml, findClass_of_methodNamed B.named, hts⟩, hK, hZ, fun q h => Or.inr h⟩ (Nat.le_refl _) (Nat.le_refl _) ⟨Nat.le_refl _, Nat.le_refl _⟩ G (fun G pc ls H locs hd hW1 hS hQ => W.vret B.exec B.bytes B.returns (fun t ht _ => ⟨⟨G, rfl, hQ, by rw [← ht] at hW1; exact hW1⟩, hS.F ht⟩) hS.2.2 hd) x0 x1 x2 h ls _ [] hl hW va_S.rf
def CT_X5_map (l : Launch) (fr lo : Nat) (w : XV → (GM → Prop) → Nat → Int32 → (Option Nat) → Int64 → Int64 → (Option Nat) → GM → Prop) : Prop := ∀ (V : XV) (sz : Nat) (G : GM) (Q : GM → Prop) (x0 : Nat) (x1 : Int32) (x2 : Option Nat) (x3 : Int64) (x5 : Int64) (x7 : Option Nat), Met l yX5_map (ws_ yX5_map cX5_map 9 none) { frames := fr, cells := 0, slots := 0, locals := lo } (va_Pc [.ref x0, .int x1, va_rf x2, .long x3, .long x5, va_rf x7] (fun U => U.heap.size = sz ∧ xW V (xA G sz) G U.heap ∧ xK V U ∧ xZ V (xA G sz) U U.heap ∧ w V Q x0 x1 x2 x3 x5 x7 G)) (va_Qv (fun (u : GM) => Q u) (fun u t => xW V (xA G sz) u t.heap) (xA G sz)) 0 0 (xA G sz)
theorem call_X5_map_U3_4_5_6_Layer {p : Program} {l : Launch} {e : Env} {R : Room} {s : State} {m : MethodId} {args : Array Value} {below : List Frame} {meth : Method} {c : Code} {H : Heap} {locs : List Loc} {cells slots : Nat} {Z : State → Prop} {A : Nat → Prop} {cc : ByteArray} {nL pc : Nat} {ls : Array Slot} {rest : List Value} {own : String} {index fr lo : Nat} {w : XV → (GM → Prop) → Nat → Int32 → (Option Nat) → Int64 → Int64 → (Option Nat) → GM → Prop} {V : XV} {G : GM} {o : Option Nat} {ci : Nat} {x0 : Nat} {x1 : Int32} {x2 : Option Nat} {x3 : Int64} {x5 : Int64} {x7 : Option Nat} (hM : CT_X5_map l fr lo w) (C : xC p m c s args cc nL own V A) (hW : xW V A G H) (hS : va_S A s.heap H locs) (hlink : Cond.methodLink own index ⟨"Shapelayer$Layer", "map", "(ILShapelayer$Outer;JJ[J)V"⟩ ∈ lw_all) (ho : o = some x0) (hcv : gCi G (some x0) = some ci) (hci : ci % 64 = 5 ∨ ci % 64 = 6 ∨ ci % 64 = 3 ∨ ci % 64 = 4) (hRf : fr + 1 ≤ R.frames) (hRl : 8 + (9 + 11) + lo ≤ R.locals) (hcs : cells ≤ R.cells ∧ slots ≤ R.slots) (hz : ls.size = nL) (hr8 : (rest.map fun v => v.category).sum ≤ 8) (hdg : decode cc pc = .ok (.invokevirtual index, 3)) {Q1 : GM → Prop} (h : w V Q1 x0 x1 x2 x3 x5 x7 G) (kk : ∀ (G1 : GM) (H1 : Heap) (locs1 : List Loc), Q1 G1 → xW V A G1 H1 → va_S A s.heap H1 locs1 → xFr V G G1 H H1 → W p l e R s m args below meth c H1 locs1 cells slots Z (F0 m (pc + 3) ls (rest))) : W p l e R s m args below meth c H locs cells slots Z (F0 m pc ls (va_rf x7 :: .long x5 :: .long x3 :: va_rf x2 :: .int x1 :: va_rf o :: rest)) := by
  subst ho
  obtain ⟨fs, hG⟩ := gCi_of hcv
  rcases hci with hci | hci | hci | hci
  · exact rg_v3w (va_runU (As := [.int x1, va_rf x2, .long x3, .long x5, va_rf x7]) (rest := rest) C.1 (hM V H.size G Q1 x0 x1 x2 x3 x5 x7) (va_cwU (C := "Shapelayer$Nested") 5 C.1.2.2.2.2 (lw_U hlink q1372 q1373 q1371 q87 q1377) rfl rfl rfl rfl (by decide +kernel) ⟨hRf, hRl⟩) ⟨fun a U g mk q => by obtain ⟨q0, q1, qW, qK, qZ, qw⟩ := q; exact ⟨q0, q1, qW, xK.same (u := U) (U := U.calling g mk a) rfl qK, xZ.moved (u := U) (U := U.calling g mk a) (Vm.Alike.refl U.vm) qZ, qw⟩, (hW.recv C.2.1 hG (r := (RX11, TX11, 9)) (by rw [hci]; rfl)), fun U hU hWm => ⟨rfl, by rw [hU], by rw [hU]; exact hW.self _, C.2.1.warm hWm, xZ.call C.2.2.1 hW hS C.2.2.2 hU hWm.alike, h⟩⟩ rfl rfl hz rfl (lv_room hr8) hdg hcs) hW hS C.2.2.2 (fun G1 H1 locs1 hp hW1 hS1 hF1 => kk G1 H1 locs1 hp hW1 hS1 hF1)
  · exact rg_v3w (va_runU (As := [.int x1, va_rf x2, .long x3, .long x5, va_rf x7]) (rest := rest) C.1 (hM V H.size G Q1 x0 x1 x2 x3 x5 x7) (va_cwU (C := "Shapelayer$Null") 5 C.1.2.2.2.2 (lw_U hlink q1372 q1374 q1371 q87 q1377) rfl rfl rfl rfl (by decide +kernel) ⟨hRf, hRl⟩) ⟨fun a U g mk q => by obtain ⟨q0, q1, qW, qK, qZ, qw⟩ := q; exact ⟨q0, q1, qW, xK.same (u := U) (U := U.calling g mk a) rfl qK, xZ.moved (u := U) (U := U.calling g mk a) (Vm.Alike.refl U.vm) qZ, qw⟩, (hW.recv C.2.1 hG (r := (RX12, TX12, 8)) (by rw [hci]; rfl)), fun U hU hWm => ⟨rfl, by rw [hU], by rw [hU]; exact hW.self _, C.2.1.warm hWm, xZ.call C.2.2.1 hW hS C.2.2.2 hU hWm.alike, h⟩⟩ rfl rfl hz rfl (lv_room hr8) hdg hcs) hW hS C.2.2.2 (fun G1 H1 locs1 hp hW1 hS1 hF1 => kk G1 H1 locs1 hp hW1 hS1 hF1)
  · exact rg_v3w (va_runU (As := [.int x1, va_rf x2, .long x3, .long x5, va_rf x7]) (rest := rest) C.1 (hM V H.size G Q1 x0 x1 x2 x3 x5 x7) (va_cwU (C := "Shapelayer$Rect") 5 C.1.2.2.2.2 (lw_U hlink q1372 q1375 q1371 q87 q1377) rfl rfl rfl rfl (by decide +kernel) ⟨hRf, hRl⟩) ⟨fun a U g mk q => by obtain ⟨q0, q1, qW, qK, qZ, qw⟩ := q; exact ⟨q0, q1, qW, xK.same (u := U) (U := U.calling g mk a) rfl qK, xZ.moved (u := U) (U := U.calling g mk a) (Vm.Alike.refl U.vm) qZ, qw⟩, (hW.recv C.2.1 hG (r := (RX7, TX7, 11)) (by rw [hci]; rfl)), fun U hU hWm => ⟨rfl, by rw [hU], by rw [hU]; exact hW.self _, C.2.1.warm hWm, xZ.call C.2.2.1 hW hS C.2.2.2 hU hWm.alike, h⟩⟩ rfl rfl hz rfl (lv_room hr8) hdg hcs) hW hS C.2.2.2 (fun G1 H1 locs1 hp hW1 hS1 hF1 => kk G1 H1 locs1 hp hW1 hS1 hF1)
  · exact rg_v3w (va_runU (As := [.int x1, va_rf x2, .long x3, .long x5, va_rf x7]) (rest := rest) C.1 (hM V H.size G Q1 x0 x1 x2 x3 x5 x7) (va_cwU (C := "Shapelayer$Stroke") 5 C.1.2.2.2.2 (lw_U hlink q1372 q1376 q1371 q87 q1377) rfl rfl rfl rfl (by decide +kernel) ⟨hRf, hRl⟩) ⟨fun a U g mk q => by obtain ⟨q0, q1, qW, qK, qZ, qw⟩ := q; exact ⟨q0, q1, qW, xK.same (u := U) (U := U.calling g mk a) rfl qK, xZ.moved (u := U) (U := U.calling g mk a) (Vm.Alike.refl U.vm) qZ, qw⟩, (hW.recv C.2.1 hG (r := (RX9, TX9, 11)) (by rw [hci]; rfl)), fun U hU hWm => ⟨rfl, by rw [hU], by rw [hU]; exact hW.self _, C.2.1.warm hWm, xZ.call C.2.2.1 hW hS C.2.2.2 hU hWm.alike, h⟩⟩ rfl rfl hz rfl (lv_room hr8) hdg hcs) hW hS C.2.2.2 (fun G1 H1 locs1 hp hW1 hS1 hF1 => kk G1 H1 locs1 hp hW1 hS1 hF1)
theorem call_X5_map_U3_Rect {p : Program} {l : Launch} {e : Env} {R : Room} {s : State} {m : MethodId} {args : Array Value} {below : List Frame} {meth : Method} {c : Code} {H : Heap} {locs : List Loc} {cells slots : Nat} {Z : State → Prop} {A : Nat → Prop} {cc : ByteArray} {nL pc : Nat} {ls : Array Slot} {rest : List Value} {own : String} {index fr lo : Nat} {w : XV → (GM → Prop) → Nat → Int32 → (Option Nat) → Int64 → Int64 → (Option Nat) → GM → Prop} {V : XV} {G : GM} {o : Option Nat} {ci : Nat} {x0 : Nat} {x1 : Int32} {x2 : Option Nat} {x3 : Int64} {x5 : Int64} {x7 : Option Nat} (hM : CT_X5_map l fr lo w) (C : xC p m c s args cc nL own V A) (hW : xW V A G H) (hS : va_S A s.heap H locs) (hlink : Cond.methodLink own index ⟨"Shapelayer$Rect", "map", "(ILShapelayer$Outer;JJ[J)V"⟩ ∈ lw_all) (ho : o = some x0) (hcv : gCi G (some x0) = some ci) (hci : ci % 64 = 3) (hRf : fr + 1 ≤ R.frames) (hRl : 8 + (9 + 11) + lo ≤ R.locals) (hcs : cells ≤ R.cells ∧ slots ≤ R.slots) (hz : ls.size = nL) (hr8 : (rest.map fun v => v.category).sum ≤ 8) (hdg : decode cc pc = .ok (.invokevirtual index, 3)) {Q1 : GM → Prop} (h : w V Q1 x0 x1 x2 x3 x5 x7 G) (kk : ∀ (G1 : GM) (H1 : Heap) (locs1 : List Loc), Q1 G1 → xW V A G1 H1 → va_S A s.heap H1 locs1 → xFr V G G1 H H1 → W p l e R s m args below meth c H1 locs1 cells slots Z (F0 m (pc + 3) ls (rest))) : W p l e R s m args below meth c H locs cells slots Z (F0 m pc ls (va_rf x7 :: .long x5 :: .long x3 :: va_rf x2 :: .int x1 :: va_rf o :: rest)) := by
  subst ho
  obtain ⟨fs, hG⟩ := gCi_of hcv
  exact rg_v3w (va_runU (As := [.int x1, va_rf x2, .long x3, .long x5, va_rf x7]) (rest := rest) C.1 (hM V H.size G Q1 x0 x1 x2 x3 x5 x7) (va_cwU (C := "Shapelayer$Rect") 5 C.1.2.2.2.2 (lw_U hlink q1506 q1508 q1371 q87 q1377) rfl rfl rfl rfl (by decide +kernel) ⟨hRf, hRl⟩) ⟨fun a U g mk q => by obtain ⟨q0, q1, qW, qK, qZ, qw⟩ := q; exact ⟨q0, q1, qW, xK.same (u := U) (U := U.calling g mk a) rfl qK, xZ.moved (u := U) (U := U.calling g mk a) (Vm.Alike.refl U.vm) qZ, qw⟩, (hW.recv C.2.1 hG (r := (RX7, TX7, 11)) (by rw [hci]; rfl)), fun U hU hWm => ⟨rfl, by rw [hU], by rw [hU]; exact hW.self _, C.2.1.warm hWm, xZ.call C.2.2.1 hW hS C.2.2.2 hU hWm.alike, h⟩⟩ rfl rfl hz rfl (lv_room hr8) hdg hcs) hW hS C.2.2.2 (fun G1 H1 locs1 hp hW1 hS1 hF1 => kk G1 H1 locs1 hp hW1 hS1 hF1)
theorem call_X5_map_U4_Stroke {p : Program} {l : Launch} {e : Env} {R : Room} {s : State} {m : MethodId} {args : Array Value} {below : List Frame} {meth : Method} {c : Code} {H : Heap} {locs : List Loc} {cells slots : Nat} {Z : State → Prop} {A : Nat → Prop} {cc : ByteArray} {nL pc : Nat} {ls : Array Slot} {rest : List Value} {own : String} {index fr lo : Nat} {w : XV → (GM → Prop) → Nat → Int32 → (Option Nat) → Int64 → Int64 → (Option Nat) → GM → Prop} {V : XV} {G : GM} {o : Option Nat} {ci : Nat} {x0 : Nat} {x1 : Int32} {x2 : Option Nat} {x3 : Int64} {x5 : Int64} {x7 : Option Nat} (hM : CT_X5_map l fr lo w) (C : xC p m c s args cc nL own V A) (hW : xW V A G H) (hS : va_S A s.heap H locs) (hlink : Cond.methodLink own index ⟨"Shapelayer$Stroke", "map", "(ILShapelayer$Outer;JJ[J)V"⟩ ∈ lw_all) (ho : o = some x0) (hcv : gCi G (some x0) = some ci) (hci : ci % 64 = 4) (hRf : fr + 1 ≤ R.frames) (hRl : 8 + (9 + 11) + lo ≤ R.locals) (hcs : cells ≤ R.cells ∧ slots ≤ R.slots) (hz : ls.size = nL) (hr8 : (rest.map fun v => v.category).sum ≤ 8) (hdg : decode cc pc = .ok (.invokevirtual index, 3)) {Q1 : GM → Prop} (h : w V Q1 x0 x1 x2 x3 x5 x7 G) (kk : ∀ (G1 : GM) (H1 : Heap) (locs1 : List Loc), Q1 G1 → xW V A G1 H1 → va_S A s.heap H1 locs1 → xFr V G G1 H H1 → W p l e R s m args below meth c H1 locs1 cells slots Z (F0 m (pc + 3) ls (rest))) : W p l e R s m args below meth c H locs cells slots Z (F0 m pc ls (va_rf x7 :: .long x5 :: .long x3 :: va_rf x2 :: .int x1 :: va_rf o :: rest)) := by
  subst ho
  obtain ⟨fs, hG⟩ := gCi_of hcv
  exact rg_v3w (va_runU (As := [.int x1, va_rf x2, .long x3, .long x5, va_rf x7]) (rest := rest) C.1 (hM V H.size G Q1 x0 x1 x2 x3 x5 x7) (va_cwU (C := "Shapelayer$Stroke") 5 C.1.2.2.2.2 (lw_U hlink q1531 q1532 q1371 q87 q1377) rfl rfl rfl rfl (by decide +kernel) ⟨hRf, hRl⟩) ⟨fun a U g mk q => by obtain ⟨q0, q1, qW, qK, qZ, qw⟩ := q; exact ⟨q0, q1, qW, xK.same (u := U) (U := U.calling g mk a) rfl qK, xZ.moved (u := U) (U := U.calling g mk a) (Vm.Alike.refl U.vm) qZ, qw⟩, (hW.recv C.2.1 hG (r := (RX9, TX9, 11)) (by rw [hci]; rfl)), fun U hU hWm => ⟨rfl, by rw [hU], by rw [hU]; exact hW.self _, C.2.1.warm hWm, xZ.call C.2.2.1 hW hS C.2.2.2 hU hWm.alike, h⟩⟩ rfl rfl hz rfl (lv_room hr8) hdg hcs) hW hS C.2.2.2 (fun G1 H1 locs1 hp hW1 hS1 hF1 => kk G1 H1 locs1 hp hW1 hS1 hF1)
def w_X5_map_h21 (V : XV) (Q : GM → Prop) (x7 : Option Nat) (rec21 : (Option Nat) → GM → Prop) (x8 : Option Nat) (G : GM) : Prop := if x8 = none then (Q G) else (gGR G 37 x8 (fun v1 => gGI G 38 x8 (fun v2 => gRcv G v1 (fun a3 c4 => (c4 % 64 = 5 ∨ c4 % 64 = 6 ∨ c4 % 64 = 3 ∨ c4 % 64 = 4) ∧ (w_X5_map_2 V (fun G5 => gGR G5 39 x8 (fun v6 => rec21 v6 G5)) a3 v2 x7 G)))))
def w_X5_map_L21 (V : XV) (Q : GM → Prop) (x7 : Option Nat) (x8 : Option Nat) (G : GM) : Prop := wLoop (fun (rec : ((Option Nat) × GM) → Prop) (s : (Option Nat) × GM) => w_X5_map_h21 V Q x7 (fun x8 G => rec (x8, G)) s.1 s.2) (x8, G)
def w_X5_map (V : XV) (Q : GM → Prop) (x0 : Nat) (x1 : Int32) (x2 : Option Nat) (x3 : Int64) (x5 : Int64) (x7 : Option Nat) (G : GM) : Prop := gJS G 1 x7 (0 : Int32) x3 (fun G8 => gJS G8 1 x7 (1 : Int32) x5 (fun G9 => gRcv G9 (some x0) (fun a10 c11 => (c11 % 64 = 5 ∨ c11 % 64 = 6 ∨ c11 % 64 = 3 ∨ c11 % 64 = 4) ∧ (w_X5_map_2 V (fun G12 => w_X5_map_L21 V Q x7 x2 G12) a10 x1 x7 G9))))
set_option maxRecDepth 100000 in
set_option maxHeartbeats 4000000 in
theorem wk_X5_map {p : Program} {l : Launch} {e : Env} {R : Room} {s : State} {m : MethodId} {args : Array Value} {below : List Frame} {meth : Method} {c : Code} {cells slots : Nat} {Z : State → Prop} {A : Nat → Prop} {V : XV} (Q : GM → Prop) (C : xC p m c s args cX5_map 9 RX5 V A) (hRf : 9 ≤ R.frames) (hRl : 200 ≤ R.locals) (hcs : cells ≤ R.cells ∧ slots ≤ R.slots) (G : GM) (hret : ∀ (G : GM) (pc : Nat) (ls : Array Slot) (H : Heap) (locs : List Loc), decode cX5_map pc = .ok (.return_, 1) → xW V A G H → va_S A s.heap H locs → Q G → W p l e R s m args below meth c H locs cells slots Z (F0 m pc ls [])) (x0 : Nat) (x1 : Int32) (x2 : Option Nat) (x3 : Int64) (x5 : Int64) (x7 : Option Nat) : w_X5_map V Q x0 x1 x2 x3 x5 x7 G → ∀ (ls : Array Slot) (H : Heap) (locs : List Loc), lv_has ls 9 [(0, va_rf (some x0)), (1, .int x1), (2, va_rf x2), (3, .long x3), (5, .long x5), (7, va_rf x7)] → xW V A G H → va_S A s.heap H locs → W p l e R s m args below meth c H locs cells slots Z (F0 m 0 ls []) := by
  have hx := C.1.1; have hb := C.1.2.1; have hml := C.1.2.2.1; have hown := C.1.2.2.2.1; have hts := C.1.2.2.2.2
  have hL21 : ∀ (x8 : Option Nat) (G : GM), w_X5_map_L21 V Q x7 x8 G → ∀ (ls : Array Slot) (H : Heap) (locs : List Loc), lv_has ls 9 [(7, va_rf x7), (8, va_rf x8)] → xW V A G H → va_S A s.heap H locs → W p l e R s m args below meth c H locs cells slots Z (F0 m 21 ls []) := by
    obtain ⟨GG21, hG21⟩ : ∃ GG : (Option Nat) → GM → Prop, ∀ (x8 : Option Nat) (G : GM), GG x8 G ↔ (∀ (ls : Array Slot) (H : Heap) (locs : List Loc), lv_has ls 9 [(7, va_rf x7), (8, va_rf x8)] → xW V A G H → va_S A s.heap H locs → W p l e R s m args below meth c H locs cells slots Z (F0 m 21 ls [])) := ⟨fun x8 G => _, fun x8 G => Iff.rfl⟩
    have hB21 : ∀ (rec21 : (Option Nat) → GM → Prop), (∀ (x8 : Option Nat) (G : GM), rec21 x8 G → GG21 x8 G) → ∀ (x8 : Option Nat) (G : GM), w_X5_map_h21 V Q x7 rec21 x8 G → GG21 x8 G := by
      intro rec21 hrec21
      intro x8 G h
      rw [hG21]
      intro ls H locs hl hW hS
      refine sh_aload hx hb dX5_map_21 (lv_at hl 1 rfl) ?_
      refine sh_ifnull (tgt := 51) hx hb dX5_map_23 (by decide) (fun c7 => ?_) (fun c7 => ?_)
      · have h := wif_t h c7
        exact hret _ _ _ _ _ dX5_map_51 hW hS h
      · have h := wif_f h c7
        refine sh_aload hx hb dX5_map_26 (lv_at hl 1 rfl) ?_
        obtain ⟨v1, h1, h⟩ := h
        refine sh_getN C hW xFb_37 q1488 (fun _ h => h) (by decide) h1 dX5_map_28 ?_
        refine sh_aload hx hb dX5_map_31 (lv_at hl 1 rfl) ?_
        obtain ⟨v2, h1, h⟩ := h
        refine sh_getN C hW xFb_38 q1490 (fun _ h => h) (by decide) h1 dX5_map_33 ?_
        refine sh_aload hx hb dX5_map_36 (lv_at hl 0 rfl) ?_
        obtain ⟨a3, c4, ho38, hcv38, h⟩ := h
        have hcc := h.1
        have h := h.2
        refine call_X5_map_2_U3_4_5_6_Layer (ct_X5_map_2 l) C hW hS q1378 ho38 hcv38 hcc (le_lit hRf rfl) (le_lit hRl rfl) hcs hl.1 (Nat.le_of_ble_eq_true rfl) dX5_map_38 h (fun G5 H locs h hW hS _ => ?_)
        refine sh_aload hx hb dX5_map_41 (lv_at hl 1 rfl) ?_
        obtain ⟨v6, h1, h⟩ := h
        refine sh_getN C hW xFb_39 q1492 (fun _ h => h) (by decide) h1 dX5_map_43 ?_
        refine sh_astore (lv' := [(8, va_rf v6), (7, va_rf x7)]) hx hb dX5_map_46 hl (by decide) (by simp only [List.filter_cons, List.filter_nil, va_rf_cat]; rfl) (fun ls hl => ?_)
        refine lv_goto (tgt := 21) hx hb dX5_map_48 (by decide) ?_
        exact (hG21 _ _).mp (hrec21 _ _ h) ls H locs (lv_sub hl [1, 0] rfl) hW hS
    intro x8 G h
    exact (hG21 x8 G).mp (loop_walk (fun s => GG21 s.1 s.2) (fun rec hrec s h => hB21 (fun x8 G => rec (x8, G)) (fun x8 G h => hrec (x8, G) h) s.1 s.2 h) (x8, G) h)
  intro h
  intro ls H locs hl hW hS
  refine sh_aload hx hb dX5_map_0 (lv_at hl 5 rfl) ?_
  refine lv_iconst (v := 0) hx hb dX5_map_2 (by decide) ?_
  refine lv_lload_n hx hb dX5_map_3 rfl (lv_at hl 3 rfl) ?_
  refine sh_last C hW hS h dX5_map_4 (fun G8 H locs hW hS h => ?_)
  refine sh_aload hx hb dX5_map_5 (lv_at hl 5 rfl) ?_
  refine lv_iconst (v := 1) hx hb dX5_map_7 (by decide) ?_
  refine lv_lload hx hb dX5_map_8 (lv_at hl 4 rfl) ?_
  refine sh_last C hW hS h dX5_map_10 (fun G9 H locs hW hS h => ?_)
  refine sh_aload_n hx hb dX5_map_11 rfl (lv_at hl 0 rfl) ?_
  refine lv_iload_n hx hb dX5_map_12 rfl (lv_at hl 1 rfl) ?_
  refine sh_aload hx hb dX5_map_13 (lv_at hl 5 rfl) ?_
  obtain ⟨a10, c11, ho15, hcv15, h⟩ := h
  have hcc := h.1
  have h := h.2
  refine call_X5_map_2_U3_4_5_6_Layer (ct_X5_map_2 l) C hW hS q1378 ho15 hcv15 hcc (le_lit hRf rfl) (le_lit hRl rfl) hcs hl.1 (Nat.le_of_ble_eq_true rfl) dX5_map_15 h (fun G12 H locs h hW hS _ => ?_)
  refine sh_aload_n hx hb dX5_map_18 rfl (lv_at hl 2 rfl) ?_
  refine sh_astore (lv' := [(8, va_rf x2), (0, va_rf (some x0)), (1, .int x1), (2, va_rf x2), (3, .long x3), (5, .long x5), (7, va_rf x7)]) hx hb dX5_map_19 hl (by decide) (by simp only [List.filter_cons, List.filter_nil, va_rf_cat]; rfl) (fun ls hl => ?_)
  exact hL21 _ _ h ls H locs (lv_sub hl [6, 0] rfl) hW hS
theorem ct_X5_map (l : Launch) : CT_X5_map l 9 200 w_X5_map := by
  intro V sz G Q x0 x1 x2 x3 x5 x7
  refine Met.ofW (cc := cX5_map) (maxL := 9) (ret := none) (by decide) rfl ?_
  intro p e s m args below meth c s₁ B hml hv
  obtain ⟨rfl, hsz, hW, hK, hZ, h⟩ := hv
  subst hsz
  have hts := atoms_spec (ws := (ws_ yX5_map cX5_map 9 none)) B.pre
  have hts : ∀ w ∈ lw_all, w.before _ s = true := fun w h => hts w (List.mem_cons_of_mem _ h)
  have key : ∃ ls : Array Slot, entryFrame m ([.ref x0, .int x1, va_rf x2, .long x3, .long x5, va_rf x7] : List Value).toArray 9 = F0 m 0 ls [] ∧ lv_has ls 9 [(0, va_rf (some x0)), (1, .int x1), (2, va_rf x2), (3, .long x3), (5, .long x5), (7, va_rf x7)] := by
    cases x2 <;> cases x7 <;> (refine ⟨_, by rw [lg_entry_eq], ?_⟩; exact lv_entry _ (Nat.le_of_ble_eq_true rfl))
  obtain ⟨ls, hfr, hl⟩ := key
  rw [hfr]
  exact wk_X5_map Q ⟨⟨B.exec, B.bytes, hml, findClass_of_methodNamed B.named, hts⟩, hK, hZ, fun q h => Or.inr h⟩ (Nat.le_refl _) (Nat.le_refl _) ⟨Nat.le_refl _, Nat.le_refl _⟩ G (fun G pc ls H locs hd hW1 hS hQ => W.vret B.exec B.bytes B.returns (fun t ht _ => ⟨⟨G, rfl, hQ, by rw [← ht] at hW1; exact hW1⟩, hS.F ht⟩) hS.2.2 hd) x0 x1 x2 x3 x5 x7 h ls _ [] hl hW va_S.rf
def CT_X1_map (l : Launch) (fr lo : Nat) (w : XV → (Int64 → GM → Prop) → (String → GM → Prop) → Nat → Int32 → Int32 → Int32 → Int32 → Int32 → GM → Nat → Nat → Prop) : Prop := ∀ (V : XV) (sz : Nat) (G : GM) (Q : Int64 → GM → Prop) (X : String → GM → Prop) (x0 : Nat) (x1 : Int32) (x2 : Int32) (x3 : Int32) (x4 : Int32) (x5 : Int32) (kc ks : Nat), vx_Met l yX1_map (ws_ yX1_map cX1_map 8 (some .long)) { frames := fr, cells := kc, slots := ks, locals := lo } (va_Pc [.ref x0, .int x1, .int x2, .int x3, .int x4, .int x5] (fun U => U.heap.size = sz ∧ xW V (xA G sz) G U.heap ∧ xK V U ∧ xZ V (xA G sz) U U.heap ∧ w V Q X x0 x1 x2 x3 x4 x5 G kc ks)) (va_Ql (fun r (u : GM) => Q r u) (fun u t => xW V (xA G sz) u t.heap) (xA G sz)) (vx_X (fun u : String × GM => X u.1 u.2) (fun E u t => E = u.1 ∧ xW V (xA G sz) u.2 t.heap) (xA G sz)) kc ks (xA G sz)
theorem call_X1_map_V {p : Program} {l : Launch} {e : Env} {R : Room} {s : State} {m : MethodId} {args : Array Value} {below : List Frame} {meth : Method} {c : Code} {H : Heap} {locs : List Loc} {cells slots : Nat} {Z : State → Prop} {A : Nat → Prop} {cc : ByteArray} {nL pc : Nat} {ls : Array Slot} {rest : List Value} {own : String} {index fr lo : Nat} {w : XV → (Int64 → GM → Prop) → (String → GM → Prop) → Nat → Int32 → Int32 → Int32 → Int32 → Int32 → GM → Nat → Nat → Prop} {V : XV} {G : GM} {o : Option Nat} {ci : Nat} {kc ks c1 s1 : Nat} {x0 : Nat} {x1 : Int32} {x2 : Int32} {x3 : Int32} {x4 : Int32} {x5 : Int32} (hM : CT_X1_map l fr lo w) (C : xC p m c s args cc nL own V A) (hW : xW V A G H) (hS : va_S A s.heap H locs) (hlink : Cond.methodLink own index yX1_map ∈ lw_all) (ho : o = some x0) (hcv : gCi G (some x0) = some ci) (hci : ci % 64 = 0) (hRf : fr + 1 ≤ R.frames) (hRl : 8 + (8 + 11) + lo ≤ R.locals) (hc1 : c1 ≤ kc) (hs1 : s1 ≤ ks) (hkc : cells + kc ≤ R.cells) (hks : slots + ks ≤ R.slots) (hz : ls.size = nL) (hr8 : (rest.map fun v => v.category).sum ≤ 8) (hdg : decode cc pc = .ok (.invokevirtual index, 3)) {Q1 : Int64 → GM → Prop} {X1 : String → GM → Prop} (h : w V Q1 X1 x0 x1 x2 x3 x4 x5 G c1 s1) (kx : ∀ (E : String) (G1 : GM) (ce : Cell) (q9 : Addr) (H1 : Heap) (locs1 : List Loc), X1 E G1 → xW V A G1 H1 → va_S A s.heap H1 locs1 → H1[q9]? = some ce → ce.vm = .none → s.vm.findClass E = some ce.cls → xFr V G G1 H H1 → vx_W p l e R s m args below meth c H1 locs1 (cells + c1) (slots + s1) Z (F0 m pc ls rest) q9) (kk : ∀ (r : Int64) (G1 : GM) (H1 : Heap) (locs1 : List Loc), Q1 r G1 → xW V A G1 H1 → va_S A s.heap H1 locs1 → xFr V G G1 H H1 → (cells + c1) + (kc - c1) ≤ R.cells → (slots + s1) + (ks - s1) ≤ R.slots → W p l e R s m args below meth c H1 locs1 (cells + c1) (slots + s1) Z (F0 m (pc + 3) ls (.long r :: rest))) : W p l e R s m args below meth c H locs cells slots Z (F0 m pc ls (.int x5 :: .int x4 :: .int x3 :: .int x2 :: .int x1 :: va_rf o :: rest)) := by
  subst ho
  obtain ⟨fs, hG⟩ := gCi_of hcv
  exact rx_l3w (vx_runV (As := [.int x1, .int x2, .int x3, .int x4, .int x5]) (rest := rest) C.1 (hM V H.size G Q1 X1 x0 x1 x2 x3 x4 x5 c1 s1) (cwV 5 C.1.2.2.2.2 (lw_V hlink q1367 q1368 q59 q1369) rfl rfl rfl (by decide +kernel) ⟨hRf, hRl⟩) ⟨fun a U g mk q => by obtain ⟨q0, q1, qW, qK, qZ, qw⟩ := q; exact ⟨q0, q1, qW, xK.same (u := U) (U := U.calling g mk a) rfl qK, xZ.moved (u := U) (U := U.calling g mk a) (Vm.Alike.refl U.vm) qZ, qw⟩, (hW.recv C.2.1 hG (r := (RX1, TX1, 6)) (by rw [hci]; rfl)), fun U hU hWm => ⟨rfl, by rw [hU], by rw [hU]; exact hW.self _, C.2.1.warm hWm, xZ.call C.2.2.1 hW hS C.2.2.2 hU hWm.alike, h⟩⟩ rfl rfl hz rfl (lv_room hr8) hdg ⟨by omega, by omega⟩) hW hS C.2.2.2 kx (fun r G1 H1 locs1 hp hW1 hS1 hF1 => kk r G1 H1 locs1 hp hW1 hS1 hF1 (by omega) (by omega))
def w_X1_map_39 (V : XV) (Q : Int64 → GM → Prop) (X : String → GM → Prop) (x2 : Int32) (x3 : Int32) (x4 : Int32) (x5 : Int32) (x6 : Option Nat) (y0 : Int32) (G : GM) (kc : Nat) (ks : Nat) : Prop := ∃ c1 s2 : Nat, c1 ≤ kc ∧ s2 ≤ ks ∧ (w_X1_checkArgument V (gNa G 1 (fun N => (N, .inr (.inl (fun _ => 0)))) (2 : Int32) (kc - c1) (ks - s2) (fun q3 n4 G5 => gRcv G5 x6 (fun a6 c7 => (c7 % 64 = 5 ∨ c7 % 64 = 6 ∨ c7 % 64 = 3 ∨ c7 % 64 = 4) ∧ (w_X5_map V (fun G8 => if x5 = 0 then (gJL G8 1 (some q3) (0 : Int32) (fun v9 => Q v9 G8)) else (gJL G8 1 (some q3) (1 : Int32) (fun v10 => Q v10 G8))) a6 x2 none (x3.toInt64) (x4.toInt64) (some q3) G5)))) X y0 G c1 s2)
def w_X1_map_38 (V : XV) (Q : Int64 → GM → Prop) (X : String → GM → Prop) (x2 : Int32) (x3 : Int32) (x4 : Int32) (x5 : Int32) (x6 : Option Nat) (G : GM) (kc : Nat) (ks : Nat) : Prop := w_X1_map_39 V Q X x2 x3 x4 x5 x6 (0 : Int32) G kc ks
def w_X1_map (V : XV) (Q : Int64 → GM → Prop) (X : String → GM → Prop) (x0 : Nat) (x1 : Int32) (x2 : Int32) (x3 : Int32) (x4 : Int32) (x5 : Int32) (G : GM) (kc : Nat) (ks : Nat) : Prop := gRcv G (some x0) (fun a12 c13 => (c13 % 64 = 0) ∧ (∃ c15 s16 : Nat, c15 ≤ kc ∧ s16 ≤ ks ∧ (w_X1_layer V (fun r14 => ∃ c17 s18 : Nat, c17 ≤ (kc - c15) ∧ s18 ≤ (ks - s16) ∧ (w_X1_checkTime V (w_X1_isBetween V (fun r19 => if r19 = 0 then (w_X1_map_38 V Q X x2 x3 x4 x5 r14 G ((kc - c15) - c17) ((ks - s16) - s18)) else (w_X1_isBetween V (fun r20 => if r20 = 0 then (w_X1_map_38 V Q X x2 x3 x4 x5 r14 G ((kc - c15) - c17) ((ks - s16) - s18)) else (w_X1_map_39 V Q X x2 x3 x4 x5 r14 (1 : Int32) G ((kc - c15) - c17) ((ks - s16) - s18))) x4 (-99999 : Int32) (99999 : Int32) G)) x3 (-99999 : Int32) (99999 : Int32) G) X x2 G c17 s18)) X a12 x1 G c15 s16)))
set_option maxRecDepth 100000 in
set_option maxHeartbeats 4000000 in
theorem wk_X1_map {p : Program} {l : Launch} {e : Env} {R : Room} {s : State} {m : MethodId} {args : Array Value} {below : List Frame} {meth : Method} {c : Code} {Z : State → Prop} {A : Nat → Prop} {V : XV} (Q : Int64 → GM → Prop) (X : String → GM → Prop) (C : xC p m c s args cX1_map 8 RX1 V A) (hfl : l.stackTraces = false) (hRf : 14 ≤ R.frames) (hRl : 241 ≤ R.locals) (G : GM) (hret : ∀ (v : Int64) (G : GM) (pc : Nat) (ls : Array Slot) (H : Heap) (locs : List Loc) (cells slots : Nat) {k1 k2 : Nat}, decode cX1_map pc = .ok (.lreturn, 1) → xW V A G H → va_S A s.heap H locs → cells + k1 ≤ R.cells → slots + k2 ≤ R.slots → Q v G → W p l e R s m args below meth c H locs cells slots Z (F0 m pc ls [.long v])) (hxo : ∀ (E : String) (G : GM) (ce : Cell) (q : Addr) (pc : Nat) (ls : Array Slot) (H : Heap) (locs : List Loc) (cells slots : Nat) (rest : List Value), xW V A G H → va_S A s.heap H locs → X E G → H[q]? = some ce → ce.vm = .none → s.vm.findClass E = some ce.cls → cells ≤ R.cells → slots ≤ R.slots → vx_W p l e R s m args below meth c H locs cells slots Z (F0 m pc ls rest) q) (x0 : Nat) (x1 : Int32) (x2 : Int32) (x3 : Int32) (x4 : Int32) (x5 : Int32) (kc ks : Nat) : w_X1_map V Q X x0 x1 x2 x3 x4 x5 G kc ks → ∀ (ls : Array Slot) (H : Heap) (locs : List Loc) (cells slots : Nat), lv_has ls 8 [(0, va_rf (some x0)), (1, .int x1), (2, .int x2), (3, .int x3), (4, .int x4), (5, .int x5)] → xW V A G H → va_S A s.heap H locs → cells + kc ≤ R.cells → slots + ks ≤ R.slots → W p l e R s m args below meth c H locs cells slots Z (F0 m 0 ls []) := by
  have hx := C.1.1; have hb := C.1.2.1; have hml := C.1.2.2.1; have hown := C.1.2.2.2.1; have hts := C.1.2.2.2.2
  have hb39 : ∀ (x6 : Option Nat) (y0 : Int32) (G : GM) (kc : Nat) (ks : Nat), w_X1_map_39 V Q X x2 x3 x4 x5 x6 y0 G kc ks → ∀ (ls : Array Slot) (H : Heap) (locs : List Loc) (cells slots : Nat), lv_has ls 8 [(2, .int x2), (3, .int x3), (4, .int x4), (5, .int x5), (6, va_rf x6)] → xW V A G H → va_S A s.heap H locs → cells + kc ≤ R.cells → slots + ks ≤ R.slots → W p l e R s m args below meth c H locs cells slots Z (F0 m 39 ls [.int y0]) := by
    intro x6 y0 G kc ks h
    intro ls H locs cells slots hl hW hS hkc hks
    obtain ⟨c1, s2, hc39, hs39, h⟩ := h
    refine call_X1_checkArgument_S (ct_X1_checkArgument l hfl) C hW hS q787 (le_lit hRf rfl) (le_lit hRl rfl) hc39 hs39 hkc hks hl.1 (Nat.le_of_ble_eq_true rfl) dX1_map_39 h (fun E G9 ce q9 H locs hX hW hS h1 h2 h3 _ => hxo E G9 ce q9 39 ls H locs _ _ _ hW hS hX h1 h2 h3 (by omega) (by omega)) (fun  H locs h hW hS _ hkc hks => ?_)
    refine lv_iconst (v := 2) hx hb dX1_map_42 (by decide) ?_
    refine sh_newa C hW hS (atype := .long) (t := 1) rfl (by decide) q200 (fun _ _ => rfl) (by decide) h hkc hks dX1_map_43 (fun q3 n4 G5 H hW hS h hN hkc hks => ?_)
    refine sh_astore (lv' := [(7, va_rf (some q3)), (2, .int x2), (3, .int x3), (4, .int x4), (5, .int x5), (6, va_rf x6)]) hx hb dX1_map_45 hl (by decide) (by simp only [List.filter_cons, List.filter_nil, va_rf_cat]; rfl) (fun ls hl => ?_)
    refine sh_aload hx hb dX1_map_47 (lv_at hl 5 rfl) ?_
    refine lv_iload_n hx hb dX1_map_49 rfl (lv_at hl 1 rfl) ?_
    refine sh_null hx hb dX1_map_50 ?_
    refine lv_iload_n hx hb dX1_map_51 rfl (lv_at hl 2 rfl) ?_
    refine lv_i2l hx hb dX1_map_52 rfl ?_
    refine lv_iload hx hb dX1_map_53 (lv_at hl 3 rfl) ?_
    refine lv_i2l hx hb dX1_map_55 rfl ?_
    refine sh_aload hx hb dX1_map_56 (lv_at hl 0 rfl) ?_
    obtain ⟨a6, c7, ho58, hcv58, h⟩ := h
    have hcc := h.1
    have h := h.2
    refine call_X5_map_U3_4_5_6_Layer (ct_X5_map l) C hW hS q1370 ho58 hcv58 hcc (le_lit hRf rfl) (le_lit hRl rfl) ⟨Nat.le_trans (Nat.le_add_right _ _) hkc, Nat.le_trans (Nat.le_add_right _ _) hks⟩ hl.1 (Nat.le_of_ble_eq_true rfl) dX1_map_58 h (fun G8 H locs h hW hS _ => ?_)
    refine sh_aload hx hb dX1_map_61 (lv_at hl 0 rfl) ?_
    refine lv_iload hx hb dX1_map_63 (lv_at hl 4 rfl) ?_
    refine lv_if_eq (tgt := 72) hx hb dX1_map_65 (by decide) (fun c11 => ?_) (fun c11 => ?_)
    · have h := wif_t h c11
      refine lv_iconst (v := 0) hx hb dX1_map_72 (by decide) ?_
      refine sh_lald C hW h dX1_map_73 (fun v9 h => ?_)
      exact hret _ _ _ _ _ _ _ _ dX1_map_74 hW hS hkc hks h
    · have h := wif_f h c11
      refine lv_iconst (v := 1) hx hb dX1_map_68 (by decide) ?_
      refine lv_goto (tgt := 73) hx hb dX1_map_69 (by decide) ?_
      refine sh_lald C hW h dX1_map_73 (fun v10 h => ?_)
      exact hret _ _ _ _ _ _ _ _ dX1_map_74 hW hS hkc hks h
  have hb38 : ∀ (x6 : Option Nat) (G : GM) (kc : Nat) (ks : Nat), w_X1_map_38 V Q X x2 x3 x4 x5 x6 G kc ks → ∀ (ls : Array Slot) (H : Heap) (locs : List Loc) (cells slots : Nat), lv_has ls 8 [(2, .int x2), (3, .int x3), (4, .int x4), (5, .int x5), (6, va_rf x6)] → xW V A G H → va_S A s.heap H locs → cells + kc ≤ R.cells → slots + ks ≤ R.slots → W p l e R s m args below meth c H locs cells slots Z (F0 m 38 ls []) := by
    intro x6 G kc ks h
    intro ls H locs cells slots hl hW hS hkc hks
    refine lv_iconst (v := 0) hx hb dX1_map_38 (by decide) ?_
    exact hb39 _ _ _ _ _ h ls H locs _ _ (lv_sub hl [0, 1, 2, 3, 4] rfl) hW hS hkc hks
  intro h
  intro ls H locs cells slots hl hW hS hkc hks
  refine sh_aload_n hx hb dX1_map_0 rfl (lv_at hl 0 rfl) ?_
  refine lv_iload_n hx hb dX1_map_1 rfl (lv_at hl 1 rfl) ?_
  obtain ⟨a12, c13, ho2, hcv2, h⟩ := h
  have hcc := h.1
  have h := h.2
  obtain ⟨c15, s16, hc2, hs2, h⟩ := h
  refine call_X1_layer_V (ct_X1_layer l hfl) C hW hS q921 ho2 hcv2 hcc (le_lit hRf rfl) (le_lit hRl rfl) hc2 hs2 hkc hks hl.1 (Nat.le_of_ble_eq_true rfl) dX1_map_2 h (fun E G9 ce q9 H locs hX hW hS h1 h2 h3 _ => hxo E G9 ce q9 2 ls H locs _ _ _ hW hS hX h1 h2 h3 (by omega) (by omega)) (fun r14 H locs h hW hS _ hkc hks => ?_)
  refine sh_astore (lv' := [(6, va_rf r14), (0, va_rf (some x0)), (1, .int x1), (2, .int x2), (3, .int x3), (4, .int x4), (5, .int x5)]) hx hb dX1_map_5 hl (by decide) rfl (fun ls hl => ?_)
  refine lv_iload_n hx hb dX1_map_7 rfl (lv_at hl 3 rfl) ?_
  obtain ⟨c17, s18, hc8, hs8, h⟩ := h
  refine call_X1_checkTime_S (ct_X1_checkTime l hfl) C hW hS q1228 (le_lit hRf rfl) (le_lit hRl rfl) hc8 hs8 hkc hks hl.1 (Nat.le_of_ble_eq_true rfl) dX1_map_8 h (fun E G9 ce q9 H locs hX hW hS h1 h2 h3 _ => hxo E G9 ce q9 8 ls H locs _ _ _ hW hS hX h1 h2 h3 (by omega) (by omega)) (fun  H locs h hW hS _ hkc hks => ?_)
  refine lv_iload_n hx hb dX1_map_11 rfl (lv_at hl 4 rfl) ?_
  refine lv_ldc hx hb hown (hts _ q1231) dX1_map_12 ?_
  refine lv_ldc hx hb hown (hts _ q1232) dX1_map_14 ?_
  refine call_X1_isBetween_S (ct_X1_isBetween l) C hW hS q593 (le_lit hRf rfl) (le_lit hRl rfl) ⟨Nat.le_trans (Nat.le_add_right _ _) hkc, Nat.le_trans (Nat.le_add_right _ _) hks⟩ hl.1 (Nat.le_of_ble_eq_true rfl) dX1_map_16 h (fun r19 H locs h hW hS _ => ?_)
  refine lv_if_eq (tgt := 38) hx hb dX1_map_19 (by decide) (fun c22 => ?_) (fun c22 => ?_)
  · have h := wif_t h c22
    exact hb38 _ _ _ _ h ls H locs _ _ (lv_sub hl [3, 4, 5, 6, 0] rfl) hW hS hkc hks
  · have h := wif_f h c22
    refine lv_iload hx hb dX1_map_22 (lv_at hl 5 rfl) ?_
    refine lv_ldc hx hb hown (hts _ q1231) dX1_map_24 ?_
    refine lv_ldc hx hb hown (hts _ q1232) dX1_map_26 ?_
    refine call_X1_isBetween_S (ct_X1_isBetween l) C hW hS q593 (le_lit hRf rfl) (le_lit hRl rfl) ⟨Nat.le_trans (Nat.le_add_right _ _) hkc, Nat.le_trans (Nat.le_add_right _ _) hks⟩ hl.1 (Nat.le_of_ble_eq_true rfl) dX1_map_28 h (fun r20 H locs h hW hS _ => ?_)
    refine lv_if_eq (tgt := 38) hx hb dX1_map_31 (by decide) (fun c21 => ?_) (fun c21 => ?_)
    · have h := wif_t h c21
      exact hb38 _ _ _ _ h ls H locs _ _ (lv_sub hl [3, 4, 5, 6, 0] rfl) hW hS hkc hks
    · have h := wif_f h c21
      refine lv_iconst (v := 1) hx hb dX1_map_34 (by decide) ?_
      refine lv_goto (tgt := 39) hx hb dX1_map_35 (by decide) ?_
      exact hb39 _ _ _ _ _ h ls H locs _ _ (lv_sub hl [3, 4, 5, 6, 0] rfl) hW hS hkc hks
theorem ct_X1_map (l : Launch) (hfl : l.stackTraces = false) : CT_X1_map l 14 241 w_X1_map := by
  intro V sz G Q X x0 x1 x2 x3 x4 x5 kc ks
  refine vx_ofW (cc := cX1_map) (maxL := 8) (ret := (some .long)) (by decide) rfl ?_
  intro p e s m args below meth c s₁ B hml hext hv
  obtain ⟨rfl, hsz, hW, hK, hZ, h⟩ := hv
  subst hsz
  have hts := atoms_spec (ws := (ws_ yX1_map cX1_map 8 (some .long))) B.pre
  have hts : ∀ w ∈ lw_all, w.before _ s = true := fun w h => hts w (List.mem_cons_of_mem _ h)
  have hl := lv_entry ([.ref x0, .int x1, .int x2, .int x3, .int x4, .int x5]) (n := 8) (Nat.le_of_ble_eq_true rfl)
  rw [lg_entry_eq]
  generalize (lg_sl ([.ref x0, .int x1, .int x2, .int x3, .int x4, .int x5]) ++ List.replicate (8 - (lg_sl ([.ref x0, .int x1, .int x2, .int x3, .int x4, .int x5])).length) Slot.unset).toArray = ls at hl ⊢
  exact wk_X1_map Q X ⟨⟨B.exec, B.bytes, hml, findClass_of_methodNamed B.named, hts⟩, hK, hZ, fun q h => Or.inr h⟩ hfl (Nat.le_refl _) (Nat.le_refl _) G (fun v G pc ls H locs cells slots _ _ hd hW1 hS hkc hks hQ => W.widen (k := kc) (n := ks) (Nat.le_trans (Nat.le_add_right _ _) hkc) (Nat.le_trans (Nat.le_add_right _ _) hks) (vx_ret (W.lret (v := v) B.exec B.bytes B.returns (fun t ht _ => ⟨⟨v, G, rfl, hQ, by rw [← ht] at hW1; exact hW1⟩, hS.F ht⟩) hS.2.2 hd))) (fun E G9 ce q pc ls H locs cells slots rest hW1 hS hX h1 h2 h3 hc hs => vx_out (fun x hx => absurd (hext x hx) id) B.notSynchronized h1 h2 h3 (fun t ht _ => ⟨(E, G9), hX, ⟨rfl, by rw [← ht] at hW1; exact hW1⟩, hS.F ht⟩) hS.2.2 hc hs) x0 x1 x2 x3 x4 x5 kc ks h ls _ [] 0 0 hl hW va_S.rf (by show 0 + kc ≤ kc; omega) (by show 0 + ks ≤ ks; omega)
def CT_X0_map (l : Launch) (fr lo : Nat) (w : XV → (Int32 → GM → Prop) → (Option Nat) → Int32 → Int32 → Int32 → Int32 → Int32 → (Option Nat) → GM → Nat → Nat → Prop) : Prop := ∀ (V : XV) (sz : Nat) (G : GM) (Q : Int32 → GM → Prop) (x0 : Option Nat) (x1 : Int32) (x2 : Int32) (x3 : Int32) (x4 : Int32) (x5 : Int32) (x6 : Option Nat) (kc ks : Nat), Met l yX0_map (wsW_ yX0_map cX0_map 8 (some .int) [(0, 15, 18, 19), (0, 15, 22, 21)]) { frames := fr, cells := kc, slots := ks, locals := lo } (va_Pc [va_rf x0, .int x1, .int x2, .int x3, .int x4, .int x5, va_rf x6] (fun U => U.heap.size = sz ∧ xW V (xA G sz) G U.heap ∧ xK V U ∧ xZ V (xA G sz) U U.heap ∧ w V Q x0 x1 x2 x3 x4 x5 x6 G kc ks)) (va_Qi (fun r (u : GM) => Q r u) (fun u t => xW V (xA G sz) u t.heap) (xA G sz)) kc ks (xA G sz)
def w_X0_map (V : XV) (Q : Int32 → GM → Prop) (x0 : Option Nat) (x1 : Int32) (x2 : Int32) (x3 : Int32) (x4 : Int32) (x5 : Int32) (x6 : Option Nat) (G : GM) (kc : Nat) (ks : Nat) : Prop := gRcv G x0 (fun a1 c2 => (c2 % 64 = 0) ∧ (∃ c5 s6 : Nat, c5 ≤ kc ∧ s6 ≤ ks ∧ (w_X1_map V (fun r3 G4 => gJS G4 1 x6 (0 : Int32) r3 (fun G7 => Q (0 : Int32) G7)) (fun E G9 => if E = "java/lang/IndexOutOfBoundsException" then Q (1 : Int32) G9 else (if E = "java/lang/IllegalArgumentException" then Q (2 : Int32) G9 else (False))) a1 x1 x2 x3 x4 x5 G c5 s6)))
set_option maxRecDepth 100000 in
set_option maxHeartbeats 4000000 in
theorem wk_X0_map {p : Program} {l : Launch} {e : Env} {R : Room} {s : State} {m : MethodId} {args : Array Value} {below : List Frame} {meth : Method} {c : Code} {Z : State → Prop} {A : Nat → Prop} {V : XV} (Q : Int32 → GM → Prop) (C : xC p m c s args cX0_map 8 RX0 V A) (hfl : l.stackTraces = false) (htab : c.exceptionTable.toList = tableOf [(0, 15, 18, 19), (0, 15, 22, 21)]) (hRf : 15 ≤ R.frames) (hRl : 268 ≤ R.locals) (G : GM) (hret : ∀ (v : Int32) (G : GM) (pc : Nat) (ls : Array Slot) (H : Heap) (locs : List Loc) (cells slots : Nat) {k1 k2 : Nat}, decode cX0_map pc = .ok (.ireturn, 1) → xW V A G H → va_S A s.heap H locs → cells + k1 ≤ R.cells → slots + k2 ≤ R.slots → Q v G → W p l e R s m args below meth c H locs cells slots Z (F0 m pc ls [.int v])) (x0 : Option Nat) (x1 : Int32) (x2 : Int32) (x3 : Int32) (x4 : Int32) (x5 : Int32) (x6 : Option Nat) (kc ks : Nat) : w_X0_map V Q x0 x1 x2 x3 x4 x5 x6 G kc ks → ∀ (ls : Array Slot) (H : Heap) (locs : List Loc) (cells slots : Nat), lv_has ls 8 [(0, va_rf x0), (1, .int x1), (2, .int x2), (3, .int x3), (4, .int x4), (5, .int x5), (6, va_rf x6)] → xW V A G H → va_S A s.heap H locs → cells + kc ≤ R.cells → slots + ks ≤ R.slots → W p l e R s m args below meth c H locs cells slots Z (F0 m 0 ls []) := by
  have hx := C.1.1; have hb := C.1.2.1; have hml := C.1.2.2.1; have hown := C.1.2.2.2.1; have hts := C.1.2.2.2.2
  intro h
  intro ls H locs cells slots hl hW hS hkc hks
  refine sh_aload hx hb dX0_map_0 (lv_at hl 6 rfl) ?_
  refine lv_iconst (v := 0) hx hb dX0_map_2 (by decide) ?_
  refine sh_aload_n hx hb dX0_map_3 rfl (lv_at hl 0 rfl) ?_
  refine lv_iload_n hx hb dX0_map_4 rfl (lv_at hl 1 rfl) ?_
  refine lv_iload_n hx hb dX0_map_5 rfl (lv_at hl 2 rfl) ?_
  refine lv_iload_n hx hb dX0_map_6 rfl (lv_at hl 3 rfl) ?_
  refine lv_iload hx hb dX0_map_7 (lv_at hl 4 rfl) ?_
  refine lv_iload hx hb dX0_map_9 (lv_at hl 5 rfl) ?_
  obtain ⟨a1, c2, ho11, hcv11, h⟩ := h
  have hcc := h.1
  have h := h.2
  obtain ⟨c5, s6, hc11, hs11, h⟩ := h
  refine call_X1_map_V (ct_X1_map l hfl) C hW hS q1366 ho11 hcv11 hcc (le_lit hRf rfl) (le_lit hRl rfl) hc11 hs11 hkc hks hl.1 (by simp only [List.map_cons, List.map_nil, va_rf_cat]; exact Nat.le_of_ble_eq_true rfl) dX0_map_11 h (fun E G9 ce q9 H locs hX hW hS h1 h2 h3 _ => by
      by_cases c900 : E = "java/lang/IndexOutOfBoundsException"
      · have hX := wif_t hX c900
        subst c900
        refine vx_catch hown [] ⟨0, 15, 18, 19⟩ [⟨0, 15, 22, 21⟩] (htab.trans rfl) (fun z hz => absurd hz List.not_mem_nil) rfl (by decide) (hts _ q740) (va_Nw.use rfl (C.2.1.2.2.1 _ q757 rfl)) h1 h2 h3 ?_
        refine sh_astore (lv' := [(7, va_rf (some q9)), (0, va_rf x0), (1, .int x1), (2, .int x2), (3, .int x3), (4, .int x4), (5, .int x5), (6, va_rf x6)]) hx hb dX0_map_18 hl (by decide) (by simp only [List.filter_cons, List.filter_nil, va_rf_cat]; rfl) (fun ls hl => ?_)
        refine lv_iconst (v := 1) hx hb dX0_map_20 (by decide) ?_
        exact hret _ _ _ _ _ _ _ _ (k1 := 0) (k2 := 0) dX0_map_21 hW hS (by omega) (by omega) hX
      have hX := wif_f hX c900
      by_cases c901 : E = "java/lang/IllegalArgumentException"
      · have hX := wif_t hX c901
        subst c901
        refine vx_catch hown [⟨0, 15, 18, 19⟩] ⟨0, 15, 22, 21⟩ [] (htab.trans rfl) (by intro z hz; simp only [List.mem_cons, List.not_mem_nil, or_false] at hz; rcases hz with rfl <;> first | (exact Or.inr ⟨by decide, "java/lang/IndexOutOfBoundsException", hts _ q740, C.2.1.2.2.2.2.2.2.1 ("java/lang/IllegalArgumentException", "java/lang/IndexOutOfBoundsException") (by decide)⟩)) rfl (by decide) (hts _ q743) (va_Nw.use rfl (C.2.1.2.2.1 _ q441 rfl)) h1 h2 h3 ?_
        refine sh_astore (lv' := [(7, va_rf (some q9)), (0, va_rf x0), (1, .int x1), (2, .int x2), (3, .int x3), (4, .int x4), (5, .int x5), (6, va_rf x6)]) hx hb dX0_map_22 hl (by decide) (by simp only [List.filter_cons, List.filter_nil, va_rf_cat]; rfl) (fun ls hl => ?_)
        refine lv_iconst (v := 2) hx hb dX0_map_24 (by decide) ?_
        exact hret _ _ _ _ _ _ _ _ (k1 := 0) (k2 := 0) dX0_map_25 hW hS (by omega) (by omega) hX
      have hX := wif_f hX c901
      exact False.elim hX) (fun r3 G4 H locs h hW hS _ hkc hks => ?_)
  refine sh_last C hW hS h dX0_map_14 (fun G7 H locs hW hS h => ?_)
  refine lv_goto (tgt := 26) hx hb dX0_map_15 (by decide) ?_
  refine lv_iconst (v := 0) hx hb dX0_map_26 (by decide) ?_
  exact hret _ _ _ _ _ _ _ _ dX0_map_27 hW hS hkc hks h
theorem ct_X0_map (l : Launch) (hfl : l.stackTraces = false) : CT_X0_map l 15 268 w_X0_map := by
  intro V sz G Q x0 x1 x2 x3 x4 x5 x6 kc ks
  refine gx_ofWH (cc := cX0_map) (maxL := 8) (ret := (some .int)) (hh := [(0, 15, 18, 19), (0, 15, 22, 21)]) (by decide) rfl ?_
  intro p e s m args below meth c s₁ B hml htab hv
  obtain ⟨rfl, hsz, hW, hK, hZ, h⟩ := hv
  subst hsz
  have hts := atoms_spec (ws := (wsW_ yX0_map cX0_map 8 (some .int) [(0, 15, 18, 19), (0, 15, 22, 21)])) B.pre
  have hts : ∀ w ∈ lw_all, w.before _ s = true := fun w h => hts w (List.mem_cons_of_mem _ h)
  have key : ∃ ls : Array Slot, entryFrame m ([va_rf x0, .int x1, .int x2, .int x3, .int x4, .int x5, va_rf x6] : List Value).toArray 8 = F0 m 0 ls [] ∧ lv_has ls 8 [(0, va_rf x0), (1, .int x1), (2, .int x2), (3, .int x3), (4, .int x4), (5, .int x5), (6, va_rf x6)] := by
    cases x0 <;> cases x6 <;> (refine ⟨_, by rw [lg_entry_eq], ?_⟩; exact lv_entry _ (Nat.le_of_ble_eq_true rfl))
  obtain ⟨ls, hfr, hl⟩ := key
  rw [hfr]
  exact wk_X0_map Q ⟨⟨B.exec, B.bytes, hml, findClass_of_methodNamed B.named, hts⟩, hK, hZ, fun q h => Or.inr h⟩ hfl htab (Nat.le_refl _) (Nat.le_refl _) G (fun v G pc ls H locs cells slots _ _ hd hW1 hS hkc hks hQ => W.widen (k := kc) (n := ks) (Nat.le_trans (Nat.le_add_right _ _) hkc) (Nat.le_trans (Nat.le_add_right _ _) hks) (W.iret (v := v) B.exec B.bytes B.returns (fun t ht _ => ⟨⟨v, G, rfl, hQ, by rw [← ht] at hW1; exact hW1⟩, hS.F ht⟩) hS.2.2 hd)) x0 x1 x2 x3 x4 x5 x6 kc ks h ls _ [] 0 0 hl hW va_S.rf (by show 0 + kc ≤ kc; omega) (by show 0 + ks ≤ ks; omega)
def CT_X9_cut (l : Launch) (fr lo : Nat) (w : XV → (Int64 → Prop) → Nat → Int32 → Int32 → GM → Prop) : Prop := ∀ (V : XV) (sz : Nat) (G : GM) (Q : Int64 → Prop) (x0 : Nat) (x1 : Int32) (x2 : Int32), Met l yX9_cut (ws_ yX9_cut cX9_cut 3 (some .long)) { frames := fr, cells := 0, slots := 0, locals := lo } (va_Pc [.ref x0, .int x1, .int x2] (fun U => U.heap.size = sz ∧ xW V (xA G sz) G U.heap ∧ xK V U ∧ xZ V (xA G sz) U U.heap ∧ w V Q x0 x1 x2 G)) (va_Ql (fun r (u : GM) => u = G ∧ Q r) (fun u t => xW V (xA G sz) u t.heap) (xA G sz)) 0 0 (xA G sz)
theorem call_X9_cut_V {p : Program} {l : Launch} {e : Env} {R : Room} {s : State} {m : MethodId} {args : Array Value} {below : List Frame} {meth : Method} {c : Code} {H : Heap} {locs : List Loc} {cells slots : Nat} {Z : State → Prop} {A : Nat → Prop} {cc : ByteArray} {nL pc : Nat} {ls : Array Slot} {rest : List Value} {own : String} {index fr lo : Nat} {w : XV → (Int64 → Prop) → Nat → Int32 → Int32 → GM → Prop} {V : XV} {G : GM} {o : Option Nat} {ci : Nat} {x0 : Nat} {x1 : Int32} {x2 : Int32} (hM : CT_X9_cut l fr lo w) (C : xC p m c s args cc nL own V A) (hW : xW V A G H) (hS : va_S A s.heap H locs) (hlink : Cond.methodLink own index yX9_cut ∈ lw_all) (ho : o = some x0) (hcv : gCi G (some x0) = some ci) (hci : ci % 64 = 4) (hRf : fr + 1 ≤ R.frames) (hRl : 8 + (3 + 11) + lo ≤ R.locals) (hcs : cells ≤ R.cells ∧ slots ≤ R.slots) (hz : ls.size = nL) (hr8 : (rest.map fun v => v.category).sum ≤ 8) (hdg : decode cc pc = .ok (.invokevirtual index, 3)) {Q1 : Int64 → Prop} (h : w V Q1 x0 x1 x2 G) (kk : ∀ (r : Int64) (H1 : Heap) (locs1 : List Loc), Q1 r → xW V A G H1 → va_S A s.heap H1 locs1 → xFr V G G H H1 → W p l e R s m args below meth c H1 locs1 cells slots Z (F0 m (pc + 3) ls (.long r :: rest))) : W p l e R s m args below meth c H locs cells slots Z (F0 m pc ls (.int x2 :: .int x1 :: va_rf o :: rest)) := by
  subst ho
  obtain ⟨fs, hG⟩ := gCi_of hcv
  exact rg_l3r (va_runV (As := [.int x1, .int x2]) (rest := rest) C.1 (hM V H.size G Q1 x0 x1 x2) (cwV 2 C.1.2.2.2.2 (lw_V hlink q1409 qs12 q91 q1410) rfl rfl rfl (by decide +kernel) ⟨hRf, hRl⟩) ⟨fun a U g mk q => by obtain ⟨q0, q1, qW, qK, qZ, qw⟩ := q; exact ⟨q0, q1, qW, xK.same (u := U) (U := U.calling g mk a) rfl qK, xZ.moved (u := U) (U := U.calling g mk a) (Vm.Alike.refl U.vm) qZ, qw⟩, (hW.recv C.2.1 hG (r := (RX9, TX9, 11)) (by rw [hci]; rfl)), fun U hU hWm => ⟨rfl, by rw [hU], by rw [hU]; exact hW.self _, C.2.1.warm hWm, xZ.call C.2.2.1 hW hS C.2.2.2 hU hWm.alike, h⟩⟩ rfl rfl hz rfl (lv_room hr8) hdg hcs) hW hS C.2.2.2 (fun r H1 locs1 hp hW1 hS1 hF1 => kk r H1 locs1 hp hW1 hS1 hF1)
def w_X9_cut (V : XV) (Q : Int64 → Prop) (x0 : Nat) (x1 : Int32) (x2 : Int32) (G : GM) : Prop := gGJ G 25 (some x0) (fun v1 => gGJ G 25 (some x0) (fun v2 => gRcv G (some x0) (fun a3 c4 => (c4 % 64 = 4) ∧ (w_X5_value V (fun r5 => w_J13_floorDiv (fun r6 => w_J13_min_2 (fun r7 => w_J13_max_2 (fun r8 => Q r8) (0 : Int64) r7) v1 r6) (v2 * (r5.toInt64)) (1000 : Int64)) a3 x1 x2 G))))
set_option maxRecDepth 100000 in
set_option maxHeartbeats 4000000 in
theorem wk_X9_cut {p : Program} {l : Launch} {e : Env} {R : Room} {s : State} {m : MethodId} {args : Array Value} {below : List Frame} {meth : Method} {c : Code} {cells slots : Nat} {Z : State → Prop} {A : Nat → Prop} {V : XV} (Q : Int64 → Prop) (C : xC p m c s args cX9_cut 3 RX9 V A) (hRf : 7 ≤ R.frames) (hRl : 152 ≤ R.locals) (hcs : cells ≤ R.cells ∧ slots ≤ R.slots) (G : GM) (hret : ∀ (v : Int64) (pc : Nat) (ls : Array Slot) (H : Heap) (locs : List Loc), decode cX9_cut pc = .ok (.lreturn, 1) → xW V A G H → va_S A s.heap H locs → Q v → W p l e R s m args below meth c H locs cells slots Z (F0 m pc ls [.long v])) (x0 : Nat) (x1 : Int32) (x2 : Int32) : w_X9_cut V Q x0 x1 x2 G → ∀ (ls : Array Slot) (H : Heap) (locs : List Loc), lv_has ls 3 [(0, va_rf (some x0)), (1, .int x1), (2, .int x2)] → xW V A G H → va_S A s.heap H locs → W p l e R s m args below meth c H locs cells slots Z (F0 m 0 ls []) := by
  have hx := C.1.1; have hb := C.1.2.1; have hml := C.1.2.2.1; have hown := C.1.2.2.2.1; have hts := C.1.2.2.2.2
  intro h
  intro ls H locs hl hW hS
  refine lv_lconst (v := 0) hx hb dX9_cut_0 (by decide) ?_
  refine sh_aload_n hx hb dX9_cut_1 rfl (lv_at hl 0 rfl) ?_
  obtain ⟨v1, h1, h⟩ := h
  refine sh_get C hW xFb_25 q899 (fun _ h => h) h1 dX9_cut_2 ?_
  refine sh_aload_n hx hb dX9_cut_5 rfl (lv_at hl 0 rfl) ?_
  obtain ⟨v2, h1, h⟩ := h
  refine sh_get C hW xFb_25 q899 (fun _ h => h) h1 dX9_cut_6 ?_
  refine sh_aload_n hx hb dX9_cut_9 rfl (lv_at hl 0 rfl) ?_
  refine lv_iload_n hx hb dX9_cut_10 rfl (lv_at hl 1 rfl) ?_
  refine lv_iload_n hx hb dX9_cut_11 rfl (lv_at hl 2 rfl) ?_
  obtain ⟨a3, c4, ho12, hcv12, h⟩ := h
  have hcc := h.1
  have h := h.2
  refine call_X5_value_U4_Stroke (ct_X5_value l) C hW hS q1411 ho12 hcv12 hcc (le_lit hRf rfl) (le_lit hRl rfl) hcs hl.1 (Nat.le_of_ble_eq_true rfl) dX9_cut_12 h (fun r5 H locs h hW hS _ => ?_)
  refine lv_i2l hx hb dX9_cut_15 rfl ?_
  refine lv_lmul hx hb dX9_cut_16 ?_
  refine lv_ldc2 hx hb hown (hts _ q950) dX9_cut_17 ?_
  refine call_J13_floorDiv (ct_J13_floorDiv l) C.1 hS C.2.2.2 q1415 (le_lit hRf rfl) (le_lit hRl rfl) hcs hl.1 (Nat.le_of_ble_eq_true rfl) dX9_cut_20 h (fun r6 H locs h hk hS => ?_)
  have hW := hW.kept hk
  refine call_J13_min_2 (ct_J13_min_2 l) C.1 hS C.2.2.2 q1416 (le_lit hRf rfl) (le_lit hRl rfl) hcs hl.1 (Nat.le_of_ble_eq_true rfl) dX9_cut_23 h (fun r7 H locs h hk hS => ?_)
  have hW := hW.kept hk
  refine call_J13_max_2 (ct_J13_max_2 l) C.1 hS C.2.2.2 q1419 (le_lit hRf rfl) (le_lit hRl rfl) hcs hl.1 (Nat.le_of_ble_eq_true rfl) dX9_cut_26 h (fun r8 H locs h hk hS => ?_)
  have hW := hW.kept hk
  exact hret _ _ _ _ _ dX9_cut_29 hW hS h
theorem ct_X9_cut (l : Launch) : CT_X9_cut l 7 152 w_X9_cut := by
  intro V sz G Q x0 x1 x2
  refine Met.ofW (cc := cX9_cut) (maxL := 3) (ret := (some .long)) (by decide) rfl ?_
  intro p e s m args below meth c s₁ B hml hv
  obtain ⟨rfl, hsz, hW, hK, hZ, h⟩ := hv
  subst hsz
  have hts := atoms_spec (ws := (ws_ yX9_cut cX9_cut 3 (some .long))) B.pre
  have hts : ∀ w ∈ lw_all, w.before _ s = true := fun w h => hts w (List.mem_cons_of_mem _ h)
  have hl := lv_entry ([.ref x0, .int x1, .int x2]) (n := 3) (Nat.le_of_ble_eq_true rfl)
  rw [lg_entry_eq]
  generalize (lg_sl ([.ref x0, .int x1, .int x2]) ++ List.replicate (3 - (lg_sl ([.ref x0, .int x1, .int x2])).length) Slot.unset).toArray = ls at hl ⊢
  exact wk_X9_cut Q ⟨⟨B.exec, B.bytes, hml, findClass_of_methodNamed B.named, hts⟩, hK, hZ, fun q h => Or.inr h⟩ (Nat.le_refl _) (Nat.le_refl _) ⟨Nat.le_refl _, Nat.le_refl _⟩ G (fun v pc ls H locs hd hW1 hS hQ => W.lret (v := v) B.exec B.bytes B.returns (fun t ht _ => ⟨⟨v, G, rfl, ⟨rfl, hQ⟩, by rw [← ht] at hW1; exact hW1⟩, hS.F ht⟩) hS.2.2 hd) x0 x1 x2 h ls _ [] hl hW va_S.rf
def CT_X9_left (l : Launch) (fr lo : Nat) (w : XV → (Int32 → Prop) → Nat → Int32 → GM → Prop) : Prop := ∀ (V : XV) (sz : Nat) (G : GM) (Q : Int32 → Prop) (x0 : Nat) (x1 : Int32), Met l yX9_left (ws_ yX9_left cX9_left 2 (some .int)) { frames := fr, cells := 0, slots := 0, locals := lo } (va_Pc [.ref x0, .int x1] (fun U => U.heap.size = sz ∧ xW V (xA G sz) G U.heap ∧ xK V U ∧ xZ V (xA G sz) U U.heap ∧ w V Q x0 x1 G)) (va_Qi (fun r (u : GM) => u = G ∧ Q r) (fun u t => xW V (xA G sz) u t.heap) (xA G sz)) 0 0 (xA G sz)
theorem call_X9_left_V {p : Program} {l : Launch} {e : Env} {R : Room} {s : State} {m : MethodId} {args : Array Value} {below : List Frame} {meth : Method} {c : Code} {H : Heap} {locs : List Loc} {cells slots : Nat} {Z : State → Prop} {A : Nat → Prop} {cc : ByteArray} {nL pc : Nat} {ls : Array Slot} {rest : List Value} {own : String} {index fr lo : Nat} {w : XV → (Int32 → Prop) → Nat → Int32 → GM → Prop} {V : XV} {G : GM} {o : Option Nat} {ci : Nat} {x0 : Nat} {x1 : Int32} (hM : CT_X9_left l fr lo w) (C : xC p m c s args cc nL own V A) (hW : xW V A G H) (hS : va_S A s.heap H locs) (hlink : Cond.methodLink own index yX9_left ∈ lw_all) (ho : o = some x0) (hcv : gCi G (some x0) = some ci) (hci : ci % 64 = 4) (hRf : fr + 1 ≤ R.frames) (hRl : 8 + (2 + 11) + lo ≤ R.locals) (hcs : cells ≤ R.cells ∧ slots ≤ R.slots) (hz : ls.size = nL) (hr8 : (rest.map fun v => v.category).sum ≤ 8) (hdg : decode cc pc = .ok (.invokevirtual index, 3)) {Q1 : Int32 → Prop} (h : w V Q1 x0 x1 G) (kk : ∀ (r : Int32) (H1 : Heap) (locs1 : List Loc), Q1 r → xW V A G H1 → va_S A s.heap H1 locs1 → xFr V G G H H1 → W p l e R s m args below meth c H1 locs1 cells slots Z (F0 m (pc + 3) ls (.int r :: rest))) : W p l e R s m args below meth c H locs cells slots Z (F0 m pc ls (.int x1 :: va_rf o :: rest)) := by
  subst ho
  obtain ⟨fs, hG⟩ := gCi_of hcv
  exact rg_i3r (va_runV (As := [.int x1]) (rest := rest) C.1 (hM V H.size G Q1 x0 x1) (cwV 1 C.1.2.2.2.2 (lw_V hlink q1404 q1405 q91 q1406) rfl rfl rfl (by decide +kernel) ⟨hRf, hRl⟩) ⟨fun a U g mk q => by obtain ⟨q0, q1, qW, qK, qZ, qw⟩ := q; exact ⟨q0, q1, qW, xK.same (u := U) (U := U.calling g mk a) rfl qK, xZ.moved (u := U) (U := U.calling g mk a) (Vm.Alike.refl U.vm) qZ, qw⟩, (hW.recv C.2.1 hG (r := (RX9, TX9, 11)) (by rw [hci]; rfl)), fun U hU hWm => ⟨rfl, by rw [hU], by rw [hU]; exact hW.self _, C.2.1.warm hWm, xZ.call C.2.2.1 hW hS C.2.2.2 hU hWm.alike, h⟩⟩ rfl rfl hz rfl (lv_room hr8) hdg hcs) hW hS C.2.2.2 (fun r H1 locs1 hp hW1 hS1 hF1 => kk r H1 locs1 hp hW1 hS1 hF1)
def w_X9_left (V : XV) (Q : Int32 → Prop) (x0 : Nat) (x1 : Int32) (G : GM) : Prop := gRcv G (some x0) (fun a1 c2 => (c2 % 64 = 4) ∧ (w_X9_cut V (fun r3 => gRcv G (some x0) (fun a4 c5 => (c5 % 64 = 4) ∧ (w_X9_cut V (fun r6 => w_J13_max_2 (fun r7 => Q (r7.toInt32)) (0 : Int64) (r3 - r6)) a4 (4 : Int32) x1 G))) a1 (5 : Int32) x1 G))
set_option maxRecDepth 100000 in
set_option maxHeartbeats 4000000 in
theorem wk_X9_left {p : Program} {l : Launch} {e : Env} {R : Room} {s : State} {m : MethodId} {args : Array Value} {below : List Frame} {meth : Method} {c : Code} {cells slots : Nat} {Z : State → Prop} {A : Nat → Prop} {V : XV} (Q : Int32 → Prop) (C : xC p m c s args cX9_left 2 RX9 V A) (hRf : 8 ≤ R.frames) (hRl : 174 ≤ R.locals) (hcs : cells ≤ R.cells ∧ slots ≤ R.slots) (G : GM) (hret : ∀ (v : Int32) (pc : Nat) (ls : Array Slot) (H : Heap) (locs : List Loc), decode cX9_left pc = .ok (.ireturn, 1) → xW V A G H → va_S A s.heap H locs → Q v → W p l e R s m args below meth c H locs cells slots Z (F0 m pc ls [.int v])) (x0 : Nat) (x1 : Int32) : w_X9_left V Q x0 x1 G → ∀ (ls : Array Slot) (H : Heap) (locs : List Loc), lv_has ls 2 [(0, va_rf (some x0)), (1, .int x1)] → xW V A G H → va_S A s.heap H locs → W p l e R s m args below meth c H locs cells slots Z (F0 m 0 ls []) := by
  have hx := C.1.1; have hb := C.1.2.1; have hml := C.1.2.2.1; have hown := C.1.2.2.2.1; have hts := C.1.2.2.2.2
  intro h
  intro ls H locs hl hW hS
  refine lv_lconst (v := 0) hx hb dX9_left_0 (by decide) ?_
  refine sh_aload_n hx hb dX9_left_1 rfl (lv_at hl 0 rfl) ?_
  refine lv_iconst (v := 5) hx hb dX9_left_2 (by decide) ?_
  refine lv_iload_n hx hb dX9_left_3 rfl (lv_at hl 1 rfl) ?_
  obtain ⟨a1, c2, ho4, hcv4, h⟩ := h
  have hcc := h.1
  have h := h.2
  refine call_X9_cut_V (ct_X9_cut l) C hW hS q1407 ho4 hcv4 hcc (le_lit hRf rfl) (le_lit hRl rfl) hcs hl.1 (Nat.le_of_ble_eq_true rfl) dX9_left_4 h (fun r3 H locs h hW hS _ => ?_)
  refine sh_aload_n hx hb dX9_left_7 rfl (lv_at hl 0 rfl) ?_
  refine lv_iconst (v := 4) hx hb dX9_left_8 (by decide) ?_
  refine lv_iload_n hx hb dX9_left_9 rfl (lv_at hl 1 rfl) ?_
  obtain ⟨a4, c5, ho10, hcv10, h⟩ := h
  have hcc := h.1
  have h := h.2
  refine call_X9_cut_V (ct_X9_cut l) C hW hS q1407 ho10 hcv10 hcc (le_lit hRf rfl) (le_lit hRl rfl) hcs hl.1 (Nat.le_of_ble_eq_true rfl) dX9_left_10 h (fun r6 H locs h hW hS _ => ?_)
  refine lv_lsub hx hb dX9_left_13 ?_
  refine call_J13_max_2 (ct_J13_max_2 l) C.1 hS C.2.2.2 q1419 (le_lit hRf rfl) (le_lit hRl rfl) hcs hl.1 (Nat.le_of_ble_eq_true rfl) dX9_left_14 h (fun r7 H locs h hk hS => ?_)
  have hW := hW.kept hk
  refine lv_l2i hx hb dX9_left_17 rfl ?_
  exact hret _ _ _ _ _ dX9_left_18 hW hS h
theorem ct_X9_left (l : Launch) : CT_X9_left l 8 174 w_X9_left := by
  intro V sz G Q x0 x1
  refine Met.ofW (cc := cX9_left) (maxL := 2) (ret := (some .int)) (by decide) rfl ?_
  intro p e s m args below meth c s₁ B hml hv
  obtain ⟨rfl, hsz, hW, hK, hZ, h⟩ := hv
  subst hsz
  have hts := atoms_spec (ws := (ws_ yX9_left cX9_left 2 (some .int))) B.pre
  have hts : ∀ w ∈ lw_all, w.before _ s = true := fun w h => hts w (List.mem_cons_of_mem _ h)
  have hl := lv_entry ([.ref x0, .int x1]) (n := 2) (Nat.le_of_ble_eq_true rfl)
  rw [lg_entry_eq]
  generalize (lg_sl ([.ref x0, .int x1]) ++ List.replicate (2 - (lg_sl ([.ref x0, .int x1])).length) Slot.unset).toArray = ls at hl ⊢
  exact wk_X9_left Q ⟨⟨B.exec, B.bytes, hml, findClass_of_methodNamed B.named, hts⟩, hK, hZ, fun q h => Or.inr h⟩ (Nat.le_refl _) (Nat.le_refl _) ⟨Nat.le_refl _, Nat.le_refl _⟩ G (fun v pc ls H locs hd hW1 hS hQ => W.iret (v := v) B.exec B.bytes B.returns (fun t ht _ => ⟨⟨v, G, rfl, ⟨rfl, hQ⟩, by rw [← ht] at hW1; exact hW1⟩, hS.F ht⟩) hS.2.2 hd) x0 x1 h ls _ [] hl hW va_S.rf
def CT_X1_left (l : Launch) (fr lo : Nat) (w : XV → (Int32 → Prop) → (String → GM → Prop) → Nat → Int32 → Int32 → GM → Nat → Nat → Prop) : Prop := ∀ (V : XV) (sz : Nat) (G : GM) (Q : Int32 → Prop) (X : String → GM → Prop) (x0 : Nat) (x1 : Int32) (x2 : Int32) (kc ks : Nat), vx_Met l yX1_left (ws_ yX1_left cX1_left 5 (some .int)) { frames := fr, cells := kc, slots := ks, locals := lo } (va_Pc [.ref x0, .int x1, .int x2] (fun U => U.heap.size = sz ∧ xW V (xA G sz) G U.heap ∧ xK V U ∧ xZ V (xA G sz) U U.heap ∧ w V Q X x0 x1 x2 G kc ks)) (va_Qi (fun r (u : GM) => u = G ∧ Q r) (fun u t => xW V (xA G sz) u t.heap) (xA G sz)) (vx_X (fun u : String × GM => X u.1 u.2) (fun E u t => E = u.1 ∧ xW V (xA G sz) u.2 t.heap) (xA G sz)) kc ks (xA G sz)
theorem call_X1_left_V {p : Program} {l : Launch} {e : Env} {R : Room} {s : State} {m : MethodId} {args : Array Value} {below : List Frame} {meth : Method} {c : Code} {H : Heap} {locs : List Loc} {cells slots : Nat} {Z : State → Prop} {A : Nat → Prop} {cc : ByteArray} {nL pc : Nat} {ls : Array Slot} {rest : List Value} {own : String} {index fr lo : Nat} {w : XV → (Int32 → Prop) → (String → GM → Prop) → Nat → Int32 → Int32 → GM → Nat → Nat → Prop} {V : XV} {G : GM} {o : Option Nat} {ci : Nat} {kc ks c1 s1 : Nat} {x0 : Nat} {x1 : Int32} {x2 : Int32} (hM : CT_X1_left l fr lo w) (C : xC p m c s args cc nL own V A) (hW : xW V A G H) (hS : va_S A s.heap H locs) (hlink : Cond.methodLink own index yX1_left ∈ lw_all) (ho : o = some x0) (hcv : gCi G (some x0) = some ci) (hci : ci % 64 = 0) (hRf : fr + 1 ≤ R.frames) (hRl : 8 + (5 + 11) + lo ≤ R.locals) (hc1 : c1 ≤ kc) (hs1 : s1 ≤ ks) (hkc : cells + kc ≤ R.cells) (hks : slots + ks ≤ R.slots) (hz : ls.size = nL) (hr8 : (rest.map fun v => v.category).sum ≤ 8) (hdg : decode cc pc = .ok (.invokevirtual index, 3)) {Q1 : Int32 → Prop} {X1 : String → GM → Prop} (h : w V Q1 X1 x0 x1 x2 G c1 s1) (kx : ∀ (E : String) (G1 : GM) (ce : Cell) (q9 : Addr) (H1 : Heap) (locs1 : List Loc), X1 E G1 → xW V A G1 H1 → va_S A s.heap H1 locs1 → H1[q9]? = some ce → ce.vm = .none → s.vm.findClass E = some ce.cls → xFr V G G1 H H1 → vx_W p l e R s m args below meth c H1 locs1 (cells + c1) (slots + s1) Z (F0 m pc ls rest) q9) (kk : ∀ (r : Int32) (H1 : Heap) (locs1 : List Loc), Q1 r → xW V A G H1 → va_S A s.heap H1 locs1 → xFr V G G H H1 → (cells + c1) + (kc - c1) ≤ R.cells → (slots + s1) + (ks - s1) ≤ R.slots → W p l e R s m args below meth c H1 locs1 (cells + c1) (slots + s1) Z (F0 m (pc + 3) ls (.int r :: rest))) : W p l e R s m args below meth c H locs cells slots Z (F0 m pc ls (.int x2 :: .int x1 :: va_rf o :: rest)) := by
  subst ho
  obtain ⟨fs, hG⟩ := gCi_of hcv
  exact rx_i3r (vx_runV (As := [.int x1, .int x2]) (rest := rest) C.1 (hM V H.size G Q1 X1 x0 x1 x2 c1 s1) (cwV 2 C.1.2.2.2.2 (lw_V hlink q1400 q1401 q59 q1402) rfl rfl rfl (by decide +kernel) ⟨hRf, hRl⟩) ⟨fun a U g mk q => by obtain ⟨q0, q1, qW, qK, qZ, qw⟩ := q; exact ⟨q0, q1, qW, xK.same (u := U) (U := U.calling g mk a) rfl qK, xZ.moved (u := U) (U := U.calling g mk a) (Vm.Alike.refl U.vm) qZ, qw⟩, (hW.recv C.2.1 hG (r := (RX1, TX1, 6)) (by rw [hci]; rfl)), fun U hU hWm => ⟨rfl, by rw [hU], by rw [hU]; exact hW.self _, C.2.1.warm hWm, xZ.call C.2.2.1 hW hS C.2.2.2 hU hWm.alike, h⟩⟩ rfl rfl hz rfl (lv_room hr8) hdg ⟨by omega, by omega⟩) hW hS C.2.2.2 kx (fun r H1 locs1 hp hW1 hS1 hF1 => kk r H1 locs1 hp hW1 hS1 hF1 (by omega) (by omega))
def w_X1_left (V : XV) (Q : Int32 → Prop) (X : String → GM → Prop) (x0 : Nat) (x1 : Int32) (x2 : Int32) (G : GM) (kc : Nat) (ks : Nat) : Prop := gRcv G (some x0) (fun a1 c2 => (c2 % 64 = 0) ∧ (∃ c4 s5 : Nat, c4 ≤ kc ∧ s5 ≤ ks ∧ (w_X1_layer V (fun r3 => ∃ c6 s7 : Nat, c6 ≤ (kc - c4) ∧ s7 ≤ (ks - s5) ∧ (w_X1_checkTime V (gIo G [4] [3, 5, 6] r3 (fun v8 => if v8 = 0 then (Q (0 : Int32)) else (gCk G [4] r3 (gRcv G r3 (fun a9 c10 => (c10 % 64 = 4) ∧ (w_X9_left V (fun r11 => Q r11) a9 x2 G)))))) X x2 G c6 s7)) X a1 x1 G c4 s5)))
set_option maxRecDepth 100000 in
set_option maxHeartbeats 4000000 in
theorem wk_X1_left {p : Program} {l : Launch} {e : Env} {R : Room} {s : State} {m : MethodId} {args : Array Value} {below : List Frame} {meth : Method} {c : Code} {Z : State → Prop} {A : Nat → Prop} {V : XV} (Q : Int32 → Prop) (X : String → GM → Prop) (C : xC p m c s args cX1_left 5 RX1 V A) (hfl : l.stackTraces = false) (hRf : 14 ≤ R.frames) (hRl : 241 ≤ R.locals) (G : GM) (hret : ∀ (v : Int32) (pc : Nat) (ls : Array Slot) (H : Heap) (locs : List Loc) (cells slots : Nat) {k1 k2 : Nat}, decode cX1_left pc = .ok (.ireturn, 1) → xW V A G H → va_S A s.heap H locs → cells + k1 ≤ R.cells → slots + k2 ≤ R.slots → Q v → W p l e R s m args below meth c H locs cells slots Z (F0 m pc ls [.int v])) (hxo : ∀ (E : String) (G : GM) (ce : Cell) (q : Addr) (pc : Nat) (ls : Array Slot) (H : Heap) (locs : List Loc) (cells slots : Nat) (rest : List Value), xW V A G H → va_S A s.heap H locs → X E G → H[q]? = some ce → ce.vm = .none → s.vm.findClass E = some ce.cls → cells ≤ R.cells → slots ≤ R.slots → vx_W p l e R s m args below meth c H locs cells slots Z (F0 m pc ls rest) q) (x0 : Nat) (x1 : Int32) (x2 : Int32) (kc ks : Nat) : w_X1_left V Q X x0 x1 x2 G kc ks → ∀ (ls : Array Slot) (H : Heap) (locs : List Loc) (cells slots : Nat), lv_has ls 5 [(0, va_rf (some x0)), (1, .int x1), (2, .int x2)] → xW V A G H → va_S A s.heap H locs → cells + kc ≤ R.cells → slots + ks ≤ R.slots → W p l e R s m args below meth c H locs cells slots Z (F0 m 0 ls []) := by
  have hx := C.1.1; have hb := C.1.2.1; have hml := C.1.2.2.1; have hown := C.1.2.2.2.1; have hts := C.1.2.2.2.2
  intro h
  intro ls H locs cells slots hl hW hS hkc hks
  refine sh_aload_n hx hb dX1_left_0 rfl (lv_at hl 0 rfl) ?_
  refine lv_iload_n hx hb dX1_left_1 rfl (lv_at hl 1 rfl) ?_
  obtain ⟨a1, c2, ho2, hcv2, h⟩ := h
  have hcc := h.1
  have h := h.2
  obtain ⟨c4, s5, hc2, hs2, h⟩ := h
  refine call_X1_layer_V (ct_X1_layer l hfl) C hW hS q921 ho2 hcv2 hcc (le_lit hRf rfl) (le_lit hRl rfl) hc2 hs2 hkc hks hl.1 (Nat.le_of_ble_eq_true rfl) dX1_left_2 h (fun E G9 ce q9 H locs hX hW hS h1 h2 h3 _ => hxo E G9 ce q9 2 ls H locs _ _ _ hW hS hX h1 h2 h3 (by omega) (by omega)) (fun r3 H locs h hW hS _ hkc hks => ?_)
  refine sh_astore_n (lv' := [(3, va_rf r3), (0, va_rf (some x0)), (1, .int x1), (2, .int x2)]) hx hb dX1_left_5 rfl hl (by decide) rfl (fun ls hl => ?_)
  refine lv_iload_n hx hb dX1_left_6 rfl (lv_at hl 3 rfl) ?_
  obtain ⟨c6, s7, hc7, hs7, h⟩ := h
  refine call_X1_checkTime_S (ct_X1_checkTime l hfl) C hW hS q1228 (le_lit hRf rfl) (le_lit hRl rfl) hc7 hs7 hkc hks hl.1 (Nat.le_of_ble_eq_true rfl) dX1_left_7 h (fun E G9 ce q9 H locs hX hW hS h1 h2 h3 _ => hxo E G9 ce q9 7 ls H locs _ _ _ hW hS hX h1 h2 h3 (by omega) (by omega)) (fun  H locs h hW hS _ hkc hks => ?_)
  refine sh_aload_n hx hb dX1_left_10 rfl (lv_at hl 0 rfl) ?_
  refine sh_inst C hW q889 xCa_Shapelayer_Stroke xCn_Shapelayer_Stroke h dX1_left_11 (fun v8 h => ?_)
  refine lv_if_eq (tgt := 32) hx hb dX1_left_14 (by decide) (fun c12 => ?_) (fun c12 => ?_)
  · have h := wif_t h c12
    refine lv_iconst (v := 0) hx hb dX1_left_32 (by decide) ?_
    exact hret _ _ _ _ _ _ _ dX1_left_33 hW hS hkc hks h
  · have h := wif_f h c12
    refine sh_aload_n hx hb dX1_left_17 rfl (lv_at hl 0 rfl) ?_
    refine sh_cast C hW q889 xCa_Shapelayer_Stroke h dX1_left_18 (fun h => ?_)
    refine sh_astore (lv' := [(4, va_rf r3), (3, va_rf r3), (0, va_rf (some x0)), (1, .int x1), (2, .int x2)]) hx hb dX1_left_21 hl (by decide) (by simp only [List.filter_cons, List.filter_nil, va_rf_cat]; rfl) (fun ls hl => ?_)
    refine sh_aload hx hb dX1_left_23 (lv_at hl 0 rfl) ?_
    refine lv_iload_n hx hb dX1_left_25 rfl (lv_at hl 4 rfl) ?_
    obtain ⟨a9, c10, ho26, hcv26, h⟩ := h
    have hcc := h.1
    have h := h.2
    refine call_X9_left_V (ct_X9_left l) C hW hS q1403 ho26 hcv26 hcc (le_lit hRf rfl) (le_lit hRl rfl) ⟨Nat.le_trans (Nat.le_add_right _ _) hkc, Nat.le_trans (Nat.le_add_right _ _) hks⟩ hl.1 (Nat.le_of_ble_eq_true rfl) dX1_left_26 h (fun r11 H locs h hW hS _ => ?_)
    refine lv_goto (tgt := 33) hx hb dX1_left_29 (by decide) ?_
    exact hret _ _ _ _ _ _ _ dX1_left_33 hW hS hkc hks h
theorem ct_X1_left (l : Launch) (hfl : l.stackTraces = false) : CT_X1_left l 14 241 w_X1_left := by
  intro V sz G Q X x0 x1 x2 kc ks
  refine vx_ofW (cc := cX1_left) (maxL := 5) (ret := (some .int)) (by decide) rfl ?_
  intro p e s m args below meth c s₁ B hml hext hv
  obtain ⟨rfl, hsz, hW, hK, hZ, h⟩ := hv
  subst hsz
  have hts := atoms_spec (ws := (ws_ yX1_left cX1_left 5 (some .int))) B.pre
  have hts : ∀ w ∈ lw_all, w.before _ s = true := fun w h => hts w (List.mem_cons_of_mem _ h)
  have hl := lv_entry ([.ref x0, .int x1, .int x2]) (n := 5) (Nat.le_of_ble_eq_true rfl)
  rw [lg_entry_eq]
  generalize (lg_sl ([.ref x0, .int x1, .int x2]) ++ List.replicate (5 - (lg_sl ([.ref x0, .int x1, .int x2])).length) Slot.unset).toArray = ls at hl ⊢
  exact wk_X1_left Q X ⟨⟨B.exec, B.bytes, hml, findClass_of_methodNamed B.named, hts⟩, hK, hZ, fun q h => Or.inr h⟩ hfl (Nat.le_refl _) (Nat.le_refl _) G (fun v pc ls H locs cells slots _ _ hd hW1 hS hkc hks hQ => W.widen (k := kc) (n := ks) (Nat.le_trans (Nat.le_add_right _ _) hkc) (Nat.le_trans (Nat.le_add_right _ _) hks) (vx_ret (W.iret (v := v) B.exec B.bytes B.returns (fun t ht _ => ⟨⟨v, G, rfl, ⟨rfl, hQ⟩, by rw [← ht] at hW1; exact hW1⟩, hS.F ht⟩) hS.2.2 hd))) (fun E G9 ce q pc ls H locs cells slots rest hW1 hS hX h1 h2 h3 hc hs => vx_out (fun x hx => absurd (hext x hx) id) B.notSynchronized h1 h2 h3 (fun t ht _ => ⟨(E, G9), hX, ⟨rfl, by rw [← ht] at hW1; exact hW1⟩, hS.F ht⟩) hS.2.2 hc hs) x0 x1 x2 kc ks h ls _ [] 0 0 hl hW va_S.rf (by show 0 + kc ≤ kc; omega) (by show 0 + ks ≤ ks; omega)
def CT_X0_left (l : Launch) (fr lo : Nat) (w : XV → (Int32 → GM → Prop) → (Option Nat) → Int32 → Int32 → (Option Nat) → GM → Nat → Nat → Prop) : Prop := ∀ (V : XV) (sz : Nat) (G : GM) (Q : Int32 → GM → Prop) (x0 : Option Nat) (x1 : Int32) (x2 : Int32) (x3 : Option Nat) (kc ks : Nat), Met l yX0_left (wsW_ yX0_left cX0_left 5 (some .int) [(0, 10, 13, 19), (0, 10, 17, 21)]) { frames := fr, cells := kc, slots := ks, locals := lo } (va_Pc [va_rf x0, .int x1, .int x2, va_rf x3] (fun U => U.heap.size = sz ∧ xW V (xA G sz) G U.heap ∧ xK V U ∧ xZ V (xA G sz) U U.heap ∧ w V Q x0 x1 x2 x3 G kc ks)) (va_Qi (fun r (u : GM) => Q r u) (fun u t => xW V (xA G sz) u t.heap) (xA G sz)) kc ks (xA G sz)
def w_X0_left (V : XV) (Q : Int32 → GM → Prop) (x0 : Option Nat) (x1 : Int32) (x2 : Int32) (x3 : Option Nat) (G : GM) (kc : Nat) (ks : Nat) : Prop := gRcv G x0 (fun a1 c2 => (c2 % 64 = 0) ∧ (∃ c4 s5 : Nat, c4 ≤ kc ∧ s5 ≤ ks ∧ (w_X1_left V (fun r3 => gJS G 1 x3 (0 : Int32) (r3.toInt64) (fun G6 => Q (0 : Int32) G6)) (fun E G9 => if E = "java/lang/IndexOutOfBoundsException" then Q (1 : Int32) G9 else (if E = "java/lang/IllegalArgumentException" then Q (2 : Int32) G9 else (False))) a1 x1 x2 G c4 s5)))
set_option maxRecDepth 100000 in
set_option maxHeartbeats 4000000 in
theorem wk_X0_left {p : Program} {l : Launch} {e : Env} {R : Room} {s : State} {m : MethodId} {args : Array Value} {below : List Frame} {meth : Method} {c : Code} {Z : State → Prop} {A : Nat → Prop} {V : XV} (Q : Int32 → GM → Prop) (C : xC p m c s args cX0_left 5 RX0 V A) (hfl : l.stackTraces = false) (htab : c.exceptionTable.toList = tableOf [(0, 10, 13, 19), (0, 10, 17, 21)]) (hRf : 15 ≤ R.frames) (hRl : 265 ≤ R.locals) (G : GM) (hret : ∀ (v : Int32) (G : GM) (pc : Nat) (ls : Array Slot) (H : Heap) (locs : List Loc) (cells slots : Nat) {k1 k2 : Nat}, decode cX0_left pc = .ok (.ireturn, 1) → xW V A G H → va_S A s.heap H locs → cells + k1 ≤ R.cells → slots + k2 ≤ R.slots → Q v G → W p l e R s m args below meth c H locs cells slots Z (F0 m pc ls [.int v])) (x0 : Option Nat) (x1 : Int32) (x2 : Int32) (x3 : Option Nat) (kc ks : Nat) : w_X0_left V Q x0 x1 x2 x3 G kc ks → ∀ (ls : Array Slot) (H : Heap) (locs : List Loc) (cells slots : Nat), lv_has ls 5 [(0, va_rf x0), (1, .int x1), (2, .int x2), (3, va_rf x3)] → xW V A G H → va_S A s.heap H locs → cells + kc ≤ R.cells → slots + ks ≤ R.slots → W p l e R s m args below meth c H locs cells slots Z (F0 m 0 ls []) := by
  have hx := C.1.1; have hb := C.1.2.1; have hml := C.1.2.2.1; have hown := C.1.2.2.2.1; have hts := C.1.2.2.2.2
  intro h
  intro ls H locs cells slots hl hW hS hkc hks
  refine sh_aload_n hx hb dX0_left_0 rfl (lv_at hl 3 rfl) ?_
  refine lv_iconst (v := 0) hx hb dX0_left_1 (by decide) ?_
  refine sh_aload_n hx hb dX0_left_2 rfl (lv_at hl 0 rfl) ?_
  refine lv_iload_n hx hb dX0_left_3 rfl (lv_at hl 1 rfl) ?_
  refine lv_iload_n hx hb dX0_left_4 rfl (lv_at hl 2 rfl) ?_
  obtain ⟨a1, c2, ho5, hcv5, h⟩ := h
  have hcc := h.1
  have h := h.2
  obtain ⟨c4, s5, hc5, hs5, h⟩ := h
  refine call_X1_left_V (ct_X1_left l hfl) C hW hS q1399 ho5 hcv5 hcc (le_lit hRf rfl) (le_lit hRl rfl) hc5 hs5 hkc hks hl.1 (by simp only [List.map_cons, List.map_nil, va_rf_cat]; exact Nat.le_of_ble_eq_true rfl) dX0_left_5 h (fun E G9 ce q9 H locs hX hW hS h1 h2 h3 _ => by
      by_cases c900 : E = "java/lang/IndexOutOfBoundsException"
      · have hX := wif_t hX c900
        subst c900
        refine vx_catch hown [] ⟨0, 10, 13, 19⟩ [⟨0, 10, 17, 21⟩] (htab.trans rfl) (fun z hz => absurd hz List.not_mem_nil) rfl (by decide) (hts _ q740) (va_Nw.use rfl (C.2.1.2.2.1 _ q757 rfl)) h1 h2 h3 ?_
        refine sh_astore (lv' := [(4, va_rf (some q9)), (0, va_rf x0), (1, .int x1), (2, .int x2), (3, va_rf x3)]) hx hb dX0_left_13 hl (by decide) (by simp only [List.filter_cons, List.filter_nil, va_rf_cat]; rfl) (fun ls hl => ?_)
        refine lv_iconst (v := 1) hx hb dX0_left_15 (by decide) ?_
        exact hret _ _ _ _ _ _ _ _ (k1 := 0) (k2 := 0) dX0_left_16 hW hS (by omega) (by omega) hX
      have hX := wif_f hX c900
      by_cases c901 : E = "java/lang/IllegalArgumentException"
      · have hX := wif_t hX c901
        subst c901
        refine vx_catch hown [⟨0, 10, 13, 19⟩] ⟨0, 10, 17, 21⟩ [] (htab.trans rfl) (by intro z hz; simp only [List.mem_cons, List.not_mem_nil, or_false] at hz; rcases hz with rfl <;> first | (exact Or.inr ⟨by decide, "java/lang/IndexOutOfBoundsException", hts _ q740, C.2.1.2.2.2.2.2.2.1 ("java/lang/IllegalArgumentException", "java/lang/IndexOutOfBoundsException") (by decide)⟩)) rfl (by decide) (hts _ q743) (va_Nw.use rfl (C.2.1.2.2.1 _ q441 rfl)) h1 h2 h3 ?_
        refine sh_astore (lv' := [(4, va_rf (some q9)), (0, va_rf x0), (1, .int x1), (2, .int x2), (3, va_rf x3)]) hx hb dX0_left_17 hl (by decide) (by simp only [List.filter_cons, List.filter_nil, va_rf_cat]; rfl) (fun ls hl => ?_)
        refine lv_iconst (v := 2) hx hb dX0_left_19 (by decide) ?_
        exact hret _ _ _ _ _ _ _ _ (k1 := 0) (k2 := 0) dX0_left_20 hW hS (by omega) (by omega) hX
      have hX := wif_f hX c901
      exact False.elim hX) (fun r3 H locs h hW hS _ hkc hks => ?_)
  refine lv_i2l hx hb dX0_left_8 rfl ?_
  refine sh_last C hW hS h dX0_left_9 (fun G6 H locs hW hS h => ?_)
  refine lv_goto (tgt := 21) hx hb dX0_left_10 (by decide) ?_
  refine lv_iconst (v := 0) hx hb dX0_left_21 (by decide) ?_
  exact hret _ _ _ _ _ _ _ _ dX0_left_22 hW hS hkc hks h
theorem ct_X0_left (l : Launch) (hfl : l.stackTraces = false) : CT_X0_left l 15 265 w_X0_left := by
  intro V sz G Q x0 x1 x2 x3 kc ks
  refine gx_ofWH (cc := cX0_left) (maxL := 5) (ret := (some .int)) (hh := [(0, 10, 13, 19), (0, 10, 17, 21)]) (by decide) rfl ?_
  intro p e s m args below meth c s₁ B hml htab hv
  obtain ⟨rfl, hsz, hW, hK, hZ, h⟩ := hv
  subst hsz
  have hts := atoms_spec (ws := (wsW_ yX0_left cX0_left 5 (some .int) [(0, 10, 13, 19), (0, 10, 17, 21)])) B.pre
  have hts : ∀ w ∈ lw_all, w.before _ s = true := fun w h => hts w (List.mem_cons_of_mem _ h)
  have key : ∃ ls : Array Slot, entryFrame m ([va_rf x0, .int x1, .int x2, va_rf x3] : List Value).toArray 5 = F0 m 0 ls [] ∧ lv_has ls 5 [(0, va_rf x0), (1, .int x1), (2, .int x2), (3, va_rf x3)] := by
    cases x0 <;> cases x3 <;> (refine ⟨_, by rw [lg_entry_eq], ?_⟩; exact lv_entry _ (Nat.le_of_ble_eq_true rfl))
  obtain ⟨ls, hfr, hl⟩ := key
  rw [hfr]
  exact wk_X0_left Q ⟨⟨B.exec, B.bytes, hml, findClass_of_methodNamed B.named, hts⟩, hK, hZ, fun q h => Or.inr h⟩ hfl htab (Nat.le_refl _) (Nat.le_refl _) G (fun v G pc ls H locs cells slots _ _ hd hW1 hS hkc hks hQ => W.widen (k := kc) (n := ks) (Nat.le_trans (Nat.le_add_right _ _) hkc) (Nat.le_trans (Nat.le_add_right _ _) hks) (W.iret (v := v) B.exec B.bytes B.returns (fun t ht _ => ⟨⟨v, G, rfl, hQ, by rw [← ht] at hW1; exact hW1⟩, hS.F ht⟩) hS.2.2 hd)) x0 x1 x2 x3 kc ks h ls _ [] 0 0 hl hW va_S.rf (by show 0 + kc ≤ kc; omega) (by show 0 + ks ≤ ks; omega)
def CT_X2_clear (l : Launch) (fr lo : Nat) (w : XV → (Option Nat → GM → Prop) → Nat → GM → Prop) : Prop := ∀ (V : XV) (sz : Nat) (G : GM) (Q : Option Nat → GM → Prop) (x0 : Nat), Met l yX2_clear (ws_ yX2_clear cX2_clear 2 (some (.object "Shapelayer$Raster"))) { frames := fr, cells := 0, slots := 0, locals := lo } (va_Pc [.ref x0] (fun U => U.heap.size = sz ∧ xW V (xA G sz) G U.heap ∧ xK V U ∧ xZ V (xA G sz) U U.heap ∧ w V Q x0 G)) (va_Qq (fun r (u : GM) => Q r u) (fun u t => xW V (xA G sz) u t.heap) (xA G sz)) 0 0 (xA G sz)
theorem call_X2_clear_V {p : Program} {l : Launch} {e : Env} {R : Room} {s : State} {m : MethodId} {args : Array Value} {below : List Frame} {meth : Method} {c : Code} {H : Heap} {locs : List Loc} {cells slots : Nat} {Z : State → Prop} {A : Nat → Prop} {cc : ByteArray} {nL pc : Nat} {ls : Array Slot} {rest : List Value} {own : String} {index fr lo : Nat} {w : XV → (Option Nat → GM → Prop) → Nat → GM → Prop} {V : XV} {G : GM} {o : Option Nat} {ci : Nat} {x0 : Nat} (hM : CT_X2_clear l fr lo w) (C : xC p m c s args cc nL own V A) (hW : xW V A G H) (hS : va_S A s.heap H locs) (hlink : Cond.methodLink own index yX2_clear ∈ lw_all) (ho : o = some x0) (hcv : gCi G (some x0) = some ci) (hci : ci % 64 = 1) (hRf : fr + 1 ≤ R.frames) (hRl : 8 + (2 + 11) + lo ≤ R.locals) (hcs : cells ≤ R.cells ∧ slots ≤ R.slots) (hz : ls.size = nL) (hr8 : (rest.map fun v => v.category).sum ≤ 8) (hdg : decode cc pc = .ok (.invokevirtual index, 3)) {Q1 : Option Nat → GM → Prop} (h : w V Q1 x0 G) (kk : ∀ (r : Option Nat) (G1 : GM) (H1 : Heap) (locs1 : List Loc), Q1 r G1 → xW V A G1 H1 → va_S A s.heap H1 locs1 → xFr V G G1 H H1 → W p l e R s m args below meth c H1 locs1 cells slots Z (F0 m (pc + 3) ls (va_rf r :: rest))) : W p l e R s m args below meth c H locs cells slots Z (F0 m pc ls (va_rf o :: rest)) := by
  subst ho
  obtain ⟨fs, hG⟩ := gCi_of hcv
  exact rg_q3w (va_runV (As := []) (rest := rest) C.1 (hM V H.size G Q1 x0) (cwV 0 C.1.2.2.2.2 (lw_V hlink q1440 q1441 q67 q1442) rfl rfl rfl (by decide +kernel) ⟨hRf, hRl⟩) ⟨fun a U g mk q => by obtain ⟨q0, q1, qW, qK, qZ, qw⟩ := q; exact ⟨q0, q1, qW, xK.same (u := U) (U := U.calling g mk a) rfl qK, xZ.moved (u := U) (U := U.calling g mk a) (Vm.Alike.refl U.vm) qZ, qw⟩, (hW.recv C.2.1 hG (r := (RX2, TX2, 5)) (by rw [hci]; rfl)), fun U hU hWm => ⟨rfl, by rw [hU], by rw [hU]; exact hW.self _, C.2.1.warm hWm, xZ.call C.2.2.1 hW hS C.2.2.2 hU hWm.alike, h⟩⟩ rfl rfl hz rfl (lv_room hr8) hdg hcs) hW hS C.2.2.2 (fun r G1 H1 locs1 hp hW1 hS1 hF1 => kk r G1 H1 locs1 hp hW1 hS1 hF1)
def w_X2_clear_h2 (V : XV) (Q : Option Nat → GM → Prop) (x0 : Nat) (rec2 : Int32 → GM → Prop) (x1 : Int32) (G : GM) : Prop := gGR G 6 (some x0) (fun v1 => gLn G v1 (fun v2 => if v2 ≤ x1 then (Q (some x0) G) else (gGR G 6 (some x0) (fun v3 => gIS G 2 v3 x1 (vp_nar .byte (0 : Int32)) (fun G4 => rec2 (x1 + (1 : Int32)) G4)))))
def w_X2_clear_L2 (V : XV) (Q : Option Nat → GM → Prop) (x0 : Nat) (x1 : Int32) (G : GM) : Prop := wLoop (fun (rec : (Int32 × GM) → Prop) (s : Int32 × GM) => w_X2_clear_h2 V Q x0 (fun x1 G => rec (x1, G)) s.1 s.2) (x1, G)
def w_X2_clear (V : XV) (Q : Option Nat → GM → Prop) (x0 : Nat) (G : GM) : Prop := w_X2_clear_L2 V Q x0 (0 : Int32) G
set_option maxRecDepth 100000 in
set_option maxHeartbeats 4000000 in
theorem wk_X2_clear {p : Program} {l : Launch} {e : Env} {R : Room} {s : State} {m : MethodId} {args : Array Value} {below : List Frame} {meth : Method} {c : Code} {cells slots : Nat} {Z : State → Prop} {A : Nat → Prop} {V : XV} (Q : Option Nat → GM → Prop) (C : xC p m c s args cX2_clear 2 RX2 V A) (hRf : 1 ≤ R.frames) (hRl : 20 ≤ R.locals) (hcs : cells ≤ R.cells ∧ slots ≤ R.slots) (G : GM) (hret : ∀ (v : Option Nat) (G : GM) (pc : Nat) (ls : Array Slot) (H : Heap) (locs : List Loc), decode cX2_clear pc = .ok (.areturn, 1) → xW V A G H → va_S A s.heap H locs → Q v G → W p l e R s m args below meth c H locs cells slots Z (F0 m pc ls [va_rf v])) (x0 : Nat) : w_X2_clear V Q x0 G → ∀ (ls : Array Slot) (H : Heap) (locs : List Loc), lv_has ls 2 [(0, va_rf (some x0))] → xW V A G H → va_S A s.heap H locs → W p l e R s m args below meth c H locs cells slots Z (F0 m 0 ls []) := by
  have hx := C.1.1; have hb := C.1.2.1; have hml := C.1.2.2.1; have hown := C.1.2.2.2.1; have hts := C.1.2.2.2.2
  have hL2 : ∀ (x1 : Int32) (G : GM), w_X2_clear_L2 V Q x0 x1 G → ∀ (ls : Array Slot) (H : Heap) (locs : List Loc), lv_has ls 2 [(0, va_rf (some x0)), (1, .int x1)] → xW V A G H → va_S A s.heap H locs → W p l e R s m args below meth c H locs cells slots Z (F0 m 2 ls []) := by
    obtain ⟨GG2, hG2⟩ : ∃ GG : Int32 → GM → Prop, ∀ (x1 : Int32) (G : GM), GG x1 G ↔ (∀ (ls : Array Slot) (H : Heap) (locs : List Loc), lv_has ls 2 [(0, va_rf (some x0)), (1, .int x1)] → xW V A G H → va_S A s.heap H locs → W p l e R s m args below meth c H locs cells slots Z (F0 m 2 ls [])) := ⟨fun x1 G => _, fun x1 G => Iff.rfl⟩
    have hB2 : ∀ (rec2 : Int32 → GM → Prop), (∀ (x1 : Int32) (G : GM), rec2 x1 G → GG2 x1 G) → ∀ (x1 : Int32) (G : GM), w_X2_clear_h2 V Q x0 rec2 x1 G → GG2 x1 G := by
      intro rec2 hrec2
      intro x1 G h
      rw [hG2]
      intro ls H locs hl hW hS
      refine lv_iload_n hx hb dX2_clear_2 rfl (lv_at hl 1 rfl) ?_
      refine sh_aload_n hx hb dX2_clear_3 rfl (lv_at hl 0 rfl) ?_
      obtain ⟨v1, h1, h⟩ := h
      refine sh_get C hW xFb_6 q179 (fun _ h => h) h1 dX2_clear_4 ?_
      refine sh_len C hW h dX2_clear_7 (fun v2 h => ?_)
      refine lv_icmp_ge (tgt := 24) hx hb dX2_clear_8 (by decide) (fun c5 => ?_) (fun c5 => ?_)
      · have h := wif_t h c5
        refine sh_aload_n hx hb dX2_clear_24 rfl (lv_at hl 0 rfl) ?_
        exact hret _ _ _ _ _ _ dX2_clear_25 hW hS h
      · have h := wif_f h c5
        refine sh_aload_n hx hb dX2_clear_11 rfl (lv_at hl 0 rfl) ?_
        obtain ⟨v3, h1, h⟩ := h
        refine sh_get C hW xFb_6 q179 (fun _ h => h) h1 dX2_clear_12 ?_
        refine lv_iload_n hx hb dX2_clear_15 rfl (lv_at hl 1 rfl) ?_
        refine lv_iconst (v := 0) hx hb dX2_clear_16 (by decide) ?_
        refine sh_bast C hW hS h dX2_clear_17 (fun G4 H locs hW hS h => ?_)
        refine lv_iinc (v := x1 + (1 : Int32)) (lv' := [(1, .int (x1 + (1 : Int32))), (0, va_rf (some x0))]) hx hb dX2_clear_18 hl (k := 1) rfl (congrArg (fun z => x1 + z) (by decide)) (by decide) rfl (fun ls hl => ?_)
        refine lv_goto (tgt := 2) hx hb dX2_clear_21 (by decide) ?_
        exact (hG2 _ _).mp (hrec2 _ _ h) ls H locs (lv_sub hl [1, 0] rfl) hW hS
    intro x1 G h
    exact (hG2 x1 G).mp (loop_walk (fun s => GG2 s.1 s.2) (fun rec hrec s h => hB2 (fun x1 G => rec (x1, G)) (fun x1 G h => hrec (x1, G) h) s.1 s.2 h) (x1, G) h)
  intro h
  intro ls H locs hl hW hS
  refine lv_iconst (v := 0) hx hb dX2_clear_0 (by decide) ?_
  refine lv_istore_n (lv' := [(1, .int (0 : Int32)), (0, va_rf (some x0))]) hx hb dX2_clear_1 rfl hl (by decide) rfl (fun ls hl => ?_)
  exact hL2 _ _ h ls H locs (lv_sub hl [1, 0] rfl) hW hS
theorem ct_X2_clear (l : Launch) : CT_X2_clear l 1 20 w_X2_clear := by
  intro V sz G Q x0
  refine Met.ofW (cc := cX2_clear) (maxL := 2) (ret := (some (.object "Shapelayer$Raster"))) (by decide) rfl ?_
  intro p e s m args below meth c s₁ B hml hv
  obtain ⟨rfl, hsz, hW, hK, hZ, h⟩ := hv
  subst hsz
  have hts := atoms_spec (ws := (ws_ yX2_clear cX2_clear 2 (some (.object "Shapelayer$Raster")))) B.pre
  have hts : ∀ w ∈ lw_all, w.before _ s = true := fun w h => hts w (List.mem_cons_of_mem _ h)
  have hl := lv_entry ([.ref x0]) (n := 2) (Nat.le_of_ble_eq_true rfl)
  rw [lg_entry_eq]
  generalize (lg_sl ([.ref x0]) ++ List.replicate (2 - (lg_sl ([.ref x0])).length) Slot.unset).toArray = ls at hl ⊢
  exact wk_X2_clear Q ⟨⟨B.exec, B.bytes, hml, findClass_of_methodNamed B.named, hts⟩, hK, hZ, fun q h => Or.inr h⟩ (Nat.le_refl _) (Nat.le_refl _) ⟨Nat.le_refl _, Nat.le_refl _⟩ G (fun v G pc ls H locs hd hW1 hS hQ => W.aret (v := va_rf v) B.exec B.bytes B.returns (Or.inl ⟨_, rfl⟩) (va_rf_or v) (fun t ht _ => ⟨⟨v, G, rfl, hQ, by rw [← ht] at hW1; exact hW1⟩, hS.F ht⟩) hS.2.2 hd) x0 h ls _ [] hl hW va_S.rf
def CT_X4_isMatte (l : Launch) (fr lo : Nat) (w : XV → (Int32 → Prop) → Nat → (Option Nat) → GM → Prop) : Prop := ∀ (V : XV) (sz : Nat) (G : GM) (Q : Int32 → Prop) (x0 : Nat) (x1 : Option Nat), Met l yX4_isMatte (ws_ yX4_isMatte cX4_isMatte 3 (some .boolean)) { frames := fr, cells := 0, slots := 0, locals := lo } (va_Pc [.ref x0, va_rf x1] (fun U => U.heap.size = sz ∧ xW V (xA G sz) G U.heap ∧ xK V U ∧ xZ V (xA G sz) U U.heap ∧ w V Q x0 x1 G)) (va_Qi (fun r (u : GM) => u = G ∧ Q r) (fun u t => xW V (xA G sz) u t.heap) (xA G sz)) 0 0 (xA G sz)
theorem call_X4_isMatte_V {p : Program} {l : Launch} {e : Env} {R : Room} {s : State} {m : MethodId} {args : Array Value} {below : List Frame} {meth : Method} {c : Code} {H : Heap} {locs : List Loc} {cells slots : Nat} {Z : State → Prop} {A : Nat → Prop} {cc : ByteArray} {nL pc : Nat} {ls : Array Slot} {rest : List Value} {own : String} {index fr lo : Nat} {w : XV → (Int32 → Prop) → Nat → (Option Nat) → GM → Prop} {V : XV} {G : GM} {o : Option Nat} {ci : Nat} {x0 : Nat} {x1 : Option Nat} (hM : CT_X4_isMatte l fr lo w) (C : xC p m c s args cc nL own V A) (hW : xW V A G H) (hS : va_S A s.heap H locs) (hlink : Cond.methodLink own index yX4_isMatte ∈ lw_all) (ho : o = some x0) (hcv : gCi G (some x0) = some ci) (hci : ci % 64 = 2) (hRf : fr + 1 ≤ R.frames) (hRl : 8 + (3 + 11) + lo ≤ R.locals) (hcs : cells ≤ R.cells ∧ slots ≤ R.slots) (hz : ls.size = nL) (hr8 : (rest.map fun v => v.category).sum ≤ 8) (hdg : decode cc pc = .ok (.invokevirtual index, 3)) {Q1 : Int32 → Prop} (h : w V Q1 x0 x1 G) (kk : ∀ (r : Int32) (H1 : Heap) (locs1 : List Loc), Q1 r → xW V A G H1 → va_S A s.heap H1 locs1 → xFr V G G H H1 → W p l e R s m args below meth c H1 locs1 cells slots Z (F0 m (pc + 3) ls (.int r :: rest))) : W p l e R s m args below meth c H locs cells slots Z (F0 m pc ls (va_rf x1 :: va_rf o :: rest)) := by
  subst ho
  obtain ⟨fs, hG⟩ := gCi_of hcv
  exact rg_i3r (va_runV (As := [va_rf x1]) (rest := rest) C.1 (hM V H.size G Q1 x0 x1) (cwV 1 C.1.2.2.2.2 (lw_V hlink q1452 q1453 q85 q1454) rfl rfl rfl (by decide +kernel) ⟨hRf, hRl⟩) ⟨fun a U g mk q => by obtain ⟨q0, q1, qW, qK, qZ, qw⟩ := q; exact ⟨q0, q1, qW, xK.same (u := U) (U := U.calling g mk a) rfl qK, xZ.moved (u := U) (U := U.calling g mk a) (Vm.Alike.refl U.vm) qZ, qw⟩, (hW.recv C.2.1 hG (r := (RX4, TX4, 2)) (by rw [hci]; rfl)), fun U hU hWm => ⟨rfl, by rw [hU], by rw [hU]; exact hW.self _, C.2.1.warm hWm, xZ.call C.2.2.1 hW hS C.2.2.2 hU hWm.alike, h⟩⟩ rfl rfl hz rfl (lv_room hr8) hdg hcs) hW hS C.2.2.2 (fun r H1 locs1 hp hW1 hS1 hF1 => kk r H1 locs1 hp hW1 hS1 hF1)
def w_X4_isMatte_h2 (V : XV) (Q : Int32 → Prop) (x0 : Nat) (x1 : Option Nat) (G : GM) (rec2 : Int32 → Prop) (x2 : Int32) : Prop := gGR G 12 (some x0) (fun v1 => gRcv G v1 (fun a2 c3 => (c3 % 64 = 15) ∧ (w_J2_size V (fun r4 => if r4 ≤ x2 then (Q (0 : Int32)) else (gGR G 12 (some x0) (fun v5 => gRcv G v5 (fun a6 c7 => (c7 % 64 = 15) ∧ (w_J2_get V (fun r8 => gCk G [3, 4, 5, 6] r8 (gGR G 17 r8 (fun v9 => if v9 = x1 then (Q (1 : Int32)) else (rec2 (x2 + (1 : Int32)))))) a6 x2 G))))) a2 G)))
def w_X4_isMatte_L2 (V : XV) (Q : Int32 → Prop) (x0 : Nat) (x1 : Option Nat) (G : GM) (x2 : Int32) : Prop := wLoop (fun (rec : Int32 → Prop) (s : Int32) => w_X4_isMatte_h2 V Q x0 x1 G (fun x2 => rec x2) s) x2
def w_X4_isMatte (V : XV) (Q : Int32 → Prop) (x0 : Nat) (x1 : Option Nat) (G : GM) : Prop := w_X4_isMatte_L2 V Q x0 x1 G (0 : Int32)
set_option maxRecDepth 100000 in
set_option maxHeartbeats 4000000 in
theorem wk_X4_isMatte {p : Program} {l : Launch} {e : Env} {R : Room} {s : State} {m : MethodId} {args : Array Value} {below : List Frame} {meth : Method} {c : Code} {cells slots : Nat} {Z : State → Prop} {A : Nat → Prop} {V : XV} (Q : Int32 → Prop) (C : xC p m c s args cX4_isMatte 3 RX4 V A) (hRf : 4 ≤ R.frames) (hRl : 84 ≤ R.locals) (hcs : cells ≤ R.cells ∧ slots ≤ R.slots) (G : GM) (hret : ∀ (v : Int32) (pc : Nat) (ls : Array Slot) (H : Heap) (locs : List Loc), decode cX4_isMatte pc = .ok (.ireturn, 1) → xW V A G H → va_S A s.heap H locs → isZ v → Q v → W p l e R s m args below meth c H locs cells slots Z (F0 m pc ls [.int v])) (x0 : Nat) (x1 : Option Nat) : w_X4_isMatte V Q x0 x1 G → ∀ (ls : Array Slot) (H : Heap) (locs : List Loc), lv_has ls 3 [(0, va_rf (some x0)), (1, va_rf x1)] → xW V A G H → va_S A s.heap H locs → W p l e R s m args below meth c H locs cells slots Z (F0 m 0 ls []) := by
  have hx := C.1.1; have hb := C.1.2.1; have hml := C.1.2.2.1; have hown := C.1.2.2.2.1; have hts := C.1.2.2.2.2
  have hL2 : ∀ (x2 : Int32), w_X4_isMatte_L2 V Q x0 x1 G x2 → ∀ (ls : Array Slot) (H : Heap) (locs : List Loc), lv_has ls 3 [(0, va_rf (some x0)), (1, va_rf x1), (2, .int x2)] → xW V A G H → va_S A s.heap H locs → W p l e R s m args below meth c H locs cells slots Z (F0 m 2 ls []) := by
    obtain ⟨GG2, hG2⟩ : ∃ GG : Int32 → Prop, ∀ (x2 : Int32), GG x2 ↔ (∀ (ls : Array Slot) (H : Heap) (locs : List Loc), lv_has ls 3 [(0, va_rf (some x0)), (1, va_rf x1), (2, .int x2)] → xW V A G H → va_S A s.heap H locs → W p l e R s m args below meth c H locs cells slots Z (F0 m 2 ls [])) := ⟨fun x2 => _, fun x2 => Iff.rfl⟩
    have hB2 : ∀ (rec2 : Int32 → Prop), (∀ (x2 : Int32), rec2 x2 → GG2 x2) → ∀ (x2 : Int32), w_X4_isMatte_h2 V Q x0 x1 G rec2 x2 → GG2 x2 := by
      intro rec2 hrec2
      intro x2 h
      rw [hG2]
      intro ls H locs hl hW hS
      refine lv_iload_n hx hb dX4_isMatte_2 rfl (lv_at hl 2 rfl) ?_
      refine sh_aload_n hx hb dX4_isMatte_3 rfl (lv_at hl 0 rfl) ?_
      obtain ⟨v1, h1, h⟩ := h
      refine sh_get C hW xFb_12 q667 (fun _ h => h) h1 dX4_isMatte_4 ?_
      obtain ⟨a2, c3, ho7, hcv7, h⟩ := h
      have hcc := h.1
      have h := h.2
      refine call_J2_size_F15_List (ct_J2_size l) C hW hS q1448 ho7 hcv7 hcc (le_lit hRf rfl) (le_lit hRl rfl) hcs hl.1 (Nat.le_of_ble_eq_true rfl) dX4_isMatte_7 h (fun r4 H locs h hW hS _ => ?_)
      refine lv_icmp_ge (tgt := 43) hx hb dX4_isMatte_12 (by decide) (fun c11 => ?_) (fun c11 => ?_)
      · have h := wif_t h c11
        refine lv_iconst (v := 0) hx hb dX4_isMatte_43 (by decide) ?_
        exact hret _ _ _ _ _ dX4_isMatte_44 hW hS isZ_0 h
      · have h := wif_f h c11
        refine sh_aload_n hx hb dX4_isMatte_15 rfl (lv_at hl 0 rfl) ?_
        obtain ⟨v5, h1, h⟩ := h
        refine sh_get C hW xFb_12 q667 (fun _ h => h) h1 dX4_isMatte_16 ?_
        refine lv_iload_n hx hb dX4_isMatte_19 rfl (lv_at hl 2 rfl) ?_
        obtain ⟨a6, c7, ho20, hcv20, h⟩ := h
        have hcc := h.1
        have h := h.2
        refine call_J2_get_F15_List (ct_J2_get l) C hW hS q1450 ho20 hcv20 hcc (le_lit hRf rfl) (le_lit hRl rfl) hcs hl.1 (Nat.le_of_ble_eq_true rfl) dX4_isMatte_20 h (fun r8 H locs h hW hS _ => ?_)
        refine sh_cast C hW q1026 xCa_Shapelayer_Layer h dX4_isMatte_25 (fun h => ?_)
        obtain ⟨v9, h1, h⟩ := h
        refine sh_getN C hW xFb_17 q843 (fun _ h => h) (by decide) h1 dX4_isMatte_28 ?_
        refine sh_aload_n hx hb dX4_isMatte_31 rfl (lv_at hl 1 rfl) ?_
        refine lv_acmp_ne (tgt := 37) hx hb dX4_isMatte_32 (by decide) (fun c10 => ?_) (fun c10 => ?_)
        · have h := wif_f h c10
          refine lv_iinc (v := x2 + (1 : Int32)) (lv' := [(2, .int (x2 + (1 : Int32))), (0, va_rf (some x0)), (1, va_rf x1)]) hx hb dX4_isMatte_37 hl (k := 2) rfl (congrArg (fun z => x2 + z) (by decide)) (by decide) (by simp only [List.filter_cons, List.filter_nil, va_rf_cat]; rfl) (fun ls hl => ?_)
          refine lv_goto (tgt := 2) hx hb dX4_isMatte_40 (by decide) ?_
          exact (hG2 _).mp (hrec2 _ h) ls H locs (lv_sub hl [1, 2, 0] rfl) hW hS
        · have h := wif_t h c10
          refine lv_iconst (v := 1) hx hb dX4_isMatte_35 (by decide) ?_
          exact hret _ _ _ _ _ dX4_isMatte_36 hW hS isZ_1 h
    intro x2 h
    exact (hG2 x2).mp (loop_walk (fun s => GG2 s) (fun rec hrec s h => hB2 (fun x2 => rec x2) (fun x2 h => hrec x2 h) s h) x2 h)
  intro h
  intro ls H locs hl hW hS
  refine lv_iconst (v := 0) hx hb dX4_isMatte_0 (by decide) ?_
  refine lv_istore_n (lv' := [(2, .int (0 : Int32)), (0, va_rf (some x0)), (1, va_rf x1)]) hx hb dX4_isMatte_1 rfl hl (by decide) (by simp only [List.filter_cons, List.filter_nil, va_rf_cat]; rfl) (fun ls hl => ?_)
  exact hL2 _ h ls H locs (lv_sub hl [1, 2, 0] rfl) hW hS
theorem ct_X4_isMatte (l : Launch) : CT_X4_isMatte l 4 84 w_X4_isMatte := by
  intro V sz G Q x0 x1
  refine Met.ofW (cc := cX4_isMatte) (maxL := 3) (ret := (some .boolean)) (by decide) rfl ?_
  intro p e s m args below meth c s₁ B hml hv
  obtain ⟨rfl, hsz, hW, hK, hZ, h⟩ := hv
  subst hsz
  have hts := atoms_spec (ws := (ws_ yX4_isMatte cX4_isMatte 3 (some .boolean))) B.pre
  have hts : ∀ w ∈ lw_all, w.before _ s = true := fun w h => hts w (List.mem_cons_of_mem _ h)
  have key : ∃ ls : Array Slot, entryFrame m ([.ref x0, va_rf x1] : List Value).toArray 3 = F0 m 0 ls [] ∧ lv_has ls 3 [(0, va_rf (some x0)), (1, va_rf x1)] := by
    cases x1 <;> (refine ⟨_, by rw [lg_entry_eq], ?_⟩; exact lv_entry _ (Nat.le_of_ble_eq_true rfl))
  obtain ⟨ls, hfr, hl⟩ := key
  rw [hfr]
  exact wk_X4_isMatte Q ⟨⟨B.exec, B.bytes, hml, findClass_of_methodNamed B.named, hts⟩, hK, hZ, fun q h => Or.inr h⟩ (Nat.le_refl _) (Nat.le_refl _) ⟨Nat.le_refl _, Nat.le_refl _⟩ G (fun v pc ls H locs hd hW1 hS hz hQ => W.zret (v := v) B.exec B.bytes B.returns hz.nar (fun t ht _ => ⟨⟨v, G, rfl, ⟨rfl, hQ⟩, by rw [← ht] at hW1; exact hW1⟩, hS.F ht⟩) hS.2.2 hd) x0 x1 h ls _ [] hl hW va_S.rf
def CT_X5_shows (l : Launch) (fr lo : Nat) (w : XV → (Int32 → Prop) → Nat → Int32 → GM → Prop) : Prop := ∀ (V : XV) (sz : Nat) (G : GM) (Q : Int32 → Prop) (x0 : Nat) (x1 : Int32), Met l yX5_shows (ws_ yX5_shows cX5_shows 2 (some .boolean)) { frames := fr, cells := 0, slots := 0, locals := lo } (va_Pc [.ref x0, .int x1] (fun U => U.heap.size = sz ∧ xW V (xA G sz) G U.heap ∧ xK V U ∧ xZ V (xA G sz) U U.heap ∧ w V Q x0 x1 G)) (va_Qi (fun r (u : GM) => u = G ∧ Q r) (fun u t => xW V (xA G sz) u t.heap) (xA G sz)) 0 0 (xA G sz)
theorem call_X5_shows_U3_4_5_6_Layer {p : Program} {l : Launch} {e : Env} {R : Room} {s : State} {m : MethodId} {args : Array Value} {below : List Frame} {meth : Method} {c : Code} {H : Heap} {locs : List Loc} {cells slots : Nat} {Z : State → Prop} {A : Nat → Prop} {cc : ByteArray} {nL pc : Nat} {ls : Array Slot} {rest : List Value} {own : String} {index fr lo : Nat} {w : XV → (Int32 → Prop) → Nat → Int32 → GM → Prop} {V : XV} {G : GM} {o : Option Nat} {ci : Nat} {x0 : Nat} {x1 : Int32} (hM : CT_X5_shows l fr lo w) (C : xC p m c s args cc nL own V A) (hW : xW V A G H) (hS : va_S A s.heap H locs) (hlink : Cond.methodLink own index ⟨"Shapelayer$Layer", "shows", "(I)Z"⟩ ∈ lw_all) (ho : o = some x0) (hcv : gCi G (some x0) = some ci) (hci : ci % 64 = 5 ∨ ci % 64 = 6 ∨ ci % 64 = 3 ∨ ci % 64 = 4) (hRf : fr + 1 ≤ R.frames) (hRl : 8 + (2 + 11) + lo ≤ R.locals) (hcs : cells ≤ R.cells ∧ slots ≤ R.slots) (hz : ls.size = nL) (hr8 : (rest.map fun v => v.category).sum ≤ 8) (hdg : decode cc pc = .ok (.invokevirtual index, 3)) {Q1 : Int32 → Prop} (h : w V Q1 x0 x1 G) (kk : ∀ (r : Int32) (H1 : Heap) (locs1 : List Loc), Q1 r → xW V A G H1 → va_S A s.heap H1 locs1 → xFr V G G H H1 → W p l e R s m args below meth c H1 locs1 cells slots Z (F0 m (pc + 3) ls (.int r :: rest))) : W p l e R s m args below meth c H locs cells slots Z (F0 m pc ls (.int x1 :: va_rf o :: rest)) := by
  subst ho
  obtain ⟨fs, hG⟩ := gCi_of hcv
  rcases hci with hci | hci | hci | hci
  · exact rg_i3r (va_runU (As := [.int x1]) (rest := rest) C.1 (hM V H.size G Q1 x0 x1) (va_cwU (C := "Shapelayer$Nested") 1 C.1.2.2.2.2 (lw_U hlink q1457 q1458 q1456 q87 q1462) rfl rfl rfl rfl (by decide +kernel) ⟨hRf, hRl⟩) ⟨fun a U g mk q => by obtain ⟨q0, q1, qW, qK, qZ, qw⟩ := q; exact ⟨q0, q1, qW, xK.same (u := U) (U := U.calling g mk a) rfl qK, xZ.moved (u := U) (U := U.calling g mk a) (Vm.Alike.refl U.vm) qZ, qw⟩, (hW.recv C.2.1 hG (r := (RX11, TX11, 9)) (by rw [hci]; rfl)), fun U hU hWm => ⟨rfl, by rw [hU], by rw [hU]; exact hW.self _, C.2.1.warm hWm, xZ.call C.2.2.1 hW hS C.2.2.2 hU hWm.alike, h⟩⟩ rfl rfl hz rfl (lv_room hr8) hdg hcs) hW hS C.2.2.2 (fun r H1 locs1 hp hW1 hS1 hF1 => kk r H1 locs1 hp hW1 hS1 hF1)
  · exact rg_i3r (va_runU (As := [.int x1]) (rest := rest) C.1 (hM V H.size G Q1 x0 x1) (va_cwU (C := "Shapelayer$Null") 1 C.1.2.2.2.2 (lw_U hlink q1457 q1459 q1456 q87 q1462) rfl rfl rfl rfl (by decide +kernel) ⟨hRf, hRl⟩) ⟨fun a U g mk q => by obtain ⟨q0, q1, qW, qK, qZ, qw⟩ := q; exact ⟨q0, q1, qW, xK.same (u := U) (U := U.calling g mk a) rfl qK, xZ.moved (u := U) (U := U.calling g mk a) (Vm.Alike.refl U.vm) qZ, qw⟩, (hW.recv C.2.1 hG (r := (RX12, TX12, 8)) (by rw [hci]; rfl)), fun U hU hWm => ⟨rfl, by rw [hU], by rw [hU]; exact hW.self _, C.2.1.warm hWm, xZ.call C.2.2.1 hW hS C.2.2.2 hU hWm.alike, h⟩⟩ rfl rfl hz rfl (lv_room hr8) hdg hcs) hW hS C.2.2.2 (fun r H1 locs1 hp hW1 hS1 hF1 => kk r H1 locs1 hp hW1 hS1 hF1)
  · exact rg_i3r (va_runU (As := [.int x1]) (rest := rest) C.1 (hM V H.size G Q1 x0 x1) (va_cwU (C := "Shapelayer$Rect") 1 C.1.2.2.2.2 (lw_U hlink q1457 q1460 q1456 q87 q1462) rfl rfl rfl rfl (by decide +kernel) ⟨hRf, hRl⟩) ⟨fun a U g mk q => by obtain ⟨q0, q1, qW, qK, qZ, qw⟩ := q; exact ⟨q0, q1, qW, xK.same (u := U) (U := U.calling g mk a) rfl qK, xZ.moved (u := U) (U := U.calling g mk a) (Vm.Alike.refl U.vm) qZ, qw⟩, (hW.recv C.2.1 hG (r := (RX7, TX7, 11)) (by rw [hci]; rfl)), fun U hU hWm => ⟨rfl, by rw [hU], by rw [hU]; exact hW.self _, C.2.1.warm hWm, xZ.call C.2.2.1 hW hS C.2.2.2 hU hWm.alike, h⟩⟩ rfl rfl hz rfl (lv_room hr8) hdg hcs) hW hS C.2.2.2 (fun r H1 locs1 hp hW1 hS1 hF1 => kk r H1 locs1 hp hW1 hS1 hF1)
  · exact rg_i3r (va_runU (As := [.int x1]) (rest := rest) C.1 (hM V H.size G Q1 x0 x1) (va_cwU (C := "Shapelayer$Stroke") 1 C.1.2.2.2.2 (lw_U hlink q1457 q1461 q1456 q87 q1462) rfl rfl rfl rfl (by decide +kernel) ⟨hRf, hRl⟩) ⟨fun a U g mk q => by obtain ⟨q0, q1, qW, qK, qZ, qw⟩ := q; exact ⟨q0, q1, qW, xK.same (u := U) (U := U.calling g mk a) rfl qK, xZ.moved (u := U) (U := U.calling g mk a) (Vm.Alike.refl U.vm) qZ, qw⟩, (hW.recv C.2.1 hG (r := (RX9, TX9, 11)) (by rw [hci]; rfl)), fun U hU hWm => ⟨rfl, by rw [hU], by rw [hU]; exact hW.self _, C.2.1.warm hWm, xZ.call C.2.2.1 hW hS C.2.2.2 hU hWm.alike, h⟩⟩ rfl rfl hz rfl (lv_room hr8) hdg hcs) hW hS C.2.2.2 (fun r H1 locs1 hp hW1 hS1 hF1 => kk r H1 locs1 hp hW1 hS1 hF1)
def w_X5_shows (V : XV) (Q : Int32 → Prop) (x0 : Nat) (x1 : Int32) (G : GM) : Prop := gGI G 19 (some x0) (fun v1 => gGI G 20 (some x0) (fun v2 => w_X1_isBetween V (fun r3 => if r3 = 0 then (Q (0 : Int32)) else (gRcv G (some x0) (fun a4 c5 => (c5 % 64 = 5 ∨ c5 % 64 = 6 ∨ c5 % 64 = 3 ∨ c5 % 64 = 4) ∧ (w_X5_value V (fun r6 => if r6 < (1 : Int32) then (Q (0 : Int32)) else (Q (1 : Int32))) a4 (7 : Int32) x1 G)))) x1 v1 (v2 - (1 : Int32)) G))
set_option maxRecDepth 100000 in
set_option maxHeartbeats 4000000 in
theorem wk_X5_shows {p : Program} {l : Launch} {e : Env} {R : Room} {s : State} {m : MethodId} {args : Array Value} {below : List Frame} {meth : Method} {c : Code} {cells slots : Nat} {Z : State → Prop} {A : Nat → Prop} {V : XV} (Q : Int32 → Prop) (C : xC p m c s args cX5_shows 2 RX5 V A) (hRf : 7 ≤ R.frames) (hRl : 152 ≤ R.locals) (hcs : cells ≤ R.cells ∧ slots ≤ R.slots) (G : GM) (hret : ∀ (v : Int32) (pc : Nat) (ls : Array Slot) (H : Heap) (locs : List Loc), decode cX5_shows pc = .ok (.ireturn, 1) → xW V A G H → va_S A s.heap H locs → isZ v → Q v → W p l e R s m args below meth c H locs cells slots Z (F0 m pc ls [.int v])) (x0 : Nat) (x1 : Int32) : w_X5_shows V Q x0 x1 G → ∀ (ls : Array Slot) (H : Heap) (locs : List Loc), lv_has ls 2 [(0, va_rf (some x0)), (1, .int x1)] → xW V A G H → va_S A s.heap H locs → W p l e R s m args below meth c H locs cells slots Z (F0 m 0 ls []) := by
  have hx := C.1.1; have hb := C.1.2.1; have hml := C.1.2.2.1; have hown := C.1.2.2.2.1; have hts := C.1.2.2.2.2
  intro h
  intro ls H locs hl hW hS
  refine lv_iload_n hx hb dX5_shows_0 rfl (lv_at hl 1 rfl) ?_
  refine sh_aload_n hx hb dX5_shows_1 rfl (lv_at hl 0 rfl) ?_
  obtain ⟨v1, h1, h⟩ := h
  refine sh_get C hW xFb_19 q851 (fun _ h => h) h1 dX5_shows_2 ?_
  refine sh_aload_n hx hb dX5_shows_5 rfl (lv_at hl 0 rfl) ?_
  obtain ⟨v2, h1, h⟩ := h
  refine sh_get C hW xFb_20 q853 (fun _ h => h) h1 dX5_shows_6 ?_
  refine lv_iconst (v := 1) hx hb dX5_shows_9 (by decide) ?_
  refine lv_isub hx hb dX5_shows_10 ?_
  refine call_X1_isBetween_SN (ct_X1_isBetween l) C hW hS q1463 (le_lit hRf rfl) (le_lit hRl rfl) hcs hl.1 (Nat.le_of_ble_eq_true rfl) dX5_shows_11 h (fun r3 H locs h hW hS _ => ?_)
  refine lv_if_eq (tgt := 32) hx hb dX5_shows_14 (by decide) (fun c8 => ?_) (fun c8 => ?_)
  · have h := wif_t h c8
    refine lv_iconst (v := 0) hx hb dX5_shows_32 (by decide) ?_
    exact hret _ _ _ _ _ dX5_shows_33 hW hS isZ_0 h
  · have h := wif_f h c8
    refine sh_aload_n hx hb dX5_shows_17 rfl (lv_at hl 0 rfl) ?_
    refine lv_bipush (v := 7) hx hb dX5_shows_18 (by decide) ?_
    refine lv_iload_n hx hb dX5_shows_20 rfl (lv_at hl 1 rfl) ?_
    obtain ⟨a4, c5, ho21, hcv21, h⟩ := h
    have hcc := h.1
    have h := h.2
    refine call_X5_value_U3_4_5_6_Layer (ct_X5_value l) C hW hS q1390 ho21 hcv21 hcc (le_lit hRf rfl) (le_lit hRl rfl) hcs hl.1 (Nat.le_of_ble_eq_true rfl) dX5_shows_21 h (fun r6 H locs h hW hS _ => ?_)
    refine lv_iconst (v := 1) hx hb dX5_shows_24 (by decide) ?_
    refine lv_icmp_lt (tgt := 32) hx hb dX5_shows_25 (by decide) (fun c7 => ?_) (fun c7 => ?_)
    · have h := wif_t h c7
      refine lv_iconst (v := 0) hx hb dX5_shows_32 (by decide) ?_
      exact hret _ _ _ _ _ dX5_shows_33 hW hS isZ_0 h
    · have h := wif_f h c7
      refine lv_iconst (v := 1) hx hb dX5_shows_28 (by decide) ?_
      refine lv_goto (tgt := 33) hx hb dX5_shows_29 (by decide) ?_
      exact hret _ _ _ _ _ dX5_shows_33 hW hS isZ_1 h
theorem ct_X5_shows (l : Launch) : CT_X5_shows l 7 152 w_X5_shows := by
  intro V sz G Q x0 x1
  refine Met.ofW (cc := cX5_shows) (maxL := 2) (ret := (some .boolean)) (by decide) rfl ?_
  intro p e s m args below meth c s₁ B hml hv
  obtain ⟨rfl, hsz, hW, hK, hZ, h⟩ := hv
  subst hsz
  have hts := atoms_spec (ws := (ws_ yX5_shows cX5_shows 2 (some .boolean))) B.pre
  have hts : ∀ w ∈ lw_all, w.before _ s = true := fun w h => hts w (List.mem_cons_of_mem _ h)
  have hl := lv_entry ([.ref x0, .int x1]) (n := 2) (Nat.le_of_ble_eq_true rfl)
  rw [lg_entry_eq]
  generalize (lg_sl ([.ref x0, .int x1]) ++ List.replicate (2 - (lg_sl ([.ref x0, .int x1])).length) Slot.unset).toArray = ls at hl ⊢
  exact wk_X5_shows Q ⟨⟨B.exec, B.bytes, hml, findClass_of_methodNamed B.named, hts⟩, hK, hZ, fun q h => Or.inr h⟩ (Nat.le_refl _) (Nat.le_refl _) ⟨Nat.le_refl _, Nat.le_refl _⟩ G (fun v pc ls H locs hd hW1 hS hz hQ => W.zret (v := v) B.exec B.bytes B.returns hz.nar (fun t ht _ => ⟨⟨v, G, rfl, ⟨rfl, hQ⟩, by rw [← ht] at hW1; exact hW1⟩, hS.F ht⟩) hS.2.2 hd) x0 x1 h ls _ [] hl hW va_S.rf
def CT_X5_hasKeys (l : Launch) (fr lo : Nat) (w : XV → (Int32 → Prop) → Nat → Int32 → GM → Prop) : Prop := ∀ (V : XV) (sz : Nat) (G : GM) (Q : Int32 → Prop) (x0 : Nat) (x1 : Int32), Met l yX5_hasKeys (ws_ yX5_hasKeys cX5_hasKeys 2 (some .boolean)) { frames := fr, cells := 0, slots := 0, locals := lo } (va_Pc [.ref x0, .int x1] (fun U => U.heap.size = sz ∧ xW V (xA G sz) G U.heap ∧ xK V U ∧ xZ V (xA G sz) U U.heap ∧ w V Q x0 x1 G)) (va_Qi (fun r (u : GM) => u = G ∧ Q r) (fun u t => xW V (xA G sz) u t.heap) (xA G sz)) 0 0 (xA G sz)
theorem call_X5_hasKeys_U5_Nested {p : Program} {l : Launch} {e : Env} {R : Room} {s : State} {m : MethodId} {args : Array Value} {below : List Frame} {meth : Method} {c : Code} {H : Heap} {locs : List Loc} {cells slots : Nat} {Z : State → Prop} {A : Nat → Prop} {cc : ByteArray} {nL pc : Nat} {ls : Array Slot} {rest : List Value} {own : String} {index fr lo : Nat} {w : XV → (Int32 → Prop) → Nat → Int32 → GM → Prop} {V : XV} {G : GM} {o : Option Nat} {ci : Nat} {x0 : Nat} {x1 : Int32} (hM : CT_X5_hasKeys l fr lo w) (C : xC p m c s args cc nL own V A) (hW : xW V A G H) (hS : va_S A s.heap H locs) (hlink : Cond.methodLink own index ⟨"Shapelayer$Nested", "hasKeys", "(I)Z"⟩ ∈ lw_all) (ho : o = some x0) (hcv : gCi G (some x0) = some ci) (hci : ci % 64 = 5) (hRf : fr + 1 ≤ R.frames) (hRl : 8 + (2 + 11) + lo ≤ R.locals) (hcs : cells ≤ R.cells ∧ slots ≤ R.slots) (hz : ls.size = nL) (hr8 : (rest.map fun v => v.category).sum ≤ 8) (hdg : decode cc pc = .ok (.invokevirtual index, 3)) {Q1 : Int32 → Prop} (h : w V Q1 x0 x1 G) (kk : ∀ (r : Int32) (H1 : Heap) (locs1 : List Loc), Q1 r → xW V A G H1 → va_S A s.heap H1 locs1 → xFr V G G H H1 → W p l e R s m args below meth c H1 locs1 cells slots Z (F0 m (pc + 3) ls (.int r :: rest))) : W p l e R s m args below meth c H locs cells slots Z (F0 m pc ls (.int x1 :: va_rf o :: rest)) := by
  subst ho
  obtain ⟨fs, hG⟩ := gCi_of hcv
  exact rg_i3r (va_runU (As := [.int x1]) (rest := rest) C.1 (hM V H.size G Q1 x0 x1) (va_cwU (C := "Shapelayer$Nested") 1 C.1.2.2.2.2 (lw_U hlink q1471 q1473 q1474 q87 q1475) rfl rfl rfl rfl (by decide +kernel) ⟨hRf, hRl⟩) ⟨fun a U g mk q => by obtain ⟨q0, q1, qW, qK, qZ, qw⟩ := q; exact ⟨q0, q1, qW, xK.same (u := U) (U := U.calling g mk a) rfl qK, xZ.moved (u := U) (U := U.calling g mk a) (Vm.Alike.refl U.vm) qZ, qw⟩, (hW.recv C.2.1 hG (r := (RX11, TX11, 9)) (by rw [hci]; rfl)), fun U hU hWm => ⟨rfl, by rw [hU], by rw [hU]; exact hW.self _, C.2.1.warm hWm, xZ.call C.2.2.1 hW hS C.2.2.2 hU hWm.alike, h⟩⟩ rfl rfl hz rfl (lv_room hr8) hdg hcs) hW hS C.2.2.2 (fun r H1 locs1 hp hW1 hS1 hF1 => kk r H1 locs1 hp hW1 hS1 hF1)
def w_X5_hasKeys (V : XV) (Q : Int32 → Prop) (x0 : Nat) (x1 : Int32) (G : GM) : Prop := gGR G 15 (some x0) (fun v1 => gRL G v1 x1 (fun v2 => gGR G 28 v2 (fun v3 => gRcv G v3 (fun a4 c5 => (c5 % 64 = 15) ∧ (w_J2_isEmpty V (fun r6 => if r6 = 0 then (Q (1 : Int32)) else (Q (0 : Int32))) a4 G)))))
set_option maxRecDepth 100000 in
set_option maxHeartbeats 4000000 in
theorem wk_X5_hasKeys {p : Program} {l : Launch} {e : Env} {R : Room} {s : State} {m : MethodId} {args : Array Value} {below : List Frame} {meth : Method} {c : Code} {cells slots : Nat} {Z : State → Prop} {A : Nat → Prop} {V : XV} (Q : Int32 → Prop) (C : xC p m c s args cX5_hasKeys 2 RX5 V A) (hRf : 2 ≤ R.frames) (hRl : 40 ≤ R.locals) (hcs : cells ≤ R.cells ∧ slots ≤ R.slots) (G : GM) (hret : ∀ (v : Int32) (pc : Nat) (ls : Array Slot) (H : Heap) (locs : List Loc), decode cX5_hasKeys pc = .ok (.ireturn, 1) → xW V A G H → va_S A s.heap H locs → isZ v → Q v → W p l e R s m args below meth c H locs cells slots Z (F0 m pc ls [.int v])) (x0 : Nat) (x1 : Int32) : w_X5_hasKeys V Q x0 x1 G → ∀ (ls : Array Slot) (H : Heap) (locs : List Loc), lv_has ls 2 [(0, va_rf (some x0)), (1, .int x1)] → xW V A G H → va_S A s.heap H locs → W p l e R s m args below meth c H locs cells slots Z (F0 m 0 ls []) := by
  have hx := C.1.1; have hb := C.1.2.1; have hml := C.1.2.2.1; have hown := C.1.2.2.2.1; have hts := C.1.2.2.2.2
  intro h
  intro ls H locs hl hW hS
  refine sh_aload_n hx hb dX5_hasKeys_0 rfl (lv_at hl 0 rfl) ?_
  obtain ⟨v1, h1, h⟩ := h
  refine sh_get C hW xFb_15 q839 (fun _ h => h) h1 dX5_hasKeys_1 ?_
  refine lv_iload_n hx hb dX5_hasKeys_4 rfl (lv_at hl 1 rfl) ?_
  refine sh_aald C hW h dX5_hasKeys_5 (fun v2 h => ?_)
  obtain ⟨v3, h1, h⟩ := h
  refine sh_getN C hW xFb_28 q820 (fun _ h => h) (by decide) h1 dX5_hasKeys_6 ?_
  obtain ⟨a4, c5, ho9, hcv9, h⟩ := h
  have hcc := h.1
  have h := h.2
  refine call_J2_isEmpty_F15_List (ct_J2_isEmpty l) C hW hS q1317 ho9 hcv9 hcc (le_lit hRf rfl) (le_lit hRl rfl) hcs hl.1 (Nat.le_of_ble_eq_true rfl) dX5_hasKeys_9 h (fun r6 H locs h hW hS _ => ?_)
  refine lv_if_ne (tgt := 21) hx hb dX5_hasKeys_14 (by decide) (fun c7 => ?_) (fun c7 => ?_)
  · have h := wif_f h c7
    refine lv_iconst (v := 0) hx hb dX5_hasKeys_21 (by decide) ?_
    exact hret _ _ _ _ _ dX5_hasKeys_22 hW hS isZ_0 h
  · have h := wif_t h c7
    refine lv_iconst (v := 1) hx hb dX5_hasKeys_17 (by decide) ?_
    refine lv_goto (tgt := 22) hx hb dX5_hasKeys_18 (by decide) ?_
    exact hret _ _ _ _ _ dX5_hasKeys_22 hW hS isZ_1 h
theorem ct_X5_hasKeys (l : Launch) : CT_X5_hasKeys l 2 40 w_X5_hasKeys := by
  intro V sz G Q x0 x1
  refine Met.ofW (cc := cX5_hasKeys) (maxL := 2) (ret := (some .boolean)) (by decide) rfl ?_
  intro p e s m args below meth c s₁ B hml hv
  obtain ⟨rfl, hsz, hW, hK, hZ, h⟩ := hv
  subst hsz
  have hts := atoms_spec (ws := (ws_ yX5_hasKeys cX5_hasKeys 2 (some .boolean))) B.pre
  have hts : ∀ w ∈ lw_all, w.before _ s = true := fun w h => hts w (List.mem_cons_of_mem _ h)
  have hl := lv_entry ([.ref x0, .int x1]) (n := 2) (Nat.le_of_ble_eq_true rfl)
  rw [lg_entry_eq]
  generalize (lg_sl ([.ref x0, .int x1]) ++ List.replicate (2 - (lg_sl ([.ref x0, .int x1])).length) Slot.unset).toArray = ls at hl ⊢
  exact wk_X5_hasKeys Q ⟨⟨B.exec, B.bytes, hml, findClass_of_methodNamed B.named, hts⟩, hK, hZ, fun q h => Or.inr h⟩ (Nat.le_refl _) (Nat.le_refl _) ⟨Nat.le_refl _, Nat.le_refl _⟩ G (fun v pc ls H locs hd hW1 hS hz hQ => W.zret (v := v) B.exec B.bytes B.returns hz.nar (fun t ht _ => ⟨⟨v, G, rfl, ⟨rfl, hQ⟩, by rw [← ht] at hW1; exact hW1⟩, hS.F ht⟩) hS.2.2 hd) x0 x1 h ls _ [] hl hW va_S.rf
def CT_X19_init (l : Launch) (fr lo : Nat) (w : XV → (GM → Prop) → Nat → (Option Nat) → Int32 → (Option Nat) → GM → Prop) : Prop := ∀ (V : XV) (sz : Nat) (G : GM) (Q : GM → Prop) (x0 : Nat) (x1 : Option Nat) (x2 : Int32) (x3 : Option Nat), Met l yX19_init (ws_ yX19_init cX19_init 4 none) { frames := fr, cells := 0, slots := 0, locals := lo } (va_Pc [.ref x0, va_rf x1, .int x2, va_rf x3] (fun U => U.heap.size = sz ∧ xW V (xA G sz) G U.heap ∧ xK V U ∧ xZ V (xA G sz) U U.heap ∧ w V Q x0 x1 x2 x3 G)) (va_Qv (fun (u : GM) => Q u) (fun u t => xW V (xA G sz) u t.heap) (xA G sz)) 0 0 (xA G sz)
theorem call_X19_init_I {p : Program} {l : Launch} {e : Env} {R : Room} {s : State} {m : MethodId} {args : Array Value} {below : List Frame} {meth : Method} {c : Code} {H : Heap} {locs : List Loc} {cells slots : Nat} {Z : State → Prop} {A : Nat → Prop} {cc : ByteArray} {nL pc : Nat} {ls : Array Slot} {rest : List Value} {own : String} {index fr lo : Nat} {w : XV → (GM → Prop) → Nat → (Option Nat) → Int32 → (Option Nat) → GM → Prop} {V : XV} {G : GM} {o : Option Nat} {x0 : Nat} {x1 : Option Nat} {x2 : Int32} {x3 : Option Nat} (hM : CT_X19_init l fr lo w) (C : xC p m c s args cc nL own V A) (hW : xW V A G H) (hS : va_S A s.heap H locs) (hlink : Cond.methodLink own index yX19_init ∈ lw_all) (ho : o = some x0) (hRf : fr + 1 ≤ R.frames) (hRl : 8 + (4 + 11) + lo ≤ R.locals) (hcs : cells ≤ R.cells ∧ slots ≤ R.slots) (hz : ls.size = nL) (hr8 : (rest.map fun v => v.category).sum ≤ 8) (hdg : decode cc pc = .ok (.invokespecial index, 3)) {Q1 : GM → Prop} (h : w V Q1 x0 x1 x2 x3 G) (kk : ∀ (G1 : GM) (H1 : Heap) (locs1 : List Loc), Q1 G1 → xW V A G1 H1 → va_S A s.heap H1 locs1 → xFr V G G1 H H1 → W p l e R s m args below meth c H1 locs1 cells slots Z (F0 m (pc + 3) ls (rest))) : W p l e R s m args below meth c H locs cells slots Z (F0 m pc ls (va_rf x3 :: .int x2 :: va_rf x1 :: va_rf o :: rest)) := by
  subst ho
  exact rg_v3w (va_runI (As := [va_rf x1, .int x2, va_rf x3]) (rest := rest) C.1 (hM V H.size G Q1 x0 x1 x2 x3) (cwI 3 C.1.2.2.2.2 (lw_meth q1485) rfl rfl rfl (C.1.2.2.2.2 _ q102) (C.1.2.2.2.2 _ hlink) (C.1.2.2.2.2 _ q1484) rfl (by decide +kernel) ⟨hRf, hRl⟩) ⟨fun a U g mk q => by obtain ⟨q0, q1, qW, qK, qZ, qw⟩ := q; exact ⟨q0, q1, qW, xK.same (u := U) (U := U.calling g mk a) rfl qK, xZ.moved (u := U) (U := U.calling g mk a) (Vm.Alike.refl U.vm) qZ, qw⟩, fun U hU hWm => ⟨rfl, by rw [hU], by rw [hU]; exact hW.self _, C.2.1.warm hWm, xZ.call C.2.2.1 hW hS C.2.2.2 hU hWm.alike, h⟩⟩ rfl rfl hz rfl (lv_room hr8) hdg hcs) hW hS C.2.2.2 (fun G1 H1 locs1 hp hW1 hS1 hF1 => kk G1 H1 locs1 hp hW1 hS1 hF1)
def w_X19_init (V : XV) (Q : GM → Prop) (x0 : Nat) (x1 : Option Nat) (x2 : Int32) (x3 : Option Nat) (G : GM) : Prop := gPF G 37 (some x0) (va_rf x1) (fun G1 => gPF G1 38 (some x0) (.int x2) (fun G2 => gPF G2 39 (some x0) (va_rf x3) (fun G3 => Q G3)))
set_option maxRecDepth 100000 in
set_option maxHeartbeats 4000000 in
theorem wk_X19_init {p : Program} {l : Launch} {e : Env} {R : Room} {s : State} {m : MethodId} {args : Array Value} {below : List Frame} {meth : Method} {c : Code} {cells slots : Nat} {Z : State → Prop} {A : Nat → Prop} {V : XV} (Q : GM → Prop) (C : xC p m c s args cX19_init 4 RX19 V A) (hin : meth.name = "<init>") (hRf : 1 ≤ R.frames) (hRl : 20 ≤ R.locals) (hcs : cells ≤ R.cells ∧ slots ≤ R.slots) (G : GM) (hret : ∀ (G : GM) (pc : Nat) (ls : Array Slot) (H : Heap) (locs : List Loc), decode cX19_init pc = .ok (.return_, 1) → xW V A G H → va_S A s.heap H locs → Q G → W p l e R s m args below meth c H locs cells slots Z (F0 m pc ls [])) (x0 : Nat) (x1 : Option Nat) (x2 : Int32) (x3 : Option Nat) : w_X19_init V Q x0 x1 x2 x3 G → ∀ (ls : Array Slot) (H : Heap) (locs : List Loc), lv_has ls 4 [(0, va_rf (some x0)), (1, va_rf x1), (2, .int x2), (3, va_rf x3)] → xW V A G H → va_S A s.heap H locs → W p l e R s m args below meth c H locs cells slots Z (F0 m 0 ls []) := by
  have hx := C.1.1; have hb := C.1.2.1; have hml := C.1.2.2.1; have hown := C.1.2.2.2.1; have hts := C.1.2.2.2.2
  intro h
  intro ls H locs hl hW hS
  refine sh_aload_n hx hb dX19_init_0 rfl (lv_at hl 0 rfl) ?_
  refine sh_objInit C q1486 q110 q111 hl.1 (le_lit hRf rfl) (le_lit hRl rfl) (Nat.le_of_ble_eq_true rfl) dX19_init_1 ?_
  refine sh_aload_n hx hb dX19_init_4 rfl (lv_at hl 0 rfl) ?_
  refine sh_aload_n hx hb dX19_init_5 rfl (lv_at hl 1 rfl) ?_
  refine sh_putF C hW hS xFb_37 q1487 (fun _ h => h) hin rfl xFd_37 (rf_nar_o _ _) (rf_fit_o _ _) h dX19_init_6 (fun G1 H locs hW hS h => ?_)
  refine sh_aload_n hx hb dX19_init_9 rfl (lv_at hl 0 rfl) ?_
  refine lv_iload_n hx hb dX19_init_10 rfl (lv_at hl 2 rfl) ?_
  refine sh_putF C hW hS xFb_38 q1489 (fun _ h => h) hin rfl xFd_38 rfl rfl h dX19_init_11 (fun G2 H locs hW hS h => ?_)
  refine sh_aload_n hx hb dX19_init_14 rfl (lv_at hl 0 rfl) ?_
  refine sh_aload_n hx hb dX19_init_15 rfl (lv_at hl 3 rfl) ?_
  refine sh_putF C hW hS xFb_39 q1491 (fun _ h => h) hin rfl xFd_39 (rf_nar_o _ _) (rf_fit_o _ _) h dX19_init_16 (fun G3 H locs hW hS h => ?_)
  exact hret _ _ _ _ _ dX19_init_19 hW hS h
theorem ct_X19_init (l : Launch) : CT_X19_init l 1 20 w_X19_init := by
  intro V sz G Q x0 x1 x2 x3
  refine Met.ofW (cc := cX19_init) (maxL := 4) (ret := none) (by decide) rfl ?_
  intro p e s m args below meth c s₁ B hml hv
  obtain ⟨rfl, hsz, hW, hK, hZ, h⟩ := hv
  subst hsz
  have hts := atoms_spec (ws := (ws_ yX19_init cX19_init 4 none)) B.pre
  have hts : ∀ w ∈ lw_all, w.before _ s = true := fun w h => hts w (List.mem_cons_of_mem _ h)
  have key : ∃ ls : Array Slot, entryFrame m ([.ref x0, va_rf x1, .int x2, va_rf x3] : List Value).toArray 4 = F0 m 0 ls [] ∧ lv_has ls 4 [(0, va_rf (some x0)), (1, va_rf x1), (2, .int x2), (3, va_rf x3)] := by
    cases x1 <;> cases x3 <;> (refine ⟨_, by rw [lg_entry_eq], ?_⟩; exact lv_entry _ (Nat.le_of_ble_eq_true rfl))
  obtain ⟨ls, hfr, hl⟩ := key
  rw [hfr]
  exact wk_X19_init Q ⟨⟨B.exec, B.bytes, hml, findClass_of_methodNamed B.named, hts⟩, hK, hZ, fun q h => Or.inr h⟩ (name_of_methodNamed B.named B.method).1 (Nat.le_refl _) (Nat.le_refl _) ⟨Nat.le_refl _, Nat.le_refl _⟩ G (fun G pc ls H locs hd hW1 hS hQ => W.vret B.exec B.bytes B.returns (fun t ht _ => ⟨⟨G, rfl, hQ, by rw [← ht] at hW1; exact hW1⟩, hS.F ht⟩) hS.2.2 hd) x0 x1 x2 x3 h ls _ [] hl hW va_S.rf
def CT_X4_draw (l : Launch) (fr lo : Nat) (w : XV → (GM → Prop) → Nat → Int32 → (Option Nat) → (Option Nat) → GM → Nat → Nat → Prop) : Prop := ∀ (V : XV) (sz : Nat) (G : GM) (Q : GM → Prop) (x0 : Nat) (x1 : Int32) (x2 : Option Nat) (x3 : Option Nat) (kc ks : Nat), Met l yX4_draw (ws_ yX4_draw cX4_draw 8 none) { frames := fr, cells := kc, slots := ks, locals := lo } (va_Pc [.ref x0, .int x1, va_rf x2, va_rf x3] (fun U => U.heap.size = sz ∧ xW V (xA G sz) G U.heap ∧ xK V U ∧ xZ V (xA G sz) U U.heap ∧ w V Q x0 x1 x2 x3 G kc ks)) (va_Qv (fun (u : GM) => Q u) (fun u t => xW V (xA G sz) u t.heap) (xA G sz)) kc ks (xA G sz)
theorem call_X4_draw_V {p : Program} {l : Launch} {e : Env} {R : Room} {s : State} {m : MethodId} {args : Array Value} {below : List Frame} {meth : Method} {c : Code} {H : Heap} {locs : List Loc} {cells slots : Nat} {Z : State → Prop} {A : Nat → Prop} {cc : ByteArray} {nL pc : Nat} {ls : Array Slot} {rest : List Value} {own : String} {index fr lo : Nat} {w : XV → (GM → Prop) → Nat → Int32 → (Option Nat) → (Option Nat) → GM → Nat → Nat → Prop} {V : XV} {G : GM} {o : Option Nat} {ci : Nat} {kc ks c1 s1 : Nat} {x0 : Nat} {x1 : Int32} {x2 : Option Nat} {x3 : Option Nat} (hM : CT_X4_draw l fr lo w) (C : xC p m c s args cc nL own V A) (hW : xW V A G H) (hS : va_S A s.heap H locs) (hlink : Cond.methodLink own index yX4_draw ∈ lw_all) (ho : o = some x0) (hcv : gCi G (some x0) = some ci) (hci : ci % 64 = 2) (hRf : fr + 1 ≤ R.frames) (hRl : 8 + (8 + 11) + lo ≤ R.locals) (hc1 : c1 ≤ kc) (hs1 : s1 ≤ ks) (hkc : cells + kc ≤ R.cells) (hks : slots + ks ≤ R.slots) (hz : ls.size = nL) (hr8 : (rest.map fun v => v.category).sum ≤ 8) (hdg : decode cc pc = .ok (.invokevirtual index, 3)) {Q1 : GM → Prop} (h : w V Q1 x0 x1 x2 x3 G c1 s1) (kk : ∀ (G1 : GM) (H1 : Heap) (locs1 : List Loc), Q1 G1 → xW V A G1 H1 → va_S A s.heap H1 locs1 → xFr V G G1 H H1 → (cells + c1) + (kc - c1) ≤ R.cells → (slots + s1) + (ks - s1) ≤ R.slots → W p l e R s m args below meth c H1 locs1 (cells + c1) (slots + s1) Z (F0 m (pc + 3) ls (rest))) : W p l e R s m args below meth c H locs cells slots Z (F0 m pc ls (va_rf x3 :: va_rf x2 :: .int x1 :: va_rf o :: rest)) := by
  subst ho
  obtain ⟨fs, hG⟩ := gCi_of hcv
  exact rg_v3w (va_runV (As := [.int x1, va_rf x2, va_rf x3]) (rest := rest) C.1 (hM V H.size G Q1 x0 x1 x2 x3 c1 s1) (cwV 3 C.1.2.2.2.2 (lw_V hlink q1444 q1445 q85 q1446) rfl rfl rfl (by decide +kernel) ⟨hRf, hRl⟩) ⟨fun a U g mk q => by obtain ⟨q0, q1, qW, qK, qZ, qw⟩ := q; exact ⟨q0, q1, qW, xK.same (u := U) (U := U.calling g mk a) rfl qK, xZ.moved (u := U) (U := U.calling g mk a) (Vm.Alike.refl U.vm) qZ, qw⟩, (hW.recv C.2.1 hG (r := (RX4, TX4, 2)) (by rw [hci]; rfl)), fun U hU hWm => ⟨rfl, by rw [hU], by rw [hU]; exact hW.self _, C.2.1.warm hWm, xZ.call C.2.2.1 hW hS C.2.2.2 hU hWm.alike, h⟩⟩ rfl rfl hz rfl (lv_room hr8) hdg ⟨by omega, by omega⟩) hW hS C.2.2.2 (fun G1 H1 locs1 hp hW1 hS1 hF1 => kk G1 H1 locs1 hp hW1 hS1 hF1 (by omega) (by omega))
def CT_X11_draw (l : Launch) (fr lo : Nat) (w : XV → (GM → Prop) → Nat → Int32 → (Option Nat) → (Option Nat) → GM → Nat → Nat → Prop) : Prop := ∀ (V : XV) (sz : Nat) (G : GM) (Q : GM → Prop) (x0 : Nat) (x1 : Int32) (x2 : Option Nat) (x3 : Option Nat) (kc ks : Nat), Met l yX11_draw (ws_ yX11_draw cX11_draw 5 none) { frames := fr, cells := kc, slots := ks, locals := lo } (va_Pc [.ref x0, .int x1, va_rf x2, va_rf x3] (fun U => U.heap.size = sz ∧ xW V (xA G sz) G U.heap ∧ xK V U ∧ xZ V (xA G sz) U U.heap ∧ w V Q x0 x1 x2 x3 G kc ks)) (va_Qv (fun (u : GM) => Q u) (fun u t => xW V (xA G sz) u t.heap) (xA G sz)) kc ks (xA G sz)
theorem call_X11_draw_O5_Layer {p : Program} {l : Launch} {e : Env} {R : Room} {s : State} {m : MethodId} {args : Array Value} {below : List Frame} {meth : Method} {c : Code} {H : Heap} {locs : List Loc} {cells slots : Nat} {Z : State → Prop} {A : Nat → Prop} {cc : ByteArray} {nL pc : Nat} {ls : Array Slot} {rest : List Value} {own : String} {index fr lo : Nat} {w : XV → (GM → Prop) → Nat → Int32 → (Option Nat) → (Option Nat) → GM → Nat → Nat → Prop} {V : XV} {G : GM} {o : Option Nat} {ci : Nat} {kc ks c1 s1 : Nat} {x0 : Nat} {x1 : Int32} {x2 : Option Nat} {x3 : Option Nat} (hM : CT_X11_draw l fr lo w) (C : xC p m c s args cc nL own V A) (hW : xW V A G H) (hS : va_S A s.heap H locs) (hlink : Cond.methodLink own index ⟨"Shapelayer$Layer", "draw", "(ILShapelayer$Outer;LShapelayer$Raster;)V"⟩ ∈ lw_all) (ho : o = some x0) (hcv : gCi G (some x0) = some ci) (hci : ci % 64 = 5) (hRf : fr + 1 ≤ R.frames) (hRl : 8 + (5 + 11) + lo ≤ R.locals) (hc1 : c1 ≤ kc) (hs1 : s1 ≤ ks) (hkc : cells + kc ≤ R.cells) (hks : slots + ks ≤ R.slots) (hz : ls.size = nL) (hr8 : (rest.map fun v => v.category).sum ≤ 8) (hdg : decode cc pc = .ok (.invokevirtual index, 3)) {Q1 : GM → Prop} (h : w V Q1 x0 x1 x2 x3 G c1 s1) (kk : ∀ (G1 : GM) (H1 : Heap) (locs1 : List Loc), Q1 G1 → xW V A G1 H1 → va_S A s.heap H1 locs1 → xFr V G G1 H H1 → (cells + c1) + (kc - c1) ≤ R.cells → (slots + s1) + (ks - s1) ≤ R.slots → W p l e R s m args below meth c H1 locs1 (cells + c1) (slots + s1) Z (F0 m (pc + 3) ls (rest))) : W p l e R s m args below meth c H locs cells slots Z (F0 m pc ls (va_rf x3 :: va_rf x2 :: .int x1 :: va_rf o :: rest)) := by
  subst ho
  obtain ⟨fs, hG⟩ := gCi_of hcv
  exact rg_v3w (va_runU (As := [.int x1, va_rf x2, va_rf x3]) (rest := rest) C.1 (hM V H.size G Q1 x0 x1 x2 x3 c1 s1) (va_cwO (C := "Shapelayer$Nested") 3 C.1.2.2.2.2 (lw_O hlink q1466 q1465 q1467 q1468 q94 q1469) rfl rfl rfl q1547 (by decide +kernel) ⟨hRf, hRl⟩) ⟨fun a U g mk q => by obtain ⟨q0, q1, qW, qK, qZ, qw⟩ := q; exact ⟨q0, q1, qW, xK.same (u := U) (U := U.calling g mk a) rfl qK, xZ.moved (u := U) (U := U.calling g mk a) (Vm.Alike.refl U.vm) qZ, qw⟩, (hW.recv C.2.1 hG (r := (RX11, TX11, 9)) (by rw [hci]; rfl)), fun U hU hWm => ⟨rfl, by rw [hU], by rw [hU]; exact hW.self _, C.2.1.warm hWm, xZ.call C.2.2.1 hW hS C.2.2.2 hU hWm.alike, h⟩⟩ rfl rfl hz rfl (lv_room hr8) hdg ⟨by omega, by omega⟩) hW hS C.2.2.2 (fun G1 H1 locs1 hp hW1 hS1 hF1 => kk G1 H1 locs1 hp hW1 hS1 hF1 (by omega) (by omega))
def w_X11_draw_35 (rc : XV → (GM → Prop) → Nat → Int32 → (Option Nat) → (Option Nat) → GM → Nat → Nat → Prop) (V : XV) (Q : GM → Prop) (x0 : Nat) (x1 : Int32) (x2 : Option Nat) (x3 : Option Nat) (y0 : Int32) (G : GM) (kc : Nat) (ks : Nat) : Prop := gGR G 26 (some x0) (fun v1 => gNw G 14 3 xdf_X19 kc ks (fun q2 G3 => w_X19_init V (fun G4 => gRcv G4 v1 (fun a5 c6 => (c6 % 64 = 2) ∧ (∃ c8 s9 : Nat, c8 ≤ (kc - 1) ∧ s9 ≤ (ks - 3) ∧ (rc V (fun G7 => Q G7) a5 y0 (some q2) x3 G4 c8 s9)))) q2 (some x0) x1 x2 G3))
def w_X11_draw (rc : XV → (GM → Prop) → Nat → Int32 → (Option Nat) → (Option Nat) → GM → Nat → Nat → Prop) (V : XV) (Q : GM → Prop) (x0 : Nat) (x1 : Int32) (x2 : Option Nat) (x3 : Option Nat) (G : GM) (kc : Nat) (ks : Nat) : Prop := gRcv G (some x0) (fun a10 c11 => (c11 % 64 = 5) ∧ (w_X5_hasKeys V (fun r12 => if r12 = 0 then (gGI G 19 (some x0) (fun v13 => w_X11_draw_35 rc V Q x0 x1 x2 x3 (x1 - v13) G kc ks)) else (gRcv G (some x0) (fun a14 c15 => (c15 % 64 = 5) ∧ (w_X5_value V (fun r16 => w_J13_min (fun r17 => w_J13_max (fun r18 => w_X11_draw_35 rc V Q x0 x1 x2 x3 r18 G kc ks) (0 : Int32) r17) (999 : Int32) r16) a14 (6 : Int32) x1 G)))) a10 (6 : Int32) G))
set_option maxRecDepth 100000 in
set_option maxHeartbeats 4000000 in
theorem wk_X11_draw {p : Program} {l : Launch} {e : Env} {R : Room} {s : State} {m : MethodId} {args : Array Value} {below : List Frame} {meth : Method} {c : Code} {Z : State → Prop} {A : Nat → Prop} {V : XV} {fr lo : Nat} (hB1 : 11 ≤ fr) (hB2 : 264 ≤ lo) {rc : XV → (GM → Prop) → Nat → Int32 → (Option Nat) → (Option Nat) → GM → Nat → Nat → Prop} (hrc : CT_X4_draw l fr lo rc) (Q : GM → Prop) (C : xC p m c s args cX11_draw 5 RX11 V A) (hRf : fr + 1 ≤ R.frames) (hRl : lo + 27 ≤ R.locals) (G : GM) (hret : ∀ (G : GM) (pc : Nat) (ls : Array Slot) (H : Heap) (locs : List Loc) (cells slots : Nat) {k1 k2 : Nat}, decode cX11_draw pc = .ok (.return_, 1) → xW V A G H → va_S A s.heap H locs → cells + k1 ≤ R.cells → slots + k2 ≤ R.slots → Q G → W p l e R s m args below meth c H locs cells slots Z (F0 m pc ls [])) (x0 : Nat) (x1 : Int32) (x2 : Option Nat) (x3 : Option Nat) (kc ks : Nat) : w_X11_draw rc V Q x0 x1 x2 x3 G kc ks → ∀ (ls : Array Slot) (H : Heap) (locs : List Loc) (cells slots : Nat), lv_has ls 5 [(0, va_rf (some x0)), (1, .int x1), (2, va_rf x2), (3, va_rf x3)] → xW V A G H → va_S A s.heap H locs → cells + kc ≤ R.cells → slots + ks ≤ R.slots → W p l e R s m args below meth c H locs cells slots Z (F0 m 0 ls []) := by
  have hx := C.1.1; have hb := C.1.2.1; have hml := C.1.2.2.1; have hown := C.1.2.2.2.1; have hts := C.1.2.2.2.2
  have hb35 : ∀ (y0 : Int32) (G : GM) (kc : Nat) (ks : Nat), w_X11_draw_35 rc V Q x0 x1 x2 x3 y0 G kc ks → ∀ (ls : Array Slot) (H : Heap) (locs : List Loc) (cells slots : Nat), lv_has ls 5 [(0, va_rf (some x0)), (1, .int x1), (2, va_rf x2), (3, va_rf x3)] → xW V A G H → va_S A s.heap H locs → cells + kc ≤ R.cells → slots + ks ≤ R.slots → W p l e R s m args below meth c H locs cells slots Z (F0 m 35 ls [.int y0]) := by
    intro y0 G kc ks h
    intro ls H locs cells slots hl hW hS hkc hks
    refine lv_istore (lv' := [(4, .int y0), (0, va_rf (some x0)), (1, .int x1), (2, va_rf x2), (3, va_rf x3)]) hx hb dX11_draw_35 hl (by decide) (by simp only [List.filter_cons, List.filter_nil, va_rf_cat]; rfl) (fun ls hl => ?_)
    refine sh_aload_n hx hb dX11_draw_37 rfl (lv_at hl 1 rfl) ?_
    obtain ⟨v1, h1, h⟩ := h
    refine sh_get C hW xFb_26 q1035 (fun _ h => h) h1 dX11_draw_38 ?_
    refine lv_iload hx hb dX11_draw_41 (lv_at hl 0 rfl) ?_
    refine sh_new C hW hS (ci := 14) rfl (by decide) q1481 q1482 q102 tyX19_ok xdf_X19_ok h hkc hks dX11_draw_43 (fun q2 G3 H hW hS h hkc hks => ?_)
    refine lv_dup hx hb dX11_draw_46 (va_rf_cat _) ?_
    refine sh_aload_n hx hb dX11_draw_47 rfl (lv_at hl 1 rfl) ?_
    refine lv_iload_n hx hb dX11_draw_48 rfl (lv_at hl 2 rfl) ?_
    refine sh_aload_n hx hb dX11_draw_49 rfl (lv_at hl 3 rfl) ?_
    refine call_X19_init_I (ct_X19_init l) C hW hS q1483 rfl (by omega) (by omega) ⟨Nat.le_trans (Nat.le_add_right _ _) hkc, Nat.le_trans (Nat.le_add_right _ _) hks⟩ hl.1 (by simp only [List.map_cons, List.map_nil, va_rf_cat]; exact Nat.le_of_ble_eq_true rfl) dX11_draw_50 h (fun G4 H locs h hW hS _ => ?_)
    refine sh_aload_n hx hb dX11_draw_53 rfl (lv_at hl 4 rfl) ?_
    obtain ⟨a5, c6, ho54, hcv54, h⟩ := h
    have hcc := h.1
    have h := h.2
    obtain ⟨c8, s9, hc54, hs54, h⟩ := h
    refine call_X4_draw_V hrc C hW hS q1500 ho54 hcv54 hcc (by omega) (by omega) hc54 hs54 hkc hks hl.1 (Nat.le_of_ble_eq_true rfl) dX11_draw_54 h (fun G7 H locs h hW hS _ hkc hks => ?_)
    exact hret _ _ _ _ _ _ _ dX11_draw_57 hW hS hkc hks h
  intro h
  intro ls H locs cells slots hl hW hS hkc hks
  refine sh_aload_n hx hb dX11_draw_0 rfl (lv_at hl 0 rfl) ?_
  refine lv_bipush (v := 6) hx hb dX11_draw_1 (by decide) ?_
  obtain ⟨a10, c11, ho3, hcv3, h⟩ := h
  have hcc := h.1
  have h := h.2
  refine call_X5_hasKeys_U5_Nested (ct_X5_hasKeys l) C hW hS q1470 ho3 hcv3 hcc (by omega) (by omega) ⟨Nat.le_trans (Nat.le_add_right _ _) hkc, Nat.le_trans (Nat.le_add_right _ _) hks⟩ hl.1 (Nat.le_of_ble_eq_true rfl) dX11_draw_3 h (fun r12 H locs h hW hS _ => ?_)
  refine lv_if_eq (tgt := 29) hx hb dX11_draw_6 (by decide) (fun c19 => ?_) (fun c19 => ?_)
  · have h := wif_t h c19
    refine lv_iload_n hx hb dX11_draw_29 rfl (lv_at hl 1 rfl) ?_
    refine sh_aload_n hx hb dX11_draw_30 rfl (lv_at hl 0 rfl) ?_
    obtain ⟨v13, h1, h⟩ := h
    refine sh_get C hW xFb_19 q849 (u_same (hts _ q850)) h1 dX11_draw_31 ?_
    refine lv_isub hx hb dX11_draw_34 ?_
    exact hb35 _ _ _ _ h ls H locs _ _ (lv_sub hl [0, 1, 2, 3] rfl) hW hS hkc hks
  · have h := wif_f h c19
    refine lv_iconst (v := 0) hx hb dX11_draw_9 (by decide) ?_
    refine lv_sipush (v := 999) hx hb dX11_draw_10 (by decide) ?_
    refine sh_aload_n hx hb dX11_draw_13 rfl (lv_at hl 0 rfl) ?_
    refine lv_bipush (v := 6) hx hb dX11_draw_14 (by decide) ?_
    refine lv_iload_n hx hb dX11_draw_16 rfl (lv_at hl 1 rfl) ?_
    obtain ⟨a14, c15, ho17, hcv17, h⟩ := h
    have hcc := h.1
    have h := h.2
    refine call_X5_value_U5_Nested (ct_X5_value l) C hW hS q1476 ho17 hcv17 hcc (by omega) (by omega) ⟨Nat.le_trans (Nat.le_add_right _ _) hkc, Nat.le_trans (Nat.le_add_right _ _) hks⟩ hl.1 (Nat.le_of_ble_eq_true rfl) dX11_draw_17 h (fun r16 H locs h hW hS _ => ?_)
    refine call_J13_min (ct_J13_min l) C.1 hS C.2.2.2 q1479 (by omega) (by omega) ⟨Nat.le_trans (Nat.le_add_right _ _) hkc, Nat.le_trans (Nat.le_add_right _ _) hks⟩ hl.1 (Nat.le_of_ble_eq_true rfl) dX11_draw_20 h (fun r17 H locs h hk hS => ?_)
    have hW := hW.kept hk
    refine call_J13_max (ct_J13_max l) C.1 hS C.2.2.2 q1480 (by omega) (by omega) ⟨Nat.le_trans (Nat.le_add_right _ _) hkc, Nat.le_trans (Nat.le_add_right _ _) hks⟩ hl.1 (Nat.le_of_ble_eq_true rfl) dX11_draw_23 h (fun r18 H locs h hk hS => ?_)
    have hW := hW.kept hk
    refine lv_goto (tgt := 35) hx hb dX11_draw_26 (by decide) ?_
    exact hb35 _ _ _ _ h ls H locs _ _ (lv_sub hl [0, 1, 2, 3] rfl) hW hS hkc hks
theorem ct_X11_draw (l : Launch) {fr lo : Nat} (hB1 : 11 ≤ fr) (hB2 : 264 ≤ lo) {rc : XV → (GM → Prop) → Nat → Int32 → (Option Nat) → (Option Nat) → GM → Nat → Nat → Prop} (hrc : CT_X4_draw l fr lo rc) : CT_X11_draw l (fr + 1) (lo + 27) (w_X11_draw rc) := by
  intro V sz G Q x0 x1 x2 x3 kc ks
  refine Met.ofW (cc := cX11_draw) (maxL := 5) (ret := none) (by decide) rfl ?_
  intro p e s m args below meth c s₁ B hml hv
  obtain ⟨rfl, hsz, hW, hK, hZ, h⟩ := hv
  subst hsz
  have hts := atoms_spec (ws := (ws_ yX11_draw cX11_draw 5 none)) B.pre
  have hts : ∀ w ∈ lw_all, w.before _ s = true := fun w h => hts w (List.mem_cons_of_mem _ h)
  have key : ∃ ls : Array Slot, entryFrame m ([.ref x0, .int x1, va_rf x2, va_rf x3] : List Value).toArray 5 = F0 m 0 ls [] ∧ lv_has ls 5 [(0, va_rf (some x0)), (1, .int x1), (2, va_rf x2), (3, va_rf x3)] := by
    cases x2 <;> cases x3 <;> (refine ⟨_, by rw [lg_entry_eq], ?_⟩; exact lv_entry _ (Nat.le_of_ble_eq_true rfl))
  obtain ⟨ls, hfr, hl⟩ := key
  rw [hfr]
  exact wk_X11_draw (hB1 := hB1) (hB2 := hB2) (hrc := hrc) Q ⟨⟨B.exec, B.bytes, hml, findClass_of_methodNamed B.named, hts⟩, hK, hZ, fun q h => Or.inr h⟩ (Nat.le_refl _) (Nat.le_refl _) G (fun G pc ls H locs cells slots _ _ hd hW1 hS hkc hks hQ => W.widen (k := kc) (n := ks) (Nat.le_trans (Nat.le_add_right _ _) hkc) (Nat.le_trans (Nat.le_add_right _ _) hks) (W.vret B.exec B.bytes B.returns (fun t ht _ => ⟨⟨G, rfl, hQ, by rw [← ht] at hW1; exact hW1⟩, hS.F ht⟩) hS.2.2 hd)) x0 x1 x2 x3 kc ks h ls _ [] 0 0 hl hW va_S.rf (by show 0 + kc ≤ kc; omega) (by show 0 + ks ≤ ks; omega)
def CT_X5_draw (l : Launch) (fr lo : Nat) (w : XV → (Prop) → Nat → Int32 → (Option Nat) → (Option Nat) → GM → Prop) : Prop := ∀ (V : XV) (sz : Nat) (G : GM) (Q : Prop) (x0 : Nat) (x1 : Int32) (x2 : Option Nat) (x3 : Option Nat), Met l yX5_draw (ws_ yX5_draw cX5_draw 4 none) { frames := fr, cells := 0, slots := 0, locals := lo } (va_Pc [.ref x0, .int x1, va_rf x2, va_rf x3] (fun U => U.heap.size = sz ∧ xW V (xA G sz) G U.heap ∧ xK V U ∧ xZ V (xA G sz) U U.heap ∧ w V Q x0 x1 x2 x3 G)) (va_Qv (fun (u : GM) => u = G ∧ Q) (fun u t => xW V (xA G sz) u t.heap) (xA G sz)) 0 0 (xA G sz)
theorem call_X5_draw_U6_Layer {p : Program} {l : Launch} {e : Env} {R : Room} {s : State} {m : MethodId} {args : Array Value} {below : List Frame} {meth : Method} {c : Code} {H : Heap} {locs : List Loc} {cells slots : Nat} {Z : State → Prop} {A : Nat → Prop} {cc : ByteArray} {nL pc : Nat} {ls : Array Slot} {rest : List Value} {own : String} {index fr lo : Nat} {w : XV → (Prop) → Nat → Int32 → (Option Nat) → (Option Nat) → GM → Prop} {V : XV} {G : GM} {o : Option Nat} {ci : Nat} {x0 : Nat} {x1 : Int32} {x2 : Option Nat} {x3 : Option Nat} (hM : CT_X5_draw l fr lo w) (C : xC p m c s args cc nL own V A) (hW : xW V A G H) (hS : va_S A s.heap H locs) (hlink : Cond.methodLink own index ⟨"Shapelayer$Layer", "draw", "(ILShapelayer$Outer;LShapelayer$Raster;)V"⟩ ∈ lw_all) (ho : o = some x0) (hcv : gCi G (some x0) = some ci) (hci : ci % 64 = 6) (hRf : fr + 1 ≤ R.frames) (hRl : 8 + (4 + 11) + lo ≤ R.locals) (hcs : cells ≤ R.cells ∧ slots ≤ R.slots) (hz : ls.size = nL) (hr8 : (rest.map fun v => v.category).sum ≤ 8) (hdg : decode cc pc = .ok (.invokevirtual index, 3)) {Q1 : Prop} (h : w V Q1 x0 x1 x2 x3 G) (kk : ∀ (H1 : Heap) (locs1 : List Loc), Q1 → xW V A G H1 → va_S A s.heap H1 locs1 → xFr V G G H H1 → W p l e R s m args below meth c H1 locs1 cells slots Z (F0 m (pc + 3) ls (rest))) : W p l e R s m args below meth c H locs cells slots Z (F0 m pc ls (va_rf x3 :: va_rf x2 :: .int x1 :: va_rf o :: rest)) := by
  subst ho
  obtain ⟨fs, hG⟩ := gCi_of hcv
  exact rg_v3r (va_runU (As := [.int x1, va_rf x2, va_rf x3]) (rest := rest) C.1 (hM V H.size G Q1 x0 x1 x2 x3) (va_cwU (C := "Shapelayer$Null") 3 C.1.2.2.2.2 (lw_U hlink q1466 q1501 q1465 q87 q1547) rfl rfl rfl rfl (by decide +kernel) ⟨hRf, hRl⟩) ⟨fun a U g mk q => by obtain ⟨q0, q1, qW, qK, qZ, qw⟩ := q; exact ⟨q0, q1, qW, xK.same (u := U) (U := U.calling g mk a) rfl qK, xZ.moved (u := U) (U := U.calling g mk a) (Vm.Alike.refl U.vm) qZ, qw⟩, (hW.recv C.2.1 hG (r := (RX12, TX12, 8)) (by rw [hci]; rfl)), fun U hU hWm => ⟨rfl, by rw [hU], by rw [hU]; exact hW.self _, C.2.1.warm hWm, xZ.call C.2.2.1 hW hS C.2.2.2 hU hWm.alike, h⟩⟩ rfl rfl hz rfl (lv_room hr8) hdg hcs) hW hS C.2.2.2 (fun H1 locs1 hp hW1 hS1 hF1 => kk H1 locs1 hp hW1 hS1 hF1)
def w_X5_draw (V : XV) (Q : Prop) (x0 : Nat) (x1 : Int32) (x2 : Option Nat) (x3 : Option Nat) (G : GM) : Prop := Q
set_option maxRecDepth 100000 in
set_option maxHeartbeats 4000000 in
theorem wk_X5_draw {p : Program} {l : Launch} {e : Env} {R : Room} {s : State} {m : MethodId} {args : Array Value} {below : List Frame} {meth : Method} {c : Code} {cells slots : Nat} {Z : State → Prop} {A : Nat → Prop} {V : XV} (Q : Prop) (C : xC p m c s args cX5_draw 4 RX5 V A) (hRf : 1 ≤ R.frames) (hRl : 20 ≤ R.locals) (hcs : cells ≤ R.cells ∧ slots ≤ R.slots) (G : GM) (hret : ∀ (pc : Nat) (ls : Array Slot) (H : Heap) (locs : List Loc), decode cX5_draw pc = .ok (.return_, 1) → xW V A G H → va_S A s.heap H locs → Q → W p l e R s m args below meth c H locs cells slots Z (F0 m pc ls [])) (x0 : Nat) (x1 : Int32) (x2 : Option Nat) (x3 : Option Nat) : w_X5_draw V Q x0 x1 x2 x3 G → ∀ (ls : Array Slot) (H : Heap) (locs : List Loc), lv_has ls 4 [(0, va_rf (some x0)), (1, .int x1), (2, va_rf x2), (3, va_rf x3)] → xW V A G H → va_S A s.heap H locs → W p l e R s m args below meth c H locs cells slots Z (F0 m 0 ls []) := by
  have hx := C.1.1; have hb := C.1.2.1; have hml := C.1.2.2.1; have hown := C.1.2.2.2.1; have hts := C.1.2.2.2.2
  intro h
  intro ls H locs hl hW hS
  exact hret  _ _ _ _ dX5_draw_0 hW hS h
theorem ct_X5_draw (l : Launch) : CT_X5_draw l 1 20 w_X5_draw := by
  intro V sz G Q x0 x1 x2 x3
  refine Met.ofW (cc := cX5_draw) (maxL := 4) (ret := none) (by decide) rfl ?_
  intro p e s m args below meth c s₁ B hml hv
  obtain ⟨rfl, hsz, hW, hK, hZ, h⟩ := hv
  subst hsz
  have hts := atoms_spec (ws := (ws_ yX5_draw cX5_draw 4 none)) B.pre
  have hts : ∀ w ∈ lw_all, w.before _ s = true := fun w h => hts w (List.mem_cons_of_mem _ h)
  have key : ∃ ls : Array Slot, entryFrame m ([.ref x0, .int x1, va_rf x2, va_rf x3] : List Value).toArray 4 = F0 m 0 ls [] ∧ lv_has ls 4 [(0, va_rf (some x0)), (1, .int x1), (2, va_rf x2), (3, va_rf x3)] := by
    cases x2 <;> cases x3 <;> (refine ⟨_, by rw [lg_entry_eq], ?_⟩; exact lv_entry _ (Nat.le_of_ble_eq_true rfl))
  obtain ⟨ls, hfr, hl⟩ := key
  rw [hfr]
  exact wk_X5_draw Q ⟨⟨B.exec, B.bytes, hml, findClass_of_methodNamed B.named, hts⟩, hK, hZ, fun q h => Or.inr h⟩ (Nat.le_refl _) (Nat.le_refl _) ⟨Nat.le_refl _, Nat.le_refl _⟩ G (fun pc ls H locs hd hW1 hS hQ => W.vret B.exec B.bytes B.returns (fun t ht _ => ⟨⟨G, rfl, ⟨rfl, hQ⟩, by rw [← ht] at hW1; exact hW1⟩, hS.F ht⟩) hS.2.2 hd) x0 x1 x2 x3 h ls _ [] hl hW va_S.rf
def CT_X7_isIn (l : Launch) (fr lo : Nat) (w : (Int32 → Prop) → Int32 → Int64 → Int64 → Prop) : Prop := ∀ (sz : Nat) (Q : Int32 → Prop) (x0 : Int32) (x1 : Int64) (x3 : Int64), Met l yX7_isIn (ws_ yX7_isIn cX7_isIn 7 (some .boolean)) { frames := fr, cells := 0, slots := 0, locals := lo } (va_Pc [.int x0, .long x1, .long x3] (fun U => U.heap.size = sz ∧ w Q x0 x1 x3)) (va_Qi (fun r (_ : Unit) => Q r) (fun _ _ => True) (mN sz)) 0 0 (mN sz)
theorem call_X7_isIn {p : Program} {l : Launch} {e : Env} {R : Room} {s : State} {m : MethodId} {args : Array Value} {below : List Frame} {meth : Method} {c : Code} {H : Heap} {locs : List Loc} {cells slots : Nat} {Z : State → Prop} {A : Nat → Prop} {cc : ByteArray} {nL pc : Nat} {ls : Array Slot} {rest : List Value} {own : String} {index fr lo : Nat} {w : (Int32 → Prop) → Int32 → Int64 → Int64 → Prop} {x0 : Int32} {x1 : Int64} {x3 : Int64} (hM : CT_X7_isIn l fr lo w) (S : CallFix p m c cc nL s args lw_all own) (hS : va_S A s.heap H locs) (hA : ∀ q, s.heap.size ≤ q → A q) (hlink : Cond.methodLink own index yX7_isIn ∈ lw_all) (hRf : fr + 1 ≤ R.frames) (hRl : 8 + (7 + 11) + lo ≤ R.locals) (hcs : cells ≤ R.cells ∧ slots ≤ R.slots) (hz : ls.size = nL) (hr8 : (rest.map fun v => v.category).sum ≤ 8) (hdg : decode cc pc = .ok (.invokestatic index, 3)) {Q1 : Int32 → Prop} (h : w Q1 x0 x1 x3) (kk : ∀ (r : Int32) (H1 : Heap) (locs1 : List Loc), Q1 r → (∀ q : Nat, q < H.size → H1[q]? = H[q]?) → va_S A s.heap H1 locs1 → W p l e R s m args below meth c H1 locs1 cells slots Z (F0 m (pc + 3) ls (.int r :: rest))) : W p l e R s m args below meth c H locs cells slots Z (F0 m pc ls (.long x3 :: .long x1 :: .int x0 :: rest)) := by
  exact ro_i (va_runS (As := [.int x0, .long x1, .long x3]) (rest := rest) S (hM H.size Q1 x0 x1 x3) (va_cwS 3 S.2.2.2.2 (lw_S hlink q1511 q89 q1512) rfl rfl rfl (by decide +kernel) ⟨hRf, hRl⟩) ⟨fun a U g mk q => by obtain ⟨q0, q1, qw⟩ := q; exact ⟨q0, q1, qw⟩, fun U hU hWm => ⟨rfl, by rw [hU], h⟩⟩ rfl rfl hz rfl (lv_room hr8) hdg hcs) hS hA (fun r H1 locs1 hp hz hk hS1 => kk r H1 locs1 hp hk hS1)
def w_X7_isIn (Q : Int32 → Prop) (x0 : Int32) (x1 : Int64) (x3 : Int64) : Prop := w_J13_min_2 (fun r1 => if (lg_cmp (((1000 : Int64) * (x0.toInt64)) + (500 : Int64)) r1) < 0 then (Q (0 : Int32)) else (w_J13_max_2 (fun r2 => if 0 ≤ (lg_cmp (((1000 : Int64) * (x0.toInt64)) + (500 : Int64)) r2) then (Q (0 : Int32)) else (Q (1 : Int32))) x1 x3)) x1 x3
set_option maxRecDepth 100000 in
set_option maxHeartbeats 4000000 in
theorem wk_X7_isIn {p : Program} {l : Launch} {e : Env} {R : Room} {s : State} {m : MethodId} {args : Array Value} {below : List Frame} {meth : Method} {c : Code} {cells slots : Nat} {Z : State → Prop} {A : Nat → Prop}  (Q : Int32 → Prop) (S : CallFix p m c cX7_isIn 7 s args lw_all RX7) (hA : ∀ q, s.heap.size ≤ q → A q) (hRf : 1 ≤ R.frames) (hRl : 23 ≤ R.locals) (hcs : cells ≤ R.cells ∧ slots ≤ R.slots) (hret : ∀ (v : Int32) (pc : Nat) (ls : Array Slot) (H : Heap) (locs : List Loc), decode cX7_isIn pc = .ok (.ireturn, 1) → va_S A s.heap H locs → isZ v → Q v → W p l e R s m args below meth c H locs cells slots Z (F0 m pc ls [.int v])) (x0 : Int32) (x1 : Int64) (x3 : Int64) : w_X7_isIn Q x0 x1 x3 → ∀ (ls : Array Slot) (H : Heap) (locs : List Loc), lv_has ls 7 [(0, .int x0), (1, .long x1), (3, .long x3)] → va_S A s.heap H locs → W p l e R s m args below meth c H locs cells slots Z (F0 m 0 ls []) := by
  obtain ⟨hx, hb, hml, hown, hts⟩ := S; have S : CallFix p m c cX7_isIn 7 s args lw_all RX7 := ⟨hx, hb, hml, hown, hts⟩
  intro h
  intro ls H locs hl hS
  refine lv_ldc2 hx hb hown (hts _ q1509) dX7_isIn_0 ?_
  refine lv_iload_n hx hb dX7_isIn_3 rfl (lv_at hl 0 rfl) ?_
  refine lv_i2l hx hb dX7_isIn_4 rfl ?_
  refine lv_lmul hx hb dX7_isIn_5 ?_
  refine lv_ldc2 hx hb hown (hts _ q1513) dX7_isIn_6 ?_
  refine lv_ladd hx hb dX7_isIn_9 ?_
  refine lv_lstore (lv' := [(5, .long (((1000 : Int64) * (x0.toInt64)) + (500 : Int64))), (0, .int x0), (1, .long x1), (3, .long x3)]) hx hb dX7_isIn_10 hl (by decide) rfl (fun ls hl => ?_)
  refine lv_lload hx hb dX7_isIn_12 (lv_at hl 0 rfl) ?_
  refine lv_lload_n hx hb dX7_isIn_14 rfl (lv_at hl 2 rfl) ?_
  refine lv_lload_n hx hb dX7_isIn_15 rfl (lv_at hl 3 rfl) ?_
  refine call_J13_min_2 (ct_J13_min_2 l) S hS hA q1514 (le_lit hRf rfl) (le_lit hRl rfl) hcs hl.1 (Nat.le_of_ble_eq_true rfl) dX7_isIn_16 h (fun r1 H locs h hk hS => ?_)
  refine W.lcmp hx hb dX7_isIn_19 ?_
  refine lv_if_lt (tgt := 38) hx hb dX7_isIn_20 (by decide) (fun c4 => ?_) (fun c4 => ?_)
  · have h := wif_t h c4
    refine lv_iconst (v := 0) hx hb dX7_isIn_38 (by decide) ?_
    exact hret _ _ _ _ _ dX7_isIn_39 hS isZ_0 h
  · have h := wif_f h c4
    refine lv_lload hx hb dX7_isIn_23 (lv_at hl 0 rfl) ?_
    refine lv_lload_n hx hb dX7_isIn_25 rfl (lv_at hl 2 rfl) ?_
    refine lv_lload_n hx hb dX7_isIn_26 rfl (lv_at hl 3 rfl) ?_
    refine call_J13_max_2 (ct_J13_max_2 l) S hS hA q1515 (le_lit hRf rfl) (le_lit hRl rfl) hcs hl.1 (Nat.le_of_ble_eq_true rfl) dX7_isIn_27 h (fun r2 H locs h hk hS => ?_)
    refine W.lcmp hx hb dX7_isIn_30 ?_
    refine lv_if_ge (tgt := 38) hx hb dX7_isIn_31 (by decide) (fun c3 => ?_) (fun c3 => ?_)
    · have h := wif_t h c3
      refine lv_iconst (v := 0) hx hb dX7_isIn_38 (by decide) ?_
      exact hret _ _ _ _ _ dX7_isIn_39 hS isZ_0 h
    · have h := wif_f h c3
      refine lv_iconst (v := 1) hx hb dX7_isIn_34 (by decide) ?_
      refine lv_goto (tgt := 39) hx hb dX7_isIn_35 (by decide) ?_
      exact hret _ _ _ _ _ dX7_isIn_39 hS isZ_1 h
theorem ct_X7_isIn (l : Launch) : CT_X7_isIn l 1 23 w_X7_isIn := by
  intro sz Q x0 x1 x3
  refine Met.ofW (cc := cX7_isIn) (maxL := 7) (ret := (some .boolean)) (by decide) rfl ?_
  intro p e s m args below meth c s₁ B hml hv
  obtain ⟨rfl, hsz, h⟩ := hv
  subst hsz
  have hts := atoms_spec (ws := ws_ yX7_isIn cX7_isIn 7 (some .boolean)) B.pre
  have hts : ∀ w ∈ lw_all, w.before _ s = true := fun w h => hts w (List.mem_cons_of_mem _ h)
  have hl := lv_entry ([.int x0, .long x1, .long x3]) (n := 7) (Nat.le_of_ble_eq_true rfl)
  rw [lg_entry_eq]
  generalize (lg_sl ([.int x0, .long x1, .long x3]) ++ List.replicate (7 - (lg_sl ([.int x0, .long x1, .long x3])).length) Slot.unset).toArray = ls at hl ⊢
  exact wk_X7_isIn Q ⟨B.exec, B.bytes, hml, findClass_of_methodNamed B.named, hts⟩ (fun q h => h) (Nat.le_refl _) (Nat.le_refl _) ⟨Nat.le_refl _, Nat.le_refl _⟩ (fun v pc ls H locs hd hS hz hQ => W.zret (v := v) B.exec B.bytes B.returns hz.nar (fun t ht _ => ⟨⟨v, (), rfl, hQ, trivial⟩, hS.F ht⟩) hS.2.2 hd) x0 x1 x3 h ls _ [] hl va_S.rf
def CT_X2_put (l : Launch) (fr lo : Nat) (w : XV → (GM → Prop) → Nat → Int32 → Int32 → Int32 → GM → Prop) : Prop := ∀ (V : XV) (sz : Nat) (G : GM) (Q : GM → Prop) (x0 : Nat) (x1 : Int32) (x2 : Int32) (x3 : Int32), Met l yX2_put (ws_ yX2_put cX2_put 4 none) { frames := fr, cells := 0, slots := 0, locals := lo } (va_Pc [.ref x0, .int x1, .int x2, .int x3] (fun U => U.heap.size = sz ∧ xW V (xA G sz) G U.heap ∧ xK V U ∧ xZ V (xA G sz) U U.heap ∧ w V Q x0 x1 x2 x3 G)) (va_Qv (fun (u : GM) => Q u) (fun u t => xW V (xA G sz) u t.heap) (xA G sz)) 0 0 (xA G sz)
theorem call_X2_put_V {p : Program} {l : Launch} {e : Env} {R : Room} {s : State} {m : MethodId} {args : Array Value} {below : List Frame} {meth : Method} {c : Code} {H : Heap} {locs : List Loc} {cells slots : Nat} {Z : State → Prop} {A : Nat → Prop} {cc : ByteArray} {nL pc : Nat} {ls : Array Slot} {rest : List Value} {own : String} {index fr lo : Nat} {w : XV → (GM → Prop) → Nat → Int32 → Int32 → Int32 → GM → Prop} {V : XV} {G : GM} {o : Option Nat} {ci : Nat} {x0 : Nat} {x1 : Int32} {x2 : Int32} {x3 : Int32} (hM : CT_X2_put l fr lo w) (C : xC p m c s args cc nL own V A) (hW : xW V A G H) (hS : va_S A s.heap H locs) (hlink : Cond.methodLink own index yX2_put ∈ lw_all) (ho : o = some x0) (hcv : gCi G (some x0) = some ci) (hci : ci % 64 = 1) (hRf : fr + 1 ≤ R.frames) (hRl : 8 + (4 + 11) + lo ≤ R.locals) (hcs : cells ≤ R.cells ∧ slots ≤ R.slots) (hz : ls.size = nL) (hr8 : (rest.map fun v => v.category).sum ≤ 8) (hdg : decode cc pc = .ok (.invokevirtual index, 3)) {Q1 : GM → Prop} (h : w V Q1 x0 x1 x2 x3 G) (kk : ∀ (G1 : GM) (H1 : Heap) (locs1 : List Loc), Q1 G1 → xW V A G1 H1 → va_S A s.heap H1 locs1 → xFr V G G1 H H1 → W p l e R s m args below meth c H1 locs1 cells slots Z (F0 m (pc + 3) ls (rest))) : W p l e R s m args below meth c H locs cells slots Z (F0 m pc ls (.int x3 :: .int x2 :: .int x1 :: va_rf o :: rest)) := by
  subst ho
  obtain ⟨fs, hG⟩ := gCi_of hcv
  exact rg_v3w (va_runV (As := [.int x1, .int x2, .int x3]) (rest := rest) C.1 (hM V H.size G Q1 x0 x1 x2 x3) (cwV 3 C.1.2.2.2.2 (lw_V hlink q1517 q1518 q67 q1519) rfl rfl rfl (by decide +kernel) ⟨hRf, hRl⟩) ⟨fun a U g mk q => by obtain ⟨q0, q1, qW, qK, qZ, qw⟩ := q; exact ⟨q0, q1, qW, xK.same (u := U) (U := U.calling g mk a) rfl qK, xZ.moved (u := U) (U := U.calling g mk a) (Vm.Alike.refl U.vm) qZ, qw⟩, (hW.recv C.2.1 hG (r := (RX2, TX2, 5)) (by rw [hci]; rfl)), fun U hU hWm => ⟨rfl, by rw [hU], by rw [hU]; exact hW.self _, C.2.1.warm hWm, xZ.call C.2.2.1 hW hS C.2.2.2 hU hWm.alike, h⟩⟩ rfl rfl hz rfl (lv_room hr8) hdg hcs) hW hS C.2.2.2 (fun G1 H1 locs1 hp hW1 hS1 hF1 => kk G1 H1 locs1 hp hW1 hS1 hF1)
def w_X2_put (V : XV) (Q : GM → Prop) (x0 : Nat) (x1 : Int32) (x2 : Int32) (x3 : Int32) (G : GM) : Prop := gGR G 6 (some x0) (fun v1 => gIS G 2 v1 (((16 : Int32) * x2) + x1) (vp_nar .byte (x3.toInt8.toInt32)) (fun G2 => Q G2))
set_option maxRecDepth 100000 in
set_option maxHeartbeats 4000000 in
theorem wk_X2_put {p : Program} {l : Launch} {e : Env} {R : Room} {s : State} {m : MethodId} {args : Array Value} {below : List Frame} {meth : Method} {c : Code} {cells slots : Nat} {Z : State → Prop} {A : Nat → Prop} {V : XV} (Q : GM → Prop) (C : xC p m c s args cX2_put 4 RX2 V A) (hRf : 1 ≤ R.frames) (hRl : 20 ≤ R.locals) (hcs : cells ≤ R.cells ∧ slots ≤ R.slots) (G : GM) (hret : ∀ (G : GM) (pc : Nat) (ls : Array Slot) (H : Heap) (locs : List Loc), decode cX2_put pc = .ok (.return_, 1) → xW V A G H → va_S A s.heap H locs → Q G → W p l e R s m args below meth c H locs cells slots Z (F0 m pc ls [])) (x0 : Nat) (x1 : Int32) (x2 : Int32) (x3 : Int32) : w_X2_put V Q x0 x1 x2 x3 G → ∀ (ls : Array Slot) (H : Heap) (locs : List Loc), lv_has ls 4 [(0, va_rf (some x0)), (1, .int x1), (2, .int x2), (3, .int x3)] → xW V A G H → va_S A s.heap H locs → W p l e R s m args below meth c H locs cells slots Z (F0 m 0 ls []) := by
  have hx := C.1.1; have hb := C.1.2.1; have hml := C.1.2.2.1; have hown := C.1.2.2.2.1; have hts := C.1.2.2.2.2
  intro h
  intro ls H locs hl hW hS
  refine sh_aload_n hx hb dX2_put_0 rfl (lv_at hl 0 rfl) ?_
  obtain ⟨v1, h1, h⟩ := h
  refine sh_get C hW xFb_6 q179 (fun _ h => h) h1 dX2_put_1 ?_
  refine lv_bipush (v := 16) hx hb dX2_put_4 (by decide) ?_
  refine lv_iload_n hx hb dX2_put_6 rfl (lv_at hl 2 rfl) ?_
  refine lv_imul hx hb dX2_put_7 ?_
  refine lv_iload_n hx hb dX2_put_8 rfl (lv_at hl 1 rfl) ?_
  refine lv_iadd hx hb dX2_put_9 ?_
  refine lv_iload_n hx hb dX2_put_10 rfl (lv_at hl 3 rfl) ?_
  refine lv_i2b hx hb dX2_put_11 rfl ?_
  refine sh_bast C hW hS h dX2_put_12 (fun G2 H locs hW hS h => ?_)
  exact hret _ _ _ _ _ dX2_put_13 hW hS h
theorem ct_X2_put (l : Launch) : CT_X2_put l 1 20 w_X2_put := by
  intro V sz G Q x0 x1 x2 x3
  refine Met.ofW (cc := cX2_put) (maxL := 4) (ret := none) (by decide) rfl ?_
  intro p e s m args below meth c s₁ B hml hv
  obtain ⟨rfl, hsz, hW, hK, hZ, h⟩ := hv
  subst hsz
  have hts := atoms_spec (ws := (ws_ yX2_put cX2_put 4 none)) B.pre
  have hts : ∀ w ∈ lw_all, w.before _ s = true := fun w h => hts w (List.mem_cons_of_mem _ h)
  have hl := lv_entry ([.ref x0, .int x1, .int x2, .int x3]) (n := 4) (Nat.le_of_ble_eq_true rfl)
  rw [lg_entry_eq]
  generalize (lg_sl ([.ref x0, .int x1, .int x2, .int x3]) ++ List.replicate (4 - (lg_sl ([.ref x0, .int x1, .int x2, .int x3])).length) Slot.unset).toArray = ls at hl ⊢
  exact wk_X2_put Q ⟨⟨B.exec, B.bytes, hml, findClass_of_methodNamed B.named, hts⟩, hK, hZ, fun q h => Or.inr h⟩ (Nat.le_refl _) (Nat.le_refl _) ⟨Nat.le_refl _, Nat.le_refl _⟩ G (fun G pc ls H locs hd hW1 hS hQ => W.vret B.exec B.bytes B.returns (fun t ht _ => ⟨⟨G, rfl, hQ, by rw [← ht] at hW1; exact hW1⟩, hS.F ht⟩) hS.2.2 hd) x0 x1 x2 x3 h ls _ [] hl hW va_S.rf
def CT_X7_draw (l : Launch) (fr lo : Nat) (w : XV → (GM → Prop) → Nat → Int32 → (Option Nat) → (Option Nat) → GM → Prop) : Prop := ∀ (V : XV) (sz : Nat) (G : GM) (Q : GM → Prop) (x0 : Nat) (x1 : Int32) (x2 : Option Nat) (x3 : Option Nat), Met l yX7_draw (ws_ yX7_draw cX7_draw 8 none) { frames := fr, cells := 0, slots := 0, locals := lo } (va_Pc [.ref x0, .int x1, va_rf x2, va_rf x3] (fun U => U.heap.size = sz ∧ xW V (xA G sz) G U.heap ∧ xK V U ∧ xZ V (xA G sz) U U.heap ∧ w V Q x0 x1 x2 x3 G)) (va_Qv (fun (u : GM) => Q u) (fun u t => xW V (xA G sz) u t.heap) (xA G sz)) 0 0 (xA G sz)
theorem call_X7_draw_O3_Layer {p : Program} {l : Launch} {e : Env} {R : Room} {s : State} {m : MethodId} {args : Array Value} {below : List Frame} {meth : Method} {c : Code} {H : Heap} {locs : List Loc} {cells slots : Nat} {Z : State → Prop} {A : Nat → Prop} {cc : ByteArray} {nL pc : Nat} {ls : Array Slot} {rest : List Value} {own : String} {index fr lo : Nat} {w : XV → (GM → Prop) → Nat → Int32 → (Option Nat) → (Option Nat) → GM → Prop} {V : XV} {G : GM} {o : Option Nat} {ci : Nat} {x0 : Nat} {x1 : Int32} {x2 : Option Nat} {x3 : Option Nat} (hM : CT_X7_draw l fr lo w) (C : xC p m c s args cc nL own V A) (hW : xW V A G H) (hS : va_S A s.heap H locs) (hlink : Cond.methodLink own index ⟨"Shapelayer$Layer", "draw", "(ILShapelayer$Outer;LShapelayer$Raster;)V"⟩ ∈ lw_all) (ho : o = some x0) (hcv : gCi G (some x0) = some ci) (hci : ci % 64 = 3) (hRf : fr + 1 ≤ R.frames) (hRl : 8 + (8 + 11) + lo ≤ R.locals) (hcs : cells ≤ R.cells ∧ slots ≤ R.slots) (hz : ls.size = nL) (hr8 : (rest.map fun v => v.category).sum ≤ 8) (hdg : decode cc pc = .ok (.invokevirtual index, 3)) {Q1 : GM → Prop} (h : w V Q1 x0 x1 x2 x3 G) (kk : ∀ (G1 : GM) (H1 : Heap) (locs1 : List Loc), Q1 G1 → xW V A G1 H1 → va_S A s.heap H1 locs1 → xFr V G G1 H H1 → W p l e R s m args below meth c H1 locs1 cells slots Z (F0 m (pc + 3) ls (rest))) : W p l e R s m args below meth c H locs cells slots Z (F0 m pc ls (va_rf x3 :: va_rf x2 :: .int x1 :: va_rf o :: rest)) := by
  subst ho
  obtain ⟨fs, hG⟩ := gCi_of hcv
  exact rg_v3w (va_runU (As := [.int x1, va_rf x2, va_rf x3]) (rest := rest) C.1 (hM V H.size G Q1 x0 x1 x2 x3) (va_cwO (C := "Shapelayer$Rect") 3 C.1.2.2.2.2 (lw_O hlink q1466 q1465 q1502 q1503 q89 q1504) rfl rfl rfl q1547 (by decide +kernel) ⟨hRf, hRl⟩) ⟨fun a U g mk q => by obtain ⟨q0, q1, qW, qK, qZ, qw⟩ := q; exact ⟨q0, q1, qW, xK.same (u := U) (U := U.calling g mk a) rfl qK, xZ.moved (u := U) (U := U.calling g mk a) (Vm.Alike.refl U.vm) qZ, qw⟩, (hW.recv C.2.1 hG (r := (RX7, TX7, 11)) (by rw [hci]; rfl)), fun U hU hWm => ⟨rfl, by rw [hU], by rw [hU]; exact hW.self _, C.2.1.warm hWm, xZ.call C.2.2.1 hW hS C.2.2.2 hU hWm.alike, h⟩⟩ rfl rfl hz rfl (lv_room hr8) hdg hcs) hW hS C.2.2.2 (fun G1 H1 locs1 hp hW1 hS1 hF1 => kk G1 H1 locs1 hp hW1 hS1 hF1)
def w_X7_draw_112 (V : XV) (Q : GM → Prop) (rec51 : Int32 → GM → Prop) (rec61 : Int32 → GM → Prop) (x0 : Nat) (x3 : Option Nat) (x4 : Option Nat) (x5 : Option Nat) (x6 : Int32) (x7 : Int32) (G : GM) : Prop := rec61 (x7 + (1 : Int32)) G
def w_X7_draw_h61 (V : XV) (Q : GM → Prop) (rec51 : Int32 → GM → Prop) (x0 : Nat) (x3 : Option Nat) (x4 : Option Nat) (x5 : Option Nat) (x6 : Int32) (rec61 : Int32 → GM → Prop) (x7 : Int32) (G : GM) : Prop := if (16 : Int32) ≤ x7 then (rec51 (x6 + (1 : Int32)) G) else (gJL G 1 x4 (0 : Int32) (fun v1 => gJL G 1 x5 (0 : Int32) (fun v2 => w_X7_isIn (fun r3 => if r3 = 0 then (w_X7_draw_112 V Q rec51 rec61 x0 x3 x4 x5 x6 x7 G) else (gJL G 1 x4 (1 : Int32) (fun v4 => gJL G 1 x5 (1 : Int32) (fun v5 => w_X7_isIn (fun r6 => if r6 = 0 then (w_X7_draw_112 V Q rec51 rec61 x0 x3 x4 x5 x6 x7 G) else (gGI G 21 (some x0) (fun v7 => gRcv G x3 (fun a8 c9 => (c9 % 64 = 1) ∧ (w_X2_put V (fun G10 => w_X7_draw_112 V Q rec51 rec61 x0 x3 x4 x5 x6 x7 G10) a8 x7 x6 v7 G))))) x6 v4 v5)))) x7 v1 v2)))
def w_X7_draw_L61 (V : XV) (Q : GM → Prop) (rec51 : Int32 → GM → Prop) (x0 : Nat) (x3 : Option Nat) (x4 : Option Nat) (x5 : Option Nat) (x6 : Int32) (x7 : Int32) (G : GM) : Prop := wLoop (fun (rec : (Int32 × GM) → Prop) (s : Int32 × GM) => w_X7_draw_h61 V Q rec51 x0 x3 x4 x5 x6 (fun x7 G => rec (x7, G)) s.1 s.2) (x7, G)
def w_X7_draw_h51 (V : XV) (Q : GM → Prop) (x0 : Nat) (x3 : Option Nat) (x4 : Option Nat) (x5 : Option Nat) (rec51 : Int32 → GM → Prop) (x6 : Int32) (G : GM) : Prop := if (12 : Int32) ≤ x6 then (Q G) else (w_X7_draw_L61 V Q rec51 x0 x3 x4 x5 x6 (0 : Int32) G)
def w_X7_draw_L51 (V : XV) (Q : GM → Prop) (x0 : Nat) (x3 : Option Nat) (x4 : Option Nat) (x5 : Option Nat) (x6 : Int32) (G : GM) : Prop := wLoop (fun (rec : (Int32 × GM) → Prop) (s : Int32 × GM) => w_X7_draw_h51 V Q x0 x3 x4 x5 (fun x6 G => rec (x6, G)) s.1 s.2) (x6, G)
def w_X7_draw (V : XV) (Q : GM → Prop) (x0 : Nat) (x1 : Int32) (x2 : Option Nat) (x3 : Option Nat) (G : GM) : Prop := gGR G 7 x3 (fun v15 => gGR G 8 x3 (fun v16 => gRcv G (some x0) (fun a17 c18 => (c18 % 64 = 3) ∧ (w_X5_map V (fun G19 => gGI G19 22 (some x0) (fun v20 => gGI G19 23 (some x0) (fun v21 => gRcv G19 (some x0) (fun a22 c23 => (c23 % 64 = 3) ∧ (w_X5_map V (fun G24 => w_X7_draw_L51 V Q x0 x3 v15 v16 (0 : Int32) G24) a22 x1 x2 ((1000 : Int64) * (v20.toInt64)) ((1000 : Int64) * (v21.toInt64)) v16 G19))))) a17 x1 x2 (0 : Int64) (0 : Int64) v15 G))))
set_option maxRecDepth 100000 in
set_option maxHeartbeats 4000000 in
theorem wk_X7_draw {p : Program} {l : Launch} {e : Env} {R : Room} {s : State} {m : MethodId} {args : Array Value} {below : List Frame} {meth : Method} {c : Code} {cells slots : Nat} {Z : State → Prop} {A : Nat → Prop} {V : XV} (Q : GM → Prop) (C : xC p m c s args cX7_draw 8 RX7 V A) (hRf : 10 ≤ R.frames) (hRl : 228 ≤ R.locals) (hcs : cells ≤ R.cells ∧ slots ≤ R.slots) (G : GM) (hret : ∀ (G : GM) (pc : Nat) (ls : Array Slot) (H : Heap) (locs : List Loc), decode cX7_draw pc = .ok (.return_, 1) → xW V A G H → va_S A s.heap H locs → Q G → W p l e R s m args below meth c H locs cells slots Z (F0 m pc ls [])) (x0 : Nat) (x1 : Int32) (x2 : Option Nat) (x3 : Option Nat) : w_X7_draw V Q x0 x1 x2 x3 G → ∀ (ls : Array Slot) (H : Heap) (locs : List Loc), lv_has ls 8 [(0, va_rf (some x0)), (1, .int x1), (2, va_rf x2), (3, va_rf x3)] → xW V A G H → va_S A s.heap H locs → W p l e R s m args below meth c H locs cells slots Z (F0 m 0 ls []) := by
  have hx := C.1.1; have hb := C.1.2.1; have hml := C.1.2.2.1; have hown := C.1.2.2.2.1; have hts := C.1.2.2.2.2
  have hL51 : ∀ (x4 : Option Nat) (x5 : Option Nat) (x6 : Int32) (G : GM), w_X7_draw_L51 V Q x0 x3 x4 x5 x6 G → ∀ (ls : Array Slot) (H : Heap) (locs : List Loc), lv_has ls 8 [(0, va_rf (some x0)), (3, va_rf x3), (4, va_rf x4), (5, va_rf x5), (6, .int x6)] → xW V A G H → va_S A s.heap H locs → W p l e R s m args below meth c H locs cells slots Z (F0 m 51 ls []) := by
    intro x4 x5
    obtain ⟨GG51, hG51⟩ : ∃ GG : Int32 → GM → Prop, ∀ (x6 : Int32) (G : GM), GG x6 G ↔ (∀ (ls : Array Slot) (H : Heap) (locs : List Loc), lv_has ls 8 [(0, va_rf (some x0)), (3, va_rf x3), (4, va_rf x4), (5, va_rf x5), (6, .int x6)] → xW V A G H → va_S A s.heap H locs → W p l e R s m args below meth c H locs cells slots Z (F0 m 51 ls [])) := ⟨fun x6 G => _, fun x6 G => Iff.rfl⟩
    have hB51 : ∀ (rec51 : Int32 → GM → Prop), (∀ (x6 : Int32) (G : GM), rec51 x6 G → GG51 x6 G) → ∀ (x6 : Int32) (G : GM), w_X7_draw_h51 V Q x0 x3 x4 x5 rec51 x6 G → GG51 x6 G := by
      intro rec51 hrec51
      have hL61 : ∀ (x6 : Int32) (x7 : Int32) (G : GM), w_X7_draw_L61 V Q rec51 x0 x3 x4 x5 x6 x7 G → ∀ (ls : Array Slot) (H : Heap) (locs : List Loc), lv_has ls 8 [(0, va_rf (some x0)), (3, va_rf x3), (4, va_rf x4), (5, va_rf x5), (6, .int x6), (7, .int x7)] → xW V A G H → va_S A s.heap H locs → W p l e R s m args below meth c H locs cells slots Z (F0 m 61 ls []) := by
        intro x6
        obtain ⟨GG61, hG61⟩ : ∃ GG : Int32 → GM → Prop, ∀ (x7 : Int32) (G : GM), GG x7 G ↔ (∀ (ls : Array Slot) (H : Heap) (locs : List Loc), lv_has ls 8 [(0, va_rf (some x0)), (3, va_rf x3), (4, va_rf x4), (5, va_rf x5), (6, .int x6), (7, .int x7)] → xW V A G H → va_S A s.heap H locs → W p l e R s m args below meth c H locs cells slots Z (F0 m 61 ls [])) := ⟨fun x7 G => _, fun x7 G => Iff.rfl⟩
        have hB61 : ∀ (rec61 : Int32 → GM → Prop), (∀ (x7 : Int32) (G : GM), rec61 x7 G → GG61 x7 G) → ∀ (x7 : Int32) (G : GM), w_X7_draw_h61 V Q rec51 x0 x3 x4 x5 x6 rec61 x7 G → GG61 x7 G := by
          intro rec61 hrec61
          have hb112 : ∀ (x7 : Int32) (G : GM), w_X7_draw_112 V Q rec51 rec61 x0 x3 x4 x5 x6 x7 G → ∀ (ls : Array Slot) (H : Heap) (locs : List Loc), lv_has ls 8 [(0, va_rf (some x0)), (3, va_rf x3), (4, va_rf x4), (5, va_rf x5), (6, .int x6), (7, .int x7)] → xW V A G H → va_S A s.heap H locs → W p l e R s m args below meth c H locs cells slots Z (F0 m 112 ls []) := by
            intro x7 G h
            intro ls H locs hl hW hS
            refine lv_iinc (v := x7 + (1 : Int32)) (lv' := [(7, .int (x7 + (1 : Int32))), (0, va_rf (some x0)), (3, va_rf x3), (4, va_rf x4), (5, va_rf x5), (6, .int x6)]) hx hb dX7_draw_112 hl (k := 5) rfl (congrArg (fun z => x7 + z) (by decide)) (by decide) rfl (fun ls hl => ?_)
            refine lv_goto (tgt := 61) hx hb dX7_draw_115 (by decide) ?_
            exact (hG61 _ _).mp (hrec61 _ _ h) ls H locs (lv_sub hl [1, 2, 3, 4, 5, 0] rfl) hW hS
          intro x7 G h
          rw [hG61]
          intro ls H locs hl hW hS
          refine lv_iload hx hb dX7_draw_61 (lv_at hl 5 rfl) ?_
          refine lv_bipush (v := 16) hx hb dX7_draw_63 (by decide) ?_
          refine lv_icmp_ge (tgt := 118) hx hb dX7_draw_65 (by decide) (fun c13 => ?_) (fun c13 => ?_)
          · have h := wif_t h c13
            refine lv_iinc (v := x6 + (1 : Int32)) (lv' := [(6, .int (x6 + (1 : Int32))), (0, va_rf (some x0)), (3, va_rf x3), (4, va_rf x4), (5, va_rf x5), (7, .int x7)]) hx hb dX7_draw_118 hl (k := 4) rfl (congrArg (fun z => x6 + z) (by decide)) (by decide) (by simp only [List.filter_cons, List.filter_nil, va_rf_cat]; rfl) (fun ls hl => ?_)
            refine lv_goto (tgt := 51) hx hb dX7_draw_121 (by decide) ?_
            exact (hG51 _ _).mp (hrec51 _ _ h) ls H locs (lv_sub hl [1, 2, 3, 4, 0] rfl) hW hS
          · have h := wif_f h c13
            refine lv_iload hx hb dX7_draw_68 (lv_at hl 5 rfl) ?_
            refine sh_aload hx hb dX7_draw_70 (lv_at hl 2 rfl) ?_
            refine lv_iconst (v := 0) hx hb dX7_draw_72 (by decide) ?_
            refine sh_lald C hW h dX7_draw_73 (fun v1 h => ?_)
            refine sh_aload hx hb dX7_draw_74 (lv_at hl 3 rfl) ?_
            refine lv_iconst (v := 0) hx hb dX7_draw_76 (by decide) ?_
            refine sh_lald C hW h dX7_draw_77 (fun v2 h => ?_)
            refine call_X7_isIn (ct_X7_isIn l) C.1 hS C.2.2.2 q1510 (le_lit hRf rfl) (le_lit hRl rfl) hcs hl.1 (Nat.le_of_ble_eq_true rfl) dX7_draw_78 h (fun r3 H locs h hk hS => ?_)
            have hW := hW.kept hk
            refine lv_if_eq (tgt := 112) hx hb dX7_draw_81 (by decide) (fun c12 => ?_) (fun c12 => ?_)
            · have h := wif_t h c12
              exact hb112 _ _ h ls H locs (lv_sub hl [0, 1, 2, 3, 4, 5] rfl) hW hS
            · have h := wif_f h c12
              refine lv_iload hx hb dX7_draw_84 (lv_at hl 4 rfl) ?_
              refine sh_aload hx hb dX7_draw_86 (lv_at hl 2 rfl) ?_
              refine lv_iconst (v := 1) hx hb dX7_draw_88 (by decide) ?_
              refine sh_lald C hW h dX7_draw_89 (fun v4 h => ?_)
              refine sh_aload hx hb dX7_draw_90 (lv_at hl 3 rfl) ?_
              refine lv_iconst (v := 1) hx hb dX7_draw_92 (by decide) ?_
              refine sh_lald C hW h dX7_draw_93 (fun v5 h => ?_)
              refine call_X7_isIn (ct_X7_isIn l) C.1 hS C.2.2.2 q1510 (le_lit hRf rfl) (le_lit hRl rfl) hcs hl.1 (Nat.le_of_ble_eq_true rfl) dX7_draw_94 h (fun r6 H locs h hk hS => ?_)
              have hW := hW.kept hk
              refine lv_if_eq (tgt := 112) hx hb dX7_draw_97 (by decide) (fun c11 => ?_) (fun c11 => ?_)
              · have h := wif_t h c11
                exact hb112 _ _ h ls H locs (lv_sub hl [0, 1, 2, 3, 4, 5] rfl) hW hS
              · have h := wif_f h c11
                refine sh_aload_n hx hb dX7_draw_100 rfl (lv_at hl 1 rfl) ?_
                refine lv_iload hx hb dX7_draw_101 (lv_at hl 5 rfl) ?_
                refine lv_iload hx hb dX7_draw_103 (lv_at hl 4 rfl) ?_
                refine sh_aload_n hx hb dX7_draw_105 rfl (lv_at hl 0 rfl) ?_
                obtain ⟨v7, h1, h⟩ := h
                refine sh_get C hW xFb_21 q831 (u_same (hts _ q832)) h1 dX7_draw_106 ?_
                obtain ⟨a8, c9, ho109, hcv109, h⟩ := h
                have hcc := h.1
                have h := h.2
                refine call_X2_put_V (ct_X2_put l) C hW hS q1516 ho109 hcv109 hcc (le_lit hRf rfl) (le_lit hRl rfl) hcs hl.1 (Nat.le_of_ble_eq_true rfl) dX7_draw_109 h (fun G10 H locs h hW hS _ => ?_)
                exact hb112 _ _ h ls H locs (lv_sub hl [0, 1, 2, 3, 4, 5] rfl) hW hS
        intro x7 G h
        exact (hG61 x7 G).mp (loop_walk (fun s => GG61 s.1 s.2) (fun rec hrec s h => hB61 (fun x7 G => rec (x7, G)) (fun x7 G h => hrec (x7, G) h) s.1 s.2 h) (x7, G) h)
      intro x6 G h
      rw [hG51]
      intro ls H locs hl hW hS
      refine lv_iload hx hb dX7_draw_51 (lv_at hl 4 rfl) ?_
      refine lv_bipush (v := 12) hx hb dX7_draw_53 (by decide) ?_
      refine lv_icmp_ge (tgt := 124) hx hb dX7_draw_55 (by decide) (fun c14 => ?_) (fun c14 => ?_)
      · have h := wif_t h c14
        exact hret _ _ _ _ _ dX7_draw_124 hW hS h
      · have h := wif_f h c14
        refine lv_iconst (v := 0) hx hb dX7_draw_58 (by decide) ?_
        refine lv_istore (lv' := [(7, .int (0 : Int32)), (0, va_rf (some x0)), (3, va_rf x3), (4, va_rf x4), (5, va_rf x5), (6, .int x6)]) hx hb dX7_draw_59 hl (by decide) rfl (fun ls hl => ?_)
        exact hL61 _ _ _ h ls H locs (lv_sub hl [1, 2, 3, 4, 5, 0] rfl) hW hS
    intro x6 G h
    exact (hG51 x6 G).mp (loop_walk (fun s => GG51 s.1 s.2) (fun rec hrec s h => hB51 (fun x6 G => rec (x6, G)) (fun x6 G h => hrec (x6, G) h) s.1 s.2 h) (x6, G) h)
  intro h
  intro ls H locs hl hW hS
  refine sh_aload_n hx hb dX7_draw_0 rfl (lv_at hl 3 rfl) ?_
  obtain ⟨v15, h1, h⟩ := h
  refine sh_getN C hW xFb_7 q182 (fun _ h => h) (by decide) h1 dX7_draw_1 ?_
  refine sh_astore (lv' := [(4, va_rf v15), (0, va_rf (some x0)), (1, .int x1), (2, va_rf x2), (3, va_rf x3)]) hx hb dX7_draw_4 hl (by decide) (by simp only [List.filter_cons, List.filter_nil, va_rf_cat]; rfl) (fun ls hl => ?_)
  refine sh_aload_n hx hb dX7_draw_6 rfl (lv_at hl 4 rfl) ?_
  obtain ⟨v16, h1, h⟩ := h
  refine sh_getN C hW xFb_8 q185 (fun _ h => h) (by decide) h1 dX7_draw_7 ?_
  refine sh_astore (lv' := [(5, va_rf v16), (4, va_rf v15), (0, va_rf (some x0)), (1, .int x1), (2, va_rf x2), (3, va_rf x3)]) hx hb dX7_draw_10 hl (by decide) (by simp only [List.filter_cons, List.filter_nil, va_rf_cat]; rfl) (fun ls hl => ?_)
  refine sh_aload_n hx hb dX7_draw_12 rfl (lv_at hl 2 rfl) ?_
  refine lv_iload_n hx hb dX7_draw_13 rfl (lv_at hl 3 rfl) ?_
  refine sh_aload_n hx hb dX7_draw_14 rfl (lv_at hl 4 rfl) ?_
  refine lv_lconst (v := 0) hx hb dX7_draw_15 (by decide) ?_
  refine lv_lconst (v := 0) hx hb dX7_draw_16 (by decide) ?_
  refine sh_aload hx hb dX7_draw_17 (lv_at hl 1 rfl) ?_
  obtain ⟨a17, c18, ho19, hcv19, h⟩ := h
  have hcc := h.1
  have h := h.2
  refine call_X5_map_U3_Rect (ct_X5_map l) C hW hS q1505 ho19 hcv19 hcc (le_lit hRf rfl) (le_lit hRl rfl) hcs hl.1 (Nat.le_of_ble_eq_true rfl) dX7_draw_19 h (fun G19 H locs h hW hS _ => ?_)
  refine sh_aload_n hx hb dX7_draw_22 rfl (lv_at hl 2 rfl) ?_
  refine lv_iload_n hx hb dX7_draw_23 rfl (lv_at hl 3 rfl) ?_
  refine sh_aload_n hx hb dX7_draw_24 rfl (lv_at hl 4 rfl) ?_
  refine lv_ldc2 hx hb hown (hts _ q1509) dX7_draw_25 ?_
  refine sh_aload_n hx hb dX7_draw_28 rfl (lv_at hl 2 rfl) ?_
  obtain ⟨v20, h1, h⟩ := h
  refine sh_get C hW xFb_22 q828 (fun _ h => h) h1 dX7_draw_29 ?_
  refine lv_i2l hx hb dX7_draw_32 rfl ?_
  refine lv_lmul hx hb dX7_draw_33 ?_
  refine lv_ldc2 hx hb hown (hts _ q1509) dX7_draw_34 ?_
  refine sh_aload_n hx hb dX7_draw_37 rfl (lv_at hl 2 rfl) ?_
  obtain ⟨v21, h1, h⟩ := h
  refine sh_get C hW xFb_23 q829 (fun _ h => h) h1 dX7_draw_38 ?_
  refine lv_i2l hx hb dX7_draw_41 rfl ?_
  refine lv_lmul hx hb dX7_draw_42 ?_
  refine sh_aload hx hb dX7_draw_43 (lv_at hl 0 rfl) ?_
  obtain ⟨a22, c23, ho45, hcv45, h⟩ := h
  have hcc := h.1
  have h := h.2
  refine call_X5_map_U3_Rect (ct_X5_map l) C hW hS q1505 ho45 hcv45 hcc (le_lit hRf rfl) (le_lit hRl rfl) hcs hl.1 (Nat.le_of_ble_eq_true rfl) dX7_draw_45 h (fun G24 H locs h hW hS _ => ?_)
  refine lv_iconst (v := 0) hx hb dX7_draw_48 (by decide) ?_
  refine lv_istore (lv' := [(6, .int (0 : Int32)), (5, va_rf v16), (4, va_rf v15), (0, va_rf (some x0)), (1, .int x1), (2, va_rf x2), (3, va_rf x3)]) hx hb dX7_draw_49 hl (by decide) (by simp only [List.filter_cons, List.filter_nil, va_rf_cat]; rfl) (fun ls hl => ?_)
  exact hL51 _ _ _ _ h ls H locs (lv_sub hl [3, 6, 2, 1, 0] rfl) hW hS
theorem ct_X7_draw (l : Launch) : CT_X7_draw l 10 228 w_X7_draw := by
  intro V sz G Q x0 x1 x2 x3
  refine Met.ofW (cc := cX7_draw) (maxL := 8) (ret := none) (by decide) rfl ?_
  intro p e s m args below meth c s₁ B hml hv
  obtain ⟨rfl, hsz, hW, hK, hZ, h⟩ := hv
  subst hsz
  have hts := atoms_spec (ws := (ws_ yX7_draw cX7_draw 8 none)) B.pre
  have hts : ∀ w ∈ lw_all, w.before _ s = true := fun w h => hts w (List.mem_cons_of_mem _ h)
  have key : ∃ ls : Array Slot, entryFrame m ([.ref x0, .int x1, va_rf x2, va_rf x3] : List Value).toArray 8 = F0 m 0 ls [] ∧ lv_has ls 8 [(0, va_rf (some x0)), (1, .int x1), (2, va_rf x2), (3, va_rf x3)] := by
    cases x2 <;> cases x3 <;> (refine ⟨_, by rw [lg_entry_eq], ?_⟩; exact lv_entry _ (Nat.le_of_ble_eq_true rfl))
  obtain ⟨ls, hfr, hl⟩ := key
  rw [hfr]
  exact wk_X7_draw Q ⟨⟨B.exec, B.bytes, hml, findClass_of_methodNamed B.named, hts⟩, hK, hZ, fun q h => Or.inr h⟩ (Nat.le_refl _) (Nat.le_refl _) ⟨Nat.le_refl _, Nat.le_refl _⟩ G (fun G pc ls H locs hd hW1 hS hQ => W.vret B.exec B.bytes B.returns (fun t ht _ => ⟨⟨G, rfl, hQ, by rw [← ht] at hW1; exact hW1⟩, hS.F ht⟩) hS.2.2 hd) x0 x1 x2 x3 h ls _ [] hl hW va_S.rf
def CT_X9_along (l : Launch) (fr lo : Nat) (w : XV → (Int64 → Prop) → Nat → Int32 → Int32 → Int64 → GM → Prop) : Prop := ∀ (V : XV) (sz : Nat) (G : GM) (Q : Int64 → Prop) (x0 : Nat) (x1 : Int32) (x2 : Int32) (x3 : Int64), Met l yX9_along (ws_ yX9_along cX9_along 6 (some .long)) { frames := fr, cells := 0, slots := 0, locals := lo } (va_Pc [.ref x0, .int x1, .int x2, .long x3] (fun U => U.heap.size = sz ∧ xW V (xA G sz) G U.heap ∧ xK V U ∧ xZ V (xA G sz) U U.heap ∧ w V Q x0 x1 x2 x3 G)) (va_Ql (fun r (u : GM) => u = G ∧ Q r) (fun u t => xW V (xA G sz) u t.heap) (xA G sz)) 0 0 (xA G sz)
theorem call_X9_along_V {p : Program} {l : Launch} {e : Env} {R : Room} {s : State} {m : MethodId} {args : Array Value} {below : List Frame} {meth : Method} {c : Code} {H : Heap} {locs : List Loc} {cells slots : Nat} {Z : State → Prop} {A : Nat → Prop} {cc : ByteArray} {nL pc : Nat} {ls : Array Slot} {rest : List Value} {own : String} {index fr lo : Nat} {w : XV → (Int64 → Prop) → Nat → Int32 → Int32 → Int64 → GM → Prop} {V : XV} {G : GM} {o : Option Nat} {ci : Nat} {x0 : Nat} {x1 : Int32} {x2 : Int32} {x3 : Int64} (hM : CT_X9_along l fr lo w) (C : xC p m c s args cc nL own V A) (hW : xW V A G H) (hS : va_S A s.heap H locs) (hlink : Cond.methodLink own index yX9_along ∈ lw_all) (ho : o = some x0) (hcv : gCi G (some x0) = some ci) (hci : ci % 64 = 4) (hRf : fr + 1 ≤ R.frames) (hRl : 8 + (6 + 11) + lo ≤ R.locals) (hcs : cells ≤ R.cells ∧ slots ≤ R.slots) (hz : ls.size = nL) (hr8 : (rest.map fun v => v.category).sum ≤ 8) (hdg : decode cc pc = .ok (.invokevirtual index, 3)) {Q1 : Int64 → Prop} (h : w V Q1 x0 x1 x2 x3 G) (kk : ∀ (r : Int64) (H1 : Heap) (locs1 : List Loc), Q1 r → xW V A G H1 → va_S A s.heap H1 locs1 → xFr V G G H H1 → W p l e R s m args below meth c H1 locs1 cells slots Z (F0 m (pc + 3) ls (.long r :: rest))) : W p l e R s m args below meth c H locs cells slots Z (F0 m pc ls (.long x3 :: .int x2 :: .int x1 :: va_rf o :: rest)) := by
  subst ho
  obtain ⟨fs, hG⟩ := gCi_of hcv
  exact rg_l3r (va_runV (As := [.int x1, .int x2, .long x3]) (rest := rest) C.1 (hM V H.size G Q1 x0 x1 x2 x3) (cwV 3 C.1.2.2.2.2 (lw_V hlink q1525 qs15 q91 q1526) rfl rfl rfl (by decide +kernel) ⟨hRf, hRl⟩) ⟨fun a U g mk q => by obtain ⟨q0, q1, qW, qK, qZ, qw⟩ := q; exact ⟨q0, q1, qW, xK.same (u := U) (U := U.calling g mk a) rfl qK, xZ.moved (u := U) (U := U.calling g mk a) (Vm.Alike.refl U.vm) qZ, qw⟩, (hW.recv C.2.1 hG (r := (RX9, TX9, 11)) (by rw [hci]; rfl)), fun U hU hWm => ⟨rfl, by rw [hU], by rw [hU]; exact hW.self _, C.2.1.warm hWm, xZ.call C.2.2.1 hW hS C.2.2.2 hU hWm.alike, h⟩⟩ rfl rfl hz rfl (lv_room hr8) hdg hcs) hW hS C.2.2.2 (fun r H1 locs1 hp hW1 hS1 hF1 => kk r H1 locs1 hp hW1 hS1 hF1)
def w_X9_along (V : XV) (Q : Int64 → Prop) (x0 : Nat) (x1 : Int32) (x2 : Int32) (x3 : Int64) (G : GM) : Prop := gGR G 24 (some x0) (fun v1 => gRcv G v1 (fun a2 c3 => (c3 % 64 = 15) ∧ (w_J2_get V (fun r4 => gCkA G 0 r4 (gIL G 0 r4 x2 (fun v5 => gGR G 24 (some x0) (fun v6 => gRcv G v6 (fun a7 c8 => (c8 % 64 = 15) ∧ (w_J2_get V (fun r9 => gCkA G 0 r9 (gIL G 0 r9 x2 (fun v10 => w_J17_signum (fun r11 => Q (((1000 : Int64) * (v5.toInt64)) + ((r11.toInt64) * x3))) (v10 - v5)))) a7 x1 G)))))) a2 (x1 - (1 : Int32)) G)))
set_option maxRecDepth 100000 in
set_option maxHeartbeats 4000000 in
theorem wk_X9_along {p : Program} {l : Launch} {e : Env} {R : Room} {s : State} {m : MethodId} {args : Array Value} {below : List Frame} {meth : Method} {c : Code} {cells slots : Nat} {Z : State → Prop} {A : Nat → Prop} {V : XV} (Q : Int64 → Prop) (C : xC p m c s args cX9_along 6 RX9 V A) (hRf : 4 ≤ R.frames) (hRl : 84 ≤ R.locals) (hcs : cells ≤ R.cells ∧ slots ≤ R.slots) (G : GM) (hret : ∀ (v : Int64) (pc : Nat) (ls : Array Slot) (H : Heap) (locs : List Loc), decode cX9_along pc = .ok (.lreturn, 1) → xW V A G H → va_S A s.heap H locs → Q v → W p l e R s m args below meth c H locs cells slots Z (F0 m pc ls [.long v])) (x0 : Nat) (x1 : Int32) (x2 : Int32) (x3 : Int64) : w_X9_along V Q x0 x1 x2 x3 G → ∀ (ls : Array Slot) (H : Heap) (locs : List Loc), lv_has ls 6 [(0, va_rf (some x0)), (1, .int x1), (2, .int x2), (3, .long x3)] → xW V A G H → va_S A s.heap H locs → W p l e R s m args below meth c H locs cells slots Z (F0 m 0 ls []) := by
  have hx := C.1.1; have hb := C.1.2.1; have hml := C.1.2.2.1; have hown := C.1.2.2.2.1; have hts := C.1.2.2.2.2
  intro h
  intro ls H locs hl hW hS
  refine sh_aload_n hx hb dX9_along_0 rfl (lv_at hl 0 rfl) ?_
  obtain ⟨v1, h1, h⟩ := h
  refine sh_get C hW xFb_24 q897 (fun _ h => h) h1 dX9_along_1 ?_
  refine lv_iload_n hx hb dX9_along_4 rfl (lv_at hl 1 rfl) ?_
  refine lv_iconst (v := 1) hx hb dX9_along_5 (by decide) ?_
  refine lv_isub hx hb dX9_along_6 ?_
  obtain ⟨a2, c3, ho7, hcv7, h⟩ := h
  have hcc := h.1
  have h := h.2
  refine call_J2_get_F15_List (ct_J2_get l) C hW hS q948 ho7 hcv7 hcc (le_lit hRf rfl) (le_lit hRl rfl) hcs hl.1 (Nat.le_of_ble_eq_true rfl) dX9_along_7 h (fun r4 H locs h hW hS _ => ?_)
  refine sh_castA C hW (t := 0) (by decide) q949 (by have := (C.2.1.2.1 0 (by decide)).2; exact this) h dX9_along_12 (fun h => ?_)
  refine lv_iload_n hx hb dX9_along_15 rfl (lv_at hl 2 rfl) ?_
  refine sh_iald C hW h dX9_along_16 (fun v5 h => ?_)
  refine lv_istore (lv' := [(5, .int v5), (0, va_rf (some x0)), (1, .int x1), (2, .int x2), (3, .long x3)]) hx hb dX9_along_17 hl (by decide) rfl (fun ls hl => ?_)
  refine lv_ldc2 hx hb hown (hts _ q950) dX9_along_19 ?_
  refine lv_iload hx hb dX9_along_22 (lv_at hl 0 rfl) ?_
  refine lv_i2l hx hb dX9_along_24 rfl ?_
  refine lv_lmul hx hb dX9_along_25 ?_
  refine sh_aload_n hx hb dX9_along_26 rfl (lv_at hl 1 rfl) ?_
  obtain ⟨v6, h1, h⟩ := h
  refine sh_get C hW xFb_24 q897 (fun _ h => h) h1 dX9_along_27 ?_
  refine lv_iload_n hx hb dX9_along_30 rfl (lv_at hl 2 rfl) ?_
  obtain ⟨a7, c8, ho31, hcv31, h⟩ := h
  have hcc := h.1
  have h := h.2
  refine call_J2_get_F15_List (ct_J2_get l) C hW hS q948 ho31 hcv31 hcc (le_lit hRf rfl) (le_lit hRl rfl) hcs hl.1 (Nat.le_of_ble_eq_true rfl) dX9_along_31 h (fun r9 H locs h hW hS _ => ?_)
  refine sh_castA C hW (t := 0) (by decide) q949 (by have := (C.2.1.2.1 0 (by decide)).2; exact this) h dX9_along_36 (fun h => ?_)
  refine lv_iload_n hx hb dX9_along_39 rfl (lv_at hl 3 rfl) ?_
  refine sh_iald C hW h dX9_along_40 (fun v10 h => ?_)
  refine lv_iload hx hb dX9_along_41 (lv_at hl 0 rfl) ?_
  refine lv_isub hx hb dX9_along_43 ?_
  refine call_J17_signum (ct_J17_signum l) C.1 hS C.2.2.2 q1527 (le_lit hRf rfl) (le_lit hRl rfl) hcs hl.1 (Nat.le_of_ble_eq_true rfl) dX9_along_44 h (fun r11 H locs h hk hS => ?_)
  have hW := hW.kept hk
  refine lv_i2l hx hb dX9_along_47 rfl ?_
  refine lv_lload_n hx hb dX9_along_48 rfl (lv_at hl 4 rfl) ?_
  refine lv_lmul hx hb dX9_along_49 ?_
  refine lv_ladd hx hb dX9_along_50 ?_
  exact hret _ _ _ _ _ dX9_along_51 hW hS h
theorem ct_X9_along (l : Launch) : CT_X9_along l 4 84 w_X9_along := by
  intro V sz G Q x0 x1 x2 x3
  refine Met.ofW (cc := cX9_along) (maxL := 6) (ret := (some .long)) (by decide) rfl ?_
  intro p e s m args below meth c s₁ B hml hv
  obtain ⟨rfl, hsz, hW, hK, hZ, h⟩ := hv
  subst hsz
  have hts := atoms_spec (ws := (ws_ yX9_along cX9_along 6 (some .long))) B.pre
  have hts : ∀ w ∈ lw_all, w.before _ s = true := fun w h => hts w (List.mem_cons_of_mem _ h)
  have hl := lv_entry ([.ref x0, .int x1, .int x2, .long x3]) (n := 6) (Nat.le_of_ble_eq_true rfl)
  rw [lg_entry_eq]
  generalize (lg_sl ([.ref x0, .int x1, .int x2, .long x3]) ++ List.replicate (6 - (lg_sl ([.ref x0, .int x1, .int x2, .long x3])).length) Slot.unset).toArray = ls at hl ⊢
  exact wk_X9_along Q ⟨⟨B.exec, B.bytes, hml, findClass_of_methodNamed B.named, hts⟩, hK, hZ, fun q h => Or.inr h⟩ (Nat.le_refl _) (Nat.le_refl _) ⟨Nat.le_refl _, Nat.le_refl _⟩ G (fun v pc ls H locs hd hW1 hS hQ => W.lret (v := v) B.exec B.bytes B.returns (fun t ht _ => ⟨⟨v, G, rfl, ⟨rfl, hQ⟩, by rw [← ht] at hW1; exact hW1⟩, hS.F ht⟩) hS.2.2 hd) x0 x1 x2 x3 h ls _ [] hl hW va_S.rf
