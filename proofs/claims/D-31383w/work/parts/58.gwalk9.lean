def CT_X1_outputByte (l : Launch) (fr lo : Nat) (w : XV → (Int32 → Prop) → Nat → Int32 → GM → Prop) : Prop := ∀ (V : XV) (sz : Nat) (G : GM) (Q : Int32 → Prop) (x0 : Nat) (x1 : Int32), Met l yX1_outputByte (ws_ yX1_outputByte cX1_outputByte 2 (some .int)) { frames := fr, cells := 0, slots := 0, locals := lo } (va_Pc [.ref x0, .int x1] (fun U => U.heap.size = sz ∧ xW V (xA G sz) G U.heap ∧ xK V U ∧ xZ V (xA G sz) U U.heap ∧ w V Q x0 x1 G)) (va_Qi (fun r (u : GM) => u = G ∧ Q r) (fun u t => xW V (xA G sz) u t.heap) (xA G sz)) 0 0 (xA G sz)
def w_X1_outputByte (V : XV) (Q : Int32 → Prop) (x0 : Nat) (x1 : Int32) (G : GM) : Prop := gGR G 4 (some x0) (fun v1 => gRcv G v1 (fun a2 c3 => (c3 % 64 = 16) ∧ (w_J4_length V (fun r4 => w_X1_isBetween V (fun r5 => if r5 = 0 then (Q (-1 : Int32)) else (gGR G 4 (some x0) (fun v6 => gRcv G v6 (fun a7 c8 => (c8 % 64 = 16) ∧ (w_J4_charAt V (fun r9 => Q r9) a7 x1 G))))) x1 (0 : Int32) (r4 - (1 : Int32)) G) a2 G)))
set_option maxRecDepth 100000 in
set_option maxHeartbeats 4000000 in
theorem wk_X1_outputByte {p : Program} {l : Launch} {e : Env} {R : Room} {s : State} {m : MethodId} {args : Array Value} {below : List Frame} {meth : Method} {c : Code} {cells slots : Nat} {Z : State → Prop} {A : Nat → Prop} {V : XV} (Q : Int32 → Prop) (C : xC p m c s args cX1_outputByte 2 RX1 V A) (hRf : 5 ≤ R.frames) (hRl : 108 ≤ R.locals) (hcs : cells ≤ R.cells ∧ slots ≤ R.slots) (G : GM) (hret : ∀ (v : Int32) (pc : Nat) (ls : Array Slot) (H : Heap) (locs : List Loc), decode cX1_outputByte pc = .ok (.ireturn, 1) → xW V A G H → va_S A s.heap H locs → Q v → W p l e R s m args below meth c H locs cells slots Z (F0 m pc ls [.int v])) (x0 : Nat) (x1 : Int32) : w_X1_outputByte V Q x0 x1 G → ∀ (ls : Array Slot) (H : Heap) (locs : List Loc), lv_has ls 2 [(0, va_rf (some x0)), (1, .int x1)] → xW V A G H → va_S A s.heap H locs → W p l e R s m args below meth c H locs cells slots Z (F0 m 0 ls []) := by
  have hx := C.1.1; have hb := C.1.2.1; have hml := C.1.2.2.1; have hown := C.1.2.2.2.1; have hts := C.1.2.2.2.2
  intro h
  intro ls H locs hl hW hS
  refine lv_iload_n hx hb dX1_outputByte_0 rfl (lv_at hl 1 rfl) ?_
  refine lv_iconst (v := 0) hx hb dX1_outputByte_1 (by decide) ?_
  refine sh_aload_n hx hb dX1_outputByte_2 rfl (lv_at hl 0 rfl) ?_
  obtain ⟨v1, h1, h⟩ := h
  refine sh_get C hW xFb_4 q205 (fun _ h => h) h1 dX1_outputByte_3 ?_
  obtain ⟨a2, c3, ho6, hcv6, h⟩ := h
  have hcc := h.1
  have h := h.2
  refine call_J4_length_V (ct_J4_length l) C hW hS q592 ho6 hcv6 hcc (le_lit hRf rfl) (le_lit hRl rfl) hcs hl.1 (Nat.le_of_ble_eq_true rfl) dX1_outputByte_6 h (fun r4 H locs h hW hS _ => ?_)
  refine lv_iconst (v := 1) hx hb dX1_outputByte_9 (by decide) ?_
  refine lv_isub hx hb dX1_outputByte_10 ?_
  refine call_X1_isBetween_S (ct_X1_isBetween l) C hW hS q593 (le_lit hRf rfl) (le_lit hRl rfl) hcs hl.1 (Nat.le_of_ble_eq_true rfl) dX1_outputByte_11 h (fun r5 H locs h hW hS _ => ?_)
  refine lv_if_eq (tgt := 28) hx hb dX1_outputByte_14 (by decide) (fun c10 => ?_) (fun c10 => ?_)
  · have h := wif_t h c10
    refine lv_iconst (v := -1) hx hb dX1_outputByte_28 (by decide) ?_
    exact hret _ _ _ _ _ dX1_outputByte_29 hW hS h
  · have h := wif_f h c10
    refine sh_aload_n hx hb dX1_outputByte_17 rfl (lv_at hl 0 rfl) ?_
    obtain ⟨v6, h1, h⟩ := h
    refine sh_get C hW xFb_4 q205 (fun _ h => h) h1 dX1_outputByte_18 ?_
    refine lv_iload_n hx hb dX1_outputByte_21 rfl (lv_at hl 1 rfl) ?_
    obtain ⟨a7, c8, ho22, hcv22, h⟩ := h
    have hcc := h.1
    have h := h.2
    refine call_J4_charAt_V (ct_J4_charAt l) C hW hS q596 ho22 hcv22 hcc (le_lit hRf rfl) (le_lit hRl rfl) hcs hl.1 (Nat.le_of_ble_eq_true rfl) dX1_outputByte_22 h (fun r9 H locs h hW hS _ => ?_)
    refine lv_goto (tgt := 29) hx hb dX1_outputByte_25 (by decide) ?_
    exact hret _ _ _ _ _ dX1_outputByte_29 hW hS h
theorem ct_X1_outputByte (l : Launch) : CT_X1_outputByte l 5 108 w_X1_outputByte := by
  intro V sz G Q x0 x1
  refine Met.ofW (cc := cX1_outputByte) (maxL := 2) (ret := (some .int)) (by decide) rfl ?_
  intro p e s m args below meth c s₁ B hml hv
  obtain ⟨rfl, hsz, hW, hK, hZ, h⟩ := hv
  subst hsz
  have hts := atoms_spec (ws := (ws_ yX1_outputByte cX1_outputByte 2 (some .int))) B.pre
  have hts : ∀ w ∈ lw_all, w.before _ s = true := fun w h => hts w (List.mem_cons_of_mem _ h)
  have hl := lv_entry ([.ref x0, .int x1]) (n := 2) (Nat.le_of_ble_eq_true rfl)
  rw [lg_entry_eq]
  generalize (lg_sl ([.ref x0, .int x1]) ++ List.replicate (2 - (lg_sl ([.ref x0, .int x1])).length) Slot.unset).toArray = ls at hl ⊢
  exact wk_X1_outputByte Q ⟨⟨B.exec, B.bytes, hml, findClass_of_methodNamed B.named, hts⟩, hK, hZ, fun q h => Or.inr h⟩ (Nat.le_refl _) (Nat.le_refl _) ⟨Nat.le_refl _, Nat.le_refl _⟩ G (fun v pc ls H locs hd hW1 hS hQ => W.iret (v := v) B.exec B.bytes B.returns (fun t ht _ => ⟨⟨v, G, rfl, ⟨rfl, hQ⟩, by rw [← ht] at hW1; exact hW1⟩, hS.F ht⟩) hS.2.2 hd) x0 x1 h ls _ [] hl hW va_S.rf
def CT_X5_keys (l : Launch) (fr lo : Nat) (w : XV → (Int32 → Prop) → Nat → GM → Prop) : Prop := ∀ (V : XV) (sz : Nat) (G : GM) (Q : Int32 → Prop) (x0 : Nat), Met l yX5_keys (ws_ yX5_keys cX5_keys 6 (some .int)) { frames := fr, cells := 0, slots := 0, locals := lo } (va_Pc [.ref x0] (fun U => U.heap.size = sz ∧ xW V (xA G sz) G U.heap ∧ xK V U ∧ xZ V (xA G sz) U U.heap ∧ w V Q x0 G)) (va_Qi (fun r (u : GM) => u = G ∧ Q r) (fun u t => xW V (xA G sz) u t.heap) (xA G sz)) 0 0 (xA G sz)
theorem call_X5_keys_U3_4_5_6_Layer {p : Program} {l : Launch} {e : Env} {R : Room} {s : State} {m : MethodId} {args : Array Value} {below : List Frame} {meth : Method} {c : Code} {H : Heap} {locs : List Loc} {cells slots : Nat} {Z : State → Prop} {A : Nat → Prop} {cc : ByteArray} {nL pc : Nat} {ls : Array Slot} {rest : List Value} {own : String} {index fr lo : Nat} {w : XV → (Int32 → Prop) → Nat → GM → Prop} {V : XV} {G : GM} {o : Option Nat} {ci : Nat} {x0 : Nat} (hM : CT_X5_keys l fr lo w) (C : xC p m c s args cc nL own V A) (hW : xW V A G H) (hS : va_S A s.heap H locs) (hlink : Cond.methodLink own index ⟨"Shapelayer$Layer", "keys", "()I"⟩ ∈ lw_all) (ho : o = some x0) (hcv : gCi G (some x0) = some ci) (hci : ci % 64 = 5 ∨ ci % 64 = 6 ∨ ci % 64 = 3 ∨ ci % 64 = 4) (hRf : fr + 1 ≤ R.frames) (hRl : 8 + (6 + 11) + lo ≤ R.locals) (hcs : cells ≤ R.cells ∧ slots ≤ R.slots) (hz : ls.size = nL) (hr8 : (rest.map fun v => v.category).sum ≤ 8) (hdg : decode cc pc = .ok (.invokevirtual index, 3)) {Q1 : Int32 → Prop} (h : w V Q1 x0 G) (kk : ∀ (r : Int32) (H1 : Heap) (locs1 : List Loc), Q1 r → xW V A G H1 → va_S A s.heap H1 locs1 → xFr V G G H H1 → W p l e R s m args below meth c H1 locs1 cells slots Z (F0 m (pc + 3) ls (.int r :: rest))) : W p l e R s m args below meth c H locs cells slots Z (F0 m pc ls (va_rf o :: rest)) := by
  subst ho
  obtain ⟨fs, hG⟩ := gCi_of hcv
  rcases hci with hci | hci | hci | hci
  · exact rg_i3r (va_runU (As := []) (rest := rest) C.1 (hM V H.size G Q1 x0) (va_cwU (C := "Shapelayer$Nested") 0 C.1.2.2.2.2 (lw_U hlink q617 q618 q616 q87 q622) rfl rfl rfl rfl (by decide +kernel) ⟨hRf, hRl⟩) ⟨fun a U g mk q => by obtain ⟨q0, q1, qW, qK, qZ, qw⟩ := q; exact ⟨q0, q1, qW, xK.same (u := U) (U := U.calling g mk a) rfl qK, xZ.moved (u := U) (U := U.calling g mk a) (Vm.Alike.refl U.vm) qZ, qw⟩, (hW.recv C.2.1 hG (r := (RX11, TX11, 9)) (by rw [hci]; rfl)), fun U hU hWm => ⟨rfl, by rw [hU], by rw [hU]; exact hW.self _, C.2.1.warm hWm, xZ.call C.2.2.1 hW hS C.2.2.2 hU hWm.alike, h⟩⟩ rfl rfl hz rfl (lv_room hr8) hdg hcs) hW hS C.2.2.2 (fun r H1 locs1 hp hW1 hS1 hF1 => kk r H1 locs1 hp hW1 hS1 hF1)
  · exact rg_i3r (va_runU (As := []) (rest := rest) C.1 (hM V H.size G Q1 x0) (va_cwU (C := "Shapelayer$Null") 0 C.1.2.2.2.2 (lw_U hlink q617 q619 q616 q87 q622) rfl rfl rfl rfl (by decide +kernel) ⟨hRf, hRl⟩) ⟨fun a U g mk q => by obtain ⟨q0, q1, qW, qK, qZ, qw⟩ := q; exact ⟨q0, q1, qW, xK.same (u := U) (U := U.calling g mk a) rfl qK, xZ.moved (u := U) (U := U.calling g mk a) (Vm.Alike.refl U.vm) qZ, qw⟩, (hW.recv C.2.1 hG (r := (RX12, TX12, 8)) (by rw [hci]; rfl)), fun U hU hWm => ⟨rfl, by rw [hU], by rw [hU]; exact hW.self _, C.2.1.warm hWm, xZ.call C.2.2.1 hW hS C.2.2.2 hU hWm.alike, h⟩⟩ rfl rfl hz rfl (lv_room hr8) hdg hcs) hW hS C.2.2.2 (fun r H1 locs1 hp hW1 hS1 hF1 => kk r H1 locs1 hp hW1 hS1 hF1)
  · exact rg_i3r (va_runU (As := []) (rest := rest) C.1 (hM V H.size G Q1 x0) (va_cwU (C := "Shapelayer$Rect") 0 C.1.2.2.2.2 (lw_U hlink q617 q620 q616 q87 q622) rfl rfl rfl rfl (by decide +kernel) ⟨hRf, hRl⟩) ⟨fun a U g mk q => by obtain ⟨q0, q1, qW, qK, qZ, qw⟩ := q; exact ⟨q0, q1, qW, xK.same (u := U) (U := U.calling g mk a) rfl qK, xZ.moved (u := U) (U := U.calling g mk a) (Vm.Alike.refl U.vm) qZ, qw⟩, (hW.recv C.2.1 hG (r := (RX7, TX7, 11)) (by rw [hci]; rfl)), fun U hU hWm => ⟨rfl, by rw [hU], by rw [hU]; exact hW.self _, C.2.1.warm hWm, xZ.call C.2.2.1 hW hS C.2.2.2 hU hWm.alike, h⟩⟩ rfl rfl hz rfl (lv_room hr8) hdg hcs) hW hS C.2.2.2 (fun r H1 locs1 hp hW1 hS1 hF1 => kk r H1 locs1 hp hW1 hS1 hF1)
  · exact rg_i3r (va_runU (As := []) (rest := rest) C.1 (hM V H.size G Q1 x0) (va_cwU (C := "Shapelayer$Stroke") 0 C.1.2.2.2.2 (lw_U hlink q617 q621 q616 q87 q622) rfl rfl rfl rfl (by decide +kernel) ⟨hRf, hRl⟩) ⟨fun a U g mk q => by obtain ⟨q0, q1, qW, qK, qZ, qw⟩ := q; exact ⟨q0, q1, qW, xK.same (u := U) (U := U.calling g mk a) rfl qK, xZ.moved (u := U) (U := U.calling g mk a) (Vm.Alike.refl U.vm) qZ, qw⟩, (hW.recv C.2.1 hG (r := (RX9, TX9, 11)) (by rw [hci]; rfl)), fun U hU hWm => ⟨rfl, by rw [hU], by rw [hU]; exact hW.self _, C.2.1.warm hWm, xZ.call C.2.2.1 hW hS C.2.2.2 hU hWm.alike, h⟩⟩ rfl rfl hz rfl (lv_room hr8) hdg hcs) hW hS C.2.2.2 (fun r H1 locs1 hp hW1 hS1 hF1 => kk r H1 locs1 hp hW1 hS1 hF1)
def w_X5_keys_h13 (V : XV) (Q : Int32 → Prop) (x2 : Option Nat) (x3 : Int32) (G : GM) (rec13 : Int32 → Int32 → Prop) (x1 : Int32) (x4 : Int32) : Prop := if x3 ≤ x4 then (Q x1) else (gRL G x2 x4 (fun v1 => gGR G 28 v1 (fun v2 => gRcv G v2 (fun a3 c4 => (c4 % 64 = 15) ∧ (w_J2_size V (fun r5 => rec13 (x1 + r5) (x4 + (1 : Int32))) a3 G)))))
def w_X5_keys_L13 (V : XV) (Q : Int32 → Prop) (x2 : Option Nat) (x3 : Int32) (G : GM) (x1 : Int32) (x4 : Int32) : Prop := wLoop (fun (rec : (Int32 × Int32) → Prop) (s : Int32 × Int32) => w_X5_keys_h13 V Q x2 x3 G (fun x1 x4 => rec (x1, x4)) s.1 s.2) (x1, x4)
def w_X5_keys (V : XV) (Q : Int32 → Prop) (x0 : Nat) (G : GM) : Prop := gGR G 15 (some x0) (fun v7 => gLn G v7 (fun v8 => w_X5_keys_L13 V Q v7 v8 G (0 : Int32) (0 : Int32)))
set_option maxRecDepth 100000 in
set_option maxHeartbeats 4000000 in
theorem wk_X5_keys {p : Program} {l : Launch} {e : Env} {R : Room} {s : State} {m : MethodId} {args : Array Value} {below : List Frame} {meth : Method} {c : Code} {cells slots : Nat} {Z : State → Prop} {A : Nat → Prop} {V : XV} (Q : Int32 → Prop) (C : xC p m c s args cX5_keys 6 RX5 V A) (hRf : 2 ≤ R.frames) (hRl : 40 ≤ R.locals) (hcs : cells ≤ R.cells ∧ slots ≤ R.slots) (G : GM) (hret : ∀ (v : Int32) (pc : Nat) (ls : Array Slot) (H : Heap) (locs : List Loc), decode cX5_keys pc = .ok (.ireturn, 1) → xW V A G H → va_S A s.heap H locs → Q v → W p l e R s m args below meth c H locs cells slots Z (F0 m pc ls [.int v])) (x0 : Nat) : w_X5_keys V Q x0 G → ∀ (ls : Array Slot) (H : Heap) (locs : List Loc), lv_has ls 6 [(0, va_rf (some x0))] → xW V A G H → va_S A s.heap H locs → W p l e R s m args below meth c H locs cells slots Z (F0 m 0 ls []) := by
  have hx := C.1.1; have hb := C.1.2.1; have hml := C.1.2.2.1; have hown := C.1.2.2.2.1; have hts := C.1.2.2.2.2
  have hL13 : ∀ (x2 : Option Nat) (x3 : Int32) (x1 : Int32) (x4 : Int32), w_X5_keys_L13 V Q x2 x3 G x1 x4 → ∀ (ls : Array Slot) (H : Heap) (locs : List Loc), lv_has ls 6 [(1, .int x1), (2, va_rf x2), (3, .int x3), (4, .int x4)] → xW V A G H → va_S A s.heap H locs → W p l e R s m args below meth c H locs cells slots Z (F0 m 13 ls []) := by
    intro x2 x3
    obtain ⟨GG13, hG13⟩ : ∃ GG : Int32 → Int32 → Prop, ∀ (x1 : Int32) (x4 : Int32), GG x1 x4 ↔ (∀ (ls : Array Slot) (H : Heap) (locs : List Loc), lv_has ls 6 [(1, .int x1), (2, va_rf x2), (3, .int x3), (4, .int x4)] → xW V A G H → va_S A s.heap H locs → W p l e R s m args below meth c H locs cells slots Z (F0 m 13 ls [])) := ⟨fun x1 x4 => _, fun x1 x4 => Iff.rfl⟩
    have hB13 : ∀ (rec13 : Int32 → Int32 → Prop), (∀ (x1 : Int32) (x4 : Int32), rec13 x1 x4 → GG13 x1 x4) → ∀ (x1 : Int32) (x4 : Int32), w_X5_keys_h13 V Q x2 x3 G rec13 x1 x4 → GG13 x1 x4 := by
      intro rec13 hrec13
      intro x1 x4 h
      rw [hG13]
      intro ls H locs hl hW hS
      refine lv_iload hx hb dX5_keys_13 (lv_at hl 3 rfl) ?_
      refine lv_iload_n hx hb dX5_keys_15 rfl (lv_at hl 2 rfl) ?_
      refine lv_icmp_ge (tgt := 44) hx hb dX5_keys_16 (by decide) (fun c6 => ?_) (fun c6 => ?_)
      · have h := wif_t h c6
        refine lv_iload_n hx hb dX5_keys_44 rfl (lv_at hl 0 rfl) ?_
        exact hret _ _ _ _ _ dX5_keys_45 hW hS h
      · have h := wif_f h c6
        refine sh_aload_n hx hb dX5_keys_19 rfl (lv_at hl 1 rfl) ?_
        refine lv_iload hx hb dX5_keys_20 (lv_at hl 3 rfl) ?_
        refine sh_aald C hW h dX5_keys_22 (fun v1 h => ?_)
        refine sh_astore (lv' := [(5, va_rf v1), (1, .int x1), (2, va_rf x2), (3, .int x3), (4, .int x4)]) hx hb dX5_keys_23 hl (by decide) rfl (fun ls hl => ?_)
        refine lv_iload_n hx hb dX5_keys_25 rfl (lv_at hl 1 rfl) ?_
        refine sh_aload hx hb dX5_keys_26 (lv_at hl 0 rfl) ?_
        obtain ⟨v2, h1, h⟩ := h
        refine sh_getN C hW xFb_28 q820 (fun _ h => h) (by decide) h1 dX5_keys_28 ?_
        obtain ⟨a3, c4, ho31, hcv31, h⟩ := h
        have hcc := h.1
        have h := h.2
        refine call_J2_size_F15_List (ct_J2_size l) C hW hS q624 ho31 hcv31 hcc (le_lit hRf rfl) (le_lit hRl rfl) hcs hl.1 (Nat.le_of_ble_eq_true rfl) dX5_keys_31 h (fun r5 H locs h hW hS _ => ?_)
        refine lv_iadd hx hb dX5_keys_36 ?_
        refine lv_istore_n (lv' := [(1, .int (x1 + r5)), (5, va_rf v1), (2, va_rf x2), (3, .int x3), (4, .int x4)]) hx hb dX5_keys_37 rfl hl (by decide) rfl (fun ls hl => ?_)
        refine lv_iinc (v := x4 + (1 : Int32)) (lv' := [(4, .int (x4 + (1 : Int32))), (1, .int (x1 + r5)), (5, va_rf v1), (2, va_rf x2), (3, .int x3)]) hx hb dX5_keys_38 hl (k := 4) rfl (congrArg (fun z => x4 + z) (by decide)) (by decide) rfl (fun ls hl => ?_)
        refine lv_goto (tgt := 13) hx hb dX5_keys_41 (by decide) ?_
        exact (hG13 _ _).mp (hrec13 _ _ h) ls H locs (lv_sub hl [1, 3, 4, 0] rfl) hW hS
    intro x1 x4 h
    exact (hG13 x1 x4).mp (loop_walk (fun s => GG13 s.1 s.2) (fun rec hrec s h => hB13 (fun x1 x4 => rec (x1, x4)) (fun x1 x4 h => hrec (x1, x4) h) s.1 s.2 h) (x1, x4) h)
  intro h
  intro ls H locs hl hW hS
  refine lv_iconst (v := 0) hx hb dX5_keys_0 (by decide) ?_
  refine lv_istore_n (lv' := [(1, .int (0 : Int32)), (0, va_rf (some x0))]) hx hb dX5_keys_1 rfl hl (by decide) rfl (fun ls hl => ?_)
  refine sh_aload_n hx hb dX5_keys_2 rfl (lv_at hl 1 rfl) ?_
  obtain ⟨v7, h1, h⟩ := h
  refine sh_get C hW xFb_15 q839 (fun _ h => h) h1 dX5_keys_3 ?_
  refine sh_astore_n (lv' := [(2, va_rf v7), (1, .int (0 : Int32)), (0, va_rf (some x0))]) hx hb dX5_keys_6 rfl hl (by decide) rfl (fun ls hl => ?_)
  refine sh_aload_n hx hb dX5_keys_7 rfl (lv_at hl 0 rfl) ?_
  refine sh_len C hW h dX5_keys_8 (fun v8 h => ?_)
  refine lv_istore_n (lv' := [(3, .int v8), (2, va_rf v7), (1, .int (0 : Int32)), (0, va_rf (some x0))]) hx hb dX5_keys_9 rfl hl (by decide) (by simp only [List.filter_cons, List.filter_nil, va_rf_cat]; rfl) (fun ls hl => ?_)
  refine lv_iconst (v := 0) hx hb dX5_keys_10 (by decide) ?_
  refine lv_istore (lv' := [(4, .int (0 : Int32)), (3, .int v8), (2, va_rf v7), (1, .int (0 : Int32)), (0, va_rf (some x0))]) hx hb dX5_keys_11 hl (by decide) rfl (fun ls hl => ?_)
  exact hL13 _ _ _ _ h ls H locs (lv_sub hl [3, 2, 1, 0] rfl) hW hS
theorem ct_X5_keys (l : Launch) : CT_X5_keys l 2 40 w_X5_keys := by
  intro V sz G Q x0
  refine Met.ofW (cc := cX5_keys) (maxL := 6) (ret := (some .int)) (by decide) rfl ?_
  intro p e s m args below meth c s₁ B hml hv
  obtain ⟨rfl, hsz, hW, hK, hZ, h⟩ := hv
  subst hsz
  have hts := atoms_spec (ws := (ws_ yX5_keys cX5_keys 6 (some .int))) B.pre
  have hts : ∀ w ∈ lw_all, w.before _ s = true := fun w h => hts w (List.mem_cons_of_mem _ h)
  have hl := lv_entry ([.ref x0]) (n := 6) (Nat.le_of_ble_eq_true rfl)
  rw [lg_entry_eq]
  generalize (lg_sl ([.ref x0]) ++ List.replicate (6 - (lg_sl ([.ref x0])).length) Slot.unset).toArray = ls at hl ⊢
  exact wk_X5_keys Q ⟨⟨B.exec, B.bytes, hml, findClass_of_methodNamed B.named, hts⟩, hK, hZ, fun q h => Or.inr h⟩ (Nat.le_refl _) (Nat.le_refl _) ⟨Nat.le_refl _, Nat.le_refl _⟩ G (fun v pc ls H locs hd hW1 hS hQ => W.iret (v := v) B.exec B.bytes B.returns (fun t ht _ => ⟨⟨v, G, rfl, ⟨rfl, hQ⟩, by rw [← ht] at hW1; exact hW1⟩, hS.F ht⟩) hS.2.2 hd) x0 h ls _ [] hl hW va_S.rf
def CT_X1_meanKeys (l : Launch) (fr lo : Nat) (w : XV → (UInt64 → Prop) → Nat → GM → Prop) : Prop := ∀ (V : XV) (sz : Nat) (G : GM) (Q : UInt64 → Prop) (x0 : Nat), Met l yX1_meanKeys (ws_ yX1_meanKeys cX1_meanKeys 4 (some .double)) { frames := fr, cells := 0, slots := 0, locals := lo } (va_Pc [.ref x0] (fun U => U.heap.size = sz ∧ xW V (xA G sz) G U.heap ∧ xK V U ∧ xZ V (xA G sz) U U.heap ∧ w V Q x0 G)) (va_Qd (fun r (u : GM) => u = G ∧ Q r) (fun u t => xW V (xA G sz) u t.heap) (xA G sz)) 0 0 (xA G sz)
def w_X1_meanKeys_41 (V : XV) (Q : UInt64 → Prop) (rec6 : Int32 → Int32 → Int32 → Prop) (x0 : Nat) (x1 : Int32) (x2 : Int32) (x3 : Int32) (G : GM) : Prop := rec6 x1 x2 (x3 + (1 : Int32))
def w_X1_meanKeys_h6 (V : XV) (Q : UInt64 → Prop) (x0 : Nat) (G : GM) (rec6 : Int32 → Int32 → Int32 → Prop) (x1 : Int32) (x2 : Int32) (x3 : Int32) : Prop := gGI G 2 (some x0) (fun v1 => if v1 ≤ x3 then (if x2 = 0 then (Q FP.dconst0) else (vf_n64 (FP.ddiv (FP.i2d x1) (FP.i2d x2)) ∧ (Q (FP.ddiv (FP.i2d x1) (FP.i2d x2))))) else (gGR G 1 (some x0) (fun v3 => gRL G v3 x3 (fun v4 => if v4 = none then (w_X1_meanKeys_41 V Q rec6 x0 x1 x2 x3 G) else (gGR G 1 (some x0) (fun v5 => gRL G v5 x3 (fun v6 => gRcv G v6 (fun a7 c8 => (c8 % 64 = 5 ∨ c8 % 64 = 6 ∨ c8 % 64 = 3 ∨ c8 % 64 = 4) ∧ (w_X5_keys V (fun r9 => w_X1_meanKeys_41 V Q rec6 x0 (x1 + r9) (x2 + (1 : Int32)) x3 G) a7 G)))))))))
def w_X1_meanKeys_L6 (V : XV) (Q : UInt64 → Prop) (x0 : Nat) (G : GM) (x1 : Int32) (x2 : Int32) (x3 : Int32) : Prop := wLoop (fun (rec : (Int32 × Int32 × Int32) → Prop) (s : Int32 × Int32 × Int32) => w_X1_meanKeys_h6 V Q x0 G (fun x1 x2 x3 => rec (x1, x2, x3)) s.1 s.2.1 s.2.2) (x1, x2, x3)
def w_X1_meanKeys (V : XV) (Q : UInt64 → Prop) (x0 : Nat) (G : GM) : Prop := w_X1_meanKeys_L6 V Q x0 G (0 : Int32) (0 : Int32) (0 : Int32)
set_option maxRecDepth 100000 in
set_option maxHeartbeats 4000000 in
theorem wk_X1_meanKeys {p : Program} {l : Launch} {e : Env} {R : Room} {s : State} {m : MethodId} {args : Array Value} {below : List Frame} {meth : Method} {c : Code} {cells slots : Nat} {Z : State → Prop} {A : Nat → Prop} {V : XV} (Q : UInt64 → Prop) (C : xC p m c s args cX1_meanKeys 4 RX1 V A) (hRf : 3 ≤ R.frames) (hRl : 65 ≤ R.locals) (hcs : cells ≤ R.cells ∧ slots ≤ R.slots) (G : GM) (hret : ∀ (v : UInt64) (pc : Nat) (ls : Array Slot) (H : Heap) (locs : List Loc), decode cX1_meanKeys pc = .ok (.dreturn, 1) → xW V A G H → va_S A s.heap H locs → Q v → W p l e R s m args below meth c H locs cells slots Z (F0 m pc ls [.double v])) (x0 : Nat) : w_X1_meanKeys V Q x0 G → ∀ (ls : Array Slot) (H : Heap) (locs : List Loc), lv_has ls 4 [(0, va_rf (some x0))] → xW V A G H → va_S A s.heap H locs → W p l e R s m args below meth c H locs cells slots Z (F0 m 0 ls []) := by
  have hx := C.1.1; have hb := C.1.2.1; have hml := C.1.2.2.1; have hown := C.1.2.2.2.1; have hts := C.1.2.2.2.2
  have hL6 : ∀ (x1 : Int32) (x2 : Int32) (x3 : Int32), w_X1_meanKeys_L6 V Q x0 G x1 x2 x3 → ∀ (ls : Array Slot) (H : Heap) (locs : List Loc), lv_has ls 4 [(0, va_rf (some x0)), (1, .int x1), (2, .int x2), (3, .int x3)] → xW V A G H → va_S A s.heap H locs → W p l e R s m args below meth c H locs cells slots Z (F0 m 6 ls []) := by
    obtain ⟨GG6, hG6⟩ : ∃ GG : Int32 → Int32 → Int32 → Prop, ∀ (x1 : Int32) (x2 : Int32) (x3 : Int32), GG x1 x2 x3 ↔ (∀ (ls : Array Slot) (H : Heap) (locs : List Loc), lv_has ls 4 [(0, va_rf (some x0)), (1, .int x1), (2, .int x2), (3, .int x3)] → xW V A G H → va_S A s.heap H locs → W p l e R s m args below meth c H locs cells slots Z (F0 m 6 ls [])) := ⟨fun x1 x2 x3 => _, fun x1 x2 x3 => Iff.rfl⟩
    have hB6 : ∀ (rec6 : Int32 → Int32 → Int32 → Prop), (∀ (x1 : Int32) (x2 : Int32) (x3 : Int32), rec6 x1 x2 x3 → GG6 x1 x2 x3) → ∀ (x1 : Int32) (x2 : Int32) (x3 : Int32), w_X1_meanKeys_h6 V Q x0 G rec6 x1 x2 x3 → GG6 x1 x2 x3 := by
      intro rec6 hrec6
      have hb41 : ∀ (x1 : Int32) (x2 : Int32) (x3 : Int32), w_X1_meanKeys_41 V Q rec6 x0 x1 x2 x3 G → ∀ (ls : Array Slot) (H : Heap) (locs : List Loc), lv_has ls 4 [(0, va_rf (some x0)), (1, .int x1), (2, .int x2), (3, .int x3)] → xW V A G H → va_S A s.heap H locs → W p l e R s m args below meth c H locs cells slots Z (F0 m 41 ls []) := by
        intro x1 x2 x3 h
        intro ls H locs hl hW hS
        refine lv_iinc (v := x3 + (1 : Int32)) (lv' := [(3, .int (x3 + (1 : Int32))), (0, va_rf (some x0)), (1, .int x1), (2, .int x2)]) hx hb dX1_meanKeys_41 hl (k := 3) rfl (congrArg (fun z => x3 + z) (by decide)) (by decide) rfl (fun ls hl => ?_)
        refine lv_goto (tgt := 6) hx hb dX1_meanKeys_44 (by decide) ?_
        exact (hG6 _ _ _).mp (hrec6 _ _ _ h) ls H locs (lv_sub hl [1, 2, 3, 0] rfl) hW hS
      intro x1 x2 x3 h
      rw [hG6]
      intro ls H locs hl hW hS
      refine lv_iload_n hx hb dX1_meanKeys_6 rfl (lv_at hl 3 rfl) ?_
      refine sh_aload_n hx hb dX1_meanKeys_7 rfl (lv_at hl 0 rfl) ?_
      obtain ⟨v1, h1, h⟩ := h
      refine sh_get C hW xFb_2 q203 (fun _ h => h) h1 dX1_meanKeys_8 ?_
      refine lv_icmp_ge (tgt := 47) hx hb dX1_meanKeys_11 (by decide) (fun c11 => ?_) (fun c11 => ?_)
      · have h := wif_t h c11
        refine lv_iload_n hx hb dX1_meanKeys_47 rfl (lv_at hl 2 rfl) ?_
        refine lv_if_ne (tgt := 55) hx hb dX1_meanKeys_48 (by decide) (fun c2 => ?_) (fun c2 => ?_)
        · have h := wif_f h c2
          refine lv_iload_n hx hb dX1_meanKeys_55 rfl (lv_at hl 1 rfl) ?_
          refine lv_i2d hx hb dX1_meanKeys_56 ?_
          refine lv_iload_n hx hb dX1_meanKeys_57 rfl (lv_at hl 2 rfl) ?_
          refine lv_i2d hx hb dX1_meanKeys_58 ?_
          refine lv_ddiv hx hb dX1_meanKeys_59 h.1 ?_
          have h := h.2
          exact hret _ _ _ _ _ dX1_meanKeys_60 hW hS h
        · have h := wif_t h c2
          refine lv_dconst0 hx hb dX1_meanKeys_51 ?_
          refine lv_goto (tgt := 60) hx hb dX1_meanKeys_52 (by decide) ?_
          exact hret _ _ _ _ _ dX1_meanKeys_60 hW hS h
      · have h := wif_f h c11
        refine sh_aload_n hx hb dX1_meanKeys_14 rfl (lv_at hl 0 rfl) ?_
        obtain ⟨v3, h1, h⟩ := h
        refine sh_get C hW xFb_1 q202 (fun _ h => h) h1 dX1_meanKeys_15 ?_
        refine lv_iload_n hx hb dX1_meanKeys_18 rfl (lv_at hl 3 rfl) ?_
        refine sh_aald C hW h dX1_meanKeys_19 (fun v4 h => ?_)
        refine sh_ifnonnull (tgt := 26) hx hb dX1_meanKeys_20 (by decide) (fun c10 => ?_) (fun c10 => ?_)
        · have h := wif_f h c10
          refine lv_iload_n hx hb dX1_meanKeys_26 rfl (lv_at hl 1 rfl) ?_
          refine sh_aload_n hx hb dX1_meanKeys_27 rfl (lv_at hl 0 rfl) ?_
          obtain ⟨v5, h1, h⟩ := h
          refine sh_get C hW xFb_1 q202 (fun _ h => h) h1 dX1_meanKeys_28 ?_
          refine lv_iload_n hx hb dX1_meanKeys_31 rfl (lv_at hl 3 rfl) ?_
          refine sh_aald C hW h dX1_meanKeys_32 (fun v6 h => ?_)
          obtain ⟨a7, c8, ho33, hcv33, h⟩ := h
          have hcc := h.1
          have h := h.2
          refine call_X5_keys_U3_4_5_6_Layer (ct_X5_keys l) C hW hS q615 ho33 hcv33 hcc (le_lit hRf rfl) (le_lit hRl rfl) hcs hl.1 (Nat.le_of_ble_eq_true rfl) dX1_meanKeys_33 h (fun r9 H locs h hW hS _ => ?_)
          refine lv_iadd hx hb dX1_meanKeys_36 ?_
          refine lv_istore_n (lv' := [(1, .int (x1 + r9)), (0, va_rf (some x0)), (2, .int x2), (3, .int x3)]) hx hb dX1_meanKeys_37 rfl hl (by decide) rfl (fun ls hl => ?_)
          refine lv_iinc (v := x2 + (1 : Int32)) (lv' := [(2, .int (x2 + (1 : Int32))), (1, .int (x1 + r9)), (0, va_rf (some x0)), (3, .int x3)]) hx hb dX1_meanKeys_38 hl (k := 2) rfl (congrArg (fun z => x2 + z) (by decide)) (by decide) rfl (fun ls hl => ?_)
          exact hb41 _ _ _ h ls H locs (lv_sub hl [2, 1, 0, 3] rfl) hW hS
        · have h := wif_t h c10
          refine lv_goto (tgt := 41) hx hb dX1_meanKeys_23 (by decide) ?_
          exact hb41 _ _ _ h ls H locs (lv_sub hl [0, 1, 2, 3] rfl) hW hS
    intro x1 x2 x3 h
    exact (hG6 x1 x2 x3).mp (loop_walk (fun s => GG6 s.1 s.2.1 s.2.2) (fun rec hrec s h => hB6 (fun x1 x2 x3 => rec (x1, x2, x3)) (fun x1 x2 x3 h => hrec (x1, x2, x3) h) s.1 s.2.1 s.2.2 h) (x1, x2, x3) h)
  intro h
  intro ls H locs hl hW hS
  refine lv_iconst (v := 0) hx hb dX1_meanKeys_0 (by decide) ?_
  refine lv_istore_n (lv' := [(1, .int (0 : Int32)), (0, va_rf (some x0))]) hx hb dX1_meanKeys_1 rfl hl (by decide) rfl (fun ls hl => ?_)
  refine lv_iconst (v := 0) hx hb dX1_meanKeys_2 (by decide) ?_
  refine lv_istore_n (lv' := [(2, .int (0 : Int32)), (1, .int (0 : Int32)), (0, va_rf (some x0))]) hx hb dX1_meanKeys_3 rfl hl (by decide) rfl (fun ls hl => ?_)
  refine lv_iconst (v := 0) hx hb dX1_meanKeys_4 (by decide) ?_
  refine lv_istore_n (lv' := [(3, .int (0 : Int32)), (2, .int (0 : Int32)), (1, .int (0 : Int32)), (0, va_rf (some x0))]) hx hb dX1_meanKeys_5 rfl hl (by decide) rfl (fun ls hl => ?_)
  exact hL6 _ _ _ h ls H locs (lv_sub hl [3, 2, 1, 0] rfl) hW hS
theorem ct_X1_meanKeys (l : Launch) : CT_X1_meanKeys l 3 65 w_X1_meanKeys := by
  intro V sz G Q x0
  refine Met.ofW (cc := cX1_meanKeys) (maxL := 4) (ret := (some .double)) (by decide) rfl ?_
  intro p e s m args below meth c s₁ B hml hv
  obtain ⟨rfl, hsz, hW, hK, hZ, h⟩ := hv
  subst hsz
  have hts := atoms_spec (ws := (ws_ yX1_meanKeys cX1_meanKeys 4 (some .double))) B.pre
  have hts : ∀ w ∈ lw_all, w.before _ s = true := fun w h => hts w (List.mem_cons_of_mem _ h)
  have hl := lv_entry ([.ref x0]) (n := 4) (Nat.le_of_ble_eq_true rfl)
  rw [lg_entry_eq]
  generalize (lg_sl ([.ref x0]) ++ List.replicate (4 - (lg_sl ([.ref x0])).length) Slot.unset).toArray = ls at hl ⊢
  exact wk_X1_meanKeys Q ⟨⟨B.exec, B.bytes, hml, findClass_of_methodNamed B.named, hts⟩, hK, hZ, fun q h => Or.inr h⟩ (Nat.le_refl _) (Nat.le_refl _) ⟨Nat.le_refl _, Nat.le_refl _⟩ G (fun v pc ls H locs hd hW1 hS hQ => W.dret (hlocks := B.notSynchronized) (v := v) B.exec B.bytes B.returns (fun t ht _ => ⟨⟨v, G, rfl, ⟨rfl, hQ⟩, by rw [← ht] at hW1; exact hW1⟩, hS.F ht⟩) hS.2.2 hd) x0 h ls _ [] hl hW va_S.rf
def CT_X3_init (l : Launch) (fr lo : Nat) (w : XV → (GM → Prop) → Nat → GM → Nat → Nat → Prop) : Prop := ∀ (V : XV) (sz : Nat) (G : GM) (Q : GM → Prop) (x0 : Nat) (kc ks : Nat), Met l yX3_init (ws_ yX3_init cX3_init 1 none) { frames := fr, cells := kc, slots := ks, locals := lo } (va_Pc [.ref x0] (fun U => U.heap.size = sz ∧ xW V (xA G sz) G U.heap ∧ xK V U ∧ xZ V (xA G sz) U U.heap ∧ w V Q x0 G kc ks)) (va_Qv (fun (u : GM) => Q u) (fun u t => xW V (xA G sz) u t.heap) (xA G sz)) kc ks (xA G sz)
def w_X3_init (V : XV) (Q : GM → Prop) (x0 : Nat) (G : GM) (kc : Nat) (ks : Nat) : Prop := gNa G 0 (fun N => (N, .inl (fun _ => 0))) (48 : Int32) kc ks (fun q1 n2 G3 => gPF G3 53 (some x0) (va_rf (some q1)) (fun G4 => gNa G4 0 (fun N => (N, .inl (fun _ => 0))) (4 : Int32) (kc - 1) (ks - n2) (fun q5 n6 G7 => gPF G7 54 (some x0) (va_rf (some q5)) (fun G8 => gNa G8 0 (fun N => (N, .inl (fun _ => 0))) (12 : Int32) ((kc - 1) - 1) ((ks - n2) - n6) (fun q9 n10 G11 => gPF G11 55 (some x0) (va_rf (some q9)) (fun G12 => gNa G12 0 (fun N => (N, .inl (fun _ => 0))) (12 : Int32) (((kc - 1) - 1) - 1) (((ks - n2) - n6) - n10) (fun q13 n14 G15 => gPF G15 56 (some x0) (va_rf (some q13)) (fun G16 => gNa G16 0 (fun N => (N, .inl (fun _ => 0))) (12 : Int32) ((((kc - 1) - 1) - 1) - 1) ((((ks - n2) - n6) - n10) - n14) (fun q17 n18 G19 => gPF G19 57 (some x0) (va_rf (some q17)) (fun G20 => gNa G20 0 (fun N => (N, .inl (fun _ => 0))) (12 : Int32) (((((kc - 1) - 1) - 1) - 1) - 1) (((((ks - n2) - n6) - n10) - n14) - n18) (fun q21 n22 G23 => gPF G23 58 (some x0) (va_rf (some q21)) (fun G24 => gNa G24 0 (fun N => (N, .inl (fun _ => 0))) (12 : Int32) ((((((kc - 1) - 1) - 1) - 1) - 1) - 1) ((((((ks - n2) - n6) - n10) - n14) - n18) - n22) (fun q25 n26 G27 => gPF G27 59 (some x0) (va_rf (some q25)) (fun G28 => gNa G28 0 (fun N => (N, .inl (fun _ => 0))) (12 : Int32) (((((((kc - 1) - 1) - 1) - 1) - 1) - 1) - 1) (((((((ks - n2) - n6) - n10) - n14) - n18) - n22) - n26) (fun q29 n30 G31 => gPF G31 60 (some x0) (va_rf (some q29)) (fun G32 => gNa G32 0 (fun N => (N, .inl (fun _ => 0))) (12 : Int32) ((((((((kc - 1) - 1) - 1) - 1) - 1) - 1) - 1) - 1) ((((((((ks - n2) - n6) - n10) - n14) - n18) - n22) - n26) - n30) (fun q33 n34 G35 => gPF G35 61 (some x0) (va_rf (some q33)) (fun G36 => gNa G36 3 (fun N => (N, .inl (fun _ => 0))) (12 : Int32) (((((((((kc - 1) - 1) - 1) - 1) - 1) - 1) - 1) - 1) - 1) (((((((((ks - n2) - n6) - n10) - n14) - n18) - n22) - n26) - n30) - n34) (fun q37 n38 G39 => gPF G39 62 (some x0) (va_rf (some q37)) (fun G40 => gNa G40 0 (fun N => (N, .inl (fun _ => 0))) (12 : Int32) ((((((((((kc - 1) - 1) - 1) - 1) - 1) - 1) - 1) - 1) - 1) - 1) ((((((((((ks - n2) - n6) - n10) - n14) - n18) - n22) - n26) - n30) - n34) - n38) (fun q41 n42 G43 => gPF G43 63 (some x0) (va_rf (some q41)) (fun G44 => gNa G44 0 (fun N => (N, .inl (fun _ => 0))) (12 : Int32) (((((((((((kc - 1) - 1) - 1) - 1) - 1) - 1) - 1) - 1) - 1) - 1) - 1) (((((((((((ks - n2) - n6) - n10) - n14) - n18) - n22) - n26) - n30) - n34) - n38) - n42) (fun q45 n46 G47 => gPF G47 64 (some x0) (va_rf (some q45)) (fun G48 => gNa G48 3 (fun N => (N, .inl (fun _ => 0))) (12 : Int32) ((((((((((((kc - 1) - 1) - 1) - 1) - 1) - 1) - 1) - 1) - 1) - 1) - 1) - 1) ((((((((((((ks - n2) - n6) - n10) - n14) - n18) - n22) - n26) - n30) - n34) - n38) - n42) - n46) (fun q49 n50 G51 => gPF G51 65 (some x0) (va_rf (some q49)) (fun G52 => gNa G52 0 (fun N => (N, .inl (fun _ => 0))) (72 : Int32) (((((((((((((kc - 1) - 1) - 1) - 1) - 1) - 1) - 1) - 1) - 1) - 1) - 1) - 1) - 1) (((((((((((((ks - n2) - n6) - n10) - n14) - n18) - n22) - n26) - n30) - n34) - n38) - n42) - n46) - n50) (fun q53 n54 G55 => gPF G55 67 (some x0) (va_rf (some q53)) (fun G56 => gNa G56 0 (fun N => (N, .inl (fun _ => 0))) (72 : Int32) ((((((((((((((kc - 1) - 1) - 1) - 1) - 1) - 1) - 1) - 1) - 1) - 1) - 1) - 1) - 1) - 1) ((((((((((((((ks - n2) - n6) - n10) - n14) - n18) - n22) - n26) - n30) - n34) - n38) - n42) - n46) - n50) - n54) (fun q57 n58 G59 => gPF G59 68 (some x0) (va_rf (some q57)) (fun G60 => gNa G60 0 (fun N => (N, .inl (fun _ => 0))) (12 : Int32) (((((((((((((((kc - 1) - 1) - 1) - 1) - 1) - 1) - 1) - 1) - 1) - 1) - 1) - 1) - 1) - 1) - 1) (((((((((((((((ks - n2) - n6) - n10) - n14) - n18) - n22) - n26) - n30) - n34) - n38) - n42) - n46) - n50) - n54) - n58) (fun q61 n62 G63 => gPF G63 69 (some x0) (va_rf (some q61)) (fun G64 => gNa G64 0 (fun N => (N, .inl (fun _ => 0))) (96 : Int32) ((((((((((((((((kc - 1) - 1) - 1) - 1) - 1) - 1) - 1) - 1) - 1) - 1) - 1) - 1) - 1) - 1) - 1) - 1) ((((((((((((((((ks - n2) - n6) - n10) - n14) - n18) - n22) - n26) - n30) - n34) - n38) - n42) - n46) - n50) - n54) - n58) - n62) (fun q65 n66 G67 => gPF G67 70 (some x0) (va_rf (some q65)) (fun G68 => gNa G68 0 (fun N => (N, .inl (fun _ => 0))) (768 : Int32) (((((((((((((((((kc - 1) - 1) - 1) - 1) - 1) - 1) - 1) - 1) - 1) - 1) - 1) - 1) - 1) - 1) - 1) - 1) - 1) (((((((((((((((((ks - n2) - n6) - n10) - n14) - n18) - n22) - n26) - n30) - n34) - n38) - n42) - n46) - n50) - n54) - n58) - n62) - n66) (fun q69 n70 G71 => gPF G71 71 (some x0) (va_rf (some q69)) (fun G72 => gNa G72 0 (fun N => (N, .inl (fun _ => 0))) (768 : Int32) ((((((((((((((((((kc - 1) - 1) - 1) - 1) - 1) - 1) - 1) - 1) - 1) - 1) - 1) - 1) - 1) - 1) - 1) - 1) - 1) - 1) ((((((((((((((((((ks - n2) - n6) - n10) - n14) - n18) - n22) - n26) - n30) - n34) - n38) - n42) - n46) - n50) - n54) - n58) - n62) - n66) - n70) (fun q73 n74 G75 => gPF G75 72 (some x0) (va_rf (some q73)) (fun G76 => gNa G76 0 (fun N => (N, .inl (fun _ => 0))) (768 : Int32) (((((((((((((((((((kc - 1) - 1) - 1) - 1) - 1) - 1) - 1) - 1) - 1) - 1) - 1) - 1) - 1) - 1) - 1) - 1) - 1) - 1) - 1) (((((((((((((((((((ks - n2) - n6) - n10) - n14) - n18) - n22) - n26) - n30) - n34) - n38) - n42) - n46) - n50) - n54) - n58) - n62) - n66) - n70) - n74) (fun q77 n78 G79 => gPF G79 73 (some x0) (va_rf (some q77)) (fun G80 => gNa G80 0 (fun N => (N, .inl (fun _ => 0))) (4 : Int32) ((((((((((((((((((((kc - 1) - 1) - 1) - 1) - 1) - 1) - 1) - 1) - 1) - 1) - 1) - 1) - 1) - 1) - 1) - 1) - 1) - 1) - 1) - 1) ((((((((((((((((((((ks - n2) - n6) - n10) - n14) - n18) - n22) - n26) - n30) - n34) - n38) - n42) - n46) - n50) - n54) - n58) - n62) - n66) - n70) - n74) - n78) (fun q81 n82 G83 => gPF G83 76 (some x0) (va_rf (some q81)) (fun G84 => gNa G84 0 (fun N => (N, .inl (fun _ => 0))) (4 : Int32) (((((((((((((((((((((kc - 1) - 1) - 1) - 1) - 1) - 1) - 1) - 1) - 1) - 1) - 1) - 1) - 1) - 1) - 1) - 1) - 1) - 1) - 1) - 1) - 1) (((((((((((((((((((((ks - n2) - n6) - n10) - n14) - n18) - n22) - n26) - n30) - n34) - n38) - n42) - n46) - n50) - n54) - n58) - n62) - n66) - n70) - n74) - n78) - n82) (fun q85 n86 G87 => gPF G87 77 (some x0) (va_rf (some q85)) (fun G88 => gNa G88 0 (fun N => (N, .inl (fun _ => 0))) (1728 : Int32) ((((((((((((((((((((((kc - 1) - 1) - 1) - 1) - 1) - 1) - 1) - 1) - 1) - 1) - 1) - 1) - 1) - 1) - 1) - 1) - 1) - 1) - 1) - 1) - 1) - 1) ((((((((((((((((((((((ks - n2) - n6) - n10) - n14) - n18) - n22) - n26) - n30) - n34) - n38) - n42) - n46) - n50) - n54) - n58) - n62) - n66) - n70) - n74) - n78) - n82) - n86) (fun q89 n90 G91 => gPF G91 78 (some x0) (va_rf (some q89)) (fun G92 => gNa G92 0 (fun N => (N, .inl (fun _ => 0))) (64 : Int32) (((((((((((((((((((((((kc - 1) - 1) - 1) - 1) - 1) - 1) - 1) - 1) - 1) - 1) - 1) - 1) - 1) - 1) - 1) - 1) - 1) - 1) - 1) - 1) - 1) - 1) - 1) (((((((((((((((((((((((ks - n2) - n6) - n10) - n14) - n18) - n22) - n26) - n30) - n34) - n38) - n42) - n46) - n50) - n54) - n58) - n62) - n66) - n70) - n74) - n78) - n82) - n86) - n90) (fun q93 n94 G95 => gPF G95 79 (some x0) (va_rf (some q93)) (fun G96 => Q G96))))))))))))))))))))))))))))))))))))))))))))))))
set_option maxRecDepth 100000 in
set_option maxHeartbeats 4000000 in
theorem wk_X3_init {p : Program} {l : Launch} {e : Env} {R : Room} {s : State} {m : MethodId} {args : Array Value} {below : List Frame} {meth : Method} {c : Code} {Z : State → Prop} {A : Nat → Prop} {V : XV} (Q : GM → Prop) (C : xC p m c s args cX3_init 1 RX3 V A) (hin : meth.name = "<init>") (hRf : 1 ≤ R.frames) (hRl : 20 ≤ R.locals) (G : GM) (hret : ∀ (G : GM) (pc : Nat) (ls : Array Slot) (H : Heap) (locs : List Loc) (cells slots : Nat) {k1 k2 : Nat}, decode cX3_init pc = .ok (.return_, 1) → xW V A G H → va_S A s.heap H locs → cells + k1 ≤ R.cells → slots + k2 ≤ R.slots → Q G → W p l e R s m args below meth c H locs cells slots Z (F0 m pc ls [])) (x0 : Nat) (kc ks : Nat) : w_X3_init V Q x0 G kc ks → ∀ (ls : Array Slot) (H : Heap) (locs : List Loc) (cells slots : Nat), lv_has ls 1 [(0, va_rf (some x0))] → xW V A G H → va_S A s.heap H locs → cells + kc ≤ R.cells → slots + ks ≤ R.slots → W p l e R s m args below meth c H locs cells slots Z (F0 m 0 ls []) := by
  have hx := C.1.1; have hb := C.1.2.1; have hml := C.1.2.2.1; have hown := C.1.2.2.2.1; have hts := C.1.2.2.2.2
  intro h
  intro ls H locs cells slots hl hW hS hkc hks
  refine sh_aload_n hx hb dX3_init_0 rfl (lv_at hl 0 rfl) ?_
  refine sh_objInit C q1802 q110 q111 hl.1 (le_lit hRf rfl) (le_lit hRl rfl) (Nat.le_of_ble_eq_true rfl) dX3_init_1 ?_
  refine sh_aload_n hx hb dX3_init_4 rfl (lv_at hl 0 rfl) ?_
  refine lv_bipush (v := 48) hx hb dX3_init_5 (by decide) ?_
  refine sh_newa C hW hS (atype := .int) (t := 0) rfl (by decide) q827 (fun _ _ => rfl) (by decide) h hkc hks dX3_init_7 (fun q1 n2 G3 H hW hS h hN hkc hks => ?_)
  refine sh_putF C hW hS xFb_53 q1805 (fun _ h => h) hin rfl xFd_53 (rf_nar_a _ _) (rf_fit_a _ _) h dX3_init_9 (fun G4 H locs hW hS h => ?_)
  refine sh_aload_n hx hb dX3_init_12 rfl (lv_at hl 0 rfl) ?_
  refine lv_iconst (v := 4) hx hb dX3_init_13 (by decide) ?_
  refine sh_newa C hW hS (atype := .int) (t := 0) rfl (by decide) q827 (fun _ _ => rfl) (by decide) h hkc hks dX3_init_14 (fun q5 n6 G7 H hW hS h hN hkc hks => ?_)
  refine sh_putF C hW hS xFb_54 q1806 (fun _ h => h) hin rfl xFd_54 (rf_nar_a _ _) (rf_fit_a _ _) h dX3_init_16 (fun G8 H locs hW hS h => ?_)
  refine sh_aload_n hx hb dX3_init_19 rfl (lv_at hl 0 rfl) ?_
  refine lv_bipush (v := 12) hx hb dX3_init_20 (by decide) ?_
  refine sh_newa C hW hS (atype := .int) (t := 0) rfl (by decide) q827 (fun _ _ => rfl) (by decide) h hkc hks dX3_init_22 (fun q9 n10 G11 H hW hS h hN hkc hks => ?_)
  refine sh_putF C hW hS xFb_55 q1807 (fun _ h => h) hin rfl xFd_55 (rf_nar_a _ _) (rf_fit_a _ _) h dX3_init_24 (fun G12 H locs hW hS h => ?_)
  refine sh_aload_n hx hb dX3_init_27 rfl (lv_at hl 0 rfl) ?_
  refine lv_bipush (v := 12) hx hb dX3_init_28 (by decide) ?_
  refine sh_newa C hW hS (atype := .int) (t := 0) rfl (by decide) q827 (fun _ _ => rfl) (by decide) h hkc hks dX3_init_30 (fun q13 n14 G15 H hW hS h hN hkc hks => ?_)
  refine sh_putF C hW hS xFb_56 q1808 (fun _ h => h) hin rfl xFd_56 (rf_nar_a _ _) (rf_fit_a _ _) h dX3_init_32 (fun G16 H locs hW hS h => ?_)
  refine sh_aload_n hx hb dX3_init_35 rfl (lv_at hl 0 rfl) ?_
  refine lv_bipush (v := 12) hx hb dX3_init_36 (by decide) ?_
  refine sh_newa C hW hS (atype := .int) (t := 0) rfl (by decide) q827 (fun _ _ => rfl) (by decide) h hkc hks dX3_init_38 (fun q17 n18 G19 H hW hS h hN hkc hks => ?_)
  refine sh_putF C hW hS xFb_57 q1809 (fun _ h => h) hin rfl xFd_57 (rf_nar_a _ _) (rf_fit_a _ _) h dX3_init_40 (fun G20 H locs hW hS h => ?_)
  refine sh_aload_n hx hb dX3_init_43 rfl (lv_at hl 0 rfl) ?_
  refine lv_bipush (v := 12) hx hb dX3_init_44 (by decide) ?_
  refine sh_newa C hW hS (atype := .int) (t := 0) rfl (by decide) q827 (fun _ _ => rfl) (by decide) h hkc hks dX3_init_46 (fun q21 n22 G23 H hW hS h hN hkc hks => ?_)
  refine sh_putF C hW hS xFb_58 q1810 (fun _ h => h) hin rfl xFd_58 (rf_nar_a _ _) (rf_fit_a _ _) h dX3_init_48 (fun G24 H locs hW hS h => ?_)
  refine sh_aload_n hx hb dX3_init_51 rfl (lv_at hl 0 rfl) ?_
  refine lv_bipush (v := 12) hx hb dX3_init_52 (by decide) ?_
  refine sh_newa C hW hS (atype := .int) (t := 0) rfl (by decide) q827 (fun _ _ => rfl) (by decide) h hkc hks dX3_init_54 (fun q25 n26 G27 H hW hS h hN hkc hks => ?_)
  refine sh_putF C hW hS xFb_59 q1811 (fun _ h => h) hin rfl xFd_59 (rf_nar_a _ _) (rf_fit_a _ _) h dX3_init_56 (fun G28 H locs hW hS h => ?_)
  refine sh_aload_n hx hb dX3_init_59 rfl (lv_at hl 0 rfl) ?_
  refine lv_bipush (v := 12) hx hb dX3_init_60 (by decide) ?_
  refine sh_newa C hW hS (atype := .int) (t := 0) rfl (by decide) q827 (fun _ _ => rfl) (by decide) h hkc hks dX3_init_62 (fun q29 n30 G31 H hW hS h hN hkc hks => ?_)
  refine sh_putF C hW hS xFb_60 q1812 (fun _ h => h) hin rfl xFd_60 (rf_nar_a _ _) (rf_fit_a _ _) h dX3_init_64 (fun G32 H locs hW hS h => ?_)
  refine sh_aload_n hx hb dX3_init_67 rfl (lv_at hl 0 rfl) ?_
  refine lv_bipush (v := 12) hx hb dX3_init_68 (by decide) ?_
  refine sh_newa C hW hS (atype := .int) (t := 0) rfl (by decide) q827 (fun _ _ => rfl) (by decide) h hkc hks dX3_init_70 (fun q33 n34 G35 H hW hS h hN hkc hks => ?_)
  refine sh_putF C hW hS xFb_61 q1813 (fun _ h => h) hin rfl xFd_61 (rf_nar_a _ _) (rf_fit_a _ _) h dX3_init_72 (fun G36 H locs hW hS h => ?_)
  refine sh_aload_n hx hb dX3_init_75 rfl (lv_at hl 0 rfl) ?_
  refine lv_bipush (v := 12) hx hb dX3_init_76 (by decide) ?_
  refine sh_newa C hW hS (atype := .boolean) (t := 3) rfl (by decide) q1894 (fun _ _ => rfl) (by decide) h hkc hks dX3_init_78 (fun q37 n38 G39 H hW hS h hN hkc hks => ?_)
  refine sh_putF C hW hS xFb_62 q1814 (fun _ h => h) hin rfl xFd_62 (rf_nar_a _ _) (rf_fit_a _ _) h dX3_init_80 (fun G40 H locs hW hS h => ?_)
  refine sh_aload_n hx hb dX3_init_83 rfl (lv_at hl 0 rfl) ?_
  refine lv_bipush (v := 12) hx hb dX3_init_84 (by decide) ?_
  refine sh_newa C hW hS (atype := .int) (t := 0) rfl (by decide) q827 (fun _ _ => rfl) (by decide) h hkc hks dX3_init_86 (fun q41 n42 G43 H hW hS h hN hkc hks => ?_)
  refine sh_putF C hW hS xFb_63 q1815 (fun _ h => h) hin rfl xFd_63 (rf_nar_a _ _) (rf_fit_a _ _) h dX3_init_88 (fun G44 H locs hW hS h => ?_)
  refine sh_aload_n hx hb dX3_init_91 rfl (lv_at hl 0 rfl) ?_
  refine lv_bipush (v := 12) hx hb dX3_init_92 (by decide) ?_
  refine sh_newa C hW hS (atype := .int) (t := 0) rfl (by decide) q827 (fun _ _ => rfl) (by decide) h hkc hks dX3_init_94 (fun q45 n46 G47 H hW hS h hN hkc hks => ?_)
  refine sh_putF C hW hS xFb_64 q1816 (fun _ h => h) hin rfl xFd_64 (rf_nar_a _ _) (rf_fit_a _ _) h dX3_init_96 (fun G48 H locs hW hS h => ?_)
  refine sh_aload_n hx hb dX3_init_99 rfl (lv_at hl 0 rfl) ?_
  refine lv_bipush (v := 12) hx hb dX3_init_100 (by decide) ?_
  refine sh_newa C hW hS (atype := .boolean) (t := 3) rfl (by decide) q1894 (fun _ _ => rfl) (by decide) h hkc hks dX3_init_102 (fun q49 n50 G51 H hW hS h hN hkc hks => ?_)
  refine sh_putF C hW hS xFb_65 q1817 (fun _ h => h) hin rfl xFd_65 (rf_nar_a _ _) (rf_fit_a _ _) h dX3_init_104 (fun G52 H locs hW hS h => ?_)
  refine sh_aload_n hx hb dX3_init_107 rfl (lv_at hl 0 rfl) ?_
  refine lv_bipush (v := 72) hx hb dX3_init_108 (by decide) ?_
  refine sh_newa C hW hS (atype := .int) (t := 0) rfl (by decide) q827 (fun _ _ => rfl) (by decide) h hkc hks dX3_init_110 (fun q53 n54 G55 H hW hS h hN hkc hks => ?_)
  refine sh_putF C hW hS xFb_67 q1819 (fun _ h => h) hin rfl xFd_67 (rf_nar_a _ _) (rf_fit_a _ _) h dX3_init_112 (fun G56 H locs hW hS h => ?_)
  refine sh_aload_n hx hb dX3_init_115 rfl (lv_at hl 0 rfl) ?_
  refine lv_bipush (v := 72) hx hb dX3_init_116 (by decide) ?_
  refine sh_newa C hW hS (atype := .int) (t := 0) rfl (by decide) q827 (fun _ _ => rfl) (by decide) h hkc hks dX3_init_118 (fun q57 n58 G59 H hW hS h hN hkc hks => ?_)
  refine sh_putF C hW hS xFb_68 q1820 (fun _ h => h) hin rfl xFd_68 (rf_nar_a _ _) (rf_fit_a _ _) h dX3_init_120 (fun G60 H locs hW hS h => ?_)
  refine sh_aload_n hx hb dX3_init_123 rfl (lv_at hl 0 rfl) ?_
  refine lv_bipush (v := 12) hx hb dX3_init_124 (by decide) ?_
  refine sh_newa C hW hS (atype := .int) (t := 0) rfl (by decide) q827 (fun _ _ => rfl) (by decide) h hkc hks dX3_init_126 (fun q61 n62 G63 H hW hS h hN hkc hks => ?_)
  refine sh_putF C hW hS xFb_69 q1821 (fun _ h => h) hin rfl xFd_69 (rf_nar_a _ _) (rf_fit_a _ _) h dX3_init_128 (fun G64 H locs hW hS h => ?_)
  refine sh_aload_n hx hb dX3_init_131 rfl (lv_at hl 0 rfl) ?_
  refine lv_bipush (v := 96) hx hb dX3_init_132 (by decide) ?_
  refine sh_newa C hW hS (atype := .int) (t := 0) rfl (by decide) q827 (fun _ _ => rfl) (by decide) h hkc hks dX3_init_134 (fun q65 n66 G67 H hW hS h hN hkc hks => ?_)
  refine sh_putF C hW hS xFb_70 q1822 (fun _ h => h) hin rfl xFd_70 (rf_nar_a _ _) (rf_fit_a _ _) h dX3_init_136 (fun G68 H locs hW hS h => ?_)
  refine sh_aload_n hx hb dX3_init_139 rfl (lv_at hl 0 rfl) ?_
  refine lv_sipush (v := 768) hx hb dX3_init_140 (by decide) ?_
  refine sh_newa C hW hS (atype := .int) (t := 0) rfl (by decide) q827 (fun _ _ => rfl) (by decide) h hkc hks dX3_init_143 (fun q69 n70 G71 H hW hS h hN hkc hks => ?_)
  refine sh_putF C hW hS xFb_71 q1823 (fun _ h => h) hin rfl xFd_71 (rf_nar_a _ _) (rf_fit_a _ _) h dX3_init_145 (fun G72 H locs hW hS h => ?_)
  refine sh_aload_n hx hb dX3_init_148 rfl (lv_at hl 0 rfl) ?_
  refine lv_sipush (v := 768) hx hb dX3_init_149 (by decide) ?_
  refine sh_newa C hW hS (atype := .int) (t := 0) rfl (by decide) q827 (fun _ _ => rfl) (by decide) h hkc hks dX3_init_152 (fun q73 n74 G75 H hW hS h hN hkc hks => ?_)
  refine sh_putF C hW hS xFb_72 q1824 (fun _ h => h) hin rfl xFd_72 (rf_nar_a _ _) (rf_fit_a _ _) h dX3_init_154 (fun G76 H locs hW hS h => ?_)
  refine sh_aload_n hx hb dX3_init_157 rfl (lv_at hl 0 rfl) ?_
  refine lv_sipush (v := 768) hx hb dX3_init_158 (by decide) ?_
  refine sh_newa C hW hS (atype := .int) (t := 0) rfl (by decide) q827 (fun _ _ => rfl) (by decide) h hkc hks dX3_init_161 (fun q77 n78 G79 H hW hS h hN hkc hks => ?_)
  refine sh_putF C hW hS xFb_73 q1825 (fun _ h => h) hin rfl xFd_73 (rf_nar_a _ _) (rf_fit_a _ _) h dX3_init_163 (fun G80 H locs hW hS h => ?_)
  refine sh_aload_n hx hb dX3_init_166 rfl (lv_at hl 0 rfl) ?_
  refine lv_iconst (v := 4) hx hb dX3_init_167 (by decide) ?_
  refine sh_newa C hW hS (atype := .int) (t := 0) rfl (by decide) q827 (fun _ _ => rfl) (by decide) h hkc hks dX3_init_168 (fun q81 n82 G83 H hW hS h hN hkc hks => ?_)
  refine sh_putF C hW hS xFb_76 q1828 (fun _ h => h) hin rfl xFd_76 (rf_nar_a _ _) (rf_fit_a _ _) h dX3_init_170 (fun G84 H locs hW hS h => ?_)
  refine sh_aload_n hx hb dX3_init_173 rfl (lv_at hl 0 rfl) ?_
  refine lv_iconst (v := 4) hx hb dX3_init_174 (by decide) ?_
  refine sh_newa C hW hS (atype := .int) (t := 0) rfl (by decide) q827 (fun _ _ => rfl) (by decide) h hkc hks dX3_init_175 (fun q85 n86 G87 H hW hS h hN hkc hks => ?_)
  refine sh_putF C hW hS xFb_77 q1829 (fun _ h => h) hin rfl xFd_77 (rf_nar_a _ _) (rf_fit_a _ _) h dX3_init_177 (fun G88 H locs hW hS h => ?_)
  refine sh_aload_n hx hb dX3_init_180 rfl (lv_at hl 0 rfl) ?_
  refine lv_sipush (v := 1728) hx hb dX3_init_181 (by decide) ?_
  refine sh_newa C hW hS (atype := .int) (t := 0) rfl (by decide) q827 (fun _ _ => rfl) (by decide) h hkc hks dX3_init_184 (fun q89 n90 G91 H hW hS h hN hkc hks => ?_)
  refine sh_putF C hW hS xFb_78 q1830 (fun _ h => h) hin rfl xFd_78 (rf_nar_a _ _) (rf_fit_a _ _) h dX3_init_186 (fun G92 H locs hW hS h => ?_)
  refine sh_aload_n hx hb dX3_init_189 rfl (lv_at hl 0 rfl) ?_
  refine lv_bipush (v := 64) hx hb dX3_init_190 (by decide) ?_
  refine sh_newa C hW hS (atype := .int) (t := 0) rfl (by decide) q827 (fun _ _ => rfl) (by decide) h hkc hks dX3_init_192 (fun q93 n94 G95 H hW hS h hN hkc hks => ?_)
  refine sh_putF C hW hS xFb_79 q1831 (fun _ h => h) hin rfl xFd_79 (rf_nar_a _ _) (rf_fit_a _ _) h dX3_init_194 (fun G96 H locs hW hS h => ?_)
  exact hret _ _ _ _ _ _ _ dX3_init_197 hW hS hkc hks h
theorem ct_X3_init (l : Launch) : CT_X3_init l 1 20 w_X3_init := by
  intro V sz G Q x0 kc ks
  refine Met.ofW (cc := cX3_init) (maxL := 1) (ret := none) (by decide) rfl ?_
  intro p e s m args below meth c s₁ B hml hv
  obtain ⟨rfl, hsz, hW, hK, hZ, h⟩ := hv
  subst hsz
  have hts := atoms_spec (ws := (ws_ yX3_init cX3_init 1 none)) B.pre
  have hts : ∀ w ∈ lw_all, w.before _ s = true := fun w h => hts w (List.mem_cons_of_mem _ h)
  have hl := lv_entry ([.ref x0]) (n := 1) (Nat.le_of_ble_eq_true rfl)
  rw [lg_entry_eq]
  generalize (lg_sl ([.ref x0]) ++ List.replicate (1 - (lg_sl ([.ref x0])).length) Slot.unset).toArray = ls at hl ⊢
  exact wk_X3_init Q ⟨⟨B.exec, B.bytes, hml, findClass_of_methodNamed B.named, hts⟩, hK, hZ, fun q h => Or.inr h⟩ (name_of_methodNamed B.named B.method).1 (Nat.le_refl _) (Nat.le_refl _) G (fun G pc ls H locs cells slots _ _ hd hW1 hS hkc hks hQ => W.widen (k := kc) (n := ks) (Nat.le_trans (Nat.le_add_right _ _) hkc) (Nat.le_trans (Nat.le_add_right _ _) hks) (W.vret B.exec B.bytes B.returns (fun t ht _ => ⟨⟨G, rfl, hQ, by rw [← ht] at hW1; exact hW1⟩, hS.F ht⟩) hS.2.2 hd)) x0 kc ks h ls _ [] 0 0 hl hW va_S.rf (by show 0 + kc ≤ kc; omega) (by show 0 + ks ≤ ks; omega)
