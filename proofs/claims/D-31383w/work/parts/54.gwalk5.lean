def CT_X1_setParent (l : Launch) (fr lo : Nat) (w : XV → (Int32 → GM → Prop) → (String → GM → Prop) → Nat → Int32 → Int32 → GM → Nat → Nat → Prop) : Prop := ∀ (V : XV) (sz : Nat) (G : GM) (Q : Int32 → GM → Prop) (X : String → GM → Prop) (x0 : Nat) (x1 : Int32) (x2 : Int32) (kc ks : Nat), vx_Met l yX1_setParent (ws_ yX1_setParent cX1_setParent 6 (some .int)) { frames := fr, cells := kc, slots := ks, locals := lo } (va_Pc [.ref x0, .int x1, .int x2] (fun U => U.heap.size = sz ∧ xW V (xA G sz) G U.heap ∧ xK V U ∧ xZ V (xA G sz) U U.heap ∧ w V Q X x0 x1 x2 G kc ks)) (va_Qi (fun r (u : GM) => Q r u) (fun u t => xW V (xA G sz) u t.heap) (xA G sz)) (vx_X (fun u : String × GM => X u.1 u.2) (fun E u t => E = u.1 ∧ xW V (xA G sz) u.2 t.heap) (xA G sz)) kc ks (xA G sz)
theorem call_X1_setParent_V {p : Program} {l : Launch} {e : Env} {R : Room} {s : State} {m : MethodId} {args : Array Value} {below : List Frame} {meth : Method} {c : Code} {H : Heap} {locs : List Loc} {cells slots : Nat} {Z : State → Prop} {A : Nat → Prop} {cc : ByteArray} {nL pc : Nat} {ls : Array Slot} {rest : List Value} {own : String} {index fr lo : Nat} {w : XV → (Int32 → GM → Prop) → (String → GM → Prop) → Nat → Int32 → Int32 → GM → Nat → Nat → Prop} {V : XV} {G : GM} {o : Option Nat} {ci : Nat} {kc ks c1 s1 : Nat} {x0 : Nat} {x1 : Int32} {x2 : Int32} (hM : CT_X1_setParent l fr lo w) (C : xC p m c s args cc nL own V A) (hW : xW V A G H) (hS : va_S A s.heap H locs) (hlink : Cond.methodLink own index yX1_setParent ∈ lw_all) (ho : o = some x0) (hcv : gCi G (some x0) = some ci) (hci : ci % 64 = 0) (hRf : fr + 1 ≤ R.frames) (hRl : 8 + (6 + 11) + lo ≤ R.locals) (hc1 : c1 ≤ kc) (hs1 : s1 ≤ ks) (hkc : cells + kc ≤ R.cells) (hks : slots + ks ≤ R.slots) (hz : ls.size = nL) (hr8 : (rest.map fun v => v.category).sum ≤ 8) (hdg : decode cc pc = .ok (.invokevirtual index, 3)) {Q1 : Int32 → GM → Prop} {X1 : String → GM → Prop} (h : w V Q1 X1 x0 x1 x2 G c1 s1) (kx : ∀ (E : String) (G1 : GM) (ce : Cell) (q9 : Addr) (H1 : Heap) (locs1 : List Loc), X1 E G1 → xW V A G1 H1 → va_S A s.heap H1 locs1 → H1[q9]? = some ce → ce.vm = .none → s.vm.findClass E = some ce.cls → xFr V G G1 H H1 → vx_W p l e R s m args below meth c H1 locs1 (cells + c1) (slots + s1) Z (F0 m pc ls rest) q9) (kk : ∀ (r : Int32) (G1 : GM) (H1 : Heap) (locs1 : List Loc), Q1 r G1 → xW V A G1 H1 → va_S A s.heap H1 locs1 → xFr V G G1 H H1 → (cells + c1) + (kc - c1) ≤ R.cells → (slots + s1) + (ks - s1) ≤ R.slots → W p l e R s m args below meth c H1 locs1 (cells + c1) (slots + s1) Z (F0 m (pc + 3) ls (.int r :: rest))) : W p l e R s m args below meth c H locs cells slots Z (F0 m pc ls (.int x2 :: .int x1 :: va_rf o :: rest)) := by
  subst ho
  obtain ⟨fs, hG⟩ := gCi_of hcv
  exact rx_i3w (vx_runV (As := [.int x1, .int x2]) (rest := rest) C.1 (hM V H.size G Q1 X1 x0 x1 x2 c1 s1) (cwV 2 C.1.2.2.2.2 (lw_V hlink q1189 q1190 q59 q1191) rfl rfl rfl (by decide +kernel) ⟨hRf, hRl⟩) ⟨fun a U g mk q => by obtain ⟨q0, q1, qW, qK, qZ, qw⟩ := q; exact ⟨q0, q1, qW, xK.same (u := U) (U := U.calling g mk a) rfl qK, xZ.moved (u := U) (U := U.calling g mk a) (Vm.Alike.refl U.vm) qZ, qw⟩, (hW.recv C.2.1 hG (r := (RX1, TX1, 6)) (by rw [hci]; rfl)), fun U hU hWm => ⟨rfl, by rw [hU], by rw [hU]; exact hW.self _, C.2.1.warm hWm, xZ.call C.2.2.1 hW hS C.2.2.2 hU hWm.alike, h⟩⟩ rfl rfl hz rfl (lv_room hr8) hdg ⟨by omega, by omega⟩) hW hS C.2.2.2 kx (fun r G1 H1 locs1 hp hW1 hS1 hF1 => kk r G1 H1 locs1 hp hW1 hS1 hF1 (by omega) (by omega))
def w_X1_setParent_53 (V : XV) (Q : Int32 → GM → Prop) (X : String → GM → Prop) (x0 : Nat) (x3 : Option Nat) (x4 : Option Nat) (y0 : Int32) (G : GM) (kc : Nat) (ks : Nat) : Prop := ∃ c1 s2 : Nat, c1 ≤ kc ∧ s2 ≤ ks ∧ (w_X1_checkState V (gGR G 16 x3 (fun v3 => w_X1_numberOf V (fun r4 => gPF G 16 x3 (va_rf x4) (fun G5 => gGR G5 3 (some x0) (fun v6 => gRcv G5 v6 (fun a7 c8 => (c8 % 64 = 15) ∧ (w_J2_clear V (fun G9 => Q r4 G9) a7 G5))))) v3 G)) X y0 G c1 s2)
def w_X1_setParent_48 (V : XV) (Q : Int32 → GM → Prop) (X : String → GM → Prop) (x0 : Nat) (x3 : Option Nat) (x4 : Option Nat) (G : GM) (kc : Nat) (ks : Nat) : Prop := w_X1_setParent_53 V Q X x0 x3 x4 (1 : Int32) G kc ks
def w_X1_setParent_52 (V : XV) (Q : Int32 → GM → Prop) (X : String → GM → Prop) (x0 : Nat) (x3 : Option Nat) (x4 : Option Nat) (G : GM) (kc : Nat) (ks : Nat) : Prop := w_X1_setParent_53 V Q X x0 x3 x4 (0 : Int32) G kc ks
def w_X1_setParent_20 (V : XV) (Q : Int32 → GM → Prop) (X : String → GM → Prop) (x0 : Nat) (x3 : Option Nat) (y0 : Option Nat) (G : GM) (kc : Nat) (ks : Nat) : Prop := if y0 = none then (w_X1_setParent_48 V Q X x0 x3 y0 G kc ks) else (gGR G 14 y0 (fun v10 => gGR G 14 x3 (fun v11 => if v10 = v11 then (gRcv G y0 (fun a12 c13 => (c13 % 64 = 5 ∨ c13 % 64 = 6 ∨ c13 % 64 = 3 ∨ c13 % 64 = 4) ∧ (w_X5_isOn V (fun r14 => if r14 = 0 then (w_X1_setParent_48 V Q X x0 x3 y0 G kc ks) else (w_X1_setParent_52 V Q X x0 x3 y0 G kc ks)) a12 x3 G))) else (w_X1_setParent_52 V Q X x0 x3 y0 G kc ks))))
def w_X1_setParent (V : XV) (Q : Int32 → GM → Prop) (X : String → GM → Prop) (x0 : Nat) (x1 : Int32) (x2 : Int32) (G : GM) (kc : Nat) (ks : Nat) : Prop := gRcv G (some x0) (fun a18 c19 => (c19 % 64 = 0) ∧ (∃ c21 s22 : Nat, c21 ≤ kc ∧ s22 ≤ ks ∧ (w_X1_layer V (fun r20 => if x2 = (-1 : Int32) then (w_X1_setParent_20 V Q X x0 r20 none G (kc - c21) (ks - s22)) else (gRcv G (some x0) (fun a23 c24 => (c24 % 64 = 0) ∧ (∃ c26 s27 : Nat, c26 ≤ (kc - c21) ∧ s27 ≤ (ks - s22) ∧ (w_X1_layer V (fun r25 => w_X1_setParent_20 V Q X x0 r20 r25 G ((kc - c21) - c26) ((ks - s22) - s27)) X a23 x2 G c26 s27))))) X a18 x1 G c21 s22)))
set_option maxRecDepth 100000 in
set_option maxHeartbeats 4000000 in
theorem wk_X1_setParent {p : Program} {l : Launch} {e : Env} {R : Room} {s : State} {m : MethodId} {args : Array Value} {below : List Frame} {meth : Method} {c : Code} {Z : State → Prop} {A : Nat → Prop} {V : XV} (Q : Int32 → GM → Prop) (X : String → GM → Prop) (C : xC p m c s args cX1_setParent 6 RX1 V A) (hfl : l.stackTraces = false) (hRf : 14 ≤ R.frames) (hRl : 241 ≤ R.locals) (G : GM) (hret : ∀ (v : Int32) (G : GM) (pc : Nat) (ls : Array Slot) (H : Heap) (locs : List Loc) (cells slots : Nat) {k1 k2 : Nat}, decode cX1_setParent pc = .ok (.ireturn, 1) → xW V A G H → va_S A s.heap H locs → cells + k1 ≤ R.cells → slots + k2 ≤ R.slots → Q v G → W p l e R s m args below meth c H locs cells slots Z (F0 m pc ls [.int v])) (hxo : ∀ (E : String) (G : GM) (ce : Cell) (q : Addr) (pc : Nat) (ls : Array Slot) (H : Heap) (locs : List Loc) (cells slots : Nat) (rest : List Value), xW V A G H → va_S A s.heap H locs → X E G → H[q]? = some ce → ce.vm = .none → s.vm.findClass E = some ce.cls → cells ≤ R.cells → slots ≤ R.slots → vx_W p l e R s m args below meth c H locs cells slots Z (F0 m pc ls rest) q) (x0 : Nat) (x1 : Int32) (x2 : Int32) (kc ks : Nat) : w_X1_setParent V Q X x0 x1 x2 G kc ks → ∀ (ls : Array Slot) (H : Heap) (locs : List Loc) (cells slots : Nat), lv_has ls 6 [(0, va_rf (some x0)), (1, .int x1), (2, .int x2)] → xW V A G H → va_S A s.heap H locs → cells + kc ≤ R.cells → slots + ks ≤ R.slots → W p l e R s m args below meth c H locs cells slots Z (F0 m 0 ls []) := by
  have hx := C.1.1; have hb := C.1.2.1; have hml := C.1.2.2.1; have hown := C.1.2.2.2.1; have hts := C.1.2.2.2.2
  have hb53 : ∀ (x3 : Option Nat) (x4 : Option Nat) (y0 : Int32) (G : GM) (kc : Nat) (ks : Nat), w_X1_setParent_53 V Q X x0 x3 x4 y0 G kc ks → ∀ (ls : Array Slot) (H : Heap) (locs : List Loc) (cells slots : Nat), lv_has ls 6 [(0, va_rf (some x0)), (3, va_rf x3), (4, va_rf x4)] → xW V A G H → va_S A s.heap H locs → cells + kc ≤ R.cells → slots + ks ≤ R.slots → W p l e R s m args below meth c H locs cells slots Z (F0 m 53 ls [.int y0]) := by
    intro x3 x4 y0 G kc ks h
    intro ls H locs cells slots hl hW hS hkc hks
    obtain ⟨c1, s2, hc53, hs53, h⟩ := h
    refine call_X1_checkState_S (ct_X1_checkState l hfl) C hW hS q633 (le_lit hRf rfl) (le_lit hRl rfl) hc53 hs53 hkc hks hl.1 (Nat.le_of_ble_eq_true rfl) dX1_setParent_53 h (fun E G9 ce q9 H locs hX hW hS h1 h2 h3 _ => hxo E G9 ce q9 53 ls H locs _ _ _ hW hS hX h1 h2 h3 (by omega) (by omega)) (fun  H locs h hW hS _ hkc hks => ?_)
    refine sh_aload_n hx hb dX1_setParent_56 rfl (lv_at hl 1 rfl) ?_
    obtain ⟨v3, h1, h⟩ := h
    refine sh_getN C hW xFb_16 q842 (fun _ h => h) (by decide) h1 dX1_setParent_57 ?_
    refine call_X1_numberOf_S (ct_X1_numberOf l) C hW hS q1200 (le_lit hRf rfl) (le_lit hRl rfl) ⟨Nat.le_trans (Nat.le_add_right _ _) hkc, Nat.le_trans (Nat.le_add_right _ _) hks⟩ hl.1 (Nat.le_of_ble_eq_true rfl) dX1_setParent_60 h (fun r4 H locs h hW hS _ => ?_)
    refine lv_istore (lv' := [(5, .int r4), (0, va_rf (some x0)), (3, va_rf x3), (4, va_rf x4)]) hx hb dX1_setParent_63 hl (by decide) (by simp only [List.filter_cons, List.filter_nil, va_rf_cat]; rfl) (fun ls hl => ?_)
    refine sh_aload_n hx hb dX1_setParent_65 rfl (lv_at hl 2 rfl) ?_
    refine sh_aload hx hb dX1_setParent_66 (lv_at hl 3 rfl) ?_
    refine sh_putN C hW hS xFb_16 q842 (fun _ h => h) xFd_16 (rf_nar_o _ _) (rf_fit_o _ _) h dX1_setParent_68 (fun G5 H locs hW hS h => ?_)
    refine sh_aload_n hx hb dX1_setParent_71 rfl (lv_at hl 1 rfl) ?_
    obtain ⟨v6, h1, h⟩ := h
    refine sh_get C hW xFb_3 q204 (fun _ h => h) h1 dX1_setParent_72 ?_
    obtain ⟨a7, c8, ho75, hcv75, h⟩ := h
    have hcc := h.1
    have h := h.2
    refine call_J2_clear_F15_List (ct_J2_clear l) C hW hS q235 ho75 hcv75 hcc (le_lit hRf rfl) (le_lit hRl rfl) ⟨Nat.le_trans (Nat.le_add_right _ _) hkc, Nat.le_trans (Nat.le_add_right _ _) hks⟩ hl.1 (Nat.le_of_ble_eq_true rfl) dX1_setParent_75 h (fun G9 H locs h hW hS _ => ?_)
    refine lv_iload hx hb dX1_setParent_80 (lv_at hl 0 rfl) ?_
    exact hret _ _ _ _ _ _ _ _ dX1_setParent_82 hW hS hkc hks h
  have hb48 : ∀ (x3 : Option Nat) (x4 : Option Nat) (G : GM) (kc : Nat) (ks : Nat), w_X1_setParent_48 V Q X x0 x3 x4 G kc ks → ∀ (ls : Array Slot) (H : Heap) (locs : List Loc) (cells slots : Nat), lv_has ls 6 [(0, va_rf (some x0)), (3, va_rf x3), (4, va_rf x4)] → xW V A G H → va_S A s.heap H locs → cells + kc ≤ R.cells → slots + ks ≤ R.slots → W p l e R s m args below meth c H locs cells slots Z (F0 m 48 ls []) := by
    intro x3 x4 G kc ks h
    intro ls H locs cells slots hl hW hS hkc hks
    refine lv_iconst (v := 1) hx hb dX1_setParent_48 (by decide) ?_
    refine lv_goto (tgt := 53) hx hb dX1_setParent_49 (by decide) ?_
    exact hb53 _ _ _ _ _ _ h ls H locs _ _ (lv_sub hl [0, 1, 2] rfl) hW hS hkc hks
  have hb52 : ∀ (x3 : Option Nat) (x4 : Option Nat) (G : GM) (kc : Nat) (ks : Nat), w_X1_setParent_52 V Q X x0 x3 x4 G kc ks → ∀ (ls : Array Slot) (H : Heap) (locs : List Loc) (cells slots : Nat), lv_has ls 6 [(0, va_rf (some x0)), (3, va_rf x3), (4, va_rf x4)] → xW V A G H → va_S A s.heap H locs → cells + kc ≤ R.cells → slots + ks ≤ R.slots → W p l e R s m args below meth c H locs cells slots Z (F0 m 52 ls []) := by
    intro x3 x4 G kc ks h
    intro ls H locs cells slots hl hW hS hkc hks
    refine lv_iconst (v := 0) hx hb dX1_setParent_52 (by decide) ?_
    exact hb53 _ _ _ _ _ _ h ls H locs _ _ (lv_sub hl [0, 1, 2] rfl) hW hS hkc hks
  have hb20 : ∀ (x3 : Option Nat) (y0 : Option Nat) (G : GM) (kc : Nat) (ks : Nat), w_X1_setParent_20 V Q X x0 x3 y0 G kc ks → ∀ (ls : Array Slot) (H : Heap) (locs : List Loc) (cells slots : Nat), lv_has ls 6 [(0, va_rf (some x0)), (3, va_rf x3)] → xW V A G H → va_S A s.heap H locs → cells + kc ≤ R.cells → slots + ks ≤ R.slots → W p l e R s m args below meth c H locs cells slots Z (F0 m 20 ls [va_rf y0]) := by
    intro x3 y0 G kc ks h
    intro ls H locs cells slots hl hW hS hkc hks
    refine sh_astore (lv' := [(4, va_rf y0), (0, va_rf (some x0)), (3, va_rf x3)]) hx hb dX1_setParent_20 hl (by decide) (by simp only [List.filter_cons, List.filter_nil, va_rf_cat]; rfl) (fun ls hl => ?_)
    refine sh_aload hx hb dX1_setParent_22 (lv_at hl 0 rfl) ?_
    refine sh_ifnull (tgt := 48) hx hb dX1_setParent_24 (by decide) (fun c17 => ?_) (fun c17 => ?_)
    · have h := wif_t h c17
      exact hb48 _ _ _ _ _ h ls H locs _ _ (lv_sub hl [1, 2, 0] rfl) hW hS hkc hks
    · have h := wif_f h c17
      refine sh_aload hx hb dX1_setParent_27 (lv_at hl 0 rfl) ?_
      obtain ⟨v10, h1, h⟩ := h
      refine sh_get C hW xFb_14 q838 (fun _ h => h) h1 dX1_setParent_29 ?_
      refine sh_aload_n hx hb dX1_setParent_32 rfl (lv_at hl 2 rfl) ?_
      obtain ⟨v11, h1, h⟩ := h
      refine sh_get C hW xFb_14 q838 (fun _ h => h) h1 dX1_setParent_33 ?_
      refine lv_acmp_ne (tgt := 52) hx hb dX1_setParent_36 (by decide) (fun c16 => ?_) (fun c16 => ?_)
      · have h := wif_f h c16
        exact hb52 _ _ _ _ _ h ls H locs _ _ (lv_sub hl [1, 2, 0] rfl) hW hS hkc hks
      · have h := wif_t h c16
        refine sh_aload hx hb dX1_setParent_39 (lv_at hl 0 rfl) ?_
        refine sh_aload_n hx hb dX1_setParent_41 rfl (lv_at hl 2 rfl) ?_
        obtain ⟨a12, c13, ho42, hcv42, h⟩ := h
        have hcc := h.1
        have h := h.2
        refine call_X5_isOn_U3_4_5_6_Layer (ct_X5_isOn l) C hW hS q1192 ho42 hcv42 hcc (le_lit hRf rfl) (le_lit hRl rfl) ⟨Nat.le_trans (Nat.le_add_right _ _) hkc, Nat.le_trans (Nat.le_add_right _ _) hks⟩ hl.1 (Nat.le_of_ble_eq_true rfl) dX1_setParent_42 h (fun r14 H locs h hW hS _ => ?_)
        refine lv_if_ne (tgt := 52) hx hb dX1_setParent_45 (by decide) (fun c15 => ?_) (fun c15 => ?_)
        · have h := wif_f h c15
          exact hb52 _ _ _ _ _ h ls H locs _ _ (lv_sub hl [1, 2, 0] rfl) hW hS hkc hks
        · have h := wif_t h c15
          exact hb48 _ _ _ _ _ h ls H locs _ _ (lv_sub hl [1, 2, 0] rfl) hW hS hkc hks
  intro h
  intro ls H locs cells slots hl hW hS hkc hks
  refine sh_aload_n hx hb dX1_setParent_0 rfl (lv_at hl 0 rfl) ?_
  refine lv_iload_n hx hb dX1_setParent_1 rfl (lv_at hl 1 rfl) ?_
  obtain ⟨a18, c19, ho2, hcv2, h⟩ := h
  have hcc := h.1
  have h := h.2
  obtain ⟨c21, s22, hc2, hs2, h⟩ := h
  refine call_X1_layer_V (ct_X1_layer l hfl) C hW hS q921 ho2 hcv2 hcc (le_lit hRf rfl) (le_lit hRl rfl) hc2 hs2 hkc hks hl.1 (Nat.le_of_ble_eq_true rfl) dX1_setParent_2 h (fun E G9 ce q9 H locs hX hW hS h1 h2 h3 _ => hxo E G9 ce q9 2 ls H locs _ _ _ hW hS hX h1 h2 h3 (by omega) (by omega)) (fun r20 H locs h hW hS _ hkc hks => ?_)
  refine sh_astore_n (lv' := [(3, va_rf r20), (0, va_rf (some x0)), (1, .int x1), (2, .int x2)]) hx hb dX1_setParent_5 rfl hl (by decide) rfl (fun ls hl => ?_)
  refine lv_iload_n hx hb dX1_setParent_6 rfl (lv_at hl 3 rfl) ?_
  refine lv_iconst (v := -1) hx hb dX1_setParent_7 (by decide) ?_
  refine lv_icmp_ne (tgt := 15) hx hb dX1_setParent_8 (by decide) (fun c28 => ?_) (fun c28 => ?_)
  · have h := wif_f h c28
    refine sh_aload_n hx hb dX1_setParent_15 rfl (lv_at hl 1 rfl) ?_
    refine lv_iload_n hx hb dX1_setParent_16 rfl (lv_at hl 3 rfl) ?_
    obtain ⟨a23, c24, ho17, hcv17, h⟩ := h
    have hcc := h.1
    have h := h.2
    obtain ⟨c26, s27, hc17, hs17, h⟩ := h
    refine call_X1_layer_V (ct_X1_layer l hfl) C hW hS q921 ho17 hcv17 hcc (le_lit hRf rfl) (le_lit hRl rfl) hc17 hs17 hkc hks hl.1 (Nat.le_of_ble_eq_true rfl) dX1_setParent_17 h (fun E G9 ce q9 H locs hX hW hS h1 h2 h3 _ => hxo E G9 ce q9 17 ls H locs _ _ _ hW hS hX h1 h2 h3 (by omega) (by omega)) (fun r25 H locs h hW hS _ hkc hks => ?_)
    exact hb20 _ _ _ _ _ h ls H locs _ _ (lv_sub hl [1, 0] rfl) hW hS hkc hks
  · have h := wif_t h c28
    refine sh_null hx hb dX1_setParent_11 ?_
    refine lv_goto (tgt := 20) hx hb dX1_setParent_12 (by decide) ?_
    exact hb20 _ _ _ _ _ h ls H locs _ _ (lv_sub hl [1, 0] rfl) hW hS hkc hks
theorem ct_X1_setParent (l : Launch) (hfl : l.stackTraces = false) : CT_X1_setParent l 14 241 w_X1_setParent := by
  intro V sz G Q X x0 x1 x2 kc ks
  refine vx_ofW (cc := cX1_setParent) (maxL := 6) (ret := (some .int)) (by decide) rfl ?_
  intro p e s m args below meth c s₁ B hml hext hv
  obtain ⟨rfl, hsz, hW, hK, hZ, h⟩ := hv
  subst hsz
  have hts := atoms_spec (ws := (ws_ yX1_setParent cX1_setParent 6 (some .int))) B.pre
  have hts : ∀ w ∈ lw_all, w.before _ s = true := fun w h => hts w (List.mem_cons_of_mem _ h)
  have hl := lv_entry ([.ref x0, .int x1, .int x2]) (n := 6) (Nat.le_of_ble_eq_true rfl)
  rw [lg_entry_eq]
  generalize (lg_sl ([.ref x0, .int x1, .int x2]) ++ List.replicate (6 - (lg_sl ([.ref x0, .int x1, .int x2])).length) Slot.unset).toArray = ls at hl ⊢
  exact wk_X1_setParent Q X ⟨⟨B.exec, B.bytes, hml, findClass_of_methodNamed B.named, hts⟩, hK, hZ, fun q h => Or.inr h⟩ hfl (Nat.le_refl _) (Nat.le_refl _) G (fun v G pc ls H locs cells slots _ _ hd hW1 hS hkc hks hQ => W.widen (k := kc) (n := ks) (Nat.le_trans (Nat.le_add_right _ _) hkc) (Nat.le_trans (Nat.le_add_right _ _) hks) (vx_ret (W.iret (v := v) B.exec B.bytes B.returns (fun t ht _ => ⟨⟨v, G, rfl, hQ, by rw [← ht] at hW1; exact hW1⟩, hS.F ht⟩) hS.2.2 hd))) (fun E G9 ce q pc ls H locs cells slots rest hW1 hS hX h1 h2 h3 hc hs => vx_out (fun x hx => absurd (hext x hx) id) B.notSynchronized h1 h2 h3 (fun t ht _ => ⟨(E, G9), hX, ⟨rfl, by rw [← ht] at hW1; exact hW1⟩, hS.F ht⟩) hS.2.2 hc hs) x0 x1 x2 kc ks h ls _ [] 0 0 hl hW va_S.rf (by show 0 + kc ≤ kc; omega) (by show 0 + ks ≤ ks; omega)
def CT_X0_setParent (l : Launch) (fr lo : Nat) (w : XV → (Int32 → GM → Prop) → (Option Nat) → Int32 → Int32 → (Option Nat) → GM → Nat → Nat → Prop) : Prop := ∀ (V : XV) (sz : Nat) (G : GM) (Q : Int32 → GM → Prop) (x0 : Option Nat) (x1 : Int32) (x2 : Int32) (x3 : Option Nat) (kc ks : Nat), Met l yX0_setParent (wsW_ yX0_setParent cX0_setParent 5 (some .int) [(0, 10, 13, 19), (0, 10, 17, 13)]) { frames := fr, cells := kc, slots := ks, locals := lo } (va_Pc [va_rf x0, .int x1, .int x2, va_rf x3] (fun U => U.heap.size = sz ∧ xW V (xA G sz) G U.heap ∧ xK V U ∧ xZ V (xA G sz) U U.heap ∧ w V Q x0 x1 x2 x3 G kc ks)) (va_Qi (fun r (u : GM) => Q r u) (fun u t => xW V (xA G sz) u t.heap) (xA G sz)) kc ks (xA G sz)
def w_X0_setParent (V : XV) (Q : Int32 → GM → Prop) (x0 : Option Nat) (x1 : Int32) (x2 : Int32) (x3 : Option Nat) (G : GM) (kc : Nat) (ks : Nat) : Prop := gRcv G x0 (fun a1 c2 => (c2 % 64 = 0) ∧ (∃ c5 s6 : Nat, c5 ≤ kc ∧ s6 ≤ ks ∧ (w_X1_setParent V (fun r3 G4 => gJS G4 1 x3 (0 : Int32) (r3.toInt64) (fun G7 => Q (0 : Int32) G7)) (fun E G9 => if E = "java/lang/IndexOutOfBoundsException" then Q (1 : Int32) G9 else (if E = "java/lang/IllegalStateException" then Q (2 : Int32) G9 else (False))) a1 x1 x2 G c5 s6)))
set_option maxRecDepth 100000 in
set_option maxHeartbeats 4000000 in
theorem wk_X0_setParent {p : Program} {l : Launch} {e : Env} {R : Room} {s : State} {m : MethodId} {args : Array Value} {below : List Frame} {meth : Method} {c : Code} {Z : State → Prop} {A : Nat → Prop} {V : XV} (Q : Int32 → GM → Prop) (C : xC p m c s args cX0_setParent 5 RX0 V A) (hfl : l.stackTraces = false) (htab : c.exceptionTable.toList = tableOf [(0, 10, 13, 19), (0, 10, 17, 13)]) (hRf : 15 ≤ R.frames) (hRl : 266 ≤ R.locals) (G : GM) (hret : ∀ (v : Int32) (G : GM) (pc : Nat) (ls : Array Slot) (H : Heap) (locs : List Loc) (cells slots : Nat) {k1 k2 : Nat}, decode cX0_setParent pc = .ok (.ireturn, 1) → xW V A G H → va_S A s.heap H locs → cells + k1 ≤ R.cells → slots + k2 ≤ R.slots → Q v G → W p l e R s m args below meth c H locs cells slots Z (F0 m pc ls [.int v])) (x0 : Option Nat) (x1 : Int32) (x2 : Int32) (x3 : Option Nat) (kc ks : Nat) : w_X0_setParent V Q x0 x1 x2 x3 G kc ks → ∀ (ls : Array Slot) (H : Heap) (locs : List Loc) (cells slots : Nat), lv_has ls 5 [(0, va_rf x0), (1, .int x1), (2, .int x2), (3, va_rf x3)] → xW V A G H → va_S A s.heap H locs → cells + kc ≤ R.cells → slots + ks ≤ R.slots → W p l e R s m args below meth c H locs cells slots Z (F0 m 0 ls []) := by
  have hx := C.1.1; have hb := C.1.2.1; have hml := C.1.2.2.1; have hown := C.1.2.2.2.1; have hts := C.1.2.2.2.2
  intro h
  intro ls H locs cells slots hl hW hS hkc hks
  refine sh_aload_n hx hb dX0_setParent_0 rfl (lv_at hl 3 rfl) ?_
  refine lv_iconst (v := 0) hx hb dX0_setParent_1 (by decide) ?_
  refine sh_aload_n hx hb dX0_setParent_2 rfl (lv_at hl 0 rfl) ?_
  refine lv_iload_n hx hb dX0_setParent_3 rfl (lv_at hl 1 rfl) ?_
  refine lv_iload_n hx hb dX0_setParent_4 rfl (lv_at hl 2 rfl) ?_
  obtain ⟨a1, c2, ho5, hcv5, h⟩ := h
  have hcc := h.1
  have h := h.2
  obtain ⟨c5, s6, hc5, hs5, h⟩ := h
  refine call_X1_setParent_V (ct_X1_setParent l hfl) C hW hS q1188 ho5 hcv5 hcc (le_lit hRf rfl) (le_lit hRl rfl) hc5 hs5 hkc hks hl.1 (by simp only [List.map_cons, List.map_nil, va_rf_cat]; exact Nat.le_of_ble_eq_true rfl) dX0_setParent_5 h (fun E G9 ce q9 H locs hX hW hS h1 h2 h3 _ => by
      by_cases c900 : E = "java/lang/IndexOutOfBoundsException"
      · have hX := wif_t hX c900
        subst c900
        refine vx_catch hown [] ⟨0, 10, 13, 19⟩ [⟨0, 10, 17, 13⟩] (htab.trans rfl) (fun z hz => absurd hz List.not_mem_nil) rfl (by decide) (hts _ q740) (va_Nw.use rfl (C.2.1.2.2.1 _ q757 rfl)) h1 h2 h3 ?_
        refine sh_astore (lv' := [(4, va_rf (some q9)), (0, va_rf x0), (1, .int x1), (2, .int x2), (3, va_rf x3)]) hx hb dX0_setParent_13 hl (by decide) (by simp only [List.filter_cons, List.filter_nil, va_rf_cat]; rfl) (fun ls hl => ?_)
        refine lv_iconst (v := 1) hx hb dX0_setParent_15 (by decide) ?_
        exact hret _ _ _ _ _ _ _ _ (k1 := 0) (k2 := 0) dX0_setParent_16 hW hS (by omega) (by omega) hX
      have hX := wif_f hX c900
      by_cases c901 : E = "java/lang/IllegalStateException"
      · have hX := wif_t hX c901
        subst c901
        refine vx_catch hown [⟨0, 10, 13, 19⟩] ⟨0, 10, 17, 13⟩ [] (htab.trans rfl) (by intro z hz; simp only [List.mem_cons, List.not_mem_nil, or_false] at hz; rcases hz with rfl <;> first | (exact Or.inr ⟨by decide, "java/lang/IndexOutOfBoundsException", hts _ q740, C.2.1.2.2.2.2.2.2.1 ("java/lang/IllegalStateException", "java/lang/IndexOutOfBoundsException") (by decide)⟩)) rfl (by decide) (hts _ q628) (va_Nw.use rfl (C.2.1.2.2.1 _ q638 rfl)) h1 h2 h3 ?_
        refine sh_astore (lv' := [(4, va_rf (some q9)), (0, va_rf x0), (1, .int x1), (2, .int x2), (3, va_rf x3)]) hx hb dX0_setParent_17 hl (by decide) (by simp only [List.filter_cons, List.filter_nil, va_rf_cat]; rfl) (fun ls hl => ?_)
        refine lv_iconst (v := 2) hx hb dX0_setParent_19 (by decide) ?_
        exact hret _ _ _ _ _ _ _ _ (k1 := 0) (k2 := 0) dX0_setParent_20 hW hS (by omega) (by omega) hX
      have hX := wif_f hX c901
      exact False.elim hX) (fun r3 G4 H locs h hW hS _ hkc hks => ?_)
  refine lv_i2l hx hb dX0_setParent_8 rfl ?_
  refine sh_last C hW hS h dX0_setParent_9 (fun G7 H locs hW hS h => ?_)
  refine lv_goto (tgt := 21) hx hb dX0_setParent_10 (by decide) ?_
  refine lv_iconst (v := 0) hx hb dX0_setParent_21 (by decide) ?_
  exact hret _ _ _ _ _ _ _ _ dX0_setParent_22 hW hS hkc hks h
theorem ct_X0_setParent (l : Launch) (hfl : l.stackTraces = false) : CT_X0_setParent l 15 266 w_X0_setParent := by
  intro V sz G Q x0 x1 x2 x3 kc ks
  refine gx_ofWH (cc := cX0_setParent) (maxL := 5) (ret := (some .int)) (hh := [(0, 10, 13, 19), (0, 10, 17, 13)]) (by decide) rfl ?_
  intro p e s m args below meth c s₁ B hml htab hv
  obtain ⟨rfl, hsz, hW, hK, hZ, h⟩ := hv
  subst hsz
  have hts := atoms_spec (ws := (wsW_ yX0_setParent cX0_setParent 5 (some .int) [(0, 10, 13, 19), (0, 10, 17, 13)])) B.pre
  have hts : ∀ w ∈ lw_all, w.before _ s = true := fun w h => hts w (List.mem_cons_of_mem _ h)
  have key : ∃ ls : Array Slot, entryFrame m ([va_rf x0, .int x1, .int x2, va_rf x3] : List Value).toArray 5 = F0 m 0 ls [] ∧ lv_has ls 5 [(0, va_rf x0), (1, .int x1), (2, .int x2), (3, va_rf x3)] := by
    cases x0 <;> cases x3 <;> (refine ⟨_, by rw [lg_entry_eq], ?_⟩; exact lv_entry _ (Nat.le_of_ble_eq_true rfl))
  obtain ⟨ls, hfr, hl⟩ := key
  rw [hfr]
  exact wk_X0_setParent Q ⟨⟨B.exec, B.bytes, hml, findClass_of_methodNamed B.named, hts⟩, hK, hZ, fun q h => Or.inr h⟩ hfl htab (Nat.le_refl _) (Nat.le_refl _) G (fun v G pc ls H locs cells slots _ _ hd hW1 hS hkc hks hQ => W.widen (k := kc) (n := ks) (Nat.le_trans (Nat.le_add_right _ _) hkc) (Nat.le_trans (Nat.le_add_right _ _) hks) (W.iret (v := v) B.exec B.bytes B.returns (fun t ht _ => ⟨⟨v, G, rfl, hQ, by rw [← ht] at hW1; exact hW1⟩, hS.F ht⟩) hS.2.2 hd)) x0 x1 x2 x3 kc ks h ls _ [] 0 0 hl hW va_S.rf (by show 0 + kc ≤ kc; omega) (by show 0 + ks ≤ ks; omega)
def CT_X1_setMatte (l : Launch) (fr lo : Nat) (w : XV → (Int32 → GM → Prop) → (String → GM → Prop) → Nat → Int32 → Int32 → Int32 → GM → Nat → Nat → Prop) : Prop := ∀ (V : XV) (sz : Nat) (G : GM) (Q : Int32 → GM → Prop) (X : String → GM → Prop) (x0 : Nat) (x1 : Int32) (x2 : Int32) (x3 : Int32) (kc ks : Nat), vx_Met l yX1_setMatte (ws_ yX1_setMatte cX1_setMatte 7 (some .int)) { frames := fr, cells := kc, slots := ks, locals := lo } (va_Pc [.ref x0, .int x1, .int x2, .int x3] (fun U => U.heap.size = sz ∧ xW V (xA G sz) G U.heap ∧ xK V U ∧ xZ V (xA G sz) U U.heap ∧ w V Q X x0 x1 x2 x3 G kc ks)) (va_Qi (fun r (u : GM) => Q r u) (fun u t => xW V (xA G sz) u t.heap) (xA G sz)) (vx_X (fun u : String × GM => X u.1 u.2) (fun E u t => E = u.1 ∧ xW V (xA G sz) u.2 t.heap) (xA G sz)) kc ks (xA G sz)
theorem call_X1_setMatte_V {p : Program} {l : Launch} {e : Env} {R : Room} {s : State} {m : MethodId} {args : Array Value} {below : List Frame} {meth : Method} {c : Code} {H : Heap} {locs : List Loc} {cells slots : Nat} {Z : State → Prop} {A : Nat → Prop} {cc : ByteArray} {nL pc : Nat} {ls : Array Slot} {rest : List Value} {own : String} {index fr lo : Nat} {w : XV → (Int32 → GM → Prop) → (String → GM → Prop) → Nat → Int32 → Int32 → Int32 → GM → Nat → Nat → Prop} {V : XV} {G : GM} {o : Option Nat} {ci : Nat} {kc ks c1 s1 : Nat} {x0 : Nat} {x1 : Int32} {x2 : Int32} {x3 : Int32} (hM : CT_X1_setMatte l fr lo w) (C : xC p m c s args cc nL own V A) (hW : xW V A G H) (hS : va_S A s.heap H locs) (hlink : Cond.methodLink own index yX1_setMatte ∈ lw_all) (ho : o = some x0) (hcv : gCi G (some x0) = some ci) (hci : ci % 64 = 0) (hRf : fr + 1 ≤ R.frames) (hRl : 8 + (7 + 11) + lo ≤ R.locals) (hc1 : c1 ≤ kc) (hs1 : s1 ≤ ks) (hkc : cells + kc ≤ R.cells) (hks : slots + ks ≤ R.slots) (hz : ls.size = nL) (hr8 : (rest.map fun v => v.category).sum ≤ 8) (hdg : decode cc pc = .ok (.invokevirtual index, 3)) {Q1 : Int32 → GM → Prop} {X1 : String → GM → Prop} (h : w V Q1 X1 x0 x1 x2 x3 G c1 s1) (kx : ∀ (E : String) (G1 : GM) (ce : Cell) (q9 : Addr) (H1 : Heap) (locs1 : List Loc), X1 E G1 → xW V A G1 H1 → va_S A s.heap H1 locs1 → H1[q9]? = some ce → ce.vm = .none → s.vm.findClass E = some ce.cls → xFr V G G1 H H1 → vx_W p l e R s m args below meth c H1 locs1 (cells + c1) (slots + s1) Z (F0 m pc ls rest) q9) (kk : ∀ (r : Int32) (G1 : GM) (H1 : Heap) (locs1 : List Loc), Q1 r G1 → xW V A G1 H1 → va_S A s.heap H1 locs1 → xFr V G G1 H H1 → (cells + c1) + (kc - c1) ≤ R.cells → (slots + s1) + (ks - s1) ≤ R.slots → W p l e R s m args below meth c H1 locs1 (cells + c1) (slots + s1) Z (F0 m (pc + 3) ls (.int r :: rest))) : W p l e R s m args below meth c H locs cells slots Z (F0 m pc ls (.int x3 :: .int x2 :: .int x1 :: va_rf o :: rest)) := by
  subst ho
  obtain ⟨fs, hG⟩ := gCi_of hcv
  exact rx_i3w (vx_runV (As := [.int x1, .int x2, .int x3]) (rest := rest) C.1 (hM V H.size G Q1 X1 x0 x1 x2 x3 c1 s1) (cwV 3 C.1.2.2.2.2 (lw_V hlink q1207 q1208 q59 q1209) rfl rfl rfl (by decide +kernel) ⟨hRf, hRl⟩) ⟨fun a U g mk q => by obtain ⟨q0, q1, qW, qK, qZ, qw⟩ := q; exact ⟨q0, q1, qW, xK.same (u := U) (U := U.calling g mk a) rfl qK, xZ.moved (u := U) (U := U.calling g mk a) (Vm.Alike.refl U.vm) qZ, qw⟩, (hW.recv C.2.1 hG (r := (RX1, TX1, 6)) (by rw [hci]; rfl)), fun U hU hWm => ⟨rfl, by rw [hU], by rw [hU]; exact hW.self _, C.2.1.warm hWm, xZ.call C.2.2.1 hW hS C.2.2.2 hU hWm.alike, h⟩⟩ rfl rfl hz rfl (lv_room hr8) hdg ⟨by omega, by omega⟩) hW hS C.2.2.2 kx (fun r G1 H1 locs1 hp hW1 hS1 hF1 => kk r G1 H1 locs1 hp hW1 hS1 hF1 (by omega) (by omega))
def w_X1_setMatte_53 (V : XV) (Q : Int32 → GM → Prop) (X : String → GM → Prop) (x0 : Nat) (x3 : Int32) (x4 : Option Nat) (x5 : Option Nat) (y0 : Int32) (G : GM) (kc : Nat) (ks : Nat) : Prop := ∃ c1 s2 : Nat, c1 ≤ kc ∧ s2 ≤ ks ∧ (w_X1_checkState V (gGR G 17 x4 (fun v3 => w_X1_numberOf V (fun r4 => gPF G 17 x4 (va_rf x5) (fun G5 => isZ x3 ∧ (gPF G5 18 x4 (.int x3) (fun G6 => gGR G6 3 (some x0) (fun v7 => gRcv G6 v7 (fun a8 c9 => (c9 % 64 = 15) ∧ (w_J2_clear V (fun G10 => Q r4 G10) a8 G6))))))) v3 G)) X y0 G c1 s2)
def w_X1_setMatte_48 (V : XV) (Q : Int32 → GM → Prop) (X : String → GM → Prop) (x0 : Nat) (x3 : Int32) (x4 : Option Nat) (x5 : Option Nat) (G : GM) (kc : Nat) (ks : Nat) : Prop := w_X1_setMatte_53 V Q X x0 x3 x4 x5 (1 : Int32) G kc ks
def w_X1_setMatte_52 (V : XV) (Q : Int32 → GM → Prop) (X : String → GM → Prop) (x0 : Nat) (x3 : Int32) (x4 : Option Nat) (x5 : Option Nat) (G : GM) (kc : Nat) (ks : Nat) : Prop := w_X1_setMatte_53 V Q X x0 x3 x4 x5 (0 : Int32) G kc ks
def w_X1_setMatte_21 (V : XV) (Q : Int32 → GM → Prop) (X : String → GM → Prop) (x0 : Nat) (x3 : Int32) (x4 : Option Nat) (y0 : Option Nat) (G : GM) (kc : Nat) (ks : Nat) : Prop := if y0 = none then (w_X1_setMatte_48 V Q X x0 x3 x4 y0 G kc ks) else (gGR G 14 y0 (fun v11 => gGR G 14 x4 (fun v12 => if v11 = v12 then (if y0 = x4 then (w_X1_setMatte_52 V Q X x0 x3 x4 y0 G kc ks) else (w_X1_setMatte_48 V Q X x0 x3 x4 y0 G kc ks)) else (w_X1_setMatte_52 V Q X x0 x3 x4 y0 G kc ks))))
def w_X1_setMatte (V : XV) (Q : Int32 → GM → Prop) (X : String → GM → Prop) (x0 : Nat) (x1 : Int32) (x2 : Int32) (x3 : Int32) (G : GM) (kc : Nat) (ks : Nat) : Prop := gRcv G (some x0) (fun a16 c17 => (c17 % 64 = 0) ∧ (∃ c19 s20 : Nat, c19 ≤ kc ∧ s20 ≤ ks ∧ (w_X1_layer V (fun r18 => if x2 = (-1 : Int32) then (w_X1_setMatte_21 V Q X x0 x3 r18 none G (kc - c19) (ks - s20)) else (gRcv G (some x0) (fun a21 c22 => (c22 % 64 = 0) ∧ (∃ c24 s25 : Nat, c24 ≤ (kc - c19) ∧ s25 ≤ (ks - s20) ∧ (w_X1_layer V (fun r23 => w_X1_setMatte_21 V Q X x0 x3 r18 r23 G ((kc - c19) - c24) ((ks - s20) - s25)) X a21 x2 G c24 s25))))) X a16 x1 G c19 s20)))
set_option maxRecDepth 100000 in
set_option maxHeartbeats 4000000 in
theorem wk_X1_setMatte {p : Program} {l : Launch} {e : Env} {R : Room} {s : State} {m : MethodId} {args : Array Value} {below : List Frame} {meth : Method} {c : Code} {Z : State → Prop} {A : Nat → Prop} {V : XV} (Q : Int32 → GM → Prop) (X : String → GM → Prop) (C : xC p m c s args cX1_setMatte 7 RX1 V A) (hfl : l.stackTraces = false) (hRf : 14 ≤ R.frames) (hRl : 241 ≤ R.locals) (G : GM) (hret : ∀ (v : Int32) (G : GM) (pc : Nat) (ls : Array Slot) (H : Heap) (locs : List Loc) (cells slots : Nat) {k1 k2 : Nat}, decode cX1_setMatte pc = .ok (.ireturn, 1) → xW V A G H → va_S A s.heap H locs → cells + k1 ≤ R.cells → slots + k2 ≤ R.slots → Q v G → W p l e R s m args below meth c H locs cells slots Z (F0 m pc ls [.int v])) (hxo : ∀ (E : String) (G : GM) (ce : Cell) (q : Addr) (pc : Nat) (ls : Array Slot) (H : Heap) (locs : List Loc) (cells slots : Nat) (rest : List Value), xW V A G H → va_S A s.heap H locs → X E G → H[q]? = some ce → ce.vm = .none → s.vm.findClass E = some ce.cls → cells ≤ R.cells → slots ≤ R.slots → vx_W p l e R s m args below meth c H locs cells slots Z (F0 m pc ls rest) q) (x0 : Nat) (x1 : Int32) (x2 : Int32) (x3 : Int32) (kc ks : Nat) : w_X1_setMatte V Q X x0 x1 x2 x3 G kc ks → ∀ (ls : Array Slot) (H : Heap) (locs : List Loc) (cells slots : Nat), lv_has ls 7 [(0, va_rf (some x0)), (1, .int x1), (2, .int x2), (3, .int x3)] → xW V A G H → va_S A s.heap H locs → cells + kc ≤ R.cells → slots + ks ≤ R.slots → W p l e R s m args below meth c H locs cells slots Z (F0 m 0 ls []) := by
  have hx := C.1.1; have hb := C.1.2.1; have hml := C.1.2.2.1; have hown := C.1.2.2.2.1; have hts := C.1.2.2.2.2
  have hb53 : ∀ (x4 : Option Nat) (x5 : Option Nat) (y0 : Int32) (G : GM) (kc : Nat) (ks : Nat), w_X1_setMatte_53 V Q X x0 x3 x4 x5 y0 G kc ks → ∀ (ls : Array Slot) (H : Heap) (locs : List Loc) (cells slots : Nat), lv_has ls 7 [(0, va_rf (some x0)), (3, .int x3), (4, va_rf x4), (5, va_rf x5)] → xW V A G H → va_S A s.heap H locs → cells + kc ≤ R.cells → slots + ks ≤ R.slots → W p l e R s m args below meth c H locs cells slots Z (F0 m 53 ls [.int y0]) := by
    intro x4 x5 y0 G kc ks h
    intro ls H locs cells slots hl hW hS hkc hks
    obtain ⟨c1, s2, hc53, hs53, h⟩ := h
    refine call_X1_checkState_S (ct_X1_checkState l hfl) C hW hS q633 (le_lit hRf rfl) (le_lit hRl rfl) hc53 hs53 hkc hks hl.1 (Nat.le_of_ble_eq_true rfl) dX1_setMatte_53 h (fun E G9 ce q9 H locs hX hW hS h1 h2 h3 _ => hxo E G9 ce q9 53 ls H locs _ _ _ hW hS hX h1 h2 h3 (by omega) (by omega)) (fun  H locs h hW hS _ hkc hks => ?_)
    refine sh_aload hx hb dX1_setMatte_56 (lv_at hl 2 rfl) ?_
    obtain ⟨v3, h1, h⟩ := h
    refine sh_getN C hW xFb_17 q845 (fun _ h => h) (by decide) h1 dX1_setMatte_58 ?_
    refine call_X1_numberOf_S (ct_X1_numberOf l) C hW hS q1200 (le_lit hRf rfl) (le_lit hRl rfl) ⟨Nat.le_trans (Nat.le_add_right _ _) hkc, Nat.le_trans (Nat.le_add_right _ _) hks⟩ hl.1 (Nat.le_of_ble_eq_true rfl) dX1_setMatte_61 h (fun r4 H locs h hW hS _ => ?_)
    refine lv_istore (lv' := [(6, .int r4), (0, va_rf (some x0)), (3, .int x3), (4, va_rf x4), (5, va_rf x5)]) hx hb dX1_setMatte_64 hl (by decide) (by simp only [List.filter_cons, List.filter_nil, va_rf_cat]; rfl) (fun ls hl => ?_)
    refine sh_aload hx hb dX1_setMatte_66 (lv_at hl 3 rfl) ?_
    refine sh_aload hx hb dX1_setMatte_68 (lv_at hl 4 rfl) ?_
    refine sh_putN C hW hS xFb_17 q845 (fun _ h => h) xFd_17 (rf_nar_o _ _) (rf_fit_o _ _) h dX1_setMatte_70 (fun G5 H locs hW hS h => ?_)
    refine sh_aload hx hb dX1_setMatte_73 (lv_at hl 3 rfl) ?_
    refine lv_iload_n hx hb dX1_setMatte_75 rfl (lv_at hl 2 rfl) ?_
    have hz := h.1
    have h := h.2
    refine sh_putN C hW hS xFb_18 q848 (fun _ h => h) xFd_18 hz.nar hz.fit h dX1_setMatte_76 (fun G6 H locs hW hS h => ?_)
    refine sh_aload_n hx hb dX1_setMatte_79 rfl (lv_at hl 1 rfl) ?_
    obtain ⟨v7, h1, h⟩ := h
    refine sh_get C hW xFb_3 q204 (fun _ h => h) h1 dX1_setMatte_80 ?_
    obtain ⟨a8, c9, ho83, hcv83, h⟩ := h
    have hcc := h.1
    have h := h.2
    refine call_J2_clear_F15_List (ct_J2_clear l) C hW hS q235 ho83 hcv83 hcc (le_lit hRf rfl) (le_lit hRl rfl) ⟨Nat.le_trans (Nat.le_add_right _ _) hkc, Nat.le_trans (Nat.le_add_right _ _) hks⟩ hl.1 (Nat.le_of_ble_eq_true rfl) dX1_setMatte_83 h (fun G10 H locs h hW hS _ => ?_)
    refine lv_iload hx hb dX1_setMatte_88 (lv_at hl 0 rfl) ?_
    exact hret _ _ _ _ _ _ _ _ dX1_setMatte_90 hW hS hkc hks h
  have hb48 : ∀ (x4 : Option Nat) (x5 : Option Nat) (G : GM) (kc : Nat) (ks : Nat), w_X1_setMatte_48 V Q X x0 x3 x4 x5 G kc ks → ∀ (ls : Array Slot) (H : Heap) (locs : List Loc) (cells slots : Nat), lv_has ls 7 [(0, va_rf (some x0)), (3, .int x3), (4, va_rf x4), (5, va_rf x5)] → xW V A G H → va_S A s.heap H locs → cells + kc ≤ R.cells → slots + ks ≤ R.slots → W p l e R s m args below meth c H locs cells slots Z (F0 m 48 ls []) := by
    intro x4 x5 G kc ks h
    intro ls H locs cells slots hl hW hS hkc hks
    refine lv_iconst (v := 1) hx hb dX1_setMatte_48 (by decide) ?_
    refine lv_goto (tgt := 53) hx hb dX1_setMatte_49 (by decide) ?_
    exact hb53 _ _ _ _ _ _ h ls H locs _ _ (lv_sub hl [0, 1, 2, 3] rfl) hW hS hkc hks
  have hb52 : ∀ (x4 : Option Nat) (x5 : Option Nat) (G : GM) (kc : Nat) (ks : Nat), w_X1_setMatte_52 V Q X x0 x3 x4 x5 G kc ks → ∀ (ls : Array Slot) (H : Heap) (locs : List Loc) (cells slots : Nat), lv_has ls 7 [(0, va_rf (some x0)), (3, .int x3), (4, va_rf x4), (5, va_rf x5)] → xW V A G H → va_S A s.heap H locs → cells + kc ≤ R.cells → slots + ks ≤ R.slots → W p l e R s m args below meth c H locs cells slots Z (F0 m 52 ls []) := by
    intro x4 x5 G kc ks h
    intro ls H locs cells slots hl hW hS hkc hks
    refine lv_iconst (v := 0) hx hb dX1_setMatte_52 (by decide) ?_
    exact hb53 _ _ _ _ _ _ h ls H locs _ _ (lv_sub hl [0, 1, 2, 3] rfl) hW hS hkc hks
  have hb21 : ∀ (x4 : Option Nat) (y0 : Option Nat) (G : GM) (kc : Nat) (ks : Nat), w_X1_setMatte_21 V Q X x0 x3 x4 y0 G kc ks → ∀ (ls : Array Slot) (H : Heap) (locs : List Loc) (cells slots : Nat), lv_has ls 7 [(0, va_rf (some x0)), (3, .int x3), (4, va_rf x4)] → xW V A G H → va_S A s.heap H locs → cells + kc ≤ R.cells → slots + ks ≤ R.slots → W p l e R s m args below meth c H locs cells slots Z (F0 m 21 ls [va_rf y0]) := by
    intro x4 y0 G kc ks h
    intro ls H locs cells slots hl hW hS hkc hks
    refine sh_astore (lv' := [(5, va_rf y0), (0, va_rf (some x0)), (3, .int x3), (4, va_rf x4)]) hx hb dX1_setMatte_21 hl (by decide) (by simp only [List.filter_cons, List.filter_nil, va_rf_cat]; rfl) (fun ls hl => ?_)
    refine sh_aload hx hb dX1_setMatte_23 (lv_at hl 0 rfl) ?_
    refine sh_ifnull (tgt := 48) hx hb dX1_setMatte_25 (by decide) (fun c15 => ?_) (fun c15 => ?_)
    · have h := wif_t h c15
      exact hb48 _ _ _ _ _ h ls H locs _ _ (lv_sub hl [1, 2, 3, 0] rfl) hW hS hkc hks
    · have h := wif_f h c15
      refine sh_aload hx hb dX1_setMatte_28 (lv_at hl 0 rfl) ?_
      obtain ⟨v11, h1, h⟩ := h
      refine sh_get C hW xFb_14 q838 (fun _ h => h) h1 dX1_setMatte_30 ?_
      refine sh_aload hx hb dX1_setMatte_33 (lv_at hl 3 rfl) ?_
      obtain ⟨v12, h1, h⟩ := h
      refine sh_get C hW xFb_14 q838 (fun _ h => h) h1 dX1_setMatte_35 ?_
      refine lv_acmp_ne (tgt := 52) hx hb dX1_setMatte_38 (by decide) (fun c14 => ?_) (fun c14 => ?_)
      · have h := wif_f h c14
        exact hb52 _ _ _ _ _ h ls H locs _ _ (lv_sub hl [1, 2, 3, 0] rfl) hW hS hkc hks
      · have h := wif_t h c14
        refine sh_aload hx hb dX1_setMatte_41 (lv_at hl 0 rfl) ?_
        refine sh_aload hx hb dX1_setMatte_43 (lv_at hl 3 rfl) ?_
        refine lv_acmp_eq (tgt := 52) hx hb dX1_setMatte_45 (by decide) (fun c13 => ?_) (fun c13 => ?_)
        · have h := wif_t h c13
          exact hb52 _ _ _ _ _ h ls H locs _ _ (lv_sub hl [1, 2, 3, 0] rfl) hW hS hkc hks
        · have h := wif_f h c13
          exact hb48 _ _ _ _ _ h ls H locs _ _ (lv_sub hl [1, 2, 3, 0] rfl) hW hS hkc hks
  intro h
  intro ls H locs cells slots hl hW hS hkc hks
  refine sh_aload_n hx hb dX1_setMatte_0 rfl (lv_at hl 0 rfl) ?_
  refine lv_iload_n hx hb dX1_setMatte_1 rfl (lv_at hl 1 rfl) ?_
  obtain ⟨a16, c17, ho2, hcv2, h⟩ := h
  have hcc := h.1
  have h := h.2
  obtain ⟨c19, s20, hc2, hs2, h⟩ := h
  refine call_X1_layer_V (ct_X1_layer l hfl) C hW hS q921 ho2 hcv2 hcc (le_lit hRf rfl) (le_lit hRl rfl) hc2 hs2 hkc hks hl.1 (Nat.le_of_ble_eq_true rfl) dX1_setMatte_2 h (fun E G9 ce q9 H locs hX hW hS h1 h2 h3 _ => hxo E G9 ce q9 2 ls H locs _ _ _ hW hS hX h1 h2 h3 (by omega) (by omega)) (fun r18 H locs h hW hS _ hkc hks => ?_)
  refine sh_astore (lv' := [(4, va_rf r18), (0, va_rf (some x0)), (1, .int x1), (2, .int x2), (3, .int x3)]) hx hb dX1_setMatte_5 hl (by decide) rfl (fun ls hl => ?_)
  refine lv_iload_n hx hb dX1_setMatte_7 rfl (lv_at hl 3 rfl) ?_
  refine lv_iconst (v := -1) hx hb dX1_setMatte_8 (by decide) ?_
  refine lv_icmp_ne (tgt := 16) hx hb dX1_setMatte_9 (by decide) (fun c26 => ?_) (fun c26 => ?_)
  · have h := wif_f h c26
    refine sh_aload_n hx hb dX1_setMatte_16 rfl (lv_at hl 1 rfl) ?_
    refine lv_iload_n hx hb dX1_setMatte_17 rfl (lv_at hl 3 rfl) ?_
    obtain ⟨a21, c22, ho18, hcv18, h⟩ := h
    have hcc := h.1
    have h := h.2
    obtain ⟨c24, s25, hc18, hs18, h⟩ := h
    refine call_X1_layer_V (ct_X1_layer l hfl) C hW hS q921 ho18 hcv18 hcc (le_lit hRf rfl) (le_lit hRl rfl) hc18 hs18 hkc hks hl.1 (Nat.le_of_ble_eq_true rfl) dX1_setMatte_18 h (fun E G9 ce q9 H locs hX hW hS h1 h2 h3 _ => hxo E G9 ce q9 18 ls H locs _ _ _ hW hS hX h1 h2 h3 (by omega) (by omega)) (fun r23 H locs h hW hS _ hkc hks => ?_)
    exact hb21 _ _ _ _ _ h ls H locs _ _ (lv_sub hl [1, 4, 0] rfl) hW hS hkc hks
  · have h := wif_t h c26
    refine sh_null hx hb dX1_setMatte_12 ?_
    refine lv_goto (tgt := 21) hx hb dX1_setMatte_13 (by decide) ?_
    exact hb21 _ _ _ _ _ h ls H locs _ _ (lv_sub hl [1, 4, 0] rfl) hW hS hkc hks
theorem ct_X1_setMatte (l : Launch) (hfl : l.stackTraces = false) : CT_X1_setMatte l 14 241 w_X1_setMatte := by
  intro V sz G Q X x0 x1 x2 x3 kc ks
  refine vx_ofW (cc := cX1_setMatte) (maxL := 7) (ret := (some .int)) (by decide) rfl ?_
  intro p e s m args below meth c s₁ B hml hext hv
  obtain ⟨rfl, hsz, hW, hK, hZ, h⟩ := hv
  subst hsz
  have hts := atoms_spec (ws := (ws_ yX1_setMatte cX1_setMatte 7 (some .int))) B.pre
  have hts : ∀ w ∈ lw_all, w.before _ s = true := fun w h => hts w (List.mem_cons_of_mem _ h)
  have hl := lv_entry ([.ref x0, .int x1, .int x2, .int x3]) (n := 7) (Nat.le_of_ble_eq_true rfl)
  rw [lg_entry_eq]
  generalize (lg_sl ([.ref x0, .int x1, .int x2, .int x3]) ++ List.replicate (7 - (lg_sl ([.ref x0, .int x1, .int x2, .int x3])).length) Slot.unset).toArray = ls at hl ⊢
  exact wk_X1_setMatte Q X ⟨⟨B.exec, B.bytes, hml, findClass_of_methodNamed B.named, hts⟩, hK, hZ, fun q h => Or.inr h⟩ hfl (Nat.le_refl _) (Nat.le_refl _) G (fun v G pc ls H locs cells slots _ _ hd hW1 hS hkc hks hQ => W.widen (k := kc) (n := ks) (Nat.le_trans (Nat.le_add_right _ _) hkc) (Nat.le_trans (Nat.le_add_right _ _) hks) (vx_ret (W.iret (v := v) B.exec B.bytes B.returns (fun t ht _ => ⟨⟨v, G, rfl, hQ, by rw [← ht] at hW1; exact hW1⟩, hS.F ht⟩) hS.2.2 hd))) (fun E G9 ce q pc ls H locs cells slots rest hW1 hS hX h1 h2 h3 hc hs => vx_out (fun x hx => absurd (hext x hx) id) B.notSynchronized h1 h2 h3 (fun t ht _ => ⟨(E, G9), hX, ⟨rfl, by rw [← ht] at hW1; exact hW1⟩, hS.F ht⟩) hS.2.2 hc hs) x0 x1 x2 x3 kc ks h ls _ [] 0 0 hl hW va_S.rf (by show 0 + kc ≤ kc; omega) (by show 0 + ks ≤ ks; omega)
def CT_X0_setMatte (l : Launch) (fr lo : Nat) (w : XV → (Int32 → GM → Prop) → (Option Nat) → Int32 → Int32 → Int32 → (Option Nat) → GM → Nat → Nat → Prop) : Prop := ∀ (V : XV) (sz : Nat) (G : GM) (Q : Int32 → GM → Prop) (x0 : Option Nat) (x1 : Int32) (x2 : Int32) (x3 : Int32) (x4 : Option Nat) (kc ks : Nat), Met l yX0_setMatte (wsW_ yX0_setMatte cX0_setMatte 6 (some .int) [(0, 12, 15, 19), (0, 12, 19, 13)]) { frames := fr, cells := kc, slots := ks, locals := lo } (va_Pc [va_rf x0, .int x1, .int x2, .int x3, va_rf x4] (fun U => U.heap.size = sz ∧ xW V (xA G sz) G U.heap ∧ xK V U ∧ xZ V (xA G sz) U U.heap ∧ w V Q x0 x1 x2 x3 x4 G kc ks)) (va_Qi (fun r (u : GM) => Q r u) (fun u t => xW V (xA G sz) u t.heap) (xA G sz)) kc ks (xA G sz)
def w_X0_setMatte (V : XV) (Q : Int32 → GM → Prop) (x0 : Option Nat) (x1 : Int32) (x2 : Int32) (x3 : Int32) (x4 : Option Nat) (G : GM) (kc : Nat) (ks : Nat) : Prop := gRcv G x0 (fun a1 c2 => (c2 % 64 = 0) ∧ (∃ c5 s6 : Nat, c5 ≤ kc ∧ s6 ≤ ks ∧ (w_X1_setMatte V (fun r3 G4 => gJS G4 1 x4 (0 : Int32) (r3.toInt64) (fun G7 => Q (0 : Int32) G7)) (fun E G9 => if E = "java/lang/IndexOutOfBoundsException" then Q (1 : Int32) G9 else (if E = "java/lang/IllegalStateException" then Q (2 : Int32) G9 else (False))) a1 x1 x2 x3 G c5 s6)))
set_option maxRecDepth 100000 in
set_option maxHeartbeats 4000000 in
theorem wk_X0_setMatte {p : Program} {l : Launch} {e : Env} {R : Room} {s : State} {m : MethodId} {args : Array Value} {below : List Frame} {meth : Method} {c : Code} {Z : State → Prop} {A : Nat → Prop} {V : XV} (Q : Int32 → GM → Prop) (C : xC p m c s args cX0_setMatte 6 RX0 V A) (hfl : l.stackTraces = false) (htab : c.exceptionTable.toList = tableOf [(0, 12, 15, 19), (0, 12, 19, 13)]) (hRf : 15 ≤ R.frames) (hRl : 267 ≤ R.locals) (G : GM) (hret : ∀ (v : Int32) (G : GM) (pc : Nat) (ls : Array Slot) (H : Heap) (locs : List Loc) (cells slots : Nat) {k1 k2 : Nat}, decode cX0_setMatte pc = .ok (.ireturn, 1) → xW V A G H → va_S A s.heap H locs → cells + k1 ≤ R.cells → slots + k2 ≤ R.slots → Q v G → W p l e R s m args below meth c H locs cells slots Z (F0 m pc ls [.int v])) (x0 : Option Nat) (x1 : Int32) (x2 : Int32) (x3 : Int32) (x4 : Option Nat) (kc ks : Nat) : w_X0_setMatte V Q x0 x1 x2 x3 x4 G kc ks → ∀ (ls : Array Slot) (H : Heap) (locs : List Loc) (cells slots : Nat), lv_has ls 6 [(0, va_rf x0), (1, .int x1), (2, .int x2), (3, .int x3), (4, va_rf x4)] → xW V A G H → va_S A s.heap H locs → cells + kc ≤ R.cells → slots + ks ≤ R.slots → W p l e R s m args below meth c H locs cells slots Z (F0 m 0 ls []) := by
  have hx := C.1.1; have hb := C.1.2.1; have hml := C.1.2.2.1; have hown := C.1.2.2.2.1; have hts := C.1.2.2.2.2
  intro h
  intro ls H locs cells slots hl hW hS hkc hks
  refine sh_aload hx hb dX0_setMatte_0 (lv_at hl 4 rfl) ?_
  refine lv_iconst (v := 0) hx hb dX0_setMatte_2 (by decide) ?_
  refine sh_aload_n hx hb dX0_setMatte_3 rfl (lv_at hl 0 rfl) ?_
  refine lv_iload_n hx hb dX0_setMatte_4 rfl (lv_at hl 1 rfl) ?_
  refine lv_iload_n hx hb dX0_setMatte_5 rfl (lv_at hl 2 rfl) ?_
  refine lv_iload_n hx hb dX0_setMatte_6 rfl (lv_at hl 3 rfl) ?_
  obtain ⟨a1, c2, ho7, hcv7, h⟩ := h
  have hcc := h.1
  have h := h.2
  obtain ⟨c5, s6, hc7, hs7, h⟩ := h
  refine call_X1_setMatte_V (ct_X1_setMatte l hfl) C hW hS q1206 ho7 hcv7 hcc (le_lit hRf rfl) (le_lit hRl rfl) hc7 hs7 hkc hks hl.1 (by simp only [List.map_cons, List.map_nil, va_rf_cat]; exact Nat.le_of_ble_eq_true rfl) dX0_setMatte_7 h (fun E G9 ce q9 H locs hX hW hS h1 h2 h3 _ => by
      by_cases c900 : E = "java/lang/IndexOutOfBoundsException"
      · have hX := wif_t hX c900
        subst c900
        refine vx_catch hown [] ⟨0, 12, 15, 19⟩ [⟨0, 12, 19, 13⟩] (htab.trans rfl) (fun z hz => absurd hz List.not_mem_nil) rfl (by decide) (hts _ q740) (va_Nw.use rfl (C.2.1.2.2.1 _ q757 rfl)) h1 h2 h3 ?_
        refine sh_astore (lv' := [(5, va_rf (some q9)), (0, va_rf x0), (1, .int x1), (2, .int x2), (3, .int x3), (4, va_rf x4)]) hx hb dX0_setMatte_15 hl (by decide) (by simp only [List.filter_cons, List.filter_nil, va_rf_cat]; rfl) (fun ls hl => ?_)
        refine lv_iconst (v := 1) hx hb dX0_setMatte_17 (by decide) ?_
        exact hret _ _ _ _ _ _ _ _ (k1 := 0) (k2 := 0) dX0_setMatte_18 hW hS (by omega) (by omega) hX
      have hX := wif_f hX c900
      by_cases c901 : E = "java/lang/IllegalStateException"
      · have hX := wif_t hX c901
        subst c901
        refine vx_catch hown [⟨0, 12, 15, 19⟩] ⟨0, 12, 19, 13⟩ [] (htab.trans rfl) (by intro z hz; simp only [List.mem_cons, List.not_mem_nil, or_false] at hz; rcases hz with rfl <;> first | (exact Or.inr ⟨by decide, "java/lang/IndexOutOfBoundsException", hts _ q740, C.2.1.2.2.2.2.2.2.1 ("java/lang/IllegalStateException", "java/lang/IndexOutOfBoundsException") (by decide)⟩)) rfl (by decide) (hts _ q628) (va_Nw.use rfl (C.2.1.2.2.1 _ q638 rfl)) h1 h2 h3 ?_
        refine sh_astore (lv' := [(5, va_rf (some q9)), (0, va_rf x0), (1, .int x1), (2, .int x2), (3, .int x3), (4, va_rf x4)]) hx hb dX0_setMatte_19 hl (by decide) (by simp only [List.filter_cons, List.filter_nil, va_rf_cat]; rfl) (fun ls hl => ?_)
        refine lv_iconst (v := 2) hx hb dX0_setMatte_21 (by decide) ?_
        exact hret _ _ _ _ _ _ _ _ (k1 := 0) (k2 := 0) dX0_setMatte_22 hW hS (by omega) (by omega) hX
      have hX := wif_f hX c901
      exact False.elim hX) (fun r3 G4 H locs h hW hS _ hkc hks => ?_)
  refine lv_i2l hx hb dX0_setMatte_10 rfl ?_
  refine sh_last C hW hS h dX0_setMatte_11 (fun G7 H locs hW hS h => ?_)
  refine lv_goto (tgt := 23) hx hb dX0_setMatte_12 (by decide) ?_
  refine lv_iconst (v := 0) hx hb dX0_setMatte_23 (by decide) ?_
  exact hret _ _ _ _ _ _ _ _ dX0_setMatte_24 hW hS hkc hks h
theorem ct_X0_setMatte (l : Launch) (hfl : l.stackTraces = false) : CT_X0_setMatte l 15 267 w_X0_setMatte := by
  intro V sz G Q x0 x1 x2 x3 x4 kc ks
  refine gx_ofWH (cc := cX0_setMatte) (maxL := 6) (ret := (some .int)) (hh := [(0, 12, 15, 19), (0, 12, 19, 13)]) (by decide) rfl ?_
  intro p e s m args below meth c s₁ B hml htab hv
  obtain ⟨rfl, hsz, hW, hK, hZ, h⟩ := hv
  subst hsz
  have hts := atoms_spec (ws := (wsW_ yX0_setMatte cX0_setMatte 6 (some .int) [(0, 12, 15, 19), (0, 12, 19, 13)])) B.pre
  have hts : ∀ w ∈ lw_all, w.before _ s = true := fun w h => hts w (List.mem_cons_of_mem _ h)
  have key : ∃ ls : Array Slot, entryFrame m ([va_rf x0, .int x1, .int x2, .int x3, va_rf x4] : List Value).toArray 6 = F0 m 0 ls [] ∧ lv_has ls 6 [(0, va_rf x0), (1, .int x1), (2, .int x2), (3, .int x3), (4, va_rf x4)] := by
    cases x0 <;> cases x4 <;> (refine ⟨_, by rw [lg_entry_eq], ?_⟩; exact lv_entry _ (Nat.le_of_ble_eq_true rfl))
  obtain ⟨ls, hfr, hl⟩ := key
  rw [hfr]
  exact wk_X0_setMatte Q ⟨⟨B.exec, B.bytes, hml, findClass_of_methodNamed B.named, hts⟩, hK, hZ, fun q h => Or.inr h⟩ hfl htab (Nat.le_refl _) (Nat.le_refl _) G (fun v G pc ls H locs cells slots _ _ hd hW1 hS hkc hks hQ => W.widen (k := kc) (n := ks) (Nat.le_trans (Nat.le_add_right _ _) hkc) (Nat.le_trans (Nat.le_add_right _ _) hks) (W.iret (v := v) B.exec B.bytes B.returns (fun t ht _ => ⟨⟨v, G, rfl, hQ, by rw [← ht] at hW1; exact hW1⟩, hS.F ht⟩) hS.2.2 hd)) x0 x1 x2 x3 x4 kc ks h ls _ [] 0 0 hl hW va_S.rf (by show 0 + kc ≤ kc; omega) (by show 0 + ks ≤ ks; omega)
def CT_X1_setSpan (l : Launch) (fr lo : Nat) (w : XV → (Int32 → GM → Prop) → (String → GM → Prop) → Nat → Int32 → Int32 → Int32 → GM → Nat → Nat → Prop) : Prop := ∀ (V : XV) (sz : Nat) (G : GM) (Q : Int32 → GM → Prop) (X : String → GM → Prop) (x0 : Nat) (x1 : Int32) (x2 : Int32) (x3 : Int32) (kc ks : Nat), vx_Met l yX1_setSpan (ws_ yX1_setSpan cX1_setSpan 6 (some .int)) { frames := fr, cells := kc, slots := ks, locals := lo } (va_Pc [.ref x0, .int x1, .int x2, .int x3] (fun U => U.heap.size = sz ∧ xW V (xA G sz) G U.heap ∧ xK V U ∧ xZ V (xA G sz) U U.heap ∧ w V Q X x0 x1 x2 x3 G kc ks)) (va_Qi (fun r (u : GM) => Q r u) (fun u t => xW V (xA G sz) u t.heap) (xA G sz)) (vx_X (fun u : String × GM => X u.1 u.2) (fun E u t => E = u.1 ∧ xW V (xA G sz) u.2 t.heap) (xA G sz)) kc ks (xA G sz)
theorem call_X1_setSpan_V {p : Program} {l : Launch} {e : Env} {R : Room} {s : State} {m : MethodId} {args : Array Value} {below : List Frame} {meth : Method} {c : Code} {H : Heap} {locs : List Loc} {cells slots : Nat} {Z : State → Prop} {A : Nat → Prop} {cc : ByteArray} {nL pc : Nat} {ls : Array Slot} {rest : List Value} {own : String} {index fr lo : Nat} {w : XV → (Int32 → GM → Prop) → (String → GM → Prop) → Nat → Int32 → Int32 → Int32 → GM → Nat → Nat → Prop} {V : XV} {G : GM} {o : Option Nat} {ci : Nat} {kc ks c1 s1 : Nat} {x0 : Nat} {x1 : Int32} {x2 : Int32} {x3 : Int32} (hM : CT_X1_setSpan l fr lo w) (C : xC p m c s args cc nL own V A) (hW : xW V A G H) (hS : va_S A s.heap H locs) (hlink : Cond.methodLink own index yX1_setSpan ∈ lw_all) (ho : o = some x0) (hcv : gCi G (some x0) = some ci) (hci : ci % 64 = 0) (hRf : fr + 1 ≤ R.frames) (hRl : 8 + (6 + 11) + lo ≤ R.locals) (hc1 : c1 ≤ kc) (hs1 : s1 ≤ ks) (hkc : cells + kc ≤ R.cells) (hks : slots + ks ≤ R.slots) (hz : ls.size = nL) (hr8 : (rest.map fun v => v.category).sum ≤ 8) (hdg : decode cc pc = .ok (.invokevirtual index, 3)) {Q1 : Int32 → GM → Prop} {X1 : String → GM → Prop} (h : w V Q1 X1 x0 x1 x2 x3 G c1 s1) (kx : ∀ (E : String) (G1 : GM) (ce : Cell) (q9 : Addr) (H1 : Heap) (locs1 : List Loc), X1 E G1 → xW V A G1 H1 → va_S A s.heap H1 locs1 → H1[q9]? = some ce → ce.vm = .none → s.vm.findClass E = some ce.cls → xFr V G G1 H H1 → vx_W p l e R s m args below meth c H1 locs1 (cells + c1) (slots + s1) Z (F0 m pc ls rest) q9) (kk : ∀ (r : Int32) (G1 : GM) (H1 : Heap) (locs1 : List Loc), Q1 r G1 → xW V A G1 H1 → va_S A s.heap H1 locs1 → xFr V G G1 H H1 → (cells + c1) + (kc - c1) ≤ R.cells → (slots + s1) + (ks - s1) ≤ R.slots → W p l e R s m args below meth c H1 locs1 (cells + c1) (slots + s1) Z (F0 m (pc + 3) ls (.int r :: rest))) : W p l e R s m args below meth c H locs cells slots Z (F0 m pc ls (.int x3 :: .int x2 :: .int x1 :: va_rf o :: rest)) := by
  subst ho
  obtain ⟨fs, hG⟩ := gCi_of hcv
  exact rx_i3w (vx_runV (As := [.int x1, .int x2, .int x3]) (rest := rest) C.1 (hM V H.size G Q1 X1 x0 x1 x2 x3 c1 s1) (cwV 3 C.1.2.2.2.2 (lw_V hlink q1214 q1215 q59 q1216) rfl rfl rfl (by decide +kernel) ⟨hRf, hRl⟩) ⟨fun a U g mk q => by obtain ⟨q0, q1, qW, qK, qZ, qw⟩ := q; exact ⟨q0, q1, qW, xK.same (u := U) (U := U.calling g mk a) rfl qK, xZ.moved (u := U) (U := U.calling g mk a) (Vm.Alike.refl U.vm) qZ, qw⟩, (hW.recv C.2.1 hG (r := (RX1, TX1, 6)) (by rw [hci]; rfl)), fun U hU hWm => ⟨rfl, by rw [hU], by rw [hU]; exact hW.self _, C.2.1.warm hWm, xZ.call C.2.2.1 hW hS C.2.2.2 hU hWm.alike, h⟩⟩ rfl rfl hz rfl (lv_room hr8) hdg ⟨by omega, by omega⟩) hW hS C.2.2.2 kx (fun r G1 H1 locs1 hp hW1 hS1 hF1 => kk r G1 H1 locs1 hp hW1 hS1 hF1 (by omega) (by omega))
def w_X1_setSpan_36 (V : XV) (Q : Int32 → GM → Prop) (X : String → GM → Prop) (x0 : Nat) (x2 : Int32) (x3 : Int32) (x4 : Option Nat) (y0 : Int32) (G : GM) (kc : Nat) (ks : Nat) : Prop := ∃ c1 s2 : Nat, c1 ≤ kc ∧ s2 ≤ ks ∧ (w_X1_checkArgument V (gGI G 20 x4 (fun v3 => gGI G 19 x4 (fun v4 => gPF G 19 x4 (.int x2) (fun G5 => gPF G5 20 x4 (.int x3) (fun G6 => gGR G6 3 (some x0) (fun v7 => gRcv G6 v7 (fun a8 c9 => (c9 % 64 = 15) ∧ (w_J2_clear V (fun G10 => Q (v3 - v4) G10) a8 G6)))))))) X y0 G c1 s2)
def w_X1_setSpan_35 (V : XV) (Q : Int32 → GM → Prop) (X : String → GM → Prop) (x0 : Nat) (x2 : Int32) (x3 : Int32) (x4 : Option Nat) (G : GM) (kc : Nat) (ks : Nat) : Prop := w_X1_setSpan_36 V Q X x0 x2 x3 x4 (0 : Int32) G kc ks
def w_X1_setSpan (V : XV) (Q : Int32 → GM → Prop) (X : String → GM → Prop) (x0 : Nat) (x1 : Int32) (x2 : Int32) (x3 : Int32) (G : GM) (kc : Nat) (ks : Nat) : Prop := gRcv G (some x0) (fun a11 c12 => (c12 % 64 = 0) ∧ (∃ c14 s15 : Nat, c14 ≤ kc ∧ s15 ≤ ks ∧ (w_X1_layer V (fun r13 => w_X1_isBetween V (fun r16 => if r16 = 0 then (w_X1_setSpan_35 V Q X x0 x2 x3 r13 G (kc - c14) (ks - s15)) else (w_X1_isBetween V (fun r17 => if r17 = 0 then (w_X1_setSpan_35 V Q X x0 x2 x3 r13 G (kc - c14) (ks - s15)) else (w_X1_setSpan_36 V Q X x0 x2 x3 r13 (1 : Int32) G (kc - c14) (ks - s15))) x3 (x2 + (1 : Int32)) (1000 : Int32) G)) x2 (0 : Int32) (999 : Int32) G) X a11 x1 G c14 s15)))
set_option maxRecDepth 100000 in
set_option maxHeartbeats 4000000 in
theorem wk_X1_setSpan {p : Program} {l : Launch} {e : Env} {R : Room} {s : State} {m : MethodId} {args : Array Value} {below : List Frame} {meth : Method} {c : Code} {Z : State → Prop} {A : Nat → Prop} {V : XV} (Q : Int32 → GM → Prop) (X : String → GM → Prop) (C : xC p m c s args cX1_setSpan 6 RX1 V A) (hfl : l.stackTraces = false) (hRf : 14 ≤ R.frames) (hRl : 241 ≤ R.locals) (G : GM) (hret : ∀ (v : Int32) (G : GM) (pc : Nat) (ls : Array Slot) (H : Heap) (locs : List Loc) (cells slots : Nat) {k1 k2 : Nat}, decode cX1_setSpan pc = .ok (.ireturn, 1) → xW V A G H → va_S A s.heap H locs → cells + k1 ≤ R.cells → slots + k2 ≤ R.slots → Q v G → W p l e R s m args below meth c H locs cells slots Z (F0 m pc ls [.int v])) (hxo : ∀ (E : String) (G : GM) (ce : Cell) (q : Addr) (pc : Nat) (ls : Array Slot) (H : Heap) (locs : List Loc) (cells slots : Nat) (rest : List Value), xW V A G H → va_S A s.heap H locs → X E G → H[q]? = some ce → ce.vm = .none → s.vm.findClass E = some ce.cls → cells ≤ R.cells → slots ≤ R.slots → vx_W p l e R s m args below meth c H locs cells slots Z (F0 m pc ls rest) q) (x0 : Nat) (x1 : Int32) (x2 : Int32) (x3 : Int32) (kc ks : Nat) : w_X1_setSpan V Q X x0 x1 x2 x3 G kc ks → ∀ (ls : Array Slot) (H : Heap) (locs : List Loc) (cells slots : Nat), lv_has ls 6 [(0, va_rf (some x0)), (1, .int x1), (2, .int x2), (3, .int x3)] → xW V A G H → va_S A s.heap H locs → cells + kc ≤ R.cells → slots + ks ≤ R.slots → W p l e R s m args below meth c H locs cells slots Z (F0 m 0 ls []) := by
  have hx := C.1.1; have hb := C.1.2.1; have hml := C.1.2.2.1; have hown := C.1.2.2.2.1; have hts := C.1.2.2.2.2
  have hb36 : ∀ (x4 : Option Nat) (y0 : Int32) (G : GM) (kc : Nat) (ks : Nat), w_X1_setSpan_36 V Q X x0 x2 x3 x4 y0 G kc ks → ∀ (ls : Array Slot) (H : Heap) (locs : List Loc) (cells slots : Nat), lv_has ls 6 [(0, va_rf (some x0)), (2, .int x2), (3, .int x3), (4, va_rf x4)] → xW V A G H → va_S A s.heap H locs → cells + kc ≤ R.cells → slots + ks ≤ R.slots → W p l e R s m args below meth c H locs cells slots Z (F0 m 36 ls [.int y0]) := by
    intro x4 y0 G kc ks h
    intro ls H locs cells slots hl hW hS hkc hks
    obtain ⟨c1, s2, hc36, hs36, h⟩ := h
    refine call_X1_checkArgument_S (ct_X1_checkArgument l hfl) C hW hS q787 (le_lit hRf rfl) (le_lit hRl rfl) hc36 hs36 hkc hks hl.1 (Nat.le_of_ble_eq_true rfl) dX1_setSpan_36 h (fun E G9 ce q9 H locs hX hW hS h1 h2 h3 _ => hxo E G9 ce q9 36 ls H locs _ _ _ hW hS hX h1 h2 h3 (by omega) (by omega)) (fun  H locs h hW hS _ hkc hks => ?_)
    refine sh_aload hx hb dX1_setSpan_39 (lv_at hl 3 rfl) ?_
    obtain ⟨v3, h1, h⟩ := h
    refine sh_getN C hW xFb_20 q854 (fun _ h => h) (by decide) h1 dX1_setSpan_41 ?_
    refine sh_aload hx hb dX1_setSpan_44 (lv_at hl 3 rfl) ?_
    obtain ⟨v4, h1, h⟩ := h
    refine sh_get C hW xFb_19 q852 (fun _ h => h) h1 dX1_setSpan_46 ?_
    refine lv_isub hx hb dX1_setSpan_49 ?_
    refine lv_istore (lv' := [(5, .int (v3 - v4)), (0, va_rf (some x0)), (2, .int x2), (3, .int x3), (4, va_rf x4)]) hx hb dX1_setSpan_50 hl (by decide) (by simp only [List.filter_cons, List.filter_nil, va_rf_cat]; rfl) (fun ls hl => ?_)
    refine sh_aload hx hb dX1_setSpan_52 (lv_at hl 4 rfl) ?_
    refine lv_iload_n hx hb dX1_setSpan_54 rfl (lv_at hl 2 rfl) ?_
    refine sh_put C hW hS xFb_19 q852 (fun _ h => h) xFd_19 rfl rfl h dX1_setSpan_55 (fun G5 H locs hW hS h => ?_)
    refine sh_aload hx hb dX1_setSpan_58 (lv_at hl 4 rfl) ?_
    refine lv_iload_n hx hb dX1_setSpan_60 rfl (lv_at hl 3 rfl) ?_
    refine sh_putN C hW hS xFb_20 q854 (fun _ h => h) xFd_20 rfl rfl h dX1_setSpan_61 (fun G6 H locs hW hS h => ?_)
    refine sh_aload_n hx hb dX1_setSpan_64 rfl (lv_at hl 1 rfl) ?_
    obtain ⟨v7, h1, h⟩ := h
    refine sh_get C hW xFb_3 q204 (fun _ h => h) h1 dX1_setSpan_65 ?_
    obtain ⟨a8, c9, ho68, hcv68, h⟩ := h
    have hcc := h.1
    have h := h.2
    refine call_J2_clear_F15_List (ct_J2_clear l) C hW hS q235 ho68 hcv68 hcc (le_lit hRf rfl) (le_lit hRl rfl) ⟨Nat.le_trans (Nat.le_add_right _ _) hkc, Nat.le_trans (Nat.le_add_right _ _) hks⟩ hl.1 (Nat.le_of_ble_eq_true rfl) dX1_setSpan_68 h (fun G10 H locs h hW hS _ => ?_)
    refine lv_iload hx hb dX1_setSpan_73 (lv_at hl 0 rfl) ?_
    exact hret _ _ _ _ _ _ _ _ dX1_setSpan_75 hW hS hkc hks h
  have hb35 : ∀ (x4 : Option Nat) (G : GM) (kc : Nat) (ks : Nat), w_X1_setSpan_35 V Q X x0 x2 x3 x4 G kc ks → ∀ (ls : Array Slot) (H : Heap) (locs : List Loc) (cells slots : Nat), lv_has ls 6 [(0, va_rf (some x0)), (2, .int x2), (3, .int x3), (4, va_rf x4)] → xW V A G H → va_S A s.heap H locs → cells + kc ≤ R.cells → slots + ks ≤ R.slots → W p l e R s m args below meth c H locs cells slots Z (F0 m 35 ls []) := by
    intro x4 G kc ks h
    intro ls H locs cells slots hl hW hS hkc hks
    refine lv_iconst (v := 0) hx hb dX1_setSpan_35 (by decide) ?_
    exact hb36 _ _ _ _ _ h ls H locs _ _ (lv_sub hl [0, 1, 2, 3] rfl) hW hS hkc hks
  intro h
  intro ls H locs cells slots hl hW hS hkc hks
  refine sh_aload_n hx hb dX1_setSpan_0 rfl (lv_at hl 0 rfl) ?_
  refine lv_iload_n hx hb dX1_setSpan_1 rfl (lv_at hl 1 rfl) ?_
  obtain ⟨a11, c12, ho2, hcv2, h⟩ := h
  have hcc := h.1
  have h := h.2
  obtain ⟨c14, s15, hc2, hs2, h⟩ := h
  refine call_X1_layer_V (ct_X1_layer l hfl) C hW hS q921 ho2 hcv2 hcc (le_lit hRf rfl) (le_lit hRl rfl) hc2 hs2 hkc hks hl.1 (Nat.le_of_ble_eq_true rfl) dX1_setSpan_2 h (fun E G9 ce q9 H locs hX hW hS h1 h2 h3 _ => hxo E G9 ce q9 2 ls H locs _ _ _ hW hS hX h1 h2 h3 (by omega) (by omega)) (fun r13 H locs h hW hS _ hkc hks => ?_)
  refine sh_astore (lv' := [(4, va_rf r13), (0, va_rf (some x0)), (1, .int x1), (2, .int x2), (3, .int x3)]) hx hb dX1_setSpan_5 hl (by decide) rfl (fun ls hl => ?_)
  refine lv_iload_n hx hb dX1_setSpan_7 rfl (lv_at hl 3 rfl) ?_
  refine lv_iconst (v := 0) hx hb dX1_setSpan_8 (by decide) ?_
  refine lv_sipush (v := 999) hx hb dX1_setSpan_9 (by decide) ?_
  refine call_X1_isBetween_S (ct_X1_isBetween l) C hW hS q593 (le_lit hRf rfl) (le_lit hRl rfl) ⟨Nat.le_trans (Nat.le_add_right _ _) hkc, Nat.le_trans (Nat.le_add_right _ _) hks⟩ hl.1 (Nat.le_of_ble_eq_true rfl) dX1_setSpan_12 h (fun r16 H locs h hW hS _ => ?_)
  refine lv_if_eq (tgt := 35) hx hb dX1_setSpan_15 (by decide) (fun c19 => ?_) (fun c19 => ?_)
  · have h := wif_t h c19
    exact hb35 _ _ _ _ h ls H locs _ _ (lv_sub hl [1, 3, 4, 0] rfl) hW hS hkc hks
  · have h := wif_f h c19
    refine lv_iload_n hx hb dX1_setSpan_18 rfl (lv_at hl 4 rfl) ?_
    refine lv_iload_n hx hb dX1_setSpan_19 rfl (lv_at hl 3 rfl) ?_
    refine lv_iconst (v := 1) hx hb dX1_setSpan_20 (by decide) ?_
    refine lv_iadd hx hb dX1_setSpan_21 ?_
    refine lv_sipush (v := 1000) hx hb dX1_setSpan_22 (by decide) ?_
    refine call_X1_isBetween_S (ct_X1_isBetween l) C hW hS q593 (le_lit hRf rfl) (le_lit hRl rfl) ⟨Nat.le_trans (Nat.le_add_right _ _) hkc, Nat.le_trans (Nat.le_add_right _ _) hks⟩ hl.1 (Nat.le_of_ble_eq_true rfl) dX1_setSpan_25 h (fun r17 H locs h hW hS _ => ?_)
    refine lv_if_eq (tgt := 35) hx hb dX1_setSpan_28 (by decide) (fun c18 => ?_) (fun c18 => ?_)
    · have h := wif_t h c18
      exact hb35 _ _ _ _ h ls H locs _ _ (lv_sub hl [1, 3, 4, 0] rfl) hW hS hkc hks
    · have h := wif_f h c18
      refine lv_iconst (v := 1) hx hb dX1_setSpan_31 (by decide) ?_
      refine lv_goto (tgt := 36) hx hb dX1_setSpan_32 (by decide) ?_
      exact hb36 _ _ _ _ _ h ls H locs _ _ (lv_sub hl [1, 3, 4, 0] rfl) hW hS hkc hks
theorem ct_X1_setSpan (l : Launch) (hfl : l.stackTraces = false) : CT_X1_setSpan l 14 241 w_X1_setSpan := by
  intro V sz G Q X x0 x1 x2 x3 kc ks
  refine vx_ofW (cc := cX1_setSpan) (maxL := 6) (ret := (some .int)) (by decide) rfl ?_
  intro p e s m args below meth c s₁ B hml hext hv
  obtain ⟨rfl, hsz, hW, hK, hZ, h⟩ := hv
  subst hsz
  have hts := atoms_spec (ws := (ws_ yX1_setSpan cX1_setSpan 6 (some .int))) B.pre
  have hts : ∀ w ∈ lw_all, w.before _ s = true := fun w h => hts w (List.mem_cons_of_mem _ h)
  have hl := lv_entry ([.ref x0, .int x1, .int x2, .int x3]) (n := 6) (Nat.le_of_ble_eq_true rfl)
  rw [lg_entry_eq]
  generalize (lg_sl ([.ref x0, .int x1, .int x2, .int x3]) ++ List.replicate (6 - (lg_sl ([.ref x0, .int x1, .int x2, .int x3])).length) Slot.unset).toArray = ls at hl ⊢
  exact wk_X1_setSpan Q X ⟨⟨B.exec, B.bytes, hml, findClass_of_methodNamed B.named, hts⟩, hK, hZ, fun q h => Or.inr h⟩ hfl (Nat.le_refl _) (Nat.le_refl _) G (fun v G pc ls H locs cells slots _ _ hd hW1 hS hkc hks hQ => W.widen (k := kc) (n := ks) (Nat.le_trans (Nat.le_add_right _ _) hkc) (Nat.le_trans (Nat.le_add_right _ _) hks) (vx_ret (W.iret (v := v) B.exec B.bytes B.returns (fun t ht _ => ⟨⟨v, G, rfl, hQ, by rw [← ht] at hW1; exact hW1⟩, hS.F ht⟩) hS.2.2 hd))) (fun E G9 ce q pc ls H locs cells slots rest hW1 hS hX h1 h2 h3 hc hs => vx_out (fun x hx => absurd (hext x hx) id) B.notSynchronized h1 h2 h3 (fun t ht _ => ⟨(E, G9), hX, ⟨rfl, by rw [← ht] at hW1; exact hW1⟩, hS.F ht⟩) hS.2.2 hc hs) x0 x1 x2 x3 kc ks h ls _ [] 0 0 hl hW va_S.rf (by show 0 + kc ≤ kc; omega) (by show 0 + ks ≤ ks; omega)
def CT_X0_setSpan (l : Launch) (fr lo : Nat) (w : XV → (Int32 → GM → Prop) → (Option Nat) → Int32 → Int32 → Int32 → (Option Nat) → GM → Nat → Nat → Prop) : Prop := ∀ (V : XV) (sz : Nat) (G : GM) (Q : Int32 → GM → Prop) (x0 : Option Nat) (x1 : Int32) (x2 : Int32) (x3 : Int32) (x4 : Option Nat) (kc ks : Nat), Met l yX0_setSpan (wsW_ yX0_setSpan cX0_setSpan 6 (some .int) [(0, 12, 15, 19), (0, 12, 19, 21)]) { frames := fr, cells := kc, slots := ks, locals := lo } (va_Pc [va_rf x0, .int x1, .int x2, .int x3, va_rf x4] (fun U => U.heap.size = sz ∧ xW V (xA G sz) G U.heap ∧ xK V U ∧ xZ V (xA G sz) U U.heap ∧ w V Q x0 x1 x2 x3 x4 G kc ks)) (va_Qi (fun r (u : GM) => Q r u) (fun u t => xW V (xA G sz) u t.heap) (xA G sz)) kc ks (xA G sz)
def w_X0_setSpan (V : XV) (Q : Int32 → GM → Prop) (x0 : Option Nat) (x1 : Int32) (x2 : Int32) (x3 : Int32) (x4 : Option Nat) (G : GM) (kc : Nat) (ks : Nat) : Prop := gRcv G x0 (fun a1 c2 => (c2 % 64 = 0) ∧ (∃ c5 s6 : Nat, c5 ≤ kc ∧ s6 ≤ ks ∧ (w_X1_setSpan V (fun r3 G4 => gJS G4 1 x4 (0 : Int32) (r3.toInt64) (fun G7 => Q (0 : Int32) G7)) (fun E G9 => if E = "java/lang/IndexOutOfBoundsException" then Q (1 : Int32) G9 else (if E = "java/lang/IllegalArgumentException" then Q (2 : Int32) G9 else (False))) a1 x1 x2 x3 G c5 s6)))
set_option maxRecDepth 100000 in
set_option maxHeartbeats 4000000 in
theorem wk_X0_setSpan {p : Program} {l : Launch} {e : Env} {R : Room} {s : State} {m : MethodId} {args : Array Value} {below : List Frame} {meth : Method} {c : Code} {Z : State → Prop} {A : Nat → Prop} {V : XV} (Q : Int32 → GM → Prop) (C : xC p m c s args cX0_setSpan 6 RX0 V A) (hfl : l.stackTraces = false) (htab : c.exceptionTable.toList = tableOf [(0, 12, 15, 19), (0, 12, 19, 21)]) (hRf : 15 ≤ R.frames) (hRl : 266 ≤ R.locals) (G : GM) (hret : ∀ (v : Int32) (G : GM) (pc : Nat) (ls : Array Slot) (H : Heap) (locs : List Loc) (cells slots : Nat) {k1 k2 : Nat}, decode cX0_setSpan pc = .ok (.ireturn, 1) → xW V A G H → va_S A s.heap H locs → cells + k1 ≤ R.cells → slots + k2 ≤ R.slots → Q v G → W p l e R s m args below meth c H locs cells slots Z (F0 m pc ls [.int v])) (x0 : Option Nat) (x1 : Int32) (x2 : Int32) (x3 : Int32) (x4 : Option Nat) (kc ks : Nat) : w_X0_setSpan V Q x0 x1 x2 x3 x4 G kc ks → ∀ (ls : Array Slot) (H : Heap) (locs : List Loc) (cells slots : Nat), lv_has ls 6 [(0, va_rf x0), (1, .int x1), (2, .int x2), (3, .int x3), (4, va_rf x4)] → xW V A G H → va_S A s.heap H locs → cells + kc ≤ R.cells → slots + ks ≤ R.slots → W p l e R s m args below meth c H locs cells slots Z (F0 m 0 ls []) := by
  have hx := C.1.1; have hb := C.1.2.1; have hml := C.1.2.2.1; have hown := C.1.2.2.2.1; have hts := C.1.2.2.2.2
  intro h
  intro ls H locs cells slots hl hW hS hkc hks
  refine sh_aload hx hb dX0_setSpan_0 (lv_at hl 4 rfl) ?_
  refine lv_iconst (v := 0) hx hb dX0_setSpan_2 (by decide) ?_
  refine sh_aload_n hx hb dX0_setSpan_3 rfl (lv_at hl 0 rfl) ?_
  refine lv_iload_n hx hb dX0_setSpan_4 rfl (lv_at hl 1 rfl) ?_
  refine lv_iload_n hx hb dX0_setSpan_5 rfl (lv_at hl 2 rfl) ?_
  refine lv_iload_n hx hb dX0_setSpan_6 rfl (lv_at hl 3 rfl) ?_
  obtain ⟨a1, c2, ho7, hcv7, h⟩ := h
  have hcc := h.1
  have h := h.2
  obtain ⟨c5, s6, hc7, hs7, h⟩ := h
  refine call_X1_setSpan_V (ct_X1_setSpan l hfl) C hW hS q1213 ho7 hcv7 hcc (le_lit hRf rfl) (le_lit hRl rfl) hc7 hs7 hkc hks hl.1 (by simp only [List.map_cons, List.map_nil, va_rf_cat]; exact Nat.le_of_ble_eq_true rfl) dX0_setSpan_7 h (fun E G9 ce q9 H locs hX hW hS h1 h2 h3 _ => by
      by_cases c900 : E = "java/lang/IndexOutOfBoundsException"
      · have hX := wif_t hX c900
        subst c900
        refine vx_catch hown [] ⟨0, 12, 15, 19⟩ [⟨0, 12, 19, 21⟩] (htab.trans rfl) (fun z hz => absurd hz List.not_mem_nil) rfl (by decide) (hts _ q740) (va_Nw.use rfl (C.2.1.2.2.1 _ q757 rfl)) h1 h2 h3 ?_
        refine sh_astore (lv' := [(5, va_rf (some q9)), (0, va_rf x0), (1, .int x1), (2, .int x2), (3, .int x3), (4, va_rf x4)]) hx hb dX0_setSpan_15 hl (by decide) (by simp only [List.filter_cons, List.filter_nil, va_rf_cat]; rfl) (fun ls hl => ?_)
        refine lv_iconst (v := 1) hx hb dX0_setSpan_17 (by decide) ?_
        exact hret _ _ _ _ _ _ _ _ (k1 := 0) (k2 := 0) dX0_setSpan_18 hW hS (by omega) (by omega) hX
      have hX := wif_f hX c900
      by_cases c901 : E = "java/lang/IllegalArgumentException"
      · have hX := wif_t hX c901
        subst c901
        refine vx_catch hown [⟨0, 12, 15, 19⟩] ⟨0, 12, 19, 21⟩ [] (htab.trans rfl) (by intro z hz; simp only [List.mem_cons, List.not_mem_nil, or_false] at hz; rcases hz with rfl <;> first | (exact Or.inr ⟨by decide, "java/lang/IndexOutOfBoundsException", hts _ q740, C.2.1.2.2.2.2.2.2.1 ("java/lang/IllegalArgumentException", "java/lang/IndexOutOfBoundsException") (by decide)⟩)) rfl (by decide) (hts _ q743) (va_Nw.use rfl (C.2.1.2.2.1 _ q441 rfl)) h1 h2 h3 ?_
        refine sh_astore (lv' := [(5, va_rf (some q9)), (0, va_rf x0), (1, .int x1), (2, .int x2), (3, .int x3), (4, va_rf x4)]) hx hb dX0_setSpan_19 hl (by decide) (by simp only [List.filter_cons, List.filter_nil, va_rf_cat]; rfl) (fun ls hl => ?_)
        refine lv_iconst (v := 2) hx hb dX0_setSpan_21 (by decide) ?_
        exact hret _ _ _ _ _ _ _ _ (k1 := 0) (k2 := 0) dX0_setSpan_22 hW hS (by omega) (by omega) hX
      have hX := wif_f hX c901
      exact False.elim hX) (fun r3 G4 H locs h hW hS _ hkc hks => ?_)
  refine lv_i2l hx hb dX0_setSpan_10 rfl ?_
  refine sh_last C hW hS h dX0_setSpan_11 (fun G7 H locs hW hS h => ?_)
  refine lv_goto (tgt := 23) hx hb dX0_setSpan_12 (by decide) ?_
  refine lv_iconst (v := 0) hx hb dX0_setSpan_23 (by decide) ?_
  exact hret _ _ _ _ _ _ _ _ dX0_setSpan_24 hW hS hkc hks h
theorem ct_X0_setSpan (l : Launch) (hfl : l.stackTraces = false) : CT_X0_setSpan l 15 266 w_X0_setSpan := by
  intro V sz G Q x0 x1 x2 x3 x4 kc ks
  refine gx_ofWH (cc := cX0_setSpan) (maxL := 6) (ret := (some .int)) (hh := [(0, 12, 15, 19), (0, 12, 19, 21)]) (by decide) rfl ?_
  intro p e s m args below meth c s₁ B hml htab hv
  obtain ⟨rfl, hsz, hW, hK, hZ, h⟩ := hv
  subst hsz
  have hts := atoms_spec (ws := (wsW_ yX0_setSpan cX0_setSpan 6 (some .int) [(0, 12, 15, 19), (0, 12, 19, 21)])) B.pre
  have hts : ∀ w ∈ lw_all, w.before _ s = true := fun w h => hts w (List.mem_cons_of_mem _ h)
  have key : ∃ ls : Array Slot, entryFrame m ([va_rf x0, .int x1, .int x2, .int x3, va_rf x4] : List Value).toArray 6 = F0 m 0 ls [] ∧ lv_has ls 6 [(0, va_rf x0), (1, .int x1), (2, .int x2), (3, .int x3), (4, va_rf x4)] := by
    cases x0 <;> cases x4 <;> (refine ⟨_, by rw [lg_entry_eq], ?_⟩; exact lv_entry _ (Nat.le_of_ble_eq_true rfl))
  obtain ⟨ls, hfr, hl⟩ := key
  rw [hfr]
  exact wk_X0_setSpan Q ⟨⟨B.exec, B.bytes, hml, findClass_of_methodNamed B.named, hts⟩, hK, hZ, fun q h => Or.inr h⟩ hfl htab (Nat.le_refl _) (Nat.le_refl _) G (fun v G pc ls H locs cells slots _ _ hd hW1 hS hkc hks hQ => W.widen (k := kc) (n := ks) (Nat.le_trans (Nat.le_add_right _ _) hkc) (Nat.le_trans (Nat.le_add_right _ _) hks) (W.iret (v := v) B.exec B.bytes B.returns (fun t ht _ => ⟨⟨v, G, rfl, hQ, by rw [← ht] at hW1; exact hW1⟩, hS.F ht⟩) hS.2.2 hd)) x0 x1 x2 x3 x4 kc ks h ls _ [] 0 0 hl hW va_S.rf (by show 0 + kc ≤ kc; omega) (by show 0 + ks ≤ ks; omega)
def CT_X1_keyed (l : Launch) (fr lo : Nat) (w : XV → (Option Nat → Prop) → (String → GM → Prop) → Nat → Int32 → Int32 → GM → Nat → Nat → Prop) : Prop := ∀ (V : XV) (sz : Nat) (G : GM) (Q : Option Nat → Prop) (X : String → GM → Prop) (x0 : Nat) (x1 : Int32) (x2 : Int32) (kc ks : Nat), vx_Met l yX1_keyed (ws_ yX1_keyed cX1_keyed 4 (some (.object "Shapelayer$Keyed"))) { frames := fr, cells := kc, slots := ks, locals := lo } (va_Pc [.ref x0, .int x1, .int x2] (fun U => U.heap.size = sz ∧ xW V (xA G sz) G U.heap ∧ xK V U ∧ xZ V (xA G sz) U U.heap ∧ w V Q X x0 x1 x2 G kc ks)) (va_Qq (fun r (u : GM) => u = G ∧ Q r) (fun u t => xW V (xA G sz) u t.heap) (xA G sz)) (vx_X (fun u : String × GM => X u.1 u.2) (fun E u t => E = u.1 ∧ xW V (xA G sz) u.2 t.heap) (xA G sz)) kc ks (xA G sz)
theorem call_X1_keyed_V {p : Program} {l : Launch} {e : Env} {R : Room} {s : State} {m : MethodId} {args : Array Value} {below : List Frame} {meth : Method} {c : Code} {H : Heap} {locs : List Loc} {cells slots : Nat} {Z : State → Prop} {A : Nat → Prop} {cc : ByteArray} {nL pc : Nat} {ls : Array Slot} {rest : List Value} {own : String} {index fr lo : Nat} {w : XV → (Option Nat → Prop) → (String → GM → Prop) → Nat → Int32 → Int32 → GM → Nat → Nat → Prop} {V : XV} {G : GM} {o : Option Nat} {ci : Nat} {kc ks c1 s1 : Nat} {x0 : Nat} {x1 : Int32} {x2 : Int32} (hM : CT_X1_keyed l fr lo w) (C : xC p m c s args cc nL own V A) (hW : xW V A G H) (hS : va_S A s.heap H locs) (hlink : Cond.methodLink own index yX1_keyed ∈ lw_all) (ho : o = some x0) (hcv : gCi G (some x0) = some ci) (hci : ci % 64 = 0) (hRf : fr + 1 ≤ R.frames) (hRl : 8 + (4 + 11) + lo ≤ R.locals) (hc1 : c1 ≤ kc) (hs1 : s1 ≤ ks) (hkc : cells + kc ≤ R.cells) (hks : slots + ks ≤ R.slots) (hz : ls.size = nL) (hr8 : (rest.map fun v => v.category).sum ≤ 8) (hdg : decode cc pc = .ok (.invokevirtual index, 3)) {Q1 : Option Nat → Prop} {X1 : String → GM → Prop} (h : w V Q1 X1 x0 x1 x2 G c1 s1) (kx : ∀ (E : String) (G1 : GM) (ce : Cell) (q9 : Addr) (H1 : Heap) (locs1 : List Loc), X1 E G1 → xW V A G1 H1 → va_S A s.heap H1 locs1 → H1[q9]? = some ce → ce.vm = .none → s.vm.findClass E = some ce.cls → xFr V G G1 H H1 → vx_W p l e R s m args below meth c H1 locs1 (cells + c1) (slots + s1) Z (F0 m pc ls rest) q9) (kk : ∀ (r : Option Nat) (H1 : Heap) (locs1 : List Loc), Q1 r → xW V A G H1 → va_S A s.heap H1 locs1 → xFr V G G H H1 → (cells + c1) + (kc - c1) ≤ R.cells → (slots + s1) + (ks - s1) ≤ R.slots → W p l e R s m args below meth c H1 locs1 (cells + c1) (slots + s1) Z (F0 m (pc + 3) ls (va_rf r :: rest))) : W p l e R s m args below meth c H locs cells slots Z (F0 m pc ls (.int x2 :: .int x1 :: va_rf o :: rest)) := by
  subst ho
  obtain ⟨fs, hG⟩ := gCi_of hcv
  exact rx_q3r (vx_runV (As := [.int x1, .int x2]) (rest := rest) C.1 (hM V H.size G Q1 X1 x0 x1 x2 c1 s1) (cwV 2 C.1.2.2.2.2 (lw_V hlink q1226 qs11 q59 q1227) rfl rfl rfl (by decide +kernel) ⟨hRf, hRl⟩) ⟨fun a U g mk q => by obtain ⟨q0, q1, qW, qK, qZ, qw⟩ := q; exact ⟨q0, q1, qW, xK.same (u := U) (U := U.calling g mk a) rfl qK, xZ.moved (u := U) (U := U.calling g mk a) (Vm.Alike.refl U.vm) qZ, qw⟩, (hW.recv C.2.1 hG (r := (RX1, TX1, 6)) (by rw [hci]; rfl)), fun U hU hWm => ⟨rfl, by rw [hU], by rw [hU]; exact hW.self _, C.2.1.warm hWm, xZ.call C.2.2.1 hW hS C.2.2.2 hU hWm.alike, h⟩⟩ rfl rfl hz rfl (lv_room hr8) hdg ⟨by omega, by omega⟩) hW hS C.2.2.2 kx (fun r H1 locs1 hp hW1 hS1 hF1 => kk r H1 locs1 hp hW1 hS1 hF1 (by omega) (by omega))
def w_X1_keyed (V : XV) (Q : Option Nat → Prop) (X : String → GM → Prop) (x0 : Nat) (x1 : Int32) (x2 : Int32) (G : GM) (kc : Nat) (ks : Nat) : Prop := gRcv G (some x0) (fun a1 c2 => (c2 % 64 = 0) ∧ (∃ c4 s5 : Nat, c4 ≤ kc ∧ s5 ≤ ks ∧ (w_X1_layer V (fun r3 => w_X1_isBetween V (fun r6 => ∃ c7 s8 : Nat, c7 ≤ (kc - c4) ∧ s8 ≤ (ks - s5) ∧ (w_X1_checkIndex V (gGR G 15 r3 (fun v9 => gRL G v9 x2 (fun v10 => Q v10))) X r6 G c7 s8)) x2 (0 : Int32) (7 : Int32) G) X a1 x1 G c4 s5)))
set_option maxRecDepth 100000 in
set_option maxHeartbeats 4000000 in
theorem wk_X1_keyed {p : Program} {l : Launch} {e : Env} {R : Room} {s : State} {m : MethodId} {args : Array Value} {below : List Frame} {meth : Method} {c : Code} {Z : State → Prop} {A : Nat → Prop} {V : XV} (Q : Option Nat → Prop) (X : String → GM → Prop) (C : xC p m c s args cX1_keyed 4 RX1 V A) (hfl : l.stackTraces = false) (hRf : 14 ≤ R.frames) (hRl : 241 ≤ R.locals) (G : GM) (hret : ∀ (v : Option Nat) (pc : Nat) (ls : Array Slot) (H : Heap) (locs : List Loc) (cells slots : Nat) {k1 k2 : Nat}, decode cX1_keyed pc = .ok (.areturn, 1) → xW V A G H → va_S A s.heap H locs → cells + k1 ≤ R.cells → slots + k2 ≤ R.slots → Q v → W p l e R s m args below meth c H locs cells slots Z (F0 m pc ls [va_rf v])) (hxo : ∀ (E : String) (G : GM) (ce : Cell) (q : Addr) (pc : Nat) (ls : Array Slot) (H : Heap) (locs : List Loc) (cells slots : Nat) (rest : List Value), xW V A G H → va_S A s.heap H locs → X E G → H[q]? = some ce → ce.vm = .none → s.vm.findClass E = some ce.cls → cells ≤ R.cells → slots ≤ R.slots → vx_W p l e R s m args below meth c H locs cells slots Z (F0 m pc ls rest) q) (x0 : Nat) (x1 : Int32) (x2 : Int32) (kc ks : Nat) : w_X1_keyed V Q X x0 x1 x2 G kc ks → ∀ (ls : Array Slot) (H : Heap) (locs : List Loc) (cells slots : Nat), lv_has ls 4 [(0, va_rf (some x0)), (1, .int x1), (2, .int x2)] → xW V A G H → va_S A s.heap H locs → cells + kc ≤ R.cells → slots + ks ≤ R.slots → W p l e R s m args below meth c H locs cells slots Z (F0 m 0 ls []) := by
  have hx := C.1.1; have hb := C.1.2.1; have hml := C.1.2.2.1; have hown := C.1.2.2.2.1; have hts := C.1.2.2.2.2
  intro h
  intro ls H locs cells slots hl hW hS hkc hks
  refine sh_aload_n hx hb dX1_keyed_0 rfl (lv_at hl 0 rfl) ?_
  refine lv_iload_n hx hb dX1_keyed_1 rfl (lv_at hl 1 rfl) ?_
  obtain ⟨a1, c2, ho2, hcv2, h⟩ := h
  have hcc := h.1
  have h := h.2
  obtain ⟨c4, s5, hc2, hs2, h⟩ := h
  refine call_X1_layer_V (ct_X1_layer l hfl) C hW hS q921 ho2 hcv2 hcc (le_lit hRf rfl) (le_lit hRl rfl) hc2 hs2 hkc hks hl.1 (Nat.le_of_ble_eq_true rfl) dX1_keyed_2 h (fun E G9 ce q9 H locs hX hW hS h1 h2 h3 _ => hxo E G9 ce q9 2 ls H locs _ _ _ hW hS hX h1 h2 h3 (by omega) (by omega)) (fun r3 H locs h hW hS _ hkc hks => ?_)
  refine sh_astore_n (lv' := [(3, va_rf r3), (0, va_rf (some x0)), (1, .int x1), (2, .int x2)]) hx hb dX1_keyed_5 rfl hl (by decide) rfl (fun ls hl => ?_)
  refine lv_iload_n hx hb dX1_keyed_6 rfl (lv_at hl 3 rfl) ?_
  refine lv_iconst (v := 0) hx hb dX1_keyed_7 (by decide) ?_
  refine lv_bipush (v := 7) hx hb dX1_keyed_8 (by decide) ?_
  refine call_X1_isBetween_S (ct_X1_isBetween l) C hW hS q593 (le_lit hRf rfl) (le_lit hRl rfl) ⟨Nat.le_trans (Nat.le_add_right _ _) hkc, Nat.le_trans (Nat.le_add_right _ _) hks⟩ hl.1 (Nat.le_of_ble_eq_true rfl) dX1_keyed_10 h (fun r6 H locs h hW hS _ => ?_)
  obtain ⟨c7, s8, hc13, hs13, h⟩ := h
  refine call_X1_checkIndex_S (ct_X1_checkIndex l hfl) C hW hS q752 (le_lit hRf rfl) (le_lit hRl rfl) hc13 hs13 hkc hks hl.1 (Nat.le_of_ble_eq_true rfl) dX1_keyed_13 h (fun E G9 ce q9 H locs hX hW hS h1 h2 h3 _ => hxo E G9 ce q9 13 ls H locs _ _ _ hW hS hX h1 h2 h3 (by omega) (by omega)) (fun  H locs h hW hS _ hkc hks => ?_)
  refine sh_aload_n hx hb dX1_keyed_16 rfl (lv_at hl 0 rfl) ?_
  obtain ⟨v9, h1, h⟩ := h
  refine sh_getN C hW xFb_15 q840 (fun _ h => h) (by decide) h1 dX1_keyed_17 ?_
  refine lv_iload_n hx hb dX1_keyed_20 rfl (lv_at hl 3 rfl) ?_
  refine sh_aald C hW h dX1_keyed_21 (fun v10 h => ?_)
  exact hret _ _ _ _ _ _ _ dX1_keyed_22 hW hS hkc hks h
theorem ct_X1_keyed (l : Launch) (hfl : l.stackTraces = false) : CT_X1_keyed l 14 241 w_X1_keyed := by
  intro V sz G Q X x0 x1 x2 kc ks
  refine vx_ofW (cc := cX1_keyed) (maxL := 4) (ret := (some (.object "Shapelayer$Keyed"))) (by decide) rfl ?_
  intro p e s m args below meth c s₁ B hml hext hv
  obtain ⟨rfl, hsz, hW, hK, hZ, h⟩ := hv
  subst hsz
  have hts := atoms_spec (ws := (ws_ yX1_keyed cX1_keyed 4 (some (.object "Shapelayer$Keyed")))) B.pre
  have hts : ∀ w ∈ lw_all, w.before _ s = true := fun w h => hts w (List.mem_cons_of_mem _ h)
  have hl := lv_entry ([.ref x0, .int x1, .int x2]) (n := 4) (Nat.le_of_ble_eq_true rfl)
  rw [lg_entry_eq]
  generalize (lg_sl ([.ref x0, .int x1, .int x2]) ++ List.replicate (4 - (lg_sl ([.ref x0, .int x1, .int x2])).length) Slot.unset).toArray = ls at hl ⊢
  exact wk_X1_keyed Q X ⟨⟨B.exec, B.bytes, hml, findClass_of_methodNamed B.named, hts⟩, hK, hZ, fun q h => Or.inr h⟩ hfl (Nat.le_refl _) (Nat.le_refl _) G (fun v pc ls H locs cells slots _ _ hd hW1 hS hkc hks hQ => W.widen (k := kc) (n := ks) (Nat.le_trans (Nat.le_add_right _ _) hkc) (Nat.le_trans (Nat.le_add_right _ _) hks) (vx_ret (W.aret (v := va_rf v) B.exec B.bytes B.returns (Or.inl ⟨_, rfl⟩) (va_rf_or v) (fun t ht _ => ⟨⟨v, G, rfl, ⟨rfl, hQ⟩, by rw [← ht] at hW1; exact hW1⟩, hS.F ht⟩) hS.2.2 hd))) (fun E G9 ce q pc ls H locs cells slots rest hW1 hS hX h1 h2 h3 hc hs => vx_out (fun x hx => absurd (hext x hx) id) B.notSynchronized h1 h2 h3 (fun t ht _ => ⟨(E, G9), hX, ⟨rfl, by rw [← ht] at hW1; exact hW1⟩, hS.F ht⟩) hS.2.2 hc hs) x0 x1 x2 kc ks h ls _ [] 0 0 hl hW va_S.rf (by show 0 + kc ≤ kc; omega) (by show 0 + ks ≤ ks; omega)
def CT_X1_checkTime (l : Launch) (fr lo : Nat) (w : XV → (Prop) → (String → GM → Prop) → Int32 → GM → Nat → Nat → Prop) : Prop := ∀ (V : XV) (sz : Nat) (G : GM) (Q : Prop) (X : String → GM → Prop) (x0 : Int32) (kc ks : Nat), vx_Met l yX1_checkTime (ws_ yX1_checkTime cX1_checkTime 1 none) { frames := fr, cells := kc, slots := ks, locals := lo } (va_Pc [.int x0] (fun U => U.heap.size = sz ∧ xW V (xA G sz) G U.heap ∧ xK V U ∧ xZ V (xA G sz) U U.heap ∧ w V Q X x0 G kc ks)) (va_Qv (fun (u : GM) => u = G ∧ Q) (fun u t => xW V (xA G sz) u t.heap) (xA G sz)) (vx_X (fun u : String × GM => X u.1 u.2) (fun E u t => E = u.1 ∧ xW V (xA G sz) u.2 t.heap) (xA G sz)) kc ks (xA G sz)
theorem call_X1_checkTime_S {p : Program} {l : Launch} {e : Env} {R : Room} {s : State} {m : MethodId} {args : Array Value} {below : List Frame} {meth : Method} {c : Code} {H : Heap} {locs : List Loc} {cells slots : Nat} {Z : State → Prop} {A : Nat → Prop} {cc : ByteArray} {nL pc : Nat} {ls : Array Slot} {rest : List Value} {own : String} {index fr lo : Nat} {w : XV → (Prop) → (String → GM → Prop) → Int32 → GM → Nat → Nat → Prop} {V : XV} {G : GM} {kc ks c1 s1 : Nat} {x0 : Int32} (hM : CT_X1_checkTime l fr lo w) (C : xC p m c s args cc nL own V A) (hW : xW V A G H) (hS : va_S A s.heap H locs) (hlink : Cond.methodLink own index yX1_checkTime ∈ lw_all) (hRf : fr + 1 ≤ R.frames) (hRl : 8 + (1 + 11) + lo ≤ R.locals) (hc1 : c1 ≤ kc) (hs1 : s1 ≤ ks) (hkc : cells + kc ≤ R.cells) (hks : slots + ks ≤ R.slots) (hz : ls.size = nL) (hr8 : (rest.map fun v => v.category).sum ≤ 8) (hdg : decode cc pc = .ok (.invokestatic index, 3)) {Q1 : Prop} {X1 : String → GM → Prop} (h : w V Q1 X1 x0 G c1 s1) (kx : ∀ (E : String) (G1 : GM) (ce : Cell) (q9 : Addr) (H1 : Heap) (locs1 : List Loc), X1 E G1 → xW V A G1 H1 → va_S A s.heap H1 locs1 → H1[q9]? = some ce → ce.vm = .none → s.vm.findClass E = some ce.cls → xFr V G G1 H H1 → vx_W p l e R s m args below meth c H1 locs1 (cells + c1) (slots + s1) Z (F0 m pc ls rest) q9) (kk : ∀ (H1 : Heap) (locs1 : List Loc), Q1 → xW V A G H1 → va_S A s.heap H1 locs1 → xFr V G G H H1 → (cells + c1) + (kc - c1) ≤ R.cells → (slots + s1) + (ks - s1) ≤ R.slots → W p l e R s m args below meth c H1 locs1 (cells + c1) (slots + s1) Z (F0 m (pc + 3) ls (rest))) : W p l e R s m args below meth c H locs cells slots Z (F0 m pc ls (.int x0 :: rest)) := by
  exact rx_v3r (vx_runS (As := [.int x0]) (rest := rest) C.1 (hM V H.size G Q1 X1 x0 c1 s1) (va_cwS 1 C.1.2.2.2.2 (lw_S hlink q1229 q59 q1230) rfl rfl rfl (by decide +kernel) ⟨hRf, hRl⟩) ⟨fun a U g mk q => by obtain ⟨q0, q1, qW, qK, qZ, qw⟩ := q; exact ⟨q0, q1, qW, xK.same (u := U) (U := U.calling g mk a) rfl qK, xZ.moved (u := U) (U := U.calling g mk a) (Vm.Alike.refl U.vm) qZ, qw⟩, fun U hU hWm => ⟨rfl, by rw [hU], by rw [hU]; exact hW.self _, C.2.1.warm hWm, xZ.call C.2.2.1 hW hS C.2.2.2 hU hWm.alike, h⟩⟩ rfl rfl hz rfl (lv_room hr8) hdg ⟨by omega, by omega⟩) hW hS C.2.2.2 kx (fun H1 locs1 hp hW1 hS1 hF1 => kk H1 locs1 hp hW1 hS1 hF1 (by omega) (by omega))
def w_X1_checkTime (V : XV) (Q : Prop) (X : String → GM → Prop) (x0 : Int32) (G : GM) (kc : Nat) (ks : Nat) : Prop := w_X1_isBetween V (fun r1 => ∃ c2 s3 : Nat, c2 ≤ kc ∧ s3 ≤ ks ∧ (w_X1_checkArgument V (Q) X r1 G c2 s3)) x0 (0 : Int32) (999 : Int32) G
set_option maxRecDepth 100000 in
set_option maxHeartbeats 4000000 in
theorem wk_X1_checkTime {p : Program} {l : Launch} {e : Env} {R : Room} {s : State} {m : MethodId} {args : Array Value} {below : List Frame} {meth : Method} {c : Code} {Z : State → Prop} {A : Nat → Prop} {V : XV} (Q : Prop) (X : String → GM → Prop) (C : xC p m c s args cX1_checkTime 1 RX1 V A) (hfl : l.stackTraces = false) (hRf : 13 ≤ R.frames) (hRl : 220 ≤ R.locals) (G : GM) (hret : ∀ (pc : Nat) (ls : Array Slot) (H : Heap) (locs : List Loc) (cells slots : Nat) {k1 k2 : Nat}, decode cX1_checkTime pc = .ok (.return_, 1) → xW V A G H → va_S A s.heap H locs → cells + k1 ≤ R.cells → slots + k2 ≤ R.slots → Q → W p l e R s m args below meth c H locs cells slots Z (F0 m pc ls [])) (hxo : ∀ (E : String) (G : GM) (ce : Cell) (q : Addr) (pc : Nat) (ls : Array Slot) (H : Heap) (locs : List Loc) (cells slots : Nat) (rest : List Value), xW V A G H → va_S A s.heap H locs → X E G → H[q]? = some ce → ce.vm = .none → s.vm.findClass E = some ce.cls → cells ≤ R.cells → slots ≤ R.slots → vx_W p l e R s m args below meth c H locs cells slots Z (F0 m pc ls rest) q) (x0 : Int32) (kc ks : Nat) : w_X1_checkTime V Q X x0 G kc ks → ∀ (ls : Array Slot) (H : Heap) (locs : List Loc) (cells slots : Nat), lv_has ls 1 [(0, .int x0)] → xW V A G H → va_S A s.heap H locs → cells + kc ≤ R.cells → slots + ks ≤ R.slots → W p l e R s m args below meth c H locs cells slots Z (F0 m 0 ls []) := by
  have hx := C.1.1; have hb := C.1.2.1; have hml := C.1.2.2.1; have hown := C.1.2.2.2.1; have hts := C.1.2.2.2.2
  intro h
  intro ls H locs cells slots hl hW hS hkc hks
  refine lv_iload_n hx hb dX1_checkTime_0 rfl (lv_at hl 0 rfl) ?_
  refine lv_iconst (v := 0) hx hb dX1_checkTime_1 (by decide) ?_
  refine lv_sipush (v := 999) hx hb dX1_checkTime_2 (by decide) ?_
  refine call_X1_isBetween_S (ct_X1_isBetween l) C hW hS q593 (le_lit hRf rfl) (le_lit hRl rfl) ⟨Nat.le_trans (Nat.le_add_right _ _) hkc, Nat.le_trans (Nat.le_add_right _ _) hks⟩ hl.1 (Nat.le_of_ble_eq_true rfl) dX1_checkTime_5 h (fun r1 H locs h hW hS _ => ?_)
  obtain ⟨c2, s3, hc8, hs8, h⟩ := h
  refine call_X1_checkArgument_S (ct_X1_checkArgument l hfl) C hW hS q787 (le_lit hRf rfl) (le_lit hRl rfl) hc8 hs8 hkc hks hl.1 (Nat.le_of_ble_eq_true rfl) dX1_checkTime_8 h (fun E G9 ce q9 H locs hX hW hS h1 h2 h3 _ => hxo E G9 ce q9 8 ls H locs _ _ _ hW hS hX h1 h2 h3 (by omega) (by omega)) (fun  H locs h hW hS _ hkc hks => ?_)
  exact hret  _ _ _ _ _ _ dX1_checkTime_11 hW hS hkc hks h
theorem ct_X1_checkTime (l : Launch) (hfl : l.stackTraces = false) : CT_X1_checkTime l 13 220 w_X1_checkTime := by
  intro V sz G Q X x0 kc ks
  refine vx_ofW (cc := cX1_checkTime) (maxL := 1) (ret := none) (by decide) rfl ?_
  intro p e s m args below meth c s₁ B hml hext hv
  obtain ⟨rfl, hsz, hW, hK, hZ, h⟩ := hv
  subst hsz
  have hts := atoms_spec (ws := (ws_ yX1_checkTime cX1_checkTime 1 none)) B.pre
  have hts : ∀ w ∈ lw_all, w.before _ s = true := fun w h => hts w (List.mem_cons_of_mem _ h)
  have hl := lv_entry ([.int x0]) (n := 1) (Nat.le_of_ble_eq_true rfl)
  rw [lg_entry_eq]
  generalize (lg_sl ([.int x0]) ++ List.replicate (1 - (lg_sl ([.int x0])).length) Slot.unset).toArray = ls at hl ⊢
  exact wk_X1_checkTime Q X ⟨⟨B.exec, B.bytes, hml, findClass_of_methodNamed B.named, hts⟩, hK, hZ, fun q h => Or.inr h⟩ hfl (Nat.le_refl _) (Nat.le_refl _) G (fun pc ls H locs cells slots _ _ hd hW1 hS hkc hks hQ => W.widen (k := kc) (n := ks) (Nat.le_trans (Nat.le_add_right _ _) hkc) (Nat.le_trans (Nat.le_add_right _ _) hks) (vx_ret (W.vret B.exec B.bytes B.returns (fun t ht _ => ⟨⟨G, rfl, ⟨rfl, hQ⟩, by rw [← ht] at hW1; exact hW1⟩, hS.F ht⟩) hS.2.2 hd))) (fun E G9 ce q pc ls H locs cells slots rest hW1 hS hX h1 h2 h3 hc hs => vx_out (fun x hx => absurd (hext x hx) id) B.notSynchronized h1 h2 h3 (fun t ht _ => ⟨(E, G9), hX, ⟨rfl, by rw [← ht] at hW1; exact hW1⟩, hS.F ht⟩) hS.2.2 hc hs) x0 kc ks h ls _ [] 0 0 hl hW va_S.rf (by show 0 + kc ≤ kc; omega) (by show 0 + ks ≤ ks; omega)
def CT_X8_placeOf (l : Launch) (fr lo : Nat) (w : XV → (Int32 → Prop) → Nat → Int32 → GM → Prop) : Prop := ∀ (V : XV) (sz : Nat) (G : GM) (Q : Int32 → Prop) (x0 : Nat) (x1 : Int32), Met l yX8_placeOf (ws_ yX8_placeOf cX8_placeOf 3 (some .int)) { frames := fr, cells := 0, slots := 0, locals := lo } (va_Pc [.ref x0, .int x1] (fun U => U.heap.size = sz ∧ xW V (xA G sz) G U.heap ∧ xK V U ∧ xZ V (xA G sz) U U.heap ∧ w V Q x0 x1 G)) (va_Qi (fun r (u : GM) => u = G ∧ Q r) (fun u t => xW V (xA G sz) u t.heap) (xA G sz)) 0 0 (xA G sz)
theorem call_X8_placeOf_V {p : Program} {l : Launch} {e : Env} {R : Room} {s : State} {m : MethodId} {args : Array Value} {below : List Frame} {meth : Method} {c : Code} {H : Heap} {locs : List Loc} {cells slots : Nat} {Z : State → Prop} {A : Nat → Prop} {cc : ByteArray} {nL pc : Nat} {ls : Array Slot} {rest : List Value} {own : String} {index fr lo : Nat} {w : XV → (Int32 → Prop) → Nat → Int32 → GM → Prop} {V : XV} {G : GM} {o : Option Nat} {ci : Nat} {x0 : Nat} {x1 : Int32} (hM : CT_X8_placeOf l fr lo w) (C : xC p m c s args cc nL own V A) (hW : xW V A G H) (hS : va_S A s.heap H locs) (hlink : Cond.methodLink own index yX8_placeOf ∈ lw_all) (ho : o = some x0) (hcv : gCi G (some x0) = some ci) (hci : ci % 64 = 7) (hRf : fr + 1 ≤ R.frames) (hRl : 8 + (3 + 11) + lo ≤ R.locals) (hcs : cells ≤ R.cells ∧ slots ≤ R.slots) (hz : ls.size = nL) (hr8 : (rest.map fun v => v.category).sum ≤ 8) (hdg : decode cc pc = .ok (.invokevirtual index, 3)) {Q1 : Int32 → Prop} (h : w V Q1 x0 x1 G) (kk : ∀ (r : Int32) (H1 : Heap) (locs1 : List Loc), Q1 r → xW V A G H1 → va_S A s.heap H1 locs1 → xFr V G G H H1 → W p l e R s m args below meth c H1 locs1 cells slots Z (F0 m (pc + 3) ls (.int r :: rest))) : W p l e R s m args below meth c H locs cells slots Z (F0 m pc ls (.int x1 :: va_rf o :: rest)) := by
  subst ho
  obtain ⟨fs, hG⟩ := gCi_of hcv
  exact rg_i3r (va_runV (As := [.int x1]) (rest := rest) C.1 (hM V H.size G Q1 x0 x1) (cwV 1 C.1.2.2.2.2 (lw_V hlink q1238 q1239 q90 q1240) rfl rfl rfl (by decide +kernel) ⟨hRf, hRl⟩) ⟨fun a U g mk q => by obtain ⟨q0, q1, qW, qK, qZ, qw⟩ := q; exact ⟨q0, q1, qW, xK.same (u := U) (U := U.calling g mk a) rfl qK, xZ.moved (u := U) (U := U.calling g mk a) (Vm.Alike.refl U.vm) qZ, qw⟩, (hW.recv C.2.1 hG (r := (RX8, TX8, 2)) (by rw [hci]; rfl)), fun U hU hWm => ⟨rfl, by rw [hU], by rw [hU]; exact hW.self _, C.2.1.warm hWm, xZ.call C.2.2.1 hW hS C.2.2.2 hU hWm.alike, h⟩⟩ rfl rfl hz rfl (lv_room hr8) hdg hcs) hW hS C.2.2.2 (fun r H1 locs1 hp hW1 hS1 hF1 => kk r H1 locs1 hp hW1 hS1 hF1)
def w_X8_placeOf_h2 (V : XV) (Q : Int32 → Prop) (x0 : Nat) (x1 : Int32) (G : GM) (rec2 : Int32 → Prop) (x2 : Int32) : Prop := gGR G 28 (some x0) (fun v1 => gRcv G v1 (fun a2 c3 => (c3 % 64 = 15) ∧ (w_J2_size V (fun r4 => if r4 ≤ x2 then (Q x2) else (gGR G 28 (some x0) (fun v5 => gRcv G v5 (fun a6 c7 => (c7 % 64 = 15) ∧ (w_J2_get V (fun r8 => gCk G [8] r8 (gGI G 29 r8 (fun v9 => if x1 ≤ v9 then (Q x2) else (rec2 (x2 + (1 : Int32)))))) a6 x2 G))))) a2 G)))
def w_X8_placeOf_L2 (V : XV) (Q : Int32 → Prop) (x0 : Nat) (x1 : Int32) (G : GM) (x2 : Int32) : Prop := wLoop (fun (rec : Int32 → Prop) (s : Int32) => w_X8_placeOf_h2 V Q x0 x1 G (fun x2 => rec x2) s) x2
def w_X8_placeOf (V : XV) (Q : Int32 → Prop) (x0 : Nat) (x1 : Int32) (G : GM) : Prop := w_X8_placeOf_L2 V Q x0 x1 G (0 : Int32)
set_option maxRecDepth 100000 in
set_option maxHeartbeats 4000000 in
theorem wk_X8_placeOf {p : Program} {l : Launch} {e : Env} {R : Room} {s : State} {m : MethodId} {args : Array Value} {below : List Frame} {meth : Method} {c : Code} {cells slots : Nat} {Z : State → Prop} {A : Nat → Prop} {V : XV} (Q : Int32 → Prop) (C : xC p m c s args cX8_placeOf 3 RX8 V A) (hRf : 4 ≤ R.frames) (hRl : 84 ≤ R.locals) (hcs : cells ≤ R.cells ∧ slots ≤ R.slots) (G : GM) (hret : ∀ (v : Int32) (pc : Nat) (ls : Array Slot) (H : Heap) (locs : List Loc), decode cX8_placeOf pc = .ok (.ireturn, 1) → xW V A G H → va_S A s.heap H locs → Q v → W p l e R s m args below meth c H locs cells slots Z (F0 m pc ls [.int v])) (x0 : Nat) (x1 : Int32) : w_X8_placeOf V Q x0 x1 G → ∀ (ls : Array Slot) (H : Heap) (locs : List Loc), lv_has ls 3 [(0, va_rf (some x0)), (1, .int x1)] → xW V A G H → va_S A s.heap H locs → W p l e R s m args below meth c H locs cells slots Z (F0 m 0 ls []) := by
  have hx := C.1.1; have hb := C.1.2.1; have hml := C.1.2.2.1; have hown := C.1.2.2.2.1; have hts := C.1.2.2.2.2
  have hL2 : ∀ (x2 : Int32), w_X8_placeOf_L2 V Q x0 x1 G x2 → ∀ (ls : Array Slot) (H : Heap) (locs : List Loc), lv_has ls 3 [(0, va_rf (some x0)), (1, .int x1), (2, .int x2)] → xW V A G H → va_S A s.heap H locs → W p l e R s m args below meth c H locs cells slots Z (F0 m 2 ls []) := by
    obtain ⟨GG2, hG2⟩ : ∃ GG : Int32 → Prop, ∀ (x2 : Int32), GG x2 ↔ (∀ (ls : Array Slot) (H : Heap) (locs : List Loc), lv_has ls 3 [(0, va_rf (some x0)), (1, .int x1), (2, .int x2)] → xW V A G H → va_S A s.heap H locs → W p l e R s m args below meth c H locs cells slots Z (F0 m 2 ls [])) := ⟨fun x2 => _, fun x2 => Iff.rfl⟩
    have hB2 : ∀ (rec2 : Int32 → Prop), (∀ (x2 : Int32), rec2 x2 → GG2 x2) → ∀ (x2 : Int32), w_X8_placeOf_h2 V Q x0 x1 G rec2 x2 → GG2 x2 := by
      intro rec2 hrec2
      intro x2 h
      rw [hG2]
      intro ls H locs hl hW hS
      refine lv_iload_n hx hb dX8_placeOf_2 rfl (lv_at hl 2 rfl) ?_
      refine sh_aload_n hx hb dX8_placeOf_3 rfl (lv_at hl 0 rfl) ?_
      obtain ⟨v1, h1, h⟩ := h
      refine sh_get C hW xFb_28 q819 (fun _ h => h) h1 dX8_placeOf_4 ?_
      obtain ⟨a2, c3, ho7, hcv7, h⟩ := h
      have hcc := h.1
      have h := h.2
      refine call_J2_size_F15_List (ct_J2_size l) C hW hS q1242 ho7 hcv7 hcc (le_lit hRf rfl) (le_lit hRl rfl) hcs hl.1 (Nat.le_of_ble_eq_true rfl) dX8_placeOf_7 h (fun r4 H locs h hW hS _ => ?_)
      refine lv_icmp_ge (tgt := 41) hx hb dX8_placeOf_12 (by decide) (fun c11 => ?_) (fun c11 => ?_)
      · have h := wif_t h c11
        refine lv_iload_n hx hb dX8_placeOf_41 rfl (lv_at hl 2 rfl) ?_
        exact hret _ _ _ _ _ dX8_placeOf_42 hW hS h
      · have h := wif_f h c11
        refine sh_aload_n hx hb dX8_placeOf_15 rfl (lv_at hl 0 rfl) ?_
        obtain ⟨v5, h1, h⟩ := h
        refine sh_get C hW xFb_28 q819 (fun _ h => h) h1 dX8_placeOf_16 ?_
        refine lv_iload_n hx hb dX8_placeOf_19 rfl (lv_at hl 2 rfl) ?_
        obtain ⟨a6, c7, ho20, hcv20, h⟩ := h
        have hcc := h.1
        have h := h.2
        refine call_J2_get_F15_List (ct_J2_get l) C hW hS q1244 ho20 hcv20 hcc (le_lit hRf rfl) (le_lit hRl rfl) hcs hl.1 (Nat.le_of_ble_eq_true rfl) dX8_placeOf_20 h (fun r8 H locs h hW hS _ => ?_)
        refine sh_cast C hW q1245 xCa_Shapelayer_Key h dX8_placeOf_25 (fun h => ?_)
        obtain ⟨v9, h1, h⟩ := h
        refine sh_getN C hW xFb_29 q1278 (fun _ h => h) (by decide) h1 dX8_placeOf_28 ?_
        refine lv_iload_n hx hb dX8_placeOf_31 rfl (lv_at hl 1 rfl) ?_
        refine lv_icmp_ge (tgt := 41) hx hb dX8_placeOf_32 (by decide) (fun c10 => ?_) (fun c10 => ?_)
        · have h := wif_t h c10
          refine lv_iload_n hx hb dX8_placeOf_41 rfl (lv_at hl 2 rfl) ?_
          exact hret _ _ _ _ _ dX8_placeOf_42 hW hS h
        · have h := wif_f h c10
          refine lv_iinc (v := x2 + (1 : Int32)) (lv' := [(2, .int (x2 + (1 : Int32))), (0, va_rf (some x0)), (1, .int x1)]) hx hb dX8_placeOf_35 hl (k := 2) rfl (congrArg (fun z => x2 + z) (by decide)) (by decide) rfl (fun ls hl => ?_)
          refine lv_goto (tgt := 2) hx hb dX8_placeOf_38 (by decide) ?_
          exact (hG2 _).mp (hrec2 _ h) ls H locs (lv_sub hl [1, 2, 0] rfl) hW hS
    intro x2 h
    exact (hG2 x2).mp (loop_walk (fun s => GG2 s) (fun rec hrec s h => hB2 (fun x2 => rec x2) (fun x2 h => hrec x2 h) s h) x2 h)
  intro h
  intro ls H locs hl hW hS
  refine lv_iconst (v := 0) hx hb dX8_placeOf_0 (by decide) ?_
  refine lv_istore_n (lv' := [(2, .int (0 : Int32)), (0, va_rf (some x0)), (1, .int x1)]) hx hb dX8_placeOf_1 rfl hl (by decide) rfl (fun ls hl => ?_)
  exact hL2 _ h ls H locs (lv_sub hl [1, 2, 0] rfl) hW hS
theorem ct_X8_placeOf (l : Launch) : CT_X8_placeOf l 4 84 w_X8_placeOf := by
  intro V sz G Q x0 x1
  refine Met.ofW (cc := cX8_placeOf) (maxL := 3) (ret := (some .int)) (by decide) rfl ?_
  intro p e s m args below meth c s₁ B hml hv
  obtain ⟨rfl, hsz, hW, hK, hZ, h⟩ := hv
  subst hsz
  have hts := atoms_spec (ws := (ws_ yX8_placeOf cX8_placeOf 3 (some .int))) B.pre
  have hts : ∀ w ∈ lw_all, w.before _ s = true := fun w h => hts w (List.mem_cons_of_mem _ h)
  have hl := lv_entry ([.ref x0, .int x1]) (n := 3) (Nat.le_of_ble_eq_true rfl)
  rw [lg_entry_eq]
  generalize (lg_sl ([.ref x0, .int x1]) ++ List.replicate (3 - (lg_sl ([.ref x0, .int x1])).length) Slot.unset).toArray = ls at hl ⊢
  exact wk_X8_placeOf Q ⟨⟨B.exec, B.bytes, hml, findClass_of_methodNamed B.named, hts⟩, hK, hZ, fun q h => Or.inr h⟩ (Nat.le_refl _) (Nat.le_refl _) ⟨Nat.le_refl _, Nat.le_refl _⟩ G (fun v pc ls H locs hd hW1 hS hQ => W.iret (v := v) B.exec B.bytes B.returns (fun t ht _ => ⟨⟨v, G, rfl, ⟨rfl, hQ⟩, by rw [← ht] at hW1; exact hW1⟩, hS.F ht⟩) hS.2.2 hd) x0 x1 h ls _ [] hl hW va_S.rf
def CT_X8_has (l : Launch) (fr lo : Nat) (w : XV → (Int32 → Prop) → Nat → Int32 → GM → Prop) : Prop := ∀ (V : XV) (sz : Nat) (G : GM) (Q : Int32 → Prop) (x0 : Nat) (x1 : Int32), Met l yX8_has (ws_ yX8_has cX8_has 3 (some .boolean)) { frames := fr, cells := 0, slots := 0, locals := lo } (va_Pc [.ref x0, .int x1] (fun U => U.heap.size = sz ∧ xW V (xA G sz) G U.heap ∧ xK V U ∧ xZ V (xA G sz) U U.heap ∧ w V Q x0 x1 G)) (va_Qi (fun r (u : GM) => u = G ∧ Q r) (fun u t => xW V (xA G sz) u t.heap) (xA G sz)) 0 0 (xA G sz)
theorem call_X8_has_V {p : Program} {l : Launch} {e : Env} {R : Room} {s : State} {m : MethodId} {args : Array Value} {below : List Frame} {meth : Method} {c : Code} {H : Heap} {locs : List Loc} {cells slots : Nat} {Z : State → Prop} {A : Nat → Prop} {cc : ByteArray} {nL pc : Nat} {ls : Array Slot} {rest : List Value} {own : String} {index fr lo : Nat} {w : XV → (Int32 → Prop) → Nat → Int32 → GM → Prop} {V : XV} {G : GM} {o : Option Nat} {ci : Nat} {x0 : Nat} {x1 : Int32} (hM : CT_X8_has l fr lo w) (C : xC p m c s args cc nL own V A) (hW : xW V A G H) (hS : va_S A s.heap H locs) (hlink : Cond.methodLink own index yX8_has ∈ lw_all) (ho : o = some x0) (hcv : gCi G (some x0) = some ci) (hci : ci % 64 = 7) (hRf : fr + 1 ≤ R.frames) (hRl : 8 + (3 + 11) + lo ≤ R.locals) (hcs : cells ≤ R.cells ∧ slots ≤ R.slots) (hz : ls.size = nL) (hr8 : (rest.map fun v => v.category).sum ≤ 8) (hdg : decode cc pc = .ok (.invokevirtual index, 3)) {Q1 : Int32 → Prop} (h : w V Q1 x0 x1 G) (kk : ∀ (r : Int32) (H1 : Heap) (locs1 : List Loc), Q1 r → xW V A G H1 → va_S A s.heap H1 locs1 → xFr V G G H H1 → W p l e R s m args below meth c H1 locs1 cells slots Z (F0 m (pc + 3) ls (.int r :: rest))) : W p l e R s m args below meth c H locs cells slots Z (F0 m pc ls (.int x1 :: va_rf o :: rest)) := by
  subst ho
  obtain ⟨fs, hG⟩ := gCi_of hcv
  exact rg_i3r (va_runV (As := [.int x1]) (rest := rest) C.1 (hM V H.size G Q1 x0 x1) (cwV 1 C.1.2.2.2.2 (lw_V hlink q1234 q1235 q90 q1236) rfl rfl rfl (by decide +kernel) ⟨hRf, hRl⟩) ⟨fun a U g mk q => by obtain ⟨q0, q1, qW, qK, qZ, qw⟩ := q; exact ⟨q0, q1, qW, xK.same (u := U) (U := U.calling g mk a) rfl qK, xZ.moved (u := U) (U := U.calling g mk a) (Vm.Alike.refl U.vm) qZ, qw⟩, (hW.recv C.2.1 hG (r := (RX8, TX8, 2)) (by rw [hci]; rfl)), fun U hU hWm => ⟨rfl, by rw [hU], by rw [hU]; exact hW.self _, C.2.1.warm hWm, xZ.call C.2.2.1 hW hS C.2.2.2 hU hWm.alike, h⟩⟩ rfl rfl hz rfl (lv_room hr8) hdg hcs) hW hS C.2.2.2 (fun r H1 locs1 hp hW1 hS1 hF1 => kk r H1 locs1 hp hW1 hS1 hF1)
def w_X8_has (V : XV) (Q : Int32 → Prop) (x0 : Nat) (x1 : Int32) (G : GM) : Prop := gRcv G (some x0) (fun a1 c2 => (c2 % 64 = 7) ∧ (w_X8_placeOf V (fun r3 => gGR G 28 (some x0) (fun v4 => gRcv G v4 (fun a5 c6 => (c6 % 64 = 15) ∧ (w_J2_size V (fun r7 => if r7 ≤ r3 then (Q (0 : Int32)) else (gGR G 28 (some x0) (fun v8 => gRcv G v8 (fun a9 c10 => (c10 % 64 = 15) ∧ (w_J2_get V (fun r11 => gCk G [8] r11 (gGI G 29 r11 (fun v12 => if v12 = x1 then (Q (1 : Int32)) else (Q (0 : Int32))))) a9 r3 G))))) a5 G)))) a1 x1 G))
set_option maxRecDepth 100000 in
set_option maxHeartbeats 4000000 in
theorem wk_X8_has {p : Program} {l : Launch} {e : Env} {R : Room} {s : State} {m : MethodId} {args : Array Value} {below : List Frame} {meth : Method} {c : Code} {cells slots : Nat} {Z : State → Prop} {A : Nat → Prop} {V : XV} (Q : Int32 → Prop) (C : xC p m c s args cX8_has 3 RX8 V A) (hRf : 5 ≤ R.frames) (hRl : 106 ≤ R.locals) (hcs : cells ≤ R.cells ∧ slots ≤ R.slots) (G : GM) (hret : ∀ (v : Int32) (pc : Nat) (ls : Array Slot) (H : Heap) (locs : List Loc), decode cX8_has pc = .ok (.ireturn, 1) → xW V A G H → va_S A s.heap H locs → isZ v → Q v → W p l e R s m args below meth c H locs cells slots Z (F0 m pc ls [.int v])) (x0 : Nat) (x1 : Int32) : w_X8_has V Q x0 x1 G → ∀ (ls : Array Slot) (H : Heap) (locs : List Loc), lv_has ls 3 [(0, va_rf (some x0)), (1, .int x1)] → xW V A G H → va_S A s.heap H locs → W p l e R s m args below meth c H locs cells slots Z (F0 m 0 ls []) := by
  have hx := C.1.1; have hb := C.1.2.1; have hml := C.1.2.2.1; have hown := C.1.2.2.2.1; have hts := C.1.2.2.2.2
  intro h
  intro ls H locs hl hW hS
  refine sh_aload_n hx hb dX8_has_0 rfl (lv_at hl 0 rfl) ?_
  refine lv_iload_n hx hb dX8_has_1 rfl (lv_at hl 1 rfl) ?_
  obtain ⟨a1, c2, ho2, hcv2, h⟩ := h
  have hcc := h.1
  have h := h.2
  refine call_X8_placeOf_V (ct_X8_placeOf l) C hW hS q1237 ho2 hcv2 hcc (le_lit hRf rfl) (le_lit hRl rfl) hcs hl.1 (Nat.le_of_ble_eq_true rfl) dX8_has_2 h (fun r3 H locs h hW hS _ => ?_)
  refine lv_istore_n (lv' := [(2, .int r3), (0, va_rf (some x0)), (1, .int x1)]) hx hb dX8_has_5 rfl hl (by decide) rfl (fun ls hl => ?_)
  refine lv_iload_n hx hb dX8_has_6 rfl (lv_at hl 0 rfl) ?_
  refine sh_aload_n hx hb dX8_has_7 rfl (lv_at hl 1 rfl) ?_
  obtain ⟨v4, h1, h⟩ := h
  refine sh_get C hW xFb_28 q819 (fun _ h => h) h1 dX8_has_8 ?_
  obtain ⟨a5, c6, ho11, hcv11, h⟩ := h
  have hcc := h.1
  have h := h.2
  refine call_J2_size_F15_List (ct_J2_size l) C hW hS q1242 ho11 hcv11 hcc (le_lit hRf rfl) (le_lit hRl rfl) hcs hl.1 (Nat.le_of_ble_eq_true rfl) dX8_has_11 h (fun r7 H locs h hW hS _ => ?_)
  refine lv_icmp_ge (tgt := 43) hx hb dX8_has_16 (by decide) (fun c14 => ?_) (fun c14 => ?_)
  · have h := wif_t h c14
    refine lv_iconst (v := 0) hx hb dX8_has_43 (by decide) ?_
    exact hret _ _ _ _ _ dX8_has_44 hW hS isZ_0 h
  · have h := wif_f h c14
    refine sh_aload_n hx hb dX8_has_19 rfl (lv_at hl 1 rfl) ?_
    obtain ⟨v8, h1, h⟩ := h
    refine sh_get C hW xFb_28 q819 (fun _ h => h) h1 dX8_has_20 ?_
    refine lv_iload_n hx hb dX8_has_23 rfl (lv_at hl 0 rfl) ?_
    obtain ⟨a9, c10, ho24, hcv24, h⟩ := h
    have hcc := h.1
    have h := h.2
    refine call_J2_get_F15_List (ct_J2_get l) C hW hS q1244 ho24 hcv24 hcc (le_lit hRf rfl) (le_lit hRl rfl) hcs hl.1 (Nat.le_of_ble_eq_true rfl) dX8_has_24 h (fun r11 H locs h hW hS _ => ?_)
    refine sh_cast C hW q1245 xCa_Shapelayer_Key h dX8_has_29 (fun h => ?_)
    obtain ⟨v12, h1, h⟩ := h
    refine sh_getN C hW xFb_29 q1278 (fun _ h => h) (by decide) h1 dX8_has_32 ?_
    refine lv_iload_n hx hb dX8_has_35 rfl (lv_at hl 2 rfl) ?_
    refine lv_icmp_ne (tgt := 43) hx hb dX8_has_36 (by decide) (fun c13 => ?_) (fun c13 => ?_)
    · have h := wif_f h c13
      refine lv_iconst (v := 0) hx hb dX8_has_43 (by decide) ?_
      exact hret _ _ _ _ _ dX8_has_44 hW hS isZ_0 h
    · have h := wif_t h c13
      refine lv_iconst (v := 1) hx hb dX8_has_39 (by decide) ?_
      refine lv_goto (tgt := 44) hx hb dX8_has_40 (by decide) ?_
      exact hret _ _ _ _ _ dX8_has_44 hW hS isZ_1 h
theorem ct_X8_has (l : Launch) : CT_X8_has l 5 106 w_X8_has := by
  intro V sz G Q x0 x1
  refine Met.ofW (cc := cX8_has) (maxL := 3) (ret := (some .boolean)) (by decide) rfl ?_
  intro p e s m args below meth c s₁ B hml hv
  obtain ⟨rfl, hsz, hW, hK, hZ, h⟩ := hv
  subst hsz
  have hts := atoms_spec (ws := (ws_ yX8_has cX8_has 3 (some .boolean))) B.pre
  have hts : ∀ w ∈ lw_all, w.before _ s = true := fun w h => hts w (List.mem_cons_of_mem _ h)
  have hl := lv_entry ([.ref x0, .int x1]) (n := 3) (Nat.le_of_ble_eq_true rfl)
  rw [lg_entry_eq]
  generalize (lg_sl ([.ref x0, .int x1]) ++ List.replicate (3 - (lg_sl ([.ref x0, .int x1])).length) Slot.unset).toArray = ls at hl ⊢
  exact wk_X8_has Q ⟨⟨B.exec, B.bytes, hml, findClass_of_methodNamed B.named, hts⟩, hK, hZ, fun q h => Or.inr h⟩ (Nat.le_refl _) (Nat.le_refl _) ⟨Nat.le_refl _, Nat.le_refl _⟩ G (fun v pc ls H locs hd hW1 hS hz hQ => W.zret (v := v) B.exec B.bytes B.returns hz.nar (fun t ht _ => ⟨⟨v, G, rfl, ⟨rfl, hQ⟩, by rw [← ht] at hW1; exact hW1⟩, hS.F ht⟩) hS.2.2 hd) x0 x1 h ls _ [] hl hW va_S.rf
def CT_X15_init (l : Launch) (fr lo : Nat) (w : XV → (Prop) → Nat → GM → Prop) : Prop := ∀ (V : XV) (sz : Nat) (G : GM) (Q : Prop) (x0 : Nat), Met l yX15_init (ws_ yX15_init cX15_init 1 none) { frames := fr, cells := 0, slots := 0, locals := lo } (va_Pc [.ref x0] (fun U => U.heap.size = sz ∧ xW V (xA G sz) G U.heap ∧ xK V U ∧ xZ V (xA G sz) U U.heap ∧ w V Q x0 G)) (va_Qv (fun (u : GM) => u = G ∧ Q) (fun u t => xW V (xA G sz) u t.heap) (xA G sz)) 0 0 (xA G sz)
theorem call_X15_init_I {p : Program} {l : Launch} {e : Env} {R : Room} {s : State} {m : MethodId} {args : Array Value} {below : List Frame} {meth : Method} {c : Code} {H : Heap} {locs : List Loc} {cells slots : Nat} {Z : State → Prop} {A : Nat → Prop} {cc : ByteArray} {nL pc : Nat} {ls : Array Slot} {rest : List Value} {own : String} {index fr lo : Nat} {w : XV → (Prop) → Nat → GM → Prop} {V : XV} {G : GM} {o : Option Nat} {x0 : Nat} (hM : CT_X15_init l fr lo w) (C : xC p m c s args cc nL own V A) (hW : xW V A G H) (hS : va_S A s.heap H locs) (hlink : Cond.methodLink own index yX15_init ∈ lw_all) (ho : o = some x0) (hRf : fr + 1 ≤ R.frames) (hRl : 8 + (1 + 11) + lo ≤ R.locals) (hcs : cells ≤ R.cells ∧ slots ≤ R.slots) (hz : ls.size = nL) (hr8 : (rest.map fun v => v.category).sum ≤ 8) (hdg : decode cc pc = .ok (.invokespecial index, 3)) {Q1 : Prop} (h : w V Q1 x0 G) (kk : ∀ (H1 : Heap) (locs1 : List Loc), Q1 → xW V A G H1 → va_S A s.heap H1 locs1 → xFr V G G H H1 → W p l e R s m args below meth c H1 locs1 cells slots Z (F0 m (pc + 3) ls (rest))) : W p l e R s m args below meth c H locs cells slots Z (F0 m pc ls (va_rf o :: rest)) := by
  subst ho
  exact rg_v3r (va_runI (As := []) (rest := rest) C.1 (hM V H.size G Q1 x0) (cwI 0 C.1.2.2.2.2 (lw_meth q1260) rfl rfl rfl (C.1.2.2.2.2 _ q98) (C.1.2.2.2.2 _ hlink) (C.1.2.2.2.2 _ q1259) rfl (by decide +kernel) ⟨hRf, hRl⟩) ⟨fun a U g mk q => by obtain ⟨q0, q1, qW, qK, qZ, qw⟩ := q; exact ⟨q0, q1, qW, xK.same (u := U) (U := U.calling g mk a) rfl qK, xZ.moved (u := U) (U := U.calling g mk a) (Vm.Alike.refl U.vm) qZ, qw⟩, fun U hU hWm => ⟨rfl, by rw [hU], by rw [hU]; exact hW.self _, C.2.1.warm hWm, xZ.call C.2.2.1 hW hS C.2.2.2 hU hWm.alike, h⟩⟩ rfl rfl hz rfl (lv_room hr8) hdg hcs) hW hS C.2.2.2 (fun H1 locs1 hp hW1 hS1 hF1 => kk H1 locs1 hp hW1 hS1 hF1)
def w_X15_init (V : XV) (Q : Prop) (x0 : Nat) (G : GM) : Prop := Q
set_option maxRecDepth 100000 in
set_option maxHeartbeats 4000000 in
theorem wk_X15_init {p : Program} {l : Launch} {e : Env} {R : Room} {s : State} {m : MethodId} {args : Array Value} {below : List Frame} {meth : Method} {c : Code} {cells slots : Nat} {Z : State → Prop} {A : Nat → Prop} {V : XV} (Q : Prop) (C : xC p m c s args cX15_init 1 RX15 V A) (hin : meth.name = "<init>") (hRf : 1 ≤ R.frames) (hRl : 20 ≤ R.locals) (hcs : cells ≤ R.cells ∧ slots ≤ R.slots) (G : GM) (hret : ∀ (pc : Nat) (ls : Array Slot) (H : Heap) (locs : List Loc), decode cX15_init pc = .ok (.return_, 1) → xW V A G H → va_S A s.heap H locs → Q → W p l e R s m args below meth c H locs cells slots Z (F0 m pc ls [])) (x0 : Nat) : w_X15_init V Q x0 G → ∀ (ls : Array Slot) (H : Heap) (locs : List Loc), lv_has ls 1 [(0, va_rf (some x0))] → xW V A G H → va_S A s.heap H locs → W p l e R s m args below meth c H locs cells slots Z (F0 m 0 ls []) := by
  have hx := C.1.1; have hb := C.1.2.1; have hml := C.1.2.2.1; have hown := C.1.2.2.2.1; have hts := C.1.2.2.2.2
  intro h
  intro ls H locs hl hW hS
  refine sh_aload_n hx hb dX15_init_0 rfl (lv_at hl 0 rfl) ?_
  refine sh_objInit C q1261 q110 q111 hl.1 (le_lit hRf rfl) (le_lit hRl rfl) (Nat.le_of_ble_eq_true rfl) dX15_init_1 ?_
  exact hret  _ _ _ _ dX15_init_4 hW hS h
theorem ct_X15_init (l : Launch) : CT_X15_init l 1 20 w_X15_init := by
  intro V sz G Q x0
  refine Met.ofW (cc := cX15_init) (maxL := 1) (ret := none) (by decide) rfl ?_
  intro p e s m args below meth c s₁ B hml hv
  obtain ⟨rfl, hsz, hW, hK, hZ, h⟩ := hv
  subst hsz
  have hts := atoms_spec (ws := (ws_ yX15_init cX15_init 1 none)) B.pre
  have hts : ∀ w ∈ lw_all, w.before _ s = true := fun w h => hts w (List.mem_cons_of_mem _ h)
  have hl := lv_entry ([.ref x0]) (n := 1) (Nat.le_of_ble_eq_true rfl)
  rw [lg_entry_eq]
  generalize (lg_sl ([.ref x0]) ++ List.replicate (1 - (lg_sl ([.ref x0])).length) Slot.unset).toArray = ls at hl ⊢
  exact wk_X15_init Q ⟨⟨B.exec, B.bytes, hml, findClass_of_methodNamed B.named, hts⟩, hK, hZ, fun q h => Or.inr h⟩ (name_of_methodNamed B.named B.method).1 (Nat.le_refl _) (Nat.le_refl _) ⟨Nat.le_refl _, Nat.le_refl _⟩ G (fun pc ls H locs hd hW1 hS hQ => W.vret B.exec B.bytes B.returns (fun t ht _ => ⟨⟨G, rfl, ⟨rfl, hQ⟩, by rw [← ht] at hW1; exact hW1⟩, hS.F ht⟩) hS.2.2 hd) x0 h ls _ [] hl hW va_S.rf
def CT_X16_init (l : Launch) (fr lo : Nat) (w : XV → (Prop) → Nat → GM → Prop) : Prop := ∀ (V : XV) (sz : Nat) (G : GM) (Q : Prop) (x0 : Nat), Met l yX16_init (ws_ yX16_init cX16_init 1 none) { frames := fr, cells := 0, slots := 0, locals := lo } (va_Pc [.ref x0] (fun U => U.heap.size = sz ∧ xW V (xA G sz) G U.heap ∧ xK V U ∧ xZ V (xA G sz) U U.heap ∧ w V Q x0 G)) (va_Qv (fun (u : GM) => u = G ∧ Q) (fun u t => xW V (xA G sz) u t.heap) (xA G sz)) 0 0 (xA G sz)
theorem call_X16_init_I {p : Program} {l : Launch} {e : Env} {R : Room} {s : State} {m : MethodId} {args : Array Value} {below : List Frame} {meth : Method} {c : Code} {H : Heap} {locs : List Loc} {cells slots : Nat} {Z : State → Prop} {A : Nat → Prop} {cc : ByteArray} {nL pc : Nat} {ls : Array Slot} {rest : List Value} {own : String} {index fr lo : Nat} {w : XV → (Prop) → Nat → GM → Prop} {V : XV} {G : GM} {o : Option Nat} {x0 : Nat} (hM : CT_X16_init l fr lo w) (C : xC p m c s args cc nL own V A) (hW : xW V A G H) (hS : va_S A s.heap H locs) (hlink : Cond.methodLink own index yX16_init ∈ lw_all) (ho : o = some x0) (hRf : fr + 1 ≤ R.frames) (hRl : 8 + (1 + 11) + lo ≤ R.locals) (hcs : cells ≤ R.cells ∧ slots ≤ R.slots) (hz : ls.size = nL) (hr8 : (rest.map fun v => v.category).sum ≤ 8) (hdg : decode cc pc = .ok (.invokespecial index, 3)) {Q1 : Prop} (h : w V Q1 x0 G) (kk : ∀ (H1 : Heap) (locs1 : List Loc), Q1 → xW V A G H1 → va_S A s.heap H1 locs1 → xFr V G G H H1 → W p l e R s m args below meth c H1 locs1 cells slots Z (F0 m (pc + 3) ls (rest))) : W p l e R s m args below meth c H locs cells slots Z (F0 m pc ls (va_rf o :: rest)) := by
  subst ho
  exact rg_v3r (va_runI (As := []) (rest := rest) C.1 (hM V H.size G Q1 x0) (cwI 0 C.1.2.2.2.2 (lw_meth q1267) rfl rfl rfl (C.1.2.2.2.2 _ q99) (C.1.2.2.2.2 _ hlink) (C.1.2.2.2.2 _ q1266) rfl (by decide +kernel) ⟨hRf, hRl⟩) ⟨fun a U g mk q => by obtain ⟨q0, q1, qW, qK, qZ, qw⟩ := q; exact ⟨q0, q1, qW, xK.same (u := U) (U := U.calling g mk a) rfl qK, xZ.moved (u := U) (U := U.calling g mk a) (Vm.Alike.refl U.vm) qZ, qw⟩, fun U hU hWm => ⟨rfl, by rw [hU], by rw [hU]; exact hW.self _, C.2.1.warm hWm, xZ.call C.2.2.1 hW hS C.2.2.2 hU hWm.alike, h⟩⟩ rfl rfl hz rfl (lv_room hr8) hdg hcs) hW hS C.2.2.2 (fun H1 locs1 hp hW1 hS1 hF1 => kk H1 locs1 hp hW1 hS1 hF1)
def w_X16_init (V : XV) (Q : Prop) (x0 : Nat) (G : GM) : Prop := Q
set_option maxRecDepth 100000 in
set_option maxHeartbeats 4000000 in
theorem wk_X16_init {p : Program} {l : Launch} {e : Env} {R : Room} {s : State} {m : MethodId} {args : Array Value} {below : List Frame} {meth : Method} {c : Code} {cells slots : Nat} {Z : State → Prop} {A : Nat → Prop} {V : XV} (Q : Prop) (C : xC p m c s args cX16_init 1 RX16 V A) (hin : meth.name = "<init>") (hRf : 1 ≤ R.frames) (hRl : 20 ≤ R.locals) (hcs : cells ≤ R.cells ∧ slots ≤ R.slots) (G : GM) (hret : ∀ (pc : Nat) (ls : Array Slot) (H : Heap) (locs : List Loc), decode cX16_init pc = .ok (.return_, 1) → xW V A G H → va_S A s.heap H locs → Q → W p l e R s m args below meth c H locs cells slots Z (F0 m pc ls [])) (x0 : Nat) : w_X16_init V Q x0 G → ∀ (ls : Array Slot) (H : Heap) (locs : List Loc), lv_has ls 1 [(0, va_rf (some x0))] → xW V A G H → va_S A s.heap H locs → W p l e R s m args below meth c H locs cells slots Z (F0 m 0 ls []) := by
  have hx := C.1.1; have hb := C.1.2.1; have hml := C.1.2.2.1; have hown := C.1.2.2.2.1; have hts := C.1.2.2.2.2
  intro h
  intro ls H locs hl hW hS
  refine sh_aload_n hx hb dX16_init_0 rfl (lv_at hl 0 rfl) ?_
  refine sh_objInit C q1268 q110 q111 hl.1 (le_lit hRf rfl) (le_lit hRl rfl) (Nat.le_of_ble_eq_true rfl) dX16_init_1 ?_
  exact hret  _ _ _ _ dX16_init_4 hW hS h
theorem ct_X16_init (l : Launch) : CT_X16_init l 1 20 w_X16_init := by
  intro V sz G Q x0
  refine Met.ofW (cc := cX16_init) (maxL := 1) (ret := none) (by decide) rfl ?_
  intro p e s m args below meth c s₁ B hml hv
  obtain ⟨rfl, hsz, hW, hK, hZ, h⟩ := hv
  subst hsz
  have hts := atoms_spec (ws := (ws_ yX16_init cX16_init 1 none)) B.pre
  have hts : ∀ w ∈ lw_all, w.before _ s = true := fun w h => hts w (List.mem_cons_of_mem _ h)
  have hl := lv_entry ([.ref x0]) (n := 1) (Nat.le_of_ble_eq_true rfl)
  rw [lg_entry_eq]
  generalize (lg_sl ([.ref x0]) ++ List.replicate (1 - (lg_sl ([.ref x0])).length) Slot.unset).toArray = ls at hl ⊢
  exact wk_X16_init Q ⟨⟨B.exec, B.bytes, hml, findClass_of_methodNamed B.named, hts⟩, hK, hZ, fun q h => Or.inr h⟩ (name_of_methodNamed B.named B.method).1 (Nat.le_refl _) (Nat.le_refl _) ⟨Nat.le_refl _, Nat.le_refl _⟩ G (fun pc ls H locs hd hW1 hS hQ => W.vret B.exec B.bytes B.returns (fun t ht _ => ⟨⟨G, rfl, ⟨rfl, hQ⟩, by rw [← ht] at hW1; exact hW1⟩, hS.F ht⟩) hS.2.2 hd) x0 h ls _ [] hl hW va_S.rf
def CT_X17_init (l : Launch) (fr lo : Nat) (w : XV → (Prop) → Nat → GM → Prop) : Prop := ∀ (V : XV) (sz : Nat) (G : GM) (Q : Prop) (x0 : Nat), Met l yX17_init (ws_ yX17_init cX17_init 1 none) { frames := fr, cells := 0, slots := 0, locals := lo } (va_Pc [.ref x0] (fun U => U.heap.size = sz ∧ xW V (xA G sz) G U.heap ∧ xK V U ∧ xZ V (xA G sz) U U.heap ∧ w V Q x0 G)) (va_Qv (fun (u : GM) => u = G ∧ Q) (fun u t => xW V (xA G sz) u t.heap) (xA G sz)) 0 0 (xA G sz)
theorem call_X17_init_I {p : Program} {l : Launch} {e : Env} {R : Room} {s : State} {m : MethodId} {args : Array Value} {below : List Frame} {meth : Method} {c : Code} {H : Heap} {locs : List Loc} {cells slots : Nat} {Z : State → Prop} {A : Nat → Prop} {cc : ByteArray} {nL pc : Nat} {ls : Array Slot} {rest : List Value} {own : String} {index fr lo : Nat} {w : XV → (Prop) → Nat → GM → Prop} {V : XV} {G : GM} {o : Option Nat} {x0 : Nat} (hM : CT_X17_init l fr lo w) (C : xC p m c s args cc nL own V A) (hW : xW V A G H) (hS : va_S A s.heap H locs) (hlink : Cond.methodLink own index yX17_init ∈ lw_all) (ho : o = some x0) (hRf : fr + 1 ≤ R.frames) (hRl : 8 + (1 + 11) + lo ≤ R.locals) (hcs : cells ≤ R.cells ∧ slots ≤ R.slots) (hz : ls.size = nL) (hr8 : (rest.map fun v => v.category).sum ≤ 8) (hdg : decode cc pc = .ok (.invokespecial index, 3)) {Q1 : Prop} (h : w V Q1 x0 G) (kk : ∀ (H1 : Heap) (locs1 : List Loc), Q1 → xW V A G H1 → va_S A s.heap H1 locs1 → xFr V G G H H1 → W p l e R s m args below meth c H1 locs1 cells slots Z (F0 m (pc + 3) ls (rest))) : W p l e R s m args below meth c H locs cells slots Z (F0 m pc ls (va_rf o :: rest)) := by
  subst ho
  exact rg_v3r (va_runI (As := []) (rest := rest) C.1 (hM V H.size G Q1 x0) (cwI 0 C.1.2.2.2.2 (lw_meth q1274) rfl rfl rfl (C.1.2.2.2.2 _ q100) (C.1.2.2.2.2 _ hlink) (C.1.2.2.2.2 _ q1273) rfl (by decide +kernel) ⟨hRf, hRl⟩) ⟨fun a U g mk q => by obtain ⟨q0, q1, qW, qK, qZ, qw⟩ := q; exact ⟨q0, q1, qW, xK.same (u := U) (U := U.calling g mk a) rfl qK, xZ.moved (u := U) (U := U.calling g mk a) (Vm.Alike.refl U.vm) qZ, qw⟩, fun U hU hWm => ⟨rfl, by rw [hU], by rw [hU]; exact hW.self _, C.2.1.warm hWm, xZ.call C.2.2.1 hW hS C.2.2.2 hU hWm.alike, h⟩⟩ rfl rfl hz rfl (lv_room hr8) hdg hcs) hW hS C.2.2.2 (fun H1 locs1 hp hW1 hS1 hF1 => kk H1 locs1 hp hW1 hS1 hF1)
def w_X17_init (V : XV) (Q : Prop) (x0 : Nat) (G : GM) : Prop := Q
set_option maxRecDepth 100000 in
set_option maxHeartbeats 4000000 in
theorem wk_X17_init {p : Program} {l : Launch} {e : Env} {R : Room} {s : State} {m : MethodId} {args : Array Value} {below : List Frame} {meth : Method} {c : Code} {cells slots : Nat} {Z : State → Prop} {A : Nat → Prop} {V : XV} (Q : Prop) (C : xC p m c s args cX17_init 1 RX17 V A) (hin : meth.name = "<init>") (hRf : 1 ≤ R.frames) (hRl : 20 ≤ R.locals) (hcs : cells ≤ R.cells ∧ slots ≤ R.slots) (G : GM) (hret : ∀ (pc : Nat) (ls : Array Slot) (H : Heap) (locs : List Loc), decode cX17_init pc = .ok (.return_, 1) → xW V A G H → va_S A s.heap H locs → Q → W p l e R s m args below meth c H locs cells slots Z (F0 m pc ls [])) (x0 : Nat) : w_X17_init V Q x0 G → ∀ (ls : Array Slot) (H : Heap) (locs : List Loc), lv_has ls 1 [(0, va_rf (some x0))] → xW V A G H → va_S A s.heap H locs → W p l e R s m args below meth c H locs cells slots Z (F0 m 0 ls []) := by
  have hx := C.1.1; have hb := C.1.2.1; have hml := C.1.2.2.1; have hown := C.1.2.2.2.1; have hts := C.1.2.2.2.2
  intro h
  intro ls H locs hl hW hS
  refine sh_aload_n hx hb dX17_init_0 rfl (lv_at hl 0 rfl) ?_
  refine sh_objInit C q1275 q110 q111 hl.1 (le_lit hRf rfl) (le_lit hRl rfl) (Nat.le_of_ble_eq_true rfl) dX17_init_1 ?_
  exact hret  _ _ _ _ dX17_init_4 hW hS h
theorem ct_X17_init (l : Launch) : CT_X17_init l 1 20 w_X17_init := by
  intro V sz G Q x0
  refine Met.ofW (cc := cX17_init) (maxL := 1) (ret := none) (by decide) rfl ?_
  intro p e s m args below meth c s₁ B hml hv
  obtain ⟨rfl, hsz, hW, hK, hZ, h⟩ := hv
  subst hsz
  have hts := atoms_spec (ws := (ws_ yX17_init cX17_init 1 none)) B.pre
  have hts : ∀ w ∈ lw_all, w.before _ s = true := fun w h => hts w (List.mem_cons_of_mem _ h)
  have hl := lv_entry ([.ref x0]) (n := 1) (Nat.le_of_ble_eq_true rfl)
  rw [lg_entry_eq]
  generalize (lg_sl ([.ref x0]) ++ List.replicate (1 - (lg_sl ([.ref x0])).length) Slot.unset).toArray = ls at hl ⊢
  exact wk_X17_init Q ⟨⟨B.exec, B.bytes, hml, findClass_of_methodNamed B.named, hts⟩, hK, hZ, fun q h => Or.inr h⟩ (name_of_methodNamed B.named B.method).1 (Nat.le_refl _) (Nat.le_refl _) ⟨Nat.le_refl _, Nat.le_refl _⟩ G (fun pc ls H locs hd hW1 hS hQ => W.vret B.exec B.bytes B.returns (fun t ht _ => ⟨⟨G, rfl, ⟨rfl, hQ⟩, by rw [← ht] at hW1; exact hW1⟩, hS.F ht⟩) hS.2.2 hd) x0 h ls _ [] hl hW va_S.rf
def CT_X14_of (l : Launch) (fr lo : Nat) (w : XV → (Option Nat → GM → Prop) → Int32 → GM → Nat → Nat → Prop) : Prop := ∀ (V : XV) (sz : Nat) (G : GM) (Q : Option Nat → GM → Prop) (x0 : Int32) (kc ks : Nat), Met l yX14_of (ws_ yX14_of cX14_of 1 (some (.object "Shapelayer$Easing"))) { frames := fr, cells := kc, slots := ks, locals := lo } (va_Pc [.int x0] (fun U => U.heap.size = sz ∧ xW V (xA G sz) G U.heap ∧ xK V U ∧ xZ V (xA G sz) U U.heap ∧ w V Q x0 G kc ks)) (va_Qq (fun r (u : GM) => Q r u) (fun u t => xW V (xA G sz) u t.heap) (xA G sz)) kc ks (xA G sz)
theorem call_X14_of_S {p : Program} {l : Launch} {e : Env} {R : Room} {s : State} {m : MethodId} {args : Array Value} {below : List Frame} {meth : Method} {c : Code} {H : Heap} {locs : List Loc} {cells slots : Nat} {Z : State → Prop} {A : Nat → Prop} {cc : ByteArray} {nL pc : Nat} {ls : Array Slot} {rest : List Value} {own : String} {index fr lo : Nat} {w : XV → (Option Nat → GM → Prop) → Int32 → GM → Nat → Nat → Prop} {V : XV} {G : GM} {kc ks c1 s1 : Nat} {x0 : Int32} (hM : CT_X14_of l fr lo w) (C : xC p m c s args cc nL own V A) (hW : xW V A G H) (hS : va_S A s.heap H locs) (hlink : Cond.methodLink own index yX14_of ∈ lw_all) (hRf : fr + 1 ≤ R.frames) (hRl : 8 + (1 + 11) + lo ≤ R.locals) (hc1 : c1 ≤ kc) (hs1 : s1 ≤ ks) (hkc : cells + kc ≤ R.cells) (hks : slots + ks ≤ R.slots) (hz : ls.size = nL) (hr8 : (rest.map fun v => v.category).sum ≤ 8) (hdg : decode cc pc = .ok (.invokestatic index, 3)) {Q1 : Option Nat → GM → Prop} (h : w V Q1 x0 G c1 s1) (kk : ∀ (r : Option Nat) (G1 : GM) (H1 : Heap) (locs1 : List Loc), Q1 r G1 → xW V A G1 H1 → va_S A s.heap H1 locs1 → xFr V G G1 H H1 → (cells + c1) + (kc - c1) ≤ R.cells → (slots + s1) + (ks - s1) ≤ R.slots → W p l e R s m args below meth c H1 locs1 (cells + c1) (slots + s1) Z (F0 m (pc + 3) ls (va_rf r :: rest))) : W p l e R s m args below meth c H locs cells slots Z (F0 m pc ls (.int x0 :: rest)) := by
  exact rg_q3w (va_runS (As := [.int x0]) (rest := rest) C.1 (hM V H.size G Q1 x0 c1 s1) (va_cwS 1 C.1.2.2.2.2 (lw_S hlink q1254 q97 q1255) rfl rfl rfl (by decide +kernel) ⟨hRf, hRl⟩) ⟨fun a U g mk q => by obtain ⟨q0, q1, qW, qK, qZ, qw⟩ := q; exact ⟨q0, q1, qW, xK.same (u := U) (U := U.calling g mk a) rfl qK, xZ.moved (u := U) (U := U.calling g mk a) (Vm.Alike.refl U.vm) qZ, qw⟩, fun U hU hWm => ⟨rfl, by rw [hU], by rw [hU]; exact hW.self _, C.2.1.warm hWm, xZ.call C.2.2.1 hW hS C.2.2.2 hU hWm.alike, h⟩⟩ rfl rfl hz rfl (lv_room hr8) hdg ⟨by omega, by omega⟩) hW hS C.2.2.2 (fun r G1 H1 locs1 hp hW1 hS1 hF1 => kk r G1 H1 locs1 hp hW1 hS1 hF1 (by omega) (by omega))
def w_X14_of (V : XV) (Q : Option Nat → GM → Prop) (x0 : Int32) (G : GM) (kc : Nat) (ks : Nat) : Prop := if x0 = (0 : Int32) then (gNw G 9 0 xdf_X15 kc ks (fun q1 G2 => w_X15_init V (Q (some q1) G2) q1 G2)) else (if x0 = (1 : Int32) then (gNw G 10 0 xdf_X16 kc ks (fun q4 G5 => w_X16_init V (Q (some q4) G5) q4 G5)) else (gNw G 11 0 xdf_X17 kc ks (fun q7 G8 => w_X17_init V (Q (some q7) G8) q7 G8)))
set_option maxRecDepth 100000 in
set_option maxHeartbeats 4000000 in
theorem wk_X14_of {p : Program} {l : Launch} {e : Env} {R : Room} {s : State} {m : MethodId} {args : Array Value} {below : List Frame} {meth : Method} {c : Code} {Z : State → Prop} {A : Nat → Prop} {V : XV} (Q : Option Nat → GM → Prop) (C : xC p m c s args cX14_of 1 RX14 V A) (hRf : 2 ≤ R.frames) (hRl : 40 ≤ R.locals) (G : GM) (hret : ∀ (v : Option Nat) (G : GM) (pc : Nat) (ls : Array Slot) (H : Heap) (locs : List Loc) (cells slots : Nat) {k1 k2 : Nat}, decode cX14_of pc = .ok (.areturn, 1) → xW V A G H → va_S A s.heap H locs → cells + k1 ≤ R.cells → slots + k2 ≤ R.slots → Q v G → W p l e R s m args below meth c H locs cells slots Z (F0 m pc ls [va_rf v])) (x0 : Int32) (kc ks : Nat) : w_X14_of V Q x0 G kc ks → ∀ (ls : Array Slot) (H : Heap) (locs : List Loc) (cells slots : Nat), lv_has ls 1 [(0, .int x0)] → xW V A G H → va_S A s.heap H locs → cells + kc ≤ R.cells → slots + ks ≤ R.slots → W p l e R s m args below meth c H locs cells slots Z (F0 m 0 ls []) := by
  have hx := C.1.1; have hb := C.1.2.1; have hml := C.1.2.2.1; have hown := C.1.2.2.2.1; have hts := C.1.2.2.2.2
  intro h
  intro ls H locs cells slots hl hW hS hkc hks
  refine lv_iload_n hx hb dX14_of_0 rfl (lv_at hl 0 rfl) ?_
  by_cases c3 : x0 = (0 : Int32)
  · have h := wif_t h c3
    refine lv_lookup (tgt := 28) (off := 27) hx hb dX14_of_1 (by decide) (by rw [c3]; rfl) (by decide) ?_
    refine sh_new C hW hS (ci := 9) rfl (by decide) q1256 q1257 q98 tyX15_ok xdf_X15_ok h hkc hks dX14_of_28 (fun q1 G2 H hW hS h hkc hks => ?_)
    refine lv_dup hx hb dX14_of_31 (va_rf_cat _) ?_
    refine call_X15_init_I (ct_X15_init l) C hW hS q1258 rfl (le_lit hRf rfl) (le_lit hRl rfl) ⟨Nat.le_trans (Nat.le_add_right _ _) hkc, Nat.le_trans (Nat.le_add_right _ _) hks⟩ hl.1 (Nat.le_of_ble_eq_true rfl) dX14_of_32 h (fun  H locs h hW hS _ => ?_)
    refine lv_goto (tgt := 55) hx hb dX14_of_35 (by decide) ?_
    exact hret _ _ _ _ _ _ _ _ dX14_of_55 hW hS hkc hks h
  · have h := wif_f h c3
    by_cases c6 : x0 = (1 : Int32)
    · have h := wif_t h c6
      refine lv_lookup (tgt := 38) (off := 37) hx hb dX14_of_1 (by decide) (by rw [c6]; rfl) (by decide) ?_
      refine sh_new C hW hS (ci := 10) rfl (by decide) q1263 q1264 q99 tyX16_ok xdf_X16_ok h hkc hks dX14_of_38 (fun q4 G5 H hW hS h hkc hks => ?_)
      refine lv_dup hx hb dX14_of_41 (va_rf_cat _) ?_
      refine call_X16_init_I (ct_X16_init l) C hW hS q1265 rfl (le_lit hRf rfl) (le_lit hRl rfl) ⟨Nat.le_trans (Nat.le_add_right _ _) hkc, Nat.le_trans (Nat.le_add_right _ _) hks⟩ hl.1 (Nat.le_of_ble_eq_true rfl) dX14_of_42 h (fun  H locs h hW hS _ => ?_)
      refine lv_goto (tgt := 55) hx hb dX14_of_45 (by decide) ?_
      exact hret _ _ _ _ _ _ _ _ dX14_of_55 hW hS hkc hks h
    · have h := wif_f h c6
      refine lv_lookup (tgt := 48) (off := 47) hx hb dX14_of_1 (by decide) (by have ec3 : x0.toInt ≠ 0 := fun q => c3 (Int32.toInt_inj.mp (q.trans (by decide))); have ec6 : x0.toInt ≠ 1 := fun q => c6 (Int32.toInt_inj.mp (q.trans (by decide))); simp [Op.lookupswitch.offset, Ne.symm ec3, Ne.symm ec6]) (by decide) ?_
      refine sh_new C hW hS (ci := 11) rfl (by decide) q1270 q1271 q100 tyX17_ok xdf_X17_ok h hkc hks dX14_of_48 (fun q7 G8 H hW hS h hkc hks => ?_)
      refine lv_dup hx hb dX14_of_51 (va_rf_cat _) ?_
      refine call_X17_init_I (ct_X17_init l) C hW hS q1272 rfl (le_lit hRf rfl) (le_lit hRl rfl) ⟨Nat.le_trans (Nat.le_add_right _ _) hkc, Nat.le_trans (Nat.le_add_right _ _) hks⟩ hl.1 (Nat.le_of_ble_eq_true rfl) dX14_of_52 h (fun  H locs h hW hS _ => ?_)
      exact hret _ _ _ _ _ _ _ _ dX14_of_55 hW hS hkc hks h
theorem ct_X14_of (l : Launch) : CT_X14_of l 2 40 w_X14_of := by
  intro V sz G Q x0 kc ks
  refine Met.ofW (cc := cX14_of) (maxL := 1) (ret := (some (.object "Shapelayer$Easing"))) (by decide) rfl ?_
  intro p e s m args below meth c s₁ B hml hv
  obtain ⟨rfl, hsz, hW, hK, hZ, h⟩ := hv
  subst hsz
  have hts := atoms_spec (ws := (ws_ yX14_of cX14_of 1 (some (.object "Shapelayer$Easing")))) B.pre
  have hts : ∀ w ∈ lw_all, w.before _ s = true := fun w h => hts w (List.mem_cons_of_mem _ h)
  have hl := lv_entry ([.int x0]) (n := 1) (Nat.le_of_ble_eq_true rfl)
  rw [lg_entry_eq]
  generalize (lg_sl ([.int x0]) ++ List.replicate (1 - (lg_sl ([.int x0])).length) Slot.unset).toArray = ls at hl ⊢
  exact wk_X14_of Q ⟨⟨B.exec, B.bytes, hml, findClass_of_methodNamed B.named, hts⟩, hK, hZ, fun q h => Or.inr h⟩ (Nat.le_refl _) (Nat.le_refl _) G (fun v G pc ls H locs cells slots _ _ hd hW1 hS hkc hks hQ => W.widen (k := kc) (n := ks) (Nat.le_trans (Nat.le_add_right _ _) hkc) (Nat.le_trans (Nat.le_add_right _ _) hks) (W.aret (v := va_rf v) B.exec B.bytes B.returns (Or.inl ⟨_, rfl⟩) (va_rf_or v) (fun t ht _ => ⟨⟨v, G, rfl, hQ, by rw [← ht] at hW1; exact hW1⟩, hS.F ht⟩) hS.2.2 hd)) x0 kc ks h ls _ [] 0 0 hl hW va_S.rf (by show 0 + kc ≤ kc; omega) (by show 0 + ks ≤ ks; omega)
def CT_X13_init (l : Launch) (fr lo : Nat) (w : XV → (GM → Prop) → Nat → Int32 → Int32 → Int32 → GM → Nat → Nat → Prop) : Prop := ∀ (V : XV) (sz : Nat) (G : GM) (Q : GM → Prop) (x0 : Nat) (x1 : Int32) (x2 : Int32) (x3 : Int32) (kc ks : Nat), Met l yX13_init (ws_ yX13_init cX13_init 4 none) { frames := fr, cells := kc, slots := ks, locals := lo } (va_Pc [.ref x0, .int x1, .int x2, .int x3] (fun U => U.heap.size = sz ∧ xW V (xA G sz) G U.heap ∧ xK V U ∧ xZ V (xA G sz) U U.heap ∧ w V Q x0 x1 x2 x3 G kc ks)) (va_Qv (fun (u : GM) => Q u) (fun u t => xW V (xA G sz) u t.heap) (xA G sz)) kc ks (xA G sz)
theorem call_X13_init_I {p : Program} {l : Launch} {e : Env} {R : Room} {s : State} {m : MethodId} {args : Array Value} {below : List Frame} {meth : Method} {c : Code} {H : Heap} {locs : List Loc} {cells slots : Nat} {Z : State → Prop} {A : Nat → Prop} {cc : ByteArray} {nL pc : Nat} {ls : Array Slot} {rest : List Value} {own : String} {index fr lo : Nat} {w : XV → (GM → Prop) → Nat → Int32 → Int32 → Int32 → GM → Nat → Nat → Prop} {V : XV} {G : GM} {o : Option Nat} {kc ks c1 s1 : Nat} {x0 : Nat} {x1 : Int32} {x2 : Int32} {x3 : Int32} (hM : CT_X13_init l fr lo w) (C : xC p m c s args cc nL own V A) (hW : xW V A G H) (hS : va_S A s.heap H locs) (hlink : Cond.methodLink own index yX13_init ∈ lw_all) (ho : o = some x0) (hRf : fr + 1 ≤ R.frames) (hRl : 8 + (4 + 11) + lo ≤ R.locals) (hc1 : c1 ≤ kc) (hs1 : s1 ≤ ks) (hkc : cells + kc ≤ R.cells) (hks : slots + ks ≤ R.slots) (hz : ls.size = nL) (hr8 : (rest.map fun v => v.category).sum ≤ 8) (hdg : decode cc pc = .ok (.invokespecial index, 3)) {Q1 : GM → Prop} (h : w V Q1 x0 x1 x2 x3 G c1 s1) (kk : ∀ (G1 : GM) (H1 : Heap) (locs1 : List Loc), Q1 G1 → xW V A G1 H1 → va_S A s.heap H1 locs1 → xFr V G G1 H H1 → (cells + c1) + (kc - c1) ≤ R.cells → (slots + s1) + (ks - s1) ≤ R.slots → W p l e R s m args below meth c H1 locs1 (cells + c1) (slots + s1) Z (F0 m (pc + 3) ls (rest))) : W p l e R s m args below meth c H locs cells slots Z (F0 m pc ls (.int x3 :: .int x2 :: .int x1 :: va_rf o :: rest)) := by
  subst ho
  exact rg_v3w (va_runI (As := [.int x1, .int x2, .int x3]) (rest := rest) C.1 (hM V H.size G Q1 x0 x1 x2 x3 c1 s1) (cwI 3 C.1.2.2.2.2 (lw_meth q1251) rfl rfl rfl (C.1.2.2.2.2 _ q96) (C.1.2.2.2.2 _ hlink) (C.1.2.2.2.2 _ q1250) rfl (by decide +kernel) ⟨hRf, hRl⟩) ⟨fun a U g mk q => by obtain ⟨q0, q1, qW, qK, qZ, qw⟩ := q; exact ⟨q0, q1, qW, xK.same (u := U) (U := U.calling g mk a) rfl qK, xZ.moved (u := U) (U := U.calling g mk a) (Vm.Alike.refl U.vm) qZ, qw⟩, fun U hU hWm => ⟨rfl, by rw [hU], by rw [hU]; exact hW.self _, C.2.1.warm hWm, xZ.call C.2.2.1 hW hS C.2.2.2 hU hWm.alike, h⟩⟩ rfl rfl hz rfl (lv_room hr8) hdg ⟨by omega, by omega⟩) hW hS C.2.2.2 (fun G1 H1 locs1 hp hW1 hS1 hF1 => kk G1 H1 locs1 hp hW1 hS1 hF1 (by omega) (by omega))
def w_X13_init (V : XV) (Q : GM → Prop) (x0 : Nat) (x1 : Int32) (x2 : Int32) (x3 : Int32) (G : GM) (kc : Nat) (ks : Nat) : Prop := gPF G 29 (some x0) (.int x1) (fun G1 => gPF G1 30 (some x0) (.int x2) (fun G2 => ∃ c5 s6 : Nat, c5 ≤ kc ∧ s6 ≤ ks ∧ (w_X14_of V (fun r3 G4 => gPF G4 31 (some x0) (va_rf r3) (fun G7 => Q G7)) x3 G2 c5 s6)))
set_option maxRecDepth 100000 in
set_option maxHeartbeats 4000000 in
theorem wk_X13_init {p : Program} {l : Launch} {e : Env} {R : Room} {s : State} {m : MethodId} {args : Array Value} {below : List Frame} {meth : Method} {c : Code} {Z : State → Prop} {A : Nat → Prop} {V : XV} (Q : GM → Prop) (C : xC p m c s args cX13_init 4 RX13 V A) (hin : meth.name = "<init>") (hRf : 3 ≤ R.frames) (hRl : 60 ≤ R.locals) (G : GM) (hret : ∀ (G : GM) (pc : Nat) (ls : Array Slot) (H : Heap) (locs : List Loc) (cells slots : Nat) {k1 k2 : Nat}, decode cX13_init pc = .ok (.return_, 1) → xW V A G H → va_S A s.heap H locs → cells + k1 ≤ R.cells → slots + k2 ≤ R.slots → Q G → W p l e R s m args below meth c H locs cells slots Z (F0 m pc ls [])) (x0 : Nat) (x1 : Int32) (x2 : Int32) (x3 : Int32) (kc ks : Nat) : w_X13_init V Q x0 x1 x2 x3 G kc ks → ∀ (ls : Array Slot) (H : Heap) (locs : List Loc) (cells slots : Nat), lv_has ls 4 [(0, va_rf (some x0)), (1, .int x1), (2, .int x2), (3, .int x3)] → xW V A G H → va_S A s.heap H locs → cells + kc ≤ R.cells → slots + ks ≤ R.slots → W p l e R s m args below meth c H locs cells slots Z (F0 m 0 ls []) := by
  have hx := C.1.1; have hb := C.1.2.1; have hml := C.1.2.2.1; have hown := C.1.2.2.2.1; have hts := C.1.2.2.2.2
  intro h
  intro ls H locs cells slots hl hW hS hkc hks
  refine sh_aload_n hx hb dX13_init_0 rfl (lv_at hl 0 rfl) ?_
  refine sh_objInit C q1252 q110 q111 hl.1 (le_lit hRf rfl) (le_lit hRl rfl) (Nat.le_of_ble_eq_true rfl) dX13_init_1 ?_
  refine sh_aload_n hx hb dX13_init_4 rfl (lv_at hl 0 rfl) ?_
  refine lv_iload_n hx hb dX13_init_5 rfl (lv_at hl 1 rfl) ?_
  refine sh_putF C hW hS xFb_29 q1277 (fun _ h => h) hin rfl xFd_29 rfl rfl h dX13_init_6 (fun G1 H locs hW hS h => ?_)
  refine sh_aload_n hx hb dX13_init_9 rfl (lv_at hl 0 rfl) ?_
  refine lv_iload_n hx hb dX13_init_10 rfl (lv_at hl 2 rfl) ?_
  refine sh_putF C hW hS xFb_30 q1279 (fun _ h => h) hin rfl xFd_30 rfl rfl h dX13_init_11 (fun G2 H locs hW hS h => ?_)
  refine sh_aload_n hx hb dX13_init_14 rfl (lv_at hl 0 rfl) ?_
  refine lv_iload_n hx hb dX13_init_15 rfl (lv_at hl 3 rfl) ?_
  obtain ⟨c5, s6, hc16, hs16, h⟩ := h
  refine call_X14_of_S (ct_X14_of l) C hW hS q1253 (le_lit hRf rfl) (le_lit hRl rfl) hc16 hs16 hkc hks hl.1 (Nat.le_of_ble_eq_true rfl) dX13_init_16 h (fun r3 G4 H locs h hW hS _ hkc hks => ?_)
  refine sh_putF C hW hS xFb_31 q1282 (fun _ h => h) hin rfl xFd_31 (rf_nar_o _ _) (rf_fit_o _ _) h dX13_init_19 (fun G7 H locs hW hS h => ?_)
  exact hret _ _ _ _ _ _ _ dX13_init_22 hW hS hkc hks h
theorem ct_X13_init (l : Launch) : CT_X13_init l 3 60 w_X13_init := by
  intro V sz G Q x0 x1 x2 x3 kc ks
  refine Met.ofW (cc := cX13_init) (maxL := 4) (ret := none) (by decide) rfl ?_
  intro p e s m args below meth c s₁ B hml hv
  obtain ⟨rfl, hsz, hW, hK, hZ, h⟩ := hv
  subst hsz
  have hts := atoms_spec (ws := (ws_ yX13_init cX13_init 4 none)) B.pre
  have hts : ∀ w ∈ lw_all, w.before _ s = true := fun w h => hts w (List.mem_cons_of_mem _ h)
  have hl := lv_entry ([.ref x0, .int x1, .int x2, .int x3]) (n := 4) (Nat.le_of_ble_eq_true rfl)
  rw [lg_entry_eq]
  generalize (lg_sl ([.ref x0, .int x1, .int x2, .int x3]) ++ List.replicate (4 - (lg_sl ([.ref x0, .int x1, .int x2, .int x3])).length) Slot.unset).toArray = ls at hl ⊢
  exact wk_X13_init Q ⟨⟨B.exec, B.bytes, hml, findClass_of_methodNamed B.named, hts⟩, hK, hZ, fun q h => Or.inr h⟩ (name_of_methodNamed B.named B.method).1 (Nat.le_refl _) (Nat.le_refl _) G (fun G pc ls H locs cells slots _ _ hd hW1 hS hkc hks hQ => W.widen (k := kc) (n := ks) (Nat.le_trans (Nat.le_add_right _ _) hkc) (Nat.le_trans (Nat.le_add_right _ _) hks) (W.vret B.exec B.bytes B.returns (fun t ht _ => ⟨⟨G, rfl, hQ, by rw [← ht] at hW1; exact hW1⟩, hS.F ht⟩) hS.2.2 hd)) x0 x1 x2 x3 kc ks h ls _ [] 0 0 hl hW va_S.rf (by show 0 + kc ≤ kc; omega) (by show 0 + ks ≤ ks; omega)
def CT_X1_key (l : Launch) (fr lo : Nat) (w : XV → (Int32 → GM → Prop) → (String → GM → Prop) → Nat → Int32 → Int32 → Int32 → Int32 → Int32 → GM → Nat → Nat → Prop) : Prop := ∀ (V : XV) (sz : Nat) (G : GM) (Q : Int32 → GM → Prop) (X : String → GM → Prop) (x0 : Nat) (x1 : Int32) (x2 : Int32) (x3 : Int32) (x4 : Int32) (x5 : Int32) (kc ks : Nat), vx_Met l yX1_key (ws_ yX1_key cX1_key 10 (some .int)) { frames := fr, cells := kc, slots := ks, locals := lo } (va_Pc [.ref x0, .int x1, .int x2, .int x3, .int x4, .int x5] (fun U => U.heap.size = sz ∧ xW V (xA G sz) G U.heap ∧ xK V U ∧ xZ V (xA G sz) U U.heap ∧ w V Q X x0 x1 x2 x3 x4 x5 G kc ks)) (va_Qi (fun r (u : GM) => Q r u) (fun u t => xW V (xA G sz) u t.heap) (xA G sz)) (vx_X (fun u : String × GM => X u.1 u.2) (fun E u t => E = u.1 ∧ xW V (xA G sz) u.2 t.heap) (xA G sz)) kc ks (xA G sz)
theorem call_X1_key_V {p : Program} {l : Launch} {e : Env} {R : Room} {s : State} {m : MethodId} {args : Array Value} {below : List Frame} {meth : Method} {c : Code} {H : Heap} {locs : List Loc} {cells slots : Nat} {Z : State → Prop} {A : Nat → Prop} {cc : ByteArray} {nL pc : Nat} {ls : Array Slot} {rest : List Value} {own : String} {index fr lo : Nat} {w : XV → (Int32 → GM → Prop) → (String → GM → Prop) → Nat → Int32 → Int32 → Int32 → Int32 → Int32 → GM → Nat → Nat → Prop} {V : XV} {G : GM} {o : Option Nat} {ci : Nat} {kc ks c1 s1 : Nat} {x0 : Nat} {x1 : Int32} {x2 : Int32} {x3 : Int32} {x4 : Int32} {x5 : Int32} (hM : CT_X1_key l fr lo w) (C : xC p m c s args cc nL own V A) (hW : xW V A G H) (hS : va_S A s.heap H locs) (hlink : Cond.methodLink own index yX1_key ∈ lw_all) (ho : o = some x0) (hcv : gCi G (some x0) = some ci) (hci : ci % 64 = 0) (hRf : fr + 1 ≤ R.frames) (hRl : 8 + (10 + 11) + lo ≤ R.locals) (hc1 : c1 ≤ kc) (hs1 : s1 ≤ ks) (hkc : cells + kc ≤ R.cells) (hks : slots + ks ≤ R.slots) (hz : ls.size = nL) (hr8 : (rest.map fun v => v.category).sum ≤ 8) (hdg : decode cc pc = .ok (.invokevirtual index, 3)) {Q1 : Int32 → GM → Prop} {X1 : String → GM → Prop} (h : w V Q1 X1 x0 x1 x2 x3 x4 x5 G c1 s1) (kx : ∀ (E : String) (G1 : GM) (ce : Cell) (q9 : Addr) (H1 : Heap) (locs1 : List Loc), X1 E G1 → xW V A G1 H1 → va_S A s.heap H1 locs1 → H1[q9]? = some ce → ce.vm = .none → s.vm.findClass E = some ce.cls → xFr V G G1 H H1 → vx_W p l e R s m args below meth c H1 locs1 (cells + c1) (slots + s1) Z (F0 m pc ls rest) q9) (kk : ∀ (r : Int32) (G1 : GM) (H1 : Heap) (locs1 : List Loc), Q1 r G1 → xW V A G1 H1 → va_S A s.heap H1 locs1 → xFr V G G1 H H1 → (cells + c1) + (kc - c1) ≤ R.cells → (slots + s1) + (ks - s1) ≤ R.slots → W p l e R s m args below meth c H1 locs1 (cells + c1) (slots + s1) Z (F0 m (pc + 3) ls (.int r :: rest))) : W p l e R s m args below meth c H locs cells slots Z (F0 m pc ls (.int x5 :: .int x4 :: .int x3 :: .int x2 :: .int x1 :: va_rf o :: rest)) := by
  subst ho
  obtain ⟨fs, hG⟩ := gCi_of hcv
  exact rx_i3w (vx_runV (As := [.int x1, .int x2, .int x3, .int x4, .int x5]) (rest := rest) C.1 (hM V H.size G Q1 X1 x0 x1 x2 x3 x4 x5 c1 s1) (cwV 5 C.1.2.2.2.2 (lw_V hlink q1221 q1222 q59 q1223) rfl rfl rfl (by decide +kernel) ⟨hRf, hRl⟩) ⟨fun a U g mk q => by obtain ⟨q0, q1, qW, qK, qZ, qw⟩ := q; exact ⟨q0, q1, qW, xK.same (u := U) (U := U.calling g mk a) rfl qK, xZ.moved (u := U) (U := U.calling g mk a) (Vm.Alike.refl U.vm) qZ, qw⟩, (hW.recv C.2.1 hG (r := (RX1, TX1, 6)) (by rw [hci]; rfl)), fun U hU hWm => ⟨rfl, by rw [hU], by rw [hU]; exact hW.self _, C.2.1.warm hWm, xZ.call C.2.2.1 hW hS C.2.2.2 hU hWm.alike, h⟩⟩ rfl rfl hz rfl (lv_room hr8) hdg ⟨by omega, by omega⟩) hW hS C.2.2.2 kx (fun r G1 H1 locs1 hp hW1 hS1 hF1 => kk r G1 H1 locs1 hp hW1 hS1 hF1 (by omega) (by omega))
def w_X1_key_108 (V : XV) (Q : Int32 → GM → Prop) (X : String → GM → Prop) (x0 : Nat) (x3 : Int32) (x4 : Int32) (x5 : Int32) (x6 : Option Nat) (x8 : Int32) (G : GM) (kc : Nat) (ks : Nat) : Prop := gGR G 28 x6 (fun v1 => gNw G 8 3 xdf_X13 kc ks (fun q2 G3 => ∃ c5 s6 : Nat, c5 ≤ (kc - 1) ∧ s6 ≤ (ks - 3) ∧ (w_X13_init V (fun G4 => gRcv G4 v1 (fun a7 c8 => (c8 % 64 = 15) ∧ (∃ c10 s11 : Nat, c10 ≤ ((kc - 1) - c5) ∧ s11 ≤ ((ks - 3) - s6) ∧ (w_J2_add_3 V (fun G9 => gGR G9 3 (some x0) (fun v12 => gRcv G9 v12 (fun a13 c14 => (c14 % 64 = 15) ∧ (w_J2_clear V (fun G15 => gGR G15 28 x6 (fun v16 => gRcv G15 v16 (fun a17 c18 => (c18 % 64 = 15) ∧ (w_J2_size V (fun r19 => Q r19 G15) a17 G15)))) a13 G9)))) a7 x8 (some q2) G4 c10 s11)))) q2 x3 x4 x5 G3 c5 s6)))
def w_X1_key_75 (V : XV) (Q : Int32 → GM → Prop) (X : String → GM → Prop) (x0 : Nat) (x3 : Int32) (x4 : Int32) (x5 : Int32) (x6 : Option Nat) (x7 : Int32) (y0 : Int32) (G : GM) (kc : Nat) (ks : Nat) : Prop := ∃ c20 s21 : Nat, c20 ≤ kc ∧ s21 ≤ ks ∧ (w_X1_checkState V (gRcv G x6 (fun a22 c23 => (c23 % 64 = 7) ∧ (w_X8_placeOf V (fun r24 => if x7 = 0 then (w_X1_key_108 V Q X x0 x3 x4 x5 x6 r24 G (kc - c20) (ks - s21)) else (gGR G 28 x6 (fun v25 => gRcv G v25 (fun a26 c27 => (c27 % 64 = 15) ∧ (w_J2_remove_2 V (fun r28 G29 => gCk G29 [8] r28 (w_X1_key_108 V Q X x0 x3 x4 x5 x6 r24 G29 (kc - c20) (ks - s21))) a26 r24 G))))) a22 x3 G))) X y0 G c20 s21)
def w_X1_key_70 (V : XV) (Q : Int32 → GM → Prop) (X : String → GM → Prop) (x0 : Nat) (x3 : Int32) (x4 : Int32) (x5 : Int32) (x6 : Option Nat) (x7 : Int32) (G : GM) (kc : Nat) (ks : Nat) : Prop := w_X1_key_75 V Q X x0 x3 x4 x5 x6 x7 (1 : Int32) G kc ks
def w_X1_key_39 (V : XV) (Q : Int32 → GM → Prop) (X : String → GM → Prop) (x0 : Nat) (x3 : Int32) (x4 : Int32) (x5 : Int32) (x6 : Option Nat) (y0 : Int32) (G : GM) (kc : Nat) (ks : Nat) : Prop := ∃ c31 s32 : Nat, c31 ≤ kc ∧ s32 ≤ ks ∧ (w_X1_checkArgument V (gRcv G x6 (fun a33 c34 => (c34 % 64 = 7) ∧ (w_X8_has V (fun r35 => if r35 = 0 then (gGR G 28 x6 (fun v36 => gRcv G v36 (fun a37 c38 => (c38 % 64 = 15) ∧ (w_J2_size V (fun r39 => if (8 : Int32) ≤ r39 then (w_X1_key_75 V Q X x0 x3 x4 x5 x6 r35 (0 : Int32) G (kc - c31) (ks - s32)) else (w_X1_key_70 V Q X x0 x3 x4 x5 x6 r35 G (kc - c31) (ks - s32))) a37 G)))) else (w_X1_key_70 V Q X x0 x3 x4 x5 x6 r35 G (kc - c31) (ks - s32))) a33 x3 G))) X y0 G c31 s32)
def w_X1_key_38 (V : XV) (Q : Int32 → GM → Prop) (X : String → GM → Prop) (x0 : Nat) (x3 : Int32) (x4 : Int32) (x5 : Int32) (x6 : Option Nat) (G : GM) (kc : Nat) (ks : Nat) : Prop := w_X1_key_39 V Q X x0 x3 x4 x5 x6 (0 : Int32) G kc ks
def w_X1_key (V : XV) (Q : Int32 → GM → Prop) (X : String → GM → Prop) (x0 : Nat) (x1 : Int32) (x2 : Int32) (x3 : Int32) (x4 : Int32) (x5 : Int32) (G : GM) (kc : Nat) (ks : Nat) : Prop := gRcv G (some x0) (fun a42 c43 => (c43 % 64 = 0) ∧ (∃ c45 s46 : Nat, c45 ≤ kc ∧ s46 ≤ ks ∧ (w_X1_keyed V (fun r44 => ∃ c47 s48 : Nat, c47 ≤ (kc - c45) ∧ s48 ≤ (ks - s46) ∧ (w_X1_checkTime V (w_X1_isBetween V (fun r49 => if r49 = 0 then (w_X1_key_38 V Q X x0 x3 x4 x5 r44 G ((kc - c45) - c47) ((ks - s46) - s48)) else (w_X1_isBetween V (fun r50 => if r50 = 0 then (w_X1_key_38 V Q X x0 x3 x4 x5 r44 G ((kc - c45) - c47) ((ks - s46) - s48)) else (w_X1_key_39 V Q X x0 x3 x4 x5 r44 (1 : Int32) G ((kc - c45) - c47) ((ks - s46) - s48))) x5 (0 : Int32) (2 : Int32) G)) x4 (-99999 : Int32) (99999 : Int32) G) X x3 G c47 s48)) X a42 x1 x2 G c45 s46)))
set_option maxRecDepth 100000 in
set_option maxHeartbeats 4000000 in
theorem wk_X1_key {p : Program} {l : Launch} {e : Env} {R : Room} {s : State} {m : MethodId} {args : Array Value} {below : List Frame} {meth : Method} {c : Code} {Z : State → Prop} {A : Nat → Prop} {V : XV} (Q : Int32 → GM → Prop) (X : String → GM → Prop) (C : xC p m c s args cX1_key 10 RX1 V A) (hfl : l.stackTraces = false) (hRf : 15 ≤ R.frames) (hRl : 264 ≤ R.locals) (G : GM) (hret : ∀ (v : Int32) (G : GM) (pc : Nat) (ls : Array Slot) (H : Heap) (locs : List Loc) (cells slots : Nat) {k1 k2 : Nat}, decode cX1_key pc = .ok (.ireturn, 1) → xW V A G H → va_S A s.heap H locs → cells + k1 ≤ R.cells → slots + k2 ≤ R.slots → Q v G → W p l e R s m args below meth c H locs cells slots Z (F0 m pc ls [.int v])) (hxo : ∀ (E : String) (G : GM) (ce : Cell) (q : Addr) (pc : Nat) (ls : Array Slot) (H : Heap) (locs : List Loc) (cells slots : Nat) (rest : List Value), xW V A G H → va_S A s.heap H locs → X E G → H[q]? = some ce → ce.vm = .none → s.vm.findClass E = some ce.cls → cells ≤ R.cells → slots ≤ R.slots → vx_W p l e R s m args below meth c H locs cells slots Z (F0 m pc ls rest) q) (x0 : Nat) (x1 : Int32) (x2 : Int32) (x3 : Int32) (x4 : Int32) (x5 : Int32) (kc ks : Nat) : w_X1_key V Q X x0 x1 x2 x3 x4 x5 G kc ks → ∀ (ls : Array Slot) (H : Heap) (locs : List Loc) (cells slots : Nat), lv_has ls 10 [(0, va_rf (some x0)), (1, .int x1), (2, .int x2), (3, .int x3), (4, .int x4), (5, .int x5)] → xW V A G H → va_S A s.heap H locs → cells + kc ≤ R.cells → slots + ks ≤ R.slots → W p l e R s m args below meth c H locs cells slots Z (F0 m 0 ls []) := by
  have hx := C.1.1; have hb := C.1.2.1; have hml := C.1.2.2.1; have hown := C.1.2.2.2.1; have hts := C.1.2.2.2.2
  have hb108 : ∀ (x6 : Option Nat) (x8 : Int32) (G : GM) (kc : Nat) (ks : Nat), w_X1_key_108 V Q X x0 x3 x4 x5 x6 x8 G kc ks → ∀ (ls : Array Slot) (H : Heap) (locs : List Loc) (cells slots : Nat), lv_has ls 10 [(0, va_rf (some x0)), (3, .int x3), (4, .int x4), (5, .int x5), (6, va_rf x6), (8, .int x8)] → xW V A G H → va_S A s.heap H locs → cells + kc ≤ R.cells → slots + ks ≤ R.slots → W p l e R s m args below meth c H locs cells slots Z (F0 m 108 ls []) := by
    intro x6 x8 G kc ks h
    intro ls H locs cells slots hl hW hS hkc hks
    refine sh_aload hx hb dX1_key_108 (lv_at hl 4 rfl) ?_
    obtain ⟨v1, h1, h⟩ := h
    refine sh_getN C hW xFb_28 q821 (fun _ h => h) (by decide) h1 dX1_key_110 ?_
    refine lv_iload hx hb dX1_key_113 (lv_at hl 5 rfl) ?_
    refine sh_new C hW hS (ci := 8) rfl (by decide) q1247 q1248 q96 tyX13_ok xdf_X13_ok h hkc hks dX1_key_115 (fun q2 G3 H hW hS h hkc hks => ?_)
    refine lv_dup hx hb dX1_key_118 (va_rf_cat _) ?_
    refine lv_iload_n hx hb dX1_key_119 rfl (lv_at hl 1 rfl) ?_
    refine lv_iload hx hb dX1_key_120 (lv_at hl 2 rfl) ?_
    refine lv_iload hx hb dX1_key_122 (lv_at hl 3 rfl) ?_
    obtain ⟨c5, s6, hc124, hs124, h⟩ := h
    refine call_X13_init_I (ct_X13_init l) C hW hS q1249 rfl (le_lit hRf rfl) (le_lit hRl rfl) hc124 hs124 hkc hks hl.1 (by simp only [List.map_cons, List.map_nil, va_rf_cat]; exact Nat.le_of_ble_eq_true rfl) dX1_key_124 h (fun G4 H locs h hW hS _ hkc hks => ?_)
    obtain ⟨a7, c8, ho127, hcv127, h⟩ := h
    have hcc := h.1
    have h := h.2
    obtain ⟨c10, s11, hc127, hs127, h⟩ := h
    refine call_J2_add_3_F15_List (ct_J2_add_3 l) C hW hS q1160 ho127 hcv127 hcc (le_lit hRf rfl) (le_lit hRl rfl) hc127 hs127 hkc hks hl.1 (Nat.le_of_ble_eq_true rfl) dX1_key_127 h (fun G9 H locs h hW hS _ hkc hks => ?_)
    refine sh_aload_n hx hb dX1_key_132 rfl (lv_at hl 0 rfl) ?_
    obtain ⟨v12, h1, h⟩ := h
    refine sh_get C hW xFb_3 q204 (fun _ h => h) h1 dX1_key_133 ?_
    obtain ⟨a13, c14, ho136, hcv136, h⟩ := h
    have hcc := h.1
    have h := h.2
    refine call_J2_clear_F15_List (ct_J2_clear l) C hW hS q235 ho136 hcv136 hcc (le_lit hRf rfl) (le_lit hRl rfl) ⟨Nat.le_trans (Nat.le_add_right _ _) hkc, Nat.le_trans (Nat.le_add_right _ _) hks⟩ hl.1 (Nat.le_of_ble_eq_true rfl) dX1_key_136 h (fun G15 H locs h hW hS _ => ?_)
    refine sh_aload hx hb dX1_key_141 (lv_at hl 4 rfl) ?_
    obtain ⟨v16, h1, h⟩ := h
    refine sh_getN C hW xFb_28 q821 (fun _ h => h) (by decide) h1 dX1_key_143 ?_
    obtain ⟨a17, c18, ho146, hcv146, h⟩ := h
    have hcc := h.1
    have h := h.2
    refine call_J2_size_F15_List (ct_J2_size l) C hW hS q225 ho146 hcv146 hcc (le_lit hRf rfl) (le_lit hRl rfl) ⟨Nat.le_trans (Nat.le_add_right _ _) hkc, Nat.le_trans (Nat.le_add_right _ _) hks⟩ hl.1 (Nat.le_of_ble_eq_true rfl) dX1_key_146 h (fun r19 H locs h hW hS _ => ?_)
    exact hret _ _ _ _ _ _ _ _ dX1_key_151 hW hS hkc hks h
  have hb75 : ∀ (x6 : Option Nat) (x7 : Int32) (y0 : Int32) (G : GM) (kc : Nat) (ks : Nat), w_X1_key_75 V Q X x0 x3 x4 x5 x6 x7 y0 G kc ks → ∀ (ls : Array Slot) (H : Heap) (locs : List Loc) (cells slots : Nat), lv_has ls 10 [(0, va_rf (some x0)), (3, .int x3), (4, .int x4), (5, .int x5), (6, va_rf x6), (7, .int x7)] → xW V A G H → va_S A s.heap H locs → cells + kc ≤ R.cells → slots + ks ≤ R.slots → W p l e R s m args below meth c H locs cells slots Z (F0 m 75 ls [.int y0]) := by
    intro x6 x7 y0 G kc ks h
    intro ls H locs cells slots hl hW hS hkc hks
    obtain ⟨c20, s21, hc75, hs75, h⟩ := h
    refine call_X1_checkState_S (ct_X1_checkState l hfl) C hW hS q633 (le_lit hRf rfl) (le_lit hRl rfl) hc75 hs75 hkc hks hl.1 (Nat.le_of_ble_eq_true rfl) dX1_key_75 h (fun E G9 ce q9 H locs hX hW hS h1 h2 h3 _ => hxo E G9 ce q9 75 ls H locs _ _ _ hW hS hX h1 h2 h3 (by omega) (by omega)) (fun  H locs h hW hS _ hkc hks => ?_)
    refine sh_aload hx hb dX1_key_78 (lv_at hl 4 rfl) ?_
    refine lv_iload_n hx hb dX1_key_80 rfl (lv_at hl 1 rfl) ?_
    obtain ⟨a22, c23, ho81, hcv81, h⟩ := h
    have hcc := h.1
    have h := h.2
    refine call_X8_placeOf_V (ct_X8_placeOf l) C hW hS q1246 ho81 hcv81 hcc (le_lit hRf rfl) (le_lit hRl rfl) ⟨Nat.le_trans (Nat.le_add_right _ _) hkc, Nat.le_trans (Nat.le_add_right _ _) hks⟩ hl.1 (Nat.le_of_ble_eq_true rfl) dX1_key_81 h (fun r24 H locs h hW hS _ => ?_)
    refine lv_istore (lv' := [(8, .int r24), (0, va_rf (some x0)), (3, .int x3), (4, .int x4), (5, .int x5), (6, va_rf x6), (7, .int x7)]) hx hb dX1_key_84 hl (by decide) rfl (fun ls hl => ?_)
    refine lv_iload hx hb dX1_key_86 (lv_at hl 6 rfl) ?_
    refine lv_if_eq (tgt := 108) hx hb dX1_key_88 (by decide) (fun c30 => ?_) (fun c30 => ?_)
    · have h := wif_t h c30
      exact hb108 _ _ _ _ _ h ls H locs _ _ (lv_sub hl [1, 2, 3, 4, 5, 0] rfl) hW hS hkc hks
    · have h := wif_f h c30
      refine sh_aload hx hb dX1_key_91 (lv_at hl 5 rfl) ?_
      obtain ⟨v25, h1, h⟩ := h
      refine sh_getN C hW xFb_28 q821 (fun _ h => h) (by decide) h1 dX1_key_93 ?_
      refine lv_iload hx hb dX1_key_96 (lv_at hl 0 rfl) ?_
      obtain ⟨a26, c27, ho98, hcv98, h⟩ := h
      have hcc := h.1
      have h := h.2
      refine call_J2_remove_2_F15_List (ct_J2_remove_2 l) C hW hS q1151 ho98 hcv98 hcc (le_lit hRf rfl) (le_lit hRl rfl) ⟨Nat.le_trans (Nat.le_add_right _ _) hkc, Nat.le_trans (Nat.le_add_right _ _) hks⟩ hl.1 (Nat.le_of_ble_eq_true rfl) dX1_key_98 h (fun r28 G29 H locs h hW hS _ => ?_)
      refine sh_cast C hW q1247 xCa_Shapelayer_Key h dX1_key_103 (fun h => ?_)
      refine sh_astore (lv' := [(9, va_rf r28), (8, .int r24), (0, va_rf (some x0)), (3, .int x3), (4, .int x4), (5, .int x5), (6, va_rf x6), (7, .int x7)]) hx hb dX1_key_106 hl (by decide) rfl (fun ls hl => ?_)
      exact hb108 _ _ _ _ _ h ls H locs _ _ (lv_sub hl [2, 3, 4, 5, 6, 1] rfl) hW hS hkc hks
  have hb70 : ∀ (x6 : Option Nat) (x7 : Int32) (G : GM) (kc : Nat) (ks : Nat), w_X1_key_70 V Q X x0 x3 x4 x5 x6 x7 G kc ks → ∀ (ls : Array Slot) (H : Heap) (locs : List Loc) (cells slots : Nat), lv_has ls 10 [(0, va_rf (some x0)), (3, .int x3), (4, .int x4), (5, .int x5), (6, va_rf x6), (7, .int x7)] → xW V A G H → va_S A s.heap H locs → cells + kc ≤ R.cells → slots + ks ≤ R.slots → W p l e R s m args below meth c H locs cells slots Z (F0 m 70 ls []) := by
    intro x6 x7 G kc ks h
    intro ls H locs cells slots hl hW hS hkc hks
    refine lv_iconst (v := 1) hx hb dX1_key_70 (by decide) ?_
    refine lv_goto (tgt := 75) hx hb dX1_key_71 (by decide) ?_
    exact hb75 _ _ _ _ _ _ h ls H locs _ _ (lv_sub hl [0, 1, 2, 3, 4, 5] rfl) hW hS hkc hks
  have hb39 : ∀ (x6 : Option Nat) (y0 : Int32) (G : GM) (kc : Nat) (ks : Nat), w_X1_key_39 V Q X x0 x3 x4 x5 x6 y0 G kc ks → ∀ (ls : Array Slot) (H : Heap) (locs : List Loc) (cells slots : Nat), lv_has ls 10 [(0, va_rf (some x0)), (3, .int x3), (4, .int x4), (5, .int x5), (6, va_rf x6)] → xW V A G H → va_S A s.heap H locs → cells + kc ≤ R.cells → slots + ks ≤ R.slots → W p l e R s m args below meth c H locs cells slots Z (F0 m 39 ls [.int y0]) := by
    intro x6 y0 G kc ks h
    intro ls H locs cells slots hl hW hS hkc hks
    obtain ⟨c31, s32, hc39, hs39, h⟩ := h
    refine call_X1_checkArgument_S (ct_X1_checkArgument l hfl) C hW hS q787 (le_lit hRf rfl) (le_lit hRl rfl) hc39 hs39 hkc hks hl.1 (Nat.le_of_ble_eq_true rfl) dX1_key_39 h (fun E G9 ce q9 H locs hX hW hS h1 h2 h3 _ => hxo E G9 ce q9 39 ls H locs _ _ _ hW hS hX h1 h2 h3 (by omega) (by omega)) (fun  H locs h hW hS _ hkc hks => ?_)
    refine sh_aload hx hb dX1_key_42 (lv_at hl 4 rfl) ?_
    refine lv_iload_n hx hb dX1_key_44 rfl (lv_at hl 1 rfl) ?_
    obtain ⟨a33, c34, ho45, hcv45, h⟩ := h
    have hcc := h.1
    have h := h.2
    refine call_X8_has_V (ct_X8_has l) C hW hS q1233 ho45 hcv45 hcc (le_lit hRf rfl) (le_lit hRl rfl) ⟨Nat.le_trans (Nat.le_add_right _ _) hkc, Nat.le_trans (Nat.le_add_right _ _) hks⟩ hl.1 (Nat.le_of_ble_eq_true rfl) dX1_key_45 h (fun r35 H locs h hW hS _ => ?_)
    refine lv_istore (lv' := [(7, .int r35), (0, va_rf (some x0)), (3, .int x3), (4, .int x4), (5, .int x5), (6, va_rf x6)]) hx hb dX1_key_48 hl (by decide) (by simp only [List.filter_cons, List.filter_nil, va_rf_cat]; rfl) (fun ls hl => ?_)
    refine lv_iload hx hb dX1_key_50 (lv_at hl 0 rfl) ?_
    refine lv_if_ne (tgt := 70) hx hb dX1_key_52 (by decide) (fun c41 => ?_) (fun c41 => ?_)
    · have h := wif_f h c41
      exact hb70 _ _ _ _ _ h ls H locs _ _ (lv_sub hl [1, 2, 3, 4, 5, 0] rfl) hW hS hkc hks
    · have h := wif_t h c41
      refine sh_aload hx hb dX1_key_55 (lv_at hl 5 rfl) ?_
      obtain ⟨v36, h1, h⟩ := h
      refine sh_getN C hW xFb_28 q821 (fun _ h => h) (by decide) h1 dX1_key_57 ?_
      obtain ⟨a37, c38, ho60, hcv60, h⟩ := h
      have hcc := h.1
      have h := h.2
      refine call_J2_size_F15_List (ct_J2_size l) C hW hS q225 ho60 hcv60 hcc (le_lit hRf rfl) (le_lit hRl rfl) ⟨Nat.le_trans (Nat.le_add_right _ _) hkc, Nat.le_trans (Nat.le_add_right _ _) hks⟩ hl.1 (Nat.le_of_ble_eq_true rfl) dX1_key_60 h (fun r39 H locs h hW hS _ => ?_)
      refine lv_bipush (v := 8) hx hb dX1_key_65 (by decide) ?_
      refine lv_icmp_ge (tgt := 74) hx hb dX1_key_67 (by decide) (fun c40 => ?_) (fun c40 => ?_)
      · have h := wif_t h c40
        refine lv_iconst (v := 0) hx hb dX1_key_74 (by decide) ?_
        exact hb75 _ _ _ _ _ _ h ls H locs _ _ (lv_sub hl [1, 2, 3, 4, 5, 0] rfl) hW hS hkc hks
      · have h := wif_f h c40
        exact hb70 _ _ _ _ _ h ls H locs _ _ (lv_sub hl [1, 2, 3, 4, 5, 0] rfl) hW hS hkc hks
  have hb38 : ∀ (x6 : Option Nat) (G : GM) (kc : Nat) (ks : Nat), w_X1_key_38 V Q X x0 x3 x4 x5 x6 G kc ks → ∀ (ls : Array Slot) (H : Heap) (locs : List Loc) (cells slots : Nat), lv_has ls 10 [(0, va_rf (some x0)), (3, .int x3), (4, .int x4), (5, .int x5), (6, va_rf x6)] → xW V A G H → va_S A s.heap H locs → cells + kc ≤ R.cells → slots + ks ≤ R.slots → W p l e R s m args below meth c H locs cells slots Z (F0 m 38 ls []) := by
    intro x6 G kc ks h
    intro ls H locs cells slots hl hW hS hkc hks
    refine lv_iconst (v := 0) hx hb dX1_key_38 (by decide) ?_
    exact hb39 _ _ _ _ _ h ls H locs _ _ (lv_sub hl [0, 1, 2, 3, 4] rfl) hW hS hkc hks
  intro h
  intro ls H locs cells slots hl hW hS hkc hks
  refine sh_aload_n hx hb dX1_key_0 rfl (lv_at hl 0 rfl) ?_
  refine lv_iload_n hx hb dX1_key_1 rfl (lv_at hl 1 rfl) ?_
  refine lv_iload_n hx hb dX1_key_2 rfl (lv_at hl 2 rfl) ?_
  obtain ⟨a42, c43, ho3, hcv3, h⟩ := h
  have hcc := h.1
  have h := h.2
  obtain ⟨c45, s46, hc3, hs3, h⟩ := h
  refine call_X1_keyed_V (ct_X1_keyed l hfl) C hW hS q1224 ho3 hcv3 hcc (le_lit hRf rfl) (le_lit hRl rfl) hc3 hs3 hkc hks hl.1 (Nat.le_of_ble_eq_true rfl) dX1_key_3 h (fun E G9 ce q9 H locs hX hW hS h1 h2 h3 _ => hxo E G9 ce q9 3 ls H locs _ _ _ hW hS hX h1 h2 h3 (by omega) (by omega)) (fun r44 H locs h hW hS _ hkc hks => ?_)
  refine sh_astore (lv' := [(6, va_rf r44), (0, va_rf (some x0)), (1, .int x1), (2, .int x2), (3, .int x3), (4, .int x4), (5, .int x5)]) hx hb dX1_key_6 hl (by decide) rfl (fun ls hl => ?_)
  refine lv_iload_n hx hb dX1_key_8 rfl (lv_at hl 4 rfl) ?_
  obtain ⟨c47, s48, hc9, hs9, h⟩ := h
  refine call_X1_checkTime_S (ct_X1_checkTime l hfl) C hW hS q1228 (le_lit hRf rfl) (le_lit hRl rfl) hc9 hs9 hkc hks hl.1 (Nat.le_of_ble_eq_true rfl) dX1_key_9 h (fun E G9 ce q9 H locs hX hW hS h1 h2 h3 _ => hxo E G9 ce q9 9 ls H locs _ _ _ hW hS hX h1 h2 h3 (by omega) (by omega)) (fun  H locs h hW hS _ hkc hks => ?_)
  refine lv_iload hx hb dX1_key_12 (lv_at hl 5 rfl) ?_
  refine lv_ldc hx hb hown (hts _ q1231) dX1_key_14 ?_
  refine lv_ldc hx hb hown (hts _ q1232) dX1_key_16 ?_
  refine call_X1_isBetween_S (ct_X1_isBetween l) C hW hS q593 (le_lit hRf rfl) (le_lit hRl rfl) ⟨Nat.le_trans (Nat.le_add_right _ _) hkc, Nat.le_trans (Nat.le_add_right _ _) hks⟩ hl.1 (Nat.le_of_ble_eq_true rfl) dX1_key_18 h (fun r49 H locs h hW hS _ => ?_)
  refine lv_if_eq (tgt := 38) hx hb dX1_key_21 (by decide) (fun c52 => ?_) (fun c52 => ?_)
  · have h := wif_t h c52
    exact hb38 _ _ _ _ h ls H locs _ _ (lv_sub hl [1, 4, 5, 6, 0] rfl) hW hS hkc hks
  · have h := wif_f h c52
    refine lv_iload hx hb dX1_key_24 (lv_at hl 6 rfl) ?_
    refine lv_iconst (v := 0) hx hb dX1_key_26 (by decide) ?_
    refine lv_iconst (v := 2) hx hb dX1_key_27 (by decide) ?_
    refine call_X1_isBetween_S (ct_X1_isBetween l) C hW hS q593 (le_lit hRf rfl) (le_lit hRl rfl) ⟨Nat.le_trans (Nat.le_add_right _ _) hkc, Nat.le_trans (Nat.le_add_right _ _) hks⟩ hl.1 (Nat.le_of_ble_eq_true rfl) dX1_key_28 h (fun r50 H locs h hW hS _ => ?_)
    refine lv_if_eq (tgt := 38) hx hb dX1_key_31 (by decide) (fun c51 => ?_) (fun c51 => ?_)
    · have h := wif_t h c51
      exact hb38 _ _ _ _ h ls H locs _ _ (lv_sub hl [1, 4, 5, 6, 0] rfl) hW hS hkc hks
    · have h := wif_f h c51
      refine lv_iconst (v := 1) hx hb dX1_key_34 (by decide) ?_
      refine lv_goto (tgt := 39) hx hb dX1_key_35 (by decide) ?_
      exact hb39 _ _ _ _ _ h ls H locs _ _ (lv_sub hl [1, 4, 5, 6, 0] rfl) hW hS hkc hks
theorem ct_X1_key (l : Launch) (hfl : l.stackTraces = false) : CT_X1_key l 15 264 w_X1_key := by
  intro V sz G Q X x0 x1 x2 x3 x4 x5 kc ks
  refine vx_ofW (cc := cX1_key) (maxL := 10) (ret := (some .int)) (by decide) rfl ?_
  intro p e s m args below meth c s₁ B hml hext hv
  obtain ⟨rfl, hsz, hW, hK, hZ, h⟩ := hv
  subst hsz
  have hts := atoms_spec (ws := (ws_ yX1_key cX1_key 10 (some .int))) B.pre
  have hts : ∀ w ∈ lw_all, w.before _ s = true := fun w h => hts w (List.mem_cons_of_mem _ h)
  have hl := lv_entry ([.ref x0, .int x1, .int x2, .int x3, .int x4, .int x5]) (n := 10) (Nat.le_of_ble_eq_true rfl)
  rw [lg_entry_eq]
  generalize (lg_sl ([.ref x0, .int x1, .int x2, .int x3, .int x4, .int x5]) ++ List.replicate (10 - (lg_sl ([.ref x0, .int x1, .int x2, .int x3, .int x4, .int x5])).length) Slot.unset).toArray = ls at hl ⊢
  exact wk_X1_key Q X ⟨⟨B.exec, B.bytes, hml, findClass_of_methodNamed B.named, hts⟩, hK, hZ, fun q h => Or.inr h⟩ hfl (Nat.le_refl _) (Nat.le_refl _) G (fun v G pc ls H locs cells slots _ _ hd hW1 hS hkc hks hQ => W.widen (k := kc) (n := ks) (Nat.le_trans (Nat.le_add_right _ _) hkc) (Nat.le_trans (Nat.le_add_right _ _) hks) (vx_ret (W.iret (v := v) B.exec B.bytes B.returns (fun t ht _ => ⟨⟨v, G, rfl, hQ, by rw [← ht] at hW1; exact hW1⟩, hS.F ht⟩) hS.2.2 hd))) (fun E G9 ce q pc ls H locs cells slots rest hW1 hS hX h1 h2 h3 hc hs => vx_out (fun x hx => absurd (hext x hx) id) B.notSynchronized h1 h2 h3 (fun t ht _ => ⟨(E, G9), hX, ⟨rfl, by rw [← ht] at hW1; exact hW1⟩, hS.F ht⟩) hS.2.2 hc hs) x0 x1 x2 x3 x4 x5 kc ks h ls _ [] 0 0 hl hW va_S.rf (by show 0 + kc ≤ kc; omega) (by show 0 + ks ≤ ks; omega)
def CT_X0_key (l : Launch) (fr lo : Nat) (w : XV → (Int32 → GM → Prop) → (Option Nat) → Int32 → Int32 → Int32 → Int32 → Int32 → (Option Nat) → GM → Nat → Nat → Prop) : Prop := ∀ (V : XV) (sz : Nat) (G : GM) (Q : Int32 → GM → Prop) (x0 : Option Nat) (x1 : Int32) (x2 : Int32) (x3 : Int32) (x4 : Int32) (x5 : Int32) (x6 : Option Nat) (kc ks : Nat), Met l yX0_key (wsW_ yX0_key cX0_key 8 (some .int) [(0, 16, 19, 19), (0, 16, 23, 21), (0, 16, 27, 13)]) { frames := fr, cells := kc, slots := ks, locals := lo } (va_Pc [va_rf x0, .int x1, .int x2, .int x3, .int x4, .int x5, va_rf x6] (fun U => U.heap.size = sz ∧ xW V (xA G sz) G U.heap ∧ xK V U ∧ xZ V (xA G sz) U U.heap ∧ w V Q x0 x1 x2 x3 x4 x5 x6 G kc ks)) (va_Qi (fun r (u : GM) => Q r u) (fun u t => xW V (xA G sz) u t.heap) (xA G sz)) kc ks (xA G sz)
def w_X0_key (V : XV) (Q : Int32 → GM → Prop) (x0 : Option Nat) (x1 : Int32) (x2 : Int32) (x3 : Int32) (x4 : Int32) (x5 : Int32) (x6 : Option Nat) (G : GM) (kc : Nat) (ks : Nat) : Prop := gRcv G x0 (fun a1 c2 => (c2 % 64 = 0) ∧ (∃ c5 s6 : Nat, c5 ≤ kc ∧ s6 ≤ ks ∧ (w_X1_key V (fun r3 G4 => gJS G4 1 x6 (0 : Int32) (r3.toInt64) (fun G7 => Q (0 : Int32) G7)) (fun E G9 => if E = "java/lang/IndexOutOfBoundsException" then Q (1 : Int32) G9 else (if E = "java/lang/IllegalArgumentException" then Q (2 : Int32) G9 else (if E = "java/lang/IllegalStateException" then Q (3 : Int32) G9 else (False)))) a1 x1 x2 x3 x4 x5 G c5 s6)))
set_option maxRecDepth 100000 in
set_option maxHeartbeats 4000000 in
theorem wk_X0_key {p : Program} {l : Launch} {e : Env} {R : Room} {s : State} {m : MethodId} {args : Array Value} {below : List Frame} {meth : Method} {c : Code} {Z : State → Prop} {A : Nat → Prop} {V : XV} (Q : Int32 → GM → Prop) (C : xC p m c s args cX0_key 8 RX0 V A) (hfl : l.stackTraces = false) (htab : c.exceptionTable.toList = tableOf [(0, 16, 19, 19), (0, 16, 23, 21), (0, 16, 27, 13)]) (hRf : 16 ≤ R.frames) (hRl : 293 ≤ R.locals) (G : GM) (hret : ∀ (v : Int32) (G : GM) (pc : Nat) (ls : Array Slot) (H : Heap) (locs : List Loc) (cells slots : Nat) {k1 k2 : Nat}, decode cX0_key pc = .ok (.ireturn, 1) → xW V A G H → va_S A s.heap H locs → cells + k1 ≤ R.cells → slots + k2 ≤ R.slots → Q v G → W p l e R s m args below meth c H locs cells slots Z (F0 m pc ls [.int v])) (x0 : Option Nat) (x1 : Int32) (x2 : Int32) (x3 : Int32) (x4 : Int32) (x5 : Int32) (x6 : Option Nat) (kc ks : Nat) : w_X0_key V Q x0 x1 x2 x3 x4 x5 x6 G kc ks → ∀ (ls : Array Slot) (H : Heap) (locs : List Loc) (cells slots : Nat), lv_has ls 8 [(0, va_rf x0), (1, .int x1), (2, .int x2), (3, .int x3), (4, .int x4), (5, .int x5), (6, va_rf x6)] → xW V A G H → va_S A s.heap H locs → cells + kc ≤ R.cells → slots + ks ≤ R.slots → W p l e R s m args below meth c H locs cells slots Z (F0 m 0 ls []) := by
  have hx := C.1.1; have hb := C.1.2.1; have hml := C.1.2.2.1; have hown := C.1.2.2.2.1; have hts := C.1.2.2.2.2
  intro h
  intro ls H locs cells slots hl hW hS hkc hks
  refine sh_aload hx hb dX0_key_0 (lv_at hl 6 rfl) ?_
  refine lv_iconst (v := 0) hx hb dX0_key_2 (by decide) ?_
  refine sh_aload_n hx hb dX0_key_3 rfl (lv_at hl 0 rfl) ?_
  refine lv_iload_n hx hb dX0_key_4 rfl (lv_at hl 1 rfl) ?_
  refine lv_iload_n hx hb dX0_key_5 rfl (lv_at hl 2 rfl) ?_
  refine lv_iload_n hx hb dX0_key_6 rfl (lv_at hl 3 rfl) ?_
  refine lv_iload hx hb dX0_key_7 (lv_at hl 4 rfl) ?_
  refine lv_iload hx hb dX0_key_9 (lv_at hl 5 rfl) ?_
  obtain ⟨a1, c2, ho11, hcv11, h⟩ := h
  have hcc := h.1
  have h := h.2
  obtain ⟨c5, s6, hc11, hs11, h⟩ := h
  refine call_X1_key_V (ct_X1_key l hfl) C hW hS q1220 ho11 hcv11 hcc (le_lit hRf rfl) (le_lit hRl rfl) hc11 hs11 hkc hks hl.1 (by simp only [List.map_cons, List.map_nil, va_rf_cat]; exact Nat.le_of_ble_eq_true rfl) dX0_key_11 h (fun E G9 ce q9 H locs hX hW hS h1 h2 h3 _ => by
      by_cases c900 : E = "java/lang/IndexOutOfBoundsException"
      · have hX := wif_t hX c900
        subst c900
        refine vx_catch hown [] ⟨0, 16, 19, 19⟩ [⟨0, 16, 23, 21⟩, ⟨0, 16, 27, 13⟩] (htab.trans rfl) (fun z hz => absurd hz List.not_mem_nil) rfl (by decide) (hts _ q740) (va_Nw.use rfl (C.2.1.2.2.1 _ q757 rfl)) h1 h2 h3 ?_
        refine sh_astore (lv' := [(7, va_rf (some q9)), (0, va_rf x0), (1, .int x1), (2, .int x2), (3, .int x3), (4, .int x4), (5, .int x5), (6, va_rf x6)]) hx hb dX0_key_19 hl (by decide) (by simp only [List.filter_cons, List.filter_nil, va_rf_cat]; rfl) (fun ls hl => ?_)
        refine lv_iconst (v := 1) hx hb dX0_key_21 (by decide) ?_
        exact hret _ _ _ _ _ _ _ _ (k1 := 0) (k2 := 0) dX0_key_22 hW hS (by omega) (by omega) hX
      have hX := wif_f hX c900
      by_cases c901 : E = "java/lang/IllegalArgumentException"
      · have hX := wif_t hX c901
        subst c901
        refine vx_catch hown [⟨0, 16, 19, 19⟩] ⟨0, 16, 23, 21⟩ [⟨0, 16, 27, 13⟩] (htab.trans rfl) (by intro z hz; simp only [List.mem_cons, List.not_mem_nil, or_false] at hz; rcases hz with rfl <;> first | (exact Or.inr ⟨by decide, "java/lang/IndexOutOfBoundsException", hts _ q740, C.2.1.2.2.2.2.2.2.1 ("java/lang/IllegalArgumentException", "java/lang/IndexOutOfBoundsException") (by decide)⟩)) rfl (by decide) (hts _ q743) (va_Nw.use rfl (C.2.1.2.2.1 _ q441 rfl)) h1 h2 h3 ?_
        refine sh_astore (lv' := [(7, va_rf (some q9)), (0, va_rf x0), (1, .int x1), (2, .int x2), (3, .int x3), (4, .int x4), (5, .int x5), (6, va_rf x6)]) hx hb dX0_key_23 hl (by decide) (by simp only [List.filter_cons, List.filter_nil, va_rf_cat]; rfl) (fun ls hl => ?_)
        refine lv_iconst (v := 2) hx hb dX0_key_25 (by decide) ?_
        exact hret _ _ _ _ _ _ _ _ (k1 := 0) (k2 := 0) dX0_key_26 hW hS (by omega) (by omega) hX
      have hX := wif_f hX c901
      by_cases c902 : E = "java/lang/IllegalStateException"
      · have hX := wif_t hX c902
        subst c902
        refine vx_catch hown [⟨0, 16, 19, 19⟩, ⟨0, 16, 23, 21⟩] ⟨0, 16, 27, 13⟩ [] (htab.trans rfl) (by intro z hz; simp only [List.mem_cons, List.not_mem_nil, or_false] at hz; rcases hz with rfl | rfl <;> first | (exact Or.inr ⟨by decide, "java/lang/IndexOutOfBoundsException", hts _ q740, C.2.1.2.2.2.2.2.2.1 ("java/lang/IllegalStateException", "java/lang/IndexOutOfBoundsException") (by decide)⟩) | (exact Or.inr ⟨by decide, "java/lang/IllegalArgumentException", hts _ q743, C.2.1.2.2.2.2.2.2.1 ("java/lang/IllegalStateException", "java/lang/IllegalArgumentException") (by decide)⟩)) rfl (by decide) (hts _ q628) (va_Nw.use rfl (C.2.1.2.2.1 _ q638 rfl)) h1 h2 h3 ?_
        refine sh_astore (lv' := [(7, va_rf (some q9)), (0, va_rf x0), (1, .int x1), (2, .int x2), (3, .int x3), (4, .int x4), (5, .int x5), (6, va_rf x6)]) hx hb dX0_key_27 hl (by decide) (by simp only [List.filter_cons, List.filter_nil, va_rf_cat]; rfl) (fun ls hl => ?_)
        refine lv_iconst (v := 3) hx hb dX0_key_29 (by decide) ?_
        exact hret _ _ _ _ _ _ _ _ (k1 := 0) (k2 := 0) dX0_key_30 hW hS (by omega) (by omega) hX
      have hX := wif_f hX c902
      exact False.elim hX) (fun r3 G4 H locs h hW hS _ hkc hks => ?_)
  refine lv_i2l hx hb dX0_key_14 rfl ?_
  refine sh_last C hW hS h dX0_key_15 (fun G7 H locs hW hS h => ?_)
  refine lv_goto (tgt := 31) hx hb dX0_key_16 (by decide) ?_
  refine lv_iconst (v := 0) hx hb dX0_key_31 (by decide) ?_
  exact hret _ _ _ _ _ _ _ _ dX0_key_32 hW hS hkc hks h
theorem ct_X0_key (l : Launch) (hfl : l.stackTraces = false) : CT_X0_key l 16 293 w_X0_key := by
  intro V sz G Q x0 x1 x2 x3 x4 x5 x6 kc ks
  refine gx_ofWH (cc := cX0_key) (maxL := 8) (ret := (some .int)) (hh := [(0, 16, 19, 19), (0, 16, 23, 21), (0, 16, 27, 13)]) (by decide) rfl ?_
  intro p e s m args below meth c s₁ B hml htab hv
  obtain ⟨rfl, hsz, hW, hK, hZ, h⟩ := hv
  subst hsz
  have hts := atoms_spec (ws := (wsW_ yX0_key cX0_key 8 (some .int) [(0, 16, 19, 19), (0, 16, 23, 21), (0, 16, 27, 13)])) B.pre
  have hts : ∀ w ∈ lw_all, w.before _ s = true := fun w h => hts w (List.mem_cons_of_mem _ h)
  have key : ∃ ls : Array Slot, entryFrame m ([va_rf x0, .int x1, .int x2, .int x3, .int x4, .int x5, va_rf x6] : List Value).toArray 8 = F0 m 0 ls [] ∧ lv_has ls 8 [(0, va_rf x0), (1, .int x1), (2, .int x2), (3, .int x3), (4, .int x4), (5, .int x5), (6, va_rf x6)] := by
    cases x0 <;> cases x6 <;> (refine ⟨_, by rw [lg_entry_eq], ?_⟩; exact lv_entry _ (Nat.le_of_ble_eq_true rfl))
  obtain ⟨ls, hfr, hl⟩ := key
  rw [hfr]
  exact wk_X0_key Q ⟨⟨B.exec, B.bytes, hml, findClass_of_methodNamed B.named, hts⟩, hK, hZ, fun q h => Or.inr h⟩ hfl htab (Nat.le_refl _) (Nat.le_refl _) G (fun v G pc ls H locs cells slots _ _ hd hW1 hS hkc hks hQ => W.widen (k := kc) (n := ks) (Nat.le_trans (Nat.le_add_right _ _) hkc) (Nat.le_trans (Nat.le_add_right _ _) hks) (W.iret (v := v) B.exec B.bytes B.returns (fun t ht _ => ⟨⟨v, G, rfl, hQ, by rw [← ht] at hW1; exact hW1⟩, hS.F ht⟩) hS.2.2 hd)) x0 x1 x2 x3 x4 x5 x6 kc ks h ls _ [] 0 0 hl hW va_S.rf (by show 0 + kc ≤ kc; omega) (by show 0 + ks ≤ ks; omega)
def CT_X1_unkey (l : Launch) (fr lo : Nat) (w : XV → (Int32 → GM → Prop) → (String → GM → Prop) → Nat → Int32 → Int32 → Int32 → GM → Nat → Nat → Prop) : Prop := ∀ (V : XV) (sz : Nat) (G : GM) (Q : Int32 → GM → Prop) (X : String → GM → Prop) (x0 : Nat) (x1 : Int32) (x2 : Int32) (x3 : Int32) (kc ks : Nat), vx_Met l yX1_unkey (ws_ yX1_unkey cX1_unkey 6 (some .int)) { frames := fr, cells := kc, slots := ks, locals := lo } (va_Pc [.ref x0, .int x1, .int x2, .int x3] (fun U => U.heap.size = sz ∧ xW V (xA G sz) G U.heap ∧ xK V U ∧ xZ V (xA G sz) U U.heap ∧ w V Q X x0 x1 x2 x3 G kc ks)) (va_Qi (fun r (u : GM) => Q r u) (fun u t => xW V (xA G sz) u t.heap) (xA G sz)) (vx_X (fun u : String × GM => X u.1 u.2) (fun E u t => E = u.1 ∧ xW V (xA G sz) u.2 t.heap) (xA G sz)) kc ks (xA G sz)
theorem call_X1_unkey_V {p : Program} {l : Launch} {e : Env} {R : Room} {s : State} {m : MethodId} {args : Array Value} {below : List Frame} {meth : Method} {c : Code} {H : Heap} {locs : List Loc} {cells slots : Nat} {Z : State → Prop} {A : Nat → Prop} {cc : ByteArray} {nL pc : Nat} {ls : Array Slot} {rest : List Value} {own : String} {index fr lo : Nat} {w : XV → (Int32 → GM → Prop) → (String → GM → Prop) → Nat → Int32 → Int32 → Int32 → GM → Nat → Nat → Prop} {V : XV} {G : GM} {o : Option Nat} {ci : Nat} {kc ks c1 s1 : Nat} {x0 : Nat} {x1 : Int32} {x2 : Int32} {x3 : Int32} (hM : CT_X1_unkey l fr lo w) (C : xC p m c s args cc nL own V A) (hW : xW V A G H) (hS : va_S A s.heap H locs) (hlink : Cond.methodLink own index yX1_unkey ∈ lw_all) (ho : o = some x0) (hcv : gCi G (some x0) = some ci) (hci : ci % 64 = 0) (hRf : fr + 1 ≤ R.frames) (hRl : 8 + (6 + 11) + lo ≤ R.locals) (hc1 : c1 ≤ kc) (hs1 : s1 ≤ ks) (hkc : cells + kc ≤ R.cells) (hks : slots + ks ≤ R.slots) (hz : ls.size = nL) (hr8 : (rest.map fun v => v.category).sum ≤ 8) (hdg : decode cc pc = .ok (.invokevirtual index, 3)) {Q1 : Int32 → GM → Prop} {X1 : String → GM → Prop} (h : w V Q1 X1 x0 x1 x2 x3 G c1 s1) (kx : ∀ (E : String) (G1 : GM) (ce : Cell) (q9 : Addr) (H1 : Heap) (locs1 : List Loc), X1 E G1 → xW V A G1 H1 → va_S A s.heap H1 locs1 → H1[q9]? = some ce → ce.vm = .none → s.vm.findClass E = some ce.cls → xFr V G G1 H H1 → vx_W p l e R s m args below meth c H1 locs1 (cells + c1) (slots + s1) Z (F0 m pc ls rest) q9) (kk : ∀ (r : Int32) (G1 : GM) (H1 : Heap) (locs1 : List Loc), Q1 r G1 → xW V A G1 H1 → va_S A s.heap H1 locs1 → xFr V G G1 H H1 → (cells + c1) + (kc - c1) ≤ R.cells → (slots + s1) + (ks - s1) ≤ R.slots → W p l e R s m args below meth c H1 locs1 (cells + c1) (slots + s1) Z (F0 m (pc + 3) ls (.int r :: rest))) : W p l e R s m args below meth c H locs cells slots Z (F0 m pc ls (.int x3 :: .int x2 :: .int x1 :: va_rf o :: rest)) := by
  subst ho
  obtain ⟨fs, hG⟩ := gCi_of hcv
  exact rx_i3w (vx_runV (As := [.int x1, .int x2, .int x3]) (rest := rest) C.1 (hM V H.size G Q1 X1 x0 x1 x2 x3 c1 s1) (cwV 3 C.1.2.2.2.2 (lw_V hlink q1296 q1297 q59 q1298) rfl rfl rfl (by decide +kernel) ⟨hRf, hRl⟩) ⟨fun a U g mk q => by obtain ⟨q0, q1, qW, qK, qZ, qw⟩ := q; exact ⟨q0, q1, qW, xK.same (u := U) (U := U.calling g mk a) rfl qK, xZ.moved (u := U) (U := U.calling g mk a) (Vm.Alike.refl U.vm) qZ, qw⟩, (hW.recv C.2.1 hG (r := (RX1, TX1, 6)) (by rw [hci]; rfl)), fun U hU hWm => ⟨rfl, by rw [hU], by rw [hU]; exact hW.self _, C.2.1.warm hWm, xZ.call C.2.2.1 hW hS C.2.2.2 hU hWm.alike, h⟩⟩ rfl rfl hz rfl (lv_room hr8) hdg ⟨by omega, by omega⟩) hW hS C.2.2.2 kx (fun r G1 H1 locs1 hp hW1 hS1 hF1 => kk r G1 H1 locs1 hp hW1 hS1 hF1 (by omega) (by omega))
def w_X1_unkey (V : XV) (Q : Int32 → GM → Prop) (X : String → GM → Prop) (x0 : Nat) (x1 : Int32) (x2 : Int32) (x3 : Int32) (G : GM) (kc : Nat) (ks : Nat) : Prop := gRcv G (some x0) (fun a1 c2 => (c2 % 64 = 0) ∧ (∃ c4 s5 : Nat, c4 ≤ kc ∧ s5 ≤ ks ∧ (w_X1_keyed V (fun r3 => gRcv G r3 (fun a6 c7 => (c7 % 64 = 7) ∧ (w_X8_has V (fun r8 => if r8 = 0 then (1 ≤ (kc - c4) ∧ 6 ≤ (ks - s5) ∧ X "java/util/NoSuchElementException" G) else (gGR G 28 r3 (fun v9 => gRcv G r3 (fun a10 c11 => (c11 % 64 = 7) ∧ (w_X8_placeOf V (fun r12 => gRcv G v9 (fun a13 c14 => (c14 % 64 = 15) ∧ (w_J2_remove_2 V (fun r15 G16 => gCk G16 [8] r15 (gGR G16 3 (some x0) (fun v17 => gRcv G16 v17 (fun a18 c19 => (c19 % 64 = 15) ∧ (w_J2_clear V (fun G20 => gGI G20 30 r15 (fun v21 => Q v21 G20)) a18 G16))))) a13 r12 G))) a10 x3 G))))) a6 x3 G))) X a1 x1 x2 G c4 s5)))
set_option maxRecDepth 100000 in
set_option maxHeartbeats 4000000 in
theorem wk_X1_unkey {p : Program} {l : Launch} {e : Env} {R : Room} {s : State} {m : MethodId} {args : Array Value} {below : List Frame} {meth : Method} {c : Code} {Z : State → Prop} {A : Nat → Prop} {V : XV} (Q : Int32 → GM → Prop) (X : String → GM → Prop) (C : xC p m c s args cX1_unkey 6 RX1 V A) (hfl : l.stackTraces = false) (hRf : 15 ≤ R.frames) (hRl : 264 ≤ R.locals) (G : GM) (hret : ∀ (v : Int32) (G : GM) (pc : Nat) (ls : Array Slot) (H : Heap) (locs : List Loc) (cells slots : Nat) {k1 k2 : Nat}, decode cX1_unkey pc = .ok (.ireturn, 1) → xW V A G H → va_S A s.heap H locs → cells + k1 ≤ R.cells → slots + k2 ≤ R.slots → Q v G → W p l e R s m args below meth c H locs cells slots Z (F0 m pc ls [.int v])) (hxo : ∀ (E : String) (G : GM) (ce : Cell) (q : Addr) (pc : Nat) (ls : Array Slot) (H : Heap) (locs : List Loc) (cells slots : Nat) (rest : List Value), xW V A G H → va_S A s.heap H locs → X E G → H[q]? = some ce → ce.vm = .none → s.vm.findClass E = some ce.cls → cells ≤ R.cells → slots ≤ R.slots → vx_W p l e R s m args below meth c H locs cells slots Z (F0 m pc ls rest) q) (hth17 : ∀ (G : GM) (ls : Array Slot) (H : Heap) (locs : List Loc) (cells slots : Nat) {k1 k2 : Nat}, ls.size = 6 → xW V A G H → va_S A s.heap H locs → cells + k1 ≤ R.cells → slots + k2 ≤ R.slots → 1 ≤ k1 → 6 ≤ k2 → X "java/util/NoSuchElementException" G → W p l e R s m args below meth c H locs cells slots Z (F0 m 17 ls [])) (x0 : Nat) (x1 : Int32) (x2 : Int32) (x3 : Int32) (kc ks : Nat) : w_X1_unkey V Q X x0 x1 x2 x3 G kc ks → ∀ (ls : Array Slot) (H : Heap) (locs : List Loc) (cells slots : Nat), lv_has ls 6 [(0, va_rf (some x0)), (1, .int x1), (2, .int x2), (3, .int x3)] → xW V A G H → va_S A s.heap H locs → cells + kc ≤ R.cells → slots + ks ≤ R.slots → W p l e R s m args below meth c H locs cells slots Z (F0 m 0 ls []) := by
  have hx := C.1.1; have hb := C.1.2.1; have hml := C.1.2.2.1; have hown := C.1.2.2.2.1; have hts := C.1.2.2.2.2
  intro h
  intro ls H locs cells slots hl hW hS hkc hks
  refine sh_aload_n hx hb dX1_unkey_0 rfl (lv_at hl 0 rfl) ?_
  refine lv_iload_n hx hb dX1_unkey_1 rfl (lv_at hl 1 rfl) ?_
  refine lv_iload_n hx hb dX1_unkey_2 rfl (lv_at hl 2 rfl) ?_
  obtain ⟨a1, c2, ho3, hcv3, h⟩ := h
  have hcc := h.1
  have h := h.2
  obtain ⟨c4, s5, hc3, hs3, h⟩ := h
  refine call_X1_keyed_V (ct_X1_keyed l hfl) C hW hS q1224 ho3 hcv3 hcc (le_lit hRf rfl) (le_lit hRl rfl) hc3 hs3 hkc hks hl.1 (Nat.le_of_ble_eq_true rfl) dX1_unkey_3 h (fun E G9 ce q9 H locs hX hW hS h1 h2 h3 _ => hxo E G9 ce q9 3 ls H locs _ _ _ hW hS hX h1 h2 h3 (by omega) (by omega)) (fun r3 H locs h hW hS _ hkc hks => ?_)
  refine sh_astore (lv' := [(4, va_rf r3), (0, va_rf (some x0)), (1, .int x1), (2, .int x2), (3, .int x3)]) hx hb dX1_unkey_6 hl (by decide) rfl (fun ls hl => ?_)
  refine sh_aload hx hb dX1_unkey_8 (lv_at hl 0 rfl) ?_
  refine lv_iload_n hx hb dX1_unkey_10 rfl (lv_at hl 4 rfl) ?_
  obtain ⟨a6, c7, ho11, hcv11, h⟩ := h
  have hcc := h.1
  have h := h.2
  refine call_X8_has_V (ct_X8_has l) C hW hS q1233 ho11 hcv11 hcc (le_lit hRf rfl) (le_lit hRl rfl) ⟨Nat.le_trans (Nat.le_add_right _ _) hkc, Nat.le_trans (Nat.le_add_right _ _) hks⟩ hl.1 (Nat.le_of_ble_eq_true rfl) dX1_unkey_11 h (fun r8 H locs h hW hS _ => ?_)
  refine lv_if_ne (tgt := 25) hx hb dX1_unkey_14 (by decide) (fun c22 => ?_) (fun c22 => ?_)
  · have h := wif_f h c22
    refine sh_aload hx hb dX1_unkey_25 (lv_at hl 0 rfl) ?_
    obtain ⟨v9, h1, h⟩ := h
    refine sh_getN C hW xFb_28 q821 (fun _ h => h) (by decide) h1 dX1_unkey_27 ?_
    refine sh_aload hx hb dX1_unkey_30 (lv_at hl 0 rfl) ?_
    refine lv_iload_n hx hb dX1_unkey_32 rfl (lv_at hl 4 rfl) ?_
    obtain ⟨a10, c11, ho33, hcv33, h⟩ := h
    have hcc := h.1
    have h := h.2
    refine call_X8_placeOf_V (ct_X8_placeOf l) C hW hS q1246 ho33 hcv33 hcc (le_lit hRf rfl) (le_lit hRl rfl) ⟨Nat.le_trans (Nat.le_add_right _ _) hkc, Nat.le_trans (Nat.le_add_right _ _) hks⟩ hl.1 (by simp only [List.map_cons, List.map_nil, va_rf_cat]; exact Nat.le_of_ble_eq_true rfl) dX1_unkey_33 h (fun r12 H locs h hW hS _ => ?_)
    obtain ⟨a13, c14, ho36, hcv36, h⟩ := h
    have hcc := h.1
    have h := h.2
    refine call_J2_remove_2_F15_List (ct_J2_remove_2 l) C hW hS q1151 ho36 hcv36 hcc (le_lit hRf rfl) (le_lit hRl rfl) ⟨Nat.le_trans (Nat.le_add_right _ _) hkc, Nat.le_trans (Nat.le_add_right _ _) hks⟩ hl.1 (Nat.le_of_ble_eq_true rfl) dX1_unkey_36 h (fun r15 G16 H locs h hW hS _ => ?_)
    refine sh_cast C hW q1247 xCa_Shapelayer_Key h dX1_unkey_41 (fun h => ?_)
    refine sh_astore (lv' := [(5, va_rf r15), (4, va_rf r3), (0, va_rf (some x0)), (1, .int x1), (2, .int x2), (3, .int x3)]) hx hb dX1_unkey_44 hl (by decide) (by simp only [List.filter_cons, List.filter_nil, va_rf_cat]; rfl) (fun ls hl => ?_)
    refine sh_aload_n hx hb dX1_unkey_46 rfl (lv_at hl 2 rfl) ?_
    obtain ⟨v17, h1, h⟩ := h
    refine sh_get C hW xFb_3 q204 (fun _ h => h) h1 dX1_unkey_47 ?_
    obtain ⟨a18, c19, ho50, hcv50, h⟩ := h
    have hcc := h.1
    have h := h.2
    refine call_J2_clear_F15_List (ct_J2_clear l) C hW hS q235 ho50 hcv50 hcc (le_lit hRf rfl) (le_lit hRl rfl) ⟨Nat.le_trans (Nat.le_add_right _ _) hkc, Nat.le_trans (Nat.le_add_right _ _) hks⟩ hl.1 (Nat.le_of_ble_eq_true rfl) dX1_unkey_50 h (fun G20 H locs h hW hS _ => ?_)
    refine sh_aload hx hb dX1_unkey_55 (lv_at hl 0 rfl) ?_
    obtain ⟨v21, h1, h⟩ := h
    refine sh_getN C hW xFb_30 q1281 (fun _ h => h) (by decide) h1 dX1_unkey_57 ?_
    exact hret _ _ _ _ _ _ _ _ dX1_unkey_60 hW hS hkc hks h
  · have h := wif_t h c22
    exact hth17 _ ls H locs _ _ hl.1 hW hS hkc hks h.1 h.2.1 h.2.2
theorem ct_X1_unkey (l : Launch) (hfl : l.stackTraces = false) : CT_X1_unkey l 15 264 w_X1_unkey := by
  intro V sz G Q X x0 x1 x2 x3 kc ks
  refine vx_ofW (cc := cX1_unkey) (maxL := 6) (ret := (some .int)) (by decide) rfl ?_
  intro p e s m args below meth c s₁ B hml hext hv
  obtain ⟨rfl, hsz, hW, hK, hZ, h⟩ := hv
  subst hsz
  have hts := atoms_spec (ws := (ws_ yX1_unkey cX1_unkey 6 (some .int))) B.pre
  have hts : ∀ w ∈ lw_all, w.before _ s = true := fun w h => hts w (List.mem_cons_of_mem _ h)
  have hl := lv_entry ([.ref x0, .int x1, .int x2, .int x3]) (n := 6) (Nat.le_of_ble_eq_true rfl)
  rw [lg_entry_eq]
  generalize (lg_sl ([.ref x0, .int x1, .int x2, .int x3]) ++ List.replicate (6 - (lg_sl ([.ref x0, .int x1, .int x2, .int x3])).length) Slot.unset).toArray = ls at hl ⊢
  exact wk_X1_unkey Q X ⟨⟨B.exec, B.bytes, hml, findClass_of_methodNamed B.named, hts⟩, hK, hZ, fun q h => Or.inr h⟩ hfl (Nat.le_refl _) (Nat.le_refl _) G (fun v G pc ls H locs cells slots _ _ hd hW1 hS hkc hks hQ => W.widen (k := kc) (n := ks) (Nat.le_trans (Nat.le_add_right _ _) hkc) (Nat.le_trans (Nat.le_add_right _ _) hks) (vx_ret (W.iret (v := v) B.exec B.bytes B.returns (fun t ht _ => ⟨⟨v, G, rfl, hQ, by rw [← ht] at hW1; exact hW1⟩, hS.F ht⟩) hS.2.2 hd))) (fun E G9 ce q pc ls H locs cells slots rest hW1 hS hX h1 h2 h3 hc hs => vx_out (fun x hx => absurd (hext x hx) id) B.notSynchronized h1 h2 h3 (fun t ht _ => ⟨(E, G9), hX, ⟨rfl, by rw [← ht] at hW1; exact hW1⟩, hS.F ht⟩) hS.2.2 hc hs) (fun G9 ls H locs cells slots _ _ hz hW1 hS hkc hks h1 h6 hX => sh_throw ⟨⟨B.exec, B.bytes, hml, findClass_of_methodNamed B.named, hts⟩, hK, hZ, fun q h => Or.inr h⟩ hfl (fun x hx => (hext x hx).elim) B.notSynchronized xEx_nse hz hW1 hS (by show 12 ≤ 15; decide) (by show 200 ≤ 264; decide) (Nat.le_trans (Nat.add_le_add_left h1 _) hkc) (Nat.le_trans (Nat.add_le_add_left h6 _) hks) (Nat.le_refl _) (Nat.le_refl _) dX1_unkey_17 dX1_unkey_20 dX1_unkey_21 dX1_unkey_24 hX) x0 x1 x2 x3 kc ks h ls _ [] 0 0 hl hW va_S.rf (by show 0 + kc ≤ kc; omega) (by show 0 + ks ≤ ks; omega)
def CT_X0_unkey (l : Launch) (fr lo : Nat) (w : XV → (Int32 → GM → Prop) → (Option Nat) → Int32 → Int32 → Int32 → (Option Nat) → GM → Nat → Nat → Prop) : Prop := ∀ (V : XV) (sz : Nat) (G : GM) (Q : Int32 → GM → Prop) (x0 : Option Nat) (x1 : Int32) (x2 : Int32) (x3 : Int32) (x4 : Option Nat) (kc ks : Nat), Met l yX0_unkey (wsW_ yX0_unkey cX0_unkey 6 (some .int) [(0, 12, 15, 19), (0, 12, 19, 61)]) { frames := fr, cells := kc, slots := ks, locals := lo } (va_Pc [va_rf x0, .int x1, .int x2, .int x3, va_rf x4] (fun U => U.heap.size = sz ∧ xW V (xA G sz) G U.heap ∧ xK V U ∧ xZ V (xA G sz) U U.heap ∧ w V Q x0 x1 x2 x3 x4 G kc ks)) (va_Qi (fun r (u : GM) => Q r u) (fun u t => xW V (xA G sz) u t.heap) (xA G sz)) kc ks (xA G sz)
def w_X0_unkey (V : XV) (Q : Int32 → GM → Prop) (x0 : Option Nat) (x1 : Int32) (x2 : Int32) (x3 : Int32) (x4 : Option Nat) (G : GM) (kc : Nat) (ks : Nat) : Prop := gRcv G x0 (fun a1 c2 => (c2 % 64 = 0) ∧ (∃ c5 s6 : Nat, c5 ≤ kc ∧ s6 ≤ ks ∧ (w_X1_unkey V (fun r3 G4 => gJS G4 1 x4 (0 : Int32) (r3.toInt64) (fun G7 => Q (0 : Int32) G7)) (fun E G9 => if E = "java/lang/IndexOutOfBoundsException" then Q (1 : Int32) G9 else (if E = "java/util/NoSuchElementException" then Q (2 : Int32) G9 else (False))) a1 x1 x2 x3 G c5 s6)))
set_option maxRecDepth 100000 in
set_option maxHeartbeats 4000000 in
theorem wk_X0_unkey {p : Program} {l : Launch} {e : Env} {R : Room} {s : State} {m : MethodId} {args : Array Value} {below : List Frame} {meth : Method} {c : Code} {Z : State → Prop} {A : Nat → Prop} {V : XV} (Q : Int32 → GM → Prop) (C : xC p m c s args cX0_unkey 6 RX0 V A) (hfl : l.stackTraces = false) (htab : c.exceptionTable.toList = tableOf [(0, 12, 15, 19), (0, 12, 19, 61)]) (hRf : 16 ≤ R.frames) (hRl : 289 ≤ R.locals) (G : GM) (hret : ∀ (v : Int32) (G : GM) (pc : Nat) (ls : Array Slot) (H : Heap) (locs : List Loc) (cells slots : Nat) {k1 k2 : Nat}, decode cX0_unkey pc = .ok (.ireturn, 1) → xW V A G H → va_S A s.heap H locs → cells + k1 ≤ R.cells → slots + k2 ≤ R.slots → Q v G → W p l e R s m args below meth c H locs cells slots Z (F0 m pc ls [.int v])) (x0 : Option Nat) (x1 : Int32) (x2 : Int32) (x3 : Int32) (x4 : Option Nat) (kc ks : Nat) : w_X0_unkey V Q x0 x1 x2 x3 x4 G kc ks → ∀ (ls : Array Slot) (H : Heap) (locs : List Loc) (cells slots : Nat), lv_has ls 6 [(0, va_rf x0), (1, .int x1), (2, .int x2), (3, .int x3), (4, va_rf x4)] → xW V A G H → va_S A s.heap H locs → cells + kc ≤ R.cells → slots + ks ≤ R.slots → W p l e R s m args below meth c H locs cells slots Z (F0 m 0 ls []) := by
  have hx := C.1.1; have hb := C.1.2.1; have hml := C.1.2.2.1; have hown := C.1.2.2.2.1; have hts := C.1.2.2.2.2
  intro h
  intro ls H locs cells slots hl hW hS hkc hks
  refine sh_aload hx hb dX0_unkey_0 (lv_at hl 4 rfl) ?_
  refine lv_iconst (v := 0) hx hb dX0_unkey_2 (by decide) ?_
  refine sh_aload_n hx hb dX0_unkey_3 rfl (lv_at hl 0 rfl) ?_
  refine lv_iload_n hx hb dX0_unkey_4 rfl (lv_at hl 1 rfl) ?_
  refine lv_iload_n hx hb dX0_unkey_5 rfl (lv_at hl 2 rfl) ?_
  refine lv_iload_n hx hb dX0_unkey_6 rfl (lv_at hl 3 rfl) ?_
  obtain ⟨a1, c2, ho7, hcv7, h⟩ := h
  have hcc := h.1
  have h := h.2
  obtain ⟨c5, s6, hc7, hs7, h⟩ := h
  refine call_X1_unkey_V (ct_X1_unkey l hfl) C hW hS q1295 ho7 hcv7 hcc (le_lit hRf rfl) (le_lit hRl rfl) hc7 hs7 hkc hks hl.1 (by simp only [List.map_cons, List.map_nil, va_rf_cat]; exact Nat.le_of_ble_eq_true rfl) dX0_unkey_7 h (fun E G9 ce q9 H locs hX hW hS h1 h2 h3 _ => by
      by_cases c900 : E = "java/lang/IndexOutOfBoundsException"
      · have hX := wif_t hX c900
        subst c900
        refine vx_catch hown [] ⟨0, 12, 15, 19⟩ [⟨0, 12, 19, 61⟩] (htab.trans rfl) (fun z hz => absurd hz List.not_mem_nil) rfl (by decide) (hts _ q740) (va_Nw.use rfl (C.2.1.2.2.1 _ q757 rfl)) h1 h2 h3 ?_
        refine sh_astore (lv' := [(5, va_rf (some q9)), (0, va_rf x0), (1, .int x1), (2, .int x2), (3, .int x3), (4, va_rf x4)]) hx hb dX0_unkey_15 hl (by decide) (by simp only [List.filter_cons, List.filter_nil, va_rf_cat]; rfl) (fun ls hl => ?_)
        refine lv_iconst (v := 1) hx hb dX0_unkey_17 (by decide) ?_
        exact hret _ _ _ _ _ _ _ _ (k1 := 0) (k2 := 0) dX0_unkey_18 hW hS (by omega) (by omega) hX
      have hX := wif_f hX c900
      by_cases c901 : E = "java/util/NoSuchElementException"
      · have hX := wif_t hX c901
        subst c901
        refine vx_catch hown [⟨0, 12, 15, 19⟩] ⟨0, 12, 19, 61⟩ [] (htab.trans rfl) (by intro z hz; simp only [List.mem_cons, List.not_mem_nil, or_false] at hz; rcases hz with rfl <;> first | (exact Or.inr ⟨by decide, "java/lang/IndexOutOfBoundsException", hts _ q740, C.2.1.2.2.2.2.2.2.1 ("java/util/NoSuchElementException", "java/lang/IndexOutOfBoundsException") (by decide)⟩)) rfl (by decide) (hts _ q1294) (va_Nw.use rfl (C.2.1.2.2.1 _ q1010 rfl)) h1 h2 h3 ?_
        refine sh_astore (lv' := [(5, va_rf (some q9)), (0, va_rf x0), (1, .int x1), (2, .int x2), (3, .int x3), (4, va_rf x4)]) hx hb dX0_unkey_19 hl (by decide) (by simp only [List.filter_cons, List.filter_nil, va_rf_cat]; rfl) (fun ls hl => ?_)
        refine lv_iconst (v := 2) hx hb dX0_unkey_21 (by decide) ?_
        exact hret _ _ _ _ _ _ _ _ (k1 := 0) (k2 := 0) dX0_unkey_22 hW hS (by omega) (by omega) hX
      have hX := wif_f hX c901
      exact False.elim hX) (fun r3 G4 H locs h hW hS _ hkc hks => ?_)
  refine lv_i2l hx hb dX0_unkey_10 rfl ?_
  refine sh_last C hW hS h dX0_unkey_11 (fun G7 H locs hW hS h => ?_)
  refine lv_goto (tgt := 23) hx hb dX0_unkey_12 (by decide) ?_
  refine lv_iconst (v := 0) hx hb dX0_unkey_23 (by decide) ?_
  exact hret _ _ _ _ _ _ _ _ dX0_unkey_24 hW hS hkc hks h
theorem ct_X0_unkey (l : Launch) (hfl : l.stackTraces = false) : CT_X0_unkey l 16 289 w_X0_unkey := by
  intro V sz G Q x0 x1 x2 x3 x4 kc ks
  refine gx_ofWH (cc := cX0_unkey) (maxL := 6) (ret := (some .int)) (hh := [(0, 12, 15, 19), (0, 12, 19, 61)]) (by decide) rfl ?_
  intro p e s m args below meth c s₁ B hml htab hv
  obtain ⟨rfl, hsz, hW, hK, hZ, h⟩ := hv
  subst hsz
  have hts := atoms_spec (ws := (wsW_ yX0_unkey cX0_unkey 6 (some .int) [(0, 12, 15, 19), (0, 12, 19, 61)])) B.pre
  have hts : ∀ w ∈ lw_all, w.before _ s = true := fun w h => hts w (List.mem_cons_of_mem _ h)
  have key : ∃ ls : Array Slot, entryFrame m ([va_rf x0, .int x1, .int x2, .int x3, va_rf x4] : List Value).toArray 6 = F0 m 0 ls [] ∧ lv_has ls 6 [(0, va_rf x0), (1, .int x1), (2, .int x2), (3, .int x3), (4, va_rf x4)] := by
    cases x0 <;> cases x4 <;> (refine ⟨_, by rw [lg_entry_eq], ?_⟩; exact lv_entry _ (Nat.le_of_ble_eq_true rfl))
  obtain ⟨ls, hfr, hl⟩ := key
  rw [hfr]
  exact wk_X0_unkey Q ⟨⟨B.exec, B.bytes, hml, findClass_of_methodNamed B.named, hts⟩, hK, hZ, fun q h => Or.inr h⟩ hfl htab (Nat.le_refl _) (Nat.le_refl _) G (fun v G pc ls H locs cells slots _ _ hd hW1 hS hkc hks hQ => W.widen (k := kc) (n := ks) (Nat.le_trans (Nat.le_add_right _ _) hkc) (Nat.le_trans (Nat.le_add_right _ _) hks) (W.iret (v := v) B.exec B.bytes B.returns (fun t ht _ => ⟨⟨v, G, rfl, hQ, by rw [← ht] at hW1; exact hW1⟩, hS.F ht⟩) hS.2.2 hd)) x0 x1 x2 x3 x4 kc ks h ls _ [] 0 0 hl hW va_S.rf (by show 0 + kc ≤ kc; omega) (by show 0 + ks ≤ ks; omega)
def CT_X15_share (l : Launch) (fr lo : Nat) (w : XV → (Int64 → Prop) → Nat → Int64 → Int64 → GM → Prop) : Prop := ∀ (V : XV) (sz : Nat) (G : GM) (Q : Int64 → Prop) (x0 : Nat) (x1 : Int64) (x3 : Int64), Met l yX15_share (ws_ yX15_share cX15_share 5 (some .long)) { frames := fr, cells := 0, slots := 0, locals := lo } (va_Pc [.ref x0, .long x1, .long x3] (fun U => U.heap.size = sz ∧ xW V (xA G sz) G U.heap ∧ xK V U ∧ xZ V (xA G sz) U U.heap ∧ w V Q x0 x1 x3 G)) (va_Ql (fun r (u : GM) => u = G ∧ Q r) (fun u t => xW V (xA G sz) u t.heap) (xA G sz)) 0 0 (xA G sz)
theorem call_X15_share_F9_Easing {p : Program} {l : Launch} {e : Env} {R : Room} {s : State} {m : MethodId} {args : Array Value} {below : List Frame} {meth : Method} {c : Code} {H : Heap} {locs : List Loc} {cells slots : Nat} {Z : State → Prop} {A : Nat → Prop} {cc : ByteArray} {nL pc : Nat} {ls : Array Slot} {rest : List Value} {own : String} {index fr lo : Nat} {w : XV → (Int64 → Prop) → Nat → Int64 → Int64 → GM → Prop} {V : XV} {G : GM} {count : Nat} {o : Option Nat} {ci : Nat} {x0 : Nat} {x1 : Int64} {x3 : Int64} (hM : CT_X15_share l fr lo w) (C : xC p m c s args cc nL own V A) (hW : xW V A G H) (hS : va_S A s.heap H locs) (hlink : Cond.methodLink own index ⟨"Shapelayer$Easing", "share", "(JJ)J"⟩ ∈ lw_all) (ho : o = some x0) (hcv : gCi G (some x0) = some ci) (hci : ci % 64 = 9) (hRf : fr + 1 ≤ R.frames) (hRl : 8 + (5 + 11) + lo ≤ R.locals) (hcs : cells ≤ R.cells ∧ slots ≤ R.slots) (hz : ls.size = nL) (hr8 : (rest.map fun v => v.category).sum ≤ 8) (hdg : decode cc pc = .ok (.invokeinterface index count, 5)) {Q1 : Int64 → Prop} (h : w V Q1 x0 x1 x3 G) (kk : ∀ (r : Int64) (H1 : Heap) (locs1 : List Loc), Q1 r → xW V A G H1 → va_S A s.heap H1 locs1 → xFr V G G H H1 → W p l e R s m args below meth c H1 locs1 cells slots Z (F0 m (pc + 5) ls (.long r :: rest))) : W p l e R s m args below meth c H locs cells slots Z (F0 m pc ls (.long x3 :: .long x1 :: va_rf o :: rest)) := by
  subst ho
  obtain ⟨fs, hG⟩ := gCi_of hcv
  exact rg_l5r (va_runF (As := [.long x1, .long x3]) (rest := rest) (C.2.1.1 9 _ rfl).2 C.1 (hM V H.size G Q1 x0 x1 x3) (va_cwF (C := "Shapelayer$Easing$1") 2 C.1.2.2.2.2 (lw_F hlink q1337 q1339 q98 q1341) rfl rfl rfl (C.2.1.2.2.2.1 "Shapelayer$Easing$1" ⟨"Shapelayer$Easing", "share", "(JJ)J"⟩ yX15_share ⟨by decide, q1336, q1335, q1340, q1338, q1328⟩) (by decide +kernel) ⟨hRf, hRl⟩) ⟨fun a U g mk q => by obtain ⟨q0, q1, qW, qK, qZ, qw⟩ := q; exact ⟨q0, q1, qW, xK.same (u := U) (U := U.calling g mk a) rfl qK, xZ.moved (u := U) (U := U.calling g mk a) (Vm.Alike.refl U.vm) qZ, qw⟩, (hW.recv C.2.1 hG (r := (RX15, (fun _ => ("", "", "", false)), 0)) (by rw [hci]; rfl)), fun U hU hWm => ⟨rfl, by rw [hU], by rw [hU]; exact hW.self _, C.2.1.warm hWm, xZ.call C.2.2.1 hW hS C.2.2.2 hU hWm.alike, h⟩⟩ rfl rfl hz rfl (lv_room hr8) hdg hcs) hW hS C.2.2.2 (fun r H1 locs1 hp hW1 hS1 hF1 => kk r H1 locs1 hp hW1 hS1 hF1)
def w_X15_share (V : XV) (Q : Int64 → Prop) (x0 : Nat) (x1 : Int64) (x3 : Int64) (G : GM) : Prop := if 0 ≤ (lg_cmp x1 x3) then (Q (1 : Int64)) else (Q (0 : Int64))
set_option maxRecDepth 100000 in
set_option maxHeartbeats 4000000 in
theorem wk_X15_share {p : Program} {l : Launch} {e : Env} {R : Room} {s : State} {m : MethodId} {args : Array Value} {below : List Frame} {meth : Method} {c : Code} {cells slots : Nat} {Z : State → Prop} {A : Nat → Prop} {V : XV} (Q : Int64 → Prop) (C : xC p m c s args cX15_share 5 RX15 V A) (hRf : 1 ≤ R.frames) (hRl : 20 ≤ R.locals) (hcs : cells ≤ R.cells ∧ slots ≤ R.slots) (G : GM) (hret : ∀ (v : Int64) (pc : Nat) (ls : Array Slot) (H : Heap) (locs : List Loc), decode cX15_share pc = .ok (.lreturn, 1) → xW V A G H → va_S A s.heap H locs → Q v → W p l e R s m args below meth c H locs cells slots Z (F0 m pc ls [.long v])) (x0 : Nat) (x1 : Int64) (x3 : Int64) : w_X15_share V Q x0 x1 x3 G → ∀ (ls : Array Slot) (H : Heap) (locs : List Loc), lv_has ls 5 [(0, va_rf (some x0)), (1, .long x1), (3, .long x3)] → xW V A G H → va_S A s.heap H locs → W p l e R s m args below meth c H locs cells slots Z (F0 m 0 ls []) := by
  have hx := C.1.1; have hb := C.1.2.1; have hml := C.1.2.2.1; have hown := C.1.2.2.2.1; have hts := C.1.2.2.2.2
  intro h
  intro ls H locs hl hW hS
  refine lv_lload_n hx hb dX15_share_0 rfl (lv_at hl 1 rfl) ?_
  refine lv_lload_n hx hb dX15_share_1 rfl (lv_at hl 2 rfl) ?_
  refine W.lcmp hx hb dX15_share_2 ?_
  refine lv_if_ge (tgt := 10) hx hb dX15_share_3 (by decide) (fun c1 => ?_) (fun c1 => ?_)
  · have h := wif_t h c1
    refine lv_lconst (v := 1) hx hb dX15_share_10 (by decide) ?_
    exact hret _ _ _ _ _ dX15_share_11 hW hS h
  · have h := wif_f h c1
    refine lv_lconst (v := 0) hx hb dX15_share_6 (by decide) ?_
    refine lv_goto (tgt := 11) hx hb dX15_share_7 (by decide) ?_
    exact hret _ _ _ _ _ dX15_share_11 hW hS h
theorem ct_X15_share (l : Launch) : CT_X15_share l 1 20 w_X15_share := by
  intro V sz G Q x0 x1 x3
  refine Met.ofW (cc := cX15_share) (maxL := 5) (ret := (some .long)) (by decide) rfl ?_
  intro p e s m args below meth c s₁ B hml hv
  obtain ⟨rfl, hsz, hW, hK, hZ, h⟩ := hv
  subst hsz
  have hts := atoms_spec (ws := (ws_ yX15_share cX15_share 5 (some .long))) B.pre
  have hts : ∀ w ∈ lw_all, w.before _ s = true := fun w h => hts w (List.mem_cons_of_mem _ h)
  have hl := lv_entry ([.ref x0, .long x1, .long x3]) (n := 5) (Nat.le_of_ble_eq_true rfl)
  rw [lg_entry_eq]
  generalize (lg_sl ([.ref x0, .long x1, .long x3]) ++ List.replicate (5 - (lg_sl ([.ref x0, .long x1, .long x3])).length) Slot.unset).toArray = ls at hl ⊢
  exact wk_X15_share Q ⟨⟨B.exec, B.bytes, hml, findClass_of_methodNamed B.named, hts⟩, hK, hZ, fun q h => Or.inr h⟩ (Nat.le_refl _) (Nat.le_refl _) ⟨Nat.le_refl _, Nat.le_refl _⟩ G (fun v pc ls H locs hd hW1 hS hQ => W.lret (v := v) B.exec B.bytes B.returns (fun t ht _ => ⟨⟨v, G, rfl, ⟨rfl, hQ⟩, by rw [← ht] at hW1; exact hW1⟩, hS.F ht⟩) hS.2.2 hd) x0 x1 x3 h ls _ [] hl hW va_S.rf
def CT_X16_share (l : Launch) (fr lo : Nat) (w : XV → (Int64 → Prop) → Nat → Int64 → Int64 → GM → Prop) : Prop := ∀ (V : XV) (sz : Nat) (G : GM) (Q : Int64 → Prop) (x0 : Nat) (x1 : Int64) (x3 : Int64), Met l yX16_share (ws_ yX16_share cX16_share 5 (some .long)) { frames := fr, cells := 0, slots := 0, locals := lo } (va_Pc [.ref x0, .long x1, .long x3] (fun U => U.heap.size = sz ∧ xW V (xA G sz) G U.heap ∧ xK V U ∧ xZ V (xA G sz) U U.heap ∧ w V Q x0 x1 x3 G)) (va_Ql (fun r (u : GM) => u = G ∧ Q r) (fun u t => xW V (xA G sz) u t.heap) (xA G sz)) 0 0 (xA G sz)
theorem call_X16_share_F10_Easing {p : Program} {l : Launch} {e : Env} {R : Room} {s : State} {m : MethodId} {args : Array Value} {below : List Frame} {meth : Method} {c : Code} {H : Heap} {locs : List Loc} {cells slots : Nat} {Z : State → Prop} {A : Nat → Prop} {cc : ByteArray} {nL pc : Nat} {ls : Array Slot} {rest : List Value} {own : String} {index fr lo : Nat} {w : XV → (Int64 → Prop) → Nat → Int64 → Int64 → GM → Prop} {V : XV} {G : GM} {count : Nat} {o : Option Nat} {ci : Nat} {x0 : Nat} {x1 : Int64} {x3 : Int64} (hM : CT_X16_share l fr lo w) (C : xC p m c s args cc nL own V A) (hW : xW V A G H) (hS : va_S A s.heap H locs) (hlink : Cond.methodLink own index ⟨"Shapelayer$Easing", "share", "(JJ)J"⟩ ∈ lw_all) (ho : o = some x0) (hcv : gCi G (some x0) = some ci) (hci : ci % 64 = 10) (hRf : fr + 1 ≤ R.frames) (hRl : 8 + (5 + 11) + lo ≤ R.locals) (hcs : cells ≤ R.cells ∧ slots ≤ R.slots) (hz : ls.size = nL) (hr8 : (rest.map fun v => v.category).sum ≤ 8) (hdg : decode cc pc = .ok (.invokeinterface index count, 5)) {Q1 : Int64 → Prop} (h : w V Q1 x0 x1 x3 G) (kk : ∀ (r : Int64) (H1 : Heap) (locs1 : List Loc), Q1 r → xW V A G H1 → va_S A s.heap H1 locs1 → xFr V G G H H1 → W p l e R s m args below meth c H1 locs1 cells slots Z (F0 m (pc + 5) ls (.long r :: rest))) : W p l e R s m args below meth c H locs cells slots Z (F0 m pc ls (.long x3 :: .long x1 :: va_rf o :: rest)) := by
  subst ho
  obtain ⟨fs, hG⟩ := gCi_of hcv
  exact rg_l5r (va_runF (As := [.long x1, .long x3]) (rest := rest) (C.2.1.1 10 _ rfl).2 C.1 (hM V H.size G Q1 x0 x1 x3) (va_cwF (C := "Shapelayer$Easing$2") 2 C.1.2.2.2.2 (lw_F hlink q1343 q1345 q99 q1347) rfl rfl rfl (C.2.1.2.2.2.1 "Shapelayer$Easing$2" ⟨"Shapelayer$Easing", "share", "(JJ)J"⟩ yX16_share ⟨by decide, q1336, q1335, q1346, q1344, q1342⟩) (by decide +kernel) ⟨hRf, hRl⟩) ⟨fun a U g mk q => by obtain ⟨q0, q1, qW, qK, qZ, qw⟩ := q; exact ⟨q0, q1, qW, xK.same (u := U) (U := U.calling g mk a) rfl qK, xZ.moved (u := U) (U := U.calling g mk a) (Vm.Alike.refl U.vm) qZ, qw⟩, (hW.recv C.2.1 hG (r := (RX16, (fun _ => ("", "", "", false)), 0)) (by rw [hci]; rfl)), fun U hU hWm => ⟨rfl, by rw [hU], by rw [hU]; exact hW.self _, C.2.1.warm hWm, xZ.call C.2.2.1 hW hS C.2.2.2 hU hWm.alike, h⟩⟩ rfl rfl hz rfl (lv_room hr8) hdg hcs) hW hS C.2.2.2 (fun r H1 locs1 hp hW1 hS1 hF1 => kk r H1 locs1 hp hW1 hS1 hF1)
def w_X16_share (V : XV) (Q : Int64 → Prop) (x0 : Nat) (x1 : Int64) (x3 : Int64) (G : GM) : Prop := Q x1
set_option maxRecDepth 100000 in
set_option maxHeartbeats 4000000 in
theorem wk_X16_share {p : Program} {l : Launch} {e : Env} {R : Room} {s : State} {m : MethodId} {args : Array Value} {below : List Frame} {meth : Method} {c : Code} {cells slots : Nat} {Z : State → Prop} {A : Nat → Prop} {V : XV} (Q : Int64 → Prop) (C : xC p m c s args cX16_share 5 RX16 V A) (hRf : 1 ≤ R.frames) (hRl : 20 ≤ R.locals) (hcs : cells ≤ R.cells ∧ slots ≤ R.slots) (G : GM) (hret : ∀ (v : Int64) (pc : Nat) (ls : Array Slot) (H : Heap) (locs : List Loc), decode cX16_share pc = .ok (.lreturn, 1) → xW V A G H → va_S A s.heap H locs → Q v → W p l e R s m args below meth c H locs cells slots Z (F0 m pc ls [.long v])) (x0 : Nat) (x1 : Int64) (x3 : Int64) : w_X16_share V Q x0 x1 x3 G → ∀ (ls : Array Slot) (H : Heap) (locs : List Loc), lv_has ls 5 [(0, va_rf (some x0)), (1, .long x1), (3, .long x3)] → xW V A G H → va_S A s.heap H locs → W p l e R s m args below meth c H locs cells slots Z (F0 m 0 ls []) := by
  have hx := C.1.1; have hb := C.1.2.1; have hml := C.1.2.2.1; have hown := C.1.2.2.2.1; have hts := C.1.2.2.2.2
  intro h
  intro ls H locs hl hW hS
  refine lv_lload_n hx hb dX16_share_0 rfl (lv_at hl 1 rfl) ?_
  exact hret _ _ _ _ _ dX16_share_1 hW hS h
theorem ct_X16_share (l : Launch) : CT_X16_share l 1 20 w_X16_share := by
  intro V sz G Q x0 x1 x3
  refine Met.ofW (cc := cX16_share) (maxL := 5) (ret := (some .long)) (by decide) rfl ?_
  intro p e s m args below meth c s₁ B hml hv
  obtain ⟨rfl, hsz, hW, hK, hZ, h⟩ := hv
  subst hsz
  have hts := atoms_spec (ws := (ws_ yX16_share cX16_share 5 (some .long))) B.pre
  have hts : ∀ w ∈ lw_all, w.before _ s = true := fun w h => hts w (List.mem_cons_of_mem _ h)
  have hl := lv_entry ([.ref x0, .long x1, .long x3]) (n := 5) (Nat.le_of_ble_eq_true rfl)
  rw [lg_entry_eq]
  generalize (lg_sl ([.ref x0, .long x1, .long x3]) ++ List.replicate (5 - (lg_sl ([.ref x0, .long x1, .long x3])).length) Slot.unset).toArray = ls at hl ⊢
  exact wk_X16_share Q ⟨⟨B.exec, B.bytes, hml, findClass_of_methodNamed B.named, hts⟩, hK, hZ, fun q h => Or.inr h⟩ (Nat.le_refl _) (Nat.le_refl _) ⟨Nat.le_refl _, Nat.le_refl _⟩ G (fun v pc ls H locs hd hW1 hS hQ => W.lret (v := v) B.exec B.bytes B.returns (fun t ht _ => ⟨⟨v, G, rfl, ⟨rfl, hQ⟩, by rw [← ht] at hW1; exact hW1⟩, hS.F ht⟩) hS.2.2 hd) x0 x1 x3 h ls _ [] hl hW va_S.rf
def CT_X17_share (l : Launch) (fr lo : Nat) (w : XV → (Int64 → Prop) → Nat → Int64 → Int64 → GM → Prop) : Prop := ∀ (V : XV) (sz : Nat) (G : GM) (Q : Int64 → Prop) (x0 : Nat) (x1 : Int64) (x3 : Int64), Met l yX17_share (ws_ yX17_share cX17_share 7 (some .long)) { frames := fr, cells := 0, slots := 0, locals := lo } (va_Pc [.ref x0, .long x1, .long x3] (fun U => U.heap.size = sz ∧ xW V (xA G sz) G U.heap ∧ xK V U ∧ xZ V (xA G sz) U U.heap ∧ w V Q x0 x1 x3 G)) (va_Ql (fun r (u : GM) => u = G ∧ Q r) (fun u t => xW V (xA G sz) u t.heap) (xA G sz)) 0 0 (xA G sz)
theorem call_X17_share_F11_Easing {p : Program} {l : Launch} {e : Env} {R : Room} {s : State} {m : MethodId} {args : Array Value} {below : List Frame} {meth : Method} {c : Code} {H : Heap} {locs : List Loc} {cells slots : Nat} {Z : State → Prop} {A : Nat → Prop} {cc : ByteArray} {nL pc : Nat} {ls : Array Slot} {rest : List Value} {own : String} {index fr lo : Nat} {w : XV → (Int64 → Prop) → Nat → Int64 → Int64 → GM → Prop} {V : XV} {G : GM} {count : Nat} {o : Option Nat} {ci : Nat} {x0 : Nat} {x1 : Int64} {x3 : Int64} (hM : CT_X17_share l fr lo w) (C : xC p m c s args cc nL own V A) (hW : xW V A G H) (hS : va_S A s.heap H locs) (hlink : Cond.methodLink own index ⟨"Shapelayer$Easing", "share", "(JJ)J"⟩ ∈ lw_all) (ho : o = some x0) (hcv : gCi G (some x0) = some ci) (hci : ci % 64 = 11) (hRf : fr + 1 ≤ R.frames) (hRl : 8 + (7 + 11) + lo ≤ R.locals) (hcs : cells ≤ R.cells ∧ slots ≤ R.slots) (hz : ls.size = nL) (hr8 : (rest.map fun v => v.category).sum ≤ 8) (hdg : decode cc pc = .ok (.invokeinterface index count, 5)) {Q1 : Int64 → Prop} (h : w V Q1 x0 x1 x3 G) (kk : ∀ (r : Int64) (H1 : Heap) (locs1 : List Loc), Q1 r → xW V A G H1 → va_S A s.heap H1 locs1 → xFr V G G H H1 → W p l e R s m args below meth c H1 locs1 cells slots Z (F0 m (pc + 5) ls (.long r :: rest))) : W p l e R s m args below meth c H locs cells slots Z (F0 m pc ls (.long x3 :: .long x1 :: va_rf o :: rest)) := by
  subst ho
  obtain ⟨fs, hG⟩ := gCi_of hcv
  exact rg_l5r (va_runF (As := [.long x1, .long x3]) (rest := rest) (C.2.1.1 11 _ rfl).2 C.1 (hM V H.size G Q1 x0 x1 x3) (va_cwF (C := "Shapelayer$Easing$3") 2 C.1.2.2.2.2 (lw_F hlink q1349 q1351 q100 q1353) rfl rfl rfl (C.2.1.2.2.2.1 "Shapelayer$Easing$3" ⟨"Shapelayer$Easing", "share", "(JJ)J"⟩ yX17_share ⟨by decide, q1336, q1335, q1352, q1350, q1348⟩) (by decide +kernel) ⟨hRf, hRl⟩) ⟨fun a U g mk q => by obtain ⟨q0, q1, qW, qK, qZ, qw⟩ := q; exact ⟨q0, q1, qW, xK.same (u := U) (U := U.calling g mk a) rfl qK, xZ.moved (u := U) (U := U.calling g mk a) (Vm.Alike.refl U.vm) qZ, qw⟩, (hW.recv C.2.1 hG (r := (RX17, (fun _ => ("", "", "", false)), 0)) (by rw [hci]; rfl)), fun U hU hWm => ⟨rfl, by rw [hU], by rw [hU]; exact hW.self _, C.2.1.warm hWm, xZ.call C.2.2.1 hW hS C.2.2.2 hU hWm.alike, h⟩⟩ rfl rfl hz rfl (lv_room hr8) hdg hcs) hW hS C.2.2.2 (fun r H1 locs1 hp hW1 hS1 hF1 => kk r H1 locs1 hp hW1 hS1 hF1)
def w_X17_share (V : XV) (Q : Int64 → Prop) (x0 : Nat) (x1 : Int64) (x3 : Int64) (G : GM) : Prop := ¬ x3 = 0 ∧ (¬ (1000000 : Int64) = 0 ∧ (Q ((((((1000 : Int64) * x1) / x3) * (((1000 : Int64) * x1) / x3)) * ((3000 : Int64) - ((2 : Int64) * (((1000 : Int64) * x1) / x3)))) / (1000000 : Int64))))
set_option maxRecDepth 100000 in
set_option maxHeartbeats 4000000 in
theorem wk_X17_share {p : Program} {l : Launch} {e : Env} {R : Room} {s : State} {m : MethodId} {args : Array Value} {below : List Frame} {meth : Method} {c : Code} {cells slots : Nat} {Z : State → Prop} {A : Nat → Prop} {V : XV} (Q : Int64 → Prop) (C : xC p m c s args cX17_share 7 RX17 V A) (hRf : 1 ≤ R.frames) (hRl : 20 ≤ R.locals) (hcs : cells ≤ R.cells ∧ slots ≤ R.slots) (G : GM) (hret : ∀ (v : Int64) (pc : Nat) (ls : Array Slot) (H : Heap) (locs : List Loc), decode cX17_share pc = .ok (.lreturn, 1) → xW V A G H → va_S A s.heap H locs → Q v → W p l e R s m args below meth c H locs cells slots Z (F0 m pc ls [.long v])) (x0 : Nat) (x1 : Int64) (x3 : Int64) : w_X17_share V Q x0 x1 x3 G → ∀ (ls : Array Slot) (H : Heap) (locs : List Loc), lv_has ls 7 [(0, va_rf (some x0)), (1, .long x1), (3, .long x3)] → xW V A G H → va_S A s.heap H locs → W p l e R s m args below meth c H locs cells slots Z (F0 m 0 ls []) := by
  have hx := C.1.1; have hb := C.1.2.1; have hml := C.1.2.2.1; have hown := C.1.2.2.2.1; have hts := C.1.2.2.2.2
  intro h
  intro ls H locs hl hW hS
  refine lv_ldc2 hx hb hown (hts _ q1354) dX17_share_0 ?_
  refine lv_lload_n hx hb dX17_share_3 rfl (lv_at hl 1 rfl) ?_
  refine lv_lmul hx hb dX17_share_4 ?_
  refine lv_lload_n hx hb dX17_share_5 rfl (lv_at hl 2 rfl) ?_
  refine lv_ldiv hx hb dX17_share_6 h.1 ?_
  have h := h.2
  refine lv_lstore (lv' := [(5, .long (((1000 : Int64) * x1) / x3)), (0, va_rf (some x0)), (1, .long x1), (3, .long x3)]) hx hb dX17_share_7 hl (by decide) rfl (fun ls hl => ?_)
  refine lv_lload hx hb dX17_share_9 (lv_at hl 0 rfl) ?_
  refine lv_lload hx hb dX17_share_11 (lv_at hl 0 rfl) ?_
  refine lv_lmul hx hb dX17_share_13 ?_
  refine lv_ldc2 hx hb hown (hts _ q1355) dX17_share_14 ?_
  refine lv_ldc2 hx hb hown (hts _ q1356) dX17_share_17 ?_
  refine lv_lload hx hb dX17_share_20 (lv_at hl 0 rfl) ?_
  refine lv_lmul hx hb dX17_share_22 ?_
  refine lv_lsub hx hb dX17_share_23 ?_
  refine lv_lmul hx hb dX17_share_24 ?_
  refine lv_ldc2 hx hb hown (hts _ q1357) dX17_share_25 ?_
  refine lv_ldiv hx hb dX17_share_28 h.1 ?_
  have h := h.2
  exact hret _ _ _ _ _ dX17_share_29 hW hS h
theorem ct_X17_share (l : Launch) : CT_X17_share l 1 20 w_X17_share := by
  intro V sz G Q x0 x1 x3
  refine Met.ofW (cc := cX17_share) (maxL := 7) (ret := (some .long)) (by decide) rfl ?_
  intro p e s m args below meth c s₁ B hml hv
  obtain ⟨rfl, hsz, hW, hK, hZ, h⟩ := hv
  subst hsz
  have hts := atoms_spec (ws := (ws_ yX17_share cX17_share 7 (some .long))) B.pre
  have hts : ∀ w ∈ lw_all, w.before _ s = true := fun w h => hts w (List.mem_cons_of_mem _ h)
  have hl := lv_entry ([.ref x0, .long x1, .long x3]) (n := 7) (Nat.le_of_ble_eq_true rfl)
  rw [lg_entry_eq]
  generalize (lg_sl ([.ref x0, .long x1, .long x3]) ++ List.replicate (7 - (lg_sl ([.ref x0, .long x1, .long x3])).length) Slot.unset).toArray = ls at hl ⊢
  exact wk_X17_share Q ⟨⟨B.exec, B.bytes, hml, findClass_of_methodNamed B.named, hts⟩, hK, hZ, fun q h => Or.inr h⟩ (Nat.le_refl _) (Nat.le_refl _) ⟨Nat.le_refl _, Nat.le_refl _⟩ G (fun v pc ls H locs hd hW1 hS hQ => W.lret (v := v) B.exec B.bytes B.returns (fun t ht _ => ⟨⟨v, G, rfl, ⟨rfl, hQ⟩, by rw [← ht] at hW1; exact hW1⟩, hS.F ht⟩) hS.2.2 hd) x0 x1 x3 h ls _ [] hl hW va_S.rf
def CT_X14_between (l : Launch) (fr lo : Nat) (w : XV → (Int32 → Prop) → Nat → Int32 → Int32 → Int32 → Int32 → GM → Prop) : Prop := ∀ (V : XV) (sz : Nat) (G : GM) (Q : Int32 → Prop) (x0 : Nat) (x1 : Int32) (x2 : Int32) (x3 : Int32) (x4 : Int32), Met l yX14_between (ws_ yX14_between cX14_between 5 (some .int)) { frames := fr, cells := 0, slots := 0, locals := lo } (va_Pc [.ref x0, .int x1, .int x2, .int x3, .int x4] (fun U => U.heap.size = sz ∧ xW V (xA G sz) G U.heap ∧ xK V U ∧ xZ V (xA G sz) U U.heap ∧ w V Q x0 x1 x2 x3 x4 G)) (va_Qi (fun r (u : GM) => u = G ∧ Q r) (fun u t => xW V (xA G sz) u t.heap) (xA G sz)) 0 0 (xA G sz)
theorem call_X14_between_D {p : Program} {l : Launch} {e : Env} {R : Room} {s : State} {m : MethodId} {args : Array Value} {below : List Frame} {meth : Method} {c : Code} {H : Heap} {locs : List Loc} {cells slots : Nat} {Z : State → Prop} {A : Nat → Prop} {cc : ByteArray} {nL pc : Nat} {ls : Array Slot} {rest : List Value} {own : String} {index fr lo : Nat} {w : XV → (Int32 → Prop) → Nat → Int32 → Int32 → Int32 → Int32 → GM → Prop} {V : XV} {G : GM} {count : Nat} {o : Option Nat} {ci : Nat} {x0 : Nat} {x1 : Int32} {x2 : Int32} {x3 : Int32} {x4 : Int32} (hM : CT_X14_between l fr lo w) (C : xC p m c s args cc nL own V A) (hW : xW V A G H) (hS : va_S A s.heap H locs) (hlink : Cond.methodLink own index ⟨"Shapelayer$Easing", "between", "(IIII)I"⟩ ∈ lw_all) (ho : o = some x0) (hcv : gCi G (some x0) = some ci) (hci : ci % 64 = 9 ∨ ci % 64 = 10 ∨ ci % 64 = 11) (hRf : fr + 1 ≤ R.frames) (hRl : 8 + (5 + 11) + lo ≤ R.locals) (hcs : cells ≤ R.cells ∧ slots ≤ R.slots) (hz : ls.size = nL) (hr8 : (rest.map fun v => v.category).sum ≤ 8) (hdg : decode cc pc = .ok (.invokeinterface index count, 5)) {Q1 : Int32 → Prop} (h : w V Q1 x0 x1 x2 x3 x4 G) (kk : ∀ (r : Int32) (H1 : Heap) (locs1 : List Loc), Q1 r → xW V A G H1 → va_S A s.heap H1 locs1 → xFr V G G H H1 → W p l e R s m args below meth c H1 locs1 cells slots Z (F0 m (pc + 5) ls (.int r :: rest))) : W p l e R s m args below meth c H locs cells slots Z (F0 m pc ls (.int x4 :: .int x3 :: .int x2 :: .int x1 :: va_rf o :: rest)) := by
  subst ho
  obtain ⟨fs, hG⟩ := gCi_of hcv
  rcases hci with hci | hci | hci
  · exact rg_i5r (gx_runFD (n := 4) (y := yX14_between) (As := [.int x1, .int x2, .int x3, .int x4]) (rest := rest) (C.2.1.1 9 _ rfl).2 C.1 (hM V H.size G Q1 x0 x1 x2 x3 x4) (lw_meth q1332) rfl rfl rfl ⟨hRf, hRl⟩ hlink (C.2.1.2.2.2.2.2.2.2.2.2.1 "Shapelayer$Easing$1" (by decide +kernel)) q1330 q97 (by decide +kernel) ⟨fun a U g mk q => by obtain ⟨q0, q1, qW, qK, qZ, qw⟩ := q; exact ⟨q0, q1, qW, xK.same (u := U) (U := U.calling g mk a) rfl qK, xZ.moved (u := U) (U := U.calling g mk a) (Vm.Alike.refl U.vm) qZ, qw⟩, (hW.recv C.2.1 hG (r := (RX15, (fun _ => ("", "", "", false)), 0)) (by rw [hci]; rfl)), fun U hU hWm => ⟨rfl, by rw [hU], by rw [hU]; exact hW.self _, C.2.1.warm hWm, xZ.call C.2.2.1 hW hS C.2.2.2 hU hWm.alike, h⟩⟩ rfl rfl hz rfl (lv_room hr8) hdg hcs) hW hS C.2.2.2 (fun r H1 locs1 hp hW1 hS1 hF1 => kk r H1 locs1 hp hW1 hS1 hF1)
  · exact rg_i5r (gx_runFD (n := 4) (y := yX14_between) (As := [.int x1, .int x2, .int x3, .int x4]) (rest := rest) (C.2.1.1 10 _ rfl).2 C.1 (hM V H.size G Q1 x0 x1 x2 x3 x4) (lw_meth q1332) rfl rfl rfl ⟨hRf, hRl⟩ hlink (C.2.1.2.2.2.2.2.2.2.2.2.1 "Shapelayer$Easing$2" (by decide +kernel)) q1330 q97 (by decide +kernel) ⟨fun a U g mk q => by obtain ⟨q0, q1, qW, qK, qZ, qw⟩ := q; exact ⟨q0, q1, qW, xK.same (u := U) (U := U.calling g mk a) rfl qK, xZ.moved (u := U) (U := U.calling g mk a) (Vm.Alike.refl U.vm) qZ, qw⟩, (hW.recv C.2.1 hG (r := (RX16, (fun _ => ("", "", "", false)), 0)) (by rw [hci]; rfl)), fun U hU hWm => ⟨rfl, by rw [hU], by rw [hU]; exact hW.self _, C.2.1.warm hWm, xZ.call C.2.2.1 hW hS C.2.2.2 hU hWm.alike, h⟩⟩ rfl rfl hz rfl (lv_room hr8) hdg hcs) hW hS C.2.2.2 (fun r H1 locs1 hp hW1 hS1 hF1 => kk r H1 locs1 hp hW1 hS1 hF1)
  · exact rg_i5r (gx_runFD (n := 4) (y := yX14_between) (As := [.int x1, .int x2, .int x3, .int x4]) (rest := rest) (C.2.1.1 11 _ rfl).2 C.1 (hM V H.size G Q1 x0 x1 x2 x3 x4) (lw_meth q1332) rfl rfl rfl ⟨hRf, hRl⟩ hlink (C.2.1.2.2.2.2.2.2.2.2.2.1 "Shapelayer$Easing$3" (by decide +kernel)) q1330 q97 (by decide +kernel) ⟨fun a U g mk q => by obtain ⟨q0, q1, qW, qK, qZ, qw⟩ := q; exact ⟨q0, q1, qW, xK.same (u := U) (U := U.calling g mk a) rfl qK, xZ.moved (u := U) (U := U.calling g mk a) (Vm.Alike.refl U.vm) qZ, qw⟩, (hW.recv C.2.1 hG (r := (RX17, (fun _ => ("", "", "", false)), 0)) (by rw [hci]; rfl)), fun U hU hWm => ⟨rfl, by rw [hU], by rw [hU]; exact hW.self _, C.2.1.warm hWm, xZ.call C.2.2.1 hW hS C.2.2.2 hU hWm.alike, h⟩⟩ rfl rfl hz rfl (lv_room hr8) hdg hcs) hW hS C.2.2.2 (fun r H1 locs1 hp hW1 hS1 hF1 => kk r H1 locs1 hp hW1 hS1 hF1)
def w_X14_between_31 (V : XV) (Q : Int32 → Prop) (y0 : Int64) (y1 : Int64) (y2 : Int64) (G : GM) : Prop := w_J13_floorDiv (fun r1 => Q ((y2 + r1).toInt32)) y1 y0
def w_X14_between_18 (V : XV) (Q : Int32 → Prop) (x0 : Nat) (x4 : Int32) (y0 : Int64) (y1 : Int64) (y2 : Int64) (G : GM) : Prop := gRcv G (some x0) (fun a2 c3 => if c3 % 64 = 9 then (w_X15_share V (fun r4 => w_X14_between_31 V Q r4 (y1 * y0) y2 G) a2 (x4.toInt64) (x4.toInt64) G) else (if c3 % 64 = 10 then (w_X16_share V (fun r6 => w_X14_between_31 V Q r6 (y1 * y0) y2 G) a2 (x4.toInt64) (x4.toInt64) G) else (if c3 % 64 = 11 then (w_X17_share V (fun r8 => w_X14_between_31 V Q r8 (y1 * y0) y2 G) a2 (x4.toInt64) (x4.toInt64) G) else (False))))
def w_X14_between (V : XV) (Q : Int32 → Prop) (x0 : Nat) (x1 : Int32) (x2 : Int32) (x3 : Int32) (x4 : Int32) (G : GM) : Prop := gRcv G (some x0) (fun a10 c11 => if c11 % 64 = 9 then (w_X15_share V (fun r12 => w_X14_between_18 V Q x0 x4 r12 ((x2.toInt64) - (x1.toInt64)) (x1.toInt64) G) a10 (x3.toInt64) (x4.toInt64) G) else (if c11 % 64 = 10 then (w_X16_share V (fun r14 => w_X14_between_18 V Q x0 x4 r14 ((x2.toInt64) - (x1.toInt64)) (x1.toInt64) G) a10 (x3.toInt64) (x4.toInt64) G) else (if c11 % 64 = 11 then (w_X17_share V (fun r16 => w_X14_between_18 V Q x0 x4 r16 ((x2.toInt64) - (x1.toInt64)) (x1.toInt64) G) a10 (x3.toInt64) (x4.toInt64) G) else (False))))
set_option maxRecDepth 100000 in
set_option maxHeartbeats 4000000 in
theorem wk_X14_between {p : Program} {l : Launch} {e : Env} {R : Room} {s : State} {m : MethodId} {args : Array Value} {below : List Frame} {meth : Method} {c : Code} {cells slots : Nat} {Z : State → Prop} {A : Nat → Prop} {V : XV} (Q : Int32 → Prop) (C : xC p m c s args cX14_between 5 RX14 V A) (hRf : 2 ≤ R.frames) (hRl : 46 ≤ R.locals) (hcs : cells ≤ R.cells ∧ slots ≤ R.slots) (G : GM) (hret : ∀ (v : Int32) (pc : Nat) (ls : Array Slot) (H : Heap) (locs : List Loc), decode cX14_between pc = .ok (.ireturn, 1) → xW V A G H → va_S A s.heap H locs → Q v → W p l e R s m args below meth c H locs cells slots Z (F0 m pc ls [.int v])) (x0 : Nat) (x1 : Int32) (x2 : Int32) (x3 : Int32) (x4 : Int32) : w_X14_between V Q x0 x1 x2 x3 x4 G → ∀ (ls : Array Slot) (H : Heap) (locs : List Loc), lv_has ls 5 [(0, va_rf (some x0)), (1, .int x1), (2, .int x2), (3, .int x3), (4, .int x4)] → xW V A G H → va_S A s.heap H locs → W p l e R s m args below meth c H locs cells slots Z (F0 m 0 ls []) := by
  have hx := C.1.1; have hb := C.1.2.1; have hml := C.1.2.2.1; have hown := C.1.2.2.2.1; have hts := C.1.2.2.2.2
  have hb31 : ∀ (y0 : Int64) (y1 : Int64) (y2 : Int64), w_X14_between_31 V Q y0 y1 y2 G → ∀ (ls : Array Slot) (H : Heap) (locs : List Loc), lv_has ls 5 [] → xW V A G H → va_S A s.heap H locs → W p l e R s m args below meth c H locs cells slots Z (F0 m 31 ls [.long y0, .long y1, .long y2]) := by
    intro y0 y1 y2 h
    intro ls H locs hl hW hS
    refine call_J13_floorDiv (ct_J13_floorDiv l) C.1 hS C.2.2.2 q1358 (le_lit hRf rfl) (le_lit hRl rfl) hcs hl.1 (Nat.le_of_ble_eq_true rfl) dX14_between_31 h (fun r1 H locs h hk hS => ?_)
    have hW := hW.kept hk
    refine lv_ladd hx hb dX14_between_34 ?_
    refine lv_l2i hx hb dX14_between_35 rfl ?_
    exact hret _ _ _ _ _ dX14_between_36 hW hS h
  have hb18 : ∀ (y0 : Int64) (y1 : Int64) (y2 : Int64), w_X14_between_18 V Q x0 x4 y0 y1 y2 G → ∀ (ls : Array Slot) (H : Heap) (locs : List Loc), lv_has ls 5 [(0, va_rf (some x0)), (4, .int x4)] → xW V A G H → va_S A s.heap H locs → W p l e R s m args below meth c H locs cells slots Z (F0 m 18 ls [.long y0, .long y1, .long y2]) := by
    intro y0 y1 y2 h
    intro ls H locs hl hW hS
    refine lv_lmul hx hb dX14_between_18 ?_
    refine sh_aload_n hx hb dX14_between_19 rfl (lv_at hl 0 rfl) ?_
    refine lv_iload hx hb dX14_between_20 (lv_at hl 1 rfl) ?_
    refine lv_i2l hx hb dX14_between_22 rfl ?_
    refine lv_iload hx hb dX14_between_23 (lv_at hl 1 rfl) ?_
    refine lv_i2l hx hb dX14_between_25 rfl ?_
    obtain ⟨a2, c3, ho26, hcv26, h⟩ := h
    by_cases c5 : c3 % 64 = 9
    · have h := wif_t h c5
      refine call_X15_share_F9_Easing (ct_X15_share l) C hW hS q1334 ho26 hcv26 c5 (le_lit hRf rfl) (le_lit hRl rfl) hcs hl.1 (Nat.le_of_ble_eq_true rfl) dX14_between_26 h (fun r4 H locs h hW hS _ => ?_)
      exact hb31 _ _ _ h ls H locs (lv_sub hl [] rfl) hW hS
    · have h := wif_f h c5
      by_cases c7 : c3 % 64 = 10
      · have h := wif_t h c7
        refine call_X16_share_F10_Easing (ct_X16_share l) C hW hS q1334 ho26 hcv26 c7 (le_lit hRf rfl) (le_lit hRl rfl) hcs hl.1 (Nat.le_of_ble_eq_true rfl) dX14_between_26 h (fun r6 H locs h hW hS _ => ?_)
        exact hb31 _ _ _ h ls H locs (lv_sub hl [] rfl) hW hS
      · have h := wif_f h c7
        by_cases c9 : c3 % 64 = 11
        · have h := wif_t h c9
          refine call_X17_share_F11_Easing (ct_X17_share l) C hW hS q1334 ho26 hcv26 c9 (le_lit hRf rfl) (le_lit hRl rfl) hcs hl.1 (Nat.le_of_ble_eq_true rfl) dX14_between_26 h (fun r8 H locs h hW hS _ => ?_)
          exact hb31 _ _ _ h ls H locs (lv_sub hl [] rfl) hW hS
        · have h := wif_f h c9
          exact False.elim h
  intro h
  intro ls H locs hl hW hS
  refine lv_iload_n hx hb dX14_between_0 rfl (lv_at hl 1 rfl) ?_
  refine lv_i2l hx hb dX14_between_1 rfl ?_
  refine lv_iload_n hx hb dX14_between_2 rfl (lv_at hl 2 rfl) ?_
  refine lv_i2l hx hb dX14_between_3 rfl ?_
  refine lv_iload_n hx hb dX14_between_4 rfl (lv_at hl 1 rfl) ?_
  refine lv_i2l hx hb dX14_between_5 rfl ?_
  refine lv_lsub hx hb dX14_between_6 ?_
  refine sh_aload_n hx hb dX14_between_7 rfl (lv_at hl 0 rfl) ?_
  refine lv_iload_n hx hb dX14_between_8 rfl (lv_at hl 3 rfl) ?_
  refine lv_i2l hx hb dX14_between_9 rfl ?_
  refine lv_iload hx hb dX14_between_10 (lv_at hl 4 rfl) ?_
  refine lv_i2l hx hb dX14_between_12 rfl ?_
  obtain ⟨a10, c11, ho13, hcv13, h⟩ := h
  by_cases c13 : c11 % 64 = 9
  · have h := wif_t h c13
    refine call_X15_share_F9_Easing (ct_X15_share l) C hW hS q1334 ho13 hcv13 c13 (le_lit hRf rfl) (le_lit hRl rfl) hcs hl.1 (Nat.le_of_ble_eq_true rfl) dX14_between_13 h (fun r12 H locs h hW hS _ => ?_)
    exact hb18 _ _ _ h ls H locs (lv_sub hl [0, 4] rfl) hW hS
  · have h := wif_f h c13
    by_cases c15 : c11 % 64 = 10
    · have h := wif_t h c15
      refine call_X16_share_F10_Easing (ct_X16_share l) C hW hS q1334 ho13 hcv13 c15 (le_lit hRf rfl) (le_lit hRl rfl) hcs hl.1 (Nat.le_of_ble_eq_true rfl) dX14_between_13 h (fun r14 H locs h hW hS _ => ?_)
      exact hb18 _ _ _ h ls H locs (lv_sub hl [0, 4] rfl) hW hS
    · have h := wif_f h c15
      by_cases c17 : c11 % 64 = 11
      · have h := wif_t h c17
        refine call_X17_share_F11_Easing (ct_X17_share l) C hW hS q1334 ho13 hcv13 c17 (le_lit hRf rfl) (le_lit hRl rfl) hcs hl.1 (Nat.le_of_ble_eq_true rfl) dX14_between_13 h (fun r16 H locs h hW hS _ => ?_)
        exact hb18 _ _ _ h ls H locs (lv_sub hl [0, 4] rfl) hW hS
      · have h := wif_f h c17
        exact False.elim h
theorem ct_X14_between (l : Launch) : CT_X14_between l 2 46 w_X14_between := by
  intro V sz G Q x0 x1 x2 x3 x4
  refine Met.ofW (cc := cX14_between) (maxL := 5) (ret := (some .int)) (by decide) rfl ?_
  intro p e s m args below meth c s₁ B hml hv
  obtain ⟨rfl, hsz, hW, hK, hZ, h⟩ := hv
  subst hsz
  have hts := atoms_spec (ws := (ws_ yX14_between cX14_between 5 (some .int))) B.pre
  have hts : ∀ w ∈ lw_all, w.before _ s = true := fun w h => hts w (List.mem_cons_of_mem _ h)
  have hl := lv_entry ([.ref x0, .int x1, .int x2, .int x3, .int x4]) (n := 5) (Nat.le_of_ble_eq_true rfl)
  rw [lg_entry_eq]
  generalize (lg_sl ([.ref x0, .int x1, .int x2, .int x3, .int x4]) ++ List.replicate (5 - (lg_sl ([.ref x0, .int x1, .int x2, .int x3, .int x4])).length) Slot.unset).toArray = ls at hl ⊢
  exact wk_X14_between Q ⟨⟨B.exec, B.bytes, hml, findClass_of_methodNamed B.named, hts⟩, hK, hZ, fun q h => Or.inr h⟩ (Nat.le_refl _) (Nat.le_refl _) ⟨Nat.le_refl _, Nat.le_refl _⟩ G (fun v pc ls H locs hd hW1 hS hQ => W.iret (v := v) B.exec B.bytes B.returns (fun t ht _ => ⟨⟨v, G, rfl, ⟨rfl, hQ⟩, by rw [← ht] at hW1; exact hW1⟩, hS.F ht⟩) hS.2.2 hd) x0 x1 x2 x3 x4 h ls _ [] hl hW va_S.rf
def CT_X8_at (l : Launch) (fr lo : Nat) (w : XV → (Int32 → Prop) → Nat → Int32 → GM → Prop) : Prop := ∀ (V : XV) (sz : Nat) (G : GM) (Q : Int32 → Prop) (x0 : Nat) (x1 : Int32), Met l yX8_at (ws_ yX8_at cX8_at 5 (some .int)) { frames := fr, cells := 0, slots := 0, locals := lo } (va_Pc [.ref x0, .int x1] (fun U => U.heap.size = sz ∧ xW V (xA G sz) G U.heap ∧ xK V U ∧ xZ V (xA G sz) U U.heap ∧ w V Q x0 x1 G)) (va_Qi (fun r (u : GM) => u = G ∧ Q r) (fun u t => xW V (xA G sz) u t.heap) (xA G sz)) 0 0 (xA G sz)
theorem call_X8_at_V {p : Program} {l : Launch} {e : Env} {R : Room} {s : State} {m : MethodId} {args : Array Value} {below : List Frame} {meth : Method} {c : Code} {H : Heap} {locs : List Loc} {cells slots : Nat} {Z : State → Prop} {A : Nat → Prop} {cc : ByteArray} {nL pc : Nat} {ls : Array Slot} {rest : List Value} {own : String} {index fr lo : Nat} {w : XV → (Int32 → Prop) → Nat → Int32 → GM → Prop} {V : XV} {G : GM} {o : Option Nat} {ci : Nat} {x0 : Nat} {x1 : Int32} (hM : CT_X8_at l fr lo w) (C : xC p m c s args cc nL own V A) (hW : xW V A G H) (hS : va_S A s.heap H locs) (hlink : Cond.methodLink own index yX8_at ∈ lw_all) (ho : o = some x0) (hcv : gCi G (some x0) = some ci) (hci : ci % 64 = 7) (hRf : fr + 1 ≤ R.frames) (hRl : 8 + (5 + 11) + lo ≤ R.locals) (hcs : cells ≤ R.cells ∧ slots ≤ R.slots) (hz : ls.size = nL) (hr8 : (rest.map fun v => v.category).sum ≤ 8) (hdg : decode cc pc = .ok (.invokevirtual index, 3)) {Q1 : Int32 → Prop} (h : w V Q1 x0 x1 G) (kk : ∀ (r : Int32) (H1 : Heap) (locs1 : List Loc), Q1 r → xW V A G H1 → va_S A s.heap H1 locs1 → xFr V G G H H1 → W p l e R s m args below meth c H1 locs1 cells slots Z (F0 m (pc + 3) ls (.int r :: rest))) : W p l e R s m args below meth c H locs cells slots Z (F0 m pc ls (.int x1 :: va_rf o :: rest)) := by
  subst ho
  obtain ⟨fs, hG⟩ := gCi_of hcv
  exact rg_i3r (va_runV (As := [.int x1]) (rest := rest) C.1 (hM V H.size G Q1 x0 x1) (cwV 1 C.1.2.2.2.2 (lw_V hlink q1319 q1320 q90 q1321) rfl rfl rfl (by decide +kernel) ⟨hRf, hRl⟩) ⟨fun a U g mk q => by obtain ⟨q0, q1, qW, qK, qZ, qw⟩ := q; exact ⟨q0, q1, qW, xK.same (u := U) (U := U.calling g mk a) rfl qK, xZ.moved (u := U) (U := U.calling g mk a) (Vm.Alike.refl U.vm) qZ, qw⟩, (hW.recv C.2.1 hG (r := (RX8, TX8, 2)) (by rw [hci]; rfl)), fun U hU hWm => ⟨rfl, by rw [hU], by rw [hU]; exact hW.self _, C.2.1.warm hWm, xZ.call C.2.2.1 hW hS C.2.2.2 hU hWm.alike, h⟩⟩ rfl rfl hz rfl (lv_room hr8) hdg hcs) hW hS C.2.2.2 (fun r H1 locs1 hp hW1 hS1 hF1 => kk r H1 locs1 hp hW1 hS1 hF1)
def w_X8_at (V : XV) (Q : Int32 → Prop) (x0 : Nat) (x1 : Int32) (G : GM) : Prop := gGR G 28 (some x0) (fun v1 => gRcv G v1 (fun a2 c3 => (c3 % 64 = 15) ∧ (w_J2_isEmpty V (fun r4 => if r4 = 0 then (gRcv G (some x0) (fun a5 c6 => (c6 % 64 = 7) ∧ (w_X8_placeOf V (fun r7 => gGR G 28 (some x0) (fun v8 => gRcv G v8 (fun a9 c10 => (c10 % 64 = 15) ∧ (w_J2_size V (fun r11 => if r7 = r11 then (gGR G 28 (some x0) (fun v34 => gRcv G v34 (fun a35 c36 => (c36 % 64 = 15) ∧ (w_J2_get V (fun r37 => gCk G [8] r37 (gGI G 30 r37 (fun v38 => Q v38))) a35 (r7 - (1 : Int32)) G)))) else (gGR G 28 (some x0) (fun v12 => gRcv G v12 (fun a13 c14 => (c14 % 64 = 15) ∧ (w_J2_get V (fun r15 => gCk G [8] r15 (if r7 = 0 then (gGI G 30 r15 (fun v16 => Q v16)) else (gGI G 29 r15 (fun v17 => if v17 = x1 then (gGI G 30 r15 (fun v31 => Q v31)) else (gGR G 28 (some x0) (fun v18 => gRcv G v18 (fun a19 c20 => (c20 % 64 = 15) ∧ (w_J2_get V (fun r21 => gCk G [8] r21 (gGR G 31 r21 (fun v22 => gGI G 30 r21 (fun v23 => gGI G 30 r15 (fun v24 => gGI G 29 r21 (fun v25 => gGI G 29 r15 (fun v26 => gGI G 29 r21 (fun v27 => gRcv G v22 (fun a28 c29 => (c29 % 64 = 9 ∨ c29 % 64 = 10 ∨ c29 % 64 = 11) ∧ (w_X14_between V (fun r30 => Q r30) a28 v23 v24 (x1 - v25) (v26 - v27) G)))))))))) a19 (r7 - (1 : Int32)) G)))))))) a13 r7 G))))) a9 G)))) a5 x1 G))) else (gGI G 27 (some x0) (fun v40 => Q v40))) a2 G)))
set_option maxRecDepth 100000 in
set_option maxHeartbeats 4000000 in
theorem wk_X8_at {p : Program} {l : Launch} {e : Env} {R : Room} {s : State} {m : MethodId} {args : Array Value} {below : List Frame} {meth : Method} {c : Code} {cells slots : Nat} {Z : State → Prop} {A : Nat → Prop} {V : XV} (Q : Int32 → Prop) (C : xC p m c s args cX8_at 5 RX8 V A) (hRf : 5 ≤ R.frames) (hRl : 106 ≤ R.locals) (hcs : cells ≤ R.cells ∧ slots ≤ R.slots) (G : GM) (hret : ∀ (v : Int32) (pc : Nat) (ls : Array Slot) (H : Heap) (locs : List Loc), decode cX8_at pc = .ok (.ireturn, 1) → xW V A G H → va_S A s.heap H locs → Q v → W p l e R s m args below meth c H locs cells slots Z (F0 m pc ls [.int v])) (x0 : Nat) (x1 : Int32) : w_X8_at V Q x0 x1 G → ∀ (ls : Array Slot) (H : Heap) (locs : List Loc), lv_has ls 5 [(0, va_rf (some x0)), (1, .int x1)] → xW V A G H → va_S A s.heap H locs → W p l e R s m args below meth c H locs cells slots Z (F0 m 0 ls []) := by
  have hx := C.1.1; have hb := C.1.2.1; have hml := C.1.2.2.1; have hown := C.1.2.2.2.1; have hts := C.1.2.2.2.2
  intro h
  intro ls H locs hl hW hS
  refine sh_aload_n hx hb dX8_at_0 rfl (lv_at hl 0 rfl) ?_
  obtain ⟨v1, h1, h⟩ := h
  refine sh_get C hW xFb_28 q819 (fun _ h => h) h1 dX8_at_1 ?_
  obtain ⟨a2, c3, ho4, hcv4, h⟩ := h
  have hcc := h.1
  have h := h.2
  refine call_J2_isEmpty_F15_List (ct_J2_isEmpty l) C hW hS q1323 ho4 hcv4 hcc (le_lit hRf rfl) (le_lit hRl rfl) hcs hl.1 (Nat.le_of_ble_eq_true rfl) dX8_at_4 h (fun r4 H locs h hW hS _ => ?_)
  refine lv_if_eq (tgt := 17) hx hb dX8_at_9 (by decide) (fun c41 => ?_) (fun c41 => ?_)
  · have h := wif_t h c41
    refine sh_aload_n hx hb dX8_at_17 rfl (lv_at hl 0 rfl) ?_
    refine lv_iload_n hx hb dX8_at_18 rfl (lv_at hl 1 rfl) ?_
    obtain ⟨a5, c6, ho19, hcv19, h⟩ := h
    have hcc := h.1
    have h := h.2
    refine call_X8_placeOf_V (ct_X8_placeOf l) C hW hS q1237 ho19 hcv19 hcc (le_lit hRf rfl) (le_lit hRl rfl) hcs hl.1 (Nat.le_of_ble_eq_true rfl) dX8_at_19 h (fun r7 H locs h hW hS _ => ?_)
    refine lv_istore_n (lv' := [(2, .int r7), (0, va_rf (some x0)), (1, .int x1)]) hx hb dX8_at_22 rfl hl (by decide) rfl (fun ls hl => ?_)
    refine lv_iload_n hx hb dX8_at_23 rfl (lv_at hl 0 rfl) ?_
    refine sh_aload_n hx hb dX8_at_24 rfl (lv_at hl 1 rfl) ?_
    obtain ⟨v8, h1, h⟩ := h
    refine sh_get C hW xFb_28 q819 (fun _ h => h) h1 dX8_at_25 ?_
    obtain ⟨a9, c10, ho28, hcv28, h⟩ := h
    have hcc := h.1
    have h := h.2
    refine call_J2_size_F15_List (ct_J2_size l) C hW hS q1242 ho28 hcv28 hcc (le_lit hRf rfl) (le_lit hRl rfl) hcs hl.1 (Nat.le_of_ble_eq_true rfl) dX8_at_28 h (fun r11 H locs h hW hS _ => ?_)
    refine lv_icmp_ne (tgt := 55) hx hb dX8_at_33 (by decide) (fun c39 => ?_) (fun c39 => ?_)
    · have h := wif_f h c39
      refine sh_aload_n hx hb dX8_at_55 rfl (lv_at hl 1 rfl) ?_
      obtain ⟨v12, h1, h⟩ := h
      refine sh_get C hW xFb_28 q819 (fun _ h => h) h1 dX8_at_56 ?_
      refine lv_iload_n hx hb dX8_at_59 rfl (lv_at hl 0 rfl) ?_
      obtain ⟨a13, c14, ho60, hcv60, h⟩ := h
      have hcc := h.1
      have h := h.2
      refine call_J2_get_F15_List (ct_J2_get l) C hW hS q1244 ho60 hcv60 hcc (le_lit hRf rfl) (le_lit hRl rfl) hcs hl.1 (Nat.le_of_ble_eq_true rfl) dX8_at_60 h (fun r15 H locs h hW hS _ => ?_)
      refine sh_cast C hW q1245 xCa_Shapelayer_Key h dX8_at_65 (fun h => ?_)
      refine sh_astore_n (lv' := [(3, va_rf r15), (2, .int r7), (0, va_rf (some x0)), (1, .int x1)]) hx hb dX8_at_68 rfl hl (by decide) rfl (fun ls hl => ?_)
      refine lv_iload_n hx hb dX8_at_69 rfl (lv_at hl 1 rfl) ?_
      refine lv_if_eq (tgt := 81) hx hb dX8_at_70 (by decide) (fun c33 => ?_) (fun c33 => ?_)
      · have h := wif_t h c33
        refine sh_aload_n hx hb dX8_at_81 rfl (lv_at hl 0 rfl) ?_
        obtain ⟨v16, h1, h⟩ := h
        refine sh_getN C hW xFb_30 q1280 (fun _ h => h) (by decide) h1 dX8_at_82 ?_
        exact hret _ _ _ _ _ dX8_at_85 hW hS h
      · have h := wif_f h c33
        refine sh_aload_n hx hb dX8_at_73 rfl (lv_at hl 0 rfl) ?_
        obtain ⟨v17, h1, h⟩ := h
        refine sh_getN C hW xFb_29 q1278 (fun _ h => h) (by decide) h1 dX8_at_74 ?_
        refine lv_iload_n hx hb dX8_at_77 rfl (lv_at hl 3 rfl) ?_
        refine lv_icmp_ne (tgt := 86) hx hb dX8_at_78 (by decide) (fun c32 => ?_) (fun c32 => ?_)
        · have h := wif_f h c32
          refine sh_aload_n hx hb dX8_at_86 rfl (lv_at hl 2 rfl) ?_
          obtain ⟨v18, h1, h⟩ := h
          refine sh_get C hW xFb_28 q819 (fun _ h => h) h1 dX8_at_87 ?_
          refine lv_iload_n hx hb dX8_at_90 rfl (lv_at hl 1 rfl) ?_
          refine lv_iconst (v := 1) hx hb dX8_at_91 (by decide) ?_
          refine lv_isub hx hb dX8_at_92 ?_
          obtain ⟨a19, c20, ho93, hcv93, h⟩ := h
          have hcc := h.1
          have h := h.2
          refine call_J2_get_F15_List (ct_J2_get l) C hW hS q1244 ho93 hcv93 hcc (le_lit hRf rfl) (le_lit hRl rfl) hcs hl.1 (Nat.le_of_ble_eq_true rfl) dX8_at_93 h (fun r21 H locs h hW hS _ => ?_)
          refine sh_cast C hW q1245 xCa_Shapelayer_Key h dX8_at_98 (fun h => ?_)
          refine sh_astore (lv' := [(4, va_rf r21), (3, va_rf r15), (2, .int r7), (0, va_rf (some x0)), (1, .int x1)]) hx hb dX8_at_101 hl (by decide) (by simp only [List.filter_cons, List.filter_nil, va_rf_cat]; rfl) (fun ls hl => ?_)
          refine sh_aload hx hb dX8_at_103 (lv_at hl 0 rfl) ?_
          obtain ⟨v22, h1, h⟩ := h
          refine sh_getN C hW xFb_31 q1283 (fun _ h => h) (by decide) h1 dX8_at_105 ?_
          refine sh_aload hx hb dX8_at_108 (lv_at hl 0 rfl) ?_
          obtain ⟨v23, h1, h⟩ := h
          refine sh_getN C hW xFb_30 q1280 (fun _ h => h) (by decide) h1 dX8_at_110 ?_
          refine sh_aload_n hx hb dX8_at_113 rfl (lv_at hl 1 rfl) ?_
          obtain ⟨v24, h1, h⟩ := h
          refine sh_getN C hW xFb_30 q1280 (fun _ h => h) (by decide) h1 dX8_at_114 ?_
          refine lv_iload_n hx hb dX8_at_117 rfl (lv_at hl 4 rfl) ?_
          refine sh_aload hx hb dX8_at_118 (lv_at hl 0 rfl) ?_
          obtain ⟨v25, h1, h⟩ := h
          refine sh_getN C hW xFb_29 q1278 (fun _ h => h) (by decide) h1 dX8_at_120 ?_
          refine lv_isub hx hb dX8_at_123 ?_
          refine sh_aload_n hx hb dX8_at_124 rfl (lv_at hl 1 rfl) ?_
          obtain ⟨v26, h1, h⟩ := h
          refine sh_getN C hW xFb_29 q1278 (fun _ h => h) (by decide) h1 dX8_at_125 ?_
          refine sh_aload hx hb dX8_at_128 (lv_at hl 0 rfl) ?_
          obtain ⟨v27, h1, h⟩ := h
          refine sh_getN C hW xFb_29 q1278 (fun _ h => h) (by decide) h1 dX8_at_130 ?_
          refine lv_isub hx hb dX8_at_133 ?_
          obtain ⟨a28, c29, ho134, hcv134, h⟩ := h
          have hcc := h.1
          have h := h.2
          refine call_X14_between_D (ct_X14_between l) C hW hS q1325 ho134 hcv134 hcc (le_lit hRf rfl) (le_lit hRl rfl) hcs hl.1 (Nat.le_of_ble_eq_true rfl) dX8_at_134 h (fun r30 H locs h hW hS _ => ?_)
          exact hret _ _ _ _ _ dX8_at_139 hW hS h
        · have h := wif_t h c32
          refine sh_aload_n hx hb dX8_at_81 rfl (lv_at hl 0 rfl) ?_
          obtain ⟨v31, h1, h⟩ := h
          refine sh_getN C hW xFb_30 q1280 (fun _ h => h) (by decide) h1 dX8_at_82 ?_
          exact hret _ _ _ _ _ dX8_at_85 hW hS h
    · have h := wif_t h c39
      refine sh_aload_n hx hb dX8_at_36 rfl (lv_at hl 1 rfl) ?_
      obtain ⟨v34, h1, h⟩ := h
      refine sh_get C hW xFb_28 q819 (fun _ h => h) h1 dX8_at_37 ?_
      refine lv_iload_n hx hb dX8_at_40 rfl (lv_at hl 0 rfl) ?_
      refine lv_iconst (v := 1) hx hb dX8_at_41 (by decide) ?_
      refine lv_isub hx hb dX8_at_42 ?_
      obtain ⟨a35, c36, ho43, hcv43, h⟩ := h
      have hcc := h.1
      have h := h.2
      refine call_J2_get_F15_List (ct_J2_get l) C hW hS q1244 ho43 hcv43 hcc (le_lit hRf rfl) (le_lit hRl rfl) hcs hl.1 (Nat.le_of_ble_eq_true rfl) dX8_at_43 h (fun r37 H locs h hW hS _ => ?_)
      refine sh_cast C hW q1245 xCa_Shapelayer_Key h dX8_at_48 (fun h => ?_)
      obtain ⟨v38, h1, h⟩ := h
      refine sh_getN C hW xFb_30 q1280 (fun _ h => h) (by decide) h1 dX8_at_51 ?_
      exact hret _ _ _ _ _ dX8_at_54 hW hS h
  · have h := wif_f h c41
    refine sh_aload_n hx hb dX8_at_12 rfl (lv_at hl 0 rfl) ?_
    obtain ⟨v40, h1, h⟩ := h
    refine sh_get C hW xFb_27 q818 (fun _ h => h) h1 dX8_at_13 ?_
    exact hret _ _ _ _ _ dX8_at_16 hW hS h
theorem ct_X8_at (l : Launch) : CT_X8_at l 5 106 w_X8_at := by
  intro V sz G Q x0 x1
  refine Met.ofW (cc := cX8_at) (maxL := 5) (ret := (some .int)) (by decide) rfl ?_
  intro p e s m args below meth c s₁ B hml hv
  obtain ⟨rfl, hsz, hW, hK, hZ, h⟩ := hv
  subst hsz
  have hts := atoms_spec (ws := (ws_ yX8_at cX8_at 5 (some .int))) B.pre
  have hts : ∀ w ∈ lw_all, w.before _ s = true := fun w h => hts w (List.mem_cons_of_mem _ h)
  have hl := lv_entry ([.ref x0, .int x1]) (n := 5) (Nat.le_of_ble_eq_true rfl)
  rw [lg_entry_eq]
  generalize (lg_sl ([.ref x0, .int x1]) ++ List.replicate (5 - (lg_sl ([.ref x0, .int x1])).length) Slot.unset).toArray = ls at hl ⊢
  exact wk_X8_at Q ⟨⟨B.exec, B.bytes, hml, findClass_of_methodNamed B.named, hts⟩, hK, hZ, fun q h => Or.inr h⟩ (Nat.le_refl _) (Nat.le_refl _) ⟨Nat.le_refl _, Nat.le_refl _⟩ G (fun v pc ls H locs hd hW1 hS hQ => W.iret (v := v) B.exec B.bytes B.returns (fun t ht _ => ⟨⟨v, G, rfl, ⟨rfl, hQ⟩, by rw [← ht] at hW1; exact hW1⟩, hS.F ht⟩) hS.2.2 hd) x0 x1 h ls _ [] hl hW va_S.rf
