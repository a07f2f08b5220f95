def CT_X1_checksum (l : Launch) (fr lo : Nat) (w : XV → (Int32 → GM → Prop) → (String → GM → Prop) → Nat → Int32 → Int32 → GM → Nat → Nat → Prop) : Prop := ∀ (V : XV) (sz : Nat) (G : GM) (Q : Int32 → GM → Prop) (X : String → GM → Prop) (x0 : Nat) (x1 : Int32) (x2 : Int32) (kc ks : Nat), vx_Met l yX1_checksum (ws_ yX1_checksum cX1_checksum 8 (some .int)) { frames := fr, cells := kc, slots := ks, locals := lo } (va_Pc [.ref x0, .int x1, .int x2] (fun U => U.heap.size = sz ∧ xW V (xA G sz) G U.heap ∧ xK V U ∧ xZ V (xA G sz) U U.heap ∧ w V Q X x0 x1 x2 G kc ks)) (va_Qi (fun r (u : GM) => Q r u) (fun u t => xW V (xA G sz) u t.heap) (xA G sz)) (vx_X (fun u : String × GM => X u.1 u.2) (fun E u t => E = u.1 ∧ xW V (xA G sz) u.2 t.heap) (xA G sz)) kc ks (xA G sz)
theorem call_X1_checksum_V {p : Program} {l : Launch} {e : Env} {R : Room} {s : State} {m : MethodId} {args : Array Value} {below : List Frame} {meth : Method} {c : Code} {H : Heap} {locs : List Loc} {cells slots : Nat} {Z : State → Prop} {A : Nat → Prop} {cc : ByteArray} {nL pc : Nat} {ls : Array Slot} {rest : List Value} {own : String} {index fr lo : Nat} {w : XV → (Int32 → GM → Prop) → (String → GM → Prop) → Nat → Int32 → Int32 → GM → Nat → Nat → Prop} {V : XV} {G : GM} {o : Option Nat} {ci : Nat} {kc ks c1 s1 : Nat} {x0 : Nat} {x1 : Int32} {x2 : Int32} (hM : CT_X1_checksum l fr lo w) (C : xC p m c s args cc nL own V A) (hW : xW V A G H) (hS : va_S A s.heap H locs) (hlink : Cond.methodLink own index yX1_checksum ∈ lw_all) (ho : o = some x0) (hcv : gCi G (some x0) = some ci) (hci : ci % 64 = 0) (hRf : fr + 1 ≤ R.frames) (hRl : 8 + (8 + 11) + lo ≤ R.locals) (hc1 : c1 ≤ kc) (hs1 : s1 ≤ ks) (hkc : cells + kc ≤ R.cells) (hks : slots + ks ≤ R.slots) (hz : ls.size = nL) (hr8 : (rest.map fun v => v.category).sum ≤ 8) (hdg : decode cc pc = .ok (.invokevirtual index, 3)) {Q1 : Int32 → GM → Prop} {X1 : String → GM → Prop} (h : w V Q1 X1 x0 x1 x2 G c1 s1) (kx : ∀ (E : String) (G1 : GM) (ce : Cell) (q9 : Addr) (H1 : Heap) (locs1 : List Loc), X1 E G1 → xW V A G1 H1 → va_S A s.heap H1 locs1 → H1[q9]? = some ce → ce.vm = .none → s.vm.findClass E = some ce.cls → xFr V G G1 H H1 → vx_W p l e R s m args below meth c H1 locs1 (cells + c1) (slots + s1) Z (F0 m pc ls rest) q9) (kk : ∀ (r : Int32) (G1 : GM) (H1 : Heap) (locs1 : List Loc), Q1 r G1 → xW V A G1 H1 → va_S A s.heap H1 locs1 → xFr V G G1 H H1 → (cells + c1) + (kc - c1) ≤ R.cells → (slots + s1) + (ks - s1) ≤ R.slots → W p l e R s m args below meth c H1 locs1 (cells + c1) (slots + s1) Z (F0 m (pc + 3) ls (.int r :: rest))) : W p l e R s m args below meth c H locs cells slots Z (F0 m pc ls (.int x2 :: .int x1 :: va_rf o :: rest)) := by
  subst ho
  obtain ⟨fs, hG⟩ := gCi_of hcv
  exact rx_i3w (vx_runV (As := [.int x1, .int x2]) (rest := rest) C.1 (hM V H.size G Q1 X1 x0 x1 x2 c1 s1) (cwV 2 C.1.2.2.2.2 (lw_V hlink q1607 q1608 q59 q1609) rfl rfl rfl (by decide +kernel) ⟨hRf, hRl⟩) ⟨fun a U g mk q => by obtain ⟨q0, q1, qW, qK, qZ, qw⟩ := q; exact ⟨q0, q1, qW, xK.same (u := U) (U := U.calling g mk a) rfl qK, xZ.moved (u := U) (U := U.calling g mk a) (Vm.Alike.refl U.vm) qZ, qw⟩, (hW.recv C.2.1 hG (r := (RX1, TX1, 6)) (by rw [hci]; rfl)), fun U hU hWm => ⟨rfl, by rw [hU], by rw [hU]; exact hW.self _, C.2.1.warm hWm, xZ.call C.2.2.1 hW hS C.2.2.2 hU hWm.alike, h⟩⟩ rfl rfl hz rfl (lv_room hr8) hdg ⟨by omega, by omega⟩) hW hS C.2.2.2 kx (fun r G1 H1 locs1 hp hW1 hS1 hF1 => kk r G1 H1 locs1 hp hW1 hS1 hF1 (by omega) (by omega))
def w_X1_checksum_h21 (V : XV) (Q : Int32 → GM → Prop) (X : String → GM → Prop) (x4 : Option Nat) (x5 : Int32) (G : GM) (kc : Nat) (ks : Nat) (rec21 : Int32 → Int32 → Prop) (x3 : Int32) (x6 : Int32) : Prop := if x5 ≤ x6 then (Q x3 G) else (gIL G 2 x4 x6 (fun v1 => rec21 (((31 : Int32) * x3) + v1) (x6 + (1 : Int32))))
def w_X1_checksum_L21 (V : XV) (Q : Int32 → GM → Prop) (X : String → GM → Prop) (x4 : Option Nat) (x5 : Int32) (G : GM) (kc : Nat) (ks : Nat) (x3 : Int32) (x6 : Int32) : Prop := wLoop (fun (rec : (Int32 × Int32) → Prop) (s : Int32 × Int32) => w_X1_checksum_h21 V Q X x4 x5 G kc ks (fun x3 x6 => rec (x3, x6)) s.1 s.2) (x3, x6)
def w_X1_checksum (V : XV) (Q : Int32 → GM → Prop) (X : String → GM → Prop) (x0 : Nat) (x1 : Int32) (x2 : Int32) (G : GM) (kc : Nat) (ks : Nat) : Prop := gRcv G (some x0) (fun a3 c4 => (c4 % 64 = 0) ∧ (∃ c7 s8 : Nat, c7 ≤ kc ∧ s8 ≤ ks ∧ (w_X1_asked V (fun r5 G6 => gGR G6 6 r5 (fun v9 => gLn G6 v9 (fun v10 => w_X1_checksum_L21 V Q X v9 v10 G6 (kc - c7) (ks - s8) (0 : Int32) (0 : Int32)))) X a3 x1 x2 G c7 s8)))
set_option maxRecDepth 100000 in
set_option maxHeartbeats 4000000 in
theorem wk_X1_checksum {p : Program} {l : Launch} {e : Env} {R : Room} {s : State} {m : MethodId} {args : Array Value} {below : List Frame} {meth : Method} {c : Code} {Z : State → Prop} {A : Nat → Prop} {V : XV} (Q : Int32 → GM → Prop) (X : String → GM → Prop) (C : xC p m c s args cX1_checksum 8 RX1 V A) (hfl : l.stackTraces = false) (hRf : 31 ≤ R.frames) (hRl : 767 ≤ R.locals) (G : GM) (hret : ∀ (v : Int32) (G : GM) (pc : Nat) (ls : Array Slot) (H : Heap) (locs : List Loc) (cells slots : Nat) {k1 k2 : Nat}, decode cX1_checksum pc = .ok (.ireturn, 1) → xW V A G H → va_S A s.heap H locs → cells + k1 ≤ R.cells → slots + k2 ≤ R.slots → Q v G → W p l e R s m args below meth c H locs cells slots Z (F0 m pc ls [.int v])) (hxo : ∀ (E : String) (G : GM) (ce : Cell) (q : Addr) (pc : Nat) (ls : Array Slot) (H : Heap) (locs : List Loc) (cells slots : Nat) (rest : List Value), xW V A G H → va_S A s.heap H locs → X E G → H[q]? = some ce → ce.vm = .none → s.vm.findClass E = some ce.cls → cells ≤ R.cells → slots ≤ R.slots → vx_W p l e R s m args below meth c H locs cells slots Z (F0 m pc ls rest) q) (x0 : Nat) (x1 : Int32) (x2 : Int32) (kc ks : Nat) : w_X1_checksum V Q X x0 x1 x2 G kc ks → ∀ (ls : Array Slot) (H : Heap) (locs : List Loc) (cells slots : Nat), lv_has ls 8 [(0, va_rf (some x0)), (1, .int x1), (2, .int x2)] → xW V A G H → va_S A s.heap H locs → cells + kc ≤ R.cells → slots + ks ≤ R.slots → W p l e R s m args below meth c H locs cells slots Z (F0 m 0 ls []) := by
  have hx := C.1.1; have hb := C.1.2.1; have hml := C.1.2.2.1; have hown := C.1.2.2.2.1; have hts := C.1.2.2.2.2
  have hL21 : ∀ (x4 : Option Nat) (x5 : Int32) (G : GM) (kc : Nat) (ks : Nat) (x3 : Int32) (x6 : Int32), w_X1_checksum_L21 V Q X x4 x5 G kc ks x3 x6 → ∀ (ls : Array Slot) (H : Heap) (locs : List Loc) (cells slots : Nat), lv_has ls 8 [(3, .int x3), (4, va_rf x4), (5, .int x5), (6, .int x6)] → xW V A G H → va_S A s.heap H locs → cells + kc ≤ R.cells → slots + ks ≤ R.slots → W p l e R s m args below meth c H locs cells slots Z (F0 m 21 ls []) := by
    intro x4 x5 G kc ks
    obtain ⟨GG21, hG21⟩ : ∃ GG : Int32 → Int32 → Prop, ∀ (x3 : Int32) (x6 : Int32), GG x3 x6 ↔ (∀ (ls : Array Slot) (H : Heap) (locs : List Loc) (cells slots : Nat), lv_has ls 8 [(3, .int x3), (4, va_rf x4), (5, .int x5), (6, .int x6)] → xW V A G H → va_S A s.heap H locs → cells + kc ≤ R.cells → slots + ks ≤ R.slots → W p l e R s m args below meth c H locs cells slots Z (F0 m 21 ls [])) := ⟨fun x3 x6 => _, fun x3 x6 => Iff.rfl⟩
    have hB21 : ∀ (rec21 : Int32 → Int32 → Prop), (∀ (x3 : Int32) (x6 : Int32), rec21 x3 x6 → GG21 x3 x6) → ∀ (x3 : Int32) (x6 : Int32), w_X1_checksum_h21 V Q X x4 x5 G kc ks rec21 x3 x6 → GG21 x3 x6 := by
      intro rec21 hrec21
      intro x3 x6 h
      rw [hG21]
      intro ls H locs cells slots hl hW hS hkc hks
      refine lv_iload hx hb dX1_checksum_21 (lv_at hl 3 rfl) ?_
      refine lv_iload hx hb dX1_checksum_23 (lv_at hl 2 rfl) ?_
      refine lv_icmp_ge (tgt := 49) hx hb dX1_checksum_25 (by decide) (fun c2 => ?_) (fun c2 => ?_)
      · have h := wif_t h c2
        refine lv_iload_n hx hb dX1_checksum_49 rfl (lv_at hl 0 rfl) ?_
        exact hret _ _ _ _ _ _ _ _ dX1_checksum_50 hW hS hkc hks h
      · have h := wif_f h c2
        refine sh_aload hx hb dX1_checksum_28 (lv_at hl 1 rfl) ?_
        refine lv_iload hx hb dX1_checksum_30 (lv_at hl 3 rfl) ?_
        refine sh_bald C hW h dX1_checksum_32 (fun v1 h => ?_)
        refine lv_istore (lv' := [(7, .int v1), (3, .int x3), (4, va_rf x4), (5, .int x5), (6, .int x6)]) hx hb dX1_checksum_33 hl (by decide) rfl (fun ls hl => ?_)
        refine lv_bipush (v := 31) hx hb dX1_checksum_35 (by decide) ?_
        refine lv_iload_n hx hb dX1_checksum_37 rfl (lv_at hl 1 rfl) ?_
        refine lv_imul hx hb dX1_checksum_38 ?_
        refine lv_iload hx hb dX1_checksum_39 (lv_at hl 0 rfl) ?_
        refine lv_iadd hx hb dX1_checksum_41 ?_
        refine lv_istore_n (lv' := [(3, .int (((31 : Int32) * x3) + v1)), (7, .int v1), (4, va_rf x4), (5, .int x5), (6, .int x6)]) hx hb dX1_checksum_42 rfl hl (by decide) rfl (fun ls hl => ?_)
        refine lv_iinc (v := x6 + (1 : Int32)) (lv' := [(6, .int (x6 + (1 : Int32))), (3, .int (((31 : Int32) * x3) + v1)), (7, .int v1), (4, va_rf x4), (5, .int x5)]) hx hb dX1_checksum_43 hl (k := 4) rfl (congrArg (fun z => x6 + z) (by decide)) (by decide) rfl (fun ls hl => ?_)
        refine lv_goto (tgt := 21) hx hb dX1_checksum_46 (by decide) ?_
        exact (hG21 _ _).mp (hrec21 _ _ h) ls H locs _ _ (lv_sub hl [1, 3, 4, 0] rfl) hW hS hkc hks
    intro x3 x6 h
    exact (hG21 x3 x6).mp (loop_walk (fun s => GG21 s.1 s.2) (fun rec hrec s h => hB21 (fun x3 x6 => rec (x3, x6)) (fun x3 x6 h => hrec (x3, x6) h) s.1 s.2 h) (x3, x6) h)
  intro h
  intro ls H locs cells slots hl hW hS hkc hks
  refine lv_iconst (v := 0) hx hb dX1_checksum_0 (by decide) ?_
  refine lv_istore_n (lv' := [(3, .int (0 : Int32)), (0, va_rf (some x0)), (1, .int x1), (2, .int x2)]) hx hb dX1_checksum_1 rfl hl (by decide) rfl (fun ls hl => ?_)
  refine sh_aload_n hx hb dX1_checksum_2 rfl (lv_at hl 1 rfl) ?_
  refine lv_iload_n hx hb dX1_checksum_3 rfl (lv_at hl 2 rfl) ?_
  refine lv_iload_n hx hb dX1_checksum_4 rfl (lv_at hl 3 rfl) ?_
  obtain ⟨a3, c4, ho5, hcv5, h⟩ := h
  have hcc := h.1
  have h := h.2
  obtain ⟨c7, s8, hc5, hs5, h⟩ := h
  refine call_X1_asked_V (ct_X1_asked l hfl) C hW hS q1595 ho5 hcv5 hcc (le_lit hRf rfl) (le_lit hRl rfl) hc5 hs5 hkc hks hl.1 (Nat.le_of_ble_eq_true rfl) dX1_checksum_5 h (fun E G9 ce q9 H locs hX hW hS h1 h2 h3 _ => hxo E G9 ce q9 5 ls H locs _ _ _ hW hS hX h1 h2 h3 (by omega) (by omega)) (fun r5 G6 H locs h hW hS _ hkc hks => ?_)
  obtain ⟨v9, h1, h⟩ := h
  refine sh_getN C hW xFb_6 q180 (fun _ h => h) (by decide) h1 dX1_checksum_8 ?_
  refine sh_astore (lv' := [(4, va_rf v9), (3, .int (0 : Int32)), (0, va_rf (some x0)), (1, .int x1), (2, .int x2)]) hx hb dX1_checksum_11 hl (by decide) rfl (fun ls hl => ?_)
  refine sh_aload hx hb dX1_checksum_13 (lv_at hl 0 rfl) ?_
  refine sh_len C hW h dX1_checksum_15 (fun v10 h => ?_)
  refine lv_istore (lv' := [(5, .int v10), (4, va_rf v9), (3, .int (0 : Int32)), (0, va_rf (some x0)), (1, .int x1), (2, .int x2)]) hx hb dX1_checksum_16 hl (by decide) (by simp only [List.filter_cons, List.filter_nil, va_rf_cat]; rfl) (fun ls hl => ?_)
  refine lv_iconst (v := 0) hx hb dX1_checksum_18 (by decide) ?_
  refine lv_istore (lv' := [(6, .int (0 : Int32)), (5, .int v10), (4, va_rf v9), (3, .int (0 : Int32)), (0, va_rf (some x0)), (1, .int x1), (2, .int x2)]) hx hb dX1_checksum_19 hl (by decide) rfl (fun ls hl => ?_)
  exact hL21 _ _ _ _ _ _ _ h ls H locs _ _ (lv_sub hl [3, 2, 1, 0] rfl) hW hS hkc hks
theorem ct_X1_checksum (l : Launch) (hfl : l.stackTraces = false) : CT_X1_checksum l 31 767 w_X1_checksum := by
  intro V sz G Q X x0 x1 x2 kc ks
  refine vx_ofW (cc := cX1_checksum) (maxL := 8) (ret := (some .int)) (by decide) rfl ?_
  intro p e s m args below meth c s₁ B hml hext hv
  obtain ⟨rfl, hsz, hW, hK, hZ, h⟩ := hv
  subst hsz
  have hts := atoms_spec (ws := (ws_ yX1_checksum cX1_checksum 8 (some .int))) B.pre
  have hts : ∀ w ∈ lw_all, w.before _ s = true := fun w h => hts w (List.mem_cons_of_mem _ h)
  have hl := lv_entry ([.ref x0, .int x1, .int x2]) (n := 8) (Nat.le_of_ble_eq_true rfl)
  rw [lg_entry_eq]
  generalize (lg_sl ([.ref x0, .int x1, .int x2]) ++ List.replicate (8 - (lg_sl ([.ref x0, .int x1, .int x2])).length) Slot.unset).toArray = ls at hl ⊢
  exact wk_X1_checksum Q X ⟨⟨B.exec, B.bytes, hml, findClass_of_methodNamed B.named, hts⟩, hK, hZ, fun q h => Or.inr h⟩ hfl (Nat.le_refl _) (Nat.le_refl _) G (fun v G pc ls H locs cells slots _ _ hd hW1 hS hkc hks hQ => W.widen (k := kc) (n := ks) (Nat.le_trans (Nat.le_add_right _ _) hkc) (Nat.le_trans (Nat.le_add_right _ _) hks) (vx_ret (W.iret (v := v) B.exec B.bytes B.returns (fun t ht _ => ⟨⟨v, G, rfl, hQ, by rw [← ht] at hW1; exact hW1⟩, hS.F ht⟩) hS.2.2 hd))) (fun E G9 ce q pc ls H locs cells slots rest hW1 hS hX h1 h2 h3 hc hs => vx_out (fun x hx => absurd (hext x hx) id) B.notSynchronized h1 h2 h3 (fun t ht _ => ⟨(E, G9), hX, ⟨rfl, by rw [← ht] at hW1; exact hW1⟩, hS.F ht⟩) hS.2.2 hc hs) x0 x1 x2 kc ks h ls _ [] 0 0 hl hW va_S.rf (by show 0 + kc ≤ kc; omega) (by show 0 + ks ≤ ks; omega)
def CT_X0_checksum (l : Launch) (fr lo : Nat) (w : XV → (Int32 → GM → Prop) → (Option Nat) → Int32 → Int32 → (Option Nat) → GM → Nat → Nat → Prop) : Prop := ∀ (V : XV) (sz : Nat) (G : GM) (Q : Int32 → GM → Prop) (x0 : Option Nat) (x1 : Int32) (x2 : Int32) (x3 : Option Nat) (kc ks : Nat), Met l yX0_checksum (wsW_ yX0_checksum cX0_checksum 5 (some .int) [(0, 10, 13, 19), (0, 10, 17, 21)]) { frames := fr, cells := kc, slots := ks, locals := lo } (va_Pc [va_rf x0, .int x1, .int x2, va_rf x3] (fun U => U.heap.size = sz ∧ xW V (xA G sz) G U.heap ∧ xK V U ∧ xZ V (xA G sz) U U.heap ∧ w V Q x0 x1 x2 x3 G kc ks)) (va_Qi (fun r (u : GM) => Q r u) (fun u t => xW V (xA G sz) u t.heap) (xA G sz)) kc ks (xA G sz)
def w_X0_checksum (V : XV) (Q : Int32 → GM → Prop) (x0 : Option Nat) (x1 : Int32) (x2 : Int32) (x3 : Option Nat) (G : GM) (kc : Nat) (ks : Nat) : Prop := gRcv G x0 (fun a1 c2 => (c2 % 64 = 0) ∧ (∃ c5 s6 : Nat, c5 ≤ kc ∧ s6 ≤ ks ∧ (w_X1_checksum V (fun r3 G4 => gJS G4 1 x3 (0 : Int32) (r3.toInt64) (fun G7 => Q (0 : Int32) G7)) (fun E G9 => if E = "java/lang/IndexOutOfBoundsException" then Q (1 : Int32) G9 else (if E = "java/lang/IllegalArgumentException" then Q (2 : Int32) G9 else (False))) a1 x1 x2 G c5 s6)))
set_option maxRecDepth 100000 in
set_option maxHeartbeats 4000000 in
theorem wk_X0_checksum {p : Program} {l : Launch} {e : Env} {R : Room} {s : State} {m : MethodId} {args : Array Value} {below : List Frame} {meth : Method} {c : Code} {Z : State → Prop} {A : Nat → Prop} {V : XV} (Q : Int32 → GM → Prop) (C : xC p m c s args cX0_checksum 5 RX0 V A) (hfl : l.stackTraces = false) (htab : c.exceptionTable.toList = tableOf [(0, 10, 13, 19), (0, 10, 17, 21)]) (hRf : 32 ≤ R.frames) (hRl : 794 ≤ R.locals) (G : GM) (hret : ∀ (v : Int32) (G : GM) (pc : Nat) (ls : Array Slot) (H : Heap) (locs : List Loc) (cells slots : Nat) {k1 k2 : Nat}, decode cX0_checksum pc = .ok (.ireturn, 1) → xW V A G H → va_S A s.heap H locs → cells + k1 ≤ R.cells → slots + k2 ≤ R.slots → Q v G → W p l e R s m args below meth c H locs cells slots Z (F0 m pc ls [.int v])) (x0 : Option Nat) (x1 : Int32) (x2 : Int32) (x3 : Option Nat) (kc ks : Nat) : w_X0_checksum V Q x0 x1 x2 x3 G kc ks → ∀ (ls : Array Slot) (H : Heap) (locs : List Loc) (cells slots : Nat), lv_has ls 5 [(0, va_rf x0), (1, .int x1), (2, .int x2), (3, va_rf x3)] → xW V A G H → va_S A s.heap H locs → cells + kc ≤ R.cells → slots + ks ≤ R.slots → W p l e R s m args below meth c H locs cells slots Z (F0 m 0 ls []) := by
  have hx := C.1.1; have hb := C.1.2.1; have hml := C.1.2.2.1; have hown := C.1.2.2.2.1; have hts := C.1.2.2.2.2
  intro h
  intro ls H locs cells slots hl hW hS hkc hks
  refine sh_aload_n hx hb dX0_checksum_0 rfl (lv_at hl 3 rfl) ?_
  refine lv_iconst (v := 0) hx hb dX0_checksum_1 (by decide) ?_
  refine sh_aload_n hx hb dX0_checksum_2 rfl (lv_at hl 0 rfl) ?_
  refine lv_iload_n hx hb dX0_checksum_3 rfl (lv_at hl 1 rfl) ?_
  refine lv_iload_n hx hb dX0_checksum_4 rfl (lv_at hl 2 rfl) ?_
  obtain ⟨a1, c2, ho5, hcv5, h⟩ := h
  have hcc := h.1
  have h := h.2
  obtain ⟨c5, s6, hc5, hs5, h⟩ := h
  refine call_X1_checksum_V (ct_X1_checksum l hfl) C hW hS q1606 ho5 hcv5 hcc (le_lit hRf rfl) (le_lit hRl rfl) hc5 hs5 hkc hks hl.1 (by simp only [List.map_cons, List.map_nil, va_rf_cat]; exact Nat.le_of_ble_eq_true rfl) dX0_checksum_5 h (fun E G9 ce q9 H locs hX hW hS h1 h2 h3 _ => by
      by_cases c900 : E = "java/lang/IndexOutOfBoundsException"
      · have hX := wif_t hX c900
        subst c900
        refine vx_catch hown [] ⟨0, 10, 13, 19⟩ [⟨0, 10, 17, 21⟩] (htab.trans rfl) (fun z hz => absurd hz List.not_mem_nil) rfl (by decide) (hts _ q740) (va_Nw.use rfl (C.2.1.2.2.1 _ q757 rfl)) h1 h2 h3 ?_
        refine sh_astore (lv' := [(4, va_rf (some q9)), (0, va_rf x0), (1, .int x1), (2, .int x2), (3, va_rf x3)]) hx hb dX0_checksum_13 hl (by decide) (by simp only [List.filter_cons, List.filter_nil, va_rf_cat]; rfl) (fun ls hl => ?_)
        refine lv_iconst (v := 1) hx hb dX0_checksum_15 (by decide) ?_
        exact hret _ _ _ _ _ _ _ _ (k1 := 0) (k2 := 0) dX0_checksum_16 hW hS (by omega) (by omega) hX
      have hX := wif_f hX c900
      by_cases c901 : E = "java/lang/IllegalArgumentException"
      · have hX := wif_t hX c901
        subst c901
        refine vx_catch hown [⟨0, 10, 13, 19⟩] ⟨0, 10, 17, 21⟩ [] (htab.trans rfl) (by intro z hz; simp only [List.mem_cons, List.not_mem_nil, or_false] at hz; rcases hz with rfl <;> first | (exact Or.inr ⟨by decide, "java/lang/IndexOutOfBoundsException", hts _ q740, C.2.1.2.2.2.2.2.2.1 ("java/lang/IllegalArgumentException", "java/lang/IndexOutOfBoundsException") (by decide)⟩)) rfl (by decide) (hts _ q743) (va_Nw.use rfl (C.2.1.2.2.1 _ q441 rfl)) h1 h2 h3 ?_
        refine sh_astore (lv' := [(4, va_rf (some q9)), (0, va_rf x0), (1, .int x1), (2, .int x2), (3, va_rf x3)]) hx hb dX0_checksum_17 hl (by decide) (by simp only [List.filter_cons, List.filter_nil, va_rf_cat]; rfl) (fun ls hl => ?_)
        refine lv_iconst (v := 2) hx hb dX0_checksum_19 (by decide) ?_
        exact hret _ _ _ _ _ _ _ _ (k1 := 0) (k2 := 0) dX0_checksum_20 hW hS (by omega) (by omega) hX
      have hX := wif_f hX c901
      exact False.elim hX) (fun r3 G4 H locs h hW hS _ hkc hks => ?_)
  refine lv_i2l hx hb dX0_checksum_8 rfl ?_
  refine sh_last C hW hS h dX0_checksum_9 (fun G7 H locs hW hS h => ?_)
  refine lv_goto (tgt := 21) hx hb dX0_checksum_10 (by decide) ?_
  refine lv_iconst (v := 0) hx hb dX0_checksum_21 (by decide) ?_
  exact hret _ _ _ _ _ _ _ _ dX0_checksum_22 hW hS hkc hks h
theorem ct_X0_checksum (l : Launch) (hfl : l.stackTraces = false) : CT_X0_checksum l 32 794 w_X0_checksum := by
  intro V sz G Q x0 x1 x2 x3 kc ks
  refine gx_ofWH (cc := cX0_checksum) (maxL := 5) (ret := (some .int)) (hh := [(0, 10, 13, 19), (0, 10, 17, 21)]) (by decide) rfl ?_
  intro p e s m args below meth c s₁ B hml htab hv
  obtain ⟨rfl, hsz, hW, hK, hZ, h⟩ := hv
  subst hsz
  have hts := atoms_spec (ws := (wsW_ yX0_checksum cX0_checksum 5 (some .int) [(0, 10, 13, 19), (0, 10, 17, 21)])) B.pre
  have hts : ∀ w ∈ lw_all, w.before _ s = true := fun w h => hts w (List.mem_cons_of_mem _ h)
  have key : ∃ ls : Array Slot, entryFrame m ([va_rf x0, .int x1, .int x2, va_rf x3] : List Value).toArray 5 = F0 m 0 ls [] ∧ lv_has ls 5 [(0, va_rf x0), (1, .int x1), (2, .int x2), (3, va_rf x3)] := by
    cases x0 <;> cases x3 <;> (refine ⟨_, by rw [lg_entry_eq], ?_⟩; exact lv_entry _ (Nat.le_of_ble_eq_true rfl))
  obtain ⟨ls, hfr, hl⟩ := key
  rw [hfr]
  exact wk_X0_checksum Q ⟨⟨B.exec, B.bytes, hml, findClass_of_methodNamed B.named, hts⟩, hK, hZ, fun q h => Or.inr h⟩ hfl htab (Nat.le_refl _) (Nat.le_refl _) G (fun v G pc ls H locs cells slots _ _ hd hW1 hS hkc hks hQ => W.widen (k := kc) (n := ks) (Nat.le_trans (Nat.le_add_right _ _) hkc) (Nat.le_trans (Nat.le_add_right _ _) hks) (W.iret (v := v) B.exec B.bytes B.returns (fun t ht _ => ⟨⟨v, G, rfl, hQ, by rw [← ht] at hW1; exact hW1⟩, hS.F ht⟩) hS.2.2 hd)) x0 x1 x2 x3 kc ks h ls _ [] 0 0 hl hW va_S.rf (by show 0 + kc ≤ kc; omega) (by show 0 + ks ≤ ks; omega)
def CT_X2_isLike (l : Launch) (fr lo : Nat) (w : XV → (Int32 → Prop) → Nat → (Option Nat) → GM → Prop) : Prop := ∀ (V : XV) (sz : Nat) (G : GM) (Q : Int32 → Prop) (x0 : Nat) (x1 : Option Nat), Met l yX2_isLike (ws_ yX2_isLike cX2_isLike 3 (some .boolean)) { frames := fr, cells := 0, slots := 0, locals := lo } (va_Pc [.ref x0, va_rf x1] (fun U => U.heap.size = sz ∧ xW V (xA G sz) G U.heap ∧ xK V U ∧ xZ V (xA G sz) U U.heap ∧ w V Q x0 x1 G)) (va_Qi (fun r (u : GM) => u = G ∧ Q r) (fun u t => xW V (xA G sz) u t.heap) (xA G sz)) 0 0 (xA G sz)
theorem call_X2_isLike_V {p : Program} {l : Launch} {e : Env} {R : Room} {s : State} {m : MethodId} {args : Array Value} {below : List Frame} {meth : Method} {c : Code} {H : Heap} {locs : List Loc} {cells slots : Nat} {Z : State → Prop} {A : Nat → Prop} {cc : ByteArray} {nL pc : Nat} {ls : Array Slot} {rest : List Value} {own : String} {index fr lo : Nat} {w : XV → (Int32 → Prop) → Nat → (Option Nat) → GM → Prop} {V : XV} {G : GM} {o : Option Nat} {ci : Nat} {x0 : Nat} {x1 : Option Nat} (hM : CT_X2_isLike l fr lo w) (C : xC p m c s args cc nL own V A) (hW : xW V A G H) (hS : va_S A s.heap H locs) (hlink : Cond.methodLink own index yX2_isLike ∈ lw_all) (ho : o = some x0) (hcv : gCi G (some x0) = some ci) (hci : ci % 64 = 1) (hRf : fr + 1 ≤ R.frames) (hRl : 8 + (3 + 11) + lo ≤ R.locals) (hcs : cells ≤ R.cells ∧ slots ≤ R.slots) (hz : ls.size = nL) (hr8 : (rest.map fun v => v.category).sum ≤ 8) (hdg : decode cc pc = .ok (.invokevirtual index, 3)) {Q1 : Int32 → Prop} (h : w V Q1 x0 x1 G) (kk : ∀ (r : Int32) (H1 : Heap) (locs1 : List Loc), Q1 r → xW V A G H1 → va_S A s.heap H1 locs1 → xFr V G G H H1 → W p l e R s m args below meth c H1 locs1 cells slots Z (F0 m (pc + 3) ls (.int r :: rest))) : W p l e R s m args below meth c H locs cells slots Z (F0 m pc ls (va_rf x1 :: va_rf o :: rest)) := by
  subst ho
  obtain ⟨fs, hG⟩ := gCi_of hcv
  exact rg_i3r (va_runV (As := [va_rf x1]) (rest := rest) C.1 (hM V H.size G Q1 x0 x1) (cwV 1 C.1.2.2.2.2 (lw_V hlink q1618 q1619 q67 q1620) rfl rfl rfl (by decide +kernel) ⟨hRf, hRl⟩) ⟨fun a U g mk q => by obtain ⟨q0, q1, qW, qK, qZ, qw⟩ := q; exact ⟨q0, q1, qW, xK.same (u := U) (U := U.calling g mk a) rfl qK, xZ.moved (u := U) (U := U.calling g mk a) (Vm.Alike.refl U.vm) qZ, qw⟩, (hW.recv C.2.1 hG (r := (RX2, TX2, 5)) (by rw [hci]; rfl)), fun U hU hWm => ⟨rfl, by rw [hU], by rw [hU]; exact hW.self _, C.2.1.warm hWm, xZ.call C.2.2.1 hW hS C.2.2.2 hU hWm.alike, h⟩⟩ rfl rfl hz rfl (lv_room hr8) hdg hcs) hW hS C.2.2.2 (fun r H1 locs1 hp hW1 hS1 hF1 => kk r H1 locs1 hp hW1 hS1 hF1)
def w_X2_isLike_h2 (V : XV) (Q : Int32 → Prop) (x0 : Nat) (x1 : Option Nat) (G : GM) (rec2 : Int32 → Prop) (x2 : Int32) : Prop := gGR G 6 (some x0) (fun v1 => gLn G v1 (fun v2 => if v2 ≤ x2 then (Q (1 : Int32)) else (gGR G 6 (some x0) (fun v3 => gIL G 2 v3 x2 (fun v4 => gGR G 6 x1 (fun v5 => gIL G 2 v5 x2 (fun v6 => if v4 = v6 then (rec2 (x2 + (1 : Int32))) else (Q (0 : Int32)))))))))
def w_X2_isLike_L2 (V : XV) (Q : Int32 → Prop) (x0 : Nat) (x1 : Option Nat) (G : GM) (x2 : Int32) : Prop := wLoop (fun (rec : Int32 → Prop) (s : Int32) => w_X2_isLike_h2 V Q x0 x1 G (fun x2 => rec x2) s) x2
def w_X2_isLike (V : XV) (Q : Int32 → Prop) (x0 : Nat) (x1 : Option Nat) (G : GM) : Prop := w_X2_isLike_L2 V Q x0 x1 G (0 : Int32)
set_option maxRecDepth 100000 in
set_option maxHeartbeats 4000000 in
theorem wk_X2_isLike {p : Program} {l : Launch} {e : Env} {R : Room} {s : State} {m : MethodId} {args : Array Value} {below : List Frame} {meth : Method} {c : Code} {cells slots : Nat} {Z : State → Prop} {A : Nat → Prop} {V : XV} (Q : Int32 → Prop) (C : xC p m c s args cX2_isLike 3 RX2 V A) (hRf : 1 ≤ R.frames) (hRl : 20 ≤ R.locals) (hcs : cells ≤ R.cells ∧ slots ≤ R.slots) (G : GM) (hret : ∀ (v : Int32) (pc : Nat) (ls : Array Slot) (H : Heap) (locs : List Loc), decode cX2_isLike pc = .ok (.ireturn, 1) → xW V A G H → va_S A s.heap H locs → isZ v → Q v → W p l e R s m args below meth c H locs cells slots Z (F0 m pc ls [.int v])) (x0 : Nat) (x1 : Option Nat) : w_X2_isLike V Q x0 x1 G → ∀ (ls : Array Slot) (H : Heap) (locs : List Loc), lv_has ls 3 [(0, va_rf (some x0)), (1, va_rf x1)] → xW V A G H → va_S A s.heap H locs → W p l e R s m args below meth c H locs cells slots Z (F0 m 0 ls []) := by
  have hx := C.1.1; have hb := C.1.2.1; have hml := C.1.2.2.1; have hown := C.1.2.2.2.1; have hts := C.1.2.2.2.2
  have hL2 : ∀ (x2 : Int32), w_X2_isLike_L2 V Q x0 x1 G x2 → ∀ (ls : Array Slot) (H : Heap) (locs : List Loc), lv_has ls 3 [(0, va_rf (some x0)), (1, va_rf x1), (2, .int x2)] → xW V A G H → va_S A s.heap H locs → W p l e R s m args below meth c H locs cells slots Z (F0 m 2 ls []) := by
    obtain ⟨GG2, hG2⟩ : ∃ GG : Int32 → Prop, ∀ (x2 : Int32), GG x2 ↔ (∀ (ls : Array Slot) (H : Heap) (locs : List Loc), lv_has ls 3 [(0, va_rf (some x0)), (1, va_rf x1), (2, .int x2)] → xW V A G H → va_S A s.heap H locs → W p l e R s m args below meth c H locs cells slots Z (F0 m 2 ls [])) := ⟨fun x2 => _, fun x2 => Iff.rfl⟩
    have hB2 : ∀ (rec2 : Int32 → Prop), (∀ (x2 : Int32), rec2 x2 → GG2 x2) → ∀ (x2 : Int32), w_X2_isLike_h2 V Q x0 x1 G rec2 x2 → GG2 x2 := by
      intro rec2 hrec2
      intro x2 h
      rw [hG2]
      intro ls H locs hl hW hS
      refine lv_iload_n hx hb dX2_isLike_2 rfl (lv_at hl 2 rfl) ?_
      refine sh_aload_n hx hb dX2_isLike_3 rfl (lv_at hl 0 rfl) ?_
      obtain ⟨v1, h1, h⟩ := h
      refine sh_get C hW xFb_6 q179 (fun _ h => h) h1 dX2_isLike_4 ?_
      refine sh_len C hW h dX2_isLike_7 (fun v2 h => ?_)
      refine lv_icmp_ge (tgt := 34) hx hb dX2_isLike_8 (by decide) (fun c8 => ?_) (fun c8 => ?_)
      · have h := wif_t h c8
        refine lv_iconst (v := 1) hx hb dX2_isLike_34 (by decide) ?_
        exact hret _ _ _ _ _ dX2_isLike_35 hW hS isZ_1 h
      · have h := wif_f h c8
        refine sh_aload_n hx hb dX2_isLike_11 rfl (lv_at hl 0 rfl) ?_
        obtain ⟨v3, h1, h⟩ := h
        refine sh_get C hW xFb_6 q179 (fun _ h => h) h1 dX2_isLike_12 ?_
        refine lv_iload_n hx hb dX2_isLike_15 rfl (lv_at hl 2 rfl) ?_
        refine sh_bald C hW h dX2_isLike_16 (fun v4 h => ?_)
        refine sh_aload_n hx hb dX2_isLike_17 rfl (lv_at hl 1 rfl) ?_
        obtain ⟨v5, h1, h⟩ := h
        refine sh_get C hW xFb_6 q179 (fun _ h => h) h1 dX2_isLike_18 ?_
        refine lv_iload_n hx hb dX2_isLike_21 rfl (lv_at hl 2 rfl) ?_
        refine sh_bald C hW h dX2_isLike_22 (fun v6 h => ?_)
        refine lv_icmp_eq (tgt := 28) hx hb dX2_isLike_23 (by decide) (fun c7 => ?_) (fun c7 => ?_)
        · have h := wif_t h c7
          refine lv_iinc (v := x2 + (1 : Int32)) (lv' := [(2, .int (x2 + (1 : Int32))), (0, va_rf (some x0)), (1, va_rf x1)]) hx hb dX2_isLike_28 hl (k := 2) rfl (congrArg (fun z => x2 + z) (by decide)) (by decide) (by simp only [List.filter_cons, List.filter_nil, va_rf_cat]; rfl) (fun ls hl => ?_)
          refine lv_goto (tgt := 2) hx hb dX2_isLike_31 (by decide) ?_
          exact (hG2 _).mp (hrec2 _ h) ls H locs (lv_sub hl [1, 2, 0] rfl) hW hS
        · have h := wif_f h c7
          refine lv_iconst (v := 0) hx hb dX2_isLike_26 (by decide) ?_
          exact hret _ _ _ _ _ dX2_isLike_27 hW hS isZ_0 h
    intro x2 h
    exact (hG2 x2).mp (loop_walk (fun s => GG2 s) (fun rec hrec s h => hB2 (fun x2 => rec x2) (fun x2 h => hrec x2 h) s h) x2 h)
  intro h
  intro ls H locs hl hW hS
  refine lv_iconst (v := 0) hx hb dX2_isLike_0 (by decide) ?_
  refine lv_istore_n (lv' := [(2, .int (0 : Int32)), (0, va_rf (some x0)), (1, va_rf x1)]) hx hb dX2_isLike_1 rfl hl (by decide) (by simp only [List.filter_cons, List.filter_nil, va_rf_cat]; rfl) (fun ls hl => ?_)
  exact hL2 _ h ls H locs (lv_sub hl [1, 2, 0] rfl) hW hS
theorem ct_X2_isLike (l : Launch) : CT_X2_isLike l 1 20 w_X2_isLike := by
  intro V sz G Q x0 x1
  refine Met.ofW (cc := cX2_isLike) (maxL := 3) (ret := (some .boolean)) (by decide) rfl ?_
  intro p e s m args below meth c s₁ B hml hv
  obtain ⟨rfl, hsz, hW, hK, hZ, h⟩ := hv
  subst hsz
  have hts := atoms_spec (ws := (ws_ yX2_isLike cX2_isLike 3 (some .boolean))) B.pre
  have hts : ∀ w ∈ lw_all, w.before _ s = true := fun w h => hts w (List.mem_cons_of_mem _ h)
  have key : ∃ ls : Array Slot, entryFrame m ([.ref x0, va_rf x1] : List Value).toArray 3 = F0 m 0 ls [] ∧ lv_has ls 3 [(0, va_rf (some x0)), (1, va_rf x1)] := by
    cases x1 <;> (refine ⟨_, by rw [lg_entry_eq], ?_⟩; exact lv_entry _ (Nat.le_of_ble_eq_true rfl))
  obtain ⟨ls, hfr, hl⟩ := key
  rw [hfr]
  exact wk_X2_isLike Q ⟨⟨B.exec, B.bytes, hml, findClass_of_methodNamed B.named, hts⟩, hK, hZ, fun q h => Or.inr h⟩ (Nat.le_refl _) (Nat.le_refl _) ⟨Nat.le_refl _, Nat.le_refl _⟩ G (fun v pc ls H locs hd hW1 hS hz hQ => W.zret (v := v) B.exec B.bytes B.returns hz.nar (fun t ht _ => ⟨⟨v, G, rfl, ⟨rfl, hQ⟩, by rw [← ht] at hW1; exact hW1⟩, hS.F ht⟩) hS.2.2 hd) x0 x1 h ls _ [] hl hW va_S.rf
def CT_X1_playErrors (l : Launch) (fr lo : Nat) (w : XV → (Int32 → GM → Prop) → (String → GM → Prop) → Nat → Int32 → Int32 → Int32 → GM → Nat → Nat → Prop) : Prop := ∀ (V : XV) (sz : Nat) (G : GM) (Q : Int32 → GM → Prop) (X : String → GM → Prop) (x0 : Nat) (x1 : Int32) (x2 : Int32) (x3 : Int32) (kc ks : Nat), vx_Met l yX1_playErrors (ws_ yX1_playErrors cX1_playErrors 7 (some .int)) { frames := fr, cells := kc, slots := ks, locals := lo } (va_Pc [.ref x0, .int x1, .int x2, .int x3] (fun U => U.heap.size = sz ∧ xW V (xA G sz) G U.heap ∧ xK V U ∧ xZ V (xA G sz) U U.heap ∧ w V Q X x0 x1 x2 x3 G kc ks)) (va_Qi (fun r (u : GM) => Q r u) (fun u t => xW V (xA G sz) u t.heap) (xA G sz)) (vx_X (fun u : String × GM => X u.1 u.2) (fun E u t => E = u.1 ∧ xW V (xA G sz) u.2 t.heap) (xA G sz)) kc ks (xA G sz)
theorem call_X1_playErrors_V {p : Program} {l : Launch} {e : Env} {R : Room} {s : State} {m : MethodId} {args : Array Value} {below : List Frame} {meth : Method} {c : Code} {H : Heap} {locs : List Loc} {cells slots : Nat} {Z : State → Prop} {A : Nat → Prop} {cc : ByteArray} {nL pc : Nat} {ls : Array Slot} {rest : List Value} {own : String} {index fr lo : Nat} {w : XV → (Int32 → GM → Prop) → (String → GM → Prop) → Nat → Int32 → Int32 → Int32 → GM → Nat → Nat → Prop} {V : XV} {G : GM} {o : Option Nat} {ci : Nat} {kc ks c1 s1 : Nat} {x0 : Nat} {x1 : Int32} {x2 : Int32} {x3 : Int32} (hM : CT_X1_playErrors l fr lo w) (C : xC p m c s args cc nL own V A) (hW : xW V A G H) (hS : va_S A s.heap H locs) (hlink : Cond.methodLink own index yX1_playErrors ∈ lw_all) (ho : o = some x0) (hcv : gCi G (some x0) = some ci) (hci : ci % 64 = 0) (hRf : fr + 1 ≤ R.frames) (hRl : 8 + (7 + 11) + lo ≤ R.locals) (hc1 : c1 ≤ kc) (hs1 : s1 ≤ ks) (hkc : cells + kc ≤ R.cells) (hks : slots + ks ≤ R.slots) (hz : ls.size = nL) (hr8 : (rest.map fun v => v.category).sum ≤ 8) (hdg : decode cc pc = .ok (.invokevirtual index, 3)) {Q1 : Int32 → GM → Prop} {X1 : String → GM → Prop} (h : w V Q1 X1 x0 x1 x2 x3 G c1 s1) (kx : ∀ (E : String) (G1 : GM) (ce : Cell) (q9 : Addr) (H1 : Heap) (locs1 : List Loc), X1 E G1 → xW V A G1 H1 → va_S A s.heap H1 locs1 → H1[q9]? = some ce → ce.vm = .none → s.vm.findClass E = some ce.cls → xFr V G G1 H H1 → vx_W p l e R s m args below meth c H1 locs1 (cells + c1) (slots + s1) Z (F0 m pc ls rest) q9) (kk : ∀ (r : Int32) (G1 : GM) (H1 : Heap) (locs1 : List Loc), Q1 r G1 → xW V A G1 H1 → va_S A s.heap H1 locs1 → xFr V G G1 H H1 → (cells + c1) + (kc - c1) ≤ R.cells → (slots + s1) + (ks - s1) ≤ R.slots → W p l e R s m args below meth c H1 locs1 (cells + c1) (slots + s1) Z (F0 m (pc + 3) ls (.int r :: rest))) : W p l e R s m args below meth c H locs cells slots Z (F0 m pc ls (.int x3 :: .int x2 :: .int x1 :: va_rf o :: rest)) := by
  subst ho
  obtain ⟨fs, hG⟩ := gCi_of hcv
  exact rx_i3w (vx_runV (As := [.int x1, .int x2, .int x3]) (rest := rest) C.1 (hM V H.size G Q1 X1 x0 x1 x2 x3 c1 s1) (cwV 3 C.1.2.2.2.2 (lw_V hlink q1614 q1615 q59 q1616) rfl rfl rfl (by decide +kernel) ⟨hRf, hRl⟩) ⟨fun a U g mk q => by obtain ⟨q0, q1, qW, qK, qZ, qw⟩ := q; exact ⟨q0, q1, qW, xK.same (u := U) (U := U.calling g mk a) rfl qK, xZ.moved (u := U) (U := U.calling g mk a) (Vm.Alike.refl U.vm) qZ, qw⟩, (hW.recv C.2.1 hG (r := (RX1, TX1, 6)) (by rw [hci]; rfl)), fun U hU hWm => ⟨rfl, by rw [hU], by rw [hU]; exact hW.self _, C.2.1.warm hWm, xZ.call C.2.2.1 hW hS C.2.2.2 hU hWm.alike, h⟩⟩ rfl rfl hz rfl (lv_room hr8) hdg ⟨by omega, by omega⟩) hW hS C.2.2.2 kx (fun r G1 H1 locs1 hp hW1 hS1 hF1 => kk r G1 H1 locs1 hp hW1 hS1 hF1 (by omega) (by omega))
def w_X1_playErrors_68 (V : XV) (Q : Int32 → GM → Prop) (X : String → GM → Prop) (rec27 : Int32 → Int32 → GM → Nat → Nat → Prop) (x0 : Nat) (x2 : Int32) (x3 : Int32) (x4 : Option Nat) (x5 : Int32) (x6 : Int32) (G : GM) (kc : Nat) (ks : Nat) : Prop := rec27 x5 (x6 + (1 : Int32)) G kc ks
def w_X1_playErrors_h27 (V : XV) (Q : Int32 → GM → Prop) (X : String → GM → Prop) (x0 : Nat) (x2 : Int32) (x3 : Int32) (x4 : Option Nat) (rec27 : Int32 → Int32 → GM → Nat → Nat → Prop) (x5 : Int32) (x6 : Int32) (G : GM) (kc : Nat) (ks : Nat) : Prop := if (x2 + x3) ≤ x6 then (Q x5 G) else (if (999 : Int32) < x6 then (Q x5 G) else (gRcv G (some x0) (fun a1 c2 => (c2 % 64 = 0) ∧ (∃ c5 s6 : Nat, c5 ≤ kc ∧ s6 ≤ ks ∧ (w_X1_frame V (fun r3 G4 => gRcv G4 (some x0) (fun a7 c8 => (c8 % 64 = 0) ∧ (∃ c11 s12 : Nat, c11 ≤ (kc - c5) ∧ s12 ≤ (ks - s6) ∧ (w_X1_drawn V (fun r9 G10 => gRcv G10 r3 (fun a13 c14 => (c14 % 64 = 1) ∧ (w_X2_isLike V (fun r15 => if r15 = 0 then (w_X1_playErrors_68 V Q X rec27 x0 x2 x3 x4 (x5 + (1 : Int32)) x6 G10 ((kc - c5) - c11) ((ks - s6) - s12)) else (w_X1_playErrors_68 V Q X rec27 x0 x2 x3 x4 x5 x6 G10 ((kc - c5) - c11) ((ks - s6) - s12))) a13 r9 G10))) a7 x4 x6 G4 c11 s12)))) a1 x4 x6 G c5 s6)))))
def w_X1_playErrors_L27 (V : XV) (Q : Int32 → GM → Prop) (X : String → GM → Prop) (x0 : Nat) (x2 : Int32) (x3 : Int32) (x4 : Option Nat) (x5 : Int32) (x6 : Int32) (G : GM) (kc : Nat) (ks : Nat) : Prop := wLoop (fun (rec : (Int32 × Int32 × GM × Nat × Nat) → Prop) (s : Int32 × Int32 × GM × Nat × Nat) => w_X1_playErrors_h27 V Q X x0 x2 x3 x4 (fun x5 x6 G kc ks => rec (x5, x6, G, kc, ks)) s.1 s.2.1 s.2.2.1 s.2.2.2.1 s.2.2.2.2) (x5, x6, G, kc, ks)
def w_X1_playErrors (V : XV) (Q : Int32 → GM → Prop) (X : String → GM → Prop) (x0 : Nat) (x1 : Int32) (x2 : Int32) (x3 : Int32) (G : GM) (kc : Nat) (ks : Nat) : Prop := gRcv G (some x0) (fun a19 c20 => (c20 % 64 = 0) ∧ (∃ c22 s23 : Nat, c22 ≤ kc ∧ s23 ≤ ks ∧ (w_X1_composition V (fun r21 => ∃ c24 s25 : Nat, c24 ≤ (kc - c22) ∧ s25 ≤ (ks - s23) ∧ (w_X1_checkTime V (w_X1_isBetween V (fun r26 => ∃ c27 s28 : Nat, c27 ≤ ((kc - c22) - c24) ∧ s28 ≤ ((ks - s23) - s25) ∧ (w_X1_checkArgument V (w_X1_playErrors_L27 V Q X x0 x2 x3 r21 (0 : Int32) x2 G (((kc - c22) - c24) - c27) (((ks - s23) - s25) - s28)) X r26 G c27 s28)) x3 (1 : Int32) (20 : Int32) G) X x2 G c24 s25)) X a19 x1 G c22 s23)))
set_option maxRecDepth 100000 in
set_option maxHeartbeats 4000000 in
theorem wk_X1_playErrors {p : Program} {l : Launch} {e : Env} {R : Room} {s : State} {m : MethodId} {args : Array Value} {below : List Frame} {meth : Method} {c : Code} {Z : State → Prop} {A : Nat → Prop} {V : XV} (Q : Int32 → GM → Prop) (X : String → GM → Prop) (C : xC p m c s args cX1_playErrors 7 RX1 V A) (hfl : l.stackTraces = false) (hRf : 30 ≤ R.frames) (hRl : 744 ≤ R.locals) (G : GM) (hret : ∀ (v : Int32) (G : GM) (pc : Nat) (ls : Array Slot) (H : Heap) (locs : List Loc) (cells slots : Nat) {k1 k2 : Nat}, decode cX1_playErrors pc = .ok (.ireturn, 1) → xW V A G H → va_S A s.heap H locs → cells + k1 ≤ R.cells → slots + k2 ≤ R.slots → Q v G → W p l e R s m args below meth c H locs cells slots Z (F0 m pc ls [.int v])) (hxo : ∀ (E : String) (G : GM) (ce : Cell) (q : Addr) (pc : Nat) (ls : Array Slot) (H : Heap) (locs : List Loc) (cells slots : Nat) (rest : List Value), xW V A G H → va_S A s.heap H locs → X E G → H[q]? = some ce → ce.vm = .none → s.vm.findClass E = some ce.cls → cells ≤ R.cells → slots ≤ R.slots → vx_W p l e R s m args below meth c H locs cells slots Z (F0 m pc ls rest) q) (x0 : Nat) (x1 : Int32) (x2 : Int32) (x3 : Int32) (kc ks : Nat) : w_X1_playErrors V Q X x0 x1 x2 x3 G kc ks → ∀ (ls : Array Slot) (H : Heap) (locs : List Loc) (cells slots : Nat), lv_has ls 7 [(0, va_rf (some x0)), (1, .int x1), (2, .int x2), (3, .int x3)] → xW V A G H → va_S A s.heap H locs → cells + kc ≤ R.cells → slots + ks ≤ R.slots → W p l e R s m args below meth c H locs cells slots Z (F0 m 0 ls []) := by
  have hx := C.1.1; have hb := C.1.2.1; have hml := C.1.2.2.1; have hown := C.1.2.2.2.1; have hts := C.1.2.2.2.2
  have hL27 : ∀ (x4 : Option Nat) (x5 : Int32) (x6 : Int32) (G : GM) (kc : Nat) (ks : Nat), w_X1_playErrors_L27 V Q X x0 x2 x3 x4 x5 x6 G kc ks → ∀ (ls : Array Slot) (H : Heap) (locs : List Loc) (cells slots : Nat), lv_has ls 7 [(0, va_rf (some x0)), (2, .int x2), (3, .int x3), (4, va_rf x4), (5, .int x5), (6, .int x6)] → xW V A G H → va_S A s.heap H locs → cells + kc ≤ R.cells → slots + ks ≤ R.slots → W p l e R s m args below meth c H locs cells slots Z (F0 m 27 ls []) := by
    intro x4
    obtain ⟨GG27, hG27⟩ : ∃ GG : Int32 → Int32 → GM → Nat → Nat → Prop, ∀ (x5 : Int32) (x6 : Int32) (G : GM) (kc : Nat) (ks : Nat), GG x5 x6 G kc ks ↔ (∀ (ls : Array Slot) (H : Heap) (locs : List Loc) (cells slots : Nat), lv_has ls 7 [(0, va_rf (some x0)), (2, .int x2), (3, .int x3), (4, va_rf x4), (5, .int x5), (6, .int x6)] → xW V A G H → va_S A s.heap H locs → cells + kc ≤ R.cells → slots + ks ≤ R.slots → W p l e R s m args below meth c H locs cells slots Z (F0 m 27 ls [])) := ⟨fun x5 x6 G kc ks => _, fun x5 x6 G kc ks => Iff.rfl⟩
    have hB27 : ∀ (rec27 : Int32 → Int32 → GM → Nat → Nat → Prop), (∀ (x5 : Int32) (x6 : Int32) (G : GM) (kc : Nat) (ks : Nat), rec27 x5 x6 G kc ks → GG27 x5 x6 G kc ks) → ∀ (x5 : Int32) (x6 : Int32) (G : GM) (kc : Nat) (ks : Nat), w_X1_playErrors_h27 V Q X x0 x2 x3 x4 rec27 x5 x6 G kc ks → GG27 x5 x6 G kc ks := by
      intro rec27 hrec27
      have hb68 : ∀ (x5 : Int32) (x6 : Int32) (G : GM) (kc : Nat) (ks : Nat), w_X1_playErrors_68 V Q X rec27 x0 x2 x3 x4 x5 x6 G kc ks → ∀ (ls : Array Slot) (H : Heap) (locs : List Loc) (cells slots : Nat), lv_has ls 7 [(0, va_rf (some x0)), (2, .int x2), (3, .int x3), (4, va_rf x4), (5, .int x5), (6, .int x6)] → xW V A G H → va_S A s.heap H locs → cells + kc ≤ R.cells → slots + ks ≤ R.slots → W p l e R s m args below meth c H locs cells slots Z (F0 m 68 ls []) := by
        intro x5 x6 G kc ks h
        intro ls H locs cells slots hl hW hS hkc hks
        refine lv_iinc (v := x6 + (1 : Int32)) (lv' := [(6, .int (x6 + (1 : Int32))), (0, va_rf (some x0)), (2, .int x2), (3, .int x3), (4, va_rf x4), (5, .int x5)]) hx hb dX1_playErrors_68 hl (k := 5) rfl (congrArg (fun z => x6 + z) (by decide)) (by decide) rfl (fun ls hl => ?_)
        refine lv_goto (tgt := 27) hx hb dX1_playErrors_71 (by decide) ?_
        exact (hG27 _ _ _ _ _).mp (hrec27 _ _ _ _ _ h) ls H locs _ _ (lv_sub hl [1, 2, 3, 4, 5, 0] rfl) hW hS hkc hks
      intro x5 x6 G kc ks h
      rw [hG27]
      intro ls H locs cells slots hl hW hS hkc hks
      refine lv_iload hx hb dX1_playErrors_27 (lv_at hl 5 rfl) ?_
      refine lv_iload_n hx hb dX1_playErrors_29 rfl (lv_at hl 1 rfl) ?_
      refine lv_iload_n hx hb dX1_playErrors_30 rfl (lv_at hl 2 rfl) ?_
      refine lv_iadd hx hb dX1_playErrors_31 ?_
      refine lv_icmp_ge (tgt := 74) hx hb dX1_playErrors_32 (by decide) (fun c18 => ?_) (fun c18 => ?_)
      · have h := wif_t h c18
        refine lv_iload hx hb dX1_playErrors_74 (lv_at hl 4 rfl) ?_
        exact hret _ _ _ _ _ _ _ _ dX1_playErrors_76 hW hS hkc hks h
      · have h := wif_f h c18
        refine lv_iload hx hb dX1_playErrors_35 (lv_at hl 5 rfl) ?_
        refine lv_sipush (v := 999) hx hb dX1_playErrors_37 (by decide) ?_
        refine lv_icmp_gt (tgt := 74) hx hb dX1_playErrors_40 (by decide) (fun c17 => ?_) (fun c17 => ?_)
        · have h := wif_t h c17
          refine lv_iload hx hb dX1_playErrors_74 (lv_at hl 4 rfl) ?_
          exact hret _ _ _ _ _ _ _ _ dX1_playErrors_76 hW hS hkc hks h
        · have h := wif_f h c17
          refine sh_aload_n hx hb dX1_playErrors_43 rfl (lv_at hl 0 rfl) ?_
          refine sh_aload hx hb dX1_playErrors_44 (lv_at hl 3 rfl) ?_
          refine lv_iload hx hb dX1_playErrors_46 (lv_at hl 5 rfl) ?_
          obtain ⟨a1, c2, ho48, hcv48, h⟩ := h
          have hcc := h.1
          have h := h.2
          obtain ⟨c5, s6, hc48, hs48, h⟩ := h
          refine call_X1_frame_V (ct_X1_frame l) C hW hS q1429 ho48 hcv48 hcc (le_lit hRf rfl) (le_lit hRl rfl) hc48 hs48 hkc hks hl.1 (Nat.le_of_ble_eq_true rfl) dX1_playErrors_48 h (fun r3 G4 H locs h hW hS _ hkc hks => ?_)
          refine sh_aload_n hx hb dX1_playErrors_51 rfl (lv_at hl 0 rfl) ?_
          refine sh_aload hx hb dX1_playErrors_52 (lv_at hl 3 rfl) ?_
          refine lv_iload hx hb dX1_playErrors_54 (lv_at hl 5 rfl) ?_
          obtain ⟨a7, c8, ho56, hcv56, h⟩ := h
          have hcc := h.1
          have h := h.2
          obtain ⟨c11, s12, hc56, hs56, h⟩ := h
          refine call_X1_drawn_V (ct_X1_drawn l) C hW hS q1435 ho56 hcv56 hcc (le_lit hRf rfl) (le_lit hRl rfl) hc56 hs56 hkc hks hl.1 (by simp only [List.map_cons, List.map_nil, va_rf_cat]; exact Nat.le_of_ble_eq_true rfl) dX1_playErrors_56 h (fun r9 G10 H locs h hW hS _ hkc hks => ?_)
          obtain ⟨a13, c14, ho59, hcv59, h⟩ := h
          have hcc := h.1
          have h := h.2
          refine call_X2_isLike_V (ct_X2_isLike l) C hW hS q1617 ho59 hcv59 hcc (le_lit hRf rfl) (le_lit hRl rfl) ⟨Nat.le_trans (Nat.le_add_right _ _) hkc, Nat.le_trans (Nat.le_add_right _ _) hks⟩ hl.1 (Nat.le_of_ble_eq_true rfl) dX1_playErrors_59 h (fun r15 H locs h hW hS _ => ?_)
          refine lv_if_ne (tgt := 68) hx hb dX1_playErrors_62 (by decide) (fun c16 => ?_) (fun c16 => ?_)
          · have h := wif_f h c16
            exact hb68 _ _ _ _ _ h ls H locs _ _ (lv_sub hl [0, 1, 2, 3, 4, 5] rfl) hW hS hkc hks
          · have h := wif_t h c16
            refine lv_iinc (v := x5 + (1 : Int32)) (lv' := [(5, .int (x5 + (1 : Int32))), (0, va_rf (some x0)), (2, .int x2), (3, .int x3), (4, va_rf x4), (6, .int x6)]) hx hb dX1_playErrors_65 hl (k := 4) rfl (congrArg (fun z => x5 + z) (by decide)) (by decide) (by simp only [List.filter_cons, List.filter_nil, va_rf_cat]; rfl) (fun ls hl => ?_)
            exact hb68 _ _ _ _ _ h ls H locs _ _ (lv_sub hl [1, 2, 3, 4, 0, 5] rfl) hW hS hkc hks
    intro x5 x6 G kc ks h
    exact (hG27 x5 x6 G kc ks).mp (loop_walk (fun s => GG27 s.1 s.2.1 s.2.2.1 s.2.2.2.1 s.2.2.2.2) (fun rec hrec s h => hB27 (fun x5 x6 G kc ks => rec (x5, x6, G, kc, ks)) (fun x5 x6 G kc ks h => hrec (x5, x6, G, kc, ks) h) s.1 s.2.1 s.2.2.1 s.2.2.2.1 s.2.2.2.2 h) (x5, x6, G, kc, ks) h)
  intro h
  intro ls H locs cells slots hl hW hS hkc hks
  refine sh_aload_n hx hb dX1_playErrors_0 rfl (lv_at hl 0 rfl) ?_
  refine lv_iload_n hx hb dX1_playErrors_1 rfl (lv_at hl 1 rfl) ?_
  obtain ⟨a19, c20, ho2, hcv2, h⟩ := h
  have hcc := h.1
  have h := h.2
  obtain ⟨c22, s23, hc2, hs2, h⟩ := h
  refine call_X1_composition_V (ct_X1_composition l hfl) C hW hS q748 ho2 hcv2 hcc (le_lit hRf rfl) (le_lit hRl rfl) hc2 hs2 hkc hks hl.1 (Nat.le_of_ble_eq_true rfl) dX1_playErrors_2 h (fun E G9 ce q9 H locs hX hW hS h1 h2 h3 _ => hxo E G9 ce q9 2 ls H locs _ _ _ hW hS hX h1 h2 h3 (by omega) (by omega)) (fun r21 H locs h hW hS _ hkc hks => ?_)
  refine sh_astore (lv' := [(4, va_rf r21), (0, va_rf (some x0)), (1, .int x1), (2, .int x2), (3, .int x3)]) hx hb dX1_playErrors_5 hl (by decide) rfl (fun ls hl => ?_)
  refine lv_iload_n hx hb dX1_playErrors_7 rfl (lv_at hl 3 rfl) ?_
  obtain ⟨c24, s25, hc8, hs8, h⟩ := h
  refine call_X1_checkTime_S (ct_X1_checkTime l hfl) C hW hS q1228 (le_lit hRf rfl) (le_lit hRl rfl) hc8 hs8 hkc hks hl.1 (Nat.le_of_ble_eq_true rfl) dX1_playErrors_8 h (fun E G9 ce q9 H locs hX hW hS h1 h2 h3 _ => hxo E G9 ce q9 8 ls H locs _ _ _ hW hS hX h1 h2 h3 (by omega) (by omega)) (fun  H locs h hW hS _ hkc hks => ?_)
  refine lv_iload_n hx hb dX1_playErrors_11 rfl (lv_at hl 4 rfl) ?_
  refine lv_iconst (v := 1) hx hb dX1_playErrors_12 (by decide) ?_
  refine lv_bipush (v := 20) hx hb dX1_playErrors_13 (by decide) ?_
  refine call_X1_isBetween_S (ct_X1_isBetween l) C hW hS q593 (le_lit hRf rfl) (le_lit hRl rfl) ⟨Nat.le_trans (Nat.le_add_right _ _) hkc, Nat.le_trans (Nat.le_add_right _ _) hks⟩ hl.1 (Nat.le_of_ble_eq_true rfl) dX1_playErrors_15 h (fun r26 H locs h hW hS _ => ?_)
  obtain ⟨c27, s28, hc18, hs18, h⟩ := h
  refine call_X1_checkArgument_S (ct_X1_checkArgument l hfl) C hW hS q787 (le_lit hRf rfl) (le_lit hRl rfl) hc18 hs18 hkc hks hl.1 (Nat.le_of_ble_eq_true rfl) dX1_playErrors_18 h (fun E G9 ce q9 H locs hX hW hS h1 h2 h3 _ => hxo E G9 ce q9 18 ls H locs _ _ _ hW hS hX h1 h2 h3 (by omega) (by omega)) (fun  H locs h hW hS _ hkc hks => ?_)
  refine lv_iconst (v := 0) hx hb dX1_playErrors_21 (by decide) ?_
  refine lv_istore (lv' := [(5, .int (0 : Int32)), (4, va_rf r21), (0, va_rf (some x0)), (1, .int x1), (2, .int x2), (3, .int x3)]) hx hb dX1_playErrors_22 hl (by decide) (by simp only [List.filter_cons, List.filter_nil, va_rf_cat]; rfl) (fun ls hl => ?_)
  refine lv_iload_n hx hb dX1_playErrors_24 rfl (lv_at hl 4 rfl) ?_
  refine lv_istore (lv' := [(6, .int x2), (5, .int (0 : Int32)), (4, va_rf r21), (0, va_rf (some x0)), (1, .int x1), (2, .int x2), (3, .int x3)]) hx hb dX1_playErrors_25 hl (by decide) rfl (fun ls hl => ?_)
  exact hL27 _ _ _ _ _ _ h ls H locs _ _ (lv_sub hl [3, 5, 6, 2, 1, 0] rfl) hW hS hkc hks
theorem ct_X1_playErrors (l : Launch) (hfl : l.stackTraces = false) : CT_X1_playErrors l 30 744 w_X1_playErrors := by
  intro V sz G Q X x0 x1 x2 x3 kc ks
  refine vx_ofW (cc := cX1_playErrors) (maxL := 7) (ret := (some .int)) (by decide) rfl ?_
  intro p e s m args below meth c s₁ B hml hext hv
  obtain ⟨rfl, hsz, hW, hK, hZ, h⟩ := hv
  subst hsz
  have hts := atoms_spec (ws := (ws_ yX1_playErrors cX1_playErrors 7 (some .int))) B.pre
  have hts : ∀ w ∈ lw_all, w.before _ s = true := fun w h => hts w (List.mem_cons_of_mem _ h)
  have hl := lv_entry ([.ref x0, .int x1, .int x2, .int x3]) (n := 7) (Nat.le_of_ble_eq_true rfl)
  rw [lg_entry_eq]
  generalize (lg_sl ([.ref x0, .int x1, .int x2, .int x3]) ++ List.replicate (7 - (lg_sl ([.ref x0, .int x1, .int x2, .int x3])).length) Slot.unset).toArray = ls at hl ⊢
  exact wk_X1_playErrors Q X ⟨⟨B.exec, B.bytes, hml, findClass_of_methodNamed B.named, hts⟩, hK, hZ, fun q h => Or.inr h⟩ hfl (Nat.le_refl _) (Nat.le_refl _) G (fun v G pc ls H locs cells slots _ _ hd hW1 hS hkc hks hQ => W.widen (k := kc) (n := ks) (Nat.le_trans (Nat.le_add_right _ _) hkc) (Nat.le_trans (Nat.le_add_right _ _) hks) (vx_ret (W.iret (v := v) B.exec B.bytes B.returns (fun t ht _ => ⟨⟨v, G, rfl, hQ, by rw [← ht] at hW1; exact hW1⟩, hS.F ht⟩) hS.2.2 hd))) (fun E G9 ce q pc ls H locs cells slots rest hW1 hS hX h1 h2 h3 hc hs => vx_out (fun x hx => absurd (hext x hx) id) B.notSynchronized h1 h2 h3 (fun t ht _ => ⟨(E, G9), hX, ⟨rfl, by rw [← ht] at hW1; exact hW1⟩, hS.F ht⟩) hS.2.2 hc hs) x0 x1 x2 x3 kc ks h ls _ [] 0 0 hl hW va_S.rf (by show 0 + kc ≤ kc; omega) (by show 0 + ks ≤ ks; omega)
def CT_X0_playErrors (l : Launch) (fr lo : Nat) (w : XV → (Int32 → GM → Prop) → (Option Nat) → Int32 → Int32 → Int32 → (Option Nat) → GM → Nat → Nat → Prop) : Prop := ∀ (V : XV) (sz : Nat) (G : GM) (Q : Int32 → GM → Prop) (x0 : Option Nat) (x1 : Int32) (x2 : Int32) (x3 : Int32) (x4 : Option Nat) (kc ks : Nat), Met l yX0_playErrors (wsW_ yX0_playErrors cX0_playErrors 6 (some .int) [(0, 12, 15, 19), (0, 12, 19, 21)]) { frames := fr, cells := kc, slots := ks, locals := lo } (va_Pc [va_rf x0, .int x1, .int x2, .int x3, va_rf x4] (fun U => U.heap.size = sz ∧ xW V (xA G sz) G U.heap ∧ xK V U ∧ xZ V (xA G sz) U U.heap ∧ w V Q x0 x1 x2 x3 x4 G kc ks)) (va_Qi (fun r (u : GM) => Q r u) (fun u t => xW V (xA G sz) u t.heap) (xA G sz)) kc ks (xA G sz)
def w_X0_playErrors (V : XV) (Q : Int32 → GM → Prop) (x0 : Option Nat) (x1 : Int32) (x2 : Int32) (x3 : Int32) (x4 : Option Nat) (G : GM) (kc : Nat) (ks : Nat) : Prop := gRcv G x0 (fun a1 c2 => (c2 % 64 = 0) ∧ (∃ c5 s6 : Nat, c5 ≤ kc ∧ s6 ≤ ks ∧ (w_X1_playErrors V (fun r3 G4 => gJS G4 1 x4 (0 : Int32) (r3.toInt64) (fun G7 => Q (0 : Int32) G7)) (fun E G9 => if E = "java/lang/IndexOutOfBoundsException" then Q (1 : Int32) G9 else (if E = "java/lang/IllegalArgumentException" then Q (2 : Int32) G9 else (False))) a1 x1 x2 x3 G c5 s6)))
set_option maxRecDepth 100000 in
set_option maxHeartbeats 4000000 in
theorem wk_X0_playErrors {p : Program} {l : Launch} {e : Env} {R : Room} {s : State} {m : MethodId} {args : Array Value} {below : List Frame} {meth : Method} {c : Code} {Z : State → Prop} {A : Nat → Prop} {V : XV} (Q : Int32 → GM → Prop) (C : xC p m c s args cX0_playErrors 6 RX0 V A) (hfl : l.stackTraces = false) (htab : c.exceptionTable.toList = tableOf [(0, 12, 15, 19), (0, 12, 19, 21)]) (hRf : 31 ≤ R.frames) (hRl : 770 ≤ R.locals) (G : GM) (hret : ∀ (v : Int32) (G : GM) (pc : Nat) (ls : Array Slot) (H : Heap) (locs : List Loc) (cells slots : Nat) {k1 k2 : Nat}, decode cX0_playErrors pc = .ok (.ireturn, 1) → xW V A G H → va_S A s.heap H locs → cells + k1 ≤ R.cells → slots + k2 ≤ R.slots → Q v G → W p l e R s m args below meth c H locs cells slots Z (F0 m pc ls [.int v])) (x0 : Option Nat) (x1 : Int32) (x2 : Int32) (x3 : Int32) (x4 : Option Nat) (kc ks : Nat) : w_X0_playErrors V Q x0 x1 x2 x3 x4 G kc ks → ∀ (ls : Array Slot) (H : Heap) (locs : List Loc) (cells slots : Nat), lv_has ls 6 [(0, va_rf x0), (1, .int x1), (2, .int x2), (3, .int x3), (4, va_rf x4)] → xW V A G H → va_S A s.heap H locs → cells + kc ≤ R.cells → slots + ks ≤ R.slots → W p l e R s m args below meth c H locs cells slots Z (F0 m 0 ls []) := by
  have hx := C.1.1; have hb := C.1.2.1; have hml := C.1.2.2.1; have hown := C.1.2.2.2.1; have hts := C.1.2.2.2.2
  intro h
  intro ls H locs cells slots hl hW hS hkc hks
  refine sh_aload hx hb dX0_playErrors_0 (lv_at hl 4 rfl) ?_
  refine lv_iconst (v := 0) hx hb dX0_playErrors_2 (by decide) ?_
  refine sh_aload_n hx hb dX0_playErrors_3 rfl (lv_at hl 0 rfl) ?_
  refine lv_iload_n hx hb dX0_playErrors_4 rfl (lv_at hl 1 rfl) ?_
  refine lv_iload_n hx hb dX0_playErrors_5 rfl (lv_at hl 2 rfl) ?_
  refine lv_iload_n hx hb dX0_playErrors_6 rfl (lv_at hl 3 rfl) ?_
  obtain ⟨a1, c2, ho7, hcv7, h⟩ := h
  have hcc := h.1
  have h := h.2
  obtain ⟨c5, s6, hc7, hs7, h⟩ := h
  refine call_X1_playErrors_V (ct_X1_playErrors l hfl) C hW hS q1613 ho7 hcv7 hcc (le_lit hRf rfl) (le_lit hRl rfl) hc7 hs7 hkc hks hl.1 (by simp only [List.map_cons, List.map_nil, va_rf_cat]; exact Nat.le_of_ble_eq_true rfl) dX0_playErrors_7 h (fun E G9 ce q9 H locs hX hW hS h1 h2 h3 _ => by
      by_cases c900 : E = "java/lang/IndexOutOfBoundsException"
      · have hX := wif_t hX c900
        subst c900
        refine vx_catch hown [] ⟨0, 12, 15, 19⟩ [⟨0, 12, 19, 21⟩] (htab.trans rfl) (fun z hz => absurd hz List.not_mem_nil) rfl (by decide) (hts _ q740) (va_Nw.use rfl (C.2.1.2.2.1 _ q757 rfl)) h1 h2 h3 ?_
        refine sh_astore (lv' := [(5, va_rf (some q9)), (0, va_rf x0), (1, .int x1), (2, .int x2), (3, .int x3), (4, va_rf x4)]) hx hb dX0_playErrors_15 hl (by decide) (by simp only [List.filter_cons, List.filter_nil, va_rf_cat]; rfl) (fun ls hl => ?_)
        refine lv_iconst (v := 1) hx hb dX0_playErrors_17 (by decide) ?_
        exact hret _ _ _ _ _ _ _ _ (k1 := 0) (k2 := 0) dX0_playErrors_18 hW hS (by omega) (by omega) hX
      have hX := wif_f hX c900
      by_cases c901 : E = "java/lang/IllegalArgumentException"
      · have hX := wif_t hX c901
        subst c901
        refine vx_catch hown [⟨0, 12, 15, 19⟩] ⟨0, 12, 19, 21⟩ [] (htab.trans rfl) (by intro z hz; simp only [List.mem_cons, List.not_mem_nil, or_false] at hz; rcases hz with rfl <;> first | (exact Or.inr ⟨by decide, "java/lang/IndexOutOfBoundsException", hts _ q740, C.2.1.2.2.2.2.2.2.1 ("java/lang/IllegalArgumentException", "java/lang/IndexOutOfBoundsException") (by decide)⟩)) rfl (by decide) (hts _ q743) (va_Nw.use rfl (C.2.1.2.2.1 _ q441 rfl)) h1 h2 h3 ?_
        refine sh_astore (lv' := [(5, va_rf (some q9)), (0, va_rf x0), (1, .int x1), (2, .int x2), (3, .int x3), (4, va_rf x4)]) hx hb dX0_playErrors_19 hl (by decide) (by simp only [List.filter_cons, List.filter_nil, va_rf_cat]; rfl) (fun ls hl => ?_)
        refine lv_iconst (v := 2) hx hb dX0_playErrors_21 (by decide) ?_
        exact hret _ _ _ _ _ _ _ _ (k1 := 0) (k2 := 0) dX0_playErrors_22 hW hS (by omega) (by omega) hX
      have hX := wif_f hX c901
      exact False.elim hX) (fun r3 G4 H locs h hW hS _ hkc hks => ?_)
  refine lv_i2l hx hb dX0_playErrors_10 rfl ?_
  refine sh_last C hW hS h dX0_playErrors_11 (fun G7 H locs hW hS h => ?_)
  refine lv_goto (tgt := 23) hx hb dX0_playErrors_12 (by decide) ?_
  refine lv_iconst (v := 0) hx hb dX0_playErrors_23 (by decide) ?_
  exact hret _ _ _ _ _ _ _ _ dX0_playErrors_24 hW hS hkc hks h
theorem ct_X0_playErrors (l : Launch) (hfl : l.stackTraces = false) : CT_X0_playErrors l 31 770 w_X0_playErrors := by
  intro V sz G Q x0 x1 x2 x3 x4 kc ks
  refine gx_ofWH (cc := cX0_playErrors) (maxL := 6) (ret := (some .int)) (hh := [(0, 12, 15, 19), (0, 12, 19, 21)]) (by decide) rfl ?_
  intro p e s m args below meth c s₁ B hml htab hv
  obtain ⟨rfl, hsz, hW, hK, hZ, h⟩ := hv
  subst hsz
  have hts := atoms_spec (ws := (wsW_ yX0_playErrors cX0_playErrors 6 (some .int) [(0, 12, 15, 19), (0, 12, 19, 21)])) B.pre
  have hts : ∀ w ∈ lw_all, w.before _ s = true := fun w h => hts w (List.mem_cons_of_mem _ h)
  have key : ∃ ls : Array Slot, entryFrame m ([va_rf x0, .int x1, .int x2, .int x3, va_rf x4] : List Value).toArray 6 = F0 m 0 ls [] ∧ lv_has ls 6 [(0, va_rf x0), (1, .int x1), (2, .int x2), (3, .int x3), (4, va_rf x4)] := by
    cases x0 <;> cases x4 <;> (refine ⟨_, by rw [lg_entry_eq], ?_⟩; exact lv_entry _ (Nat.le_of_ble_eq_true rfl))
  obtain ⟨ls, hfr, hl⟩ := key
  rw [hfr]
  exact wk_X0_playErrors Q ⟨⟨B.exec, B.bytes, hml, findClass_of_methodNamed B.named, hts⟩, hK, hZ, fun q h => Or.inr h⟩ hfl htab (Nat.le_refl _) (Nat.le_refl _) G (fun v G pc ls H locs cells slots _ _ hd hW1 hS hkc hks hQ => W.widen (k := kc) (n := ks) (Nat.le_trans (Nat.le_add_right _ _) hkc) (Nat.le_trans (Nat.le_add_right _ _) hks) (W.iret (v := v) B.exec B.bytes B.returns (fun t ht _ => ⟨⟨v, G, rfl, hQ, by rw [← ht] at hW1; exact hW1⟩, hS.F ht⟩) hS.2.2 hd)) x0 x1 x2 x3 x4 kc ks h ls _ [] 0 0 hl hW va_S.rf (by show 0 + kc ≤ kc; omega) (by show 0 + ks ≤ ks; omega)
def CT_X1_writeRow (l : Launch) (fr lo : Nat) (w : XV → (Int32 → GM → Prop) → (String → GM → Prop) → Nat → Int32 → Int32 → Int32 → GM → Nat → Nat → Prop) : Prop := ∀ (V : XV) (sz : Nat) (G : GM) (Q : Int32 → GM → Prop) (X : String → GM → Prop) (x0 : Nat) (x1 : Int32) (x2 : Int32) (x3 : Int32) (kc ks : Nat), vx_Met l yX1_writeRow (ws_ yX1_writeRow cX1_writeRow 8 (some .int)) { frames := fr, cells := kc, slots := ks, locals := lo } (va_Pc [.ref x0, .int x1, .int x2, .int x3] (fun U => U.heap.size = sz ∧ xW V (xA G sz) G U.heap ∧ xK V U ∧ xZ V (xA G sz) U U.heap ∧ w V Q X x0 x1 x2 x3 G kc ks)) (va_Qi (fun r (u : GM) => Q r u) (fun u t => xW V (xA G sz) u t.heap) (xA G sz)) (vx_X (fun u : String × GM => X u.1 u.2) (fun E u t => E = u.1 ∧ xW V (xA G sz) u.2 t.heap) (xA G sz)) kc ks (xA G sz)
theorem call_X1_writeRow_V {p : Program} {l : Launch} {e : Env} {R : Room} {s : State} {m : MethodId} {args : Array Value} {below : List Frame} {meth : Method} {c : Code} {H : Heap} {locs : List Loc} {cells slots : Nat} {Z : State → Prop} {A : Nat → Prop} {cc : ByteArray} {nL pc : Nat} {ls : Array Slot} {rest : List Value} {own : String} {index fr lo : Nat} {w : XV → (Int32 → GM → Prop) → (String → GM → Prop) → Nat → Int32 → Int32 → Int32 → GM → Nat → Nat → Prop} {V : XV} {G : GM} {o : Option Nat} {ci : Nat} {kc ks c1 s1 : Nat} {x0 : Nat} {x1 : Int32} {x2 : Int32} {x3 : Int32} (hM : CT_X1_writeRow l fr lo w) (C : xC p m c s args cc nL own V A) (hW : xW V A G H) (hS : va_S A s.heap H locs) (hlink : Cond.methodLink own index yX1_writeRow ∈ lw_all) (ho : o = some x0) (hcv : gCi G (some x0) = some ci) (hci : ci % 64 = 0) (hRf : fr + 1 ≤ R.frames) (hRl : 8 + (8 + 11) + lo ≤ R.locals) (hc1 : c1 ≤ kc) (hs1 : s1 ≤ ks) (hkc : cells + kc ≤ R.cells) (hks : slots + ks ≤ R.slots) (hz : ls.size = nL) (hr8 : (rest.map fun v => v.category).sum ≤ 8) (hdg : decode cc pc = .ok (.invokevirtual index, 3)) {Q1 : Int32 → GM → Prop} {X1 : String → GM → Prop} (h : w V Q1 X1 x0 x1 x2 x3 G c1 s1) (kx : ∀ (E : String) (G1 : GM) (ce : Cell) (q9 : Addr) (H1 : Heap) (locs1 : List Loc), X1 E G1 → xW V A G1 H1 → va_S A s.heap H1 locs1 → H1[q9]? = some ce → ce.vm = .none → s.vm.findClass E = some ce.cls → xFr V G G1 H H1 → vx_W p l e R s m args below meth c H1 locs1 (cells + c1) (slots + s1) Z (F0 m pc ls rest) q9) (kk : ∀ (r : Int32) (G1 : GM) (H1 : Heap) (locs1 : List Loc), Q1 r G1 → xW V A G1 H1 → va_S A s.heap H1 locs1 → xFr V G G1 H H1 → (cells + c1) + (kc - c1) ≤ R.cells → (slots + s1) + (ks - s1) ≤ R.slots → W p l e R s m args below meth c H1 locs1 (cells + c1) (slots + s1) Z (F0 m (pc + 3) ls (.int r :: rest))) : W p l e R s m args below meth c H locs cells slots Z (F0 m pc ls (.int x3 :: .int x2 :: .int x1 :: va_rf o :: rest)) := by
  subst ho
  obtain ⟨fs, hG⟩ := gCi_of hcv
  exact rx_i3w (vx_runV (As := [.int x1, .int x2, .int x3]) (rest := rest) C.1 (hM V H.size G Q1 X1 x0 x1 x2 x3 c1 s1) (cwV 3 C.1.2.2.2.2 (lw_V hlink q1625 q1626 q59 q1627) rfl rfl rfl (by decide +kernel) ⟨hRf, hRl⟩) ⟨fun a U g mk q => by obtain ⟨q0, q1, qW, qK, qZ, qw⟩ := q; exact ⟨q0, q1, qW, xK.same (u := U) (U := U.calling g mk a) rfl qK, xZ.moved (u := U) (U := U.calling g mk a) (Vm.Alike.refl U.vm) qZ, qw⟩, (hW.recv C.2.1 hG (r := (RX1, TX1, 6)) (by rw [hci]; rfl)), fun U hU hWm => ⟨rfl, by rw [hU], by rw [hU]; exact hW.self _, C.2.1.warm hWm, xZ.call C.2.2.1 hW hS C.2.2.2 hU hWm.alike, h⟩⟩ rfl rfl hz rfl (lv_room hr8) hdg ⟨by omega, by omega⟩) hW hS C.2.2.2 kx (fun r G1 H1 locs1 hp hW1 hS1 hF1 => kk r G1 H1 locs1 hp hW1 hS1 hF1 (by omega) (by omega))
def w_X1_writeRow_96 (V : XV) (Q : Int32 → GM → Prop) (X : String → GM → Prop) (rec42 : Int32 → GM → Nat → Nat → Prop) (x0 : Nat) (x3 : Int32) (x5 : Option Nat) (x6 : Int32) (G : GM) (kc : Nat) (ks : Nat) : Prop := rec42 (x6 + (-1 : Int32)) G kc ks
def w_X1_writeRow_92 (V : XV) (Q : Int32 → GM → Prop) (X : String → GM → Prop) (rec42 : Int32 → GM → Nat → Nat → Prop) (x0 : Nat) (x3 : Int32) (x5 : Option Nat) (x6 : Int32) (y0 : Int32) (y1 : Option Nat) (G : GM) (kc : Nat) (ks : Nat) : Prop := gRcv G y1 (fun a1 c2 => (c2 % 64 = 16) ∧ (∃ c5 s6 : Nat, c5 ≤ kc ∧ s6 ≤ ks ∧ (w_J4_append_3 V (fun r3 G4 => w_X1_writeRow_96 V Q X rec42 x0 x3 x5 x6 G4 (kc - c5) (ks - s6)) a1 y0 G c5 s6)))
def w_X1_writeRow_72 (V : XV) (Q : Int32 → GM → Prop) (X : String → GM → Prop) (rec42 : Int32 → GM → Nat → Nat → Prop) (x0 : Nat) (x3 : Int32) (x5 : Option Nat) (x6 : Int32) (x7 : Int32) (G : GM) (kc : Nat) (ks : Nat) : Prop := gGR G 4 (some x0) (fun v7 => if x7 = 0 then (w_X1_writeRow_92 V Q X rec42 x0 x3 x5 x6 (46 : Int32) v7 G kc ks) else (w_X1_writeRow_92 V Q X rec42 x0 x3 x5 x6 ((((48 : Int32) + x7).toUInt32 % 65536).toInt32) v7 G kc ks))
def w_X1_writeRow_h42 (V : XV) (Q : Int32 → GM → Prop) (X : String → GM → Prop) (x0 : Nat) (x3 : Int32) (x5 : Option Nat) (rec42 : Int32 → GM → Nat → Nat → Prop) (x6 : Int32) (G : GM) (kc : Nat) (ks : Nat) : Prop := if x6 < 0 then (gGR G 4 (some x0) (fun v9 => gRcv G v9 (fun a10 c11 => (c11 % 64 = 16) ∧ (w_J4_reverse V (fun r12 G13 => gRcv G13 r12 (fun a14 c15 => (c15 % 64 = 16) ∧ (w_J4_length V (fun r16 => Q r16 G13) a14 G13))) a10 G)))) else (gRcv G x5 (fun a17 c18 => (c18 % 64 = 1) ∧ (w_X2_at V (fun r19 => if r19 = 0 then (gGR G 4 (some x0) (fun v20 => gRcv G v20 (fun a21 c22 => (c22 % 64 = 16) ∧ (w_J4_length V (fun r23 => if r23 ≤ 0 then (w_X1_writeRow_96 V Q X rec42 x0 x3 x5 x6 G kc ks) else (w_X1_writeRow_72 V Q X rec42 x0 x3 x5 x6 r19 G kc ks)) a21 G)))) else (w_X1_writeRow_72 V Q X rec42 x0 x3 x5 x6 r19 G kc ks)) a17 x6 x3 G)))
def w_X1_writeRow_L42 (V : XV) (Q : Int32 → GM → Prop) (X : String → GM → Prop) (x0 : Nat) (x3 : Int32) (x5 : Option Nat) (x6 : Int32) (G : GM) (kc : Nat) (ks : Nat) : Prop := wLoop (fun (rec : (Int32 × GM × Nat × Nat) → Prop) (s : Int32 × GM × Nat × Nat) => w_X1_writeRow_h42 V Q X x0 x3 x5 (fun x6 G kc ks => rec (x6, G, kc, ks)) s.1 s.2.1 s.2.2.1 s.2.2.2) (x6, G, kc, ks)
def w_X1_writeRow (V : XV) (Q : Int32 → GM → Prop) (X : String → GM → Prop) (x0 : Nat) (x1 : Int32) (x2 : Int32) (x3 : Int32) (G : GM) (kc : Nat) (ks : Nat) : Prop := gRcv G (some x0) (fun a27 c28 => (c28 % 64 = 0) ∧ (∃ c30 s31 : Nat, c30 ≤ kc ∧ s31 ≤ ks ∧ (w_X1_composition V (fun r29 => ∃ c32 s33 : Nat, c32 ≤ (kc - c30) ∧ s33 ≤ (ks - s31) ∧ (w_X1_checkTime V (w_X1_isBetween V (fun r34 => ∃ c35 s36 : Nat, c35 ≤ ((kc - c30) - c32) ∧ s36 ≤ ((ks - s31) - s33) ∧ (w_X1_checkArgument V (gRcv G (some x0) (fun a37 c38 => (c38 % 64 = 0) ∧ (∃ c41 s42 : Nat, c41 ≤ (((kc - c30) - c32) - c35) ∧ s42 ≤ (((ks - s31) - s33) - s36) ∧ (w_X1_frame V (fun r39 G40 => gGR G40 4 (some x0) (fun v43 => gRcv G40 v43 (fun a44 c45 => (c45 % 64 = 16) ∧ (∃ c47 s48 : Nat, c47 ≤ ((((kc - c30) - c32) - c35) - c41) ∧ s48 ≤ ((((ks - s31) - s33) - s36) - s42) ∧ (w_J4_setLength V (fun G46 => w_X1_writeRow_L42 V Q X x0 x3 r39 (15 : Int32) G46 (((((kc - c30) - c32) - c35) - c41) - c47) (((((ks - s31) - s33) - s36) - s42) - s48)) a44 (0 : Int32) G40 c47 s48))))) a37 r29 x2 G c41 s42)))) X r34 G c35 s36)) x3 (0 : Int32) (11 : Int32) G) X x2 G c32 s33)) X a27 x1 G c30 s31)))
set_option maxRecDepth 100000 in
set_option maxHeartbeats 4000000 in
theorem wk_X1_writeRow {p : Program} {l : Launch} {e : Env} {R : Room} {s : State} {m : MethodId} {args : Array Value} {below : List Frame} {meth : Method} {c : Code} {Z : State → Prop} {A : Nat → Prop} {V : XV} (Q : Int32 → GM → Prop) (X : String → GM → Prop) (C : xC p m c s args cX1_writeRow 8 RX1 V A) (hfl : l.stackTraces = false) (hRf : 30 ≤ R.frames) (hRl : 744 ≤ R.locals) (G : GM) (hret : ∀ (v : Int32) (G : GM) (pc : Nat) (ls : Array Slot) (H : Heap) (locs : List Loc) (cells slots : Nat) {k1 k2 : Nat}, decode cX1_writeRow pc = .ok (.ireturn, 1) → xW V A G H → va_S A s.heap H locs → cells + k1 ≤ R.cells → slots + k2 ≤ R.slots → Q v G → W p l e R s m args below meth c H locs cells slots Z (F0 m pc ls [.int v])) (hxo : ∀ (E : String) (G : GM) (ce : Cell) (q : Addr) (pc : Nat) (ls : Array Slot) (H : Heap) (locs : List Loc) (cells slots : Nat) (rest : List Value), xW V A G H → va_S A s.heap H locs → X E G → H[q]? = some ce → ce.vm = .none → s.vm.findClass E = some ce.cls → cells ≤ R.cells → slots ≤ R.slots → vx_W p l e R s m args below meth c H locs cells slots Z (F0 m pc ls rest) q) (x0 : Nat) (x1 : Int32) (x2 : Int32) (x3 : Int32) (kc ks : Nat) : w_X1_writeRow V Q X x0 x1 x2 x3 G kc ks → ∀ (ls : Array Slot) (H : Heap) (locs : List Loc) (cells slots : Nat), lv_has ls 8 [(0, va_rf (some x0)), (1, .int x1), (2, .int x2), (3, .int x3)] → xW V A G H → va_S A s.heap H locs → cells + kc ≤ R.cells → slots + ks ≤ R.slots → W p l e R s m args below meth c H locs cells slots Z (F0 m 0 ls []) := by
  have hx := C.1.1; have hb := C.1.2.1; have hml := C.1.2.2.1; have hown := C.1.2.2.2.1; have hts := C.1.2.2.2.2
  have hL42 : ∀ (x5 : Option Nat) (x6 : Int32) (G : GM) (kc : Nat) (ks : Nat), w_X1_writeRow_L42 V Q X x0 x3 x5 x6 G kc ks → ∀ (ls : Array Slot) (H : Heap) (locs : List Loc) (cells slots : Nat), lv_has ls 8 [(0, va_rf (some x0)), (3, .int x3), (5, va_rf x5), (6, .int x6)] → xW V A G H → va_S A s.heap H locs → cells + kc ≤ R.cells → slots + ks ≤ R.slots → W p l e R s m args below meth c H locs cells slots Z (F0 m 42 ls []) := by
    intro x5
    obtain ⟨GG42, hG42⟩ : ∃ GG : Int32 → GM → Nat → Nat → Prop, ∀ (x6 : Int32) (G : GM) (kc : Nat) (ks : Nat), GG x6 G kc ks ↔ (∀ (ls : Array Slot) (H : Heap) (locs : List Loc) (cells slots : Nat), lv_has ls 8 [(0, va_rf (some x0)), (3, .int x3), (5, va_rf x5), (6, .int x6)] → xW V A G H → va_S A s.heap H locs → cells + kc ≤ R.cells → slots + ks ≤ R.slots → W p l e R s m args below meth c H locs cells slots Z (F0 m 42 ls [])) := ⟨fun x6 G kc ks => _, fun x6 G kc ks => Iff.rfl⟩
    have hB42 : ∀ (rec42 : Int32 → GM → Nat → Nat → Prop), (∀ (x6 : Int32) (G : GM) (kc : Nat) (ks : Nat), rec42 x6 G kc ks → GG42 x6 G kc ks) → ∀ (x6 : Int32) (G : GM) (kc : Nat) (ks : Nat), w_X1_writeRow_h42 V Q X x0 x3 x5 rec42 x6 G kc ks → GG42 x6 G kc ks := by
      intro rec42 hrec42
      have hb96 : ∀ (x6 : Int32) (G : GM) (kc : Nat) (ks : Nat), w_X1_writeRow_96 V Q X rec42 x0 x3 x5 x6 G kc ks → ∀ (ls : Array Slot) (H : Heap) (locs : List Loc) (cells slots : Nat), lv_has ls 8 [(0, va_rf (some x0)), (3, .int x3), (5, va_rf x5), (6, .int x6)] → xW V A G H → va_S A s.heap H locs → cells + kc ≤ R.cells → slots + ks ≤ R.slots → W p l e R s m args below meth c H locs cells slots Z (F0 m 96 ls []) := by
        intro x6 G kc ks h
        intro ls H locs cells slots hl hW hS hkc hks
        refine lv_iinc (v := x6 + (-1 : Int32)) (lv' := [(6, .int (x6 + (-1 : Int32))), (0, va_rf (some x0)), (3, .int x3), (5, va_rf x5)]) hx hb dX1_writeRow_96 hl (k := 3) rfl (congrArg (fun z => x6 + z) (by decide)) (by decide) (by simp only [List.filter_cons, List.filter_nil, va_rf_cat]; rfl) (fun ls hl => ?_)
        refine lv_goto (tgt := 42) hx hb dX1_writeRow_99 (by decide) ?_
        exact (hG42 _ _ _ _).mp (hrec42 _ _ _ _ h) ls H locs _ _ (lv_sub hl [1, 2, 3, 0] rfl) hW hS hkc hks
      have hb92 : ∀ (x6 : Int32) (y0 : Int32) (y1 : Option Nat) (G : GM) (kc : Nat) (ks : Nat), w_X1_writeRow_92 V Q X rec42 x0 x3 x5 x6 y0 y1 G kc ks → ∀ (ls : Array Slot) (H : Heap) (locs : List Loc) (cells slots : Nat), lv_has ls 8 [(0, va_rf (some x0)), (3, .int x3), (5, va_rf x5), (6, .int x6)] → xW V A G H → va_S A s.heap H locs → cells + kc ≤ R.cells → slots + ks ≤ R.slots → W p l e R s m args below meth c H locs cells slots Z (F0 m 92 ls [.int y0, va_rf y1]) := by
        intro x6 y0 y1 G kc ks h
        intro ls H locs cells slots hl hW hS hkc hks
        obtain ⟨a1, c2, ho92, hcv92, h⟩ := h
        have hcc := h.1
        have h := h.2
        obtain ⟨c5, s6, hc92, hs92, h⟩ := h
        refine call_J4_append_3_V (ct_J4_append_3 l) C hW hS q1628 ho92 hcv92 hcc (le_lit hRf rfl) (le_lit hRl rfl) hc92 hs92 hkc hks hl.1 (Nat.le_of_ble_eq_true rfl) dX1_writeRow_92 h (fun r3 G4 H locs h hW hS _ hkc hks => ?_)
        refine lv_pop hx hb dX1_writeRow_95 (va_rf_cat _) ?_
        exact hb96 _ _ _ _ h ls H locs _ _ (lv_sub hl [0, 1, 2, 3] rfl) hW hS hkc hks
      have hb72 : ∀ (x6 : Int32) (x7 : Int32) (G : GM) (kc : Nat) (ks : Nat), w_X1_writeRow_72 V Q X rec42 x0 x3 x5 x6 x7 G kc ks → ∀ (ls : Array Slot) (H : Heap) (locs : List Loc) (cells slots : Nat), lv_has ls 8 [(0, va_rf (some x0)), (3, .int x3), (5, va_rf x5), (6, .int x6), (7, .int x7)] → xW V A G H → va_S A s.heap H locs → cells + kc ≤ R.cells → slots + ks ≤ R.slots → W p l e R s m args below meth c H locs cells slots Z (F0 m 72 ls []) := by
        intro x6 x7 G kc ks h
        intro ls H locs cells slots hl hW hS hkc hks
        refine sh_aload_n hx hb dX1_writeRow_72 rfl (lv_at hl 0 rfl) ?_
        obtain ⟨v7, h1, h⟩ := h
        refine sh_get C hW xFb_4 q205 (fun _ h => h) h1 dX1_writeRow_73 ?_
        refine lv_iload hx hb dX1_writeRow_76 (lv_at hl 4 rfl) ?_
        refine lv_if_ne (tgt := 86) hx hb dX1_writeRow_78 (by decide) (fun c8 => ?_) (fun c8 => ?_)
        · have h := wif_f h c8
          refine lv_bipush (v := 48) hx hb dX1_writeRow_86 (by decide) ?_
          refine lv_iload hx hb dX1_writeRow_88 (lv_at hl 4 rfl) ?_
          refine lv_iadd hx hb dX1_writeRow_90 ?_
          refine lv_i2c hx hb dX1_writeRow_91 rfl ?_
          exact hb92 _ _ _ _ _ _ h ls H locs _ _ (lv_sub hl [0, 1, 2, 3] rfl) hW hS hkc hks
        · have h := wif_t h c8
          refine lv_bipush (v := 46) hx hb dX1_writeRow_81 (by decide) ?_
          refine lv_goto (tgt := 92) hx hb dX1_writeRow_83 (by decide) ?_
          exact hb92 _ _ _ _ _ _ h ls H locs _ _ (lv_sub hl [0, 1, 2, 3] rfl) hW hS hkc hks
      intro x6 G kc ks h
      rw [hG42]
      intro ls H locs cells slots hl hW hS hkc hks
      refine lv_iload hx hb dX1_writeRow_42 (lv_at hl 3 rfl) ?_
      refine lv_if_lt (tgt := 102) hx hb dX1_writeRow_44 (by decide) (fun c26 => ?_) (fun c26 => ?_)
      · have h := wif_t h c26
        refine sh_aload_n hx hb dX1_writeRow_102 rfl (lv_at hl 0 rfl) ?_
        obtain ⟨v9, h1, h⟩ := h
        refine sh_get C hW xFb_4 q205 (fun _ h => h) h1 dX1_writeRow_103 ?_
        obtain ⟨a10, c11, ho106, hcv106, h⟩ := h
        have hcc := h.1
        have h := h.2
        refine call_J4_reverse_V (ct_J4_reverse l) C hW hS q1645 ho106 hcv106 hcc (le_lit hRf rfl) (le_lit hRl rfl) ⟨Nat.le_trans (Nat.le_add_right _ _) hkc, Nat.le_trans (Nat.le_add_right _ _) hks⟩ hl.1 (Nat.le_of_ble_eq_true rfl) dX1_writeRow_106 h (fun r12 G13 H locs h hW hS _ => ?_)
        obtain ⟨a14, c15, ho109, hcv109, h⟩ := h
        have hcc := h.1
        have h := h.2
        refine call_J4_length_V (ct_J4_length l) C hW hS q592 ho109 hcv109 hcc (le_lit hRf rfl) (le_lit hRl rfl) ⟨Nat.le_trans (Nat.le_add_right _ _) hkc, Nat.le_trans (Nat.le_add_right _ _) hks⟩ hl.1 (Nat.le_of_ble_eq_true rfl) dX1_writeRow_109 h (fun r16 H locs h hW hS _ => ?_)
        exact hret _ _ _ _ _ _ _ _ dX1_writeRow_112 hW hS hkc hks h
      · have h := wif_f h c26
        refine sh_aload hx hb dX1_writeRow_47 (lv_at hl 2 rfl) ?_
        refine lv_iload hx hb dX1_writeRow_49 (lv_at hl 3 rfl) ?_
        refine lv_iload_n hx hb dX1_writeRow_51 rfl (lv_at hl 1 rfl) ?_
        obtain ⟨a17, c18, ho52, hcv52, h⟩ := h
        have hcc := h.1
        have h := h.2
        refine call_X2_at_V (ct_X2_at l) C hW hS q1584 ho52 hcv52 hcc (le_lit hRf rfl) (le_lit hRl rfl) ⟨Nat.le_trans (Nat.le_add_right _ _) hkc, Nat.le_trans (Nat.le_add_right _ _) hks⟩ hl.1 (Nat.le_of_ble_eq_true rfl) dX1_writeRow_52 h (fun r19 H locs h hW hS _ => ?_)
        refine lv_istore (lv' := [(7, .int r19), (0, va_rf (some x0)), (3, .int x3), (5, va_rf x5), (6, .int x6)]) hx hb dX1_writeRow_55 hl (by decide) rfl (fun ls hl => ?_)
        refine lv_iload hx hb dX1_writeRow_57 (lv_at hl 0 rfl) ?_
        refine lv_if_ne (tgt := 72) hx hb dX1_writeRow_59 (by decide) (fun c25 => ?_) (fun c25 => ?_)
        · have h := wif_f h c25
          exact hb72 _ _ _ _ _ h ls H locs _ _ (lv_sub hl [1, 2, 3, 4, 0] rfl) hW hS hkc hks
        · have h := wif_t h c25
          refine sh_aload_n hx hb dX1_writeRow_62 rfl (lv_at hl 1 rfl) ?_
          obtain ⟨v20, h1, h⟩ := h
          refine sh_get C hW xFb_4 q205 (fun _ h => h) h1 dX1_writeRow_63 ?_
          obtain ⟨a21, c22, ho66, hcv66, h⟩ := h
          have hcc := h.1
          have h := h.2
          refine call_J4_length_V (ct_J4_length l) C hW hS q592 ho66 hcv66 hcc (le_lit hRf rfl) (le_lit hRl rfl) ⟨Nat.le_trans (Nat.le_add_right _ _) hkc, Nat.le_trans (Nat.le_add_right _ _) hks⟩ hl.1 (Nat.le_of_ble_eq_true rfl) dX1_writeRow_66 h (fun r23 H locs h hW hS _ => ?_)
          refine lv_if_le (tgt := 96) hx hb dX1_writeRow_69 (by decide) (fun c24 => ?_) (fun c24 => ?_)
          · have h := wif_t h c24
            exact hb96 _ _ _ _ h ls H locs _ _ (lv_sub hl [1, 2, 3, 4] rfl) hW hS hkc hks
          · have h := wif_f h c24
            exact hb72 _ _ _ _ _ h ls H locs _ _ (lv_sub hl [1, 2, 3, 4, 0] rfl) hW hS hkc hks
    intro x6 G kc ks h
    exact (hG42 x6 G kc ks).mp (loop_walk (fun s => GG42 s.1 s.2.1 s.2.2.1 s.2.2.2) (fun rec hrec s h => hB42 (fun x6 G kc ks => rec (x6, G, kc, ks)) (fun x6 G kc ks h => hrec (x6, G, kc, ks) h) s.1 s.2.1 s.2.2.1 s.2.2.2 h) (x6, G, kc, ks) h)
  intro h
  intro ls H locs cells slots hl hW hS hkc hks
  refine sh_aload_n hx hb dX1_writeRow_0 rfl (lv_at hl 0 rfl) ?_
  refine lv_iload_n hx hb dX1_writeRow_1 rfl (lv_at hl 1 rfl) ?_
  obtain ⟨a27, c28, ho2, hcv2, h⟩ := h
  have hcc := h.1
  have h := h.2
  obtain ⟨c30, s31, hc2, hs2, h⟩ := h
  refine call_X1_composition_V (ct_X1_composition l hfl) C hW hS q748 ho2 hcv2 hcc (le_lit hRf rfl) (le_lit hRl rfl) hc2 hs2 hkc hks hl.1 (Nat.le_of_ble_eq_true rfl) dX1_writeRow_2 h (fun E G9 ce q9 H locs hX hW hS h1 h2 h3 _ => hxo E G9 ce q9 2 ls H locs _ _ _ hW hS hX h1 h2 h3 (by omega) (by omega)) (fun r29 H locs h hW hS _ hkc hks => ?_)
  refine sh_astore (lv' := [(4, va_rf r29), (0, va_rf (some x0)), (1, .int x1), (2, .int x2), (3, .int x3)]) hx hb dX1_writeRow_5 hl (by decide) rfl (fun ls hl => ?_)
  refine lv_iload_n hx hb dX1_writeRow_7 rfl (lv_at hl 3 rfl) ?_
  obtain ⟨c32, s33, hc8, hs8, h⟩ := h
  refine call_X1_checkTime_S (ct_X1_checkTime l hfl) C hW hS q1228 (le_lit hRf rfl) (le_lit hRl rfl) hc8 hs8 hkc hks hl.1 (Nat.le_of_ble_eq_true rfl) dX1_writeRow_8 h (fun E G9 ce q9 H locs hX hW hS h1 h2 h3 _ => hxo E G9 ce q9 8 ls H locs _ _ _ hW hS hX h1 h2 h3 (by omega) (by omega)) (fun  H locs h hW hS _ hkc hks => ?_)
  refine lv_iload_n hx hb dX1_writeRow_11 rfl (lv_at hl 4 rfl) ?_
  refine lv_iconst (v := 0) hx hb dX1_writeRow_12 (by decide) ?_
  refine lv_bipush (v := 11) hx hb dX1_writeRow_13 (by decide) ?_
  refine call_X1_isBetween_S (ct_X1_isBetween l) C hW hS q593 (le_lit hRf rfl) (le_lit hRl rfl) ⟨Nat.le_trans (Nat.le_add_right _ _) hkc, Nat.le_trans (Nat.le_add_right _ _) hks⟩ hl.1 (Nat.le_of_ble_eq_true rfl) dX1_writeRow_15 h (fun r34 H locs h hW hS _ => ?_)
  obtain ⟨c35, s36, hc18, hs18, h⟩ := h
  refine call_X1_checkArgument_S (ct_X1_checkArgument l hfl) C hW hS q787 (le_lit hRf rfl) (le_lit hRl rfl) hc18 hs18 hkc hks hl.1 (Nat.le_of_ble_eq_true rfl) dX1_writeRow_18 h (fun E G9 ce q9 H locs hX hW hS h1 h2 h3 _ => hxo E G9 ce q9 18 ls H locs _ _ _ hW hS hX h1 h2 h3 (by omega) (by omega)) (fun  H locs h hW hS _ hkc hks => ?_)
  refine sh_aload_n hx hb dX1_writeRow_21 rfl (lv_at hl 1 rfl) ?_
  refine sh_aload hx hb dX1_writeRow_22 (lv_at hl 0 rfl) ?_
  refine lv_iload_n hx hb dX1_writeRow_24 rfl (lv_at hl 3 rfl) ?_
  obtain ⟨a37, c38, ho25, hcv25, h⟩ := h
  have hcc := h.1
  have h := h.2
  obtain ⟨c41, s42, hc25, hs25, h⟩ := h
  refine call_X1_frame_V (ct_X1_frame l) C hW hS q1429 ho25 hcv25 hcc (le_lit hRf rfl) (le_lit hRl rfl) hc25 hs25 hkc hks hl.1 (Nat.le_of_ble_eq_true rfl) dX1_writeRow_25 h (fun r39 G40 H locs h hW hS _ hkc hks => ?_)
  refine sh_astore (lv' := [(5, va_rf r39), (4, va_rf r29), (0, va_rf (some x0)), (1, .int x1), (2, .int x2), (3, .int x3)]) hx hb dX1_writeRow_28 hl (by decide) (by simp only [List.filter_cons, List.filter_nil, va_rf_cat]; rfl) (fun ls hl => ?_)
  refine sh_aload_n hx hb dX1_writeRow_30 rfl (lv_at hl 2 rfl) ?_
  obtain ⟨v43, h1, h⟩ := h
  refine sh_get C hW xFb_4 q205 (fun _ h => h) h1 dX1_writeRow_31 ?_
  refine lv_iconst (v := 0) hx hb dX1_writeRow_34 (by decide) ?_
  obtain ⟨a44, c45, ho35, hcv35, h⟩ := h
  have hcc := h.1
  have h := h.2
  obtain ⟨c47, s48, hc35, hs35, h⟩ := h
  refine call_J4_setLength_V (ct_J4_setLength l) C hW hS q243 ho35 hcv35 hcc (le_lit hRf rfl) (le_lit hRl rfl) hc35 hs35 hkc hks hl.1 (Nat.le_of_ble_eq_true rfl) dX1_writeRow_35 h (fun G46 H locs h hW hS _ hkc hks => ?_)
  refine lv_bipush (v := 15) hx hb dX1_writeRow_38 (by decide) ?_
  refine lv_istore (lv' := [(6, .int (15 : Int32)), (5, va_rf r39), (4, va_rf r29), (0, va_rf (some x0)), (1, .int x1), (2, .int x2), (3, .int x3)]) hx hb dX1_writeRow_40 hl (by decide) (by simp only [List.filter_cons, List.filter_nil, va_rf_cat]; rfl) (fun ls hl => ?_)
  exact hL42 _ _ _ _ _ h ls H locs _ _ (lv_sub hl [3, 6, 1, 0] rfl) hW hS hkc hks
theorem ct_X1_writeRow (l : Launch) (hfl : l.stackTraces = false) : CT_X1_writeRow l 30 744 w_X1_writeRow := by
  intro V sz G Q X x0 x1 x2 x3 kc ks
  refine vx_ofW (cc := cX1_writeRow) (maxL := 8) (ret := (some .int)) (by decide) rfl ?_
  intro p e s m args below meth c s₁ B hml hext hv
  obtain ⟨rfl, hsz, hW, hK, hZ, h⟩ := hv
  subst hsz
  have hts := atoms_spec (ws := (ws_ yX1_writeRow cX1_writeRow 8 (some .int))) B.pre
  have hts : ∀ w ∈ lw_all, w.before _ s = true := fun w h => hts w (List.mem_cons_of_mem _ h)
  have hl := lv_entry ([.ref x0, .int x1, .int x2, .int x3]) (n := 8) (Nat.le_of_ble_eq_true rfl)
  rw [lg_entry_eq]
  generalize (lg_sl ([.ref x0, .int x1, .int x2, .int x3]) ++ List.replicate (8 - (lg_sl ([.ref x0, .int x1, .int x2, .int x3])).length) Slot.unset).toArray = ls at hl ⊢
  exact wk_X1_writeRow Q X ⟨⟨B.exec, B.bytes, hml, findClass_of_methodNamed B.named, hts⟩, hK, hZ, fun q h => Or.inr h⟩ hfl (Nat.le_refl _) (Nat.le_refl _) G (fun v G pc ls H locs cells slots _ _ hd hW1 hS hkc hks hQ => W.widen (k := kc) (n := ks) (Nat.le_trans (Nat.le_add_right _ _) hkc) (Nat.le_trans (Nat.le_add_right _ _) hks) (vx_ret (W.iret (v := v) B.exec B.bytes B.returns (fun t ht _ => ⟨⟨v, G, rfl, hQ, by rw [← ht] at hW1; exact hW1⟩, hS.F ht⟩) hS.2.2 hd))) (fun E G9 ce q pc ls H locs cells slots rest hW1 hS hX h1 h2 h3 hc hs => vx_out (fun x hx => absurd (hext x hx) id) B.notSynchronized h1 h2 h3 (fun t ht _ => ⟨(E, G9), hX, ⟨rfl, by rw [← ht] at hW1; exact hW1⟩, hS.F ht⟩) hS.2.2 hc hs) x0 x1 x2 x3 kc ks h ls _ [] 0 0 hl hW va_S.rf (by show 0 + kc ≤ kc; omega) (by show 0 + ks ≤ ks; omega)
def CT_X0_writeRow (l : Launch) (fr lo : Nat) (w : XV → (Int32 → GM → Prop) → (Option Nat) → Int32 → Int32 → Int32 → (Option Nat) → GM → Nat → Nat → Prop) : Prop := ∀ (V : XV) (sz : Nat) (G : GM) (Q : Int32 → GM → Prop) (x0 : Option Nat) (x1 : Int32) (x2 : Int32) (x3 : Int32) (x4 : Option Nat) (kc ks : Nat), Met l yX0_writeRow (wsW_ yX0_writeRow cX0_writeRow 6 (some .int) [(0, 12, 15, 19), (0, 12, 19, 21)]) { frames := fr, cells := kc, slots := ks, locals := lo } (va_Pc [va_rf x0, .int x1, .int x2, .int x3, va_rf x4] (fun U => U.heap.size = sz ∧ xW V (xA G sz) G U.heap ∧ xK V U ∧ xZ V (xA G sz) U U.heap ∧ w V Q x0 x1 x2 x3 x4 G kc ks)) (va_Qi (fun r (u : GM) => Q r u) (fun u t => xW V (xA G sz) u t.heap) (xA G sz)) kc ks (xA G sz)
def w_X0_writeRow (V : XV) (Q : Int32 → GM → Prop) (x0 : Option Nat) (x1 : Int32) (x2 : Int32) (x3 : Int32) (x4 : Option Nat) (G : GM) (kc : Nat) (ks : Nat) : Prop := gRcv G x0 (fun a1 c2 => (c2 % 64 = 0) ∧ (∃ c5 s6 : Nat, c5 ≤ kc ∧ s6 ≤ ks ∧ (w_X1_writeRow V (fun r3 G4 => gJS G4 1 x4 (0 : Int32) (r3.toInt64) (fun G7 => Q (0 : Int32) G7)) (fun E G9 => if E = "java/lang/IndexOutOfBoundsException" then Q (1 : Int32) G9 else (if E = "java/lang/IllegalArgumentException" then Q (2 : Int32) G9 else (False))) a1 x1 x2 x3 G c5 s6)))
set_option maxRecDepth 100000 in
set_option maxHeartbeats 4000000 in
theorem wk_X0_writeRow {p : Program} {l : Launch} {e : Env} {R : Room} {s : State} {m : MethodId} {args : Array Value} {below : List Frame} {meth : Method} {c : Code} {Z : State → Prop} {A : Nat → Prop} {V : XV} (Q : Int32 → GM → Prop) (C : xC p m c s args cX0_writeRow 6 RX0 V A) (hfl : l.stackTraces = false) (htab : c.exceptionTable.toList = tableOf [(0, 12, 15, 19), (0, 12, 19, 21)]) (hRf : 31 ≤ R.frames) (hRl : 771 ≤ R.locals) (G : GM) (hret : ∀ (v : Int32) (G : GM) (pc : Nat) (ls : Array Slot) (H : Heap) (locs : List Loc) (cells slots : Nat) {k1 k2 : Nat}, decode cX0_writeRow pc = .ok (.ireturn, 1) → xW V A G H → va_S A s.heap H locs → cells + k1 ≤ R.cells → slots + k2 ≤ R.slots → Q v G → W p l e R s m args below meth c H locs cells slots Z (F0 m pc ls [.int v])) (x0 : Option Nat) (x1 : Int32) (x2 : Int32) (x3 : Int32) (x4 : Option Nat) (kc ks : Nat) : w_X0_writeRow V Q x0 x1 x2 x3 x4 G kc ks → ∀ (ls : Array Slot) (H : Heap) (locs : List Loc) (cells slots : Nat), lv_has ls 6 [(0, va_rf x0), (1, .int x1), (2, .int x2), (3, .int x3), (4, va_rf x4)] → xW V A G H → va_S A s.heap H locs → cells + kc ≤ R.cells → slots + ks ≤ R.slots → W p l e R s m args below meth c H locs cells slots Z (F0 m 0 ls []) := by
  have hx := C.1.1; have hb := C.1.2.1; have hml := C.1.2.2.1; have hown := C.1.2.2.2.1; have hts := C.1.2.2.2.2
  intro h
  intro ls H locs cells slots hl hW hS hkc hks
  refine sh_aload hx hb dX0_writeRow_0 (lv_at hl 4 rfl) ?_
  refine lv_iconst (v := 0) hx hb dX0_writeRow_2 (by decide) ?_
  refine sh_aload_n hx hb dX0_writeRow_3 rfl (lv_at hl 0 rfl) ?_
  refine lv_iload_n hx hb dX0_writeRow_4 rfl (lv_at hl 1 rfl) ?_
  refine lv_iload_n hx hb dX0_writeRow_5 rfl (lv_at hl 2 rfl) ?_
  refine lv_iload_n hx hb dX0_writeRow_6 rfl (lv_at hl 3 rfl) ?_
  obtain ⟨a1, c2, ho7, hcv7, h⟩ := h
  have hcc := h.1
  have h := h.2
  obtain ⟨c5, s6, hc7, hs7, h⟩ := h
  refine call_X1_writeRow_V (ct_X1_writeRow l hfl) C hW hS q1624 ho7 hcv7 hcc (le_lit hRf rfl) (le_lit hRl rfl) hc7 hs7 hkc hks hl.1 (by simp only [List.map_cons, List.map_nil, va_rf_cat]; exact Nat.le_of_ble_eq_true rfl) dX0_writeRow_7 h (fun E G9 ce q9 H locs hX hW hS h1 h2 h3 _ => by
      by_cases c900 : E = "java/lang/IndexOutOfBoundsException"
      · have hX := wif_t hX c900
        subst c900
        refine vx_catch hown [] ⟨0, 12, 15, 19⟩ [⟨0, 12, 19, 21⟩] (htab.trans rfl) (fun z hz => absurd hz List.not_mem_nil) rfl (by decide) (hts _ q740) (va_Nw.use rfl (C.2.1.2.2.1 _ q757 rfl)) h1 h2 h3 ?_
        refine sh_astore (lv' := [(5, va_rf (some q9)), (0, va_rf x0), (1, .int x1), (2, .int x2), (3, .int x3), (4, va_rf x4)]) hx hb dX0_writeRow_15 hl (by decide) (by simp only [List.filter_cons, List.filter_nil, va_rf_cat]; rfl) (fun ls hl => ?_)
        refine lv_iconst (v := 1) hx hb dX0_writeRow_17 (by decide) ?_
        exact hret _ _ _ _ _ _ _ _ (k1 := 0) (k2 := 0) dX0_writeRow_18 hW hS (by omega) (by omega) hX
      have hX := wif_f hX c900
      by_cases c901 : E = "java/lang/IllegalArgumentException"
      · have hX := wif_t hX c901
        subst c901
        refine vx_catch hown [⟨0, 12, 15, 19⟩] ⟨0, 12, 19, 21⟩ [] (htab.trans rfl) (by intro z hz; simp only [List.mem_cons, List.not_mem_nil, or_false] at hz; rcases hz with rfl <;> first | (exact Or.inr ⟨by decide, "java/lang/IndexOutOfBoundsException", hts _ q740, C.2.1.2.2.2.2.2.2.1 ("java/lang/IllegalArgumentException", "java/lang/IndexOutOfBoundsException") (by decide)⟩)) rfl (by decide) (hts _ q743) (va_Nw.use rfl (C.2.1.2.2.1 _ q441 rfl)) h1 h2 h3 ?_
        refine sh_astore (lv' := [(5, va_rf (some q9)), (0, va_rf x0), (1, .int x1), (2, .int x2), (3, .int x3), (4, va_rf x4)]) hx hb dX0_writeRow_19 hl (by decide) (by simp only [List.filter_cons, List.filter_nil, va_rf_cat]; rfl) (fun ls hl => ?_)
        refine lv_iconst (v := 2) hx hb dX0_writeRow_21 (by decide) ?_
        exact hret _ _ _ _ _ _ _ _ (k1 := 0) (k2 := 0) dX0_writeRow_22 hW hS (by omega) (by omega) hX
      have hX := wif_f hX c901
      exact False.elim hX) (fun r3 G4 H locs h hW hS _ hkc hks => ?_)
  refine lv_i2l hx hb dX0_writeRow_10 rfl ?_
  refine sh_last C hW hS h dX0_writeRow_11 (fun G7 H locs hW hS h => ?_)
  refine lv_goto (tgt := 23) hx hb dX0_writeRow_12 (by decide) ?_
  refine lv_iconst (v := 0) hx hb dX0_writeRow_23 (by decide) ?_
  exact hret _ _ _ _ _ _ _ _ dX0_writeRow_24 hW hS hkc hks h
theorem ct_X0_writeRow (l : Launch) (hfl : l.stackTraces = false) : CT_X0_writeRow l 31 771 w_X0_writeRow := by
  intro V sz G Q x0 x1 x2 x3 x4 kc ks
  refine gx_ofWH (cc := cX0_writeRow) (maxL := 6) (ret := (some .int)) (hh := [(0, 12, 15, 19), (0, 12, 19, 21)]) (by decide) rfl ?_
  intro p e s m args below meth c s₁ B hml htab hv
  obtain ⟨rfl, hsz, hW, hK, hZ, h⟩ := hv
  subst hsz
  have hts := atoms_spec (ws := (wsW_ yX0_writeRow cX0_writeRow 6 (some .int) [(0, 12, 15, 19), (0, 12, 19, 21)])) B.pre
  have hts : ∀ w ∈ lw_all, w.before _ s = true := fun w h => hts w (List.mem_cons_of_mem _ h)
  have key : ∃ ls : Array Slot, entryFrame m ([va_rf x0, .int x1, .int x2, .int x3, va_rf x4] : List Value).toArray 6 = F0 m 0 ls [] ∧ lv_has ls 6 [(0, va_rf x0), (1, .int x1), (2, .int x2), (3, .int x3), (4, va_rf x4)] := by
    cases x0 <;> cases x4 <;> (refine ⟨_, by rw [lg_entry_eq], ?_⟩; exact lv_entry _ (Nat.le_of_ble_eq_true rfl))
  obtain ⟨ls, hfr, hl⟩ := key
  rw [hfr]
  exact wk_X0_writeRow Q ⟨⟨B.exec, B.bytes, hml, findClass_of_methodNamed B.named, hts⟩, hK, hZ, fun q h => Or.inr h⟩ hfl htab (Nat.le_refl _) (Nat.le_refl _) G (fun v G pc ls H locs cells slots _ _ hd hW1 hS hkc hks hQ => W.widen (k := kc) (n := ks) (Nat.le_trans (Nat.le_add_right _ _) hkc) (Nat.le_trans (Nat.le_add_right _ _) hks) (W.iret (v := v) B.exec B.bytes B.returns (fun t ht _ => ⟨⟨v, G, rfl, hQ, by rw [← ht] at hW1; exact hW1⟩, hS.F ht⟩) hS.2.2 hd)) x0 x1 x2 x3 x4 kc ks h ls _ [] 0 0 hl hW va_S.rf (by show 0 + kc ≤ kc; omega) (by show 0 + ks ≤ ks; omega)
def CT_X5_tail (l : Launch) (fr lo : Nat) (w : XV → (Option Nat → GM → Prop) → Nat → GM → Nat → Nat → Prop) : Prop := ∀ (V : XV) (sz : Nat) (G : GM) (Q : Option Nat → GM → Prop) (x0 : Nat) (kc ks : Nat), Met l yX5_tail (ws_ yX5_tail cX5_tail 2 (some (.object "java/lang/String"))) { frames := fr, cells := kc, slots := ks, locals := lo } (va_Pc [.ref x0] (fun U => U.heap.size = sz ∧ xW V (xA G sz) G U.heap ∧ xK V U ∧ xZ V (xA G sz) U U.heap ∧ w V Q x0 G kc ks)) (va_Qq (fun r (u : GM) => Q r u) (fun u t => xW V (xA G sz) u t.heap) (xA G sz)) kc ks (xA G sz)
theorem call_X5_tail_U3_4_5_6_Layer {p : Program} {l : Launch} {e : Env} {R : Room} {s : State} {m : MethodId} {args : Array Value} {below : List Frame} {meth : Method} {c : Code} {H : Heap} {locs : List Loc} {cells slots : Nat} {Z : State → Prop} {A : Nat → Prop} {cc : ByteArray} {nL pc : Nat} {ls : Array Slot} {rest : List Value} {own : String} {index fr lo : Nat} {w : XV → (Option Nat → GM → Prop) → Nat → GM → Nat → Nat → Prop} {V : XV} {G : GM} {o : Option Nat} {ci : Nat} {kc ks c1 s1 : Nat} {x0 : Nat} (hM : CT_X5_tail l fr lo w) (C : xC p m c s args cc nL own V A) (hW : xW V A G H) (hS : va_S A s.heap H locs) (hlink : Cond.methodLink own index ⟨"Shapelayer$Layer", "tail", "()Ljava/lang/String;"⟩ ∈ lw_all) (ho : o = some x0) (hcv : gCi G (some x0) = some ci) (hci : ci % 64 = 5 ∨ ci % 64 = 6 ∨ ci % 64 = 3 ∨ ci % 64 = 4) (hRf : fr + 1 ≤ R.frames) (hRl : 8 + (2 + 11) + lo ≤ R.locals) (hc1 : c1 ≤ kc) (hs1 : s1 ≤ ks) (hkc : cells + kc ≤ R.cells) (hks : slots + ks ≤ R.slots) (hz : ls.size = nL) (hr8 : (rest.map fun v => v.category).sum ≤ 8) (hdg : decode cc pc = .ok (.invokevirtual index, 3)) {Q1 : Option Nat → GM → Prop} (h : w V Q1 x0 G c1 s1) (kk : ∀ (r : Option Nat) (G1 : GM) (H1 : Heap) (locs1 : List Loc), Q1 r G1 → xW V A G1 H1 → va_S A s.heap H1 locs1 → xFr V G G1 H H1 → (cells + c1) + (kc - c1) ≤ R.cells → (slots + s1) + (ks - s1) ≤ R.slots → W p l e R s m args below meth c H1 locs1 (cells + c1) (slots + s1) Z (F0 m (pc + 3) ls (va_rf r :: rest))) : W p l e R s m args below meth c H locs cells slots Z (F0 m pc ls (va_rf o :: rest)) := by
  subst ho
  obtain ⟨fs, hG⟩ := gCi_of hcv
  rcases hci with hci | hci | hci | hci
  · exact rg_q3w (va_runU (As := []) (rest := rest) C.1 (hM V H.size G Q1 x0 c1 s1) (va_cwU (C := "Shapelayer$Nested") 0 C.1.2.2.2.2 (lw_U hlink q1685 q1686 q1684 q87 q1690) rfl rfl rfl rfl (by decide +kernel) ⟨hRf, hRl⟩) ⟨fun a U g mk q => by obtain ⟨q0, q1, qW, qK, qZ, qw⟩ := q; exact ⟨q0, q1, qW, xK.same (u := U) (U := U.calling g mk a) rfl qK, xZ.moved (u := U) (U := U.calling g mk a) (Vm.Alike.refl U.vm) qZ, qw⟩, (hW.recv C.2.1 hG (r := (RX11, TX11, 9)) (by rw [hci]; rfl)), fun U hU hWm => ⟨rfl, by rw [hU], by rw [hU]; exact hW.self _, C.2.1.warm hWm, xZ.call C.2.2.1 hW hS C.2.2.2 hU hWm.alike, h⟩⟩ rfl rfl hz rfl (lv_room hr8) hdg ⟨by omega, by omega⟩) hW hS C.2.2.2 (fun r G1 H1 locs1 hp hW1 hS1 hF1 => kk r G1 H1 locs1 hp hW1 hS1 hF1 (by omega) (by omega))
  · exact rg_q3w (va_runU (As := []) (rest := rest) C.1 (hM V H.size G Q1 x0 c1 s1) (va_cwU (C := "Shapelayer$Null") 0 C.1.2.2.2.2 (lw_U hlink q1685 q1687 q1684 q87 q1690) rfl rfl rfl rfl (by decide +kernel) ⟨hRf, hRl⟩) ⟨fun a U g mk q => by obtain ⟨q0, q1, qW, qK, qZ, qw⟩ := q; exact ⟨q0, q1, qW, xK.same (u := U) (U := U.calling g mk a) rfl qK, xZ.moved (u := U) (U := U.calling g mk a) (Vm.Alike.refl U.vm) qZ, qw⟩, (hW.recv C.2.1 hG (r := (RX12, TX12, 8)) (by rw [hci]; rfl)), fun U hU hWm => ⟨rfl, by rw [hU], by rw [hU]; exact hW.self _, C.2.1.warm hWm, xZ.call C.2.2.1 hW hS C.2.2.2 hU hWm.alike, h⟩⟩ rfl rfl hz rfl (lv_room hr8) hdg ⟨by omega, by omega⟩) hW hS C.2.2.2 (fun r G1 H1 locs1 hp hW1 hS1 hF1 => kk r G1 H1 locs1 hp hW1 hS1 hF1 (by omega) (by omega))
  · exact rg_q3w (va_runU (As := []) (rest := rest) C.1 (hM V H.size G Q1 x0 c1 s1) (va_cwU (C := "Shapelayer$Rect") 0 C.1.2.2.2.2 (lw_U hlink q1685 q1688 q1684 q87 q1690) rfl rfl rfl rfl (by decide +kernel) ⟨hRf, hRl⟩) ⟨fun a U g mk q => by obtain ⟨q0, q1, qW, qK, qZ, qw⟩ := q; exact ⟨q0, q1, qW, xK.same (u := U) (U := U.calling g mk a) rfl qK, xZ.moved (u := U) (U := U.calling g mk a) (Vm.Alike.refl U.vm) qZ, qw⟩, (hW.recv C.2.1 hG (r := (RX7, TX7, 11)) (by rw [hci]; rfl)), fun U hU hWm => ⟨rfl, by rw [hU], by rw [hU]; exact hW.self _, C.2.1.warm hWm, xZ.call C.2.2.1 hW hS C.2.2.2 hU hWm.alike, h⟩⟩ rfl rfl hz rfl (lv_room hr8) hdg ⟨by omega, by omega⟩) hW hS C.2.2.2 (fun r G1 H1 locs1 hp hW1 hS1 hF1 => kk r G1 H1 locs1 hp hW1 hS1 hF1 (by omega) (by omega))
  · exact rg_q3w (va_runU (As := []) (rest := rest) C.1 (hM V H.size G Q1 x0 c1 s1) (va_cwU (C := "Shapelayer$Stroke") 0 C.1.2.2.2.2 (lw_U hlink q1685 q1689 q1684 q87 q1690) rfl rfl rfl rfl (by decide +kernel) ⟨hRf, hRl⟩) ⟨fun a U g mk q => by obtain ⟨q0, q1, qW, qK, qZ, qw⟩ := q; exact ⟨q0, q1, qW, xK.same (u := U) (U := U.calling g mk a) rfl qK, xZ.moved (u := U) (U := U.calling g mk a) (Vm.Alike.refl U.vm) qZ, qw⟩, (hW.recv C.2.1 hG (r := (RX9, TX9, 11)) (by rw [hci]; rfl)), fun U hU hWm => ⟨rfl, by rw [hU], by rw [hU]; exact hW.self _, C.2.1.warm hWm, xZ.call C.2.2.1 hW hS C.2.2.2 hU hWm.alike, h⟩⟩ rfl rfl hz rfl (lv_room hr8) hdg ⟨by omega, by omega⟩) hW hS C.2.2.2 (fun r G1 H1 locs1 hp hW1 hS1 hF1 => kk r G1 H1 locs1 hp hW1 hS1 hF1 (by omega) (by omega))
def w_X5_tail_74 (V : XV) (Q : Option Nat → GM → Prop) (x0 : Nat) (y0 : Option Nat) (y1 : Option Nat) (G : GM) (kc : Nat) (ks : Nat) : Prop := gRcv G y1 (fun a1 c2 => (c2 % 64 = 16) ∧ (∃ c5 s6 : Nat, c5 ≤ kc ∧ s6 ≤ ks ∧ (w_J4_append V (fun r3 G4 => gGR G4 17 (some x0) (fun v7 => gGI G4 13 v7 (fun v8 => gRcv G4 r3 (fun a9 c10 => (c10 % 64 = 16) ∧ (∃ c13 s14 : Nat, c13 ≤ (kc - c5) ∧ s14 ≤ (ks - s6) ∧ (w_J4_append_2 V (fun r11 G12 => gRcv G12 r11 (fun a15 c16 => (c16 % 64 = 16) ∧ (∃ c19 s20 : Nat, c19 ≤ ((kc - c5) - c13) ∧ s20 ≤ ((ks - s6) - s14) ∧ (w_J4_toString V (fun r17 G18 => Q r17 G18) a15 G12 c19 s20)))) a9 v8 G4 c13 s14)))))) a1 y0 G c5 s6)))
def w_X5_tail_37 (V : XV) (Q : Option Nat → GM → Prop) (x0 : Nat) (y0 : Option Nat) (G : GM) (kc : Nat) (ks : Nat) : Prop := gGR G 17 (some x0) (fun v21 => if v21 = none then (Q y0 G) else (gNw G 16 4 xdf_J4 kc ks (fun q22 G23 => ∃ c25 s26 : Nat, c25 ≤ (kc - 1) ∧ s26 ≤ (ks - 4) ∧ (w_J4_init V (fun G24 => gRcv G24 (some q22) (fun a27 c28 => (c28 % 64 = 16) ∧ (∃ c31 s32 : Nat, c31 ≤ ((kc - 1) - c25) ∧ s32 ≤ ((ks - 4) - s26) ∧ (w_J4_append V (fun r29 G30 => gGI G30 18 (some x0) (fun v33 => if v33 = 0 then (w_X5_tail_74 V Q x0 (some (xsr V "Shapelayer$Layer" 132)) r29 G30 (((kc - 1) - c25) - c31) (((ks - 4) - s26) - s32)) else (w_X5_tail_74 V Q x0 (some (xsr V "Shapelayer$Layer" 130)) r29 G30 (((kc - 1) - c25) - c31) (((ks - 4) - s26) - s32)))) a27 y0 G24 c31 s32)))) q22 G23 c25 s26))))
def w_X5_tail (V : XV) (Q : Option Nat → GM → Prop) (x0 : Nat) (G : GM) (kc : Nat) (ks : Nat) : Prop := gGR G 16 (some x0) (fun v36 => if v36 = none then (w_X5_tail_37 V Q x0 (some (xsr V "Shapelayer$Layer" 119)) G kc ks) else (gNw G 16 4 xdf_J4 kc ks (fun q37 G38 => ∃ c40 s41 : Nat, c40 ≤ (kc - 1) ∧ s41 ≤ (ks - 4) ∧ (w_J4_init V (fun G39 => gRcv G39 (some q37) (fun a42 c43 => (c43 % 64 = 16) ∧ (∃ c46 s47 : Nat, c46 ≤ ((kc - 1) - c40) ∧ s47 ≤ ((ks - 4) - s41) ∧ (w_J4_append V (fun r44 G45 => gGR G45 16 (some x0) (fun v48 => gGI G45 13 v48 (fun v49 => gRcv G45 r44 (fun a50 c51 => (c51 % 64 = 16) ∧ (∃ c54 s55 : Nat, c54 ≤ (((kc - 1) - c40) - c46) ∧ s55 ≤ (((ks - 4) - s41) - s47) ∧ (w_J4_append_2 V (fun r52 G53 => gRcv G53 r52 (fun a56 c57 => (c57 % 64 = 16) ∧ (∃ c60 s61 : Nat, c60 ≤ ((((kc - 1) - c40) - c46) - c54) ∧ s61 ≤ ((((ks - 4) - s41) - s47) - s55) ∧ (w_J4_toString V (fun r58 G59 => w_X5_tail_37 V Q x0 r58 G59 (((((kc - 1) - c40) - c46) - c54) - c60) (((((ks - 4) - s41) - s47) - s55) - s61)) a56 G53 c60 s61)))) a50 v49 G45 c54 s55)))))) a42 (some (xsr V "Shapelayer$Layer" 121)) G39 c46 s47)))) q37 G38 c40 s41))))
set_option maxRecDepth 100000 in
set_option maxHeartbeats 4000000 in
theorem wk_X5_tail {p : Program} {l : Launch} {e : Env} {R : Room} {s : State} {m : MethodId} {args : Array Value} {below : List Frame} {meth : Method} {c : Code} {Z : State → Prop} {A : Nat → Prop} {V : XV} (Q : Option Nat → GM → Prop) (C : xC p m c s args cX5_tail 2 RX5 V A) (hRf : 16 ≤ R.frames) (hRl : 291 ≤ R.locals) (G : GM) (hret : ∀ (v : Option Nat) (G : GM) (pc : Nat) (ls : Array Slot) (H : Heap) (locs : List Loc) (cells slots : Nat) {k1 k2 : Nat}, decode cX5_tail pc = .ok (.areturn, 1) → xW V A G H → va_S A s.heap H locs → cells + k1 ≤ R.cells → slots + k2 ≤ R.slots → Q v G → W p l e R s m args below meth c H locs cells slots Z (F0 m pc ls [va_rf v])) (x0 : Nat) (kc ks : Nat) : w_X5_tail V Q x0 G kc ks → ∀ (ls : Array Slot) (H : Heap) (locs : List Loc) (cells slots : Nat), lv_has ls 2 [(0, va_rf (some x0))] → xW V A G H → va_S A s.heap H locs → cells + kc ≤ R.cells → slots + ks ≤ R.slots → W p l e R s m args below meth c H locs cells slots Z (F0 m 0 ls []) := by
  have hx := C.1.1; have hb := C.1.2.1; have hml := C.1.2.2.1; have hown := C.1.2.2.2.1; have hts := C.1.2.2.2.2
  have hb74 : ∀ (y0 : Option Nat) (y1 : Option Nat) (G : GM) (kc : Nat) (ks : Nat), w_X5_tail_74 V Q x0 y0 y1 G kc ks → ∀ (ls : Array Slot) (H : Heap) (locs : List Loc) (cells slots : Nat), lv_has ls 2 [(0, va_rf (some x0))] → xW V A G H → va_S A s.heap H locs → cells + kc ≤ R.cells → slots + ks ≤ R.slots → W p l e R s m args below meth c H locs cells slots Z (F0 m 74 ls [va_rf y0, va_rf y1]) := by
    intro y0 y1 G kc ks h
    intro ls H locs cells slots hl hW hS hkc hks
    obtain ⟨a1, c2, ho74, hcv74, h⟩ := h
    have hcc := h.1
    have h := h.2
    obtain ⟨c5, s6, hc74, hs74, h⟩ := h
    refine call_J4_append_V (ct_J4_append l) C hW hS q1695 ho74 hcv74 hcc (le_lit hRf rfl) (le_lit hRl rfl) hc74 hs74 hkc hks hl.1 (Nat.le_of_ble_eq_true rfl) dX5_tail_74 h (fun r3 G4 H locs h hW hS _ hkc hks => ?_)
    refine sh_aload_n hx hb dX5_tail_77 rfl (lv_at hl 0 rfl) ?_
    obtain ⟨v7, h1, h⟩ := h
    refine sh_get C hW xFb_17 q844 (fun _ h => h) h1 dX5_tail_78 ?_
    obtain ⟨v8, h1, h⟩ := h
    refine sh_get C hW xFb_13 q835 (fun _ h => h) h1 dX5_tail_81 ?_
    obtain ⟨a9, c10, ho84, hcv84, h⟩ := h
    have hcc := h.1
    have h := h.2
    obtain ⟨c13, s14, hc84, hs84, h⟩ := h
    refine call_J4_append_2_V (ct_J4_append_2 l) C hW hS q1696 ho84 hcv84 hcc (le_lit hRf rfl) (le_lit hRl rfl) hc84 hs84 hkc hks hl.1 (Nat.le_of_ble_eq_true rfl) dX5_tail_84 h (fun r11 G12 H locs h hW hS _ hkc hks => ?_)
    obtain ⟨a15, c16, ho87, hcv87, h⟩ := h
    have hcc := h.1
    have h := h.2
    obtain ⟨c19, s20, hc87, hs87, h⟩ := h
    refine call_J4_toString_V (ct_J4_toString l) C hW hS q1697 ho87 hcv87 hcc (le_lit hRf rfl) (le_lit hRl rfl) hc87 hs87 hkc hks hl.1 (Nat.le_of_ble_eq_true rfl) dX5_tail_87 h (fun r17 G18 H locs h hW hS _ hkc hks => ?_)
    exact hret _ _ _ _ _ _ _ _ dX5_tail_90 hW hS hkc hks h
  have hb37 : ∀ (y0 : Option Nat) (G : GM) (kc : Nat) (ks : Nat), w_X5_tail_37 V Q x0 y0 G kc ks → ∀ (ls : Array Slot) (H : Heap) (locs : List Loc) (cells slots : Nat), lv_has ls 2 [(0, va_rf (some x0))] → xW V A G H → va_S A s.heap H locs → cells + kc ≤ R.cells → slots + ks ≤ R.slots → W p l e R s m args below meth c H locs cells slots Z (F0 m 37 ls [va_rf y0]) := by
    intro y0 G kc ks h
    intro ls H locs cells slots hl hW hS hkc hks
    refine sh_astore_n (lv' := [(1, va_rf y0), (0, va_rf (some x0))]) hx hb dX5_tail_37 rfl hl (by decide) rfl (fun ls hl => ?_)
    refine sh_aload_n hx hb dX5_tail_38 rfl (lv_at hl 1 rfl) ?_
    obtain ⟨v21, h1, h⟩ := h
    refine sh_get C hW xFb_17 q844 (fun _ h => h) h1 dX5_tail_39 ?_
    refine sh_ifnonnull (tgt := 49) hx hb dX5_tail_42 (by decide) (fun c35 => ?_) (fun c35 => ?_)
    · have h := wif_f h c35
      refine sh_new C hW hS (ci := 16) rfl (by decide) q1692 q141 q64 tyJ4_ok xdf_J4_ok h hkc hks dX5_tail_49 (fun q22 G23 H hW hS h hkc hks => ?_)
      refine lv_dup hx hb dX5_tail_52 (va_rf_cat _) ?_
      obtain ⟨c25, s26, hc53, hs53, h⟩ := h
      refine call_J4_init_I (ct_J4_init l) C hW hS q1693 rfl (le_lit hRf rfl) (le_lit hRl rfl) hc53 hs53 hkc hks hl.1 (Nat.le_of_ble_eq_true rfl) dX5_tail_53 h (fun G24 H locs h hW hS _ hkc hks => ?_)
      refine sh_aload_n hx hb dX5_tail_56 rfl (lv_at hl 0 rfl) ?_
      obtain ⟨a27, c28, ho57, hcv57, h⟩ := h
      have hcc := h.1
      have h := h.2
      obtain ⟨c31, s32, hc57, hs57, h⟩ := h
      refine call_J4_append_V (ct_J4_append l) C hW hS q1695 ho57 hcv57 hcc (le_lit hRf rfl) (le_lit hRl rfl) hc57 hs57 hkc hks hl.1 (Nat.le_of_ble_eq_true rfl) dX5_tail_57 h (fun r29 G30 H locs h hW hS _ hkc hks => ?_)
      refine sh_aload_n hx hb dX5_tail_60 rfl (lv_at hl 1 rfl) ?_
      obtain ⟨v33, h1, h⟩ := h
      refine sh_get C hW xFb_18 q847 (fun _ h => h) h1 dX5_tail_61 ?_
      refine lv_if_eq (tgt := 72) hx hb dX5_tail_64 (by decide) (fun c34 => ?_) (fun c34 => ?_)
      · have h := wif_t h c34
        refine sh_ldcS C q1699 dX5_tail_72 ?_
        exact hb74 _ _ _ _ _ h ls H locs _ _ (lv_sub hl [1] rfl) hW hS hkc hks
      · have h := wif_f h c34
        refine sh_ldcS C q1698 dX5_tail_67 ?_
        refine lv_goto (tgt := 74) hx hb dX5_tail_69 (by decide) ?_
        exact hb74 _ _ _ _ _ h ls H locs _ _ (lv_sub hl [1] rfl) hW hS hkc hks
    · have h := wif_t h c35
      refine sh_aload_n hx hb dX5_tail_45 rfl (lv_at hl 0 rfl) ?_
      refine lv_goto (tgt := 90) hx hb dX5_tail_46 (by decide) ?_
      exact hret _ _ _ _ _ _ _ _ dX5_tail_90 hW hS hkc hks h
  intro h
  intro ls H locs cells slots hl hW hS hkc hks
  refine sh_aload_n hx hb dX5_tail_0 rfl (lv_at hl 0 rfl) ?_
  obtain ⟨v36, h1, h⟩ := h
  refine sh_get C hW xFb_16 q841 (fun _ h => h) h1 dX5_tail_1 ?_
  refine sh_ifnonnull (tgt := 12) hx hb dX5_tail_4 (by decide) (fun c62 => ?_) (fun c62 => ?_)
  · have h := wif_f h c62
    refine sh_new C hW hS (ci := 16) rfl (by decide) q1692 q141 q64 tyJ4_ok xdf_J4_ok h hkc hks dX5_tail_12 (fun q37 G38 H hW hS h hkc hks => ?_)
    refine lv_dup hx hb dX5_tail_15 (va_rf_cat _) ?_
    obtain ⟨c40, s41, hc16, hs16, h⟩ := h
    refine call_J4_init_I (ct_J4_init l) C hW hS q1693 rfl (le_lit hRf rfl) (le_lit hRl rfl) hc16 hs16 hkc hks hl.1 (Nat.le_of_ble_eq_true rfl) dX5_tail_16 h (fun G39 H locs h hW hS _ hkc hks => ?_)
    refine sh_ldcS C q1694 dX5_tail_19 ?_
    obtain ⟨a42, c43, ho21, hcv21, h⟩ := h
    have hcc := h.1
    have h := h.2
    obtain ⟨c46, s47, hc21, hs21, h⟩ := h
    refine call_J4_append_V (ct_J4_append l) C hW hS q1695 ho21 hcv21 hcc (le_lit hRf rfl) (le_lit hRl rfl) hc21 hs21 hkc hks hl.1 (Nat.le_of_ble_eq_true rfl) dX5_tail_21 h (fun r44 G45 H locs h hW hS _ hkc hks => ?_)
    refine sh_aload_n hx hb dX5_tail_24 rfl (lv_at hl 0 rfl) ?_
    obtain ⟨v48, h1, h⟩ := h
    refine sh_get C hW xFb_16 q841 (fun _ h => h) h1 dX5_tail_25 ?_
    obtain ⟨v49, h1, h⟩ := h
    refine sh_get C hW xFb_13 q835 (fun _ h => h) h1 dX5_tail_28 ?_
    obtain ⟨a50, c51, ho31, hcv31, h⟩ := h
    have hcc := h.1
    have h := h.2
    obtain ⟨c54, s55, hc31, hs31, h⟩ := h
    refine call_J4_append_2_V (ct_J4_append_2 l) C hW hS q1696 ho31 hcv31 hcc (le_lit hRf rfl) (le_lit hRl rfl) hc31 hs31 hkc hks hl.1 (Nat.le_of_ble_eq_true rfl) dX5_tail_31 h (fun r52 G53 H locs h hW hS _ hkc hks => ?_)
    obtain ⟨a56, c57, ho34, hcv34, h⟩ := h
    have hcc := h.1
    have h := h.2
    obtain ⟨c60, s61, hc34, hs34, h⟩ := h
    refine call_J4_toString_V (ct_J4_toString l) C hW hS q1697 ho34 hcv34 hcc (le_lit hRf rfl) (le_lit hRl rfl) hc34 hs34 hkc hks hl.1 (Nat.le_of_ble_eq_true rfl) dX5_tail_34 h (fun r58 G59 H locs h hW hS _ hkc hks => ?_)
    exact hb37 _ _ _ _ h ls H locs _ _ (lv_sub hl [0] rfl) hW hS hkc hks
  · have h := wif_t h c62
    refine sh_ldcS C q1691 dX5_tail_7 ?_
    refine lv_goto (tgt := 37) hx hb dX5_tail_9 (by decide) ?_
    exact hb37 _ _ _ _ h ls H locs _ _ (lv_sub hl [0] rfl) hW hS hkc hks
theorem ct_X5_tail (l : Launch) : CT_X5_tail l 16 291 w_X5_tail := by
  intro V sz G Q x0 kc ks
  refine Met.ofW (cc := cX5_tail) (maxL := 2) (ret := (some (.object "java/lang/String"))) (by decide) rfl ?_
  intro p e s m args below meth c s₁ B hml hv
  obtain ⟨rfl, hsz, hW, hK, hZ, h⟩ := hv
  subst hsz
  have hts := atoms_spec (ws := (ws_ yX5_tail cX5_tail 2 (some (.object "java/lang/String")))) B.pre
  have hts : ∀ w ∈ lw_all, w.before _ s = true := fun w h => hts w (List.mem_cons_of_mem _ h)
  have hl := lv_entry ([.ref x0]) (n := 2) (Nat.le_of_ble_eq_true rfl)
  rw [lg_entry_eq]
  generalize (lg_sl ([.ref x0]) ++ List.replicate (2 - (lg_sl ([.ref x0])).length) Slot.unset).toArray = ls at hl ⊢
  exact wk_X5_tail Q ⟨⟨B.exec, B.bytes, hml, findClass_of_methodNamed B.named, hts⟩, hK, hZ, fun q h => Or.inr h⟩ (Nat.le_refl _) (Nat.le_refl _) G (fun v G pc ls H locs cells slots _ _ hd hW1 hS hkc hks hQ => W.widen (k := kc) (n := ks) (Nat.le_trans (Nat.le_add_right _ _) hkc) (Nat.le_trans (Nat.le_add_right _ _) hks) (W.aret (v := va_rf v) B.exec B.bytes B.returns (Or.inl ⟨_, rfl⟩) (va_rf_or v) (fun t ht _ => ⟨⟨v, G, rfl, hQ, by rw [← ht] at hW1; exact hW1⟩, hS.F ht⟩) hS.2.2 hd)) x0 kc ks h ls _ [] 0 0 hl hW va_S.rf (by show 0 + kc ≤ kc; omega) (by show 0 + ks ≤ ks; omega)
def CT_X11_word (l : Launch) (fr lo : Nat) (w : XV → (Option Nat → Prop) → Nat → GM → Prop) : Prop := ∀ (V : XV) (sz : Nat) (G : GM) (Q : Option Nat → Prop) (x0 : Nat), Met l yX11_word (ws_ yX11_word cX11_word 1 (some (.object "java/lang/String"))) { frames := fr, cells := 0, slots := 0, locals := lo } (va_Pc [.ref x0] (fun U => U.heap.size = sz ∧ xW V (xA G sz) G U.heap ∧ xK V U ∧ xZ V (xA G sz) U U.heap ∧ w V Q x0 G)) (va_Qq (fun r (u : GM) => u = G ∧ Q r) (fun u t => xW V (xA G sz) u t.heap) (xA G sz)) 0 0 (xA G sz)
theorem call_X11_word_A5_Layer {p : Program} {l : Launch} {e : Env} {R : Room} {s : State} {m : MethodId} {args : Array Value} {below : List Frame} {meth : Method} {c : Code} {H : Heap} {locs : List Loc} {cells slots : Nat} {Z : State → Prop} {A : Nat → Prop} {cc : ByteArray} {nL pc : Nat} {ls : Array Slot} {rest : List Value} {own : String} {index fr lo : Nat} {w : XV → (Option Nat → Prop) → Nat → GM → Prop} {V : XV} {G : GM} {o : Option Nat} {ci : Nat} {x0 : Nat} (hM : CT_X11_word l fr lo w) (C : xC p m c s args cc nL own V A) (hW : xW V A G H) (hS : va_S A s.heap H locs) (hlink : Cond.methodLink own index ⟨"Shapelayer$Layer", "word", "()Ljava/lang/String;"⟩ ∈ lw_all) (ho : o = some x0) (hcv : gCi G (some x0) = some ci) (hci : ci % 64 = 5) (hRf : fr + 1 ≤ R.frames) (hRl : 8 + (1 + 11) + lo ≤ R.locals) (hcs : cells ≤ R.cells ∧ slots ≤ R.slots) (hz : ls.size = nL) (hr8 : (rest.map fun v => v.category).sum ≤ 8) (hdg : decode cc pc = .ok (.invokevirtual index, 3)) {Q1 : Option Nat → Prop} (h : w V Q1 x0 G) (kk : ∀ (r : Option Nat) (H1 : Heap) (locs1 : List Loc), Q1 r → xW V A G H1 → va_S A s.heap H1 locs1 → xFr V G G H H1 → W p l e R s m args below meth c H1 locs1 cells slots Z (F0 m (pc + 3) ls (va_rf r :: rest))) : W p l e R s m args below meth c H locs cells slots Z (F0 m pc ls (va_rf o :: rest)) := by
  subst ho
  obtain ⟨fs, hG⟩ := gCi_of hcv
  exact rg_q3r (va_runU (As := []) (rest := rest) C.1 (hM V H.size G Q1 x0) (va_cwA (C := "Shapelayer$Nested") 0 C.1.2.2.2.2 (lw_U hlink q1713 q1714 q1715 q94 q1716) rfl rfl rfl (C.2.1.2.2.1 _ q1712 rfl) (by decide +kernel) ⟨hRf, hRl⟩) ⟨fun a U g mk q => by obtain ⟨q0, q1, qW, qK, qZ, qw⟩ := q; exact ⟨q0, q1, qW, xK.same (u := U) (U := U.calling g mk a) rfl qK, xZ.moved (u := U) (U := U.calling g mk a) (Vm.Alike.refl U.vm) qZ, qw⟩, (hW.recv C.2.1 hG (r := (RX11, TX11, 9)) (by rw [hci]; rfl)), fun U hU hWm => ⟨rfl, by rw [hU], by rw [hU]; exact hW.self _, C.2.1.warm hWm, xZ.call C.2.2.1 hW hS C.2.2.2 hU hWm.alike, h⟩⟩ rfl rfl hz rfl (lv_room hr8) hdg hcs) hW hS C.2.2.2 (fun r H1 locs1 hp hW1 hS1 hF1 => kk r H1 locs1 hp hW1 hS1 hF1)
def w_X11_word (V : XV) (Q : Option Nat → Prop) (x0 : Nat) (G : GM) : Prop := Q (some (xsr V "Shapelayer$Nested" 15))
set_option maxRecDepth 100000 in
set_option maxHeartbeats 4000000 in
theorem wk_X11_word {p : Program} {l : Launch} {e : Env} {R : Room} {s : State} {m : MethodId} {args : Array Value} {below : List Frame} {meth : Method} {c : Code} {cells slots : Nat} {Z : State → Prop} {A : Nat → Prop} {V : XV} (Q : Option Nat → Prop) (C : xC p m c s args cX11_word 1 RX11 V A) (hRf : 1 ≤ R.frames) (hRl : 20 ≤ R.locals) (hcs : cells ≤ R.cells ∧ slots ≤ R.slots) (G : GM) (hret : ∀ (v : Option Nat) (pc : Nat) (ls : Array Slot) (H : Heap) (locs : List Loc), decode cX11_word pc = .ok (.areturn, 1) → xW V A G H → va_S A s.heap H locs → Q v → W p l e R s m args below meth c H locs cells slots Z (F0 m pc ls [va_rf v])) (x0 : Nat) : w_X11_word V Q x0 G → ∀ (ls : Array Slot) (H : Heap) (locs : List Loc), lv_has ls 1 [(0, va_rf (some x0))] → xW V A G H → va_S A s.heap H locs → W p l e R s m args below meth c H locs cells slots Z (F0 m 0 ls []) := by
  have hx := C.1.1; have hb := C.1.2.1; have hml := C.1.2.2.1; have hown := C.1.2.2.2.1; have hts := C.1.2.2.2.2
  intro h
  intro ls H locs hl hW hS
  refine sh_ldcS C q1717 dX11_word_0 ?_
  exact hret _ _ _ _ _ dX11_word_2 hW hS h
theorem ct_X11_word (l : Launch) : CT_X11_word l 1 20 w_X11_word := by
  intro V sz G Q x0
  refine Met.ofW (cc := cX11_word) (maxL := 1) (ret := (some (.object "java/lang/String"))) (by decide) rfl ?_
  intro p e s m args below meth c s₁ B hml hv
  obtain ⟨rfl, hsz, hW, hK, hZ, h⟩ := hv
  subst hsz
  have hts := atoms_spec (ws := (ws_ yX11_word cX11_word 1 (some (.object "java/lang/String")))) B.pre
  have hts : ∀ w ∈ lw_all, w.before _ s = true := fun w h => hts w (List.mem_cons_of_mem _ h)
  have hl := lv_entry ([.ref x0]) (n := 1) (Nat.le_of_ble_eq_true rfl)
  rw [lg_entry_eq]
  generalize (lg_sl ([.ref x0]) ++ List.replicate (1 - (lg_sl ([.ref x0])).length) Slot.unset).toArray = ls at hl ⊢
  exact wk_X11_word Q ⟨⟨B.exec, B.bytes, hml, findClass_of_methodNamed B.named, hts⟩, hK, hZ, fun q h => Or.inr h⟩ (Nat.le_refl _) (Nat.le_refl _) ⟨Nat.le_refl _, Nat.le_refl _⟩ G (fun v pc ls H locs hd hW1 hS hQ => W.aret (v := va_rf v) B.exec B.bytes B.returns (Or.inl ⟨_, rfl⟩) (va_rf_or v) (fun t ht _ => ⟨⟨v, G, rfl, ⟨rfl, hQ⟩, by rw [← ht] at hW1; exact hW1⟩, hS.F ht⟩) hS.2.2 hd) x0 h ls _ [] hl hW va_S.rf
def CT_X12_word (l : Launch) (fr lo : Nat) (w : XV → (Option Nat → Prop) → Nat → GM → Prop) : Prop := ∀ (V : XV) (sz : Nat) (G : GM) (Q : Option Nat → Prop) (x0 : Nat), Met l yX12_word (ws_ yX12_word cX12_word 1 (some (.object "java/lang/String"))) { frames := fr, cells := 0, slots := 0, locals := lo } (va_Pc [.ref x0] (fun U => U.heap.size = sz ∧ xW V (xA G sz) G U.heap ∧ xK V U ∧ xZ V (xA G sz) U U.heap ∧ w V Q x0 G)) (va_Qq (fun r (u : GM) => u = G ∧ Q r) (fun u t => xW V (xA G sz) u t.heap) (xA G sz)) 0 0 (xA G sz)
theorem call_X12_word_A6_Layer {p : Program} {l : Launch} {e : Env} {R : Room} {s : State} {m : MethodId} {args : Array Value} {below : List Frame} {meth : Method} {c : Code} {H : Heap} {locs : List Loc} {cells slots : Nat} {Z : State → Prop} {A : Nat → Prop} {cc : ByteArray} {nL pc : Nat} {ls : Array Slot} {rest : List Value} {own : String} {index fr lo : Nat} {w : XV → (Option Nat → Prop) → Nat → GM → Prop} {V : XV} {G : GM} {o : Option Nat} {ci : Nat} {x0 : Nat} (hM : CT_X12_word l fr lo w) (C : xC p m c s args cc nL own V A) (hW : xW V A G H) (hS : va_S A s.heap H locs) (hlink : Cond.methodLink own index ⟨"Shapelayer$Layer", "word", "()Ljava/lang/String;"⟩ ∈ lw_all) (ho : o = some x0) (hcv : gCi G (some x0) = some ci) (hci : ci % 64 = 6) (hRf : fr + 1 ≤ R.frames) (hRl : 8 + (1 + 11) + lo ≤ R.locals) (hcs : cells ≤ R.cells ∧ slots ≤ R.slots) (hz : ls.size = nL) (hr8 : (rest.map fun v => v.category).sum ≤ 8) (hdg : decode cc pc = .ok (.invokevirtual index, 3)) {Q1 : Option Nat → Prop} (h : w V Q1 x0 G) (kk : ∀ (r : Option Nat) (H1 : Heap) (locs1 : List Loc), Q1 r → xW V A G H1 → va_S A s.heap H1 locs1 → xFr V G G H H1 → W p l e R s m args below meth c H1 locs1 cells slots Z (F0 m (pc + 3) ls (va_rf r :: rest))) : W p l e R s m args below meth c H locs cells slots Z (F0 m pc ls (va_rf o :: rest)) := by
  subst ho
  obtain ⟨fs, hG⟩ := gCi_of hcv
  exact rg_q3r (va_runU (As := []) (rest := rest) C.1 (hM V H.size G Q1 x0) (va_cwA (C := "Shapelayer$Null") 0 C.1.2.2.2.2 (lw_U hlink q1713 q1718 q1719 q95 q1720) rfl rfl rfl (C.2.1.2.2.1 _ q1712 rfl) (by decide +kernel) ⟨hRf, hRl⟩) ⟨fun a U g mk q => by obtain ⟨q0, q1, qW, qK, qZ, qw⟩ := q; exact ⟨q0, q1, qW, xK.same (u := U) (U := U.calling g mk a) rfl qK, xZ.moved (u := U) (U := U.calling g mk a) (Vm.Alike.refl U.vm) qZ, qw⟩, (hW.recv C.2.1 hG (r := (RX12, TX12, 8)) (by rw [hci]; rfl)), fun U hU hWm => ⟨rfl, by rw [hU], by rw [hU]; exact hW.self _, C.2.1.warm hWm, xZ.call C.2.2.1 hW hS C.2.2.2 hU hWm.alike, h⟩⟩ rfl rfl hz rfl (lv_room hr8) hdg hcs) hW hS C.2.2.2 (fun r H1 locs1 hp hW1 hS1 hF1 => kk r H1 locs1 hp hW1 hS1 hF1)
def w_X12_word (V : XV) (Q : Option Nat → Prop) (x0 : Nat) (G : GM) : Prop := Q (some (xsr V "Shapelayer$Null" 7))
set_option maxRecDepth 100000 in
set_option maxHeartbeats 4000000 in
theorem wk_X12_word {p : Program} {l : Launch} {e : Env} {R : Room} {s : State} {m : MethodId} {args : Array Value} {below : List Frame} {meth : Method} {c : Code} {cells slots : Nat} {Z : State → Prop} {A : Nat → Prop} {V : XV} (Q : Option Nat → Prop) (C : xC p m c s args cX12_word 1 RX12 V A) (hRf : 1 ≤ R.frames) (hRl : 20 ≤ R.locals) (hcs : cells ≤ R.cells ∧ slots ≤ R.slots) (G : GM) (hret : ∀ (v : Option Nat) (pc : Nat) (ls : Array Slot) (H : Heap) (locs : List Loc), decode cX12_word pc = .ok (.areturn, 1) → xW V A G H → va_S A s.heap H locs → Q v → W p l e R s m args below meth c H locs cells slots Z (F0 m pc ls [va_rf v])) (x0 : Nat) : w_X12_word V Q x0 G → ∀ (ls : Array Slot) (H : Heap) (locs : List Loc), lv_has ls 1 [(0, va_rf (some x0))] → xW V A G H → va_S A s.heap H locs → W p l e R s m args below meth c H locs cells slots Z (F0 m 0 ls []) := by
  have hx := C.1.1; have hb := C.1.2.1; have hml := C.1.2.2.1; have hown := C.1.2.2.2.1; have hts := C.1.2.2.2.2
  intro h
  intro ls H locs hl hW hS
  refine sh_ldcS C q1721 dX12_word_0 ?_
  exact hret _ _ _ _ _ dX12_word_2 hW hS h
theorem ct_X12_word (l : Launch) : CT_X12_word l 1 20 w_X12_word := by
  intro V sz G Q x0
  refine Met.ofW (cc := cX12_word) (maxL := 1) (ret := (some (.object "java/lang/String"))) (by decide) rfl ?_
  intro p e s m args below meth c s₁ B hml hv
  obtain ⟨rfl, hsz, hW, hK, hZ, h⟩ := hv
  subst hsz
  have hts := atoms_spec (ws := (ws_ yX12_word cX12_word 1 (some (.object "java/lang/String")))) B.pre
  have hts : ∀ w ∈ lw_all, w.before _ s = true := fun w h => hts w (List.mem_cons_of_mem _ h)
  have hl := lv_entry ([.ref x0]) (n := 1) (Nat.le_of_ble_eq_true rfl)
  rw [lg_entry_eq]
  generalize (lg_sl ([.ref x0]) ++ List.replicate (1 - (lg_sl ([.ref x0])).length) Slot.unset).toArray = ls at hl ⊢
  exact wk_X12_word Q ⟨⟨B.exec, B.bytes, hml, findClass_of_methodNamed B.named, hts⟩, hK, hZ, fun q h => Or.inr h⟩ (Nat.le_refl _) (Nat.le_refl _) ⟨Nat.le_refl _, Nat.le_refl _⟩ G (fun v pc ls H locs hd hW1 hS hQ => W.aret (v := va_rf v) B.exec B.bytes B.returns (Or.inl ⟨_, rfl⟩) (va_rf_or v) (fun t ht _ => ⟨⟨v, G, rfl, ⟨rfl, hQ⟩, by rw [← ht] at hW1; exact hW1⟩, hS.F ht⟩) hS.2.2 hd) x0 h ls _ [] hl hW va_S.rf
def CT_X7_word (l : Launch) (fr lo : Nat) (w : XV → (Option Nat → Prop) → Nat → GM → Prop) : Prop := ∀ (V : XV) (sz : Nat) (G : GM) (Q : Option Nat → Prop) (x0 : Nat), Met l yX7_word (ws_ yX7_word cX7_word 1 (some (.object "java/lang/String"))) { frames := fr, cells := 0, slots := 0, locals := lo } (va_Pc [.ref x0] (fun U => U.heap.size = sz ∧ xW V (xA G sz) G U.heap ∧ xK V U ∧ xZ V (xA G sz) U U.heap ∧ w V Q x0 G)) (va_Qq (fun r (u : GM) => u = G ∧ Q r) (fun u t => xW V (xA G sz) u t.heap) (xA G sz)) 0 0 (xA G sz)
theorem call_X7_word_A3_Layer {p : Program} {l : Launch} {e : Env} {R : Room} {s : State} {m : MethodId} {args : Array Value} {below : List Frame} {meth : Method} {c : Code} {H : Heap} {locs : List Loc} {cells slots : Nat} {Z : State → Prop} {A : Nat → Prop} {cc : ByteArray} {nL pc : Nat} {ls : Array Slot} {rest : List Value} {own : String} {index fr lo : Nat} {w : XV → (Option Nat → Prop) → Nat → GM → Prop} {V : XV} {G : GM} {o : Option Nat} {ci : Nat} {x0 : Nat} (hM : CT_X7_word l fr lo w) (C : xC p m c s args cc nL own V A) (hW : xW V A G H) (hS : va_S A s.heap H locs) (hlink : Cond.methodLink own index ⟨"Shapelayer$Layer", "word", "()Ljava/lang/String;"⟩ ∈ lw_all) (ho : o = some x0) (hcv : gCi G (some x0) = some ci) (hci : ci % 64 = 3) (hRf : fr + 1 ≤ R.frames) (hRl : 8 + (1 + 11) + lo ≤ R.locals) (hcs : cells ≤ R.cells ∧ slots ≤ R.slots) (hz : ls.size = nL) (hr8 : (rest.map fun v => v.category).sum ≤ 8) (hdg : decode cc pc = .ok (.invokevirtual index, 3)) {Q1 : Option Nat → Prop} (h : w V Q1 x0 G) (kk : ∀ (r : Option Nat) (H1 : Heap) (locs1 : List Loc), Q1 r → xW V A G H1 → va_S A s.heap H1 locs1 → xFr V G G H H1 → W p l e R s m args below meth c H1 locs1 cells slots Z (F0 m (pc + 3) ls (va_rf r :: rest))) : W p l e R s m args below meth c H locs cells slots Z (F0 m pc ls (va_rf o :: rest)) := by
  subst ho
  obtain ⟨fs, hG⟩ := gCi_of hcv
  exact rg_q3r (va_runU (As := []) (rest := rest) C.1 (hM V H.size G Q1 x0) (va_cwA (C := "Shapelayer$Rect") 0 C.1.2.2.2.2 (lw_U hlink q1713 q1722 q1723 q89 q1724) rfl rfl rfl (C.2.1.2.2.1 _ q1712 rfl) (by decide +kernel) ⟨hRf, hRl⟩) ⟨fun a U g mk q => by obtain ⟨q0, q1, qW, qK, qZ, qw⟩ := q; exact ⟨q0, q1, qW, xK.same (u := U) (U := U.calling g mk a) rfl qK, xZ.moved (u := U) (U := U.calling g mk a) (Vm.Alike.refl U.vm) qZ, qw⟩, (hW.recv C.2.1 hG (r := (RX7, TX7, 11)) (by rw [hci]; rfl)), fun U hU hWm => ⟨rfl, by rw [hU], by rw [hU]; exact hW.self _, C.2.1.warm hWm, xZ.call C.2.2.1 hW hS C.2.2.2 hU hWm.alike, h⟩⟩ rfl rfl hz rfl (lv_room hr8) hdg hcs) hW hS C.2.2.2 (fun r H1 locs1 hp hW1 hS1 hF1 => kk r H1 locs1 hp hW1 hS1 hF1)
def w_X7_word (V : XV) (Q : Option Nat → Prop) (x0 : Nat) (G : GM) : Prop := Q (some (xsr V "Shapelayer$Rect" 18))
set_option maxRecDepth 100000 in
set_option maxHeartbeats 4000000 in
theorem wk_X7_word {p : Program} {l : Launch} {e : Env} {R : Room} {s : State} {m : MethodId} {args : Array Value} {below : List Frame} {meth : Method} {c : Code} {cells slots : Nat} {Z : State → Prop} {A : Nat → Prop} {V : XV} (Q : Option Nat → Prop) (C : xC p m c s args cX7_word 1 RX7 V A) (hRf : 1 ≤ R.frames) (hRl : 20 ≤ R.locals) (hcs : cells ≤ R.cells ∧ slots ≤ R.slots) (G : GM) (hret : ∀ (v : Option Nat) (pc : Nat) (ls : Array Slot) (H : Heap) (locs : List Loc), decode cX7_word pc = .ok (.areturn, 1) → xW V A G H → va_S A s.heap H locs → Q v → W p l e R s m args below meth c H locs cells slots Z (F0 m pc ls [va_rf v])) (x0 : Nat) : w_X7_word V Q x0 G → ∀ (ls : Array Slot) (H : Heap) (locs : List Loc), lv_has ls 1 [(0, va_rf (some x0))] → xW V A G H → va_S A s.heap H locs → W p l e R s m args below meth c H locs cells slots Z (F0 m 0 ls []) := by
  have hx := C.1.1; have hb := C.1.2.1; have hml := C.1.2.2.1; have hown := C.1.2.2.2.1; have hts := C.1.2.2.2.2
  intro h
  intro ls H locs hl hW hS
  refine sh_ldcS C q1725 dX7_word_0 ?_
  exact hret _ _ _ _ _ dX7_word_2 hW hS h
theorem ct_X7_word (l : Launch) : CT_X7_word l 1 20 w_X7_word := by
  intro V sz G Q x0
  refine Met.ofW (cc := cX7_word) (maxL := 1) (ret := (some (.object "java/lang/String"))) (by decide) rfl ?_
  intro p e s m args below meth c s₁ B hml hv
  obtain ⟨rfl, hsz, hW, hK, hZ, h⟩ := hv
  subst hsz
  have hts := atoms_spec (ws := (ws_ yX7_word cX7_word 1 (some (.object "java/lang/String")))) B.pre
  have hts : ∀ w ∈ lw_all, w.before _ s = true := fun w h => hts w (List.mem_cons_of_mem _ h)
  have hl := lv_entry ([.ref x0]) (n := 1) (Nat.le_of_ble_eq_true rfl)
  rw [lg_entry_eq]
  generalize (lg_sl ([.ref x0]) ++ List.replicate (1 - (lg_sl ([.ref x0])).length) Slot.unset).toArray = ls at hl ⊢
  exact wk_X7_word Q ⟨⟨B.exec, B.bytes, hml, findClass_of_methodNamed B.named, hts⟩, hK, hZ, fun q h => Or.inr h⟩ (Nat.le_refl _) (Nat.le_refl _) ⟨Nat.le_refl _, Nat.le_refl _⟩ G (fun v pc ls H locs hd hW1 hS hQ => W.aret (v := va_rf v) B.exec B.bytes B.returns (Or.inl ⟨_, rfl⟩) (va_rf_or v) (fun t ht _ => ⟨⟨v, G, rfl, ⟨rfl, hQ⟩, by rw [← ht] at hW1; exact hW1⟩, hS.F ht⟩) hS.2.2 hd) x0 h ls _ [] hl hW va_S.rf
def CT_X9_word (l : Launch) (fr lo : Nat) (w : XV → (Option Nat → Prop) → Nat → GM → Prop) : Prop := ∀ (V : XV) (sz : Nat) (G : GM) (Q : Option Nat → Prop) (x0 : Nat), Met l yX9_word (ws_ yX9_word cX9_word 1 (some (.object "java/lang/String"))) { frames := fr, cells := 0, slots := 0, locals := lo } (va_Pc [.ref x0] (fun U => U.heap.size = sz ∧ xW V (xA G sz) G U.heap ∧ xK V U ∧ xZ V (xA G sz) U U.heap ∧ w V Q x0 G)) (va_Qq (fun r (u : GM) => u = G ∧ Q r) (fun u t => xW V (xA G sz) u t.heap) (xA G sz)) 0 0 (xA G sz)
theorem call_X9_word_A4_Layer {p : Program} {l : Launch} {e : Env} {R : Room} {s : State} {m : MethodId} {args : Array Value} {below : List Frame} {meth : Method} {c : Code} {H : Heap} {locs : List Loc} {cells slots : Nat} {Z : State → Prop} {A : Nat → Prop} {cc : ByteArray} {nL pc : Nat} {ls : Array Slot} {rest : List Value} {own : String} {index fr lo : Nat} {w : XV → (Option Nat → Prop) → Nat → GM → Prop} {V : XV} {G : GM} {o : Option Nat} {ci : Nat} {x0 : Nat} (hM : CT_X9_word l fr lo w) (C : xC p m c s args cc nL own V A) (hW : xW V A G H) (hS : va_S A s.heap H locs) (hlink : Cond.methodLink own index ⟨"Shapelayer$Layer", "word", "()Ljava/lang/String;"⟩ ∈ lw_all) (ho : o = some x0) (hcv : gCi G (some x0) = some ci) (hci : ci % 64 = 4) (hRf : fr + 1 ≤ R.frames) (hRl : 8 + (1 + 11) + lo ≤ R.locals) (hcs : cells ≤ R.cells ∧ slots ≤ R.slots) (hz : ls.size = nL) (hr8 : (rest.map fun v => v.category).sum ≤ 8) (hdg : decode cc pc = .ok (.invokevirtual index, 3)) {Q1 : Option Nat → Prop} (h : w V Q1 x0 G) (kk : ∀ (r : Option Nat) (H1 : Heap) (locs1 : List Loc), Q1 r → xW V A G H1 → va_S A s.heap H1 locs1 → xFr V G G H H1 → W p l e R s m args below meth c H1 locs1 cells slots Z (F0 m (pc + 3) ls (va_rf r :: rest))) : W p l e R s m args below meth c H locs cells slots Z (F0 m pc ls (va_rf o :: rest)) := by
  subst ho
  obtain ⟨fs, hG⟩ := gCi_of hcv
  exact rg_q3r (va_runU (As := []) (rest := rest) C.1 (hM V H.size G Q1 x0) (va_cwA (C := "Shapelayer$Stroke") 0 C.1.2.2.2.2 (lw_U hlink q1713 q1726 q1727 q91 q1728) rfl rfl rfl (C.2.1.2.2.1 _ q1712 rfl) (by decide +kernel) ⟨hRf, hRl⟩) ⟨fun a U g mk q => by obtain ⟨q0, q1, qW, qK, qZ, qw⟩ := q; exact ⟨q0, q1, qW, xK.same (u := U) (U := U.calling g mk a) rfl qK, xZ.moved (u := U) (U := U.calling g mk a) (Vm.Alike.refl U.vm) qZ, qw⟩, (hW.recv C.2.1 hG (r := (RX9, TX9, 11)) (by rw [hci]; rfl)), fun U hU hWm => ⟨rfl, by rw [hU], by rw [hU]; exact hW.self _, C.2.1.warm hWm, xZ.call C.2.2.1 hW hS C.2.2.2 hU hWm.alike, h⟩⟩ rfl rfl hz rfl (lv_room hr8) hdg hcs) hW hS C.2.2.2 (fun r H1 locs1 hp hW1 hS1 hF1 => kk r H1 locs1 hp hW1 hS1 hF1)
def w_X9_word (V : XV) (Q : Option Nat → Prop) (x0 : Nat) (G : GM) : Prop := Q (some (xsr V "Shapelayer$Stroke" 20))
set_option maxRecDepth 100000 in
set_option maxHeartbeats 4000000 in
theorem wk_X9_word {p : Program} {l : Launch} {e : Env} {R : Room} {s : State} {m : MethodId} {args : Array Value} {below : List Frame} {meth : Method} {c : Code} {cells slots : Nat} {Z : State → Prop} {A : Nat → Prop} {V : XV} (Q : Option Nat → Prop) (C : xC p m c s args cX9_word 1 RX9 V A) (hRf : 1 ≤ R.frames) (hRl : 20 ≤ R.locals) (hcs : cells ≤ R.cells ∧ slots ≤ R.slots) (G : GM) (hret : ∀ (v : Option Nat) (pc : Nat) (ls : Array Slot) (H : Heap) (locs : List Loc), decode cX9_word pc = .ok (.areturn, 1) → xW V A G H → va_S A s.heap H locs → Q v → W p l e R s m args below meth c H locs cells slots Z (F0 m pc ls [va_rf v])) (x0 : Nat) : w_X9_word V Q x0 G → ∀ (ls : Array Slot) (H : Heap) (locs : List Loc), lv_has ls 1 [(0, va_rf (some x0))] → xW V A G H → va_S A s.heap H locs → W p l e R s m args below meth c H locs cells slots Z (F0 m 0 ls []) := by
  have hx := C.1.1; have hb := C.1.2.1; have hml := C.1.2.2.1; have hown := C.1.2.2.2.1; have hts := C.1.2.2.2.2
  intro h
  intro ls H locs hl hW hS
  refine sh_ldcS C q1729 dX9_word_0 ?_
  exact hret _ _ _ _ _ dX9_word_2 hW hS h
theorem ct_X9_word (l : Launch) : CT_X9_word l 1 20 w_X9_word := by
  intro V sz G Q x0
  refine Met.ofW (cc := cX9_word) (maxL := 1) (ret := (some (.object "java/lang/String"))) (by decide) rfl ?_
  intro p e s m args below meth c s₁ B hml hv
  obtain ⟨rfl, hsz, hW, hK, hZ, h⟩ := hv
  subst hsz
  have hts := atoms_spec (ws := (ws_ yX9_word cX9_word 1 (some (.object "java/lang/String")))) B.pre
  have hts : ∀ w ∈ lw_all, w.before _ s = true := fun w h => hts w (List.mem_cons_of_mem _ h)
  have hl := lv_entry ([.ref x0]) (n := 1) (Nat.le_of_ble_eq_true rfl)
  rw [lg_entry_eq]
  generalize (lg_sl ([.ref x0]) ++ List.replicate (1 - (lg_sl ([.ref x0])).length) Slot.unset).toArray = ls at hl ⊢
  exact wk_X9_word Q ⟨⟨B.exec, B.bytes, hml, findClass_of_methodNamed B.named, hts⟩, hK, hZ, fun q h => Or.inr h⟩ (Nat.le_refl _) (Nat.le_refl _) ⟨Nat.le_refl _, Nat.le_refl _⟩ G (fun v pc ls H locs hd hW1 hS hQ => W.aret (v := va_rf v) B.exec B.bytes B.returns (Or.inl ⟨_, rfl⟩) (va_rf_or v) (fun t ht _ => ⟨⟨v, G, rfl, ⟨rfl, hQ⟩, by rw [← ht] at hW1; exact hW1⟩, hS.F ht⟩) hS.2.2 hd) x0 h ls _ [] hl hW va_S.rf
def CT_X5_toString (l : Launch) (fr lo : Nat) (w : XV → (Option Nat → GM → Prop) → Nat → GM → Nat → Nat → Prop) : Prop := ∀ (V : XV) (sz : Nat) (G : GM) (Q : Option Nat → GM → Prop) (x0 : Nat) (kc ks : Nat), Met l yX5_toString (ws_ yX5_toString cX5_toString 1 (some (.object "java/lang/String"))) { frames := fr, cells := kc, slots := ks, locals := lo } (va_Pc [.ref x0] (fun U => U.heap.size = sz ∧ xW V (xA G sz) G U.heap ∧ xK V U ∧ xZ V (xA G sz) U U.heap ∧ w V Q x0 G kc ks)) (va_Qq (fun r (u : GM) => Q r u) (fun u t => xW V (xA G sz) u t.heap) (xA G sz)) kc ks (xA G sz)
theorem call_X5_toString_SU_ShapelayerNested {p : Program} {l : Launch} {e : Env} {R : Room} {s : State} {m : MethodId} {args : Array Value} {below : List Frame} {meth : Method} {c : Code} {H : Heap} {locs : List Loc} {cells slots : Nat} {Z : State → Prop} {A : Nat → Prop} {cc : ByteArray} {nL pc : Nat} {ls : Array Slot} {rest : List Value} {index fr lo : Nat} {w : XV → (Option Nat → GM → Prop) → Nat → GM → Nat → Nat → Prop} {V : XV} {G : GM} {o : Option Nat} {ci : Nat} {kc ks c1 s1 : Nat} {x0 : Nat} (hM : CT_X5_toString l fr lo w) (C : xC p m c s args cc nL "Shapelayer$Nested" V A) (hW : xW V A G H) (hS : va_S A s.heap H locs) (hlink : Cond.methodLink "Shapelayer$Nested" index yX5_toString ∈ lw_all) (ho : o = some x0) (hcv : gCi G (some x0) = some ci) (hci : ci % 64 = 5) (hRf : fr + 1 ≤ R.frames) (hRl : 8 + (1 + 11) + lo ≤ R.locals) (hc1 : c1 ≤ kc) (hs1 : s1 ≤ ks) (hkc : cells + kc ≤ R.cells) (hks : slots + ks ≤ R.slots) (hz : ls.size = nL) (hr8 : (rest.map fun v => v.category).sum ≤ 8) (hdg : decode cc pc = .ok (.invokespecial index, 3)) {Q1 : Option Nat → GM → Prop} (h : w V Q1 x0 G c1 s1) (kk : ∀ (r : Option Nat) (G1 : GM) (H1 : Heap) (locs1 : List Loc), Q1 r G1 → xW V A G1 H1 → va_S A s.heap H1 locs1 → xFr V G G1 H H1 → (cells + c1) + (kc - c1) ≤ R.cells → (slots + s1) + (ks - s1) ≤ R.slots → W p l e R s m args below meth c H1 locs1 (cells + c1) (slots + s1) Z (F0 m (pc + 3) ls (va_rf r :: rest))) : W p l e R s m args below meth c H locs cells slots Z (F0 m pc ls (va_rf o :: rest)) := by
  subst ho
  obtain ⟨fs, hG⟩ := gCi_of hcv
  exact rg_q3w (va_runSU (As := []) (rest := rest) (C.2.1.1 5 _ rfl).2 C.1 (hM V H.size G Q1 x0 c1 s1) (va_cwSU 0 C.1.2.2.2.2 (lw_SU hlink q1703 q1047 q1702 q87 q1710) rfl rfl rfl (by decide +kernel) ⟨hRf, hRl⟩) ⟨fun a U g mk q => by obtain ⟨q0, q1, qW, qK, qZ, qw⟩ := q; exact ⟨q0, q1, qW, xK.same (u := U) (U := U.calling g mk a) rfl qK, xZ.moved (u := U) (U := U.calling g mk a) (Vm.Alike.refl U.vm) qZ, qw⟩, (hW.recv C.2.1 hG (r := (RX11, TX11, 9)) (by rw [hci]; rfl)), fun U hU hWm => ⟨rfl, by rw [hU], by rw [hU]; exact hW.self _, C.2.1.warm hWm, xZ.call C.2.2.1 hW hS C.2.2.2 hU hWm.alike, h⟩⟩ rfl rfl hz rfl (lv_room hr8) hdg ⟨by omega, by omega⟩) hW hS C.2.2.2 (fun r G1 H1 locs1 hp hW1 hS1 hF1 => kk r G1 H1 locs1 hp hW1 hS1 hF1 (by omega) (by omega))
theorem call_X5_toString_SU_ShapelayerColoured {p : Program} {l : Launch} {e : Env} {R : Room} {s : State} {m : MethodId} {args : Array Value} {below : List Frame} {meth : Method} {c : Code} {H : Heap} {locs : List Loc} {cells slots : Nat} {Z : State → Prop} {A : Nat → Prop} {cc : ByteArray} {nL pc : Nat} {ls : Array Slot} {rest : List Value} {index fr lo : Nat} {w : XV → (Option Nat → GM → Prop) → Nat → GM → Nat → Nat → Prop} {V : XV} {G : GM} {o : Option Nat} {ci : Nat} {kc ks c1 s1 : Nat} {x0 : Nat} (hM : CT_X5_toString l fr lo w) (C : xC p m c s args cc nL "Shapelayer$Coloured" V A) (hW : xW V A G H) (hS : va_S A s.heap H locs) (hlink : Cond.methodLink "Shapelayer$Coloured" index yX5_toString ∈ lw_all) (ho : o = some x0) (hcv : gCi G (some x0) = some ci) (hci : ci % 64 = 3 ∨ ci % 64 = 4) (hRf : fr + 1 ≤ R.frames) (hRl : 8 + (1 + 11) + lo ≤ R.locals) (hc1 : c1 ≤ kc) (hs1 : s1 ≤ ks) (hkc : cells + kc ≤ R.cells) (hks : slots + ks ≤ R.slots) (hz : ls.size = nL) (hr8 : (rest.map fun v => v.category).sum ≤ 8) (hdg : decode cc pc = .ok (.invokespecial index, 3)) {Q1 : Option Nat → GM → Prop} (h : w V Q1 x0 G c1 s1) (kk : ∀ (r : Option Nat) (G1 : GM) (H1 : Heap) (locs1 : List Loc), Q1 r G1 → xW V A G1 H1 → va_S A s.heap H1 locs1 → xFr V G G1 H H1 → (cells + c1) + (kc - c1) ≤ R.cells → (slots + s1) + (ks - s1) ≤ R.slots → W p l e R s m args below meth c H1 locs1 (cells + c1) (slots + s1) Z (F0 m (pc + 3) ls (va_rf r :: rest))) : W p l e R s m args below meth c H locs cells slots Z (F0 m pc ls (va_rf o :: rest)) := by
  subst ho
  obtain ⟨fs, hG⟩ := gCi_of hcv
  rcases hci with hci | hci
  · exact rg_q3w (va_runSU (As := []) (rest := rest) (C.2.1.1 3 _ rfl).2 C.1 (hM V H.size G Q1 x0 c1 s1) (va_cwSU 0 C.1.2.2.2.2 (lw_SU hlink q1703 q1743 q1702 q87 q1710) rfl rfl rfl (by decide +kernel) ⟨hRf, hRl⟩) ⟨fun a U g mk q => by obtain ⟨q0, q1, qW, qK, qZ, qw⟩ := q; exact ⟨q0, q1, qW, xK.same (u := U) (U := U.calling g mk a) rfl qK, xZ.moved (u := U) (U := U.calling g mk a) (Vm.Alike.refl U.vm) qZ, qw⟩, (hW.recv C.2.1 hG (r := (RX7, TX7, 11)) (by rw [hci]; rfl)), fun U hU hWm => ⟨rfl, by rw [hU], by rw [hU]; exact hW.self _, C.2.1.warm hWm, xZ.call C.2.2.1 hW hS C.2.2.2 hU hWm.alike, h⟩⟩ rfl rfl hz rfl (lv_room hr8) hdg ⟨by omega, by omega⟩) hW hS C.2.2.2 (fun r G1 H1 locs1 hp hW1 hS1 hF1 => kk r G1 H1 locs1 hp hW1 hS1 hF1 (by omega) (by omega))
  · exact rg_q3w (va_runSU (As := []) (rest := rest) (C.2.1.1 4 _ rfl).2 C.1 (hM V H.size G Q1 x0 c1 s1) (va_cwSU 0 C.1.2.2.2.2 (lw_SU hlink q1703 q1743 q1702 q87 q1710) rfl rfl rfl (by decide +kernel) ⟨hRf, hRl⟩) ⟨fun a U g mk q => by obtain ⟨q0, q1, qW, qK, qZ, qw⟩ := q; exact ⟨q0, q1, qW, xK.same (u := U) (U := U.calling g mk a) rfl qK, xZ.moved (u := U) (U := U.calling g mk a) (Vm.Alike.refl U.vm) qZ, qw⟩, (hW.recv C.2.1 hG (r := (RX9, TX9, 11)) (by rw [hci]; rfl)), fun U hU hWm => ⟨rfl, by rw [hU], by rw [hU]; exact hW.self _, C.2.1.warm hWm, xZ.call C.2.2.1 hW hS C.2.2.2 hU hWm.alike, h⟩⟩ rfl rfl hz rfl (lv_room hr8) hdg ⟨by omega, by omega⟩) hW hS C.2.2.2 (fun r G1 H1 locs1 hp hW1 hS1 hF1 => kk r G1 H1 locs1 hp hW1 hS1 hF1 (by omega) (by omega))
theorem call_X5_toString_U6_Layer {p : Program} {l : Launch} {e : Env} {R : Room} {s : State} {m : MethodId} {args : Array Value} {below : List Frame} {meth : Method} {c : Code} {H : Heap} {locs : List Loc} {cells slots : Nat} {Z : State → Prop} {A : Nat → Prop} {cc : ByteArray} {nL pc : Nat} {ls : Array Slot} {rest : List Value} {own : String} {index fr lo : Nat} {w : XV → (Option Nat → GM → Prop) → Nat → GM → Nat → Nat → Prop} {V : XV} {G : GM} {o : Option Nat} {ci : Nat} {kc ks c1 s1 : Nat} {x0 : Nat} (hM : CT_X5_toString l fr lo w) (C : xC p m c s args cc nL own V A) (hW : xW V A G H) (hS : va_S A s.heap H locs) (hlink : Cond.methodLink own index ⟨"Shapelayer$Layer", "toString", "()Ljava/lang/String;"⟩ ∈ lw_all) (ho : o = some x0) (hcv : gCi G (some x0) = some ci) (hci : ci % 64 = 6) (hRf : fr + 1 ≤ R.frames) (hRl : 8 + (1 + 11) + lo ≤ R.locals) (hc1 : c1 ≤ kc) (hs1 : s1 ≤ ks) (hkc : cells + kc ≤ R.cells) (hks : slots + ks ≤ R.slots) (hz : ls.size = nL) (hr8 : (rest.map fun v => v.category).sum ≤ 8) (hdg : decode cc pc = .ok (.invokevirtual index, 3)) {Q1 : Option Nat → GM → Prop} (h : w V Q1 x0 G c1 s1) (kk : ∀ (r : Option Nat) (G1 : GM) (H1 : Heap) (locs1 : List Loc), Q1 r G1 → xW V A G1 H1 → va_S A s.heap H1 locs1 → xFr V G G1 H H1 → (cells + c1) + (kc - c1) ≤ R.cells → (slots + s1) + (ks - s1) ≤ R.slots → W p l e R s m args below meth c H1 locs1 (cells + c1) (slots + s1) Z (F0 m (pc + 3) ls (va_rf r :: rest))) : W p l e R s m args below meth c H locs cells slots Z (F0 m pc ls (va_rf o :: rest)) := by
  subst ho
  obtain ⟨fs, hG⟩ := gCi_of hcv
  exact rg_q3w (va_runU (As := []) (rest := rest) C.1 (hM V H.size G Q1 x0 c1 s1) (va_cwU (C := "Shapelayer$Null") 0 C.1.2.2.2.2 (lw_U hlink q1703 q1736 q1702 q87 q1710) rfl rfl rfl rfl (by decide +kernel) ⟨hRf, hRl⟩) ⟨fun a U g mk q => by obtain ⟨q0, q1, qW, qK, qZ, qw⟩ := q; exact ⟨q0, q1, qW, xK.same (u := U) (U := U.calling g mk a) rfl qK, xZ.moved (u := U) (U := U.calling g mk a) (Vm.Alike.refl U.vm) qZ, qw⟩, (hW.recv C.2.1 hG (r := (RX12, TX12, 8)) (by rw [hci]; rfl)), fun U hU hWm => ⟨rfl, by rw [hU], by rw [hU]; exact hW.self _, C.2.1.warm hWm, xZ.call C.2.2.1 hW hS C.2.2.2 hU hWm.alike, h⟩⟩ rfl rfl hz rfl (lv_room hr8) hdg ⟨by omega, by omega⟩) hW hS C.2.2.2 (fun r G1 H1 locs1 hp hW1 hS1 hF1 => kk r G1 H1 locs1 hp hW1 hS1 hF1 (by omega) (by omega))
def w_X5_toString_11 (V : XV) (Q : Option Nat → GM → Prop) (x0 : Nat) (y0 : Option Nat) (y1 : Option Nat) (G : GM) (kc : Nat) (ks : Nat) : Prop := gRcv G y1 (fun a1 c2 => (c2 % 64 = 16) ∧ (∃ c5 s6 : Nat, c5 ≤ kc ∧ s6 ≤ ks ∧ (w_J4_append V (fun r3 G4 => gRcv G4 r3 (fun a7 c8 => (c8 % 64 = 16) ∧ (∃ c11 s12 : Nat, c11 ≤ (kc - c5) ∧ s12 ≤ (ks - s6) ∧ (w_J4_append V (fun r9 G10 => gGI G10 19 (some x0) (fun v13 => gRcv G10 r9 (fun a14 c15 => (c15 % 64 = 16) ∧ (∃ c18 s19 : Nat, c18 ≤ ((kc - c5) - c11) ∧ s19 ≤ ((ks - s6) - s12) ∧ (w_J4_append_2 V (fun r16 G17 => gRcv G17 r16 (fun a20 c21 => (c21 % 64 = 16) ∧ (∃ c24 s25 : Nat, c24 ≤ (((kc - c5) - c11) - c18) ∧ s25 ≤ (((ks - s6) - s12) - s19) ∧ (w_J4_append V (fun r22 G23 => gGI G23 20 (some x0) (fun v26 => gRcv G23 r22 (fun a27 c28 => (c28 % 64 = 16) ∧ (∃ c31 s32 : Nat, c31 ≤ ((((kc - c5) - c11) - c18) - c24) ∧ s32 ≤ ((((ks - s6) - s12) - s19) - s25) ∧ (w_J4_append_2 V (fun r29 G30 => gRcv G30 r29 (fun a33 c34 => (c34 % 64 = 16) ∧ (∃ c37 s38 : Nat, c37 ≤ (((((kc - c5) - c11) - c18) - c24) - c31) ∧ s38 ≤ (((((ks - s6) - s12) - s19) - s25) - s32) ∧ (w_J4_toString V (fun r35 G36 => Q r35 G36) a33 G30 c37 s38)))) a27 (v26 - (1 : Int32)) G23 c31 s32))))) a20 (some (xsr V "Shapelayer$Layer" 114)) G17 c24 s25)))) a14 v13 G10 c18 s19))))) a7 (some (xsr V "Shapelayer$Layer" 109)) G4 c11 s12)))) a1 y0 G c5 s6)))
def w_X5_toString (V : XV) (Q : Option Nat → GM → Prop) (x0 : Nat) (G : GM) (kc : Nat) (ks : Nat) : Prop := gNw G 16 4 xdf_J4 kc ks (fun q39 G40 => ∃ c42 s43 : Nat, c42 ≤ (kc - 1) ∧ s43 ≤ (ks - 4) ∧ (w_J4_init V (fun G41 => gRcv G41 (some x0) (fun a44 c45 => if c45 % 64 = 5 then (w_X11_word V (fun r46 => w_X5_toString_11 V Q x0 r46 (some q39) G41 ((kc - 1) - c42) ((ks - 4) - s43)) a44 G41) else (if c45 % 64 = 6 then (w_X12_word V (fun r48 => w_X5_toString_11 V Q x0 r48 (some q39) G41 ((kc - 1) - c42) ((ks - 4) - s43)) a44 G41) else (if c45 % 64 = 3 then (w_X7_word V (fun r50 => w_X5_toString_11 V Q x0 r50 (some q39) G41 ((kc - 1) - c42) ((ks - 4) - s43)) a44 G41) else (if c45 % 64 = 4 then (w_X9_word V (fun r52 => w_X5_toString_11 V Q x0 r52 (some q39) G41 ((kc - 1) - c42) ((ks - 4) - s43)) a44 G41) else (False)))))) q39 G40 c42 s43))
set_option maxRecDepth 100000 in
set_option maxHeartbeats 4000000 in
theorem wk_X5_toString {p : Program} {l : Launch} {e : Env} {R : Room} {s : State} {m : MethodId} {args : Array Value} {below : List Frame} {meth : Method} {c : Code} {Z : State → Prop} {A : Nat → Prop} {V : XV} (Q : Option Nat → GM → Prop) (C : xC p m c s args cX5_toString 1 RX5 V A) (hRf : 16 ≤ R.frames) (hRl : 291 ≤ R.locals) (G : GM) (hret : ∀ (v : Option Nat) (G : GM) (pc : Nat) (ls : Array Slot) (H : Heap) (locs : List Loc) (cells slots : Nat) {k1 k2 : Nat}, decode cX5_toString pc = .ok (.areturn, 1) → xW V A G H → va_S A s.heap H locs → cells + k1 ≤ R.cells → slots + k2 ≤ R.slots → Q v G → W p l e R s m args below meth c H locs cells slots Z (F0 m pc ls [va_rf v])) (x0 : Nat) (kc ks : Nat) : w_X5_toString V Q x0 G kc ks → ∀ (ls : Array Slot) (H : Heap) (locs : List Loc) (cells slots : Nat), lv_has ls 1 [(0, va_rf (some x0))] → xW V A G H → va_S A s.heap H locs → cells + kc ≤ R.cells → slots + ks ≤ R.slots → W p l e R s m args below meth c H locs cells slots Z (F0 m 0 ls []) := by
  have hx := C.1.1; have hb := C.1.2.1; have hml := C.1.2.2.1; have hown := C.1.2.2.2.1; have hts := C.1.2.2.2.2
  have hb11 : ∀ (y0 : Option Nat) (y1 : Option Nat) (G : GM) (kc : Nat) (ks : Nat), w_X5_toString_11 V Q x0 y0 y1 G kc ks → ∀ (ls : Array Slot) (H : Heap) (locs : List Loc) (cells slots : Nat), lv_has ls 1 [(0, va_rf (some x0))] → xW V A G H → va_S A s.heap H locs → cells + kc ≤ R.cells → slots + ks ≤ R.slots → W p l e R s m args below meth c H locs cells slots Z (F0 m 11 ls [va_rf y0, va_rf y1]) := by
    intro y0 y1 G kc ks h
    intro ls H locs cells slots hl hW hS hkc hks
    obtain ⟨a1, c2, ho11, hcv11, h⟩ := h
    have hcc := h.1
    have h := h.2
    obtain ⟨c5, s6, hc11, hs11, h⟩ := h
    refine call_J4_append_V (ct_J4_append l) C hW hS q1695 ho11 hcv11 hcc (le_lit hRf rfl) (le_lit hRl rfl) hc11 hs11 hkc hks hl.1 (Nat.le_of_ble_eq_true rfl) dX5_toString_11 h (fun r3 G4 H locs h hW hS _ hkc hks => ?_)
    refine sh_ldcS C q1730 dX5_toString_14 ?_
    obtain ⟨a7, c8, ho16, hcv16, h⟩ := h
    have hcc := h.1
    have h := h.2
    obtain ⟨c11, s12, hc16, hs16, h⟩ := h
    refine call_J4_append_V (ct_J4_append l) C hW hS q1695 ho16 hcv16 hcc (le_lit hRf rfl) (le_lit hRl rfl) hc16 hs16 hkc hks hl.1 (Nat.le_of_ble_eq_true rfl) dX5_toString_16 h (fun r9 G10 H locs h hW hS _ hkc hks => ?_)
    refine sh_aload_n hx hb dX5_toString_19 rfl (lv_at hl 0 rfl) ?_
    obtain ⟨v13, h1, h⟩ := h
    refine sh_get C hW xFb_19 q851 (fun _ h => h) h1 dX5_toString_20 ?_
    obtain ⟨a14, c15, ho23, hcv23, h⟩ := h
    have hcc := h.1
    have h := h.2
    obtain ⟨c18, s19, hc23, hs23, h⟩ := h
    refine call_J4_append_2_V (ct_J4_append_2 l) C hW hS q1696 ho23 hcv23 hcc (le_lit hRf rfl) (le_lit hRl rfl) hc23 hs23 hkc hks hl.1 (Nat.le_of_ble_eq_true rfl) dX5_toString_23 h (fun r16 G17 H locs h hW hS _ hkc hks => ?_)
    refine sh_ldcS C q1731 dX5_toString_26 ?_
    obtain ⟨a20, c21, ho28, hcv28, h⟩ := h
    have hcc := h.1
    have h := h.2
    obtain ⟨c24, s25, hc28, hs28, h⟩ := h
    refine call_J4_append_V (ct_J4_append l) C hW hS q1695 ho28 hcv28 hcc (le_lit hRf rfl) (le_lit hRl rfl) hc28 hs28 hkc hks hl.1 (Nat.le_of_ble_eq_true rfl) dX5_toString_28 h (fun r22 G23 H locs h hW hS _ hkc hks => ?_)
    refine sh_aload_n hx hb dX5_toString_31 rfl (lv_at hl 0 rfl) ?_
    obtain ⟨v26, h1, h⟩ := h
    refine sh_get C hW xFb_20 q853 (fun _ h => h) h1 dX5_toString_32 ?_
    refine lv_iconst (v := 1) hx hb dX5_toString_35 (by decide) ?_
    refine lv_isub hx hb dX5_toString_36 ?_
    obtain ⟨a27, c28, ho37, hcv37, h⟩ := h
    have hcc := h.1
    have h := h.2
    obtain ⟨c31, s32, hc37, hs37, h⟩ := h
    refine call_J4_append_2_V (ct_J4_append_2 l) C hW hS q1696 ho37 hcv37 hcc (le_lit hRf rfl) (le_lit hRl rfl) hc37 hs37 hkc hks hl.1 (Nat.le_of_ble_eq_true rfl) dX5_toString_37 h (fun r29 G30 H locs h hW hS _ hkc hks => ?_)
    obtain ⟨a33, c34, ho40, hcv40, h⟩ := h
    have hcc := h.1
    have h := h.2
    obtain ⟨c37, s38, hc40, hs40, h⟩ := h
    refine call_J4_toString_V (ct_J4_toString l) C hW hS q1697 ho40 hcv40 hcc (le_lit hRf rfl) (le_lit hRl rfl) hc40 hs40 hkc hks hl.1 (Nat.le_of_ble_eq_true rfl) dX5_toString_40 h (fun r35 G36 H locs h hW hS _ hkc hks => ?_)
    exact hret _ _ _ _ _ _ _ _ dX5_toString_43 hW hS hkc hks h
  intro h
  intro ls H locs cells slots hl hW hS hkc hks
  refine sh_new C hW hS (ci := 16) rfl (by decide) q1692 q141 q64 tyJ4_ok xdf_J4_ok h hkc hks dX5_toString_0 (fun q39 G40 H hW hS h hkc hks => ?_)
  refine lv_dup hx hb dX5_toString_3 (va_rf_cat _) ?_
  obtain ⟨c42, s43, hc4, hs4, h⟩ := h
  refine call_J4_init_I (ct_J4_init l) C hW hS q1693 rfl (le_lit hRf rfl) (le_lit hRl rfl) hc4 hs4 hkc hks hl.1 (Nat.le_of_ble_eq_true rfl) dX5_toString_4 h (fun G41 H locs h hW hS _ hkc hks => ?_)
  refine sh_aload_n hx hb dX5_toString_7 rfl (lv_at hl 0 rfl) ?_
  obtain ⟨a44, c45, ho8, hcv8, h⟩ := h
  by_cases c47 : c45 % 64 = 5
  · have h := wif_t h c47
    refine call_X11_word_A5_Layer (ct_X11_word l) C hW hS q1711 ho8 hcv8 c47 (le_lit hRf rfl) (le_lit hRl rfl) ⟨Nat.le_trans (Nat.le_add_right _ _) hkc, Nat.le_trans (Nat.le_add_right _ _) hks⟩ hl.1 (Nat.le_of_ble_eq_true rfl) dX5_toString_8 h (fun r46 H locs h hW hS _ => ?_)
    exact hb11 _ _ _ _ _ h ls H locs _ _ (lv_sub hl [0] rfl) hW hS hkc hks
  · have h := wif_f h c47
    by_cases c49 : c45 % 64 = 6
    · have h := wif_t h c49
      refine call_X12_word_A6_Layer (ct_X12_word l) C hW hS q1711 ho8 hcv8 c49 (le_lit hRf rfl) (le_lit hRl rfl) ⟨Nat.le_trans (Nat.le_add_right _ _) hkc, Nat.le_trans (Nat.le_add_right _ _) hks⟩ hl.1 (Nat.le_of_ble_eq_true rfl) dX5_toString_8 h (fun r48 H locs h hW hS _ => ?_)
      exact hb11 _ _ _ _ _ h ls H locs _ _ (lv_sub hl [0] rfl) hW hS hkc hks
    · have h := wif_f h c49
      by_cases c51 : c45 % 64 = 3
      · have h := wif_t h c51
        refine call_X7_word_A3_Layer (ct_X7_word l) C hW hS q1711 ho8 hcv8 c51 (le_lit hRf rfl) (le_lit hRl rfl) ⟨Nat.le_trans (Nat.le_add_right _ _) hkc, Nat.le_trans (Nat.le_add_right _ _) hks⟩ hl.1 (Nat.le_of_ble_eq_true rfl) dX5_toString_8 h (fun r50 H locs h hW hS _ => ?_)
        exact hb11 _ _ _ _ _ h ls H locs _ _ (lv_sub hl [0] rfl) hW hS hkc hks
      · have h := wif_f h c51
        by_cases c53 : c45 % 64 = 4
        · have h := wif_t h c53
          refine call_X9_word_A4_Layer (ct_X9_word l) C hW hS q1711 ho8 hcv8 c53 (le_lit hRf rfl) (le_lit hRl rfl) ⟨Nat.le_trans (Nat.le_add_right _ _) hkc, Nat.le_trans (Nat.le_add_right _ _) hks⟩ hl.1 (Nat.le_of_ble_eq_true rfl) dX5_toString_8 h (fun r52 H locs h hW hS _ => ?_)
          exact hb11 _ _ _ _ _ h ls H locs _ _ (lv_sub hl [0] rfl) hW hS hkc hks
        · have h := wif_f h c53
          exact False.elim h
theorem ct_X5_toString (l : Launch) : CT_X5_toString l 16 291 w_X5_toString := by
  intro V sz G Q x0 kc ks
  refine Met.ofW (cc := cX5_toString) (maxL := 1) (ret := (some (.object "java/lang/String"))) (by decide) rfl ?_
  intro p e s m args below meth c s₁ B hml hv
  obtain ⟨rfl, hsz, hW, hK, hZ, h⟩ := hv
  subst hsz
  have hts := atoms_spec (ws := (ws_ yX5_toString cX5_toString 1 (some (.object "java/lang/String")))) B.pre
  have hts : ∀ w ∈ lw_all, w.before _ s = true := fun w h => hts w (List.mem_cons_of_mem _ h)
  have hl := lv_entry ([.ref x0]) (n := 1) (Nat.le_of_ble_eq_true rfl)
  rw [lg_entry_eq]
  generalize (lg_sl ([.ref x0]) ++ List.replicate (1 - (lg_sl ([.ref x0])).length) Slot.unset).toArray = ls at hl ⊢
  exact wk_X5_toString Q ⟨⟨B.exec, B.bytes, hml, findClass_of_methodNamed B.named, hts⟩, hK, hZ, fun q h => Or.inr h⟩ (Nat.le_refl _) (Nat.le_refl _) G (fun v G pc ls H locs cells slots _ _ hd hW1 hS hkc hks hQ => W.widen (k := kc) (n := ks) (Nat.le_trans (Nat.le_add_right _ _) hkc) (Nat.le_trans (Nat.le_add_right _ _) hks) (W.aret (v := va_rf v) B.exec B.bytes B.returns (Or.inl ⟨_, rfl⟩) (va_rf_or v) (fun t ht _ => ⟨⟨v, G, rfl, hQ, by rw [← ht] at hW1; exact hW1⟩, hS.F ht⟩) hS.2.2 hd)) x0 kc ks h ls _ [] 0 0 hl hW va_S.rf (by show 0 + kc ≤ kc; omega) (by show 0 + ks ≤ ks; omega)
def CT_X11_toString (l : Launch) (fr lo : Nat) (w : XV → (Option Nat → GM → Prop) → Nat → GM → Nat → Nat → Prop) : Prop := ∀ (V : XV) (sz : Nat) (G : GM) (Q : Option Nat → GM → Prop) (x0 : Nat) (kc ks : Nat), Met l yX11_toString (ws_ yX11_toString cX11_toString 1 (some (.object "java/lang/String"))) { frames := fr, cells := kc, slots := ks, locals := lo } (va_Pc [.ref x0] (fun U => U.heap.size = sz ∧ xW V (xA G sz) G U.heap ∧ xK V U ∧ xZ V (xA G sz) U U.heap ∧ w V Q x0 G kc ks)) (va_Qq (fun r (u : GM) => Q r u) (fun u t => xW V (xA G sz) u t.heap) (xA G sz)) kc ks (xA G sz)
theorem call_X11_toString_O5_Layer {p : Program} {l : Launch} {e : Env} {R : Room} {s : State} {m : MethodId} {args : Array Value} {below : List Frame} {meth : Method} {c : Code} {H : Heap} {locs : List Loc} {cells slots : Nat} {Z : State → Prop} {A : Nat → Prop} {cc : ByteArray} {nL pc : Nat} {ls : Array Slot} {rest : List Value} {own : String} {index fr lo : Nat} {w : XV → (Option Nat → GM → Prop) → Nat → GM → Nat → Nat → Prop} {V : XV} {G : GM} {o : Option Nat} {ci : Nat} {kc ks c1 s1 : Nat} {x0 : Nat} (hM : CT_X11_toString l fr lo w) (C : xC p m c s args cc nL own V A) (hW : xW V A G H) (hS : va_S A s.heap H locs) (hlink : Cond.methodLink own index ⟨"Shapelayer$Layer", "toString", "()Ljava/lang/String;"⟩ ∈ lw_all) (ho : o = some x0) (hcv : gCi G (some x0) = some ci) (hci : ci % 64 = 5) (hRf : fr + 1 ≤ R.frames) (hRl : 8 + (1 + 11) + lo ≤ R.locals) (hc1 : c1 ≤ kc) (hs1 : s1 ≤ ks) (hkc : cells + kc ≤ R.cells) (hks : slots + ks ≤ R.slots) (hz : ls.size = nL) (hr8 : (rest.map fun v => v.category).sum ≤ 8) (hdg : decode cc pc = .ok (.invokevirtual index, 3)) {Q1 : Option Nat → GM → Prop} (h : w V Q1 x0 G c1 s1) (kk : ∀ (r : Option Nat) (G1 : GM) (H1 : Heap) (locs1 : List Loc), Q1 r G1 → xW V A G1 H1 → va_S A s.heap H1 locs1 → xFr V G G1 H H1 → (cells + c1) + (kc - c1) ≤ R.cells → (slots + s1) + (ks - s1) ≤ R.slots → W p l e R s m args below meth c H1 locs1 (cells + c1) (slots + s1) Z (F0 m (pc + 3) ls (va_rf r :: rest))) : W p l e R s m args below meth c H locs cells slots Z (F0 m pc ls (va_rf o :: rest)) := by
  subst ho
  obtain ⟨fs, hG⟩ := gCi_of hcv
  exact rg_q3w (va_runU (As := []) (rest := rest) C.1 (hM V H.size G Q1 x0 c1 s1) (va_cwO (C := "Shapelayer$Nested") 0 C.1.2.2.2.2 (lw_O hlink q1703 q1702 q1704 q1705 q94 q1706) rfl rfl rfl q1710 (by decide +kernel) ⟨hRf, hRl⟩) ⟨fun a U g mk q => by obtain ⟨q0, q1, qW, qK, qZ, qw⟩ := q; exact ⟨q0, q1, qW, xK.same (u := U) (U := U.calling g mk a) rfl qK, xZ.moved (u := U) (U := U.calling g mk a) (Vm.Alike.refl U.vm) qZ, qw⟩, (hW.recv C.2.1 hG (r := (RX11, TX11, 9)) (by rw [hci]; rfl)), fun U hU hWm => ⟨rfl, by rw [hU], by rw [hU]; exact hW.self _, C.2.1.warm hWm, xZ.call C.2.2.1 hW hS C.2.2.2 hU hWm.alike, h⟩⟩ rfl rfl hz rfl (lv_room hr8) hdg ⟨by omega, by omega⟩) hW hS C.2.2.2 (fun r G1 H1 locs1 hp hW1 hS1 hF1 => kk r G1 H1 locs1 hp hW1 hS1 hF1 (by omega) (by omega))
def w_X11_toString (V : XV) (Q : Option Nat → GM → Prop) (x0 : Nat) (G : GM) (kc : Nat) (ks : Nat) : Prop := gNw G 16 4 xdf_J4 kc ks (fun q1 G2 => ∃ c4 s5 : Nat, c4 ≤ (kc - 1) ∧ s5 ≤ (ks - 4) ∧ (w_J4_init V (fun G3 => gRcv G3 (some x0) (fun a6 c7 => (c7 % 64 = 5) ∧ (∃ c10 s11 : Nat, c10 ≤ ((kc - 1) - c4) ∧ s11 ≤ ((ks - 4) - s5) ∧ (w_X5_toString V (fun r8 G9 => gRcv G9 (some q1) (fun a12 c13 => (c13 % 64 = 16) ∧ (∃ c16 s17 : Nat, c16 ≤ (((kc - 1) - c4) - c10) ∧ s17 ≤ (((ks - 4) - s5) - s11) ∧ (w_J4_append V (fun r14 G15 => gRcv G15 r14 (fun a18 c19 => (c19 % 64 = 16) ∧ (∃ c22 s23 : Nat, c22 ≤ ((((kc - 1) - c4) - c10) - c16) ∧ s23 ≤ ((((ks - 4) - s5) - s11) - s17) ∧ (w_J4_append V (fun r20 G21 => gGR G21 26 (some x0) (fun v24 => gGI G21 11 v24 (fun v25 => gRcv G21 r20 (fun a26 c27 => (c27 % 64 = 16) ∧ (∃ c30 s31 : Nat, c30 ≤ (((((kc - 1) - c4) - c10) - c16) - c22) ∧ s31 ≤ (((((ks - 4) - s5) - s11) - s17) - s23) ∧ (w_J4_append_2 V (fun r28 G29 => gRcv G29 r28 (fun a32 c33 => (c33 % 64 = 16) ∧ (∃ c36 s37 : Nat, c36 ≤ ((((((kc - 1) - c4) - c10) - c16) - c22) - c30) ∧ s37 ≤ ((((((ks - 4) - s5) - s11) - s17) - s23) - s31) ∧ (w_J4_toString V (fun r34 G35 => Q r34 G35) a32 G29 c36 s37)))) a26 v25 G21 c30 s31)))))) a18 (some (xsr V "Shapelayer$Nested" 30)) G15 c22 s23)))) a12 r8 G9 c16 s17)))) a6 G3 c10 s11)))) q1 G2 c4 s5))
set_option maxRecDepth 100000 in
set_option maxHeartbeats 4000000 in
theorem wk_X11_toString {p : Program} {l : Launch} {e : Env} {R : Room} {s : State} {m : MethodId} {args : Array Value} {below : List Frame} {meth : Method} {c : Code} {Z : State → Prop} {A : Nat → Prop} {V : XV} (Q : Option Nat → GM → Prop) (C : xC p m c s args cX11_toString 1 RX11 V A) (hRf : 17 ≤ R.frames) (hRl : 311 ≤ R.locals) (G : GM) (hret : ∀ (v : Option Nat) (G : GM) (pc : Nat) (ls : Array Slot) (H : Heap) (locs : List Loc) (cells slots : Nat) {k1 k2 : Nat}, decode cX11_toString pc = .ok (.areturn, 1) → xW V A G H → va_S A s.heap H locs → cells + k1 ≤ R.cells → slots + k2 ≤ R.slots → Q v G → W p l e R s m args below meth c H locs cells slots Z (F0 m pc ls [va_rf v])) (x0 : Nat) (kc ks : Nat) : w_X11_toString V Q x0 G kc ks → ∀ (ls : Array Slot) (H : Heap) (locs : List Loc) (cells slots : Nat), lv_has ls 1 [(0, va_rf (some x0))] → xW V A G H → va_S A s.heap H locs → cells + kc ≤ R.cells → slots + ks ≤ R.slots → W p l e R s m args below meth c H locs cells slots Z (F0 m 0 ls []) := by
  have hx := C.1.1; have hb := C.1.2.1; have hml := C.1.2.2.1; have hown := C.1.2.2.2.1; have hts := C.1.2.2.2.2
  intro h
  intro ls H locs cells slots hl hW hS hkc hks
  refine sh_new C hW hS (ci := 16) rfl (by decide) q1707 q141 q64 tyJ4_ok xdf_J4_ok h hkc hks dX11_toString_0 (fun q1 G2 H hW hS h hkc hks => ?_)
  refine lv_dup hx hb dX11_toString_3 (va_rf_cat _) ?_
  obtain ⟨c4, s5, hc4, hs4, h⟩ := h
  refine call_J4_init_I (ct_J4_init l) C hW hS q1708 rfl (le_lit hRf rfl) (le_lit hRl rfl) hc4 hs4 hkc hks hl.1 (Nat.le_of_ble_eq_true rfl) dX11_toString_4 h (fun G3 H locs h hW hS _ hkc hks => ?_)
  refine sh_aload_n hx hb dX11_toString_7 rfl (lv_at hl 0 rfl) ?_
  obtain ⟨a6, c7, ho8, hcv8, h⟩ := h
  have hcc := h.1
  have h := h.2
  obtain ⟨c10, s11, hc8, hs8, h⟩ := h
  refine call_X5_toString_SU_ShapelayerNested (ct_X5_toString l) C hW hS q1709 ho8 hcv8 hcc (le_lit hRf rfl) (le_lit hRl rfl) hc8 hs8 hkc hks hl.1 (Nat.le_of_ble_eq_true rfl) dX11_toString_8 h (fun r8 G9 H locs h hW hS _ hkc hks => ?_)
  obtain ⟨a12, c13, ho11, hcv11, h⟩ := h
  have hcc := h.1
  have h := h.2
  obtain ⟨c16, s17, hc11, hs11, h⟩ := h
  refine call_J4_append_V (ct_J4_append l) C hW hS q1732 ho11 hcv11 hcc (le_lit hRf rfl) (le_lit hRl rfl) hc11 hs11 hkc hks hl.1 (Nat.le_of_ble_eq_true rfl) dX11_toString_11 h (fun r14 G15 H locs h hW hS _ hkc hks => ?_)
  refine sh_ldcS C q1733 dX11_toString_14 ?_
  obtain ⟨a18, c19, ho16, hcv16, h⟩ := h
  have hcc := h.1
  have h := h.2
  obtain ⟨c22, s23, hc16, hs16, h⟩ := h
  refine call_J4_append_V (ct_J4_append l) C hW hS q1732 ho16 hcv16 hcc (le_lit hRf rfl) (le_lit hRl rfl) hc16 hs16 hkc hks hl.1 (Nat.le_of_ble_eq_true rfl) dX11_toString_16 h (fun r20 G21 H locs h hW hS _ hkc hks => ?_)
  refine sh_aload_n hx hb dX11_toString_19 rfl (lv_at hl 0 rfl) ?_
  obtain ⟨v24, h1, h⟩ := h
  refine sh_get C hW xFb_26 q1035 (fun _ h => h) h1 dX11_toString_20 ?_
  obtain ⟨v25, h1, h⟩ := h
  refine sh_getN C hW xFb_11 q666 (fun _ h => h) (by decide) h1 dX11_toString_23 ?_
  obtain ⟨a26, c27, ho26, hcv26, h⟩ := h
  have hcc := h.1
  have h := h.2
  obtain ⟨c30, s31, hc26, hs26, h⟩ := h
  refine call_J4_append_2_V (ct_J4_append_2 l) C hW hS q1734 ho26 hcv26 hcc (le_lit hRf rfl) (le_lit hRl rfl) hc26 hs26 hkc hks hl.1 (Nat.le_of_ble_eq_true rfl) dX11_toString_26 h (fun r28 G29 H locs h hW hS _ hkc hks => ?_)
  obtain ⟨a32, c33, ho29, hcv29, h⟩ := h
  have hcc := h.1
  have h := h.2
  obtain ⟨c36, s37, hc29, hs29, h⟩ := h
  refine call_J4_toString_V (ct_J4_toString l) C hW hS q1735 ho29 hcv29 hcc (le_lit hRf rfl) (le_lit hRl rfl) hc29 hs29 hkc hks hl.1 (Nat.le_of_ble_eq_true rfl) dX11_toString_29 h (fun r34 G35 H locs h hW hS _ hkc hks => ?_)
  exact hret _ _ _ _ _ _ _ _ dX11_toString_32 hW hS hkc hks h
theorem ct_X11_toString (l : Launch) : CT_X11_toString l 17 311 w_X11_toString := by
  intro V sz G Q x0 kc ks
  refine Met.ofW (cc := cX11_toString) (maxL := 1) (ret := (some (.object "java/lang/String"))) (by decide) rfl ?_
  intro p e s m args below meth c s₁ B hml hv
  obtain ⟨rfl, hsz, hW, hK, hZ, h⟩ := hv
  subst hsz
  have hts := atoms_spec (ws := (ws_ yX11_toString cX11_toString 1 (some (.object "java/lang/String")))) B.pre
  have hts : ∀ w ∈ lw_all, w.before _ s = true := fun w h => hts w (List.mem_cons_of_mem _ h)
  have hl := lv_entry ([.ref x0]) (n := 1) (Nat.le_of_ble_eq_true rfl)
  rw [lg_entry_eq]
  generalize (lg_sl ([.ref x0]) ++ List.replicate (1 - (lg_sl ([.ref x0])).length) Slot.unset).toArray = ls at hl ⊢
  exact wk_X11_toString Q ⟨⟨B.exec, B.bytes, hml, findClass_of_methodNamed B.named, hts⟩, hK, hZ, fun q h => Or.inr h⟩ (Nat.le_refl _) (Nat.le_refl _) G (fun v G pc ls H locs cells slots _ _ hd hW1 hS hkc hks hQ => W.widen (k := kc) (n := ks) (Nat.le_trans (Nat.le_add_right _ _) hkc) (Nat.le_trans (Nat.le_add_right _ _) hks) (W.aret (v := va_rf v) B.exec B.bytes B.returns (Or.inl ⟨_, rfl⟩) (va_rf_or v) (fun t ht _ => ⟨⟨v, G, rfl, hQ, by rw [← ht] at hW1; exact hW1⟩, hS.F ht⟩) hS.2.2 hd)) x0 kc ks h ls _ [] 0 0 hl hW va_S.rf (by show 0 + kc ≤ kc; omega) (by show 0 + ks ≤ ks; omega)
def CT_X7_size (l : Launch) (fr lo : Nat) (w : XV → (Option Nat → GM → Prop) → Nat → GM → Nat → Nat → Prop) : Prop := ∀ (V : XV) (sz : Nat) (G : GM) (Q : Option Nat → GM → Prop) (x0 : Nat) (kc ks : Nat), Met l yX7_size (ws_ yX7_size cX7_size 1 (some (.object "java/lang/String"))) { frames := fr, cells := kc, slots := ks, locals := lo } (va_Pc [.ref x0] (fun U => U.heap.size = sz ∧ xW V (xA G sz) G U.heap ∧ xK V U ∧ xZ V (xA G sz) U U.heap ∧ w V Q x0 G kc ks)) (va_Qq (fun r (u : GM) => Q r u) (fun u t => xW V (xA G sz) u t.heap) (xA G sz)) kc ks (xA G sz)
theorem call_X7_size_A3_Coloured {p : Program} {l : Launch} {e : Env} {R : Room} {s : State} {m : MethodId} {args : Array Value} {below : List Frame} {meth : Method} {c : Code} {H : Heap} {locs : List Loc} {cells slots : Nat} {Z : State → Prop} {A : Nat → Prop} {cc : ByteArray} {nL pc : Nat} {ls : Array Slot} {rest : List Value} {own : String} {index fr lo : Nat} {w : XV → (Option Nat → GM → Prop) → Nat → GM → Nat → Nat → Prop} {V : XV} {G : GM} {o : Option Nat} {ci : Nat} {kc ks c1 s1 : Nat} {x0 : Nat} (hM : CT_X7_size l fr lo w) (C : xC p m c s args cc nL own V A) (hW : xW V A G H) (hS : va_S A s.heap H locs) (hlink : Cond.methodLink own index ⟨"Shapelayer$Coloured", "size", "()Ljava/lang/String;"⟩ ∈ lw_all) (ho : o = some x0) (hcv : gCi G (some x0) = some ci) (hci : ci % 64 = 3) (hRf : fr + 1 ≤ R.frames) (hRl : 8 + (1 + 11) + lo ≤ R.locals) (hc1 : c1 ≤ kc) (hs1 : s1 ≤ ks) (hkc : cells + kc ≤ R.cells) (hks : slots + ks ≤ R.slots) (hz : ls.size = nL) (hr8 : (rest.map fun v => v.category).sum ≤ 8) (hdg : decode cc pc = .ok (.invokevirtual index, 3)) {Q1 : Option Nat → GM → Prop} (h : w V Q1 x0 G c1 s1) (kk : ∀ (r : Option Nat) (G1 : GM) (H1 : Heap) (locs1 : List Loc), Q1 r G1 → xW V A G1 H1 → va_S A s.heap H1 locs1 → xFr V G G1 H H1 → (cells + c1) + (kc - c1) ≤ R.cells → (slots + s1) + (ks - s1) ≤ R.slots → W p l e R s m args below meth c H1 locs1 (cells + c1) (slots + s1) Z (F0 m (pc + 3) ls (va_rf r :: rest))) : W p l e R s m args below meth c H locs cells slots Z (F0 m pc ls (va_rf o :: rest)) := by
  subst ho
  obtain ⟨fs, hG⟩ := gCi_of hcv
  exact rg_q3w (va_runU (As := []) (rest := rest) C.1 (hM V H.size G Q1 x0 c1 s1) (va_cwA (C := "Shapelayer$Rect") 0 C.1.2.2.2.2 (lw_U hlink q1748 q1749 q1750 q89 q1751) rfl rfl rfl (C.2.1.2.2.1 _ q1747 rfl) (by decide +kernel) ⟨hRf, hRl⟩) ⟨fun a U g mk q => by obtain ⟨q0, q1, qW, qK, qZ, qw⟩ := q; exact ⟨q0, q1, qW, xK.same (u := U) (U := U.calling g mk a) rfl qK, xZ.moved (u := U) (U := U.calling g mk a) (Vm.Alike.refl U.vm) qZ, qw⟩, (hW.recv C.2.1 hG (r := (RX7, TX7, 11)) (by rw [hci]; rfl)), fun U hU hWm => ⟨rfl, by rw [hU], by rw [hU]; exact hW.self _, C.2.1.warm hWm, xZ.call C.2.2.1 hW hS C.2.2.2 hU hWm.alike, h⟩⟩ rfl rfl hz rfl (lv_room hr8) hdg ⟨by omega, by omega⟩) hW hS C.2.2.2 (fun r G1 H1 locs1 hp hW1 hS1 hF1 => kk r G1 H1 locs1 hp hW1 hS1 hF1 (by omega) (by omega))
def w_X7_size (V : XV) (Q : Option Nat → GM → Prop) (x0 : Nat) (G : GM) (kc : Nat) (ks : Nat) : Prop := gNw G 16 4 xdf_J4 kc ks (fun q1 G2 => ∃ c4 s5 : Nat, c4 ≤ (kc - 1) ∧ s5 ≤ (ks - 4) ∧ (w_J4_init V (fun G3 => gGI G3 22 (some x0) (fun v6 => gRcv G3 (some q1) (fun a7 c8 => (c8 % 64 = 16) ∧ (∃ c11 s12 : Nat, c11 ≤ ((kc - 1) - c4) ∧ s12 ≤ ((ks - 4) - s5) ∧ (w_J4_append_2 V (fun r9 G10 => gRcv G10 r9 (fun a13 c14 => (c14 % 64 = 16) ∧ (∃ c17 s18 : Nat, c17 ≤ (((kc - 1) - c4) - c11) ∧ s18 ≤ (((ks - 4) - s5) - s12) ∧ (w_J4_append V (fun r15 G16 => gGI G16 23 (some x0) (fun v19 => gRcv G16 r15 (fun a20 c21 => (c21 % 64 = 16) ∧ (∃ c24 s25 : Nat, c24 ≤ ((((kc - 1) - c4) - c11) - c17) ∧ s25 ≤ ((((ks - 4) - s5) - s12) - s18) ∧ (w_J4_append_2 V (fun r22 G23 => gRcv G23 r22 (fun a26 c27 => (c27 % 64 = 16) ∧ (∃ c30 s31 : Nat, c30 ≤ (((((kc - 1) - c4) - c11) - c17) - c24) ∧ s31 ≤ (((((ks - 4) - s5) - s12) - s18) - s25) ∧ (w_J4_toString V (fun r28 G29 => Q r28 G29) a26 G23 c30 s31)))) a20 v19 G16 c24 s25))))) a13 (some (xsr V "Shapelayer$Rect" 29)) G10 c17 s18)))) a7 v6 G3 c11 s12))))) q1 G2 c4 s5))
set_option maxRecDepth 100000 in
set_option maxHeartbeats 4000000 in
theorem wk_X7_size {p : Program} {l : Launch} {e : Env} {R : Room} {s : State} {m : MethodId} {args : Array Value} {below : List Frame} {meth : Method} {c : Code} {Z : State → Prop} {A : Nat → Prop} {V : XV} (Q : Option Nat → GM → Prop) (C : xC p m c s args cX7_size 1 RX7 V A) (hRf : 16 ≤ R.frames) (hRl : 291 ≤ R.locals) (G : GM) (hret : ∀ (v : Option Nat) (G : GM) (pc : Nat) (ls : Array Slot) (H : Heap) (locs : List Loc) (cells slots : Nat) {k1 k2 : Nat}, decode cX7_size pc = .ok (.areturn, 1) → xW V A G H → va_S A s.heap H locs → cells + k1 ≤ R.cells → slots + k2 ≤ R.slots → Q v G → W p l e R s m args below meth c H locs cells slots Z (F0 m pc ls [va_rf v])) (x0 : Nat) (kc ks : Nat) : w_X7_size V Q x0 G kc ks → ∀ (ls : Array Slot) (H : Heap) (locs : List Loc) (cells slots : Nat), lv_has ls 1 [(0, va_rf (some x0))] → xW V A G H → va_S A s.heap H locs → cells + kc ≤ R.cells → slots + ks ≤ R.slots → W p l e R s m args below meth c H locs cells slots Z (F0 m 0 ls []) := by
  have hx := C.1.1; have hb := C.1.2.1; have hml := C.1.2.2.1; have hown := C.1.2.2.2.1; have hts := C.1.2.2.2.2
  intro h
  intro ls H locs cells slots hl hW hS hkc hks
  refine sh_new C hW hS (ci := 16) rfl (by decide) q1752 q141 q64 tyJ4_ok xdf_J4_ok h hkc hks dX7_size_0 (fun q1 G2 H hW hS h hkc hks => ?_)
  refine lv_dup hx hb dX7_size_3 (va_rf_cat _) ?_
  obtain ⟨c4, s5, hc4, hs4, h⟩ := h
  refine call_J4_init_I (ct_J4_init l) C hW hS q1753 rfl (le_lit hRf rfl) (le_lit hRl rfl) hc4 hs4 hkc hks hl.1 (Nat.le_of_ble_eq_true rfl) dX7_size_4 h (fun G3 H locs h hW hS _ hkc hks => ?_)
  refine sh_aload_n hx hb dX7_size_7 rfl (lv_at hl 0 rfl) ?_
  obtain ⟨v6, h1, h⟩ := h
  refine sh_get C hW xFb_22 q828 (fun _ h => h) h1 dX7_size_8 ?_
  obtain ⟨a7, c8, ho11, hcv11, h⟩ := h
  have hcc := h.1
  have h := h.2
  obtain ⟨c11, s12, hc11, hs11, h⟩ := h
  refine call_J4_append_2_V (ct_J4_append_2 l) C hW hS q1754 ho11 hcv11 hcc (le_lit hRf rfl) (le_lit hRl rfl) hc11 hs11 hkc hks hl.1 (Nat.le_of_ble_eq_true rfl) dX7_size_11 h (fun r9 G10 H locs h hW hS _ hkc hks => ?_)
  refine sh_ldcS C q1755 dX7_size_14 ?_
  obtain ⟨a13, c14, ho16, hcv16, h⟩ := h
  have hcc := h.1
  have h := h.2
  obtain ⟨c17, s18, hc16, hs16, h⟩ := h
  refine call_J4_append_V (ct_J4_append l) C hW hS q1756 ho16 hcv16 hcc (le_lit hRf rfl) (le_lit hRl rfl) hc16 hs16 hkc hks hl.1 (Nat.le_of_ble_eq_true rfl) dX7_size_16 h (fun r15 G16 H locs h hW hS _ hkc hks => ?_)
  refine sh_aload_n hx hb dX7_size_19 rfl (lv_at hl 0 rfl) ?_
  obtain ⟨v19, h1, h⟩ := h
  refine sh_get C hW xFb_23 q829 (fun _ h => h) h1 dX7_size_20 ?_
  obtain ⟨a20, c21, ho23, hcv23, h⟩ := h
  have hcc := h.1
  have h := h.2
  obtain ⟨c24, s25, hc23, hs23, h⟩ := h
  refine call_J4_append_2_V (ct_J4_append_2 l) C hW hS q1754 ho23 hcv23 hcc (le_lit hRf rfl) (le_lit hRl rfl) hc23 hs23 hkc hks hl.1 (Nat.le_of_ble_eq_true rfl) dX7_size_23 h (fun r22 G23 H locs h hW hS _ hkc hks => ?_)
  obtain ⟨a26, c27, ho26, hcv26, h⟩ := h
  have hcc := h.1
  have h := h.2
  obtain ⟨c30, s31, hc26, hs26, h⟩ := h
  refine call_J4_toString_V (ct_J4_toString l) C hW hS q1757 ho26 hcv26 hcc (le_lit hRf rfl) (le_lit hRl rfl) hc26 hs26 hkc hks hl.1 (Nat.le_of_ble_eq_true rfl) dX7_size_26 h (fun r28 G29 H locs h hW hS _ hkc hks => ?_)
  exact hret _ _ _ _ _ _ _ _ dX7_size_29 hW hS hkc hks h
theorem ct_X7_size (l : Launch) : CT_X7_size l 16 291 w_X7_size := by
  intro V sz G Q x0 kc ks
  refine Met.ofW (cc := cX7_size) (maxL := 1) (ret := (some (.object "java/lang/String"))) (by decide) rfl ?_
  intro p e s m args below meth c s₁ B hml hv
  obtain ⟨rfl, hsz, hW, hK, hZ, h⟩ := hv
  subst hsz
  have hts := atoms_spec (ws := (ws_ yX7_size cX7_size 1 (some (.object "java/lang/String")))) B.pre
  have hts : ∀ w ∈ lw_all, w.before _ s = true := fun w h => hts w (List.mem_cons_of_mem _ h)
  have hl := lv_entry ([.ref x0]) (n := 1) (Nat.le_of_ble_eq_true rfl)
  rw [lg_entry_eq]
  generalize (lg_sl ([.ref x0]) ++ List.replicate (1 - (lg_sl ([.ref x0])).length) Slot.unset).toArray = ls at hl ⊢
  exact wk_X7_size Q ⟨⟨B.exec, B.bytes, hml, findClass_of_methodNamed B.named, hts⟩, hK, hZ, fun q h => Or.inr h⟩ (Nat.le_refl _) (Nat.le_refl _) G (fun v G pc ls H locs cells slots _ _ hd hW1 hS hkc hks hQ => W.widen (k := kc) (n := ks) (Nat.le_trans (Nat.le_add_right _ _) hkc) (Nat.le_trans (Nat.le_add_right _ _) hks) (W.aret (v := va_rf v) B.exec B.bytes B.returns (Or.inl ⟨_, rfl⟩) (va_rf_or v) (fun t ht _ => ⟨⟨v, G, rfl, hQ, by rw [← ht] at hW1; exact hW1⟩, hS.F ht⟩) hS.2.2 hd)) x0 kc ks h ls _ [] 0 0 hl hW va_S.rf (by show 0 + kc ≤ kc; omega) (by show 0 + ks ≤ ks; omega)
def CT_X9_size (l : Launch) (fr lo : Nat) (w : XV → (Option Nat → GM → Prop) → Nat → GM → Nat → Nat → Prop) : Prop := ∀ (V : XV) (sz : Nat) (G : GM) (Q : Option Nat → GM → Prop) (x0 : Nat) (kc ks : Nat), Met l yX9_size (ws_ yX9_size cX9_size 1 (some (.object "java/lang/String"))) { frames := fr, cells := kc, slots := ks, locals := lo } (va_Pc [.ref x0] (fun U => U.heap.size = sz ∧ xW V (xA G sz) G U.heap ∧ xK V U ∧ xZ V (xA G sz) U U.heap ∧ w V Q x0 G kc ks)) (va_Qq (fun r (u : GM) => Q r u) (fun u t => xW V (xA G sz) u t.heap) (xA G sz)) kc ks (xA G sz)
theorem call_X9_size_A4_Coloured {p : Program} {l : Launch} {e : Env} {R : Room} {s : State} {m : MethodId} {args : Array Value} {below : List Frame} {meth : Method} {c : Code} {H : Heap} {locs : List Loc} {cells slots : Nat} {Z : State → Prop} {A : Nat → Prop} {cc : ByteArray} {nL pc : Nat} {ls : Array Slot} {rest : List Value} {own : String} {index fr lo : Nat} {w : XV → (Option Nat → GM → Prop) → Nat → GM → Nat → Nat → Prop} {V : XV} {G : GM} {o : Option Nat} {ci : Nat} {kc ks c1 s1 : Nat} {x0 : Nat} (hM : CT_X9_size l fr lo w) (C : xC p m c s args cc nL own V A) (hW : xW V A G H) (hS : va_S A s.heap H locs) (hlink : Cond.methodLink own index ⟨"Shapelayer$Coloured", "size", "()Ljava/lang/String;"⟩ ∈ lw_all) (ho : o = some x0) (hcv : gCi G (some x0) = some ci) (hci : ci % 64 = 4) (hRf : fr + 1 ≤ R.frames) (hRl : 8 + (1 + 11) + lo ≤ R.locals) (hc1 : c1 ≤ kc) (hs1 : s1 ≤ ks) (hkc : cells + kc ≤ R.cells) (hks : slots + ks ≤ R.slots) (hz : ls.size = nL) (hr8 : (rest.map fun v => v.category).sum ≤ 8) (hdg : decode cc pc = .ok (.invokevirtual index, 3)) {Q1 : Option Nat → GM → Prop} (h : w V Q1 x0 G c1 s1) (kk : ∀ (r : Option Nat) (G1 : GM) (H1 : Heap) (locs1 : List Loc), Q1 r G1 → xW V A G1 H1 → va_S A s.heap H1 locs1 → xFr V G G1 H H1 → (cells + c1) + (kc - c1) ≤ R.cells → (slots + s1) + (ks - s1) ≤ R.slots → W p l e R s m args below meth c H1 locs1 (cells + c1) (slots + s1) Z (F0 m (pc + 3) ls (va_rf r :: rest))) : W p l e R s m args below meth c H locs cells slots Z (F0 m pc ls (va_rf o :: rest)) := by
  subst ho
  obtain ⟨fs, hG⟩ := gCi_of hcv
  exact rg_q3w (va_runU (As := []) (rest := rest) C.1 (hM V H.size G Q1 x0 c1 s1) (va_cwA (C := "Shapelayer$Stroke") 0 C.1.2.2.2.2 (lw_U hlink q1748 q1758 q1759 q91 q1760) rfl rfl rfl (C.2.1.2.2.1 _ q1747 rfl) (by decide +kernel) ⟨hRf, hRl⟩) ⟨fun a U g mk q => by obtain ⟨q0, q1, qW, qK, qZ, qw⟩ := q; exact ⟨q0, q1, qW, xK.same (u := U) (U := U.calling g mk a) rfl qK, xZ.moved (u := U) (U := U.calling g mk a) (Vm.Alike.refl U.vm) qZ, qw⟩, (hW.recv C.2.1 hG (r := (RX9, TX9, 11)) (by rw [hci]; rfl)), fun U hU hWm => ⟨rfl, by rw [hU], by rw [hU]; exact hW.self _, C.2.1.warm hWm, xZ.call C.2.2.1 hW hS C.2.2.2 hU hWm.alike, h⟩⟩ rfl rfl hz rfl (lv_room hr8) hdg ⟨by omega, by omega⟩) hW hS C.2.2.2 (fun r G1 H1 locs1 hp hW1 hS1 hF1 => kk r G1 H1 locs1 hp hW1 hS1 hF1 (by omega) (by omega))
def w_X9_size (V : XV) (Q : Option Nat → GM → Prop) (x0 : Nat) (G : GM) (kc : Nat) (ks : Nat) : Prop := gGR G 24 (some x0) (fun v1 => gRcv G v1 (fun a2 c3 => (c3 % 64 = 15) ∧ (w_J2_size V (fun r4 => ∃ c7 s8 : Nat, c7 ≤ kc ∧ s8 ≤ ks ∧ (w_J17_toString V (fun r5 G6 => Q r5 G6) r4 G c7 s8)) a2 G)))
set_option maxRecDepth 100000 in
set_option maxHeartbeats 4000000 in
theorem wk_X9_size {p : Program} {l : Launch} {e : Env} {R : Room} {s : State} {m : MethodId} {args : Array Value} {below : List Frame} {meth : Method} {c : Code} {Z : State → Prop} {A : Nat → Prop} {V : XV} (Q : Option Nat → GM → Prop) (C : xC p m c s args cX9_size 1 RX9 V A) (hRf : 3 ≤ R.frames) (hRl : 68 ≤ R.locals) (G : GM) (hret : ∀ (v : Option Nat) (G : GM) (pc : Nat) (ls : Array Slot) (H : Heap) (locs : List Loc) (cells slots : Nat) {k1 k2 : Nat}, decode cX9_size pc = .ok (.areturn, 1) → xW V A G H → va_S A s.heap H locs → cells + k1 ≤ R.cells → slots + k2 ≤ R.slots → Q v G → W p l e R s m args below meth c H locs cells slots Z (F0 m pc ls [va_rf v])) (x0 : Nat) (kc ks : Nat) : w_X9_size V Q x0 G kc ks → ∀ (ls : Array Slot) (H : Heap) (locs : List Loc) (cells slots : Nat), lv_has ls 1 [(0, va_rf (some x0))] → xW V A G H → va_S A s.heap H locs → cells + kc ≤ R.cells → slots + ks ≤ R.slots → W p l e R s m args below meth c H locs cells slots Z (F0 m 0 ls []) := by
  have hx := C.1.1; have hb := C.1.2.1; have hml := C.1.2.2.1; have hown := C.1.2.2.2.1; have hts := C.1.2.2.2.2
  intro h
  intro ls H locs cells slots hl hW hS hkc hks
  refine sh_aload_n hx hb dX9_size_0 rfl (lv_at hl 0 rfl) ?_
  obtain ⟨v1, h1, h⟩ := h
  refine sh_get C hW xFb_24 q897 (fun _ h => h) h1 dX9_size_1 ?_
  obtain ⟨a2, c3, ho4, hcv4, h⟩ := h
  have hcc := h.1
  have h := h.2
  refine call_J2_size_F15_List (ct_J2_size l) C hW hS q942 ho4 hcv4 hcc (le_lit hRf rfl) (le_lit hRl rfl) ⟨Nat.le_trans (Nat.le_add_right _ _) hkc, Nat.le_trans (Nat.le_add_right _ _) hks⟩ hl.1 (Nat.le_of_ble_eq_true rfl) dX9_size_4 h (fun r4 H locs h hW hS _ => ?_)
  obtain ⟨c7, s8, hc9, hs9, h⟩ := h
  refine call_J17_toString_S (ct_J17_toString l) C hW hS q1761 (le_lit hRf rfl) (le_lit hRl rfl) hc9 hs9 hkc hks hl.1 (Nat.le_of_ble_eq_true rfl) dX9_size_9 h (fun r5 G6 H locs h hW hS _ hkc hks => ?_)
  exact hret _ _ _ _ _ _ _ _ dX9_size_12 hW hS hkc hks h
theorem ct_X9_size (l : Launch) : CT_X9_size l 3 68 w_X9_size := by
  intro V sz G Q x0 kc ks
  refine Met.ofW (cc := cX9_size) (maxL := 1) (ret := (some (.object "java/lang/String"))) (by decide) rfl ?_
  intro p e s m args below meth c s₁ B hml hv
  obtain ⟨rfl, hsz, hW, hK, hZ, h⟩ := hv
  subst hsz
  have hts := atoms_spec (ws := (ws_ yX9_size cX9_size 1 (some (.object "java/lang/String")))) B.pre
  have hts : ∀ w ∈ lw_all, w.before _ s = true := fun w h => hts w (List.mem_cons_of_mem _ h)
  have hl := lv_entry ([.ref x0]) (n := 1) (Nat.le_of_ble_eq_true rfl)
  rw [lg_entry_eq]
  generalize (lg_sl ([.ref x0]) ++ List.replicate (1 - (lg_sl ([.ref x0])).length) Slot.unset).toArray = ls at hl ⊢
  exact wk_X9_size Q ⟨⟨B.exec, B.bytes, hml, findClass_of_methodNamed B.named, hts⟩, hK, hZ, fun q h => Or.inr h⟩ (Nat.le_refl _) (Nat.le_refl _) G (fun v G pc ls H locs cells slots _ _ hd hW1 hS hkc hks hQ => W.widen (k := kc) (n := ks) (Nat.le_trans (Nat.le_add_right _ _) hkc) (Nat.le_trans (Nat.le_add_right _ _) hks) (W.aret (v := va_rf v) B.exec B.bytes B.returns (Or.inl ⟨_, rfl⟩) (va_rf_or v) (fun t ht _ => ⟨⟨v, G, rfl, hQ, by rw [← ht] at hW1; exact hW1⟩, hS.F ht⟩) hS.2.2 hd)) x0 kc ks h ls _ [] 0 0 hl hW va_S.rf (by show 0 + kc ≤ kc; omega) (by show 0 + ks ≤ ks; omega)
def CT_X6_toString (l : Launch) (fr lo : Nat) (w : XV → (Option Nat → GM → Prop) → Nat → GM → Nat → Nat → Prop) : Prop := ∀ (V : XV) (sz : Nat) (G : GM) (Q : Option Nat → GM → Prop) (x0 : Nat) (kc ks : Nat), Met l yX6_toString (ws_ yX6_toString cX6_toString 1 (some (.object "java/lang/String"))) { frames := fr, cells := kc, slots := ks, locals := lo } (va_Pc [.ref x0] (fun U => U.heap.size = sz ∧ xW V (xA G sz) G U.heap ∧ xK V U ∧ xZ V (xA G sz) U U.heap ∧ w V Q x0 G kc ks)) (va_Qq (fun r (u : GM) => Q r u) (fun u t => xW V (xA G sz) u t.heap) (xA G sz)) kc ks (xA G sz)
theorem call_X6_toString_O3_4_Layer {p : Program} {l : Launch} {e : Env} {R : Room} {s : State} {m : MethodId} {args : Array Value} {below : List Frame} {meth : Method} {c : Code} {H : Heap} {locs : List Loc} {cells slots : Nat} {Z : State → Prop} {A : Nat → Prop} {cc : ByteArray} {nL pc : Nat} {ls : Array Slot} {rest : List Value} {own : String} {index fr lo : Nat} {w : XV → (Option Nat → GM → Prop) → Nat → GM → Nat → Nat → Prop} {V : XV} {G : GM} {o : Option Nat} {ci : Nat} {kc ks c1 s1 : Nat} {x0 : Nat} (hM : CT_X6_toString l fr lo w) (C : xC p m c s args cc nL own V A) (hW : xW V A G H) (hS : va_S A s.heap H locs) (hlink : Cond.methodLink own index ⟨"Shapelayer$Layer", "toString", "()Ljava/lang/String;"⟩ ∈ lw_all) (ho : o = some x0) (hcv : gCi G (some x0) = some ci) (hci : ci % 64 = 3 ∨ ci % 64 = 4) (hRf : fr + 1 ≤ R.frames) (hRl : 8 + (1 + 11) + lo ≤ R.locals) (hc1 : c1 ≤ kc) (hs1 : s1 ≤ ks) (hkc : cells + kc ≤ R.cells) (hks : slots + ks ≤ R.slots) (hz : ls.size = nL) (hr8 : (rest.map fun v => v.category).sum ≤ 8) (hdg : decode cc pc = .ok (.invokevirtual index, 3)) {Q1 : Option Nat → GM → Prop} (h : w V Q1 x0 G c1 s1) (kk : ∀ (r : Option Nat) (G1 : GM) (H1 : Heap) (locs1 : List Loc), Q1 r G1 → xW V A G1 H1 → va_S A s.heap H1 locs1 → xFr V G G1 H H1 → (cells + c1) + (kc - c1) ≤ R.cells → (slots + s1) + (ks - s1) ≤ R.slots → W p l e R s m args below meth c H1 locs1 (cells + c1) (slots + s1) Z (F0 m (pc + 3) ls (va_rf r :: rest))) : W p l e R s m args below meth c H locs cells slots Z (F0 m pc ls (va_rf o :: rest)) := by
  subst ho
  obtain ⟨fs, hG⟩ := gCi_of hcv
  rcases hci with hci | hci
  · exact rg_q3w (va_runU (As := []) (rest := rest) C.1 (hM V H.size G Q1 x0 c1 s1) (va_cwO (C := "Shapelayer$Rect") 0 C.1.2.2.2.2 (lw_O hlink q1703 q1702 q1737 q1738 q88 q1739) rfl rfl rfl q1710 (by decide +kernel) ⟨hRf, hRl⟩) ⟨fun a U g mk q => by obtain ⟨q0, q1, qW, qK, qZ, qw⟩ := q; exact ⟨q0, q1, qW, xK.same (u := U) (U := U.calling g mk a) rfl qK, xZ.moved (u := U) (U := U.calling g mk a) (Vm.Alike.refl U.vm) qZ, qw⟩, (hW.recv C.2.1 hG (r := (RX7, TX7, 11)) (by rw [hci]; rfl)), fun U hU hWm => ⟨rfl, by rw [hU], by rw [hU]; exact hW.self _, C.2.1.warm hWm, xZ.call C.2.2.1 hW hS C.2.2.2 hU hWm.alike, h⟩⟩ rfl rfl hz rfl (lv_room hr8) hdg ⟨by omega, by omega⟩) hW hS C.2.2.2 (fun r G1 H1 locs1 hp hW1 hS1 hF1 => kk r G1 H1 locs1 hp hW1 hS1 hF1 (by omega) (by omega))
  · exact rg_q3w (va_runU (As := []) (rest := rest) C.1 (hM V H.size G Q1 x0 c1 s1) (va_cwO (C := "Shapelayer$Stroke") 0 C.1.2.2.2.2 (lw_O hlink q1703 q1702 q1773 q1738 q88 q1739) rfl rfl rfl q1710 (by decide +kernel) ⟨hRf, hRl⟩) ⟨fun a U g mk q => by obtain ⟨q0, q1, qW, qK, qZ, qw⟩ := q; exact ⟨q0, q1, qW, xK.same (u := U) (U := U.calling g mk a) rfl qK, xZ.moved (u := U) (U := U.calling g mk a) (Vm.Alike.refl U.vm) qZ, qw⟩, (hW.recv C.2.1 hG (r := (RX9, TX9, 11)) (by rw [hci]; rfl)), fun U hU hWm => ⟨rfl, by rw [hU], by rw [hU]; exact hW.self _, C.2.1.warm hWm, xZ.call C.2.2.1 hW hS C.2.2.2 hU hWm.alike, h⟩⟩ rfl rfl hz rfl (lv_room hr8) hdg ⟨by omega, by omega⟩) hW hS C.2.2.2 (fun r G1 H1 locs1 hp hW1 hS1 hF1 => kk r G1 H1 locs1 hp hW1 hS1 hF1 (by omega) (by omega))
def w_X6_toString_23 (V : XV) (Q : Option Nat → GM → Prop) (y0 : Option Nat) (y1 : Option Nat) (G : GM) (kc : Nat) (ks : Nat) : Prop := gRcv G y1 (fun a1 c2 => (c2 % 64 = 16) ∧ (∃ c5 s6 : Nat, c5 ≤ kc ∧ s6 ≤ ks ∧ (w_J4_append V (fun r3 G4 => gRcv G4 r3 (fun a7 c8 => (c8 % 64 = 16) ∧ (∃ c11 s12 : Nat, c11 ≤ (kc - c5) ∧ s12 ≤ (ks - s6) ∧ (w_J4_toString V (fun r9 G10 => Q r9 G10) a7 G4 c11 s12)))) a1 y0 G c5 s6)))
def w_X6_toString (V : XV) (Q : Option Nat → GM → Prop) (x0 : Nat) (G : GM) (kc : Nat) (ks : Nat) : Prop := gNw G 16 4 xdf_J4 kc ks (fun q13 G14 => ∃ c16 s17 : Nat, c16 ≤ (kc - 1) ∧ s17 ≤ (ks - 4) ∧ (w_J4_init V (fun G15 => gRcv G15 (some x0) (fun a18 c19 => (c19 % 64 = 3 ∨ c19 % 64 = 4) ∧ (∃ c22 s23 : Nat, c22 ≤ ((kc - 1) - c16) ∧ s23 ≤ ((ks - 4) - s17) ∧ (w_X5_toString V (fun r20 G21 => gRcv G21 (some q13) (fun a24 c25 => (c25 % 64 = 16) ∧ (∃ c28 s29 : Nat, c28 ≤ (((kc - 1) - c16) - c22) ∧ s29 ≤ (((ks - 4) - s17) - s23) ∧ (w_J4_append V (fun r26 G27 => gRcv G27 r26 (fun a30 c31 => (c31 % 64 = 16) ∧ (∃ c34 s35 : Nat, c34 ≤ ((((kc - 1) - c16) - c22) - c28) ∧ s35 ≤ ((((ks - 4) - s17) - s23) - s29) ∧ (w_J4_append V (fun r32 G33 => gRcv G33 (some x0) (fun a36 c37 => if c37 % 64 = 3 then (∃ c40 s41 : Nat, c40 ≤ (((((kc - 1) - c16) - c22) - c28) - c34) ∧ s41 ≤ (((((ks - 4) - s17) - s23) - s29) - s35) ∧ (w_X7_size V (fun r38 G39 => w_X6_toString_23 V Q r38 r32 G39 ((((((kc - 1) - c16) - c22) - c28) - c34) - c40) ((((((ks - 4) - s17) - s23) - s29) - s35) - s41)) a36 G33 c40 s41)) else (if c37 % 64 = 4 then (∃ c45 s46 : Nat, c45 ≤ (((((kc - 1) - c16) - c22) - c28) - c34) ∧ s46 ≤ (((((ks - 4) - s17) - s23) - s29) - s35) ∧ (w_X9_size V (fun r43 G44 => w_X6_toString_23 V Q r43 r32 G44 ((((((kc - 1) - c16) - c22) - c28) - c34) - c45) ((((((ks - 4) - s17) - s23) - s29) - s35) - s46)) a36 G33 c45 s46)) else (False)))) a30 (some (xsr V "Shapelayer$Coloured" 26)) G27 c34 s35)))) a24 r20 G21 c28 s29)))) a18 G15 c22 s23)))) q13 G14 c16 s17))
set_option maxRecDepth 100000 in
set_option maxHeartbeats 4000000 in
theorem wk_X6_toString {p : Program} {l : Launch} {e : Env} {R : Room} {s : State} {m : MethodId} {args : Array Value} {below : List Frame} {meth : Method} {c : Code} {Z : State → Prop} {A : Nat → Prop} {V : XV} (Q : Option Nat → GM → Prop) (C : xC p m c s args cX6_toString 1 RX6 V A) (hRf : 17 ≤ R.frames) (hRl : 311 ≤ R.locals) (G : GM) (hret : ∀ (v : Option Nat) (G : GM) (pc : Nat) (ls : Array Slot) (H : Heap) (locs : List Loc) (cells slots : Nat) {k1 k2 : Nat}, decode cX6_toString pc = .ok (.areturn, 1) → xW V A G H → va_S A s.heap H locs → cells + k1 ≤ R.cells → slots + k2 ≤ R.slots → Q v G → W p l e R s m args below meth c H locs cells slots Z (F0 m pc ls [va_rf v])) (x0 : Nat) (kc ks : Nat) : w_X6_toString V Q x0 G kc ks → ∀ (ls : Array Slot) (H : Heap) (locs : List Loc) (cells slots : Nat), lv_has ls 1 [(0, va_rf (some x0))] → xW V A G H → va_S A s.heap H locs → cells + kc ≤ R.cells → slots + ks ≤ R.slots → W p l e R s m args below meth c H locs cells slots Z (F0 m 0 ls []) := by
  have hx := C.1.1; have hb := C.1.2.1; have hml := C.1.2.2.1; have hown := C.1.2.2.2.1; have hts := C.1.2.2.2.2
  have hb23 : ∀ (y0 : Option Nat) (y1 : Option Nat) (G : GM) (kc : Nat) (ks : Nat), w_X6_toString_23 V Q y0 y1 G kc ks → ∀ (ls : Array Slot) (H : Heap) (locs : List Loc) (cells slots : Nat), lv_has ls 1 [] → xW V A G H → va_S A s.heap H locs → cells + kc ≤ R.cells → slots + ks ≤ R.slots → W p l e R s m args below meth c H locs cells slots Z (F0 m 23 ls [va_rf y0, va_rf y1]) := by
    intro y0 y1 G kc ks h
    intro ls H locs cells slots hl hW hS hkc hks
    obtain ⟨a1, c2, ho23, hcv23, h⟩ := h
    have hcc := h.1
    have h := h.2
    obtain ⟨c5, s6, hc23, hs23, h⟩ := h
    refine call_J4_append_V (ct_J4_append l) C hW hS q1744 ho23 hcv23 hcc (le_lit hRf rfl) (le_lit hRl rfl) hc23 hs23 hkc hks hl.1 (Nat.le_of_ble_eq_true rfl) dX6_toString_23 h (fun r3 G4 H locs h hW hS _ hkc hks => ?_)
    obtain ⟨a7, c8, ho26, hcv26, h⟩ := h
    have hcc := h.1
    have h := h.2
    obtain ⟨c11, s12, hc26, hs26, h⟩ := h
    refine call_J4_toString_V (ct_J4_toString l) C hW hS q1772 ho26 hcv26 hcc (le_lit hRf rfl) (le_lit hRl rfl) hc26 hs26 hkc hks hl.1 (Nat.le_of_ble_eq_true rfl) dX6_toString_26 h (fun r9 G10 H locs h hW hS _ hkc hks => ?_)
    exact hret _ _ _ _ _ _ _ _ dX6_toString_29 hW hS hkc hks h
  intro h
  intro ls H locs cells slots hl hW hS hkc hks
  refine sh_new C hW hS (ci := 16) rfl (by decide) q1740 q141 q64 tyJ4_ok xdf_J4_ok h hkc hks dX6_toString_0 (fun q13 G14 H hW hS h hkc hks => ?_)
  refine lv_dup hx hb dX6_toString_3 (va_rf_cat _) ?_
  obtain ⟨c16, s17, hc4, hs4, h⟩ := h
  refine call_J4_init_I (ct_J4_init l) C hW hS q1741 rfl (le_lit hRf rfl) (le_lit hRl rfl) hc4 hs4 hkc hks hl.1 (Nat.le_of_ble_eq_true rfl) dX6_toString_4 h (fun G15 H locs h hW hS _ hkc hks => ?_)
  refine sh_aload_n hx hb dX6_toString_7 rfl (lv_at hl 0 rfl) ?_
  obtain ⟨a18, c19, ho8, hcv8, h⟩ := h
  have hcc := h.1
  have h := h.2
  obtain ⟨c22, s23, hc8, hs8, h⟩ := h
  refine call_X5_toString_SU_ShapelayerColoured (ct_X5_toString l) C hW hS q1742 ho8 hcv8 hcc (le_lit hRf rfl) (le_lit hRl rfl) hc8 hs8 hkc hks hl.1 (Nat.le_of_ble_eq_true rfl) dX6_toString_8 h (fun r20 G21 H locs h hW hS _ hkc hks => ?_)
  obtain ⟨a24, c25, ho11, hcv11, h⟩ := h
  have hcc := h.1
  have h := h.2
  obtain ⟨c28, s29, hc11, hs11, h⟩ := h
  refine call_J4_append_V (ct_J4_append l) C hW hS q1744 ho11 hcv11 hcc (le_lit hRf rfl) (le_lit hRl rfl) hc11 hs11 hkc hks hl.1 (Nat.le_of_ble_eq_true rfl) dX6_toString_11 h (fun r26 G27 H locs h hW hS _ hkc hks => ?_)
  refine sh_ldcS C q1745 dX6_toString_14 ?_
  obtain ⟨a30, c31, ho16, hcv16, h⟩ := h
  have hcc := h.1
  have h := h.2
  obtain ⟨c34, s35, hc16, hs16, h⟩ := h
  refine call_J4_append_V (ct_J4_append l) C hW hS q1744 ho16 hcv16 hcc (le_lit hRf rfl) (le_lit hRl rfl) hc16 hs16 hkc hks hl.1 (Nat.le_of_ble_eq_true rfl) dX6_toString_16 h (fun r32 G33 H locs h hW hS _ hkc hks => ?_)
  refine sh_aload_n hx hb dX6_toString_19 rfl (lv_at hl 0 rfl) ?_
  obtain ⟨a36, c37, ho20, hcv20, h⟩ := h
  by_cases c42 : c37 % 64 = 3
  · have h := wif_t h c42
    obtain ⟨c40, s41, hc20, hs20, h⟩ := h
    refine call_X7_size_A3_Coloured (ct_X7_size l) C hW hS q1746 ho20 hcv20 c42 (le_lit hRf rfl) (le_lit hRl rfl) hc20 hs20 hkc hks hl.1 (by simp only [List.map_cons, List.map_nil, va_rf_cat]; exact Nat.le_of_ble_eq_true rfl) dX6_toString_20 h (fun r38 G39 H locs h hW hS _ hkc hks => ?_)
    exact hb23 _ _ _ _ _ h ls H locs _ _ (lv_sub hl [] rfl) hW hS hkc hks
  · have h := wif_f h c42
    by_cases c47 : c37 % 64 = 4
    · have h := wif_t h c47
      obtain ⟨c45, s46, hc20, hs20, h⟩ := h
      refine call_X9_size_A4_Coloured (ct_X9_size l) C hW hS q1746 ho20 hcv20 c47 (le_lit hRf rfl) (le_lit hRl rfl) hc20 hs20 hkc hks hl.1 (by simp only [List.map_cons, List.map_nil, va_rf_cat]; exact Nat.le_of_ble_eq_true rfl) dX6_toString_20 h (fun r43 G44 H locs h hW hS _ hkc hks => ?_)
      exact hb23 _ _ _ _ _ h ls H locs _ _ (lv_sub hl [] rfl) hW hS hkc hks
    · have h := wif_f h c47
      exact False.elim h
theorem ct_X6_toString (l : Launch) : CT_X6_toString l 17 311 w_X6_toString := by
  intro V sz G Q x0 kc ks
  refine Met.ofW (cc := cX6_toString) (maxL := 1) (ret := (some (.object "java/lang/String"))) (by decide) rfl ?_
  intro p e s m args below meth c s₁ B hml hv
  obtain ⟨rfl, hsz, hW, hK, hZ, h⟩ := hv
  subst hsz
  have hts := atoms_spec (ws := (ws_ yX6_toString cX6_toString 1 (some (.object "java/lang/String")))) B.pre
  have hts : ∀ w ∈ lw_all, w.before _ s = true := fun w h => hts w (List.mem_cons_of_mem _ h)
  have hl := lv_entry ([.ref x0]) (n := 1) (Nat.le_of_ble_eq_true rfl)
  rw [lg_entry_eq]
  generalize (lg_sl ([.ref x0]) ++ List.replicate (1 - (lg_sl ([.ref x0])).length) Slot.unset).toArray = ls at hl ⊢
  exact wk_X6_toString Q ⟨⟨B.exec, B.bytes, hml, findClass_of_methodNamed B.named, hts⟩, hK, hZ, fun q h => Or.inr h⟩ (Nat.le_refl _) (Nat.le_refl _) G (fun v G pc ls H locs cells slots _ _ hd hW1 hS hkc hks hQ => W.widen (k := kc) (n := ks) (Nat.le_trans (Nat.le_add_right _ _) hkc) (Nat.le_trans (Nat.le_add_right _ _) hks) (W.aret (v := va_rf v) B.exec B.bytes B.returns (Or.inl ⟨_, rfl⟩) (va_rf_or v) (fun t ht _ => ⟨⟨v, G, rfl, hQ, by rw [← ht] at hW1; exact hW1⟩, hS.F ht⟩) hS.2.2 hd)) x0 kc ks h ls _ [] 0 0 hl hW va_S.rf (by show 0 + kc ≤ kc; omega) (by show 0 + ks ≤ ks; omega)
def CT_X1_write (l : Launch) (fr lo : Nat) (w : XV → (Int32 → GM → Prop) → (String → GM → Prop) → Nat → Int32 → GM → Nat → Nat → Prop) : Prop := ∀ (V : XV) (sz : Nat) (G : GM) (Q : Int32 → GM → Prop) (X : String → GM → Prop) (x0 : Nat) (x1 : Int32) (kc ks : Nat), vx_Met l yX1_write (ws_ yX1_write cX1_write 3 (some .int)) { frames := fr, cells := kc, slots := ks, locals := lo } (va_Pc [.ref x0, .int x1] (fun U => U.heap.size = sz ∧ xW V (xA G sz) G U.heap ∧ xK V U ∧ xZ V (xA G sz) U U.heap ∧ w V Q X x0 x1 G kc ks)) (va_Qi (fun r (u : GM) => Q r u) (fun u t => xW V (xA G sz) u t.heap) (xA G sz)) (vx_X (fun u : String × GM => X u.1 u.2) (fun E u t => E = u.1 ∧ xW V (xA G sz) u.2 t.heap) (xA G sz)) kc ks (xA G sz)
theorem call_X1_write_V {p : Program} {l : Launch} {e : Env} {R : Room} {s : State} {m : MethodId} {args : Array Value} {below : List Frame} {meth : Method} {c : Code} {H : Heap} {locs : List Loc} {cells slots : Nat} {Z : State → Prop} {A : Nat → Prop} {cc : ByteArray} {nL pc : Nat} {ls : Array Slot} {rest : List Value} {own : String} {index fr lo : Nat} {w : XV → (Int32 → GM → Prop) → (String → GM → Prop) → Nat → Int32 → GM → Nat → Nat → Prop} {V : XV} {G : GM} {o : Option Nat} {ci : Nat} {kc ks c1 s1 : Nat} {x0 : Nat} {x1 : Int32} (hM : CT_X1_write l fr lo w) (C : xC p m c s args cc nL own V A) (hW : xW V A G H) (hS : va_S A s.heap H locs) (hlink : Cond.methodLink own index yX1_write ∈ lw_all) (ho : o = some x0) (hcv : gCi G (some x0) = some ci) (hci : ci % 64 = 0) (hRf : fr + 1 ≤ R.frames) (hRl : 8 + (3 + 11) + lo ≤ R.locals) (hc1 : c1 ≤ kc) (hs1 : s1 ≤ ks) (hkc : cells + kc ≤ R.cells) (hks : slots + ks ≤ R.slots) (hz : ls.size = nL) (hr8 : (rest.map fun v => v.category).sum ≤ 8) (hdg : decode cc pc = .ok (.invokevirtual index, 3)) {Q1 : Int32 → GM → Prop} {X1 : String → GM → Prop} (h : w V Q1 X1 x0 x1 G c1 s1) (kx : ∀ (E : String) (G1 : GM) (ce : Cell) (q9 : Addr) (H1 : Heap) (locs1 : List Loc), X1 E G1 → xW V A G1 H1 → va_S A s.heap H1 locs1 → H1[q9]? = some ce → ce.vm = .none → s.vm.findClass E = some ce.cls → xFr V G G1 H H1 → vx_W p l e R s m args below meth c H1 locs1 (cells + c1) (slots + s1) Z (F0 m pc ls rest) q9) (kk : ∀ (r : Int32) (G1 : GM) (H1 : Heap) (locs1 : List Loc), Q1 r G1 → xW V A G1 H1 → va_S A s.heap H1 locs1 → xFr V G G1 H H1 → (cells + c1) + (kc - c1) ≤ R.cells → (slots + s1) + (ks - s1) ≤ R.slots → W p l e R s m args below meth c H1 locs1 (cells + c1) (slots + s1) Z (F0 m (pc + 3) ls (.int r :: rest))) : W p l e R s m args below meth c H locs cells slots Z (F0 m pc ls (.int x1 :: va_rf o :: rest)) := by
  subst ho
  obtain ⟨fs, hG⟩ := gCi_of hcv
  exact rx_i3w (vx_runV (As := [.int x1]) (rest := rest) C.1 (hM V H.size G Q1 X1 x0 x1 c1 s1) (cwV 1 C.1.2.2.2.2 (lw_V hlink q1680 q1681 q59 q1682) rfl rfl rfl (by decide +kernel) ⟨hRf, hRl⟩) ⟨fun a U g mk q => by obtain ⟨q0, q1, qW, qK, qZ, qw⟩ := q; exact ⟨q0, q1, qW, xK.same (u := U) (U := U.calling g mk a) rfl qK, xZ.moved (u := U) (U := U.calling g mk a) (Vm.Alike.refl U.vm) qZ, qw⟩, (hW.recv C.2.1 hG (r := (RX1, TX1, 6)) (by rw [hci]; rfl)), fun U hU hWm => ⟨rfl, by rw [hU], by rw [hU]; exact hW.self _, C.2.1.warm hWm, xZ.call C.2.2.1 hW hS C.2.2.2 hU hWm.alike, h⟩⟩ rfl rfl hz rfl (lv_room hr8) hdg ⟨by omega, by omega⟩) hW hS C.2.2.2 kx (fun r G1 H1 locs1 hp hW1 hS1 hF1 => kk r G1 H1 locs1 hp hW1 hS1 hF1 (by omega) (by omega))
def w_X1_write_30 (V : XV) (Q : Int32 → GM → Prop) (X : String → GM → Prop) (x0 : Nat) (y0 : Option Nat) (y1 : Int32) (y2 : Option Nat) (G : GM) (kc : Nat) (ks : Nat) : Prop := gRcv G y2 (fun a1 c2 => (c2 % 64 = 16) ∧ (∃ c5 s6 : Nat, c5 ≤ kc ∧ s6 ≤ ks ∧ (w_J4_insert V (fun r3 G4 => gGR G4 4 (some x0) (fun v7 => gRcv G4 v7 (fun a8 c9 => (c9 % 64 = 16) ∧ (w_J4_length V (fun r10 => Q r10 G4) a8 G4)))) a1 y1 y0 G c5 s6)))
def w_X1_write (V : XV) (Q : Int32 → GM → Prop) (X : String → GM → Prop) (x0 : Nat) (x1 : Int32) (G : GM) (kc : Nat) (ks : Nat) : Prop := gRcv G (some x0) (fun a11 c12 => (c12 % 64 = 0) ∧ (∃ c14 s15 : Nat, c14 ≤ kc ∧ s15 ≤ ks ∧ (w_X1_layer V (fun r13 => gGR G 4 (some x0) (fun v16 => gRcv G v16 (fun a17 c18 => (c18 % 64 = 16) ∧ (∃ c20 s21 : Nat, c20 ≤ (kc - c14) ∧ s21 ≤ (ks - s15) ∧ (w_J4_setLength V (fun G19 => gGR G19 4 (some x0) (fun v22 => gRcv G19 r13 (fun a23 c24 => (c24 % 64 = 5 ∨ c24 % 64 = 6 ∨ c24 % 64 = 3 ∨ c24 % 64 = 4) ∧ (∃ c27 s28 : Nat, c27 ≤ ((kc - c14) - c20) ∧ s28 ≤ ((ks - s15) - s21) ∧ (w_X5_tail V (fun r25 G26 => gRcv G26 v22 (fun a29 c30 => (c30 % 64 = 16) ∧ (∃ c33 s34 : Nat, c33 ≤ (((kc - c14) - c20) - c27) ∧ s34 ≤ (((ks - s15) - s21) - s28) ∧ (w_J4_append V (fun r31 G32 => gRcv G32 r13 (fun a35 c36 => if c36 % 64 = 5 then (∃ c39 s40 : Nat, c39 ≤ ((((kc - c14) - c20) - c27) - c33) ∧ s40 ≤ ((((ks - s15) - s21) - s28) - s34) ∧ (w_X11_toString V (fun r37 G38 => w_X1_write_30 V Q X x0 r37 (0 : Int32) r31 G38 (((((kc - c14) - c20) - c27) - c33) - c39) (((((ks - s15) - s21) - s28) - s34) - s40)) a35 G32 c39 s40)) else (if c36 % 64 = 6 then (∃ c44 s45 : Nat, c44 ≤ ((((kc - c14) - c20) - c27) - c33) ∧ s45 ≤ ((((ks - s15) - s21) - s28) - s34) ∧ (w_X5_toString V (fun r42 G43 => w_X1_write_30 V Q X x0 r42 (0 : Int32) r31 G43 (((((kc - c14) - c20) - c27) - c33) - c44) (((((ks - s15) - s21) - s28) - s34) - s45)) a35 G32 c44 s45)) else (if c36 % 64 = 3 ∨ c36 % 64 = 4 then (∃ c49 s50 : Nat, c49 ≤ ((((kc - c14) - c20) - c27) - c33) ∧ s50 ≤ ((((ks - s15) - s21) - s28) - s34) ∧ (w_X6_toString V (fun r47 G48 => w_X1_write_30 V Q X x0 r47 (0 : Int32) r31 G48 (((((kc - c14) - c20) - c27) - c33) - c49) (((((ks - s15) - s21) - s28) - s34) - s50)) a35 G32 c49 s50)) else (False))))) a29 r25 G26 c33 s34)))) a23 G19 c27 s28))))) a17 (0 : Int32) G c20 s21))))) X a11 x1 G c14 s15)))
set_option maxRecDepth 100000 in
set_option maxHeartbeats 4000000 in
theorem wk_X1_write {p : Program} {l : Launch} {e : Env} {R : Room} {s : State} {m : MethodId} {args : Array Value} {below : List Frame} {meth : Method} {c : Code} {Z : State → Prop} {A : Nat → Prop} {V : XV} (Q : Int32 → GM → Prop) (X : String → GM → Prop) (C : xC p m c s args cX1_write 3 RX1 V A) (hfl : l.stackTraces = false) (hRf : 18 ≤ R.frames) (hRl : 331 ≤ R.locals) (G : GM) (hret : ∀ (v : Int32) (G : GM) (pc : Nat) (ls : Array Slot) (H : Heap) (locs : List Loc) (cells slots : Nat) {k1 k2 : Nat}, decode cX1_write pc = .ok (.ireturn, 1) → xW V A G H → va_S A s.heap H locs → cells + k1 ≤ R.cells → slots + k2 ≤ R.slots → Q v G → W p l e R s m args below meth c H locs cells slots Z (F0 m pc ls [.int v])) (hxo : ∀ (E : String) (G : GM) (ce : Cell) (q : Addr) (pc : Nat) (ls : Array Slot) (H : Heap) (locs : List Loc) (cells slots : Nat) (rest : List Value), xW V A G H → va_S A s.heap H locs → X E G → H[q]? = some ce → ce.vm = .none → s.vm.findClass E = some ce.cls → cells ≤ R.cells → slots ≤ R.slots → vx_W p l e R s m args below meth c H locs cells slots Z (F0 m pc ls rest) q) (x0 : Nat) (x1 : Int32) (kc ks : Nat) : w_X1_write V Q X x0 x1 G kc ks → ∀ (ls : Array Slot) (H : Heap) (locs : List Loc) (cells slots : Nat), lv_has ls 3 [(0, va_rf (some x0)), (1, .int x1)] → xW V A G H → va_S A s.heap H locs → cells + kc ≤ R.cells → slots + ks ≤ R.slots → W p l e R s m args below meth c H locs cells slots Z (F0 m 0 ls []) := by
  have hx := C.1.1; have hb := C.1.2.1; have hml := C.1.2.2.1; have hown := C.1.2.2.2.1; have hts := C.1.2.2.2.2
  have hb30 : ∀ (y0 : Option Nat) (y1 : Int32) (y2 : Option Nat) (G : GM) (kc : Nat) (ks : Nat), w_X1_write_30 V Q X x0 y0 y1 y2 G kc ks → ∀ (ls : Array Slot) (H : Heap) (locs : List Loc) (cells slots : Nat), lv_has ls 3 [(0, va_rf (some x0))] → xW V A G H → va_S A s.heap H locs → cells + kc ≤ R.cells → slots + ks ≤ R.slots → W p l e R s m args below meth c H locs cells slots Z (F0 m 30 ls [va_rf y0, .int y1, va_rf y2]) := by
    intro y0 y1 y2 G kc ks h
    intro ls H locs cells slots hl hW hS hkc hks
    obtain ⟨a1, c2, ho30, hcv30, h⟩ := h
    have hcc := h.1
    have h := h.2
    obtain ⟨c5, s6, hc30, hs30, h⟩ := h
    refine call_J4_insert_V (ct_J4_insert l) C hW hS q1774 ho30 hcv30 hcc (le_lit hRf rfl) (le_lit hRl rfl) hc30 hs30 hkc hks hl.1 (Nat.le_of_ble_eq_true rfl) dX1_write_30 h (fun r3 G4 H locs h hW hS _ hkc hks => ?_)
    refine lv_pop hx hb dX1_write_33 (va_rf_cat _) ?_
    refine sh_aload_n hx hb dX1_write_34 rfl (lv_at hl 0 rfl) ?_
    obtain ⟨v7, h1, h⟩ := h
    refine sh_get C hW xFb_4 q205 (fun _ h => h) h1 dX1_write_35 ?_
    obtain ⟨a8, c9, ho38, hcv38, h⟩ := h
    have hcc := h.1
    have h := h.2
    refine call_J4_length_V (ct_J4_length l) C hW hS q592 ho38 hcv38 hcc (le_lit hRf rfl) (le_lit hRl rfl) ⟨Nat.le_trans (Nat.le_add_right _ _) hkc, Nat.le_trans (Nat.le_add_right _ _) hks⟩ hl.1 (Nat.le_of_ble_eq_true rfl) dX1_write_38 h (fun r10 H locs h hW hS _ => ?_)
    exact hret _ _ _ _ _ _ _ _ dX1_write_41 hW hS hkc hks h
  intro h
  intro ls H locs cells slots hl hW hS hkc hks
  refine sh_aload_n hx hb dX1_write_0 rfl (lv_at hl 0 rfl) ?_
  refine lv_iload_n hx hb dX1_write_1 rfl (lv_at hl 1 rfl) ?_
  obtain ⟨a11, c12, ho2, hcv2, h⟩ := h
  have hcc := h.1
  have h := h.2
  obtain ⟨c14, s15, hc2, hs2, h⟩ := h
  refine call_X1_layer_V (ct_X1_layer l hfl) C hW hS q921 ho2 hcv2 hcc (le_lit hRf rfl) (le_lit hRl rfl) hc2 hs2 hkc hks hl.1 (Nat.le_of_ble_eq_true rfl) dX1_write_2 h (fun E G9 ce q9 H locs hX hW hS h1 h2 h3 _ => hxo E G9 ce q9 2 ls H locs _ _ _ hW hS hX h1 h2 h3 (by omega) (by omega)) (fun r13 H locs h hW hS _ hkc hks => ?_)
  refine sh_astore_n (lv' := [(2, va_rf r13), (0, va_rf (some x0)), (1, .int x1)]) hx hb dX1_write_5 rfl hl (by decide) rfl (fun ls hl => ?_)
  refine sh_aload_n hx hb dX1_write_6 rfl (lv_at hl 1 rfl) ?_
  obtain ⟨v16, h1, h⟩ := h
  refine sh_get C hW xFb_4 q205 (fun _ h => h) h1 dX1_write_7 ?_
  refine lv_iconst (v := 0) hx hb dX1_write_10 (by decide) ?_
  obtain ⟨a17, c18, ho11, hcv11, h⟩ := h
  have hcc := h.1
  have h := h.2
  obtain ⟨c20, s21, hc11, hs11, h⟩ := h
  refine call_J4_setLength_V (ct_J4_setLength l) C hW hS q243 ho11 hcv11 hcc (le_lit hRf rfl) (le_lit hRl rfl) hc11 hs11 hkc hks hl.1 (Nat.le_of_ble_eq_true rfl) dX1_write_11 h (fun G19 H locs h hW hS _ hkc hks => ?_)
  refine sh_aload_n hx hb dX1_write_14 rfl (lv_at hl 1 rfl) ?_
  obtain ⟨v22, h1, h⟩ := h
  refine sh_get C hW xFb_4 q205 (fun _ h => h) h1 dX1_write_15 ?_
  refine sh_aload_n hx hb dX1_write_18 rfl (lv_at hl 0 rfl) ?_
  obtain ⟨a23, c24, ho19, hcv19, h⟩ := h
  have hcc := h.1
  have h := h.2
  obtain ⟨c27, s28, hc19, hs19, h⟩ := h
  refine call_X5_tail_U3_4_5_6_Layer (ct_X5_tail l) C hW hS q1683 ho19 hcv19 hcc (le_lit hRf rfl) (le_lit hRl rfl) hc19 hs19 hkc hks hl.1 (by simp only [List.map_cons, List.map_nil, va_rf_cat]; exact Nat.le_of_ble_eq_true rfl) dX1_write_19 h (fun r25 G26 H locs h hW hS _ hkc hks => ?_)
  obtain ⟨a29, c30, ho22, hcv22, h⟩ := h
  have hcc := h.1
  have h := h.2
  obtain ⟨c33, s34, hc22, hs22, h⟩ := h
  refine call_J4_append_V (ct_J4_append l) C hW hS q1700 ho22 hcv22 hcc (le_lit hRf rfl) (le_lit hRl rfl) hc22 hs22 hkc hks hl.1 (Nat.le_of_ble_eq_true rfl) dX1_write_22 h (fun r31 G32 H locs h hW hS _ hkc hks => ?_)
  refine lv_iconst (v := 0) hx hb dX1_write_25 (by decide) ?_
  refine sh_aload_n hx hb dX1_write_26 rfl (lv_at hl 0 rfl) ?_
  obtain ⟨a35, c36, ho27, hcv27, h⟩ := h
  by_cases c41 : c36 % 64 = 5
  · have h := wif_t h c41
    obtain ⟨c39, s40, hc27, hs27, h⟩ := h
    refine call_X11_toString_O5_Layer (ct_X11_toString l) C hW hS q1701 ho27 hcv27 c41 (le_lit hRf rfl) (le_lit hRl rfl) hc27 hs27 hkc hks hl.1 (by simp only [List.map_cons, List.map_nil, va_rf_cat]; exact Nat.le_of_ble_eq_true rfl) dX1_write_27 h (fun r37 G38 H locs h hW hS _ hkc hks => ?_)
    exact hb30 _ _ _ _ _ _ h ls H locs _ _ (lv_sub hl [1] rfl) hW hS hkc hks
  · have h := wif_f h c41
    by_cases c46 : c36 % 64 = 6
    · have h := wif_t h c46
      obtain ⟨c44, s45, hc27, hs27, h⟩ := h
      refine call_X5_toString_U6_Layer (ct_X5_toString l) C hW hS q1701 ho27 hcv27 c46 (le_lit hRf rfl) (le_lit hRl rfl) hc27 hs27 hkc hks hl.1 (by simp only [List.map_cons, List.map_nil, va_rf_cat]; exact Nat.le_of_ble_eq_true rfl) dX1_write_27 h (fun r42 G43 H locs h hW hS _ hkc hks => ?_)
      exact hb30 _ _ _ _ _ _ h ls H locs _ _ (lv_sub hl [1] rfl) hW hS hkc hks
    · have h := wif_f h c46
      by_cases c51 : c36 % 64 = 3 ∨ c36 % 64 = 4
      · have h := wif_t h c51
        obtain ⟨c49, s50, hc27, hs27, h⟩ := h
        refine call_X6_toString_O3_4_Layer (ct_X6_toString l) C hW hS q1701 ho27 hcv27 c51 (le_lit hRf rfl) (le_lit hRl rfl) hc27 hs27 hkc hks hl.1 (by simp only [List.map_cons, List.map_nil, va_rf_cat]; exact Nat.le_of_ble_eq_true rfl) dX1_write_27 h (fun r47 G48 H locs h hW hS _ hkc hks => ?_)
        exact hb30 _ _ _ _ _ _ h ls H locs _ _ (lv_sub hl [1] rfl) hW hS hkc hks
      · have h := wif_f h c51
        exact False.elim h
theorem ct_X1_write (l : Launch) (hfl : l.stackTraces = false) : CT_X1_write l 18 331 w_X1_write := by
  intro V sz G Q X x0 x1 kc ks
  refine vx_ofW (cc := cX1_write) (maxL := 3) (ret := (some .int)) (by decide) rfl ?_
  intro p e s m args below meth c s₁ B hml hext hv
  obtain ⟨rfl, hsz, hW, hK, hZ, h⟩ := hv
  subst hsz
  have hts := atoms_spec (ws := (ws_ yX1_write cX1_write 3 (some .int))) B.pre
  have hts : ∀ w ∈ lw_all, w.before _ s = true := fun w h => hts w (List.mem_cons_of_mem _ h)
  have hl := lv_entry ([.ref x0, .int x1]) (n := 3) (Nat.le_of_ble_eq_true rfl)
  rw [lg_entry_eq]
  generalize (lg_sl ([.ref x0, .int x1]) ++ List.replicate (3 - (lg_sl ([.ref x0, .int x1])).length) Slot.unset).toArray = ls at hl ⊢
  exact wk_X1_write Q X ⟨⟨B.exec, B.bytes, hml, findClass_of_methodNamed B.named, hts⟩, hK, hZ, fun q h => Or.inr h⟩ hfl (Nat.le_refl _) (Nat.le_refl _) G (fun v G pc ls H locs cells slots _ _ hd hW1 hS hkc hks hQ => W.widen (k := kc) (n := ks) (Nat.le_trans (Nat.le_add_right _ _) hkc) (Nat.le_trans (Nat.le_add_right _ _) hks) (vx_ret (W.iret (v := v) B.exec B.bytes B.returns (fun t ht _ => ⟨⟨v, G, rfl, hQ, by rw [← ht] at hW1; exact hW1⟩, hS.F ht⟩) hS.2.2 hd))) (fun E G9 ce q pc ls H locs cells slots rest hW1 hS hX h1 h2 h3 hc hs => vx_out (fun x hx => absurd (hext x hx) id) B.notSynchronized h1 h2 h3 (fun t ht _ => ⟨(E, G9), hX, ⟨rfl, by rw [← ht] at hW1; exact hW1⟩, hS.F ht⟩) hS.2.2 hc hs) x0 x1 kc ks h ls _ [] 0 0 hl hW va_S.rf (by show 0 + kc ≤ kc; omega) (by show 0 + ks ≤ ks; omega)
def CT_X0_write (l : Launch) (fr lo : Nat) (w : XV → (Int32 → GM → Prop) → (Option Nat) → Int32 → (Option Nat) → GM → Nat → Nat → Prop) : Prop := ∀ (V : XV) (sz : Nat) (G : GM) (Q : Int32 → GM → Prop) (x0 : Option Nat) (x1 : Int32) (x2 : Option Nat) (kc ks : Nat), Met l yX0_write (wsW_ yX0_write cX0_write 4 (some .int) [(0, 9, 12, 19)]) { frames := fr, cells := kc, slots := ks, locals := lo } (va_Pc [va_rf x0, .int x1, va_rf x2] (fun U => U.heap.size = sz ∧ xW V (xA G sz) G U.heap ∧ xK V U ∧ xZ V (xA G sz) U U.heap ∧ w V Q x0 x1 x2 G kc ks)) (va_Qi (fun r (u : GM) => Q r u) (fun u t => xW V (xA G sz) u t.heap) (xA G sz)) kc ks (xA G sz)
def w_X0_write (V : XV) (Q : Int32 → GM → Prop) (x0 : Option Nat) (x1 : Int32) (x2 : Option Nat) (G : GM) (kc : Nat) (ks : Nat) : Prop := gRcv G x0 (fun a1 c2 => (c2 % 64 = 0) ∧ (∃ c5 s6 : Nat, c5 ≤ kc ∧ s6 ≤ ks ∧ (w_X1_write V (fun r3 G4 => gJS G4 1 x2 (0 : Int32) (r3.toInt64) (fun G7 => Q (0 : Int32) G7)) (fun E G9 => if E = "java/lang/IndexOutOfBoundsException" then Q (1 : Int32) G9 else (False)) a1 x1 G c5 s6)))
set_option maxRecDepth 100000 in
set_option maxHeartbeats 4000000 in
theorem wk_X0_write {p : Program} {l : Launch} {e : Env} {R : Room} {s : State} {m : MethodId} {args : Array Value} {below : List Frame} {meth : Method} {c : Code} {Z : State → Prop} {A : Nat → Prop} {V : XV} (Q : Int32 → GM → Prop) (C : xC p m c s args cX0_write 4 RX0 V A) (hfl : l.stackTraces = false) (htab : c.exceptionTable.toList = tableOf [(0, 9, 12, 19)]) (hRf : 19 ≤ R.frames) (hRl : 353 ≤ R.locals) (G : GM) (hret : ∀ (v : Int32) (G : GM) (pc : Nat) (ls : Array Slot) (H : Heap) (locs : List Loc) (cells slots : Nat) {k1 k2 : Nat}, decode cX0_write pc = .ok (.ireturn, 1) → xW V A G H → va_S A s.heap H locs → cells + k1 ≤ R.cells → slots + k2 ≤ R.slots → Q v G → W p l e R s m args below meth c H locs cells slots Z (F0 m pc ls [.int v])) (x0 : Option Nat) (x1 : Int32) (x2 : Option Nat) (kc ks : Nat) : w_X0_write V Q x0 x1 x2 G kc ks → ∀ (ls : Array Slot) (H : Heap) (locs : List Loc) (cells slots : Nat), lv_has ls 4 [(0, va_rf x0), (1, .int x1), (2, va_rf x2)] → xW V A G H → va_S A s.heap H locs → cells + kc ≤ R.cells → slots + ks ≤ R.slots → W p l e R s m args below meth c H locs cells slots Z (F0 m 0 ls []) := by
  have hx := C.1.1; have hb := C.1.2.1; have hml := C.1.2.2.1; have hown := C.1.2.2.2.1; have hts := C.1.2.2.2.2
  intro h
  intro ls H locs cells slots hl hW hS hkc hks
  refine sh_aload_n hx hb dX0_write_0 rfl (lv_at hl 2 rfl) ?_
  refine lv_iconst (v := 0) hx hb dX0_write_1 (by decide) ?_
  refine sh_aload_n hx hb dX0_write_2 rfl (lv_at hl 0 rfl) ?_
  refine lv_iload_n hx hb dX0_write_3 rfl (lv_at hl 1 rfl) ?_
  obtain ⟨a1, c2, ho4, hcv4, h⟩ := h
  have hcc := h.1
  have h := h.2
  obtain ⟨c5, s6, hc4, hs4, h⟩ := h
  refine call_X1_write_V (ct_X1_write l hfl) C hW hS q1679 ho4 hcv4 hcc (le_lit hRf rfl) (le_lit hRl rfl) hc4 hs4 hkc hks hl.1 (by simp only [List.map_cons, List.map_nil, va_rf_cat]; exact Nat.le_of_ble_eq_true rfl) dX0_write_4 h (fun E G9 ce q9 H locs hX hW hS h1 h2 h3 _ => by
      by_cases c900 : E = "java/lang/IndexOutOfBoundsException"
      · have hX := wif_t hX c900
        subst c900
        refine vx_catch hown [] ⟨0, 9, 12, 19⟩ [] (htab.trans rfl) (fun z hz => absurd hz List.not_mem_nil) rfl (by decide) (hts _ q740) (va_Nw.use rfl (C.2.1.2.2.1 _ q757 rfl)) h1 h2 h3 ?_
        refine sh_astore_n (lv' := [(3, va_rf (some q9)), (0, va_rf x0), (1, .int x1), (2, va_rf x2)]) hx hb dX0_write_12 rfl hl (by decide) (by simp only [List.filter_cons, List.filter_nil, va_rf_cat]; rfl) (fun ls hl => ?_)
        refine lv_iconst (v := 1) hx hb dX0_write_13 (by decide) ?_
        exact hret _ _ _ _ _ _ _ _ (k1 := 0) (k2 := 0) dX0_write_14 hW hS (by omega) (by omega) hX
      have hX := wif_f hX c900
      exact False.elim hX) (fun r3 G4 H locs h hW hS _ hkc hks => ?_)
  refine lv_i2l hx hb dX0_write_7 rfl ?_
  refine sh_last C hW hS h dX0_write_8 (fun G7 H locs hW hS h => ?_)
  refine lv_goto (tgt := 15) hx hb dX0_write_9 (by decide) ?_
  refine lv_iconst (v := 0) hx hb dX0_write_15 (by decide) ?_
  exact hret _ _ _ _ _ _ _ _ dX0_write_16 hW hS hkc hks h
theorem ct_X0_write (l : Launch) (hfl : l.stackTraces = false) : CT_X0_write l 19 353 w_X0_write := by
  intro V sz G Q x0 x1 x2 kc ks
  refine gx_ofWH (cc := cX0_write) (maxL := 4) (ret := (some .int)) (hh := [(0, 9, 12, 19)]) (by decide) rfl ?_
  intro p e s m args below meth c s₁ B hml htab hv
  obtain ⟨rfl, hsz, hW, hK, hZ, h⟩ := hv
  subst hsz
  have hts := atoms_spec (ws := (wsW_ yX0_write cX0_write 4 (some .int) [(0, 9, 12, 19)])) B.pre
  have hts : ∀ w ∈ lw_all, w.before _ s = true := fun w h => hts w (List.mem_cons_of_mem _ h)
  have key : ∃ ls : Array Slot, entryFrame m ([va_rf x0, .int x1, va_rf x2] : List Value).toArray 4 = F0 m 0 ls [] ∧ lv_has ls 4 [(0, va_rf x0), (1, .int x1), (2, va_rf x2)] := by
    cases x0 <;> cases x2 <;> (refine ⟨_, by rw [lg_entry_eq], ?_⟩; exact lv_entry _ (Nat.le_of_ble_eq_true rfl))
  obtain ⟨ls, hfr, hl⟩ := key
  rw [hfr]
  exact wk_X0_write Q ⟨⟨B.exec, B.bytes, hml, findClass_of_methodNamed B.named, hts⟩, hK, hZ, fun q h => Or.inr h⟩ hfl htab (Nat.le_refl _) (Nat.le_refl _) G (fun v G pc ls H locs cells slots _ _ hd hW1 hS hkc hks hQ => W.widen (k := kc) (n := ks) (Nat.le_trans (Nat.le_add_right _ _) hkc) (Nat.le_trans (Nat.le_add_right _ _) hks) (W.iret (v := v) B.exec B.bytes B.returns (fun t ht _ => ⟨⟨v, G, rfl, hQ, by rw [← ht] at hW1; exact hW1⟩, hS.F ht⟩) hS.2.2 hd)) x0 x1 x2 kc ks h ls _ [] 0 0 hl hW va_S.rf (by show 0 + kc ≤ kc; omega) (by show 0 + ks ≤ ks; omega)
def CT_X1_coveredPart (l : Launch) (fr lo : Nat) (w : XV → (UInt32 → GM → Prop) → (String → GM → Prop) → Nat → Int32 → Int32 → GM → Nat → Nat → Prop) : Prop := ∀ (V : XV) (sz : Nat) (G : GM) (Q : UInt32 → GM → Prop) (X : String → GM → Prop) (x0 : Nat) (x1 : Int32) (x2 : Int32) (kc ks : Nat), vx_Met l yX1_coveredPart (ws_ yX1_coveredPart cX1_coveredPart 3 (some .float)) { frames := fr, cells := kc, slots := ks, locals := lo } (va_Pc [.ref x0, .int x1, .int x2] (fun U => U.heap.size = sz ∧ xW V (xA G sz) G U.heap ∧ xK V U ∧ xZ V (xA G sz) U U.heap ∧ w V Q X x0 x1 x2 G kc ks)) (va_Qf (fun r (u : GM) => Q r u) (fun u t => xW V (xA G sz) u t.heap) (xA G sz)) (vx_X (fun u : String × GM => X u.1 u.2) (fun E u t => E = u.1 ∧ xW V (xA G sz) u.2 t.heap) (xA G sz)) kc ks (xA G sz)
theorem call_X1_coveredPart_V {p : Program} {l : Launch} {e : Env} {R : Room} {s : State} {m : MethodId} {args : Array Value} {below : List Frame} {meth : Method} {c : Code} {H : Heap} {locs : List Loc} {cells slots : Nat} {Z : State → Prop} {A : Nat → Prop} {cc : ByteArray} {nL pc : Nat} {ls : Array Slot} {rest : List Value} {own : String} {index fr lo : Nat} {w : XV → (UInt32 → GM → Prop) → (String → GM → Prop) → Nat → Int32 → Int32 → GM → Nat → Nat → Prop} {V : XV} {G : GM} {o : Option Nat} {ci : Nat} {kc ks c1 s1 : Nat} {x0 : Nat} {x1 : Int32} {x2 : Int32} (hM : CT_X1_coveredPart l fr lo w) (C : xC p m c s args cc nL own V A) (hW : xW V A G H) (hS : va_S A s.heap H locs) (hlink : Cond.methodLink own index yX1_coveredPart ∈ lw_all) (ho : o = some x0) (hcv : gCi G (some x0) = some ci) (hci : ci % 64 = 0) (hRf : fr + 1 ≤ R.frames) (hRl : 8 + (3 + 11) + lo ≤ R.locals) (hc1 : c1 ≤ kc) (hs1 : s1 ≤ ks) (hkc : cells + kc ≤ R.cells) (hks : slots + ks ≤ R.slots) (hz : ls.size = nL) (hr8 : (rest.map fun v => v.category).sum ≤ 8) (hdg : decode cc pc = .ok (.invokevirtual index, 3)) {Q1 : UInt32 → GM → Prop} {X1 : String → GM → Prop} (h : w V Q1 X1 x0 x1 x2 G c1 s1) (kx : ∀ (E : String) (G1 : GM) (ce : Cell) (q9 : Addr) (H1 : Heap) (locs1 : List Loc), X1 E G1 → xW V A G1 H1 → va_S A s.heap H1 locs1 → H1[q9]? = some ce → ce.vm = .none → s.vm.findClass E = some ce.cls → xFr V G G1 H H1 → vx_W p l e R s m args below meth c H1 locs1 (cells + c1) (slots + s1) Z (F0 m pc ls rest) q9) (kk : ∀ (r : UInt32) (G1 : GM) (H1 : Heap) (locs1 : List Loc), Q1 r G1 → xW V A G1 H1 → va_S A s.heap H1 locs1 → xFr V G G1 H H1 → (cells + c1) + (kc - c1) ≤ R.cells → (slots + s1) + (ks - s1) ≤ R.slots → W p l e R s m args below meth c H1 locs1 (cells + c1) (slots + s1) Z (F0 m (pc + 3) ls (.float r :: rest))) : W p l e R s m args below meth c H locs cells slots Z (F0 m pc ls (.int x2 :: .int x1 :: va_rf o :: rest)) := by
  subst ho
  obtain ⟨fs, hG⟩ := gCi_of hcv
  exact rx_f3w (vx_runV (As := [.int x1, .int x2]) (rest := rest) C.1 (hM V H.size G Q1 X1 x0 x1 x2 c1 s1) (cwV 2 C.1.2.2.2.2 (lw_V hlink q1792 q1793 q59 q1794) rfl rfl rfl (by decide +kernel) ⟨hRf, hRl⟩) ⟨fun a U g mk q => by obtain ⟨q0, q1, qW, qK, qZ, qw⟩ := q; exact ⟨q0, q1, qW, xK.same (u := U) (U := U.calling g mk a) rfl qK, xZ.moved (u := U) (U := U.calling g mk a) (Vm.Alike.refl U.vm) qZ, qw⟩, (hW.recv C.2.1 hG (r := (RX1, TX1, 6)) (by rw [hci]; rfl)), fun U hU hWm => ⟨rfl, by rw [hU], by rw [hU]; exact hW.self _, C.2.1.warm hWm, xZ.call C.2.2.1 hW hS C.2.2.2 hU hWm.alike, h⟩⟩ rfl rfl hz rfl (lv_room hr8) hdg ⟨by omega, by omega⟩) hW hS C.2.2.2 kx (fun r G1 H1 locs1 hp hW1 hS1 hF1 => kk r G1 H1 locs1 hp hW1 hS1 hF1 (by omega) (by omega))
def w_X1_coveredPart (V : XV) (Q : UInt32 → GM → Prop) (X : String → GM → Prop) (x0 : Nat) (x1 : Int32) (x2 : Int32) (G : GM) (kc : Nat) (ks : Nat) : Prop := gRcv G (some x0) (fun a1 c2 => (c2 % 64 = 0) ∧ (∃ c5 s6 : Nat, c5 ≤ kc ∧ s6 ≤ ks ∧ (w_X1_covered V (fun r3 G4 => vf_n32 (FP.fdiv (FP.i2f r3) (1128267776 : UInt32)) ∧ (Q (FP.fdiv (FP.i2f r3) (1128267776 : UInt32)) G4)) X a1 x1 x2 G c5 s6)))
set_option maxRecDepth 100000 in
set_option maxHeartbeats 4000000 in
theorem wk_X1_coveredPart {p : Program} {l : Launch} {e : Env} {R : Room} {s : State} {m : MethodId} {args : Array Value} {below : List Frame} {meth : Method} {c : Code} {Z : State → Prop} {A : Nat → Prop} {V : XV} (Q : UInt32 → GM → Prop) (X : String → GM → Prop) (C : xC p m c s args cX1_coveredPart 3 RX1 V A) (hfl : l.stackTraces = false) (hRf : 32 ≤ R.frames) (hRl : 789 ≤ R.locals) (G : GM) (hret : ∀ (v : UInt32) (G : GM) (pc : Nat) (ls : Array Slot) (H : Heap) (locs : List Loc) (cells slots : Nat) {k1 k2 : Nat}, decode cX1_coveredPart pc = .ok (.freturn, 1) → xW V A G H → va_S A s.heap H locs → cells + k1 ≤ R.cells → slots + k2 ≤ R.slots → Q v G → W p l e R s m args below meth c H locs cells slots Z (F0 m pc ls [.float v])) (hxo : ∀ (E : String) (G : GM) (ce : Cell) (q : Addr) (pc : Nat) (ls : Array Slot) (H : Heap) (locs : List Loc) (cells slots : Nat) (rest : List Value), xW V A G H → va_S A s.heap H locs → X E G → H[q]? = some ce → ce.vm = .none → s.vm.findClass E = some ce.cls → cells ≤ R.cells → slots ≤ R.slots → vx_W p l e R s m args below meth c H locs cells slots Z (F0 m pc ls rest) q) (x0 : Nat) (x1 : Int32) (x2 : Int32) (kc ks : Nat) : w_X1_coveredPart V Q X x0 x1 x2 G kc ks → ∀ (ls : Array Slot) (H : Heap) (locs : List Loc) (cells slots : Nat), lv_has ls 3 [(0, va_rf (some x0)), (1, .int x1), (2, .int x2)] → xW V A G H → va_S A s.heap H locs → cells + kc ≤ R.cells → slots + ks ≤ R.slots → W p l e R s m args below meth c H locs cells slots Z (F0 m 0 ls []) := by
  have hx := C.1.1; have hb := C.1.2.1; have hml := C.1.2.2.1; have hown := C.1.2.2.2.1; have hts := C.1.2.2.2.2
  intro h
  intro ls H locs cells slots hl hW hS hkc hks
  refine sh_aload_n hx hb dX1_coveredPart_0 rfl (lv_at hl 0 rfl) ?_
  refine lv_iload_n hx hb dX1_coveredPart_1 rfl (lv_at hl 1 rfl) ?_
  refine lv_iload_n hx hb dX1_coveredPart_2 rfl (lv_at hl 2 rfl) ?_
  obtain ⟨a1, c2, ho3, hcv3, h⟩ := h
  have hcc := h.1
  have h := h.2
  obtain ⟨c5, s6, hc3, hs3, h⟩ := h
  refine call_X1_covered_V (ct_X1_covered l hfl) C hW hS q1795 ho3 hcv3 hcc (le_lit hRf rfl) (le_lit hRl rfl) hc3 hs3 hkc hks hl.1 (Nat.le_of_ble_eq_true rfl) dX1_coveredPart_3 h (fun E G9 ce q9 H locs hX hW hS h1 h2 h3 _ => hxo E G9 ce q9 3 ls H locs _ _ _ hW hS hX h1 h2 h3 (by omega) (by omega)) (fun r3 G4 H locs h hW hS _ hkc hks => ?_)
  refine lv_i2f hx hb dX1_coveredPart_6 ?_
  refine lv_ldcwF hx hb hown (hts _ q1796) dX1_coveredPart_7 ?_
  refine lv_fdiv hx hb dX1_coveredPart_10 h.1 ?_
  have h := h.2
  exact hret _ _ _ _ _ _ _ _ dX1_coveredPart_11 hW hS hkc hks h
theorem ct_X1_coveredPart (l : Launch) (hfl : l.stackTraces = false) : CT_X1_coveredPart l 32 789 w_X1_coveredPart := by
  intro V sz G Q X x0 x1 x2 kc ks
  refine vx_ofW (cc := cX1_coveredPart) (maxL := 3) (ret := (some .float)) (by decide) rfl ?_
  intro p e s m args below meth c s₁ B hml hext hv
  obtain ⟨rfl, hsz, hW, hK, hZ, h⟩ := hv
  subst hsz
  have hts := atoms_spec (ws := (ws_ yX1_coveredPart cX1_coveredPart 3 (some .float))) B.pre
  have hts : ∀ w ∈ lw_all, w.before _ s = true := fun w h => hts w (List.mem_cons_of_mem _ h)
  have hl := lv_entry ([.ref x0, .int x1, .int x2]) (n := 3) (Nat.le_of_ble_eq_true rfl)
  rw [lg_entry_eq]
  generalize (lg_sl ([.ref x0, .int x1, .int x2]) ++ List.replicate (3 - (lg_sl ([.ref x0, .int x1, .int x2])).length) Slot.unset).toArray = ls at hl ⊢
  exact wk_X1_coveredPart Q X ⟨⟨B.exec, B.bytes, hml, findClass_of_methodNamed B.named, hts⟩, hK, hZ, fun q h => Or.inr h⟩ hfl (Nat.le_refl _) (Nat.le_refl _) G (fun v G pc ls H locs cells slots _ _ hd hW1 hS hkc hks hQ => W.widen (k := kc) (n := ks) (Nat.le_trans (Nat.le_add_right _ _) hkc) (Nat.le_trans (Nat.le_add_right _ _) hks) (vx_ret (W.fret (hlocks := B.notSynchronized) (v := v) B.exec B.bytes B.returns (fun t ht _ => ⟨⟨v, G, rfl, hQ, by rw [← ht] at hW1; exact hW1⟩, hS.F ht⟩) hS.2.2 hd))) (fun E G9 ce q pc ls H locs cells slots rest hW1 hS hX h1 h2 h3 hc hs => vx_out (fun x hx => absurd (hext x hx) id) B.notSynchronized h1 h2 h3 (fun t ht _ => ⟨(E, G9), hX, ⟨rfl, by rw [← ht] at hW1; exact hW1⟩, hS.F ht⟩) hS.2.2 hc hs) x0 x1 x2 kc ks h ls _ [] 0 0 hl hW va_S.rf (by show 0 + kc ≤ kc; omega) (by show 0 + ks ≤ ks; omega)
def CT_X0_coveredPart (l : Launch) (fr lo : Nat) (w : XV → (Int32 → GM → Prop) → (Option Nat) → Int32 → Int32 → (Option Nat) → GM → Nat → Nat → Prop) : Prop := ∀ (V : XV) (sz : Nat) (G : GM) (Q : Int32 → GM → Prop) (x0 : Option Nat) (x1 : Int32) (x2 : Int32) (x3 : Option Nat) (kc ks : Nat), Met l yX0_coveredPart (wsW_ yX0_coveredPart cX0_coveredPart 5 (some .int) [(0, 10, 13, 19), (0, 10, 17, 21)]) { frames := fr, cells := kc, slots := ks, locals := lo } (va_Pc [va_rf x0, .int x1, .int x2, va_rf x3] (fun U => U.heap.size = sz ∧ xW V (xA G sz) G U.heap ∧ xK V U ∧ xZ V (xA G sz) U U.heap ∧ w V Q x0 x1 x2 x3 G kc ks)) (va_Qi (fun r (u : GM) => Q r u) (fun u t => xW V (xA G sz) u t.heap) (xA G sz)) kc ks (xA G sz)
def w_X0_coveredPart (V : XV) (Q : Int32 → GM → Prop) (x0 : Option Nat) (x1 : Int32) (x2 : Int32) (x3 : Option Nat) (G : GM) (kc : Nat) (ks : Nat) : Prop := gRcv G x0 (fun a1 c2 => (c2 % 64 = 0) ∧ (∃ c5 s6 : Nat, c5 ≤ kc ∧ s6 ≤ ks ∧ (w_X1_coveredPart V (fun r3 G4 => vf_n64 (FP.f2d r3) ∧ (gDS G4 4 x3 (0 : Int32) (FP.f2d r3) (fun G7 => Q (0 : Int32) G7))) (fun E G9 => if E = "java/lang/IndexOutOfBoundsException" then Q (1 : Int32) G9 else (if E = "java/lang/IllegalArgumentException" then Q (2 : Int32) G9 else (False))) a1 x1 x2 G c5 s6)))
set_option maxRecDepth 100000 in
set_option maxHeartbeats 4000000 in
theorem wk_X0_coveredPart {p : Program} {l : Launch} {e : Env} {R : Room} {s : State} {m : MethodId} {args : Array Value} {below : List Frame} {meth : Method} {c : Code} {Z : State → Prop} {A : Nat → Prop} {V : XV} (Q : Int32 → GM → Prop) (C : xC p m c s args cX0_coveredPart 5 RX0 V A) (hfl : l.stackTraces = false) (htab : c.exceptionTable.toList = tableOf [(0, 10, 13, 19), (0, 10, 17, 21)]) (hRf : 33 ≤ R.frames) (hRl : 811 ≤ R.locals) (G : GM) (hret : ∀ (v : Int32) (G : GM) (pc : Nat) (ls : Array Slot) (H : Heap) (locs : List Loc) (cells slots : Nat) {k1 k2 : Nat}, decode cX0_coveredPart pc = .ok (.ireturn, 1) → xW V A G H → va_S A s.heap H locs → cells + k1 ≤ R.cells → slots + k2 ≤ R.slots → Q v G → W p l e R s m args below meth c H locs cells slots Z (F0 m pc ls [.int v])) (x0 : Option Nat) (x1 : Int32) (x2 : Int32) (x3 : Option Nat) (kc ks : Nat) : w_X0_coveredPart V Q x0 x1 x2 x3 G kc ks → ∀ (ls : Array Slot) (H : Heap) (locs : List Loc) (cells slots : Nat), lv_has ls 5 [(0, va_rf x0), (1, .int x1), (2, .int x2), (3, va_rf x3)] → xW V A G H → va_S A s.heap H locs → cells + kc ≤ R.cells → slots + ks ≤ R.slots → W p l e R s m args below meth c H locs cells slots Z (F0 m 0 ls []) := by
  have hx := C.1.1; have hb := C.1.2.1; have hml := C.1.2.2.1; have hown := C.1.2.2.2.1; have hts := C.1.2.2.2.2
  intro h
  intro ls H locs cells slots hl hW hS hkc hks
  refine sh_aload_n hx hb dX0_coveredPart_0 rfl (lv_at hl 3 rfl) ?_
  refine lv_iconst (v := 0) hx hb dX0_coveredPart_1 (by decide) ?_
  refine sh_aload_n hx hb dX0_coveredPart_2 rfl (lv_at hl 0 rfl) ?_
  refine lv_iload_n hx hb dX0_coveredPart_3 rfl (lv_at hl 1 rfl) ?_
  refine lv_iload_n hx hb dX0_coveredPart_4 rfl (lv_at hl 2 rfl) ?_
  obtain ⟨a1, c2, ho5, hcv5, h⟩ := h
  have hcc := h.1
  have h := h.2
  obtain ⟨c5, s6, hc5, hs5, h⟩ := h
  refine call_X1_coveredPart_V (ct_X1_coveredPart l hfl) C hW hS q1791 ho5 hcv5 hcc (le_lit hRf rfl) (le_lit hRl rfl) hc5 hs5 hkc hks hl.1 (by simp only [List.map_cons, List.map_nil, va_rf_cat]; exact Nat.le_of_ble_eq_true rfl) dX0_coveredPart_5 h (fun E G9 ce q9 H locs hX hW hS h1 h2 h3 _ => by
      by_cases c900 : E = "java/lang/IndexOutOfBoundsException"
      · have hX := wif_t hX c900
        subst c900
        refine vx_catch hown [] ⟨0, 10, 13, 19⟩ [⟨0, 10, 17, 21⟩] (htab.trans rfl) (fun z hz => absurd hz List.not_mem_nil) rfl (by decide) (hts _ q740) (va_Nw.use rfl (C.2.1.2.2.1 _ q757 rfl)) h1 h2 h3 ?_
        refine sh_astore (lv' := [(4, va_rf (some q9)), (0, va_rf x0), (1, .int x1), (2, .int x2), (3, va_rf x3)]) hx hb dX0_coveredPart_13 hl (by decide) (by simp only [List.filter_cons, List.filter_nil, va_rf_cat]; rfl) (fun ls hl => ?_)
        refine lv_iconst (v := 1) hx hb dX0_coveredPart_15 (by decide) ?_
        exact hret _ _ _ _ _ _ _ _ (k1 := 0) (k2 := 0) dX0_coveredPart_16 hW hS (by omega) (by omega) hX
      have hX := wif_f hX c900
      by_cases c901 : E = "java/lang/IllegalArgumentException"
      · have hX := wif_t hX c901
        subst c901
        refine vx_catch hown [⟨0, 10, 13, 19⟩] ⟨0, 10, 17, 21⟩ [] (htab.trans rfl) (by intro z hz; simp only [List.mem_cons, List.not_mem_nil, or_false] at hz; rcases hz with rfl <;> first | (exact Or.inr ⟨by decide, "java/lang/IndexOutOfBoundsException", hts _ q740, C.2.1.2.2.2.2.2.2.1 ("java/lang/IllegalArgumentException", "java/lang/IndexOutOfBoundsException") (by decide)⟩)) rfl (by decide) (hts _ q743) (va_Nw.use rfl (C.2.1.2.2.1 _ q441 rfl)) h1 h2 h3 ?_
        refine sh_astore (lv' := [(4, va_rf (some q9)), (0, va_rf x0), (1, .int x1), (2, .int x2), (3, va_rf x3)]) hx hb dX0_coveredPart_17 hl (by decide) (by simp only [List.filter_cons, List.filter_nil, va_rf_cat]; rfl) (fun ls hl => ?_)
        refine lv_iconst (v := 2) hx hb dX0_coveredPart_19 (by decide) ?_
        exact hret _ _ _ _ _ _ _ _ (k1 := 0) (k2 := 0) dX0_coveredPart_20 hW hS (by omega) (by omega) hX
      have hX := wif_f hX c901
      exact False.elim hX) (fun r3 G4 H locs h hW hS _ hkc hks => ?_)
  refine lv_f2d hx hb dX0_coveredPart_8 h.1 ?_
  have h := h.2
  refine sh_dast C hW hS h dX0_coveredPart_9 (fun G7 H locs hW hS h => ?_)
  refine lv_goto (tgt := 21) hx hb dX0_coveredPart_10 (by decide) ?_
  refine lv_iconst (v := 0) hx hb dX0_coveredPart_21 (by decide) ?_
  exact hret _ _ _ _ _ _ _ _ dX0_coveredPart_22 hW hS hkc hks h
theorem ct_X0_coveredPart (l : Launch) (hfl : l.stackTraces = false) : CT_X0_coveredPart l 33 811 w_X0_coveredPart := by
  intro V sz G Q x0 x1 x2 x3 kc ks
  refine gx_ofWH (cc := cX0_coveredPart) (maxL := 5) (ret := (some .int)) (hh := [(0, 10, 13, 19), (0, 10, 17, 21)]) (by decide) rfl ?_
  intro p e s m args below meth c s₁ B hml htab hv
  obtain ⟨rfl, hsz, hW, hK, hZ, h⟩ := hv
  subst hsz
  have hts := atoms_spec (ws := (wsW_ yX0_coveredPart cX0_coveredPart 5 (some .int) [(0, 10, 13, 19), (0, 10, 17, 21)])) B.pre
  have hts : ∀ w ∈ lw_all, w.before _ s = true := fun w h => hts w (List.mem_cons_of_mem _ h)
  have key : ∃ ls : Array Slot, entryFrame m ([va_rf x0, .int x1, .int x2, va_rf x3] : List Value).toArray 5 = F0 m 0 ls [] ∧ lv_has ls 5 [(0, va_rf x0), (1, .int x1), (2, .int x2), (3, va_rf x3)] := by
    cases x0 <;> cases x3 <;> (refine ⟨_, by rw [lg_entry_eq], ?_⟩; exact lv_entry _ (Nat.le_of_ble_eq_true rfl))
  obtain ⟨ls, hfr, hl⟩ := key
  rw [hfr]
  exact wk_X0_coveredPart Q ⟨⟨B.exec, B.bytes, hml, findClass_of_methodNamed B.named, hts⟩, hK, hZ, fun q h => Or.inr h⟩ hfl htab (Nat.le_refl _) (Nat.le_refl _) G (fun v G pc ls H locs cells slots _ _ hd hW1 hS hkc hks hQ => W.widen (k := kc) (n := ks) (Nat.le_trans (Nat.le_add_right _ _) hkc) (Nat.le_trans (Nat.le_add_right _ _) hks) (W.iret (v := v) B.exec B.bytes B.returns (fun t ht _ => ⟨⟨v, G, rfl, hQ, by rw [← ht] at hW1; exact hW1⟩, hS.F ht⟩) hS.2.2 hd)) x0 x1 x2 x3 kc ks h ls _ [] 0 0 hl hW va_S.rf (by show 0 + kc ≤ kc; omega) (by show 0 + ks ≤ ks; omega)
def CT_X1_init (l : Launch) (fr lo : Nat) (w : XV → (GM → Prop) → Nat → GM → Nat → Nat → Prop) : Prop := ∀ (V : XV) (sz : Nat) (G : GM) (Q : GM → Prop) (x0 : Nat) (kc ks : Nat), Met l yX1_init (ws_ yX1_init cX1_init 1 none) { frames := fr, cells := kc, slots := ks, locals := lo } (va_Pc [.ref x0] (fun U => U.heap.size = sz ∧ xW V (xA G sz) G U.heap ∧ xK V U ∧ xZ V (xA G sz) U U.heap ∧ w V Q x0 G kc ks)) (va_Qv (fun (u : GM) => Q u) (fun u t => xW V (xA G sz) u t.heap) (xA G sz)) kc ks (xA G sz)
def w_X1_init (V : XV) (Q : GM → Prop) (x0 : Nat) (G : GM) (kc : Nat) (ks : Nat) : Prop := gNw G 15 3 xdf_J2 kc ks (fun q1 G2 => w_J2_init V (fun G3 => gPF G3 0 (some x0) (va_rf (some q1)) (fun G4 => gNa G4 6 (fun N => (N, .inr (.inr (.inr (.inr (fun _ => none)))))) (12 : Int32) (kc - 1) (ks - 3) (fun q5 n6 G7 => gPF G7 1 (some x0) (va_rf (some q5)) (fun G8 => gNw G8 15 3 xdf_J2 ((kc - 1) - 1) ((ks - 3) - n6) (fun q9 G10 => w_J2_init V (fun G11 => gPF G11 3 (some x0) (va_rf (some q9)) (fun G12 => gNw G12 16 4 xdf_J4 (((kc - 1) - 1) - 1) (((ks - 3) - n6) - 3) (fun q13 G14 => ∃ c16 s17 : Nat, c16 ≤ ((((kc - 1) - 1) - 1) - 1) ∧ s17 ≤ ((((ks - 3) - n6) - 3) - 4) ∧ (w_J4_init V (fun G15 => gPF G15 4 (some x0) (va_rf (some q13)) (fun G18 => gNw G18 1 5 xdf_X2 (((((kc - 1) - 1) - 1) - 1) - c16) (((((ks - 3) - n6) - 3) - 4) - s17) (fun q19 G20 => ∃ c22 s23 : Nat, c22 ≤ ((((((kc - 1) - 1) - 1) - 1) - c16) - 1) ∧ s23 ≤ ((((((ks - 3) - n6) - 3) - 4) - s17) - 5) ∧ (w_X2_init V (fun G21 => gPF G21 5 (some x0) (va_rf (some q19)) (fun G24 => Q G24)) q19 G20 c22 s23)))) q13 G14 c16 s17)))) q9 G10))))) q1 G2)
set_option maxRecDepth 100000 in
set_option maxHeartbeats 4000000 in
theorem wk_X1_init {p : Program} {l : Launch} {e : Env} {R : Room} {s : State} {m : MethodId} {args : Array Value} {below : List Frame} {meth : Method} {c : Code} {Z : State → Prop} {A : Nat → Prop} {V : XV} (Q : GM → Prop) (C : xC p m c s args cX1_init 1 RX1 V A) (hin : meth.name = "<init>") (hRf : 4 ≤ R.frames) (hRl : 80 ≤ R.locals) (G : GM) (hret : ∀ (G : GM) (pc : Nat) (ls : Array Slot) (H : Heap) (locs : List Loc) (cells slots : Nat) {k1 k2 : Nat}, decode cX1_init pc = .ok (.return_, 1) → xW V A G H → va_S A s.heap H locs → cells + k1 ≤ R.cells → slots + k2 ≤ R.slots → Q G → W p l e R s m args below meth c H locs cells slots Z (F0 m pc ls [])) (x0 : Nat) (kc ks : Nat) : w_X1_init V Q x0 G kc ks → ∀ (ls : Array Slot) (H : Heap) (locs : List Loc) (cells slots : Nat), lv_has ls 1 [(0, va_rf (some x0))] → xW V A G H → va_S A s.heap H locs → cells + kc ≤ R.cells → slots + ks ≤ R.slots → W p l e R s m args below meth c H locs cells slots Z (F0 m 0 ls []) := by
  have hx := C.1.1; have hb := C.1.2.1; have hml := C.1.2.2.1; have hown := C.1.2.2.2.1; have hts := C.1.2.2.2.2
  intro h
  intro ls H locs cells slots hl hW hS hkc hks
  refine sh_aload_n hx hb dX1_init_0 rfl (lv_at hl 0 rfl) ?_
  refine sh_objInit C q109 q110 q111 hl.1 (le_lit hRf rfl) (le_lit hRl rfl) (Nat.le_of_ble_eq_true rfl) dX1_init_1 ?_
  refine sh_aload_n hx hb dX1_init_4 rfl (lv_at hl 0 rfl) ?_
  refine sh_new C hW hS (ci := 15) rfl (by decide) q112 q113 q62 tyJ2_ok xdf_J2_ok h hkc hks dX1_init_5 (fun q1 G2 H hW hS h hkc hks => ?_)
  refine lv_dup hx hb dX1_init_8 (va_rf_cat _) ?_
  refine call_J2_init_I (ct_J2_init l) C hW hS q114 rfl (le_lit hRf rfl) (le_lit hRl rfl) ⟨Nat.le_trans (Nat.le_add_right _ _) hkc, Nat.le_trans (Nat.le_add_right _ _) hks⟩ hl.1 (Nat.le_of_ble_eq_true rfl) dX1_init_9 h (fun G3 H locs h hW hS _ => ?_)
  refine sh_putF C hW hS xFb_0 q201 (fun _ h => h) hin rfl xFd_0 (rf_nar_o _ _) (rf_fit_o _ _) h dX1_init_12 (fun G4 H locs hW hS h => ?_)
  refine sh_aload_n hx hb dX1_init_15 rfl (lv_at hl 0 rfl) ?_
  refine lv_bipush (v := 12) hx hb dX1_init_16 (by decide) ?_
  refine sh_newq C hW hS (t := 6) rfl (by decide) q138 q139 h hkc hks dX1_init_18 (fun q5 n6 G7 H hW hS h hN hkc hks => ?_)
  refine sh_put C hW hS xFb_1 q202 (fun _ h => h) xFd_1 (rf_nar_a _ _) (rf_fit_a _ _) h dX1_init_21 (fun G8 H locs hW hS h => ?_)
  refine sh_aload_n hx hb dX1_init_24 rfl (lv_at hl 0 rfl) ?_
  refine sh_new C hW hS (ci := 15) rfl (by decide) q112 q113 q62 tyJ2_ok xdf_J2_ok h hkc hks dX1_init_25 (fun q9 G10 H hW hS h hkc hks => ?_)
  refine lv_dup hx hb dX1_init_28 (va_rf_cat _) ?_
  refine call_J2_init_I (ct_J2_init l) C hW hS q114 rfl (le_lit hRf rfl) (le_lit hRl rfl) ⟨Nat.le_trans (Nat.le_add_right _ _) hkc, Nat.le_trans (Nat.le_add_right _ _) hks⟩ hl.1 (Nat.le_of_ble_eq_true rfl) dX1_init_29 h (fun G11 H locs h hW hS _ => ?_)
  refine sh_putF C hW hS xFb_3 q204 (fun _ h => h) hin rfl xFd_3 (rf_nar_o _ _) (rf_fit_o _ _) h dX1_init_32 (fun G12 H locs hW hS h => ?_)
  refine sh_aload_n hx hb dX1_init_35 rfl (lv_at hl 0 rfl) ?_
  refine sh_new C hW hS (ci := 16) rfl (by decide) q140 q141 q64 tyJ4_ok xdf_J4_ok h hkc hks dX1_init_36 (fun q13 G14 H hW hS h hkc hks => ?_)
  refine lv_dup hx hb dX1_init_39 (va_rf_cat _) ?_
  obtain ⟨c16, s17, hc40, hs40, h⟩ := h
  refine call_J4_init_I (ct_J4_init l) C hW hS q142 rfl (le_lit hRf rfl) (le_lit hRl rfl) hc40 hs40 hkc hks hl.1 (Nat.le_of_ble_eq_true rfl) dX1_init_40 h (fun G15 H locs h hW hS _ hkc hks => ?_)
  refine sh_putF C hW hS xFb_4 q205 (fun _ h => h) hin rfl xFd_4 (rf_nar_o _ _) (rf_fit_o _ _) h dX1_init_43 (fun G18 H locs hW hS h => ?_)
  refine sh_aload_n hx hb dX1_init_46 rfl (lv_at hl 0 rfl) ?_
  refine sh_new C hW hS (ci := 1) rfl (by decide) q173 q174 q67 tyX2_ok xdf_X2_ok h hkc hks dX1_init_47 (fun q19 G20 H hW hS h hkc hks => ?_)
  refine lv_dup hx hb dX1_init_50 (va_rf_cat _) ?_
  obtain ⟨c22, s23, hc51, hs51, h⟩ := h
  refine call_X2_init_IN (ct_X2_init l) C hW hS q175 rfl (le_lit hRf rfl) (le_lit hRl rfl) hc51 hs51 hkc hks hl.1 (Nat.le_of_ble_eq_true rfl) dX1_init_51 h (fun G21 H locs h hW hS _ hkc hks => ?_)
  refine sh_putF C hW hS xFb_5 q206 (fun _ h => h) hin rfl xFd_5 (rf_nar_o _ _) (rf_fit_o _ _) h dX1_init_54 (fun G24 H locs hW hS h => ?_)
  exact hret _ _ _ _ _ _ _ dX1_init_57 hW hS hkc hks h
theorem ct_X1_init (l : Launch) : CT_X1_init l 4 80 w_X1_init := by
  intro V sz G Q x0 kc ks
  refine Met.ofW (cc := cX1_init) (maxL := 1) (ret := none) (by decide) rfl ?_
  intro p e s m args below meth c s₁ B hml hv
  obtain ⟨rfl, hsz, hW, hK, hZ, h⟩ := hv
  subst hsz
  have hts := atoms_spec (ws := (ws_ yX1_init cX1_init 1 none)) B.pre
  have hts : ∀ w ∈ lw_all, w.before _ s = true := fun w h => hts w (List.mem_cons_of_mem _ h)
  have hl := lv_entry ([.ref x0]) (n := 1) (Nat.le_of_ble_eq_true rfl)
  rw [lg_entry_eq]
  generalize (lg_sl ([.ref x0]) ++ List.replicate (1 - (lg_sl ([.ref x0])).length) Slot.unset).toArray = ls at hl ⊢
  exact wk_X1_init Q ⟨⟨B.exec, B.bytes, hml, findClass_of_methodNamed B.named, hts⟩, hK, hZ, fun q h => Or.inr h⟩ (name_of_methodNamed B.named B.method).1 (Nat.le_refl _) (Nat.le_refl _) G (fun G pc ls H locs cells slots _ _ hd hW1 hS hkc hks hQ => W.widen (k := kc) (n := ks) (Nat.le_trans (Nat.le_add_right _ _) hkc) (Nat.le_trans (Nat.le_add_right _ _) hks) (W.vret B.exec B.bytes B.returns (fun t ht _ => ⟨⟨G, rfl, hQ, by rw [← ht] at hW1; exact hW1⟩, hS.F ht⟩) hS.2.2 hd)) x0 kc ks h ls _ [] 0 0 hl hW va_S.rf (by show 0 + kc ≤ kc; omega) (by show 0 + ks ≤ ks; omega)
def CT_X1_clear (l : Launch) (fr lo : Nat) (w : XV → (Int32 → GM → Prop) → Nat → GM → Nat → Nat → Prop) : Prop := ∀ (V : XV) (sz : Nat) (G : GM) (Q : Int32 → GM → Prop) (x0 : Nat) (kc ks : Nat), Met l yX1_clear (ws_ yX1_clear cX1_clear 2 (some .int)) { frames := fr, cells := kc, slots := ks, locals := lo } (va_Pc [.ref x0] (fun U => U.heap.size = sz ∧ xW V (xA G sz) G U.heap ∧ xK V U ∧ xZ V (xA G sz) U U.heap ∧ w V Q x0 G kc ks)) (va_Qi (fun r (u : GM) => Q r u) (fun u t => xW V (xA G sz) u t.heap) (xA G sz)) kc ks (xA G sz)
def w_X1_clear (V : XV) (Q : Int32 → GM → Prop) (x0 : Nat) (G : GM) (kc : Nat) (ks : Nat) : Prop := gGR G 0 (some x0) (fun v1 => gRcv G v1 (fun a2 c3 => (c3 % 64 = 15) ∧ (w_J2_size V (fun r4 => gGR G 0 (some x0) (fun v5 => gRcv G v5 (fun a6 c7 => (c7 % 64 = 15) ∧ (w_J2_clear V (fun G8 => gNa G8 6 (fun N => (N, .inr (.inr (.inr (.inr (fun _ => none)))))) (12 : Int32) kc ks (fun q9 n10 G11 => gPF G11 1 (some x0) (va_rf (some q9)) (fun G12 => gPF G12 2 (some x0) (.int (0 : Int32)) (fun G13 => gGR G13 3 (some x0) (fun v14 => gRcv G13 v14 (fun a15 c16 => (c16 % 64 = 15) ∧ (w_J2_clear V (fun G17 => gGR G17 4 (some x0) (fun v18 => gRcv G17 v18 (fun a19 c20 => (c20 % 64 = 16) ∧ (∃ c22 s23 : Nat, c22 ≤ (kc - 1) ∧ s23 ≤ (ks - n10) ∧ (w_J4_setLength V (fun G21 => Q r4 G21) a19 (0 : Int32) G17 c22 s23))))) a15 G13))))))) a6 G)))) a2 G)))
set_option maxRecDepth 100000 in
set_option maxHeartbeats 4000000 in
theorem wk_X1_clear {p : Program} {l : Launch} {e : Env} {R : Room} {s : State} {m : MethodId} {args : Array Value} {below : List Frame} {meth : Method} {c : Code} {Z : State → Prop} {A : Nat → Prop} {V : XV} (Q : Int32 → GM → Prop) (C : xC p m c s args cX1_clear 2 RX1 V A) (hRf : 16 ≤ R.frames) (hRl : 289 ≤ R.locals) (G : GM) (hret : ∀ (v : Int32) (G : GM) (pc : Nat) (ls : Array Slot) (H : Heap) (locs : List Loc) (cells slots : Nat) {k1 k2 : Nat}, decode cX1_clear pc = .ok (.ireturn, 1) → xW V A G H → va_S A s.heap H locs → cells + k1 ≤ R.cells → slots + k2 ≤ R.slots → Q v G → W p l e R s m args below meth c H locs cells slots Z (F0 m pc ls [.int v])) (x0 : Nat) (kc ks : Nat) : w_X1_clear V Q x0 G kc ks → ∀ (ls : Array Slot) (H : Heap) (locs : List Loc) (cells slots : Nat), lv_has ls 2 [(0, va_rf (some x0))] → xW V A G H → va_S A s.heap H locs → cells + kc ≤ R.cells → slots + ks ≤ R.slots → W p l e R s m args below meth c H locs cells slots Z (F0 m 0 ls []) := by
  have hx := C.1.1; have hb := C.1.2.1; have hml := C.1.2.2.1; have hown := C.1.2.2.2.1; have hts := C.1.2.2.2.2
  intro h
  intro ls H locs cells slots hl hW hS hkc hks
  refine sh_aload_n hx hb dX1_clear_0 rfl (lv_at hl 0 rfl) ?_
  obtain ⟨v1, h1, h⟩ := h
  refine sh_get C hW xFb_0 q201 (fun _ h => h) h1 dX1_clear_1 ?_
  obtain ⟨a2, c3, ho4, hcv4, h⟩ := h
  have hcc := h.1
  have h := h.2
  refine call_J2_size_F15_List (ct_J2_size l) C hW hS q225 ho4 hcv4 hcc (le_lit hRf rfl) (le_lit hRl rfl) ⟨Nat.le_trans (Nat.le_add_right _ _) hkc, Nat.le_trans (Nat.le_add_right _ _) hks⟩ hl.1 (Nat.le_of_ble_eq_true rfl) dX1_clear_4 h (fun r4 H locs h hW hS _ => ?_)
  refine lv_istore_n (lv' := [(1, .int r4), (0, va_rf (some x0))]) hx hb dX1_clear_9 rfl hl (by decide) rfl (fun ls hl => ?_)
  refine sh_aload_n hx hb dX1_clear_10 rfl (lv_at hl 1 rfl) ?_
  obtain ⟨v5, h1, h⟩ := h
  refine sh_get C hW xFb_0 q201 (fun _ h => h) h1 dX1_clear_11 ?_
  obtain ⟨a6, c7, ho14, hcv14, h⟩ := h
  have hcc := h.1
  have h := h.2
  refine call_J2_clear_F15_List (ct_J2_clear l) C hW hS q235 ho14 hcv14 hcc (le_lit hRf rfl) (le_lit hRl rfl) ⟨Nat.le_trans (Nat.le_add_right _ _) hkc, Nat.le_trans (Nat.le_add_right _ _) hks⟩ hl.1 (Nat.le_of_ble_eq_true rfl) dX1_clear_14 h (fun G8 H locs h hW hS _ => ?_)
  refine sh_aload_n hx hb dX1_clear_19 rfl (lv_at hl 1 rfl) ?_
  refine lv_bipush (v := 12) hx hb dX1_clear_20 (by decide) ?_
  refine sh_newq C hW hS (t := 6) rfl (by decide) q138 q139 h hkc hks dX1_clear_22 (fun q9 n10 G11 H hW hS h hN hkc hks => ?_)
  refine sh_put C hW hS xFb_1 q202 (fun _ h => h) xFd_1 (rf_nar_a _ _) (rf_fit_a _ _) h dX1_clear_25 (fun G12 H locs hW hS h => ?_)
  refine sh_aload_n hx hb dX1_clear_28 rfl (lv_at hl 1 rfl) ?_
  refine lv_iconst (v := 0) hx hb dX1_clear_29 (by decide) ?_
  refine sh_put C hW hS xFb_2 q203 (fun _ h => h) xFd_2 rfl rfl h dX1_clear_30 (fun G13 H locs hW hS h => ?_)
  refine sh_aload_n hx hb dX1_clear_33 rfl (lv_at hl 1 rfl) ?_
  obtain ⟨v14, h1, h⟩ := h
  refine sh_get C hW xFb_3 q204 (fun _ h => h) h1 dX1_clear_34 ?_
  obtain ⟨a15, c16, ho37, hcv37, h⟩ := h
  have hcc := h.1
  have h := h.2
  refine call_J2_clear_F15_List (ct_J2_clear l) C hW hS q235 ho37 hcv37 hcc (le_lit hRf rfl) (le_lit hRl rfl) ⟨Nat.le_trans (Nat.le_add_right _ _) hkc, Nat.le_trans (Nat.le_add_right _ _) hks⟩ hl.1 (Nat.le_of_ble_eq_true rfl) dX1_clear_37 h (fun G17 H locs h hW hS _ => ?_)
  refine sh_aload_n hx hb dX1_clear_42 rfl (lv_at hl 1 rfl) ?_
  obtain ⟨v18, h1, h⟩ := h
  refine sh_get C hW xFb_4 q205 (fun _ h => h) h1 dX1_clear_43 ?_
  refine lv_iconst (v := 0) hx hb dX1_clear_46 (by decide) ?_
  obtain ⟨a19, c20, ho47, hcv47, h⟩ := h
  have hcc := h.1
  have h := h.2
  obtain ⟨c22, s23, hc47, hs47, h⟩ := h
  refine call_J4_setLength_V (ct_J4_setLength l) C hW hS q243 ho47 hcv47 hcc (le_lit hRf rfl) (le_lit hRl rfl) hc47 hs47 hkc hks hl.1 (Nat.le_of_ble_eq_true rfl) dX1_clear_47 h (fun G21 H locs h hW hS _ hkc hks => ?_)
  refine lv_iload_n hx hb dX1_clear_50 rfl (lv_at hl 0 rfl) ?_
  exact hret _ _ _ _ _ _ _ _ dX1_clear_51 hW hS hkc hks h
theorem ct_X1_clear (l : Launch) : CT_X1_clear l 16 289 w_X1_clear := by
  intro V sz G Q x0 kc ks
  refine Met.ofW (cc := cX1_clear) (maxL := 2) (ret := (some .int)) (by decide) rfl ?_
  intro p e s m args below meth c s₁ B hml hv
  obtain ⟨rfl, hsz, hW, hK, hZ, h⟩ := hv
  subst hsz
  have hts := atoms_spec (ws := (ws_ yX1_clear cX1_clear 2 (some .int))) B.pre
  have hts : ∀ w ∈ lw_all, w.before _ s = true := fun w h => hts w (List.mem_cons_of_mem _ h)
  have hl := lv_entry ([.ref x0]) (n := 2) (Nat.le_of_ble_eq_true rfl)
  rw [lg_entry_eq]
  generalize (lg_sl ([.ref x0]) ++ List.replicate (2 - (lg_sl ([.ref x0])).length) Slot.unset).toArray = ls at hl ⊢
  exact wk_X1_clear Q ⟨⟨B.exec, B.bytes, hml, findClass_of_methodNamed B.named, hts⟩, hK, hZ, fun q h => Or.inr h⟩ (Nat.le_refl _) (Nat.le_refl _) G (fun v G pc ls H locs cells slots _ _ hd hW1 hS hkc hks hQ => W.widen (k := kc) (n := ks) (Nat.le_trans (Nat.le_add_right _ _) hkc) (Nat.le_trans (Nat.le_add_right _ _) hks) (W.iret (v := v) B.exec B.bytes B.returns (fun t ht _ => ⟨⟨v, G, rfl, hQ, by rw [← ht] at hW1; exact hW1⟩, hS.F ht⟩) hS.2.2 hd)) x0 kc ks h ls _ [] 0 0 hl hW va_S.rf (by show 0 + kc ≤ kc; omega) (by show 0 + ks ≤ ks; omega)
