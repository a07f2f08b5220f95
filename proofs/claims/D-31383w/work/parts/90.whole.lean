/-! from the entry to the end, over the plain law -/
theorem whole_of_plain (hpl : ∀ (V : XV) (G0 : GM) (b L : Nat) (xs : Nat → Int32), xStart V G0 b L xs → w_L_law V (fun v => v = 1) b G0 1200384 5485738) {p : Program} {e : Env} {s : State} {m : MethodId} {below : List Frame} {meth : Method} {c : Code} (l : Launch) (hflags : l.flags = flags0) {b L : Nat} {xs : Nat → Int32} (hL : L ≤ 384) (C0 : lw_At p s m meth c b L xs) : W p l e room_1 s m #[Value.ref b] below meth c s.heap [] 0 0 (lw_Z below #[Value.ref b] s) (entryFrame m ([Value.ref b] : List Value).toArray 10) := by
  obtain ⟨hx, hb, hret, hml, hown, hts, hX, hbl, hlocks, hgv⟩ := C0
  obtain ⟨V, G0, hK, hZ, hW, hVg, hst⟩ := x_start (p := p) (m := m) (meth := meth) (c := c) hL hts hX hgv
  have hta : ∀ w ∈ lw_all, w.before #[Value.ref b] s = true := fun w h => hts w (lw_all_tbl h)
  have C : xC p m c s #[Value.ref b] cL_law 10 RX0 V (fun q => s.heap.size ≤ q) := ⟨⟨hx, hb, hml, hown, hta⟩, hK, hZ, fun q h => h⟩
  have hfl : l.stackTraces = false := by
    unfold Launch.stackTraces
    rw [hflags]
    decide +kernel
  have hl := lv_entry ([.ref b]) (n := 10) (Nat.le_of_ble_eq_true rfl)
  rw [lg_entry_eq]
  generalize (lg_sl ([.ref b]) ++ List.replicate (10 - (lg_sl ([.ref b])).length) Slot.unset).toArray = ls at hl ⊢
  refine wk_L_law (fun v => v = 1) C (fun q h => by rw [hVg]; exact h) hfl (by decide) (by decide) (fun v G pc ls H locs cells slots k1 k2 hdg hW hS hc hs hz hQ => ?_) b G0 1200384 5485738 (hpl V G0 b L xs hst) ls s.heap [] 0 0 hl hW va_S.rf (by decide) (by decide)
  subst hQ
  exact W.widen (k := 1200384) (n := 5485738) (Nat.le_trans (Nat.le_add_right _ _) hc) (Nat.le_trans (Nat.le_add_right _ _) hs) (va_forget (fun q hq => hS.2.2 q hq) (lw_ret hx hb hret hlocks hdg))
