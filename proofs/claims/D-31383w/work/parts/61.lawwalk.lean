/-- what is left of a budget -/
theorem lw_bud {n k c R : Nat} (h : n ≤ k) (hk : c + k ≤ R) : (c + n) + (k - n) ≤ R := by omega
theorem call_X0_setMatte_S {p : Program} {l : Launch} {e : Env} {R : Room} {s : State} {m : MethodId} {args : Array Value} {below : List Frame} {meth : Method} {c : Code} {H : Heap} {locs : List Loc} {cells slots : Nat} {Z : State → Prop} {A : Nat → Prop} {cc : ByteArray} {nL pc : Nat} {ls : Array Slot} {rest : List Value} {own : String} {index fr lo : Nat} {w : XV → (Int32 → GM → Prop) → (Option Nat) → Int32 → Int32 → Int32 → (Option Nat) → GM → Nat → Nat → Prop} {V : XV} {G : GM} {kc ks c1 s1 : Nat} {x0 : Option Nat} {x1 : Int32} {x2 : Int32} {x3 : Int32} {x4 : Option Nat} (hM : CT_X0_setMatte l fr lo w) (C : xC p m c s args cc nL own V A) (hW : xW V A G H) (hS : va_S A s.heap H locs) (hlink : Cond.methodLink own index yX0_setMatte ∈ lw_all) (hRf : fr + 1 ≤ R.frames) (hRl : 8 + (6 + 11) + lo ≤ R.locals) (hc1 : c1 ≤ kc) (hs1 : s1 ≤ ks) (hkc : cells + kc ≤ R.cells) (hks : slots + ks ≤ R.slots) (hz : ls.size = nL) (hr8 : (rest.map fun v => v.category).sum ≤ 8) (hdg : decode cc pc = .ok (.invokestatic index, 3)) {Q1 : Int32 → GM → Prop} (h : w V Q1 x0 x1 x2 x3 x4 G c1 s1) (kk : ∀ (r : Int32) (G1 : GM) (H1 : Heap) (locs1 : List Loc), Q1 r G1 → xW V A G1 H1 → va_S A s.heap H1 locs1 → xFr V G G1 H H1 → (cells + c1) + (kc - c1) ≤ R.cells → (slots + s1) + (ks - s1) ≤ R.slots → W p l e R s m args below meth c H1 locs1 (cells + c1) (slots + s1) Z (F0 m (pc + 3) ls (.int r :: rest))) : W p l e R s m args below meth c H locs cells slots Z (F0 m pc ls (va_rf x4 :: .int x3 :: .int x2 :: .int x1 :: va_rf x0 :: rest)) := by
  exact rg_i3w (vx_runSW (As := [va_rf x0, .int x1, .int x2, .int x3, va_rf x4]) (rest := rest) C.1 (hM V H.size G Q1 x0 x1 x2 x3 x4 c1 s1) (vx_cwSW 5 C.1.2.2.2.2 (lw_SW hlink q1204 q58 q1205) rfl rfl rfl (by decide +kernel) ⟨hRf, hRl⟩) ⟨fun a U g mk q => by obtain ⟨q0, q1, qW, qK, qZ, qw⟩ := q; exact ⟨q0, q1, qW, xK.same (u := U) (U := U.calling g mk a) rfl qK, xZ.moved (u := U) (U := U.calling g mk a) (Vm.Alike.refl U.vm) qZ, qw⟩, fun U hU hWm => ⟨rfl, by rw [hU], by rw [hU]; exact hW.self _, C.2.1.warm hWm, xZ.call C.2.2.1 hW hS C.2.2.2 hU hWm.alike, h⟩⟩ rfl rfl hz rfl (lv_room hr8) hdg ⟨by omega, by omega⟩) hW hS C.2.2.2 (fun r G1 H1 locs1 hp hW1 hS1 hF1 => kk r G1 H1 locs1 hp hW1 hS1 hF1 (by omega) (by omega))
theorem call_X0_map_S {p : Program} {l : Launch} {e : Env} {R : Room} {s : State} {m : MethodId} {args : Array Value} {below : List Frame} {meth : Method} {c : Code} {H : Heap} {locs : List Loc} {cells slots : Nat} {Z : State → Prop} {A : Nat → Prop} {cc : ByteArray} {nL pc : Nat} {ls : Array Slot} {rest : List Value} {own : String} {index fr lo : Nat} {w : XV → (Int32 → GM → Prop) → (Option Nat) → Int32 → Int32 → Int32 → Int32 → Int32 → (Option Nat) → GM → Nat → Nat → Prop} {V : XV} {G : GM} {kc ks c1 s1 : Nat} {x0 : Option Nat} {x1 : Int32} {x2 : Int32} {x3 : Int32} {x4 : Int32} {x5 : Int32} {x6 : Option Nat} (hM : CT_X0_map l fr lo w) (C : xC p m c s args cc nL own V A) (hW : xW V A G H) (hS : va_S A s.heap H locs) (hlink : Cond.methodLink own index yX0_map ∈ lw_all) (hRf : fr + 1 ≤ R.frames) (hRl : 8 + (8 + 11) + lo ≤ R.locals) (hc1 : c1 ≤ kc) (hs1 : s1 ≤ ks) (hkc : cells + kc ≤ R.cells) (hks : slots + ks ≤ R.slots) (hz : ls.size = nL) (hr8 : (rest.map fun v => v.category).sum ≤ 8) (hdg : decode cc pc = .ok (.invokestatic index, 3)) {Q1 : Int32 → GM → Prop} (h : w V Q1 x0 x1 x2 x3 x4 x5 x6 G c1 s1) (kk : ∀ (r : Int32) (G1 : GM) (H1 : Heap) (locs1 : List Loc), Q1 r G1 → xW V A G1 H1 → va_S A s.heap H1 locs1 → xFr V G G1 H H1 → (cells + c1) + (kc - c1) ≤ R.cells → (slots + s1) + (ks - s1) ≤ R.slots → W p l e R s m args below meth c H1 locs1 (cells + c1) (slots + s1) Z (F0 m (pc + 3) ls (.int r :: rest))) : W p l e R s m args below meth c H locs cells slots Z (F0 m pc ls (va_rf x6 :: .int x5 :: .int x4 :: .int x3 :: .int x2 :: .int x1 :: va_rf x0 :: rest)) := by
  exact rg_i3w (vx_runSW (As := [va_rf x0, .int x1, .int x2, .int x3, .int x4, .int x5, va_rf x6]) (rest := rest) C.1 (hM V H.size G Q1 x0 x1 x2 x3 x4 x5 x6 c1 s1) (vx_cwSW 7 C.1.2.2.2.2 (lw_SW hlink q1364 q58 q1365) rfl rfl rfl (by decide +kernel) ⟨hRf, hRl⟩) ⟨fun a U g mk q => by obtain ⟨q0, q1, qW, qK, qZ, qw⟩ := q; exact ⟨q0, q1, qW, xK.same (u := U) (U := U.calling g mk a) rfl qK, xZ.moved (u := U) (U := U.calling g mk a) (Vm.Alike.refl U.vm) qZ, qw⟩, fun U hU hWm => ⟨rfl, by rw [hU], by rw [hU]; exact hW.self _, C.2.1.warm hWm, xZ.call C.2.2.1 hW hS C.2.2.2 hU hWm.alike, h⟩⟩ rfl rfl hz rfl (lv_room hr8) hdg ⟨by omega, by omega⟩) hW hS C.2.2.2 (fun r G1 H1 locs1 hp hW1 hS1 hF1 => kk r G1 H1 locs1 hp hW1 hS1 hF1 (by omega) (by omega))
theorem call_X1_clear_V {p : Program} {l : Launch} {e : Env} {R : Room} {s : State} {m : MethodId} {args : Array Value} {below : List Frame} {meth : Method} {c : Code} {H : Heap} {locs : List Loc} {cells slots : Nat} {Z : State → Prop} {A : Nat → Prop} {cc : ByteArray} {nL pc : Nat} {ls : Array Slot} {rest : List Value} {own : String} {index fr lo : Nat} {w : XV → (Int32 → GM → Prop) → Nat → GM → Nat → Nat → Prop} {V : XV} {G : GM} {o : Option Nat} {ci : Nat} {kc ks c1 s1 : Nat} {x0 : Nat} (hM : CT_X1_clear l fr lo w) (C : xC p m c s args cc nL own V A) (hW : xW V A G H) (hS : va_S A s.heap H locs) (hlink : Cond.methodLink own index yX1_clear ∈ lw_all) (ho : o = some x0) (hcv : gCi G (some x0) = some ci) (hci : ci % 64 = 0) (hRf : fr + 1 ≤ R.frames) (hRl : 8 + (2 + 11) + lo ≤ R.locals) (hc1 : c1 ≤ kc) (hs1 : s1 ≤ ks) (hkc : cells + kc ≤ R.cells) (hks : slots + ks ≤ R.slots) (hz : ls.size = nL) (hr8 : (rest.map fun v => v.category).sum ≤ 8) (hdg : decode cc pc = .ok (.invokevirtual index, 3)) {Q1 : Int32 → GM → Prop} (h : w V Q1 x0 G c1 s1) (kk : ∀ (r : Int32) (G1 : GM) (H1 : Heap) (locs1 : List Loc), Q1 r G1 → xW V A G1 H1 → va_S A s.heap H1 locs1 → xFr V G G1 H H1 → (cells + c1) + (kc - c1) ≤ R.cells → (slots + s1) + (ks - s1) ≤ R.slots → W p l e R s m args below meth c H1 locs1 (cells + c1) (slots + s1) Z (F0 m (pc + 3) ls (.int r :: rest))) : W p l e R s m args below meth c H locs cells slots Z (F0 m pc ls (va_rf o :: rest)) := by
  subst ho
  obtain ⟨fs, hG⟩ := gCi_of hcv
  exact rg_i3w (va_runV (As := []) (rest := rest) C.1 (hM V H.size G Q1 x0 c1 s1) (cwV 0 C.1.2.2.2.2 (lw_V hlink q221 q222 q59 q223) rfl rfl rfl (by decide +kernel) ⟨hRf, hRl⟩) ⟨fun a U g mk q => by obtain ⟨q0, q1, qW, qK, qZ, qw⟩ := q; exact ⟨q0, q1, qW, xK.same (u := U) (U := U.calling g mk a) rfl qK, xZ.moved (u := U) (U := U.calling g mk a) (Vm.Alike.refl U.vm) qZ, qw⟩, (hW.recv C.2.1 hG (r := (RX1, TX1, 6)) (by rw [hci]; rfl)), fun U hU hWm => ⟨rfl, by rw [hU], by rw [hU]; exact hW.self _, C.2.1.warm hWm, xZ.call C.2.2.1 hW hS C.2.2.2 hU hWm.alike, h⟩⟩ rfl rfl hz rfl (lv_room hr8) hdg ⟨by omega, by omega⟩) hW hS C.2.2.2 (fun r G1 H1 locs1 hp hW1 hS1 hF1 => kk r G1 H1 locs1 hp hW1 hS1 hF1 (by omega) (by omega))
theorem call_X0_addComposition_S {p : Program} {l : Launch} {e : Env} {R : Room} {s : State} {m : MethodId} {args : Array Value} {below : List Frame} {meth : Method} {c : Code} {H : Heap} {locs : List Loc} {cells slots : Nat} {Z : State → Prop} {A : Nat → Prop} {cc : ByteArray} {nL pc : Nat} {ls : Array Slot} {rest : List Value} {own : String} {index fr lo : Nat} {w : XV → (Int32 → GM → Prop) → (Option Nat) → (Option Nat) → GM → Nat → Nat → Prop} {V : XV} {G : GM} {kc ks c1 s1 : Nat} {x0 : Option Nat} {x1 : Option Nat} (hM : CT_X0_addComposition l fr lo w) (C : xC p m c s args cc nL own V A) (hW : xW V A G H) (hS : va_S A s.heap H locs) (hlink : Cond.methodLink own index yX0_addComposition ∈ lw_all) (hRf : fr + 1 ≤ R.frames) (hRl : 8 + (3 + 11) + lo ≤ R.locals) (hc1 : c1 ≤ kc) (hs1 : s1 ≤ ks) (hkc : cells + kc ≤ R.cells) (hks : slots + ks ≤ R.slots) (hz : ls.size = nL) (hr8 : (rest.map fun v => v.category).sum ≤ 8) (hdg : decode cc pc = .ok (.invokestatic index, 3)) {Q1 : Int32 → GM → Prop} (h : w V Q1 x0 x1 G c1 s1) (kk : ∀ (r : Int32) (G1 : GM) (H1 : Heap) (locs1 : List Loc), Q1 r G1 → xW V A G1 H1 → va_S A s.heap H1 locs1 → xFr V G G1 H H1 → (cells + c1) + (kc - c1) ≤ R.cells → (slots + s1) + (ks - s1) ≤ R.slots → W p l e R s m args below meth c H1 locs1 (cells + c1) (slots + s1) Z (F0 m (pc + 3) ls (.int r :: rest))) : W p l e R s m args below meth c H locs cells slots Z (F0 m pc ls (va_rf x1 :: va_rf x0 :: rest)) := by
  exact rg_i3w (vx_runSW (As := [va_rf x0, va_rf x1]) (rest := rest) C.1 (hM V H.size G Q1 x0 x1 c1 s1) (vx_cwSW 2 C.1.2.2.2.2 (lw_SW hlink q626 q58 q627) rfl rfl rfl (by decide +kernel) ⟨hRf, hRl⟩) ⟨fun a U g mk q => by obtain ⟨q0, q1, qW, qK, qZ, qw⟩ := q; exact ⟨q0, q1, qW, xK.same (u := U) (U := U.calling g mk a) rfl qK, xZ.moved (u := U) (U := U.calling g mk a) (Vm.Alike.refl U.vm) qZ, qw⟩, fun U hU hWm => ⟨rfl, by rw [hU], by rw [hU]; exact hW.self _, C.2.1.warm hWm, xZ.call C.2.2.1 hW hS C.2.2.2 hU hWm.alike, h⟩⟩ rfl rfl hz rfl (lv_room hr8) hdg ⟨by omega, by omega⟩) hW hS C.2.2.2 (fun r G1 H1 locs1 hp hW1 hS1 hF1 => kk r G1 H1 locs1 hp hW1 hS1 hF1 (by omega) (by omega))
theorem call_X0_addRect_S {p : Program} {l : Launch} {e : Env} {R : Room} {s : State} {m : MethodId} {args : Array Value} {below : List Frame} {meth : Method} {c : Code} {H : Heap} {locs : List Loc} {cells slots : Nat} {Z : State → Prop} {A : Nat → Prop} {cc : ByteArray} {nL pc : Nat} {ls : Array Slot} {rest : List Value} {own : String} {index fr lo : Nat} {w : XV → (Int32 → GM → Prop) → (Option Nat) → Int32 → Int32 → Int32 → Int32 → (Option Nat) → GM → Nat → Nat → Prop} {V : XV} {G : GM} {kc ks c1 s1 : Nat} {x0 : Option Nat} {x1 : Int32} {x2 : Int32} {x3 : Int32} {x4 : Int32} {x5 : Option Nat} (hM : CT_X0_addRect l fr lo w) (C : xC p m c s args cc nL own V A) (hW : xW V A G H) (hS : va_S A s.heap H locs) (hlink : Cond.methodLink own index yX0_addRect ∈ lw_all) (hRf : fr + 1 ≤ R.frames) (hRl : 8 + (7 + 11) + lo ≤ R.locals) (hc1 : c1 ≤ kc) (hs1 : s1 ≤ ks) (hkc : cells + kc ≤ R.cells) (hks : slots + ks ≤ R.slots) (hz : ls.size = nL) (hr8 : (rest.map fun v => v.category).sum ≤ 8) (hdg : decode cc pc = .ok (.invokestatic index, 3)) {Q1 : Int32 → GM → Prop} (h : w V Q1 x0 x1 x2 x3 x4 x5 G c1 s1) (kk : ∀ (r : Int32) (G1 : GM) (H1 : Heap) (locs1 : List Loc), Q1 r G1 → xW V A G1 H1 → va_S A s.heap H1 locs1 → xFr V G G1 H H1 → (cells + c1) + (kc - c1) ≤ R.cells → (slots + s1) + (ks - s1) ≤ R.slots → W p l e R s m args below meth c H1 locs1 (cells + c1) (slots + s1) Z (F0 m (pc + 3) ls (.int r :: rest))) : W p l e R s m args below meth c H locs cells slots Z (F0 m pc ls (va_rf x5 :: .int x4 :: .int x3 :: .int x2 :: .int x1 :: va_rf x0 :: rest)) := by
  exact rg_i3w (vx_runSW (As := [va_rf x0, .int x1, .int x2, .int x3, .int x4, va_rf x5]) (rest := rest) C.1 (hM V H.size G Q1 x0 x1 x2 x3 x4 x5 c1 s1) (vx_cwSW 6 C.1.2.2.2.2 (lw_SW hlink q738 q58 q739) rfl rfl rfl (by decide +kernel) ⟨hRf, hRl⟩) ⟨fun a U g mk q => by obtain ⟨q0, q1, qW, qK, qZ, qw⟩ := q; exact ⟨q0, q1, qW, xK.same (u := U) (U := U.calling g mk a) rfl qK, xZ.moved (u := U) (U := U.calling g mk a) (Vm.Alike.refl U.vm) qZ, qw⟩, fun U hU hWm => ⟨rfl, by rw [hU], by rw [hU]; exact hW.self _, C.2.1.warm hWm, xZ.call C.2.2.1 hW hS C.2.2.2 hU hWm.alike, h⟩⟩ rfl rfl hz rfl (lv_room hr8) hdg ⟨by omega, by omega⟩) hW hS C.2.2.2 (fun r G1 H1 locs1 hp hW1 hS1 hF1 => kk r G1 H1 locs1 hp hW1 hS1 hF1 (by omega) (by omega))
theorem call_X0_addStroke_S {p : Program} {l : Launch} {e : Env} {R : Room} {s : State} {m : MethodId} {args : Array Value} {below : List Frame} {meth : Method} {c : Code} {H : Heap} {locs : List Loc} {cells slots : Nat} {Z : State → Prop} {A : Nat → Prop} {cc : ByteArray} {nL pc : Nat} {ls : Array Slot} {rest : List Value} {own : String} {index fr lo : Nat} {w : XV → (Int32 → GM → Prop) → (Option Nat) → Int32 → Int32 → (Option Nat) → GM → Nat → Nat → Prop} {V : XV} {G : GM} {kc ks c1 s1 : Nat} {x0 : Option Nat} {x1 : Int32} {x2 : Int32} {x3 : Option Nat} (hM : CT_X0_addStroke l fr lo w) (C : xC p m c s args cc nL own V A) (hW : xW V A G H) (hS : va_S A s.heap H locs) (hlink : Cond.methodLink own index yX0_addStroke ∈ lw_all) (hRf : fr + 1 ≤ R.frames) (hRl : 8 + (5 + 11) + lo ≤ R.locals) (hc1 : c1 ≤ kc) (hs1 : s1 ≤ ks) (hkc : cells + kc ≤ R.cells) (hks : slots + ks ≤ R.slots) (hz : ls.size = nL) (hr8 : (rest.map fun v => v.category).sum ≤ 8) (hdg : decode cc pc = .ok (.invokestatic index, 3)) {Q1 : Int32 → GM → Prop} (h : w V Q1 x0 x1 x2 x3 G c1 s1) (kk : ∀ (r : Int32) (G1 : GM) (H1 : Heap) (locs1 : List Loc), Q1 r G1 → xW V A G1 H1 → va_S A s.heap H1 locs1 → xFr V G G1 H H1 → (cells + c1) + (kc - c1) ≤ R.cells → (slots + s1) + (ks - s1) ≤ R.slots → W p l e R s m args below meth c H1 locs1 (cells + c1) (slots + s1) Z (F0 m (pc + 3) ls (.int r :: rest))) : W p l e R s m args below meth c H locs cells slots Z (F0 m pc ls (va_rf x3 :: .int x2 :: .int x1 :: va_rf x0 :: rest)) := by
  exact rg_i3w (vx_runSW (As := [va_rf x0, .int x1, .int x2, va_rf x3]) (rest := rest) C.1 (hM V H.size G Q1 x0 x1 x2 x3 c1 s1) (vx_cwSW 4 C.1.2.2.2.2 (lw_SW hlink q883 q58 q884) rfl rfl rfl (by decide +kernel) ⟨hRf, hRl⟩) ⟨fun a U g mk q => by obtain ⟨q0, q1, qW, qK, qZ, qw⟩ := q; exact ⟨q0, q1, qW, xK.same (u := U) (U := U.calling g mk a) rfl qK, xZ.moved (u := U) (U := U.calling g mk a) (Vm.Alike.refl U.vm) qZ, qw⟩, fun U hU hWm => ⟨rfl, by rw [hU], by rw [hU]; exact hW.self _, C.2.1.warm hWm, xZ.call C.2.2.1 hW hS C.2.2.2 hU hWm.alike, h⟩⟩ rfl rfl hz rfl (lv_room hr8) hdg ⟨by omega, by omega⟩) hW hS C.2.2.2 (fun r G1 H1 locs1 hp hW1 hS1 hF1 => kk r G1 H1 locs1 hp hW1 hS1 hF1 (by omega) (by omega))
theorem call_X0_addPoint_S {p : Program} {l : Launch} {e : Env} {R : Room} {s : State} {m : MethodId} {args : Array Value} {below : List Frame} {meth : Method} {c : Code} {H : Heap} {locs : List Loc} {cells slots : Nat} {Z : State → Prop} {A : Nat → Prop} {cc : ByteArray} {nL pc : Nat} {ls : Array Slot} {rest : List Value} {own : String} {index fr lo : Nat} {w : XV → (Int32 → GM → Prop) → (Option Nat) → Int32 → Int32 → Int32 → (Option Nat) → GM → Nat → Nat → Prop} {V : XV} {G : GM} {kc ks c1 s1 : Nat} {x0 : Option Nat} {x1 : Int32} {x2 : Int32} {x3 : Int32} {x4 : Option Nat} (hM : CT_X0_addPoint l fr lo w) (C : xC p m c s args cc nL own V A) (hW : xW V A G H) (hS : va_S A s.heap H locs) (hlink : Cond.methodLink own index yX0_addPoint ∈ lw_all) (hRf : fr + 1 ≤ R.frames) (hRl : 8 + (6 + 11) + lo ≤ R.locals) (hc1 : c1 ≤ kc) (hs1 : s1 ≤ ks) (hkc : cells + kc ≤ R.cells) (hks : slots + ks ≤ R.slots) (hz : ls.size = nL) (hr8 : (rest.map fun v => v.category).sum ≤ 8) (hdg : decode cc pc = .ok (.invokestatic index, 3)) {Q1 : Int32 → GM → Prop} (h : w V Q1 x0 x1 x2 x3 x4 G c1 s1) (kk : ∀ (r : Int32) (G1 : GM) (H1 : Heap) (locs1 : List Loc), Q1 r G1 → xW V A G1 H1 → va_S A s.heap H1 locs1 → xFr V G G1 H H1 → (cells + c1) + (kc - c1) ≤ R.cells → (slots + s1) + (ks - s1) ≤ R.slots → W p l e R s m args below meth c H1 locs1 (cells + c1) (slots + s1) Z (F0 m (pc + 3) ls (.int r :: rest))) : W p l e R s m args below meth c H locs cells slots Z (F0 m pc ls (va_rf x4 :: .int x3 :: .int x2 :: .int x1 :: va_rf x0 :: rest)) := by
  exact rg_i3w (vx_runSW (As := [va_rf x0, .int x1, .int x2, .int x3, va_rf x4]) (rest := rest) C.1 (hM V H.size G Q1 x0 x1 x2 x3 x4 c1 s1) (vx_cwSW 5 C.1.2.2.2.2 (lw_SW hlink q915 q58 q916) rfl rfl rfl (by decide +kernel) ⟨hRf, hRl⟩) ⟨fun a U g mk q => by obtain ⟨q0, q1, qW, qK, qZ, qw⟩ := q; exact ⟨q0, q1, qW, xK.same (u := U) (U := U.calling g mk a) rfl qK, xZ.moved (u := U) (U := U.calling g mk a) (Vm.Alike.refl U.vm) qZ, qw⟩, fun U hU hWm => ⟨rfl, by rw [hU], by rw [hU]; exact hW.self _, C.2.1.warm hWm, xZ.call C.2.2.1 hW hS C.2.2.2 hU hWm.alike, h⟩⟩ rfl rfl hz rfl (lv_room hr8) hdg ⟨by omega, by omega⟩) hW hS C.2.2.2 (fun r G1 H1 locs1 hp hW1 hS1 hF1 => kk r G1 H1 locs1 hp hW1 hS1 hF1 (by omega) (by omega))
theorem call_X0_addNested_S {p : Program} {l : Launch} {e : Env} {R : Room} {s : State} {m : MethodId} {args : Array Value} {below : List Frame} {meth : Method} {c : Code} {H : Heap} {locs : List Loc} {cells slots : Nat} {Z : State → Prop} {A : Nat → Prop} {cc : ByteArray} {nL pc : Nat} {ls : Array Slot} {rest : List Value} {own : String} {index fr lo : Nat} {w : XV → (Int32 → GM → Prop) → (Option Nat) → Int32 → Int32 → (Option Nat) → GM → Nat → Nat → Prop} {V : XV} {G : GM} {kc ks c1 s1 : Nat} {x0 : Option Nat} {x1 : Int32} {x2 : Int32} {x3 : Option Nat} (hM : CT_X0_addNested l fr lo w) (C : xC p m c s args cc nL own V A) (hW : xW V A G H) (hS : va_S A s.heap H locs) (hlink : Cond.methodLink own index yX0_addNested ∈ lw_all) (hRf : fr + 1 ≤ R.frames) (hRl : 8 + (5 + 11) + lo ≤ R.locals) (hc1 : c1 ≤ kc) (hs1 : s1 ≤ ks) (hkc : cells + kc ≤ R.cells) (hks : slots + ks ≤ R.slots) (hz : ls.size = nL) (hr8 : (rest.map fun v => v.category).sum ≤ 8) (hdg : decode cc pc = .ok (.invokestatic index, 3)) {Q1 : Int32 → GM → Prop} (h : w V Q1 x0 x1 x2 x3 G c1 s1) (kk : ∀ (r : Int32) (G1 : GM) (H1 : Heap) (locs1 : List Loc), Q1 r G1 → xW V A G1 H1 → va_S A s.heap H1 locs1 → xFr V G G1 H H1 → (cells + c1) + (kc - c1) ≤ R.cells → (slots + s1) + (ks - s1) ≤ R.slots → W p l e R s m args below meth c H1 locs1 (cells + c1) (slots + s1) Z (F0 m (pc + 3) ls (.int r :: rest))) : W p l e R s m args below meth c H locs cells slots Z (F0 m pc ls (va_rf x3 :: .int x2 :: .int x1 :: va_rf x0 :: rest)) := by
  exact rg_i3w (vx_runSW (As := [va_rf x0, .int x1, .int x2, va_rf x3]) (rest := rest) C.1 (hM V H.size G Q1 x0 x1 x2 x3 c1 s1) (vx_cwSW 4 C.1.2.2.2.2 (lw_SW hlink q955 q58 q956) rfl rfl rfl (by decide +kernel) ⟨hRf, hRl⟩) ⟨fun a U g mk q => by obtain ⟨q0, q1, qW, qK, qZ, qw⟩ := q; exact ⟨q0, q1, qW, xK.same (u := U) (U := U.calling g mk a) rfl qK, xZ.moved (u := U) (U := U.calling g mk a) (Vm.Alike.refl U.vm) qZ, qw⟩, fun U hU hWm => ⟨rfl, by rw [hU], by rw [hU]; exact hW.self _, C.2.1.warm hWm, xZ.call C.2.2.1 hW hS C.2.2.2 hU hWm.alike, h⟩⟩ rfl rfl hz rfl (lv_room hr8) hdg ⟨by omega, by omega⟩) hW hS C.2.2.2 (fun r G1 H1 locs1 hp hW1 hS1 hF1 => kk r G1 H1 locs1 hp hW1 hS1 hF1 (by omega) (by omega))
theorem call_X0_addNull_S {p : Program} {l : Launch} {e : Env} {R : Room} {s : State} {m : MethodId} {args : Array Value} {below : List Frame} {meth : Method} {c : Code} {H : Heap} {locs : List Loc} {cells slots : Nat} {Z : State → Prop} {A : Nat → Prop} {cc : ByteArray} {nL pc : Nat} {ls : Array Slot} {rest : List Value} {own : String} {index fr lo : Nat} {w : XV → (Int32 → GM → Prop) → (Option Nat) → Int32 → (Option Nat) → GM → Nat → Nat → Prop} {V : XV} {G : GM} {kc ks c1 s1 : Nat} {x0 : Option Nat} {x1 : Int32} {x2 : Option Nat} (hM : CT_X0_addNull l fr lo w) (C : xC p m c s args cc nL own V A) (hW : xW V A G H) (hS : va_S A s.heap H locs) (hlink : Cond.methodLink own index yX0_addNull ∈ lw_all) (hRf : fr + 1 ≤ R.frames) (hRl : 8 + (4 + 11) + lo ≤ R.locals) (hc1 : c1 ≤ kc) (hs1 : s1 ≤ ks) (hkc : cells + kc ≤ R.cells) (hks : slots + ks ≤ R.slots) (hz : ls.size = nL) (hr8 : (rest.map fun v => v.category).sum ≤ 8) (hdg : decode cc pc = .ok (.invokestatic index, 3)) {Q1 : Int32 → GM → Prop} (h : w V Q1 x0 x1 x2 G c1 s1) (kk : ∀ (r : Int32) (G1 : GM) (H1 : Heap) (locs1 : List Loc), Q1 r G1 → xW V A G1 H1 → va_S A s.heap H1 locs1 → xFr V G G1 H H1 → (cells + c1) + (kc - c1) ≤ R.cells → (slots + s1) + (ks - s1) ≤ R.slots → W p l e R s m args below meth c H1 locs1 (cells + c1) (slots + s1) Z (F0 m (pc + 3) ls (.int r :: rest))) : W p l e R s m args below meth c H locs cells slots Z (F0 m pc ls (va_rf x2 :: .int x1 :: va_rf x0 :: rest)) := by
  exact rg_i3w (vx_runSW (As := [va_rf x0, .int x1, va_rf x2]) (rest := rest) C.1 (hM V H.size G Q1 x0 x1 x2 c1 s1) (vx_cwSW 3 C.1.2.2.2.2 (lw_SW hlink q1049 q58 q1050) rfl rfl rfl (by decide +kernel) ⟨hRf, hRl⟩) ⟨fun a U g mk q => by obtain ⟨q0, q1, qW, qK, qZ, qw⟩ := q; exact ⟨q0, q1, qW, xK.same (u := U) (U := U.calling g mk a) rfl qK, xZ.moved (u := U) (U := U.calling g mk a) (Vm.Alike.refl U.vm) qZ, qw⟩, fun U hU hWm => ⟨rfl, by rw [hU], by rw [hU]; exact hW.self _, C.2.1.warm hWm, xZ.call C.2.2.1 hW hS C.2.2.2 hU hWm.alike, h⟩⟩ rfl rfl hz rfl (lv_room hr8) hdg ⟨by omega, by omega⟩) hW hS C.2.2.2 (fun r G1 H1 locs1 hp hW1 hS1 hF1 => kk r G1 H1 locs1 hp hW1 hS1 hF1 (by omega) (by omega))
theorem call_X0_remove_S {p : Program} {l : Launch} {e : Env} {R : Room} {s : State} {m : MethodId} {args : Array Value} {below : List Frame} {meth : Method} {c : Code} {H : Heap} {locs : List Loc} {cells slots : Nat} {Z : State → Prop} {A : Nat → Prop} {cc : ByteArray} {nL pc : Nat} {ls : Array Slot} {rest : List Value} {own : String} {index fr lo : Nat} {w : XV → (Int32 → GM → Prop) → (Option Nat) → Int32 → (Option Nat) → GM → Nat → Nat → Prop} {V : XV} {G : GM} {kc ks c1 s1 : Nat} {x0 : Option Nat} {x1 : Int32} {x2 : Option Nat} (hM : CT_X0_remove l fr lo w) (C : xC p m c s args cc nL own V A) (hW : xW V A G H) (hS : va_S A s.heap H locs) (hlink : Cond.methodLink own index yX0_remove ∈ lw_all) (hRf : fr + 1 ≤ R.frames) (hRl : 8 + (4 + 11) + lo ≤ R.locals) (hc1 : c1 ≤ kc) (hs1 : s1 ≤ ks) (hkc : cells + kc ≤ R.cells) (hks : slots + ks ≤ R.slots) (hz : ls.size = nL) (hr8 : (rest.map fun v => v.category).sum ≤ 8) (hdg : decode cc pc = .ok (.invokestatic index, 3)) {Q1 : Int32 → GM → Prop} (h : w V Q1 x0 x1 x2 G c1 s1) (kk : ∀ (r : Int32) (G1 : GM) (H1 : Heap) (locs1 : List Loc), Q1 r G1 → xW V A G1 H1 → va_S A s.heap H1 locs1 → xFr V G G1 H H1 → (cells + c1) + (kc - c1) ≤ R.cells → (slots + s1) + (ks - s1) ≤ R.slots → W p l e R s m args below meth c H1 locs1 (cells + c1) (slots + s1) Z (F0 m (pc + 3) ls (.int r :: rest))) : W p l e R s m args below meth c H locs cells slots Z (F0 m pc ls (va_rf x2 :: .int x1 :: va_rf x0 :: rest)) := by
  exact rg_i3w (vx_runSW (As := [va_rf x0, .int x1, va_rf x2]) (rest := rest) C.1 (hM V H.size G Q1 x0 x1 x2 c1 s1) (vx_cwSW 3 C.1.2.2.2.2 (lw_SW hlink q1071 q58 q1072) rfl rfl rfl (by decide +kernel) ⟨hRf, hRl⟩) ⟨fun a U g mk q => by obtain ⟨q0, q1, qW, qK, qZ, qw⟩ := q; exact ⟨q0, q1, qW, xK.same (u := U) (U := U.calling g mk a) rfl qK, xZ.moved (u := U) (U := U.calling g mk a) (Vm.Alike.refl U.vm) qZ, qw⟩, fun U hU hWm => ⟨rfl, by rw [hU], by rw [hU]; exact hW.self _, C.2.1.warm hWm, xZ.call C.2.2.1 hW hS C.2.2.2 hU hWm.alike, h⟩⟩ rfl rfl hz rfl (lv_room hr8) hdg ⟨by omega, by omega⟩) hW hS C.2.2.2 (fun r G1 H1 locs1 hp hW1 hS1 hF1 => kk r G1 H1 locs1 hp hW1 hS1 hF1 (by omega) (by omega))
theorem call_X0_order_S {p : Program} {l : Launch} {e : Env} {R : Room} {s : State} {m : MethodId} {args : Array Value} {below : List Frame} {meth : Method} {c : Code} {H : Heap} {locs : List Loc} {cells slots : Nat} {Z : State → Prop} {A : Nat → Prop} {cc : ByteArray} {nL pc : Nat} {ls : Array Slot} {rest : List Value} {own : String} {index fr lo : Nat} {w : XV → (Int32 → GM → Prop) → (Option Nat) → Int32 → Int32 → (Option Nat) → GM → Nat → Nat → Prop} {V : XV} {G : GM} {kc ks c1 s1 : Nat} {x0 : Option Nat} {x1 : Int32} {x2 : Int32} {x3 : Option Nat} (hM : CT_X0_order l fr lo w) (C : xC p m c s args cc nL own V A) (hW : xW V A G H) (hS : va_S A s.heap H locs) (hlink : Cond.methodLink own index yX0_order ∈ lw_all) (hRf : fr + 1 ≤ R.frames) (hRl : 8 + (5 + 11) + lo ≤ R.locals) (hc1 : c1 ≤ kc) (hs1 : s1 ≤ ks) (hkc : cells + kc ≤ R.cells) (hks : slots + ks ≤ R.slots) (hz : ls.size = nL) (hr8 : (rest.map fun v => v.category).sum ≤ 8) (hdg : decode cc pc = .ok (.invokestatic index, 3)) {Q1 : Int32 → GM → Prop} (h : w V Q1 x0 x1 x2 x3 G c1 s1) (kk : ∀ (r : Int32) (G1 : GM) (H1 : Heap) (locs1 : List Loc), Q1 r G1 → xW V A G1 H1 → va_S A s.heap H1 locs1 → xFr V G G1 H H1 → (cells + c1) + (kc - c1) ≤ R.cells → (slots + s1) + (ks - s1) ≤ R.slots → W p l e R s m args below meth c H1 locs1 (cells + c1) (slots + s1) Z (F0 m (pc + 3) ls (.int r :: rest))) : W p l e R s m args below meth c H locs cells slots Z (F0 m pc ls (va_rf x3 :: .int x2 :: .int x1 :: va_rf x0 :: rest)) := by
  exact rg_i3w (vx_runSW (As := [va_rf x0, .int x1, .int x2, va_rf x3]) (rest := rest) C.1 (hM V H.size G Q1 x0 x1 x2 x3 c1 s1) (vx_cwSW 4 C.1.2.2.2.2 (lw_SW hlink q1131 q58 q1132) rfl rfl rfl (by decide +kernel) ⟨hRf, hRl⟩) ⟨fun a U g mk q => by obtain ⟨q0, q1, qW, qK, qZ, qw⟩ := q; exact ⟨q0, q1, qW, xK.same (u := U) (U := U.calling g mk a) rfl qK, xZ.moved (u := U) (U := U.calling g mk a) (Vm.Alike.refl U.vm) qZ, qw⟩, fun U hU hWm => ⟨rfl, by rw [hU], by rw [hU]; exact hW.self _, C.2.1.warm hWm, xZ.call C.2.2.1 hW hS C.2.2.2 hU hWm.alike, h⟩⟩ rfl rfl hz rfl (lv_room hr8) hdg ⟨by omega, by omega⟩) hW hS C.2.2.2 (fun r G1 H1 locs1 hp hW1 hS1 hF1 => kk r G1 H1 locs1 hp hW1 hS1 hF1 (by omega) (by omega))
theorem call_X0_setParent_S {p : Program} {l : Launch} {e : Env} {R : Room} {s : State} {m : MethodId} {args : Array Value} {below : List Frame} {meth : Method} {c : Code} {H : Heap} {locs : List Loc} {cells slots : Nat} {Z : State → Prop} {A : Nat → Prop} {cc : ByteArray} {nL pc : Nat} {ls : Array Slot} {rest : List Value} {own : String} {index fr lo : Nat} {w : XV → (Int32 → GM → Prop) → (Option Nat) → Int32 → Int32 → (Option Nat) → GM → Nat → Nat → Prop} {V : XV} {G : GM} {kc ks c1 s1 : Nat} {x0 : Option Nat} {x1 : Int32} {x2 : Int32} {x3 : Option Nat} (hM : CT_X0_setParent l fr lo w) (C : xC p m c s args cc nL own V A) (hW : xW V A G H) (hS : va_S A s.heap H locs) (hlink : Cond.methodLink own index yX0_setParent ∈ lw_all) (hRf : fr + 1 ≤ R.frames) (hRl : 8 + (5 + 11) + lo ≤ R.locals) (hc1 : c1 ≤ kc) (hs1 : s1 ≤ ks) (hkc : cells + kc ≤ R.cells) (hks : slots + ks ≤ R.slots) (hz : ls.size = nL) (hr8 : (rest.map fun v => v.category).sum ≤ 8) (hdg : decode cc pc = .ok (.invokestatic index, 3)) {Q1 : Int32 → GM → Prop} (h : w V Q1 x0 x1 x2 x3 G c1 s1) (kk : ∀ (r : Int32) (G1 : GM) (H1 : Heap) (locs1 : List Loc), Q1 r G1 → xW V A G1 H1 → va_S A s.heap H1 locs1 → xFr V G G1 H H1 → (cells + c1) + (kc - c1) ≤ R.cells → (slots + s1) + (ks - s1) ≤ R.slots → W p l e R s m args below meth c H1 locs1 (cells + c1) (slots + s1) Z (F0 m (pc + 3) ls (.int r :: rest))) : W p l e R s m args below meth c H locs cells slots Z (F0 m pc ls (va_rf x3 :: .int x2 :: .int x1 :: va_rf x0 :: rest)) := by
  exact rg_i3w (vx_runSW (As := [va_rf x0, .int x1, .int x2, va_rf x3]) (rest := rest) C.1 (hM V H.size G Q1 x0 x1 x2 x3 c1 s1) (vx_cwSW 4 C.1.2.2.2.2 (lw_SW hlink q1186 q58 q1187) rfl rfl rfl (by decide +kernel) ⟨hRf, hRl⟩) ⟨fun a U g mk q => by obtain ⟨q0, q1, qW, qK, qZ, qw⟩ := q; exact ⟨q0, q1, qW, xK.same (u := U) (U := U.calling g mk a) rfl qK, xZ.moved (u := U) (U := U.calling g mk a) (Vm.Alike.refl U.vm) qZ, qw⟩, fun U hU hWm => ⟨rfl, by rw [hU], by rw [hU]; exact hW.self _, C.2.1.warm hWm, xZ.call C.2.2.1 hW hS C.2.2.2 hU hWm.alike, h⟩⟩ rfl rfl hz rfl (lv_room hr8) hdg ⟨by omega, by omega⟩) hW hS C.2.2.2 (fun r G1 H1 locs1 hp hW1 hS1 hF1 => kk r G1 H1 locs1 hp hW1 hS1 hF1 (by omega) (by omega))
theorem call_X0_setSpan_S {p : Program} {l : Launch} {e : Env} {R : Room} {s : State} {m : MethodId} {args : Array Value} {below : List Frame} {meth : Method} {c : Code} {H : Heap} {locs : List Loc} {cells slots : Nat} {Z : State → Prop} {A : Nat → Prop} {cc : ByteArray} {nL pc : Nat} {ls : Array Slot} {rest : List Value} {own : String} {index fr lo : Nat} {w : XV → (Int32 → GM → Prop) → (Option Nat) → Int32 → Int32 → Int32 → (Option Nat) → GM → Nat → Nat → Prop} {V : XV} {G : GM} {kc ks c1 s1 : Nat} {x0 : Option Nat} {x1 : Int32} {x2 : Int32} {x3 : Int32} {x4 : Option Nat} (hM : CT_X0_setSpan l fr lo w) (C : xC p m c s args cc nL own V A) (hW : xW V A G H) (hS : va_S A s.heap H locs) (hlink : Cond.methodLink own index yX0_setSpan ∈ lw_all) (hRf : fr + 1 ≤ R.frames) (hRl : 8 + (6 + 11) + lo ≤ R.locals) (hc1 : c1 ≤ kc) (hs1 : s1 ≤ ks) (hkc : cells + kc ≤ R.cells) (hks : slots + ks ≤ R.slots) (hz : ls.size = nL) (hr8 : (rest.map fun v => v.category).sum ≤ 8) (hdg : decode cc pc = .ok (.invokestatic index, 3)) {Q1 : Int32 → GM → Prop} (h : w V Q1 x0 x1 x2 x3 x4 G c1 s1) (kk : ∀ (r : Int32) (G1 : GM) (H1 : Heap) (locs1 : List Loc), Q1 r G1 → xW V A G1 H1 → va_S A s.heap H1 locs1 → xFr V G G1 H H1 → (cells + c1) + (kc - c1) ≤ R.cells → (slots + s1) + (ks - s1) ≤ R.slots → W p l e R s m args below meth c H1 locs1 (cells + c1) (slots + s1) Z (F0 m (pc + 3) ls (.int r :: rest))) : W p l e R s m args below meth c H locs cells slots Z (F0 m pc ls (va_rf x4 :: .int x3 :: .int x2 :: .int x1 :: va_rf x0 :: rest)) := by
  exact rg_i3w (vx_runSW (As := [va_rf x0, .int x1, .int x2, .int x3, va_rf x4]) (rest := rest) C.1 (hM V H.size G Q1 x0 x1 x2 x3 x4 c1 s1) (vx_cwSW 5 C.1.2.2.2.2 (lw_SW hlink q1211 q58 q1212) rfl rfl rfl (by decide +kernel) ⟨hRf, hRl⟩) ⟨fun a U g mk q => by obtain ⟨q0, q1, qW, qK, qZ, qw⟩ := q; exact ⟨q0, q1, qW, xK.same (u := U) (U := U.calling g mk a) rfl qK, xZ.moved (u := U) (U := U.calling g mk a) (Vm.Alike.refl U.vm) qZ, qw⟩, fun U hU hWm => ⟨rfl, by rw [hU], by rw [hU]; exact hW.self _, C.2.1.warm hWm, xZ.call C.2.2.1 hW hS C.2.2.2 hU hWm.alike, h⟩⟩ rfl rfl hz rfl (lv_room hr8) hdg ⟨by omega, by omega⟩) hW hS C.2.2.2 (fun r G1 H1 locs1 hp hW1 hS1 hF1 => kk r G1 H1 locs1 hp hW1 hS1 hF1 (by omega) (by omega))
theorem call_X0_key_S {p : Program} {l : Launch} {e : Env} {R : Room} {s : State} {m : MethodId} {args : Array Value} {below : List Frame} {meth : Method} {c : Code} {H : Heap} {locs : List Loc} {cells slots : Nat} {Z : State → Prop} {A : Nat → Prop} {cc : ByteArray} {nL pc : Nat} {ls : Array Slot} {rest : List Value} {own : String} {index fr lo : Nat} {w : XV → (Int32 → GM → Prop) → (Option Nat) → Int32 → Int32 → Int32 → Int32 → Int32 → (Option Nat) → GM → Nat → Nat → Prop} {V : XV} {G : GM} {kc ks c1 s1 : Nat} {x0 : Option Nat} {x1 : Int32} {x2 : Int32} {x3 : Int32} {x4 : Int32} {x5 : Int32} {x6 : Option Nat} (hM : CT_X0_key l fr lo w) (C : xC p m c s args cc nL own V A) (hW : xW V A G H) (hS : va_S A s.heap H locs) (hlink : Cond.methodLink own index yX0_key ∈ lw_all) (hRf : fr + 1 ≤ R.frames) (hRl : 8 + (8 + 11) + lo ≤ R.locals) (hc1 : c1 ≤ kc) (hs1 : s1 ≤ ks) (hkc : cells + kc ≤ R.cells) (hks : slots + ks ≤ R.slots) (hz : ls.size = nL) (hr8 : (rest.map fun v => v.category).sum ≤ 8) (hdg : decode cc pc = .ok (.invokestatic index, 3)) {Q1 : Int32 → GM → Prop} (h : w V Q1 x0 x1 x2 x3 x4 x5 x6 G c1 s1) (kk : ∀ (r : Int32) (G1 : GM) (H1 : Heap) (locs1 : List Loc), Q1 r G1 → xW V A G1 H1 → va_S A s.heap H1 locs1 → xFr V G G1 H H1 → (cells + c1) + (kc - c1) ≤ R.cells → (slots + s1) + (ks - s1) ≤ R.slots → W p l e R s m args below meth c H1 locs1 (cells + c1) (slots + s1) Z (F0 m (pc + 3) ls (.int r :: rest))) : W p l e R s m args below meth c H locs cells slots Z (F0 m pc ls (va_rf x6 :: .int x5 :: .int x4 :: .int x3 :: .int x2 :: .int x1 :: va_rf x0 :: rest)) := by
  exact rg_i3w (vx_runSW (As := [va_rf x0, .int x1, .int x2, .int x3, .int x4, .int x5, va_rf x6]) (rest := rest) C.1 (hM V H.size G Q1 x0 x1 x2 x3 x4 x5 x6 c1 s1) (vx_cwSW 7 C.1.2.2.2.2 (lw_SW hlink q1218 q58 q1219) rfl rfl rfl (by decide +kernel) ⟨hRf, hRl⟩) ⟨fun a U g mk q => by obtain ⟨q0, q1, qW, qK, qZ, qw⟩ := q; exact ⟨q0, q1, qW, xK.same (u := U) (U := U.calling g mk a) rfl qK, xZ.moved (u := U) (U := U.calling g mk a) (Vm.Alike.refl U.vm) qZ, qw⟩, fun U hU hWm => ⟨rfl, by rw [hU], by rw [hU]; exact hW.self _, C.2.1.warm hWm, xZ.call C.2.2.1 hW hS C.2.2.2 hU hWm.alike, h⟩⟩ rfl rfl hz rfl (lv_room hr8) hdg ⟨by omega, by omega⟩) hW hS C.2.2.2 (fun r G1 H1 locs1 hp hW1 hS1 hF1 => kk r G1 H1 locs1 hp hW1 hS1 hF1 (by omega) (by omega))
theorem call_X0_unkey_S {p : Program} {l : Launch} {e : Env} {R : Room} {s : State} {m : MethodId} {args : Array Value} {below : List Frame} {meth : Method} {c : Code} {H : Heap} {locs : List Loc} {cells slots : Nat} {Z : State → Prop} {A : Nat → Prop} {cc : ByteArray} {nL pc : Nat} {ls : Array Slot} {rest : List Value} {own : String} {index fr lo : Nat} {w : XV → (Int32 → GM → Prop) → (Option Nat) → Int32 → Int32 → Int32 → (Option Nat) → GM → Nat → Nat → Prop} {V : XV} {G : GM} {kc ks c1 s1 : Nat} {x0 : Option Nat} {x1 : Int32} {x2 : Int32} {x3 : Int32} {x4 : Option Nat} (hM : CT_X0_unkey l fr lo w) (C : xC p m c s args cc nL own V A) (hW : xW V A G H) (hS : va_S A s.heap H locs) (hlink : Cond.methodLink own index yX0_unkey ∈ lw_all) (hRf : fr + 1 ≤ R.frames) (hRl : 8 + (6 + 11) + lo ≤ R.locals) (hc1 : c1 ≤ kc) (hs1 : s1 ≤ ks) (hkc : cells + kc ≤ R.cells) (hks : slots + ks ≤ R.slots) (hz : ls.size = nL) (hr8 : (rest.map fun v => v.category).sum ≤ 8) (hdg : decode cc pc = .ok (.invokestatic index, 3)) {Q1 : Int32 → GM → Prop} (h : w V Q1 x0 x1 x2 x3 x4 G c1 s1) (kk : ∀ (r : Int32) (G1 : GM) (H1 : Heap) (locs1 : List Loc), Q1 r G1 → xW V A G1 H1 → va_S A s.heap H1 locs1 → xFr V G G1 H H1 → (cells + c1) + (kc - c1) ≤ R.cells → (slots + s1) + (ks - s1) ≤ R.slots → W p l e R s m args below meth c H1 locs1 (cells + c1) (slots + s1) Z (F0 m (pc + 3) ls (.int r :: rest))) : W p l e R s m args below meth c H locs cells slots Z (F0 m pc ls (va_rf x4 :: .int x3 :: .int x2 :: .int x1 :: va_rf x0 :: rest)) := by
  exact rg_i3w (vx_runSW (As := [va_rf x0, .int x1, .int x2, .int x3, va_rf x4]) (rest := rest) C.1 (hM V H.size G Q1 x0 x1 x2 x3 x4 c1 s1) (vx_cwSW 5 C.1.2.2.2.2 (lw_SW hlink q1292 q58 q1293) rfl rfl rfl (by decide +kernel) ⟨hRf, hRl⟩) ⟨fun a U g mk q => by obtain ⟨q0, q1, qW, qK, qZ, qw⟩ := q; exact ⟨q0, q1, qW, xK.same (u := U) (U := U.calling g mk a) rfl qK, xZ.moved (u := U) (U := U.calling g mk a) (Vm.Alike.refl U.vm) qZ, qw⟩, fun U hU hWm => ⟨rfl, by rw [hU], by rw [hU]; exact hW.self _, C.2.1.warm hWm, xZ.call C.2.2.1 hW hS C.2.2.2 hU hWm.alike, h⟩⟩ rfl rfl hz rfl (lv_room hr8) hdg ⟨by omega, by omega⟩) hW hS C.2.2.2 (fun r G1 H1 locs1 hp hW1 hS1 hF1 => kk r G1 H1 locs1 hp hW1 hS1 hF1 (by omega) (by omega))
theorem call_X0_value_S {p : Program} {l : Launch} {e : Env} {R : Room} {s : State} {m : MethodId} {args : Array Value} {below : List Frame} {meth : Method} {c : Code} {H : Heap} {locs : List Loc} {cells slots : Nat} {Z : State → Prop} {A : Nat → Prop} {cc : ByteArray} {nL pc : Nat} {ls : Array Slot} {rest : List Value} {own : String} {index fr lo : Nat} {w : XV → (Int32 → GM → Prop) → (Option Nat) → Int32 → Int32 → Int32 → (Option Nat) → GM → Nat → Nat → Prop} {V : XV} {G : GM} {kc ks c1 s1 : Nat} {x0 : Option Nat} {x1 : Int32} {x2 : Int32} {x3 : Int32} {x4 : Option Nat} (hM : CT_X0_value l fr lo w) (C : xC p m c s args cc nL own V A) (hW : xW V A G H) (hS : va_S A s.heap H locs) (hlink : Cond.methodLink own index yX0_value ∈ lw_all) (hRf : fr + 1 ≤ R.frames) (hRl : 8 + (6 + 11) + lo ≤ R.locals) (hc1 : c1 ≤ kc) (hs1 : s1 ≤ ks) (hkc : cells + kc ≤ R.cells) (hks : slots + ks ≤ R.slots) (hz : ls.size = nL) (hr8 : (rest.map fun v => v.category).sum ≤ 8) (hdg : decode cc pc = .ok (.invokestatic index, 3)) {Q1 : Int32 → GM → Prop} (h : w V Q1 x0 x1 x2 x3 x4 G c1 s1) (kk : ∀ (r : Int32) (G1 : GM) (H1 : Heap) (locs1 : List Loc), Q1 r G1 → xW V A G1 H1 → va_S A s.heap H1 locs1 → xFr V G G1 H H1 → (cells + c1) + (kc - c1) ≤ R.cells → (slots + s1) + (ks - s1) ≤ R.slots → W p l e R s m args below meth c H1 locs1 (cells + c1) (slots + s1) Z (F0 m (pc + 3) ls (.int r :: rest))) : W p l e R s m args below meth c H locs cells slots Z (F0 m pc ls (va_rf x4 :: .int x3 :: .int x2 :: .int x1 :: va_rf x0 :: rest)) := by
  exact rg_i3w (vx_runSW (As := [va_rf x0, .int x1, .int x2, .int x3, va_rf x4]) (rest := rest) C.1 (hM V H.size G Q1 x0 x1 x2 x3 x4 c1 s1) (vx_cwSW 5 C.1.2.2.2.2 (lw_SW hlink q1302 q58 q1303) rfl rfl rfl (by decide +kernel) ⟨hRf, hRl⟩) ⟨fun a U g mk q => by obtain ⟨q0, q1, qW, qK, qZ, qw⟩ := q; exact ⟨q0, q1, qW, xK.same (u := U) (U := U.calling g mk a) rfl qK, xZ.moved (u := U) (U := U.calling g mk a) (Vm.Alike.refl U.vm) qZ, qw⟩, fun U hU hWm => ⟨rfl, by rw [hU], by rw [hU]; exact hW.self _, C.2.1.warm hWm, xZ.call C.2.2.1 hW hS C.2.2.2 hU hWm.alike, h⟩⟩ rfl rfl hz rfl (lv_room hr8) hdg ⟨by omega, by omega⟩) hW hS C.2.2.2 (fun r G1 H1 locs1 hp hW1 hS1 hF1 => kk r G1 H1 locs1 hp hW1 hS1 hF1 (by omega) (by omega))
theorem call_X0_left_S {p : Program} {l : Launch} {e : Env} {R : Room} {s : State} {m : MethodId} {args : Array Value} {below : List Frame} {meth : Method} {c : Code} {H : Heap} {locs : List Loc} {cells slots : Nat} {Z : State → Prop} {A : Nat → Prop} {cc : ByteArray} {nL pc : Nat} {ls : Array Slot} {rest : List Value} {own : String} {index fr lo : Nat} {w : XV → (Int32 → GM → Prop) → (Option Nat) → Int32 → Int32 → (Option Nat) → GM → Nat → Nat → Prop} {V : XV} {G : GM} {kc ks c1 s1 : Nat} {x0 : Option Nat} {x1 : Int32} {x2 : Int32} {x3 : Option Nat} (hM : CT_X0_left l fr lo w) (C : xC p m c s args cc nL own V A) (hW : xW V A G H) (hS : va_S A s.heap H locs) (hlink : Cond.methodLink own index yX0_left ∈ lw_all) (hRf : fr + 1 ≤ R.frames) (hRl : 8 + (5 + 11) + lo ≤ R.locals) (hc1 : c1 ≤ kc) (hs1 : s1 ≤ ks) (hkc : cells + kc ≤ R.cells) (hks : slots + ks ≤ R.slots) (hz : ls.size = nL) (hr8 : (rest.map fun v => v.category).sum ≤ 8) (hdg : decode cc pc = .ok (.invokestatic index, 3)) {Q1 : Int32 → GM → Prop} (h : w V Q1 x0 x1 x2 x3 G c1 s1) (kk : ∀ (r : Int32) (G1 : GM) (H1 : Heap) (locs1 : List Loc), Q1 r G1 → xW V A G1 H1 → va_S A s.heap H1 locs1 → xFr V G G1 H H1 → (cells + c1) + (kc - c1) ≤ R.cells → (slots + s1) + (ks - s1) ≤ R.slots → W p l e R s m args below meth c H1 locs1 (cells + c1) (slots + s1) Z (F0 m (pc + 3) ls (.int r :: rest))) : W p l e R s m args below meth c H locs cells slots Z (F0 m pc ls (va_rf x3 :: .int x2 :: .int x1 :: va_rf x0 :: rest)) := by
  exact rg_i3w (vx_runSW (As := [va_rf x0, .int x1, .int x2, va_rf x3]) (rest := rest) C.1 (hM V H.size G Q1 x0 x1 x2 x3 c1 s1) (vx_cwSW 4 C.1.2.2.2.2 (lw_SW hlink q1397 q58 q1398) rfl rfl rfl (by decide +kernel) ⟨hRf, hRl⟩) ⟨fun a U g mk q => by obtain ⟨q0, q1, qW, qK, qZ, qw⟩ := q; exact ⟨q0, q1, qW, xK.same (u := U) (U := U.calling g mk a) rfl qK, xZ.moved (u := U) (U := U.calling g mk a) (Vm.Alike.refl U.vm) qZ, qw⟩, fun U hU hWm => ⟨rfl, by rw [hU], by rw [hU]; exact hW.self _, C.2.1.warm hWm, xZ.call C.2.2.1 hW hS C.2.2.2 hU hWm.alike, h⟩⟩ rfl rfl hz rfl (lv_room hr8) hdg ⟨by omega, by omega⟩) hW hS C.2.2.2 (fun r G1 H1 locs1 hp hW1 hS1 hF1 => kk r G1 H1 locs1 hp hW1 hS1 hF1 (by omega) (by omega))
theorem call_X0_cell_S {p : Program} {l : Launch} {e : Env} {R : Room} {s : State} {m : MethodId} {args : Array Value} {below : List Frame} {meth : Method} {c : Code} {H : Heap} {locs : List Loc} {cells slots : Nat} {Z : State → Prop} {A : Nat → Prop} {cc : ByteArray} {nL pc : Nat} {ls : Array Slot} {rest : List Value} {own : String} {index fr lo : Nat} {w : XV → (Int32 → GM → Prop) → (Option Nat) → Int32 → Int32 → Int32 → Int32 → (Option Nat) → GM → Nat → Nat → Prop} {V : XV} {G : GM} {kc ks c1 s1 : Nat} {x0 : Option Nat} {x1 : Int32} {x2 : Int32} {x3 : Int32} {x4 : Int32} {x5 : Option Nat} (hM : CT_X0_cell l fr lo w) (C : xC p m c s args cc nL own V A) (hW : xW V A G H) (hS : va_S A s.heap H locs) (hlink : Cond.methodLink own index yX0_cell ∈ lw_all) (hRf : fr + 1 ≤ R.frames) (hRl : 8 + (7 + 11) + lo ≤ R.locals) (hc1 : c1 ≤ kc) (hs1 : s1 ≤ ks) (hkc : cells + kc ≤ R.cells) (hks : slots + ks ≤ R.slots) (hz : ls.size = nL) (hr8 : (rest.map fun v => v.category).sum ≤ 8) (hdg : decode cc pc = .ok (.invokestatic index, 3)) {Q1 : Int32 → GM → Prop} (h : w V Q1 x0 x1 x2 x3 x4 x5 G c1 s1) (kk : ∀ (r : Int32) (G1 : GM) (H1 : Heap) (locs1 : List Loc), Q1 r G1 → xW V A G1 H1 → va_S A s.heap H1 locs1 → xFr V G G1 H H1 → (cells + c1) + (kc - c1) ≤ R.cells → (slots + s1) + (ks - s1) ≤ R.slots → W p l e R s m args below meth c H1 locs1 (cells + c1) (slots + s1) Z (F0 m (pc + 3) ls (.int r :: rest))) : W p l e R s m args below meth c H locs cells slots Z (F0 m pc ls (va_rf x5 :: .int x4 :: .int x3 :: .int x2 :: .int x1 :: va_rf x0 :: rest)) := by
  exact rg_i3w (vx_runSW (As := [va_rf x0, .int x1, .int x2, .int x3, .int x4, va_rf x5]) (rest := rest) C.1 (hM V H.size G Q1 x0 x1 x2 x3 x4 x5 c1 s1) (vx_cwSW 6 C.1.2.2.2.2 (lw_SW hlink q1423 q58 q1424) rfl rfl rfl (by decide +kernel) ⟨hRf, hRl⟩) ⟨fun a U g mk q => by obtain ⟨q0, q1, qW, qK, qZ, qw⟩ := q; exact ⟨q0, q1, qW, xK.same (u := U) (U := U.calling g mk a) rfl qK, xZ.moved (u := U) (U := U.calling g mk a) (Vm.Alike.refl U.vm) qZ, qw⟩, fun U hU hWm => ⟨rfl, by rw [hU], by rw [hU]; exact hW.self _, C.2.1.warm hWm, xZ.call C.2.2.1 hW hS C.2.2.2 hU hWm.alike, h⟩⟩ rfl rfl hz rfl (lv_room hr8) hdg ⟨by omega, by omega⟩) hW hS C.2.2.2 (fun r G1 H1 locs1 hp hW1 hS1 hF1 => kk r G1 H1 locs1 hp hW1 hS1 hF1 (by omega) (by omega))
theorem call_X0_covered_S {p : Program} {l : Launch} {e : Env} {R : Room} {s : State} {m : MethodId} {args : Array Value} {below : List Frame} {meth : Method} {c : Code} {H : Heap} {locs : List Loc} {cells slots : Nat} {Z : State → Prop} {A : Nat → Prop} {cc : ByteArray} {nL pc : Nat} {ls : Array Slot} {rest : List Value} {own : String} {index fr lo : Nat} {w : XV → (Int32 → GM → Prop) → (Option Nat) → Int32 → Int32 → (Option Nat) → GM → Nat → Nat → Prop} {V : XV} {G : GM} {kc ks c1 s1 : Nat} {x0 : Option Nat} {x1 : Int32} {x2 : Int32} {x3 : Option Nat} (hM : CT_X0_covered l fr lo w) (C : xC p m c s args cc nL own V A) (hW : xW V A G H) (hS : va_S A s.heap H locs) (hlink : Cond.methodLink own index yX0_covered ∈ lw_all) (hRf : fr + 1 ≤ R.frames) (hRl : 8 + (5 + 11) + lo ≤ R.locals) (hc1 : c1 ≤ kc) (hs1 : s1 ≤ ks) (hkc : cells + kc ≤ R.cells) (hks : slots + ks ≤ R.slots) (hz : ls.size = nL) (hr8 : (rest.map fun v => v.category).sum ≤ 8) (hdg : decode cc pc = .ok (.invokestatic index, 3)) {Q1 : Int32 → GM → Prop} (h : w V Q1 x0 x1 x2 x3 G c1 s1) (kk : ∀ (r : Int32) (G1 : GM) (H1 : Heap) (locs1 : List Loc), Q1 r G1 → xW V A G1 H1 → va_S A s.heap H1 locs1 → xFr V G G1 H H1 → (cells + c1) + (kc - c1) ≤ R.cells → (slots + s1) + (ks - s1) ≤ R.slots → W p l e R s m args below meth c H1 locs1 (cells + c1) (slots + s1) Z (F0 m (pc + 3) ls (.int r :: rest))) : W p l e R s m args below meth c H locs cells slots Z (F0 m pc ls (va_rf x3 :: .int x2 :: .int x1 :: va_rf x0 :: rest)) := by
  exact rg_i3w (vx_runSW (As := [va_rf x0, .int x1, .int x2, va_rf x3]) (rest := rest) C.1 (hM V H.size G Q1 x0 x1 x2 x3 c1 s1) (vx_cwSW 4 C.1.2.2.2.2 (lw_SW hlink q1589 q58 q1590) rfl rfl rfl (by decide +kernel) ⟨hRf, hRl⟩) ⟨fun a U g mk q => by obtain ⟨q0, q1, qW, qK, qZ, qw⟩ := q; exact ⟨q0, q1, qW, xK.same (u := U) (U := U.calling g mk a) rfl qK, xZ.moved (u := U) (U := U.calling g mk a) (Vm.Alike.refl U.vm) qZ, qw⟩, fun U hU hWm => ⟨rfl, by rw [hU], by rw [hU]; exact hW.self _, C.2.1.warm hWm, xZ.call C.2.2.1 hW hS C.2.2.2 hU hWm.alike, h⟩⟩ rfl rfl hz rfl (lv_room hr8) hdg ⟨by omega, by omega⟩) hW hS C.2.2.2 (fun r G1 H1 locs1 hp hW1 hS1 hF1 => kk r G1 H1 locs1 hp hW1 hS1 hF1 (by omega) (by omega))
theorem call_X0_checksum_S {p : Program} {l : Launch} {e : Env} {R : Room} {s : State} {m : MethodId} {args : Array Value} {below : List Frame} {meth : Method} {c : Code} {H : Heap} {locs : List Loc} {cells slots : Nat} {Z : State → Prop} {A : Nat → Prop} {cc : ByteArray} {nL pc : Nat} {ls : Array Slot} {rest : List Value} {own : String} {index fr lo : Nat} {w : XV → (Int32 → GM → Prop) → (Option Nat) → Int32 → Int32 → (Option Nat) → GM → Nat → Nat → Prop} {V : XV} {G : GM} {kc ks c1 s1 : Nat} {x0 : Option Nat} {x1 : Int32} {x2 : Int32} {x3 : Option Nat} (hM : CT_X0_checksum l fr lo w) (C : xC p m c s args cc nL own V A) (hW : xW V A G H) (hS : va_S A s.heap H locs) (hlink : Cond.methodLink own index yX0_checksum ∈ lw_all) (hRf : fr + 1 ≤ R.frames) (hRl : 8 + (5 + 11) + lo ≤ R.locals) (hc1 : c1 ≤ kc) (hs1 : s1 ≤ ks) (hkc : cells + kc ≤ R.cells) (hks : slots + ks ≤ R.slots) (hz : ls.size = nL) (hr8 : (rest.map fun v => v.category).sum ≤ 8) (hdg : decode cc pc = .ok (.invokestatic index, 3)) {Q1 : Int32 → GM → Prop} (h : w V Q1 x0 x1 x2 x3 G c1 s1) (kk : ∀ (r : Int32) (G1 : GM) (H1 : Heap) (locs1 : List Loc), Q1 r G1 → xW V A G1 H1 → va_S A s.heap H1 locs1 → xFr V G G1 H H1 → (cells + c1) + (kc - c1) ≤ R.cells → (slots + s1) + (ks - s1) ≤ R.slots → W p l e R s m args below meth c H1 locs1 (cells + c1) (slots + s1) Z (F0 m (pc + 3) ls (.int r :: rest))) : W p l e R s m args below meth c H locs cells slots Z (F0 m pc ls (va_rf x3 :: .int x2 :: .int x1 :: va_rf x0 :: rest)) := by
  exact rg_i3w (vx_runSW (As := [va_rf x0, .int x1, .int x2, va_rf x3]) (rest := rest) C.1 (hM V H.size G Q1 x0 x1 x2 x3 c1 s1) (vx_cwSW 4 C.1.2.2.2.2 (lw_SW hlink q1604 q58 q1605) rfl rfl rfl (by decide +kernel) ⟨hRf, hRl⟩) ⟨fun a U g mk q => by obtain ⟨q0, q1, qW, qK, qZ, qw⟩ := q; exact ⟨q0, q1, qW, xK.same (u := U) (U := U.calling g mk a) rfl qK, xZ.moved (u := U) (U := U.calling g mk a) (Vm.Alike.refl U.vm) qZ, qw⟩, fun U hU hWm => ⟨rfl, by rw [hU], by rw [hU]; exact hW.self _, C.2.1.warm hWm, xZ.call C.2.2.1 hW hS C.2.2.2 hU hWm.alike, h⟩⟩ rfl rfl hz rfl (lv_room hr8) hdg ⟨by omega, by omega⟩) hW hS C.2.2.2 (fun r G1 H1 locs1 hp hW1 hS1 hF1 => kk r G1 H1 locs1 hp hW1 hS1 hF1 (by omega) (by omega))
theorem call_X0_playErrors_S {p : Program} {l : Launch} {e : Env} {R : Room} {s : State} {m : MethodId} {args : Array Value} {below : List Frame} {meth : Method} {c : Code} {H : Heap} {locs : List Loc} {cells slots : Nat} {Z : State → Prop} {A : Nat → Prop} {cc : ByteArray} {nL pc : Nat} {ls : Array Slot} {rest : List Value} {own : String} {index fr lo : Nat} {w : XV → (Int32 → GM → Prop) → (Option Nat) → Int32 → Int32 → Int32 → (Option Nat) → GM → Nat → Nat → Prop} {V : XV} {G : GM} {kc ks c1 s1 : Nat} {x0 : Option Nat} {x1 : Int32} {x2 : Int32} {x3 : Int32} {x4 : Option Nat} (hM : CT_X0_playErrors l fr lo w) (C : xC p m c s args cc nL own V A) (hW : xW V A G H) (hS : va_S A s.heap H locs) (hlink : Cond.methodLink own index yX0_playErrors ∈ lw_all) (hRf : fr + 1 ≤ R.frames) (hRl : 8 + (6 + 11) + lo ≤ R.locals) (hc1 : c1 ≤ kc) (hs1 : s1 ≤ ks) (hkc : cells + kc ≤ R.cells) (hks : slots + ks ≤ R.slots) (hz : ls.size = nL) (hr8 : (rest.map fun v => v.category).sum ≤ 8) (hdg : decode cc pc = .ok (.invokestatic index, 3)) {Q1 : Int32 → GM → Prop} (h : w V Q1 x0 x1 x2 x3 x4 G c1 s1) (kk : ∀ (r : Int32) (G1 : GM) (H1 : Heap) (locs1 : List Loc), Q1 r G1 → xW V A G1 H1 → va_S A s.heap H1 locs1 → xFr V G G1 H H1 → (cells + c1) + (kc - c1) ≤ R.cells → (slots + s1) + (ks - s1) ≤ R.slots → W p l e R s m args below meth c H1 locs1 (cells + c1) (slots + s1) Z (F0 m (pc + 3) ls (.int r :: rest))) : W p l e R s m args below meth c H locs cells slots Z (F0 m pc ls (va_rf x4 :: .int x3 :: .int x2 :: .int x1 :: va_rf x0 :: rest)) := by
  exact rg_i3w (vx_runSW (As := [va_rf x0, .int x1, .int x2, .int x3, va_rf x4]) (rest := rest) C.1 (hM V H.size G Q1 x0 x1 x2 x3 x4 c1 s1) (vx_cwSW 5 C.1.2.2.2.2 (lw_SW hlink q1611 q58 q1612) rfl rfl rfl (by decide +kernel) ⟨hRf, hRl⟩) ⟨fun a U g mk q => by obtain ⟨q0, q1, qW, qK, qZ, qw⟩ := q; exact ⟨q0, q1, qW, xK.same (u := U) (U := U.calling g mk a) rfl qK, xZ.moved (u := U) (U := U.calling g mk a) (Vm.Alike.refl U.vm) qZ, qw⟩, fun U hU hWm => ⟨rfl, by rw [hU], by rw [hU]; exact hW.self _, C.2.1.warm hWm, xZ.call C.2.2.1 hW hS C.2.2.2 hU hWm.alike, h⟩⟩ rfl rfl hz rfl (lv_room hr8) hdg ⟨by omega, by omega⟩) hW hS C.2.2.2 (fun r G1 H1 locs1 hp hW1 hS1 hF1 => kk r G1 H1 locs1 hp hW1 hS1 hF1 (by omega) (by omega))
theorem call_X0_writeRow_S {p : Program} {l : Launch} {e : Env} {R : Room} {s : State} {m : MethodId} {args : Array Value} {below : List Frame} {meth : Method} {c : Code} {H : Heap} {locs : List Loc} {cells slots : Nat} {Z : State → Prop} {A : Nat → Prop} {cc : ByteArray} {nL pc : Nat} {ls : Array Slot} {rest : List Value} {own : String} {index fr lo : Nat} {w : XV → (Int32 → GM → Prop) → (Option Nat) → Int32 → Int32 → Int32 → (Option Nat) → GM → Nat → Nat → Prop} {V : XV} {G : GM} {kc ks c1 s1 : Nat} {x0 : Option Nat} {x1 : Int32} {x2 : Int32} {x3 : Int32} {x4 : Option Nat} (hM : CT_X0_writeRow l fr lo w) (C : xC p m c s args cc nL own V A) (hW : xW V A G H) (hS : va_S A s.heap H locs) (hlink : Cond.methodLink own index yX0_writeRow ∈ lw_all) (hRf : fr + 1 ≤ R.frames) (hRl : 8 + (6 + 11) + lo ≤ R.locals) (hc1 : c1 ≤ kc) (hs1 : s1 ≤ ks) (hkc : cells + kc ≤ R.cells) (hks : slots + ks ≤ R.slots) (hz : ls.size = nL) (hr8 : (rest.map fun v => v.category).sum ≤ 8) (hdg : decode cc pc = .ok (.invokestatic index, 3)) {Q1 : Int32 → GM → Prop} (h : w V Q1 x0 x1 x2 x3 x4 G c1 s1) (kk : ∀ (r : Int32) (G1 : GM) (H1 : Heap) (locs1 : List Loc), Q1 r G1 → xW V A G1 H1 → va_S A s.heap H1 locs1 → xFr V G G1 H H1 → (cells + c1) + (kc - c1) ≤ R.cells → (slots + s1) + (ks - s1) ≤ R.slots → W p l e R s m args below meth c H1 locs1 (cells + c1) (slots + s1) Z (F0 m (pc + 3) ls (.int r :: rest))) : W p l e R s m args below meth c H locs cells slots Z (F0 m pc ls (va_rf x4 :: .int x3 :: .int x2 :: .int x1 :: va_rf x0 :: rest)) := by
  exact rg_i3w (vx_runSW (As := [va_rf x0, .int x1, .int x2, .int x3, va_rf x4]) (rest := rest) C.1 (hM V H.size G Q1 x0 x1 x2 x3 x4 c1 s1) (vx_cwSW 5 C.1.2.2.2.2 (lw_SW hlink q1622 q58 q1623) rfl rfl rfl (by decide +kernel) ⟨hRf, hRl⟩) ⟨fun a U g mk q => by obtain ⟨q0, q1, qW, qK, qZ, qw⟩ := q; exact ⟨q0, q1, qW, xK.same (u := U) (U := U.calling g mk a) rfl qK, xZ.moved (u := U) (U := U.calling g mk a) (Vm.Alike.refl U.vm) qZ, qw⟩, fun U hU hWm => ⟨rfl, by rw [hU], by rw [hU]; exact hW.self _, C.2.1.warm hWm, xZ.call C.2.2.1 hW hS C.2.2.2 hU hWm.alike, h⟩⟩ rfl rfl hz rfl (lv_room hr8) hdg ⟨by omega, by omega⟩) hW hS C.2.2.2 (fun r G1 H1 locs1 hp hW1 hS1 hF1 => kk r G1 H1 locs1 hp hW1 hS1 hF1 (by omega) (by omega))
theorem call_X0_write_S {p : Program} {l : Launch} {e : Env} {R : Room} {s : State} {m : MethodId} {args : Array Value} {below : List Frame} {meth : Method} {c : Code} {H : Heap} {locs : List Loc} {cells slots : Nat} {Z : State → Prop} {A : Nat → Prop} {cc : ByteArray} {nL pc : Nat} {ls : Array Slot} {rest : List Value} {own : String} {index fr lo : Nat} {w : XV → (Int32 → GM → Prop) → (Option Nat) → Int32 → (Option Nat) → GM → Nat → Nat → Prop} {V : XV} {G : GM} {kc ks c1 s1 : Nat} {x0 : Option Nat} {x1 : Int32} {x2 : Option Nat} (hM : CT_X0_write l fr lo w) (C : xC p m c s args cc nL own V A) (hW : xW V A G H) (hS : va_S A s.heap H locs) (hlink : Cond.methodLink own index yX0_write ∈ lw_all) (hRf : fr + 1 ≤ R.frames) (hRl : 8 + (4 + 11) + lo ≤ R.locals) (hc1 : c1 ≤ kc) (hs1 : s1 ≤ ks) (hkc : cells + kc ≤ R.cells) (hks : slots + ks ≤ R.slots) (hz : ls.size = nL) (hr8 : (rest.map fun v => v.category).sum ≤ 8) (hdg : decode cc pc = .ok (.invokestatic index, 3)) {Q1 : Int32 → GM → Prop} (h : w V Q1 x0 x1 x2 G c1 s1) (kk : ∀ (r : Int32) (G1 : GM) (H1 : Heap) (locs1 : List Loc), Q1 r G1 → xW V A G1 H1 → va_S A s.heap H1 locs1 → xFr V G G1 H H1 → (cells + c1) + (kc - c1) ≤ R.cells → (slots + s1) + (ks - s1) ≤ R.slots → W p l e R s m args below meth c H1 locs1 (cells + c1) (slots + s1) Z (F0 m (pc + 3) ls (.int r :: rest))) : W p l e R s m args below meth c H locs cells slots Z (F0 m pc ls (va_rf x2 :: .int x1 :: va_rf x0 :: rest)) := by
  exact rg_i3w (vx_runSW (As := [va_rf x0, .int x1, va_rf x2]) (rest := rest) C.1 (hM V H.size G Q1 x0 x1 x2 c1 s1) (vx_cwSW 3 C.1.2.2.2.2 (lw_SW hlink q1677 q58 q1678) rfl rfl rfl (by decide +kernel) ⟨hRf, hRl⟩) ⟨fun a U g mk q => by obtain ⟨q0, q1, qW, qK, qZ, qw⟩ := q; exact ⟨q0, q1, qW, xK.same (u := U) (U := U.calling g mk a) rfl qK, xZ.moved (u := U) (U := U.calling g mk a) (Vm.Alike.refl U.vm) qZ, qw⟩, fun U hU hWm => ⟨rfl, by rw [hU], by rw [hU]; exact hW.self _, C.2.1.warm hWm, xZ.call C.2.2.1 hW hS C.2.2.2 hU hWm.alike, h⟩⟩ rfl rfl hz rfl (lv_room hr8) hdg ⟨by omega, by omega⟩) hW hS C.2.2.2 (fun r G1 H1 locs1 hp hW1 hS1 hF1 => kk r G1 H1 locs1 hp hW1 hS1 hF1 (by omega) (by omega))
theorem call_X1_outputByte_V {p : Program} {l : Launch} {e : Env} {R : Room} {s : State} {m : MethodId} {args : Array Value} {below : List Frame} {meth : Method} {c : Code} {H : Heap} {locs : List Loc} {cells slots : Nat} {Z : State → Prop} {A : Nat → Prop} {cc : ByteArray} {nL pc : Nat} {ls : Array Slot} {rest : List Value} {own : String} {index fr lo : Nat} {w : XV → (Int32 → Prop) → Nat → Int32 → GM → Prop} {V : XV} {G : GM} {o : Option Nat} {ci : Nat} {x0 : Nat} {x1 : Int32} (hM : CT_X1_outputByte l fr lo w) (C : xC p m c s args cc nL own V A) (hW : xW V A G H) (hS : va_S A s.heap H locs) (hlink : Cond.methodLink own index yX1_outputByte ∈ lw_all) (ho : o = some x0) (hcv : gCi G (some x0) = some ci) (hci : ci % 64 = 0) (hRf : fr + 1 ≤ R.frames) (hRl : 8 + (2 + 11) + lo ≤ R.locals) (hcs : cells ≤ R.cells ∧ slots ≤ R.slots) (hz : ls.size = nL) (hr8 : (rest.map fun v => v.category).sum ≤ 8) (hdg : decode cc pc = .ok (.invokevirtual index, 3)) {Q1 : Int32 → Prop} (h : w V Q1 x0 x1 G) (kk : ∀ (r : Int32) (H1 : Heap) (locs1 : List Loc), Q1 r → xW V A G H1 → va_S A s.heap H1 locs1 → xFr V G G H H1 → W p l e R s m args below meth c H1 locs1 cells slots Z (F0 m (pc + 3) ls (.int r :: rest))) : W p l e R s m args below meth c H locs cells slots Z (F0 m pc ls (.int x1 :: va_rf o :: rest)) := by
  subst ho
  obtain ⟨fs, hG⟩ := gCi_of hcv
  exact rg_i3r (va_runV (As := [.int x1]) (rest := rest) C.1 (hM V H.size G Q1 x0 x1) (cwV 1 C.1.2.2.2.2 (lw_V hlink q589 q590 q59 q591) rfl rfl rfl (by decide +kernel) ⟨hRf, hRl⟩) ⟨fun a U g mk q => by obtain ⟨q0, q1, qW, qK, qZ, qw⟩ := q; exact ⟨q0, q1, qW, xK.same (u := U) (U := U.calling g mk a) rfl qK, xZ.moved (u := U) (U := U.calling g mk a) (Vm.Alike.refl U.vm) qZ, qw⟩, (hW.recv C.2.1 hG (r := (RX1, TX1, 6)) (by rw [hci]; rfl)), fun U hU hWm => ⟨rfl, by rw [hU], by rw [hU]; exact hW.self _, C.2.1.warm hWm, xZ.call C.2.2.1 hW hS C.2.2.2 hU hWm.alike, h⟩⟩ rfl rfl hz rfl (lv_room hr8) hdg hcs) hW hS C.2.2.2 (fun r H1 locs1 hp hW1 hS1 hF1 => kk r H1 locs1 hp hW1 hS1 hF1)
theorem call_X1_meanKeys_V {p : Program} {l : Launch} {e : Env} {R : Room} {s : State} {m : MethodId} {args : Array Value} {below : List Frame} {meth : Method} {c : Code} {H : Heap} {locs : List Loc} {cells slots : Nat} {Z : State → Prop} {A : Nat → Prop} {cc : ByteArray} {nL pc : Nat} {ls : Array Slot} {rest : List Value} {own : String} {index fr lo : Nat} {w : XV → (UInt64 → Prop) → Nat → GM → Prop} {V : XV} {G : GM} {o : Option Nat} {ci : Nat} {x0 : Nat} (hM : CT_X1_meanKeys l fr lo w) (C : xC p m c s args cc nL own V A) (hW : xW V A G H) (hS : va_S A s.heap H locs) (hlink : Cond.methodLink own index yX1_meanKeys ∈ lw_all) (ho : o = some x0) (hcv : gCi G (some x0) = some ci) (hci : ci % 64 = 0) (hRf : fr + 1 ≤ R.frames) (hRl : 8 + (4 + 11) + lo ≤ R.locals) (hcs : cells ≤ R.cells ∧ slots ≤ R.slots) (hz : ls.size = nL) (hr8 : (rest.map fun v => v.category).sum ≤ 8) (hdg : decode cc pc = .ok (.invokevirtual index, 3)) {Q1 : UInt64 → Prop} (h : w V Q1 x0 G) (kk : ∀ (r : UInt64) (H1 : Heap) (locs1 : List Loc), Q1 r → xW V A G H1 → va_S A s.heap H1 locs1 → xFr V G G H H1 → W p l e R s m args below meth c H1 locs1 cells slots Z (F0 m (pc + 3) ls (.double r :: rest))) : W p l e R s m args below meth c H locs cells slots Z (F0 m pc ls (va_rf o :: rest)) := by
  subst ho
  obtain ⟨fs, hG⟩ := gCi_of hcv
  exact rg_d3r (va_runV (As := []) (rest := rest) C.1 (hM V H.size G Q1 x0) (cwV 0 C.1.2.2.2.2 (lw_V hlink q612 q613 q59 q614) rfl rfl rfl (by decide +kernel) ⟨hRf, hRl⟩) ⟨fun a U g mk q => by obtain ⟨q0, q1, qW, qK, qZ, qw⟩ := q; exact ⟨q0, q1, qW, xK.same (u := U) (U := U.calling g mk a) rfl qK, xZ.moved (u := U) (U := U.calling g mk a) (Vm.Alike.refl U.vm) qZ, qw⟩, (hW.recv C.2.1 hG (r := (RX1, TX1, 6)) (by rw [hci]; rfl)), fun U hU hWm => ⟨rfl, by rw [hU], by rw [hU]; exact hW.self _, C.2.1.warm hWm, xZ.call C.2.2.1 hW hS C.2.2.2 hU hWm.alike, h⟩⟩ rfl rfl hz rfl (lv_room hr8) hdg hcs) hW hS C.2.2.2 (fun r H1 locs1 hp hW1 hS1 hF1 => kk r H1 locs1 hp hW1 hS1 hF1)
theorem call_X0_coveredPart_S {p : Program} {l : Launch} {e : Env} {R : Room} {s : State} {m : MethodId} {args : Array Value} {below : List Frame} {meth : Method} {c : Code} {H : Heap} {locs : List Loc} {cells slots : Nat} {Z : State → Prop} {A : Nat → Prop} {cc : ByteArray} {nL pc : Nat} {ls : Array Slot} {rest : List Value} {own : String} {index fr lo : Nat} {w : XV → (Int32 → GM → Prop) → (Option Nat) → Int32 → Int32 → (Option Nat) → GM → Nat → Nat → Prop} {V : XV} {G : GM} {kc ks c1 s1 : Nat} {x0 : Option Nat} {x1 : Int32} {x2 : Int32} {x3 : Option Nat} (hM : CT_X0_coveredPart l fr lo w) (C : xC p m c s args cc nL own V A) (hW : xW V A G H) (hS : va_S A s.heap H locs) (hlink : Cond.methodLink own index yX0_coveredPart ∈ lw_all) (hRf : fr + 1 ≤ R.frames) (hRl : 8 + (5 + 11) + lo ≤ R.locals) (hc1 : c1 ≤ kc) (hs1 : s1 ≤ ks) (hkc : cells + kc ≤ R.cells) (hks : slots + ks ≤ R.slots) (hz : ls.size = nL) (hr8 : (rest.map fun v => v.category).sum ≤ 8) (hdg : decode cc pc = .ok (.invokestatic index, 3)) {Q1 : Int32 → GM → Prop} (h : w V Q1 x0 x1 x2 x3 G c1 s1) (kk : ∀ (r : Int32) (G1 : GM) (H1 : Heap) (locs1 : List Loc), Q1 r G1 → xW V A G1 H1 → va_S A s.heap H1 locs1 → xFr V G G1 H H1 → (cells + c1) + (kc - c1) ≤ R.cells → (slots + s1) + (ks - s1) ≤ R.slots → W p l e R s m args below meth c H1 locs1 (cells + c1) (slots + s1) Z (F0 m (pc + 3) ls (.int r :: rest))) : W p l e R s m args below meth c H locs cells slots Z (F0 m pc ls (va_rf x3 :: .int x2 :: .int x1 :: va_rf x0 :: rest)) := by
  exact rg_i3w (vx_runSW (As := [va_rf x0, .int x1, .int x2, va_rf x3]) (rest := rest) C.1 (hM V H.size G Q1 x0 x1 x2 x3 c1 s1) (vx_cwSW 4 C.1.2.2.2.2 (lw_SW hlink q1789 q58 q1790) rfl rfl rfl (by decide +kernel) ⟨hRf, hRl⟩) ⟨fun a U g mk q => by obtain ⟨q0, q1, qW, qK, qZ, qw⟩ := q; exact ⟨q0, q1, qW, xK.same (u := U) (U := U.calling g mk a) rfl qK, xZ.moved (u := U) (U := U.calling g mk a) (Vm.Alike.refl U.vm) qZ, qw⟩, fun U hU hWm => ⟨rfl, by rw [hU], by rw [hU]; exact hW.self _, C.2.1.warm hWm, xZ.call C.2.2.1 hW hS C.2.2.2 hU hWm.alike, h⟩⟩ rfl rfl hz rfl (lv_room hr8) hdg ⟨by omega, by omega⟩) hW hS C.2.2.2 (fun r G1 H1 locs1 hp hW1 hS1 hF1 => kk r G1 H1 locs1 hp hW1 hS1 hF1 (by omega) (by omega))
def w_L_law_2004 (V : XV) (Q : Int32 → Prop) (rec28 : Int32 → GM → MM → ML → Nat → Nat → Prop) (x0 : Nat) (x1 : Nat) (x3 : Nat) (x4 : Nat) (x5 : Int32) (G : GM) (M : MM) (L : ML) (kc : Nat) (ks : Nat) : Prop := rec28 (x5 + (6 : Int32)) G M L kc ks
def w_L_law_218 (V : XV) (Q : Int32 → Prop) (rec28 : Int32 → GM → MM → ML → Nat → Nat → Prop) (x0 : Nat) (x1 : Nat) (x3 : Nat) (x4 : Nat) (x5 : Int32) (G : GM) (M : MM) (L : ML) (kc : Nat) (ks : Nat) : Prop := w_L_law_2004 V Q rec28 x0 x1 x3 x4 x5 G M L kc ks
def w_L_law_310 (V : XV) (Q : Int32 → Prop) (rec28 : Int32 → GM → MM → ML → Nat → Nat → Prop) (x0 : Nat) (x1 : Nat) (x3 : Nat) (x4 : Nat) (x5 : Int32) (G : GM) (M : MM) (L : ML) (kc : Nat) (ks : Nat) : Prop := w_L_law_2004 V Q rec28 x0 x1 x3 x4 x5 G M L kc ks
def w_L_law_378 (V : XV) (Q : Int32 → Prop) (rec28 : Int32 → GM → MM → ML → Nat → Nat → Prop) (x0 : Nat) (x1 : Nat) (x3 : Nat) (x4 : Nat) (x5 : Int32) (G : GM) (M : MM) (L : ML) (kc : Nat) (ks : Nat) : Prop := w_L_law_2004 V Q rec28 x0 x1 x3 x4 x5 G M L kc ks
def w_L_law_458 (V : XV) (Q : Int32 → Prop) (rec28 : Int32 → GM → MM → ML → Nat → Nat → Prop) (x0 : Nat) (x1 : Nat) (x3 : Nat) (x4 : Nat) (x5 : Int32) (G : GM) (M : MM) (L : ML) (kc : Nat) (ks : Nat) : Prop := w_L_law_2004 V Q rec28 x0 x1 x3 x4 x5 G M L kc ks
def w_L_law_526 (V : XV) (Q : Int32 → Prop) (rec28 : Int32 → GM → MM → ML → Nat → Nat → Prop) (x0 : Nat) (x1 : Nat) (x3 : Nat) (x4 : Nat) (x5 : Int32) (G : GM) (M : MM) (L : ML) (kc : Nat) (ks : Nat) : Prop := w_L_law_2004 V Q rec28 x0 x1 x3 x4 x5 G M L kc ks
def w_L_law_582 (V : XV) (Q : Int32 → Prop) (rec28 : Int32 → GM → MM → ML → Nat → Nat → Prop) (x0 : Nat) (x1 : Nat) (x3 : Nat) (x4 : Nat) (x5 : Int32) (G : GM) (M : MM) (L : ML) (kc : Nat) (ks : Nat) : Prop := w_L_law_2004 V Q rec28 x0 x1 x3 x4 x5 G M L kc ks
def w_L_law_638 (V : XV) (Q : Int32 → Prop) (rec28 : Int32 → GM → MM → ML → Nat → Nat → Prop) (x0 : Nat) (x1 : Nat) (x3 : Nat) (x4 : Nat) (x5 : Int32) (G : GM) (M : MM) (L : ML) (kc : Nat) (ks : Nat) : Prop := w_L_law_2004 V Q rec28 x0 x1 x3 x4 x5 G M L kc ks
def w_L_law_706 (V : XV) (Q : Int32 → Prop) (rec28 : Int32 → GM → MM → ML → Nat → Nat → Prop) (x0 : Nat) (x1 : Nat) (x3 : Nat) (x4 : Nat) (x5 : Int32) (G : GM) (M : MM) (L : ML) (kc : Nat) (ks : Nat) : Prop := w_L_law_2004 V Q rec28 x0 x1 x3 x4 x5 G M L kc ks
def w_L_law_774 (V : XV) (Q : Int32 → Prop) (rec28 : Int32 → GM → MM → ML → Nat → Nat → Prop) (x0 : Nat) (x1 : Nat) (x3 : Nat) (x4 : Nat) (x5 : Int32) (G : GM) (M : MM) (L : ML) (kc : Nat) (ks : Nat) : Prop := w_L_law_2004 V Q rec28 x0 x1 x3 x4 x5 G M L kc ks
def w_L_law_870 (V : XV) (Q : Int32 → Prop) (rec28 : Int32 → GM → MM → ML → Nat → Nat → Prop) (x0 : Nat) (x1 : Nat) (x3 : Nat) (x4 : Nat) (x5 : Int32) (G : GM) (M : MM) (L : ML) (kc : Nat) (ks : Nat) : Prop := w_L_law_2004 V Q rec28 x0 x1 x3 x4 x5 G M L kc ks
def w_L_law_837 (V : XV) (Q : Int32 → Prop) (rec28 : Int32 → GM → MM → ML → Nat → Nat → Prop) (x0 : Nat) (x1 : Nat) (x3 : Nat) (x4 : Nat) (x5 : Int32) (x6 : Int32) (y0 : Int32) (y1 : Int32) (y2 : Int32) (G : GM) (M : MM) (L : ML) (kc : Nat) (ks : Nat) : Prop := w_X3_setMatte (fun r1 M2 => w_X3_thrown (fun r3 => if r3 = x6 then (if x6 = 0 then (gJL G 1 (some x3) (0 : Int32) (fun v4 => if (lg_cmp v4 (r1.toInt64)) = 0 then (w_L_law_870 V Q rec28 x0 x1 x3 x4 x5 G M2 L kc ks) else (Q (0 : Int32)))) else (w_L_law_870 V Q rec28 x0 x1 x3 x4 x5 G M2 L kc ks)) else (Q (0 : Int32))) M2) y2 y1 y0 M
def w_L_law_804 (V : XV) (Q : Int32 → Prop) (rec28 : Int32 → GM → MM → ML → Nat → Nat → Prop) (x0 : Nat) (x1 : Nat) (x3 : Nat) (x4 : Nat) (x5 : Int32) (y0 : Int32) (y1 : Int32) (y2 : Int32) (y3 : Option Nat) (G : GM) (M : MM) (L : ML) (kc : Nat) (ks : Nat) : Prop := ∃ c10 s11 : Nat, c10 ≤ kc ∧ s11 ≤ ks ∧ (w_X0_setMatte V (fun r8 G9 => gIL G9 0 (some x0) (x5 + (1 : Int32)) (fun v12 => gIL G9 0 (some x0) (x5 + (2 : Int32)) (fun v13 => gIL G9 0 (some x0) (x5 + (3 : Int32)) (fun v14 => if v14 = 0 then (w_L_law_837 V Q rec28 x0 x1 x3 x4 x5 r8 (0 : Int32) v13 v12 G9 M L (kc - c10) (ks - s11)) else (w_L_law_837 V Q rec28 x0 x1 x3 x4 x5 r8 (1 : Int32) v13 v12 G9 M L (kc - c10) (ks - s11)))))) y3 y2 y1 y0 (some x3) G c10 s11)
def w_L_law_950 (V : XV) (Q : Int32 → Prop) (rec28 : Int32 → GM → MM → ML → Nat → Nat → Prop) (x0 : Nat) (x1 : Nat) (x3 : Nat) (x4 : Nat) (x5 : Int32) (G : GM) (M : MM) (L : ML) (kc : Nat) (ks : Nat) : Prop := w_L_law_2004 V Q rec28 x0 x1 x3 x4 x5 G M L kc ks
def w_L_law_1054 (V : XV) (Q : Int32 → Prop) (rec28 : Int32 → GM → MM → ML → Nat → Nat → Prop) (x0 : Nat) (x1 : Nat) (x3 : Nat) (x4 : Nat) (x5 : Int32) (G : GM) (M : MM) (L : ML) (kc : Nat) (ks : Nat) : Prop := w_L_law_2004 V Q rec28 x0 x1 x3 x4 x5 G M L kc ks
def w_L_law_1134 (V : XV) (Q : Int32 → Prop) (rec28 : Int32 → GM → MM → ML → Nat → Nat → Prop) (x0 : Nat) (x1 : Nat) (x3 : Nat) (x4 : Nat) (x5 : Int32) (G : GM) (M : MM) (L : ML) (kc : Nat) (ks : Nat) : Prop := w_L_law_2004 V Q rec28 x0 x1 x3 x4 x5 G M L kc ks
def w_L_law_1214 (V : XV) (Q : Int32 → Prop) (rec28 : Int32 → GM → MM → ML → Nat → Nat → Prop) (x0 : Nat) (x1 : Nat) (x3 : Nat) (x4 : Nat) (x5 : Int32) (G : GM) (M : MM) (L : ML) (kc : Nat) (ks : Nat) : Prop := w_L_law_2004 V Q rec28 x0 x1 x3 x4 x5 G M L kc ks
def w_L_law_1333 (V : XV) (Q : Int32 → Prop) (rec28 : Int32 → GM → MM → ML → Nat → Nat → Prop) (x0 : Nat) (x1 : Nat) (x3 : Nat) (x4 : Nat) (x5 : Int32) (G : GM) (M : MM) (L : ML) (kc : Nat) (ks : Nat) : Prop := w_L_law_2004 V Q rec28 x0 x1 x3 x4 x5 G M L kc ks
def w_L_law_1301 (V : XV) (Q : Int32 → Prop) (rec28 : Int32 → GM → MM → ML → Nat → Nat → Prop) (x0 : Nat) (x1 : Nat) (x3 : Nat) (x4 : Nat) (x5 : Int32) (x6 : Int32) (y0 : Int32) (y1 : Int32) (y2 : Int32) (y3 : Int32) (y4 : Int32) (G : GM) (M : MM) (L : ML) (kc : Nat) (ks : Nat) : Prop := w_X3_map (fun r16 M17 L18 => w_X3_thrown (fun r19 => if r19 = x6 then (if x6 = 0 then (gJL G 1 (some x3) (0 : Int32) (fun v20 => if (lg_cmp v20 r16) = 0 then (w_L_law_1333 V Q rec28 x0 x1 x3 x4 x5 G M17 L18 kc ks) else (Q (0 : Int32)))) else (w_L_law_1333 V Q rec28 x0 x1 x3 x4 x5 G M17 L18 kc ks)) else (Q (0 : Int32))) M17) y4 y3 y2 y1 y0 M L
def w_L_law_1256 (V : XV) (Q : Int32 → Prop) (rec28 : Int32 → GM → MM → ML → Nat → Nat → Prop) (x0 : Nat) (x1 : Nat) (x3 : Nat) (x4 : Nat) (x5 : Int32) (y0 : Int32) (y1 : Int32) (y2 : Int32) (y3 : Int32) (y4 : Int32) (y5 : Option Nat) (G : GM) (M : MM) (L : ML) (kc : Nat) (ks : Nat) : Prop := ∃ c26 s27 : Nat, c26 ≤ kc ∧ s27 ≤ ks ∧ (w_X0_map V (fun r24 G25 => gIL G25 0 (some x0) (x5 + (1 : Int32)) (fun v28 => gIL G25 0 (some x0) (x5 + (2 : Int32)) (fun v29 => gIL G25 0 (some x0) (x5 + (3 : Int32)) (fun v30 => gIL G25 0 (some x0) (x5 + (4 : Int32)) (fun v31 => gIL G25 0 (some x0) (x5 + (5 : Int32)) (fun v32 => if v32 = 0 then (w_L_law_1301 V Q rec28 x0 x1 x3 x4 x5 r24 (0 : Int32) v31 v30 v29 v28 G25 M L (kc - c26) (ks - s27)) else (w_L_law_1301 V Q rec28 x0 x1 x3 x4 x5 r24 (1 : Int32) v31 v30 v29 v28 G25 M L (kc - c26) (ks - s27)))))))) y5 y4 y3 y2 y1 y0 (some x3) G c26 s27)
def w_L_law_1401 (V : XV) (Q : Int32 → Prop) (rec28 : Int32 → GM → MM → ML → Nat → Nat → Prop) (x0 : Nat) (x1 : Nat) (x3 : Nat) (x4 : Nat) (x5 : Int32) (G : GM) (M : MM) (L : ML) (kc : Nat) (ks : Nat) : Prop := w_L_law_2004 V Q rec28 x0 x1 x3 x4 x5 G M L kc ks
def w_L_law_1493 (V : XV) (Q : Int32 → Prop) (rec28 : Int32 → GM → MM → ML → Nat → Nat → Prop) (x0 : Nat) (x1 : Nat) (x3 : Nat) (x4 : Nat) (x5 : Int32) (G : GM) (M : MM) (L : ML) (kc : Nat) (ks : Nat) : Prop := w_L_law_2004 V Q rec28 x0 x1 x3 x4 x5 G M L kc ks
def w_L_law_1561 (V : XV) (Q : Int32 → Prop) (rec28 : Int32 → GM → MM → ML → Nat → Nat → Prop) (x0 : Nat) (x1 : Nat) (x3 : Nat) (x4 : Nat) (x5 : Int32) (G : GM) (M : MM) (L : ML) (kc : Nat) (ks : Nat) : Prop := w_L_law_2004 V Q rec28 x0 x1 x3 x4 x5 G M L kc ks
def w_L_law_1629 (V : XV) (Q : Int32 → Prop) (rec28 : Int32 → GM → MM → ML → Nat → Nat → Prop) (x0 : Nat) (x1 : Nat) (x3 : Nat) (x4 : Nat) (x5 : Int32) (G : GM) (M : MM) (L : ML) (kc : Nat) (ks : Nat) : Prop := w_L_law_2004 V Q rec28 x0 x1 x3 x4 x5 G M L kc ks
def w_L_law_1709 (V : XV) (Q : Int32 → Prop) (rec28 : Int32 → GM → MM → ML → Nat → Nat → Prop) (x0 : Nat) (x1 : Nat) (x3 : Nat) (x4 : Nat) (x5 : Int32) (G : GM) (M : MM) (L : ML) (kc : Nat) (ks : Nat) : Prop := w_L_law_2004 V Q rec28 x0 x1 x3 x4 x5 G M L kc ks
def w_L_law_1789 (V : XV) (Q : Int32 → Prop) (rec28 : Int32 → GM → MM → ML → Nat → Nat → Prop) (x0 : Nat) (x1 : Nat) (x3 : Nat) (x4 : Nat) (x5 : Int32) (G : GM) (M : MM) (L : ML) (kc : Nat) (ks : Nat) : Prop := w_L_law_2004 V Q rec28 x0 x1 x3 x4 x5 G M L kc ks
def w_L_law_1845 (V : XV) (Q : Int32 → Prop) (rec28 : Int32 → GM → MM → ML → Nat → Nat → Prop) (x0 : Nat) (x1 : Nat) (x3 : Nat) (x4 : Nat) (x5 : Int32) (G : GM) (M : MM) (L : ML) (kc : Nat) (ks : Nat) : Prop := w_L_law_2004 V Q rec28 x0 x1 x3 x4 x5 G M L kc ks
def w_L_law_1911 (V : XV) (Q : Int32 → Prop) (rec28 : Int32 → GM → MM → ML → Nat → Nat → Prop) (x0 : Nat) (x1 : Nat) (x3 : Nat) (x4 : Nat) (x5 : Int32) (G : GM) (M : MM) (L : ML) (kc : Nat) (ks : Nat) : Prop := w_L_law_2004 V Q rec28 x0 x1 x3 x4 x5 G M L kc ks
def w_L_law_2001 (V : XV) (Q : Int32 → Prop) (rec28 : Int32 → GM → MM → ML → Nat → Nat → Prop) (x0 : Nat) (x1 : Nat) (x3 : Nat) (x4 : Nat) (x5 : Int32) (G : GM) (M : MM) (L : ML) (kc : Nat) (ks : Nat) : Prop := w_L_law_2004 V Q rec28 x0 x1 x3 x4 x5 G M L kc ks
def w_L_law_h28 (V : XV) (Q : Int32 → Prop) (x0 : Nat) (x1 : Nat) (x3 : Nat) (x4 : Nat) (rec28 : Int32 → GM → MM → ML → Nat → Nat → Prop) (x5 : Int32) (G : GM) (M : MM) (L : ML) (kc : Nat) (ks : Nat) : Prop := gLn G (some x0) (fun v34 => if (v34 - (6 : Int32)) < x5 then (Q (1 : Int32)) else (gIL G 0 (some x0) x5 (fun v35 => if (v35 &&& (31 : Int32)) = (0 : Int32) then (gRcv G (some x1) (fun a36 c37 => (c37 % 64 = 0) ∧ (∃ c40 s41 : Nat, c40 ≤ kc ∧ s41 ≤ ks ∧ (w_X1_clear V (fun r38 G39 => w_X3_clear (fun r42 M43 => if r38 = r42 then (w_L_law_2004 V Q rec28 x0 x1 x3 x4 x5 G39 M43 L (kc - c40) (ks - s41)) else (Q (0 : Int32))) M) a36 G c40 s41)))) else (if (v35 &&& (31 : Int32)) = (1 : Int32) then (∃ c48 s49 : Nat, c48 ≤ kc ∧ s49 ≤ ks ∧ (w_X0_addComposition V (fun r46 G47 => w_X3_addComposition (fun r50 M51 => w_X3_thrown (fun r52 => if r52 = r46 then (if r46 = 0 then (gJL G47 1 (some x3) (0 : Int32) (fun v53 => if (lg_cmp v53 (r50.toInt64)) = 0 then (w_L_law_218 V Q rec28 x0 x1 x3 x4 x5 G47 M51 L (kc - c48) (ks - s49)) else (Q (0 : Int32)))) else (w_L_law_218 V Q rec28 x0 x1 x3 x4 x5 G47 M51 L (kc - c48) (ks - s49))) else (Q (0 : Int32))) M51) M) (some x1) (some x3) G c48 s49)) else (if (v35 &&& (31 : Int32)) = (2 : Int32) then (gIL G 0 (some x0) (x5 + (1 : Int32)) (fun v58 => gIL G 0 (some x0) (x5 + (2 : Int32)) (fun v59 => gIL G 0 (some x0) (x5 + (3 : Int32)) (fun v60 => gIL G 0 (some x0) (x5 + (4 : Int32)) (fun v61 => ∃ c64 s65 : Nat, c64 ≤ kc ∧ s65 ≤ ks ∧ (w_X0_addRect V (fun r62 G63 => gIL G63 0 (some x0) (x5 + (1 : Int32)) (fun v66 => gIL G63 0 (some x0) (x5 + (2 : Int32)) (fun v67 => gIL G63 0 (some x0) (x5 + (3 : Int32)) (fun v68 => gIL G63 0 (some x0) (x5 + (4 : Int32)) (fun v69 => w_X3_addRect (fun r70 M71 => w_X3_thrown (fun r72 => if r72 = r62 then (if r62 = 0 then (gJL G63 1 (some x3) (0 : Int32) (fun v73 => if (lg_cmp v73 (r70.toInt64)) = 0 then (w_L_law_310 V Q rec28 x0 x1 x3 x4 x5 G63 M71 L (kc - c64) (ks - s65)) else (Q (0 : Int32)))) else (w_L_law_310 V Q rec28 x0 x1 x3 x4 x5 G63 M71 L (kc - c64) (ks - s65))) else (Q (0 : Int32))) M71) v66 v67 v68 v69 M))))) (some x1) v58 v59 v60 v61 (some x3) G c64 s65)))))) else (if (v35 &&& (31 : Int32)) = (3 : Int32) then (gIL G 0 (some x0) (x5 + (1 : Int32)) (fun v78 => gIL G 0 (some x0) (x5 + (2 : Int32)) (fun v79 => ∃ c82 s83 : Nat, c82 ≤ kc ∧ s83 ≤ ks ∧ (w_X0_addStroke V (fun r80 G81 => gIL G81 0 (some x0) (x5 + (1 : Int32)) (fun v84 => gIL G81 0 (some x0) (x5 + (2 : Int32)) (fun v85 => w_X3_addStroke (fun r86 M87 => w_X3_thrown (fun r88 => if r88 = r80 then (if r80 = 0 then (gJL G81 1 (some x3) (0 : Int32) (fun v89 => if (lg_cmp v89 (r86.toInt64)) = 0 then (w_L_law_378 V Q rec28 x0 x1 x3 x4 x5 G81 M87 L (kc - c82) (ks - s83)) else (Q (0 : Int32)))) else (w_L_law_378 V Q rec28 x0 x1 x3 x4 x5 G81 M87 L (kc - c82) (ks - s83))) else (Q (0 : Int32))) M87) v84 v85 M))) (some x1) v78 v79 (some x3) G c82 s83)))) else (if (v35 &&& (31 : Int32)) = (4 : Int32) then (gIL G 0 (some x0) (x5 + (1 : Int32)) (fun v94 => gIL G 0 (some x0) (x5 + (2 : Int32)) (fun v95 => gIL G 0 (some x0) (x5 + (3 : Int32)) (fun v96 => ∃ c99 s100 : Nat, c99 ≤ kc ∧ s100 ≤ ks ∧ (w_X0_addPoint V (fun r97 G98 => gIL G98 0 (some x0) (x5 + (1 : Int32)) (fun v101 => gIL G98 0 (some x0) (x5 + (2 : Int32)) (fun v102 => gIL G98 0 (some x0) (x5 + (3 : Int32)) (fun v103 => w_X3_addPoint (fun r104 M105 => w_X3_thrown (fun r106 => if r106 = r97 then (if r97 = 0 then (gJL G98 1 (some x3) (0 : Int32) (fun v107 => if (lg_cmp v107 (r104.toInt64)) = 0 then (w_L_law_458 V Q rec28 x0 x1 x3 x4 x5 G98 M105 L (kc - c99) (ks - s100)) else (Q (0 : Int32)))) else (w_L_law_458 V Q rec28 x0 x1 x3 x4 x5 G98 M105 L (kc - c99) (ks - s100))) else (Q (0 : Int32))) M105) v101 v102 v103 M)))) (some x1) v94 v95 v96 (some x3) G c99 s100))))) else (if (v35 &&& (31 : Int32)) = (5 : Int32) then (gIL G 0 (some x0) (x5 + (1 : Int32)) (fun v112 => gIL G 0 (some x0) (x5 + (2 : Int32)) (fun v113 => ∃ c116 s117 : Nat, c116 ≤ kc ∧ s117 ≤ ks ∧ (w_X0_addNested V (fun r114 G115 => gIL G115 0 (some x0) (x5 + (1 : Int32)) (fun v118 => gIL G115 0 (some x0) (x5 + (2 : Int32)) (fun v119 => w_X3_addNested (fun r120 M121 => w_X3_thrown (fun r122 => if r122 = r114 then (if r114 = 0 then (gJL G115 1 (some x3) (0 : Int32) (fun v123 => if (lg_cmp v123 (r120.toInt64)) = 0 then (w_L_law_526 V Q rec28 x0 x1 x3 x4 x5 G115 M121 L (kc - c116) (ks - s117)) else (Q (0 : Int32)))) else (w_L_law_526 V Q rec28 x0 x1 x3 x4 x5 G115 M121 L (kc - c116) (ks - s117))) else (Q (0 : Int32))) M121) v118 v119 M))) (some x1) v112 v113 (some x3) G c116 s117)))) else (if (v35 &&& (31 : Int32)) = (6 : Int32) then (gIL G 0 (some x0) (x5 + (1 : Int32)) (fun v128 => ∃ c131 s132 : Nat, c131 ≤ kc ∧ s132 ≤ ks ∧ (w_X0_addNull V (fun r129 G130 => gIL G130 0 (some x0) (x5 + (1 : Int32)) (fun v133 => w_X3_addNull (fun r134 M135 => w_X3_thrown (fun r136 => if r136 = r129 then (if r129 = 0 then (gJL G130 1 (some x3) (0 : Int32) (fun v137 => if (lg_cmp v137 (r134.toInt64)) = 0 then (w_L_law_582 V Q rec28 x0 x1 x3 x4 x5 G130 M135 L (kc - c131) (ks - s132)) else (Q (0 : Int32)))) else (w_L_law_582 V Q rec28 x0 x1 x3 x4 x5 G130 M135 L (kc - c131) (ks - s132))) else (Q (0 : Int32))) M135) v133 M)) (some x1) v128 (some x3) G c131 s132))) else (if (v35 &&& (31 : Int32)) = (7 : Int32) then (gIL G 0 (some x0) (x5 + (1 : Int32)) (fun v142 => ∃ c145 s146 : Nat, c145 ≤ kc ∧ s146 ≤ ks ∧ (w_X0_remove V (fun r143 G144 => gIL G144 0 (some x0) (x5 + (1 : Int32)) (fun v147 => w_X3_remove (fun r148 M149 => w_X3_thrown (fun r150 => if r150 = r143 then (if r143 = 0 then (gJL G144 1 (some x3) (0 : Int32) (fun v151 => if (lg_cmp v151 (r148.toInt64)) = 0 then (w_L_law_638 V Q rec28 x0 x1 x3 x4 x5 G144 M149 L (kc - c145) (ks - s146)) else (Q (0 : Int32)))) else (w_L_law_638 V Q rec28 x0 x1 x3 x4 x5 G144 M149 L (kc - c145) (ks - s146))) else (Q (0 : Int32))) M149) v147 M)) (some x1) v142 (some x3) G c145 s146))) else (if (v35 &&& (31 : Int32)) = (8 : Int32) then (gIL G 0 (some x0) (x5 + (1 : Int32)) (fun v156 => gIL G 0 (some x0) (x5 + (2 : Int32)) (fun v157 => ∃ c160 s161 : Nat, c160 ≤ kc ∧ s161 ≤ ks ∧ (w_X0_order V (fun r158 G159 => gIL G159 0 (some x0) (x5 + (1 : Int32)) (fun v162 => gIL G159 0 (some x0) (x5 + (2 : Int32)) (fun v163 => w_X3_order (fun r164 M165 => w_X3_thrown (fun r166 => if r166 = r158 then (if r158 = 0 then (gJL G159 1 (some x3) (0 : Int32) (fun v167 => if (lg_cmp v167 (r164.toInt64)) = 0 then (w_L_law_706 V Q rec28 x0 x1 x3 x4 x5 G159 M165 L (kc - c160) (ks - s161)) else (Q (0 : Int32)))) else (w_L_law_706 V Q rec28 x0 x1 x3 x4 x5 G159 M165 L (kc - c160) (ks - s161))) else (Q (0 : Int32))) M165) v162 v163 M))) (some x1) v156 v157 (some x3) G c160 s161)))) else (if (v35 &&& (31 : Int32)) = (9 : Int32) then (gIL G 0 (some x0) (x5 + (1 : Int32)) (fun v172 => gIL G 0 (some x0) (x5 + (2 : Int32)) (fun v173 => ∃ c176 s177 : Nat, c176 ≤ kc ∧ s177 ≤ ks ∧ (w_X0_setParent V (fun r174 G175 => gIL G175 0 (some x0) (x5 + (1 : Int32)) (fun v178 => gIL G175 0 (some x0) (x5 + (2 : Int32)) (fun v179 => w_X3_setParent (fun r180 M181 => w_X3_thrown (fun r182 => if r182 = r174 then (if r174 = 0 then (gJL G175 1 (some x3) (0 : Int32) (fun v183 => if (lg_cmp v183 (r180.toInt64)) = 0 then (w_L_law_774 V Q rec28 x0 x1 x3 x4 x5 G175 M181 L (kc - c176) (ks - s177)) else (Q (0 : Int32)))) else (w_L_law_774 V Q rec28 x0 x1 x3 x4 x5 G175 M181 L (kc - c176) (ks - s177))) else (Q (0 : Int32))) M181) v178 v179 M))) (some x1) v172 v173 (some x3) G c176 s177)))) else (if (v35 &&& (31 : Int32)) = (10 : Int32) then (gIL G 0 (some x0) (x5 + (1 : Int32)) (fun v188 => gIL G 0 (some x0) (x5 + (2 : Int32)) (fun v189 => gIL G 0 (some x0) (x5 + (3 : Int32)) (fun v190 => if v190 = 0 then (w_L_law_804 V Q rec28 x0 x1 x3 x4 x5 (0 : Int32) v189 v188 (some x1) G M L kc ks) else (w_L_law_804 V Q rec28 x0 x1 x3 x4 x5 (1 : Int32) v189 v188 (some x1) G M L kc ks))))) else (if (v35 &&& (31 : Int32)) = (11 : Int32) then (gIL G 0 (some x0) (x5 + (1 : Int32)) (fun v193 => gIL G 0 (some x0) (x5 + (2 : Int32)) (fun v194 => gIL G 0 (some x0) (x5 + (3 : Int32)) (fun v195 => ∃ c198 s199 : Nat, c198 ≤ kc ∧ s199 ≤ ks ∧ (w_X0_setSpan V (fun r196 G197 => gIL G197 0 (some x0) (x5 + (1 : Int32)) (fun v200 => gIL G197 0 (some x0) (x5 + (2 : Int32)) (fun v201 => gIL G197 0 (some x0) (x5 + (3 : Int32)) (fun v202 => w_X3_setSpan (fun r203 M204 => w_X3_thrown (fun r205 => if r205 = r196 then (if r196 = 0 then (gJL G197 1 (some x3) (0 : Int32) (fun v206 => if (lg_cmp v206 (r203.toInt64)) = 0 then (w_L_law_950 V Q rec28 x0 x1 x3 x4 x5 G197 M204 L (kc - c198) (ks - s199)) else (Q (0 : Int32)))) else (w_L_law_950 V Q rec28 x0 x1 x3 x4 x5 G197 M204 L (kc - c198) (ks - s199))) else (Q (0 : Int32))) M204) v200 v201 v202 M)))) (some x1) v193 v194 v195 (some x3) G c198 s199))))) else (if (v35 &&& (31 : Int32)) = (12 : Int32) then (gIL G 0 (some x0) (x5 + (1 : Int32)) (fun v211 => gIL G 0 (some x0) (x5 + (2 : Int32)) (fun v212 => gIL G 0 (some x0) (x5 + (3 : Int32)) (fun v213 => gIL G 0 (some x0) (x5 + (4 : Int32)) (fun v214 => gIL G 0 (some x0) (x5 + (5 : Int32)) (fun v215 => ∃ c218 s219 : Nat, c218 ≤ kc ∧ s219 ≤ ks ∧ (w_X0_key V (fun r216 G217 => gIL G217 0 (some x0) (x5 + (1 : Int32)) (fun v220 => gIL G217 0 (some x0) (x5 + (2 : Int32)) (fun v221 => gIL G217 0 (some x0) (x5 + (3 : Int32)) (fun v222 => gIL G217 0 (some x0) (x5 + (4 : Int32)) (fun v223 => gIL G217 0 (some x0) (x5 + (5 : Int32)) (fun v224 => w_X3_key (fun r225 M226 => w_X3_thrown (fun r227 => if r227 = r216 then (if r216 = 0 then (gJL G217 1 (some x3) (0 : Int32) (fun v228 => if (lg_cmp v228 (r225.toInt64)) = 0 then (w_L_law_1054 V Q rec28 x0 x1 x3 x4 x5 G217 M226 L (kc - c218) (ks - s219)) else (Q (0 : Int32)))) else (w_L_law_1054 V Q rec28 x0 x1 x3 x4 x5 G217 M226 L (kc - c218) (ks - s219))) else (Q (0 : Int32))) M226) v220 v221 v222 v223 v224 M)))))) (some x1) v211 v212 v213 v214 v215 (some x3) G c218 s219))))))) else (if (v35 &&& (31 : Int32)) = (13 : Int32) then (gIL G 0 (some x0) (x5 + (1 : Int32)) (fun v233 => gIL G 0 (some x0) (x5 + (2 : Int32)) (fun v234 => gIL G 0 (some x0) (x5 + (3 : Int32)) (fun v235 => ∃ c238 s239 : Nat, c238 ≤ kc ∧ s239 ≤ ks ∧ (w_X0_unkey V (fun r236 G237 => gIL G237 0 (some x0) (x5 + (1 : Int32)) (fun v240 => gIL G237 0 (some x0) (x5 + (2 : Int32)) (fun v241 => gIL G237 0 (some x0) (x5 + (3 : Int32)) (fun v242 => w_X3_unkey (fun r243 M244 => w_X3_thrown (fun r245 => if r245 = r236 then (if r236 = 0 then (gJL G237 1 (some x3) (0 : Int32) (fun v246 => if (lg_cmp v246 (r243.toInt64)) = 0 then (w_L_law_1134 V Q rec28 x0 x1 x3 x4 x5 G237 M244 L (kc - c238) (ks - s239)) else (Q (0 : Int32)))) else (w_L_law_1134 V Q rec28 x0 x1 x3 x4 x5 G237 M244 L (kc - c238) (ks - s239))) else (Q (0 : Int32))) M244) v240 v241 v242 M)))) (some x1) v233 v234 v235 (some x3) G c238 s239))))) else (if (v35 &&& (31 : Int32)) = (14 : Int32) then (gIL G 0 (some x0) (x5 + (1 : Int32)) (fun v251 => gIL G 0 (some x0) (x5 + (2 : Int32)) (fun v252 => gIL G 0 (some x0) (x5 + (3 : Int32)) (fun v253 => ∃ c256 s257 : Nat, c256 ≤ kc ∧ s257 ≤ ks ∧ (w_X0_value V (fun r254 G255 => gIL G255 0 (some x0) (x5 + (1 : Int32)) (fun v258 => gIL G255 0 (some x0) (x5 + (2 : Int32)) (fun v259 => gIL G255 0 (some x0) (x5 + (3 : Int32)) (fun v260 => w_X3_value (fun r261 M262 => w_X3_thrown (fun r263 => if r263 = r254 then (if r254 = 0 then (gJL G255 1 (some x3) (0 : Int32) (fun v264 => if (lg_cmp v264 (r261.toInt64)) = 0 then (w_L_law_1214 V Q rec28 x0 x1 x3 x4 x5 G255 M262 L (kc - c256) (ks - s257)) else (Q (0 : Int32)))) else (w_L_law_1214 V Q rec28 x0 x1 x3 x4 x5 G255 M262 L (kc - c256) (ks - s257))) else (Q (0 : Int32))) M262) v258 v259 v260 M)))) (some x1) v251 v252 v253 (some x3) G c256 s257))))) else (if (v35 &&& (31 : Int32)) = (15 : Int32) then (gIL G 0 (some x0) (x5 + (1 : Int32)) (fun v269 => gIL G 0 (some x0) (x5 + (2 : Int32)) (fun v270 => gIL G 0 (some x0) (x5 + (3 : Int32)) (fun v271 => gIL G 0 (some x0) (x5 + (4 : Int32)) (fun v272 => gIL G 0 (some x0) (x5 + (5 : Int32)) (fun v273 => if v273 = 0 then (w_L_law_1256 V Q rec28 x0 x1 x3 x4 x5 (0 : Int32) v272 v271 v270 v269 (some x1) G M L kc ks) else (w_L_law_1256 V Q rec28 x0 x1 x3 x4 x5 (1 : Int32) v272 v271 v270 v269 (some x1) G M L kc ks))))))) else (if (v35 &&& (31 : Int32)) = (16 : Int32) then (gIL G 0 (some x0) (x5 + (1 : Int32)) (fun v276 => gIL G 0 (some x0) (x5 + (2 : Int32)) (fun v277 => ∃ c280 s281 : Nat, c280 ≤ kc ∧ s281 ≤ ks ∧ (w_X0_left V (fun r278 G279 => gIL G279 0 (some x0) (x5 + (1 : Int32)) (fun v282 => gIL G279 0 (some x0) (x5 + (2 : Int32)) (fun v283 => w_X3_left (fun r284 M285 => w_X3_thrown (fun r286 => if r286 = r278 then (if r278 = 0 then (gJL G279 1 (some x3) (0 : Int32) (fun v287 => if (lg_cmp v287 (r284.toInt64)) = 0 then (w_L_law_1401 V Q rec28 x0 x1 x3 x4 x5 G279 M285 L (kc - c280) (ks - s281)) else (Q (0 : Int32)))) else (w_L_law_1401 V Q rec28 x0 x1 x3 x4 x5 G279 M285 L (kc - c280) (ks - s281))) else (Q (0 : Int32))) M285) v282 v283 M))) (some x1) v276 v277 (some x3) G c280 s281)))) else (if (v35 &&& (31 : Int32)) = (17 : Int32) then (gIL G 0 (some x0) (x5 + (1 : Int32)) (fun v292 => gIL G 0 (some x0) (x5 + (2 : Int32)) (fun v293 => gIL G 0 (some x0) (x5 + (3 : Int32)) (fun v294 => gIL G 0 (some x0) (x5 + (4 : Int32)) (fun v295 => ∃ c298 s299 : Nat, c298 ≤ kc ∧ s299 ≤ ks ∧ (w_X0_cell V (fun r296 G297 => gIL G297 0 (some x0) (x5 + (1 : Int32)) (fun v300 => gIL G297 0 (some x0) (x5 + (2 : Int32)) (fun v301 => gIL G297 0 (some x0) (x5 + (3 : Int32)) (fun v302 => gIL G297 0 (some x0) (x5 + (4 : Int32)) (fun v303 => w_X3_cell (fun r304 M305 L306 => w_X3_thrown (fun r307 => if r307 = r296 then (if r296 = 0 then (gJL G297 1 (some x3) (0 : Int32) (fun v308 => if (lg_cmp v308 (r304.toInt64)) = 0 then (w_L_law_1493 V Q rec28 x0 x1 x3 x4 x5 G297 M305 L306 (kc - c298) (ks - s299)) else (Q (0 : Int32)))) else (w_L_law_1493 V Q rec28 x0 x1 x3 x4 x5 G297 M305 L306 (kc - c298) (ks - s299))) else (Q (0 : Int32))) M305) v300 v301 v302 v303 M L))))) (some x1) v292 v293 v294 v295 (some x3) G c298 s299)))))) else (if (v35 &&& (31 : Int32)) = (18 : Int32) then (gIL G 0 (some x0) (x5 + (1 : Int32)) (fun v313 => gIL G 0 (some x0) (x5 + (2 : Int32)) (fun v314 => ∃ c317 s318 : Nat, c317 ≤ kc ∧ s318 ≤ ks ∧ (w_X0_covered V (fun r315 G316 => gIL G316 0 (some x0) (x5 + (1 : Int32)) (fun v319 => gIL G316 0 (some x0) (x5 + (2 : Int32)) (fun v320 => w_X3_covered (fun r321 M322 L323 => w_X3_thrown (fun r324 => if r324 = r315 then (if r315 = 0 then (gJL G316 1 (some x3) (0 : Int32) (fun v325 => if (lg_cmp v325 (r321.toInt64)) = 0 then (w_L_law_1561 V Q rec28 x0 x1 x3 x4 x5 G316 M322 L323 (kc - c317) (ks - s318)) else (Q (0 : Int32)))) else (w_L_law_1561 V Q rec28 x0 x1 x3 x4 x5 G316 M322 L323 (kc - c317) (ks - s318))) else (Q (0 : Int32))) M322) v319 v320 M L))) (some x1) v313 v314 (some x3) G c317 s318)))) else (if (v35 &&& (31 : Int32)) = (19 : Int32) then (gIL G 0 (some x0) (x5 + (1 : Int32)) (fun v330 => gIL G 0 (some x0) (x5 + (2 : Int32)) (fun v331 => ∃ c334 s335 : Nat, c334 ≤ kc ∧ s335 ≤ ks ∧ (w_X0_checksum V (fun r332 G333 => gIL G333 0 (some x0) (x5 + (1 : Int32)) (fun v336 => gIL G333 0 (some x0) (x5 + (2 : Int32)) (fun v337 => w_X3_checksum (fun r338 M339 L340 => w_X3_thrown (fun r341 => if r341 = r332 then (if r332 = 0 then (gJL G333 1 (some x3) (0 : Int32) (fun v342 => if (lg_cmp v342 (r338.toInt64)) = 0 then (w_L_law_1629 V Q rec28 x0 x1 x3 x4 x5 G333 M339 L340 (kc - c334) (ks - s335)) else (Q (0 : Int32)))) else (w_L_law_1629 V Q rec28 x0 x1 x3 x4 x5 G333 M339 L340 (kc - c334) (ks - s335))) else (Q (0 : Int32))) M339) v336 v337 M L))) (some x1) v330 v331 (some x3) G c334 s335)))) else (if (v35 &&& (31 : Int32)) = (20 : Int32) then (gIL G 0 (some x0) (x5 + (1 : Int32)) (fun v347 => gIL G 0 (some x0) (x5 + (2 : Int32)) (fun v348 => gIL G 0 (some x0) (x5 + (3 : Int32)) (fun v349 => ∃ c352 s353 : Nat, c352 ≤ kc ∧ s353 ≤ ks ∧ (w_X0_playErrors V (fun r350 G351 => gIL G351 0 (some x0) (x5 + (1 : Int32)) (fun v354 => gIL G351 0 (some x0) (x5 + (2 : Int32)) (fun v355 => gIL G351 0 (some x0) (x5 + (3 : Int32)) (fun v356 => w_X3_playErrors (fun r357 M358 => w_X3_thrown (fun r359 => if r359 = r350 then (if r350 = 0 then (gJL G351 1 (some x3) (0 : Int32) (fun v360 => if (lg_cmp v360 (r357.toInt64)) = 0 then (w_L_law_1709 V Q rec28 x0 x1 x3 x4 x5 G351 M358 L (kc - c352) (ks - s353)) else (Q (0 : Int32)))) else (w_L_law_1709 V Q rec28 x0 x1 x3 x4 x5 G351 M358 L (kc - c352) (ks - s353))) else (Q (0 : Int32))) M358) v354 v355 v356 M)))) (some x1) v347 v348 v349 (some x3) G c352 s353))))) else (if (v35 &&& (31 : Int32)) = (21 : Int32) then (gIL G 0 (some x0) (x5 + (1 : Int32)) (fun v365 => gIL G 0 (some x0) (x5 + (2 : Int32)) (fun v366 => gIL G 0 (some x0) (x5 + (3 : Int32)) (fun v367 => ∃ c370 s371 : Nat, c370 ≤ kc ∧ s371 ≤ ks ∧ (w_X0_writeRow V (fun r368 G369 => gIL G369 0 (some x0) (x5 + (1 : Int32)) (fun v372 => gIL G369 0 (some x0) (x5 + (2 : Int32)) (fun v373 => gIL G369 0 (some x0) (x5 + (3 : Int32)) (fun v374 => w_X3_writeRow (fun r375 M376 L377 => w_X3_thrown (fun r378 => if r378 = r368 then (if r368 = 0 then (gJL G369 1 (some x3) (0 : Int32) (fun v379 => if (lg_cmp v379 (r375.toInt64)) = 0 then (w_L_law_1789 V Q rec28 x0 x1 x3 x4 x5 G369 M376 L377 (kc - c370) (ks - s371)) else (Q (0 : Int32)))) else (w_L_law_1789 V Q rec28 x0 x1 x3 x4 x5 G369 M376 L377 (kc - c370) (ks - s371))) else (Q (0 : Int32))) M376) v372 v373 v374 M L)))) (some x1) v365 v366 v367 (some x3) G c370 s371))))) else (if (v35 &&& (31 : Int32)) = (22 : Int32) then (gIL G 0 (some x0) (x5 + (1 : Int32)) (fun v384 => ∃ c387 s388 : Nat, c387 ≤ kc ∧ s388 ≤ ks ∧ (w_X0_write V (fun r385 G386 => gIL G386 0 (some x0) (x5 + (1 : Int32)) (fun v389 => 4 ≤ (kc - c387) ∧ 24 ≤ (ks - s388) ∧ (w_X3_write (fun r390 M391 => w_X3_thrown (fun r392 => if r392 = r385 then (if r385 = 0 then (gJL G386 1 (some x3) (0 : Int32) (fun v393 => if (lg_cmp v393 (r390.toInt64)) = 0 then (w_L_law_1845 V Q rec28 x0 x1 x3 x4 x5 G386 M391 L ((kc - c387) - 4) ((ks - s388) - 24)) else (Q (0 : Int32)))) else (w_L_law_1845 V Q rec28 x0 x1 x3 x4 x5 G386 M391 L ((kc - c387) - 4) ((ks - s388) - 24))) else (Q (0 : Int32))) M391) v389 M))) (some x1) v384 (some x3) G c387 s388))) else (if (v35 &&& (31 : Int32)) = (23 : Int32) then (gIL G 0 (some x0) (x5 + (1 : Int32)) (fun v398 => gRcv G (some x1) (fun a399 c400 => (c400 % 64 = 0) ∧ (w_X1_outputByte V (fun r401 => gIL G 0 (some x0) (x5 + (1 : Int32)) (fun v402 => w_X3_outputByte (fun r403 M404 => if r401 = r403 then (w_L_law_2004 V Q rec28 x0 x1 x3 x4 x5 G M404 L kc ks) else (Q (0 : Int32))) v402 M)) a399 v398 G)))) else (if (v35 &&& (31 : Int32)) = (24 : Int32) then (gRcv G (some x1) (fun a407 c408 => (c408 % 64 = 0) ∧ (w_X1_meanKeys V (fun r409 => w_X3_meanKeys (fun r410 M411 => if (Op.cmpValue (FP.dcmp r409 r410) .l) = 0 then (w_L_law_1911 V Q rec28 x0 x1 x3 x4 x5 G M411 L kc ks) else (if (Op.cmpValue (FP.dcmp r409 r409) .l) = 0 then (Q (0 : Int32)) else (if (Op.cmpValue (FP.dcmp r410 r410) .l) = 0 then (Q (0 : Int32)) else (w_L_law_1911 V Q rec28 x0 x1 x3 x4 x5 G M411 L kc ks)))) M) a407 G))) else (if (v35 &&& (31 : Int32)) = (25 : Int32) then (gIL G 0 (some x0) (x5 + (1 : Int32)) (fun v416 => gIL G 0 (some x0) (x5 + (2 : Int32)) (fun v417 => ∃ c420 s421 : Nat, c420 ≤ kc ∧ s421 ≤ ks ∧ (w_X0_coveredPart V (fun r418 G419 => gIL G419 0 (some x0) (x5 + (1 : Int32)) (fun v422 => gIL G419 0 (some x0) (x5 + (2 : Int32)) (fun v423 => w_X3_coveredPart (fun r424 M425 L426 => w_X3_thrown (fun r427 => if r427 = r418 then (if r418 = 0 then (gDL G419 (some x4) (0 : Int32) (fun v428 => vf_n64 (FP.f2d r424) ∧ (if (Op.cmpValue (FP.dcmp v428 (FP.f2d r424)) .l) = 0 then (w_L_law_2001 V Q rec28 x0 x1 x3 x4 x5 G419 M425 L426 (kc - c420) (ks - s421)) else (gDL G419 (some x4) (0 : Int32) (fun v429 => gDL G419 (some x4) (0 : Int32) (fun v430 => if (Op.cmpValue (FP.dcmp v429 v430) .l) = 0 then (Q (0 : Int32)) else (if (Op.cmpValue (FP.fcmp r424 r424) .l) = 0 then (Q (0 : Int32)) else (w_L_law_2001 V Q rec28 x0 x1 x3 x4 x5 G419 M425 L426 (kc - c420) (ks - s421))))))))) else (w_L_law_2001 V Q rec28 x0 x1 x3 x4 x5 G419 M425 L426 (kc - c420) (ks - s421))) else (Q (0 : Int32))) M425) v422 v423 M L))) (some x1) v416 v417 (some x4) G c420 s421)))) else (w_L_law_2004 V Q rec28 x0 x1 x3 x4 x5 G M L kc ks)))))))))))))))))))))))))))))
def w_L_law_L28 (V : XV) (Q : Int32 → Prop) (x0 : Nat) (x1 : Nat) (x3 : Nat) (x4 : Nat) (x5 : Int32) (G : GM) (M : MM) (L : ML) (kc : Nat) (ks : Nat) : Prop := wLoop (fun (rec : (Int32 × GM × MM × ML × Nat × Nat) → Prop) (s : Int32 × GM × MM × ML × Nat × Nat) => w_L_law_h28 V Q x0 x1 x3 x4 (fun x5 G M L kc ks => rec (x5, G, M, L, kc, ks)) s.1 s.2.1 s.2.2.1 s.2.2.2.1 s.2.2.2.2.1 s.2.2.2.2.2) (x5, G, M, L, kc, ks)
set_option maxRecDepth 100000 in
set_option maxHeartbeats 16000000 in
theorem wk_L_law_28 {p : Program} {l : Launch} {e : Env} {R : Room} {s : State} {m : MethodId} {args : Array Value} {below : List Frame} {meth : Method} {c : Code} {Z : State → Prop} {A : Nat → Prop} {V : XV} {E : mE} (Q : Int32 → Prop) (C : xC p m c s args cL_law 10 RX0 V A) (hKm : mK E s) (hAw : ∀ q, mAd E q → A q) (hgE : ∀ q, mAd E q → xsr V "#given" 0 ≤ q) (hfl : l.stackTraces = false) (hRf : 8192 ≤ R.frames) (hRl : 104096 ≤ R.locals) (hret : ∀ (v : Int32) {G : GM} (pc : Nat) (ls : Array Slot) (H : Heap) (locs : List Loc) (cells slots : Nat) {k1 k2 : Nat}, decode cL_law pc = .ok (.ireturn, 1) → xW V A G H → va_S A s.heap H locs → cells + k1 ≤ R.cells → slots + k2 ≤ R.slots → isZ v → Q v → W p l e R s m args below meth c H locs cells slots Z (F0 m pc ls [.int v])) (x0 x1 x3 x4 : Nat) : ∀ (x5 : Int32) (G : GM) (M : MM) (L : ML) (kc ks : Nat), w_L_law_L28 V Q x0 x1 x3 x4 x5 G M L kc ks → ∀ (ls : Array Slot) (H : Heap) (locs : List Loc) (cells slots : Nat), lv_has ls 10 [(0, va_rf (some x0)), (1, va_rf (some x1)), (2, .ref (mh E)), (3, va_rf (some x3)), (4, va_rf (some x4)), (5, .int x5)] → xW V A G H → mW E M L H → lSep E G → va_S A s.heap H locs → cells + kc ≤ R.cells → slots + ks ≤ R.slots → W p l e R s m args below meth c H locs cells slots Z (F0 m 28 ls []) := by
  have hx := C.1.1; have hb := C.1.2.1; have hml := C.1.2.2.1; have hown := C.1.2.2.2.1; have hts := C.1.2.2.2.2
  have hL28 : ∀ (x5 : Int32) (G : GM) (M : MM) (L : ML) (kc : Nat) (ks : Nat), w_L_law_L28 V Q x0 x1 x3 x4 x5 G M L kc ks → ∀ (ls : Array Slot) (H : Heap) (locs : List Loc) (cells slots : Nat), lv_has ls 10 [(0, va_rf (some x0)), (1, va_rf (some x1)), (2, .ref (mh E)), (3, va_rf (some x3)), (4, va_rf (some x4)), (5, .int x5)] → xW V A G H → mW E M L H → lSep E G → va_S A s.heap H locs → cells + kc ≤ R.cells → slots + ks ≤ R.slots → W p l e R s m args below meth c H locs cells slots Z (F0 m 28 ls []) := by
    obtain ⟨GG28, hG28⟩ : ∃ GG : Int32 → GM → MM → ML → Nat → Nat → Prop, ∀ (x5 : Int32) (G : GM) (M : MM) (L : ML) (kc : Nat) (ks : Nat), GG x5 G M L kc ks ↔ (∀ (ls : Array Slot) (H : Heap) (locs : List Loc) (cells slots : Nat), lv_has ls 10 [(0, va_rf (some x0)), (1, va_rf (some x1)), (2, .ref (mh E)), (3, va_rf (some x3)), (4, va_rf (some x4)), (5, .int x5)] → xW V A G H → mW E M L H → lSep E G → va_S A s.heap H locs → cells + kc ≤ R.cells → slots + ks ≤ R.slots → W p l e R s m args below meth c H locs cells slots Z (F0 m 28 ls [])) := ⟨fun x5 G M L kc ks => _, fun x5 G M L kc ks => Iff.rfl⟩
    have hB28 : ∀ (rec28 : Int32 → GM → MM → ML → Nat → Nat → Prop), (∀ (x5 : Int32) (G : GM) (M : MM) (L : ML) (kc : Nat) (ks : Nat), rec28 x5 G M L kc ks → GG28 x5 G M L kc ks) → ∀ (x5 : Int32) (G : GM) (M : MM) (L : ML) (kc : Nat) (ks : Nat), w_L_law_h28 V Q x0 x1 x3 x4 rec28 x5 G M L kc ks → GG28 x5 G M L kc ks := by
      intro rec28 hrec28
      have hb2004 : ∀ (x5 : Int32) (G : GM) (M : MM) (L : ML) (kc : Nat) (ks : Nat), w_L_law_2004 V Q rec28 x0 x1 x3 x4 x5 G M L kc ks → ∀ (ls : Array Slot) (H : Heap) (locs : List Loc) (cells slots : Nat), lv_has ls 10 [(0, va_rf (some x0)), (1, va_rf (some x1)), (2, .ref (mh E)), (3, va_rf (some x3)), (4, va_rf (some x4)), (5, .int x5)] → xW V A G H → mW E M L H → lSep E G → va_S A s.heap H locs → cells + kc ≤ R.cells → slots + ks ≤ R.slots → W p l e R s m args below meth c H locs cells slots Z (F0 m 2004 ls []) := by
        intro x5 G M L kc ks h
        intro ls H locs cells slots hl hW hM hsep hS hkc hks
        refine lv_iinc (v := x5 + (6 : Int32)) (lv' := [(5, .int (x5 + (6 : Int32))), (0, va_rf (some x0)), (1, va_rf (some x1)), (2, .ref (mh E)), (3, va_rf (some x3)), (4, va_rf (some x4))]) hx hb dL_law_2004 hl (k := 5) rfl (congrArg (fun z => x5 + z) (by decide)) (by decide) rfl (fun ls hl => ?_)
        refine lv_goto (tgt := 28) hx hb dL_law_2007 (by decide) ?_
        exact (hG28 _ _ _ _ _ _).mp (hrec28 _ _ _ _ _ _ h) ls H locs _ _ (lv_sub hl [1, 2, 3, 4, 5, 0] rfl) hW hM hsep hS hkc hks
      have hb218 : ∀ (x5 : Int32) (G : GM) (M : MM) (L : ML) (kc : Nat) (ks : Nat), w_L_law_218 V Q rec28 x0 x1 x3 x4 x5 G M L kc ks → ∀ (ls : Array Slot) (H : Heap) (locs : List Loc) (cells slots : Nat), lv_has ls 10 [(0, va_rf (some x0)), (1, va_rf (some x1)), (2, .ref (mh E)), (3, va_rf (some x3)), (4, va_rf (some x4)), (5, .int x5)] → xW V A G H → mW E M L H → lSep E G → va_S A s.heap H locs → cells + kc ≤ R.cells → slots + ks ≤ R.slots → W p l e R s m args below meth c H locs cells slots Z (F0 m 218 ls []) := by
        intro x5 G M L kc ks h
        intro ls H locs cells slots hl hW hM hsep hS hkc hks
        refine lv_goto (tgt := 2004) hx hb dL_law_218 (by decide) ?_
        exact hb2004 _ _ _ _ _ _ h ls H locs _ _ (lv_sub hl [0, 1, 2, 3, 4, 5] rfl) hW hM hsep hS hkc hks
      have hb310 : ∀ (x5 : Int32) (G : GM) (M : MM) (L : ML) (kc : Nat) (ks : Nat), w_L_law_310 V Q rec28 x0 x1 x3 x4 x5 G M L kc ks → ∀ (ls : Array Slot) (H : Heap) (locs : List Loc) (cells slots : Nat), lv_has ls 10 [(0, va_rf (some x0)), (1, va_rf (some x1)), (2, .ref (mh E)), (3, va_rf (some x3)), (4, va_rf (some x4)), (5, .int x5)] → xW V A G H → mW E M L H → lSep E G → va_S A s.heap H locs → cells + kc ≤ R.cells → slots + ks ≤ R.slots → W p l e R s m args below meth c H locs cells slots Z (F0 m 310 ls []) := by
        intro x5 G M L kc ks h
        intro ls H locs cells slots hl hW hM hsep hS hkc hks
        refine lv_goto (tgt := 2004) hx hb dL_law_310 (by decide) ?_
        exact hb2004 _ _ _ _ _ _ h ls H locs _ _ (lv_sub hl [0, 1, 2, 3, 4, 5] rfl) hW hM hsep hS hkc hks
      have hb378 : ∀ (x5 : Int32) (G : GM) (M : MM) (L : ML) (kc : Nat) (ks : Nat), w_L_law_378 V Q rec28 x0 x1 x3 x4 x5 G M L kc ks → ∀ (ls : Array Slot) (H : Heap) (locs : List Loc) (cells slots : Nat), lv_has ls 10 [(0, va_rf (some x0)), (1, va_rf (some x1)), (2, .ref (mh E)), (3, va_rf (some x3)), (4, va_rf (some x4)), (5, .int x5)] → xW V A G H → mW E M L H → lSep E G → va_S A s.heap H locs → cells + kc ≤ R.cells → slots + ks ≤ R.slots → W p l e R s m args below meth c H locs cells slots Z (F0 m 378 ls []) := by
        intro x5 G M L kc ks h
        intro ls H locs cells slots hl hW hM hsep hS hkc hks
        refine lv_goto (tgt := 2004) hx hb dL_law_378 (by decide) ?_
        exact hb2004 _ _ _ _ _ _ h ls H locs _ _ (lv_sub hl [0, 1, 2, 3, 4, 5] rfl) hW hM hsep hS hkc hks
      have hb458 : ∀ (x5 : Int32) (G : GM) (M : MM) (L : ML) (kc : Nat) (ks : Nat), w_L_law_458 V Q rec28 x0 x1 x3 x4 x5 G M L kc ks → ∀ (ls : Array Slot) (H : Heap) (locs : List Loc) (cells slots : Nat), lv_has ls 10 [(0, va_rf (some x0)), (1, va_rf (some x1)), (2, .ref (mh E)), (3, va_rf (some x3)), (4, va_rf (some x4)), (5, .int x5)] → xW V A G H → mW E M L H → lSep E G → va_S A s.heap H locs → cells + kc ≤ R.cells → slots + ks ≤ R.slots → W p l e R s m args below meth c H locs cells slots Z (F0 m 458 ls []) := by
        intro x5 G M L kc ks h
        intro ls H locs cells slots hl hW hM hsep hS hkc hks
        refine lv_goto (tgt := 2004) hx hb dL_law_458 (by decide) ?_
        exact hb2004 _ _ _ _ _ _ h ls H locs _ _ (lv_sub hl [0, 1, 2, 3, 4, 5] rfl) hW hM hsep hS hkc hks
      have hb526 : ∀ (x5 : Int32) (G : GM) (M : MM) (L : ML) (kc : Nat) (ks : Nat), w_L_law_526 V Q rec28 x0 x1 x3 x4 x5 G M L kc ks → ∀ (ls : Array Slot) (H : Heap) (locs : List Loc) (cells slots : Nat), lv_has ls 10 [(0, va_rf (some x0)), (1, va_rf (some x1)), (2, .ref (mh E)), (3, va_rf (some x3)), (4, va_rf (some x4)), (5, .int x5)] → xW V A G H → mW E M L H → lSep E G → va_S A s.heap H locs → cells + kc ≤ R.cells → slots + ks ≤ R.slots → W p l e R s m args below meth c H locs cells slots Z (F0 m 526 ls []) := by
        intro x5 G M L kc ks h
        intro ls H locs cells slots hl hW hM hsep hS hkc hks
        refine lv_goto (tgt := 2004) hx hb dL_law_526 (by decide) ?_
        exact hb2004 _ _ _ _ _ _ h ls H locs _ _ (lv_sub hl [0, 1, 2, 3, 4, 5] rfl) hW hM hsep hS hkc hks
      have hb582 : ∀ (x5 : Int32) (G : GM) (M : MM) (L : ML) (kc : Nat) (ks : Nat), w_L_law_582 V Q rec28 x0 x1 x3 x4 x5 G M L kc ks → ∀ (ls : Array Slot) (H : Heap) (locs : List Loc) (cells slots : Nat), lv_has ls 10 [(0, va_rf (some x0)), (1, va_rf (some x1)), (2, .ref (mh E)), (3, va_rf (some x3)), (4, va_rf (some x4)), (5, .int x5)] → xW V A G H → mW E M L H → lSep E G → va_S A s.heap H locs → cells + kc ≤ R.cells → slots + ks ≤ R.slots → W p l e R s m args below meth c H locs cells slots Z (F0 m 582 ls []) := by
        intro x5 G M L kc ks h
        intro ls H locs cells slots hl hW hM hsep hS hkc hks
        refine lv_goto (tgt := 2004) hx hb dL_law_582 (by decide) ?_
        exact hb2004 _ _ _ _ _ _ h ls H locs _ _ (lv_sub hl [0, 1, 2, 3, 4, 5] rfl) hW hM hsep hS hkc hks
      have hb638 : ∀ (x5 : Int32) (G : GM) (M : MM) (L : ML) (kc : Nat) (ks : Nat), w_L_law_638 V Q rec28 x0 x1 x3 x4 x5 G M L kc ks → ∀ (ls : Array Slot) (H : Heap) (locs : List Loc) (cells slots : Nat), lv_has ls 10 [(0, va_rf (some x0)), (1, va_rf (some x1)), (2, .ref (mh E)), (3, va_rf (some x3)), (4, va_rf (some x4)), (5, .int x5)] → xW V A G H → mW E M L H → lSep E G → va_S A s.heap H locs → cells + kc ≤ R.cells → slots + ks ≤ R.slots → W p l e R s m args below meth c H locs cells slots Z (F0 m 638 ls []) := by
        intro x5 G M L kc ks h
        intro ls H locs cells slots hl hW hM hsep hS hkc hks
        refine lv_goto (tgt := 2004) hx hb dL_law_638 (by decide) ?_
        exact hb2004 _ _ _ _ _ _ h ls H locs _ _ (lv_sub hl [0, 1, 2, 3, 4, 5] rfl) hW hM hsep hS hkc hks
      have hb706 : ∀ (x5 : Int32) (G : GM) (M : MM) (L : ML) (kc : Nat) (ks : Nat), w_L_law_706 V Q rec28 x0 x1 x3 x4 x5 G M L kc ks → ∀ (ls : Array Slot) (H : Heap) (locs : List Loc) (cells slots : Nat), lv_has ls 10 [(0, va_rf (some x0)), (1, va_rf (some x1)), (2, .ref (mh E)), (3, va_rf (some x3)), (4, va_rf (some x4)), (5, .int x5)] → xW V A G H → mW E M L H → lSep E G → va_S A s.heap H locs → cells + kc ≤ R.cells → slots + ks ≤ R.slots → W p l e R s m args below meth c H locs cells slots Z (F0 m 706 ls []) := by
        intro x5 G M L kc ks h
        intro ls H locs cells slots hl hW hM hsep hS hkc hks
        refine lv_goto (tgt := 2004) hx hb dL_law_706 (by decide) ?_
        exact hb2004 _ _ _ _ _ _ h ls H locs _ _ (lv_sub hl [0, 1, 2, 3, 4, 5] rfl) hW hM hsep hS hkc hks
      have hb774 : ∀ (x5 : Int32) (G : GM) (M : MM) (L : ML) (kc : Nat) (ks : Nat), w_L_law_774 V Q rec28 x0 x1 x3 x4 x5 G M L kc ks → ∀ (ls : Array Slot) (H : Heap) (locs : List Loc) (cells slots : Nat), lv_has ls 10 [(0, va_rf (some x0)), (1, va_rf (some x1)), (2, .ref (mh E)), (3, va_rf (some x3)), (4, va_rf (some x4)), (5, .int x5)] → xW V A G H → mW E M L H → lSep E G → va_S A s.heap H locs → cells + kc ≤ R.cells → slots + ks ≤ R.slots → W p l e R s m args below meth c H locs cells slots Z (F0 m 774 ls []) := by
        intro x5 G M L kc ks h
        intro ls H locs cells slots hl hW hM hsep hS hkc hks
        refine lv_goto (tgt := 2004) hx hb dL_law_774 (by decide) ?_
        exact hb2004 _ _ _ _ _ _ h ls H locs _ _ (lv_sub hl [0, 1, 2, 3, 4, 5] rfl) hW hM hsep hS hkc hks
      have hb870 : ∀ (x5 : Int32) (G : GM) (M : MM) (L : ML) (kc : Nat) (ks : Nat), w_L_law_870 V Q rec28 x0 x1 x3 x4 x5 G M L kc ks → ∀ (ls : Array Slot) (H : Heap) (locs : List Loc) (cells slots : Nat), lv_has ls 10 [(0, va_rf (some x0)), (1, va_rf (some x1)), (2, .ref (mh E)), (3, va_rf (some x3)), (4, va_rf (some x4)), (5, .int x5)] → xW V A G H → mW E M L H → lSep E G → va_S A s.heap H locs → cells + kc ≤ R.cells → slots + ks ≤ R.slots → W p l e R s m args below meth c H locs cells slots Z (F0 m 870 ls []) := by
        intro x5 G M L kc ks h
        intro ls H locs cells slots hl hW hM hsep hS hkc hks
        refine lv_goto (tgt := 2004) hx hb dL_law_870 (by decide) ?_
        exact hb2004 _ _ _ _ _ _ h ls H locs _ _ (lv_sub hl [0, 1, 2, 3, 4, 5] rfl) hW hM hsep hS hkc hks
      have hb837 : ∀ (x5 : Int32) (x6 : Int32) (y0 : Int32) (y1 : Int32) (y2 : Int32) (G : GM) (M : MM) (L : ML) (kc : Nat) (ks : Nat), w_L_law_837 V Q rec28 x0 x1 x3 x4 x5 x6 y0 y1 y2 G M L kc ks → ∀ (ls : Array Slot) (H : Heap) (locs : List Loc) (cells slots : Nat), lv_has ls 10 [(0, va_rf (some x0)), (1, va_rf (some x1)), (2, .ref (mh E)), (3, va_rf (some x3)), (4, va_rf (some x4)), (5, .int x5), (6, .int x6)] → xW V A G H → mW E M L H → lSep E G → va_S A s.heap H locs → cells + kc ≤ R.cells → slots + ks ≤ R.slots → W p l e R s m args below meth c H locs cells slots Z (F0 m 837 ls [.int y0, .int y1, .int y2, .ref (mh E)]) := by
        intro x5 x6 y0 y1 y2 G M L kc ks h
        intro ls H locs cells slots hl hW hM hsep hS hkc hks
        refine call_X3_setMatte (ct_X3_setMatte l) C.1 hKm hM hS C.2.2.2 hAw q1982 (le_lit hRf rfl) (le_lit hRl rfl) ⟨Nat.le_trans (Nat.le_add_right _ _) hkc, Nat.le_trans (Nat.le_add_right _ _) hks⟩ hl.1 (Nat.le_of_ble_eq_true rfl) dL_law_837 h (fun r1 M2 H locs h hM hS hk => ?_)
        have hW := lw_callM hW hsep hk
        refine lv_istore (lv' := [(7, .int r1), (0, va_rf (some x0)), (1, va_rf (some x1)), (2, .ref (mh E)), (3, va_rf (some x3)), (4, va_rf (some x4)), (5, .int x5), (6, .int x6)]) hx hb dL_law_840 hl (by decide) rfl (fun ls hl => ?_)
        refine lv_aload_n hx hb dL_law_842 rfl (lv_at hl 3 rfl) ?_
        refine call_X3_thrown (ct_X3_thrown l) C.1 hKm hM hS C.2.2.2 q1895 (le_lit hRf rfl) (le_lit hRl rfl) ⟨Nat.le_trans (Nat.le_add_right _ _) hkc, Nat.le_trans (Nat.le_add_right _ _) hks⟩ hl.1 (Nat.le_of_ble_eq_true rfl) dL_law_843 h (fun r3 H locs h hk hS => ?_)
        have hW := hW.kept hk
        have hM := hM.kept hk
        refine lv_iload hx hb dL_law_846 (lv_at hl 7 rfl) ?_
        refine lv_icmp_eq (tgt := 853) hx hb dL_law_848 (by decide) (fun c7 => ?_) (fun c7 => ?_)
        · have h := wif_t h c7
          refine lv_iload hx hb dL_law_853 (lv_at hl 7 rfl) ?_
          refine lv_if_ne (tgt := 870) hx hb dL_law_855 (by decide) (fun c6 => ?_) (fun c6 => ?_)
          · have h := wif_f h c6
            exact hb870 _ _ _ _ _ _ h ls H locs _ _ (lv_sub hl [1, 2, 3, 4, 5, 6] rfl) hW hM hsep hS hkc hks
          · have h := wif_t h c6
            refine sh_aload_n hx hb dL_law_858 rfl (lv_at hl 4 rfl) ?_
            refine lv_iconst (v := 0) hx hb dL_law_859 (by decide) ?_
            refine sh_lald C hW h dL_law_860 (fun v4 h => ?_)
            refine lv_iload hx hb dL_law_861 (lv_at hl 0 rfl) ?_
            refine lv_i2l hx hb dL_law_863 rfl ?_
            refine W.lcmp hx hb dL_law_864 ?_
            refine lv_if_eq (tgt := 870) hx hb dL_law_865 (by decide) (fun c5 => ?_) (fun c5 => ?_)
            · have h := wif_t h c5
              exact hb870 _ _ _ _ _ _ h ls H locs _ _ (lv_sub hl [1, 2, 3, 4, 5, 6] rfl) hW hM hsep hS hkc hks
            · have h := wif_f h c5
              refine lv_iconst (v := 0) hx hb dL_law_868 (by decide) ?_
              exact hret _ _ _ _ _ _ _ dL_law_869 hW hS hkc hks isZ_0 h
        · have h := wif_f h c7
          refine lv_iconst (v := 0) hx hb dL_law_851 (by decide) ?_
          exact hret _ _ _ _ _ _ _ dL_law_852 hW hS hkc hks isZ_0 h
      have hb804 : ∀ (x5 : Int32) (y0 : Int32) (y1 : Int32) (y2 : Int32) (y3 : Option Nat) (G : GM) (M : MM) (L : ML) (kc : Nat) (ks : Nat), w_L_law_804 V Q rec28 x0 x1 x3 x4 x5 y0 y1 y2 y3 G M L kc ks → ∀ (ls : Array Slot) (H : Heap) (locs : List Loc) (cells slots : Nat), lv_has ls 10 [(0, va_rf (some x0)), (1, va_rf (some x1)), (2, .ref (mh E)), (3, va_rf (some x3)), (4, va_rf (some x4)), (5, .int x5)] → xW V A G H → mW E M L H → lSep E G → va_S A s.heap H locs → cells + kc ≤ R.cells → slots + ks ≤ R.slots → W p l e R s m args below meth c H locs cells slots Z (F0 m 804 ls [.int y0, .int y1, .int y2, va_rf y3]) := by
        intro x5 y0 y1 y2 y3 G M L kc ks h
        intro ls H locs cells slots hl hW hM hsep hS hkc hks
        refine sh_aload_n hx hb dL_law_804 rfl (lv_at hl 3 rfl) ?_
        obtain ⟨c10, s11, hc805, hs805, h⟩ := h
        refine call_X0_setMatte_S (ct_X0_setMatte l hfl) C hW hS q1203 (le_lit hRf rfl) (le_lit hRl rfl) hc805 hs805 hkc hks hl.1 (Nat.le_of_ble_eq_true rfl) dL_law_805 h (fun r8 G9 H locs h hW hS hF hkc hks => ?_)
        obtain ⟨hM, hsep⟩ := lw_callG hM hsep hgE hF
        refine lv_istore (lv' := [(6, .int r8), (0, va_rf (some x0)), (1, va_rf (some x1)), (2, .ref (mh E)), (3, va_rf (some x3)), (4, va_rf (some x4)), (5, .int x5)]) hx hb dL_law_808 hl (by decide) rfl (fun ls hl => ?_)
        refine lv_aload_n hx hb dL_law_810 rfl (lv_at hl 3 rfl) ?_
        refine sh_aload_n hx hb dL_law_811 rfl (lv_at hl 1 rfl) ?_
        refine lv_iload hx hb dL_law_812 (lv_at hl 6 rfl) ?_
        refine lv_iconst (v := 1) hx hb dL_law_814 (by decide) ?_
        refine lv_iadd hx hb dL_law_815 ?_
        refine sh_iald C hW h dL_law_816 (fun v12 h => ?_)
        refine sh_aload_n hx hb dL_law_817 rfl (lv_at hl 1 rfl) ?_
        refine lv_iload hx hb dL_law_818 (lv_at hl 6 rfl) ?_
        refine lv_iconst (v := 2) hx hb dL_law_820 (by decide) ?_
        refine lv_iadd hx hb dL_law_821 ?_
        refine sh_iald C hW h dL_law_822 (fun v13 h => ?_)
        refine sh_aload_n hx hb dL_law_823 rfl (lv_at hl 1 rfl) ?_
        refine lv_iload hx hb dL_law_824 (lv_at hl 6 rfl) ?_
        refine lv_iconst (v := 3) hx hb dL_law_826 (by decide) ?_
        refine lv_iadd hx hb dL_law_827 ?_
        refine sh_iald C hW h dL_law_828 (fun v14 h => ?_)
        refine lv_if_eq (tgt := 836) hx hb dL_law_829 (by decide) (fun c15 => ?_) (fun c15 => ?_)
        · have h := wif_t h c15
          refine lv_iconst (v := 0) hx hb dL_law_836 (by decide) ?_
          exact hb837 _ _ _ _ _ _ _ _ _ _ h ls H locs _ _ (lv_sub hl [1, 2, 3, 4, 5, 6, 0] rfl) hW hM hsep hS hkc hks
        · have h := wif_f h c15
          refine lv_iconst (v := 1) hx hb dL_law_832 (by decide) ?_
          refine lv_goto (tgt := 837) hx hb dL_law_833 (by decide) ?_
          exact hb837 _ _ _ _ _ _ _ _ _ _ h ls H locs _ _ (lv_sub hl [1, 2, 3, 4, 5, 6, 0] rfl) hW hM hsep hS hkc hks
      have hb950 : ∀ (x5 : Int32) (G : GM) (M : MM) (L : ML) (kc : Nat) (ks : Nat), w_L_law_950 V Q rec28 x0 x1 x3 x4 x5 G M L kc ks → ∀ (ls : Array Slot) (H : Heap) (locs : List Loc) (cells slots : Nat), lv_has ls 10 [(0, va_rf (some x0)), (1, va_rf (some x1)), (2, .ref (mh E)), (3, va_rf (some x3)), (4, va_rf (some x4)), (5, .int x5)] → xW V A G H → mW E M L H → lSep E G → va_S A s.heap H locs → cells + kc ≤ R.cells → slots + ks ≤ R.slots → W p l e R s m args below meth c H locs cells slots Z (F0 m 950 ls []) := by
        intro x5 G M L kc ks h
        intro ls H locs cells slots hl hW hM hsep hS hkc hks
        refine lv_goto (tgt := 2004) hx hb dL_law_950 (by decide) ?_
        exact hb2004 _ _ _ _ _ _ h ls H locs _ _ (lv_sub hl [0, 1, 2, 3, 4, 5] rfl) hW hM hsep hS hkc hks
      have hb1054 : ∀ (x5 : Int32) (G : GM) (M : MM) (L : ML) (kc : Nat) (ks : Nat), w_L_law_1054 V Q rec28 x0 x1 x3 x4 x5 G M L kc ks → ∀ (ls : Array Slot) (H : Heap) (locs : List Loc) (cells slots : Nat), lv_has ls 10 [(0, va_rf (some x0)), (1, va_rf (some x1)), (2, .ref (mh E)), (3, va_rf (some x3)), (4, va_rf (some x4)), (5, .int x5)] → xW V A G H → mW E M L H → lSep E G → va_S A s.heap H locs → cells + kc ≤ R.cells → slots + ks ≤ R.slots → W p l e R s m args below meth c H locs cells slots Z (F0 m 1054 ls []) := by
        intro x5 G M L kc ks h
        intro ls H locs cells slots hl hW hM hsep hS hkc hks
        refine lv_goto (tgt := 2004) hx hb dL_law_1054 (by decide) ?_
        exact hb2004 _ _ _ _ _ _ h ls H locs _ _ (lv_sub hl [0, 1, 2, 3, 4, 5] rfl) hW hM hsep hS hkc hks
      have hb1134 : ∀ (x5 : Int32) (G : GM) (M : MM) (L : ML) (kc : Nat) (ks : Nat), w_L_law_1134 V Q rec28 x0 x1 x3 x4 x5 G M L kc ks → ∀ (ls : Array Slot) (H : Heap) (locs : List Loc) (cells slots : Nat), lv_has ls 10 [(0, va_rf (some x0)), (1, va_rf (some x1)), (2, .ref (mh E)), (3, va_rf (some x3)), (4, va_rf (some x4)), (5, .int x5)] → xW V A G H → mW E M L H → lSep E G → va_S A s.heap H locs → cells + kc ≤ R.cells → slots + ks ≤ R.slots → W p l e R s m args below meth c H locs cells slots Z (F0 m 1134 ls []) := by
        intro x5 G M L kc ks h
        intro ls H locs cells slots hl hW hM hsep hS hkc hks
        refine lv_goto (tgt := 2004) hx hb dL_law_1134 (by decide) ?_
        exact hb2004 _ _ _ _ _ _ h ls H locs _ _ (lv_sub hl [0, 1, 2, 3, 4, 5] rfl) hW hM hsep hS hkc hks
      have hb1214 : ∀ (x5 : Int32) (G : GM) (M : MM) (L : ML) (kc : Nat) (ks : Nat), w_L_law_1214 V Q rec28 x0 x1 x3 x4 x5 G M L kc ks → ∀ (ls : Array Slot) (H : Heap) (locs : List Loc) (cells slots : Nat), lv_has ls 10 [(0, va_rf (some x0)), (1, va_rf (some x1)), (2, .ref (mh E)), (3, va_rf (some x3)), (4, va_rf (some x4)), (5, .int x5)] → xW V A G H → mW E M L H → lSep E G → va_S A s.heap H locs → cells + kc ≤ R.cells → slots + ks ≤ R.slots → W p l e R s m args below meth c H locs cells slots Z (F0 m 1214 ls []) := by
        intro x5 G M L kc ks h
        intro ls H locs cells slots hl hW hM hsep hS hkc hks
        refine lv_goto (tgt := 2004) hx hb dL_law_1214 (by decide) ?_
        exact hb2004 _ _ _ _ _ _ h ls H locs _ _ (lv_sub hl [0, 1, 2, 3, 4, 5] rfl) hW hM hsep hS hkc hks
      have hb1333 : ∀ (x5 : Int32) (G : GM) (M : MM) (L : ML) (kc : Nat) (ks : Nat), w_L_law_1333 V Q rec28 x0 x1 x3 x4 x5 G M L kc ks → ∀ (ls : Array Slot) (H : Heap) (locs : List Loc) (cells slots : Nat), lv_has ls 10 [(0, va_rf (some x0)), (1, va_rf (some x1)), (2, .ref (mh E)), (3, va_rf (some x3)), (4, va_rf (some x4)), (5, .int x5)] → xW V A G H → mW E M L H → lSep E G → va_S A s.heap H locs → cells + kc ≤ R.cells → slots + ks ≤ R.slots → W p l e R s m args below meth c H locs cells slots Z (F0 m 1333 ls []) := by
        intro x5 G M L kc ks h
        intro ls H locs cells slots hl hW hM hsep hS hkc hks
        refine lv_goto (tgt := 2004) hx hb dL_law_1333 (by decide) ?_
        exact hb2004 _ _ _ _ _ _ h ls H locs _ _ (lv_sub hl [0, 1, 2, 3, 4, 5] rfl) hW hM hsep hS hkc hks
      have hb1301 : ∀ (x5 : Int32) (x6 : Int32) (y0 : Int32) (y1 : Int32) (y2 : Int32) (y3 : Int32) (y4 : Int32) (G : GM) (M : MM) (L : ML) (kc : Nat) (ks : Nat), w_L_law_1301 V Q rec28 x0 x1 x3 x4 x5 x6 y0 y1 y2 y3 y4 G M L kc ks → ∀ (ls : Array Slot) (H : Heap) (locs : List Loc) (cells slots : Nat), lv_has ls 10 [(0, va_rf (some x0)), (1, va_rf (some x1)), (2, .ref (mh E)), (3, va_rf (some x3)), (4, va_rf (some x4)), (5, .int x5), (6, .int x6)] → xW V A G H → mW E M L H → lSep E G → va_S A s.heap H locs → cells + kc ≤ R.cells → slots + ks ≤ R.slots → W p l e R s m args below meth c H locs cells slots Z (F0 m 1301 ls [.int y0, .int y1, .int y2, .int y3, .int y4, .ref (mh E)]) := by
        intro x5 x6 y0 y1 y2 y3 y4 G M L kc ks h
        intro ls H locs cells slots hl hW hM hsep hS hkc hks
        refine call_X3_map (ct_X3_map l) C.1 hKm hM hS C.2.2.2 hAw q2039 (le_lit hRf rfl) (le_lit hRl rfl) ⟨Nat.le_trans (Nat.le_add_right _ _) hkc, Nat.le_trans (Nat.le_add_right _ _) hks⟩ hl.1 (Nat.le_of_ble_eq_true rfl) dL_law_1301 h (fun r16 M17 L18 H locs h hM hS hk => ?_)
        have hW := lw_callM hW hsep hk
        refine lv_lstore (lv' := [(7, .long r16), (0, va_rf (some x0)), (1, va_rf (some x1)), (2, .ref (mh E)), (3, va_rf (some x3)), (4, va_rf (some x4)), (5, .int x5), (6, .int x6)]) hx hb dL_law_1304 hl (by decide) rfl (fun ls hl => ?_)
        refine lv_aload_n hx hb dL_law_1306 rfl (lv_at hl 3 rfl) ?_
        refine call_X3_thrown (ct_X3_thrown l) C.1 hKm hM hS C.2.2.2 q1895 (le_lit hRf rfl) (le_lit hRl rfl) ⟨Nat.le_trans (Nat.le_add_right _ _) hkc, Nat.le_trans (Nat.le_add_right _ _) hks⟩ hl.1 (Nat.le_of_ble_eq_true rfl) dL_law_1307 h (fun r19 H locs h hk hS => ?_)
        have hW := hW.kept hk
        have hM := hM.kept hk
        refine lv_iload hx hb dL_law_1310 (lv_at hl 7 rfl) ?_
        refine lv_icmp_eq (tgt := 1317) hx hb dL_law_1312 (by decide) (fun c23 => ?_) (fun c23 => ?_)
        · have h := wif_t h c23
          refine lv_iload hx hb dL_law_1317 (lv_at hl 7 rfl) ?_
          refine lv_if_ne (tgt := 1333) hx hb dL_law_1319 (by decide) (fun c22 => ?_) (fun c22 => ?_)
          · have h := wif_f h c22
            exact hb1333 _ _ _ _ _ _ h ls H locs _ _ (lv_sub hl [1, 2, 3, 4, 5, 6] rfl) hW hM hsep hS hkc hks
          · have h := wif_t h c22
            refine sh_aload_n hx hb dL_law_1322 rfl (lv_at hl 4 rfl) ?_
            refine lv_iconst (v := 0) hx hb dL_law_1323 (by decide) ?_
            refine sh_lald C hW h dL_law_1324 (fun v20 h => ?_)
            refine lv_lload hx hb dL_law_1325 (lv_at hl 0 rfl) ?_
            refine W.lcmp hx hb dL_law_1327 ?_
            refine lv_if_eq (tgt := 1333) hx hb dL_law_1328 (by decide) (fun c21 => ?_) (fun c21 => ?_)
            · have h := wif_t h c21
              exact hb1333 _ _ _ _ _ _ h ls H locs _ _ (lv_sub hl [1, 2, 3, 4, 5, 6] rfl) hW hM hsep hS hkc hks
            · have h := wif_f h c21
              refine lv_iconst (v := 0) hx hb dL_law_1331 (by decide) ?_
              exact hret _ _ _ _ _ _ _ dL_law_1332 hW hS hkc hks isZ_0 h
        · have h := wif_f h c23
          refine lv_iconst (v := 0) hx hb dL_law_1315 (by decide) ?_
          exact hret _ _ _ _ _ _ _ dL_law_1316 hW hS hkc hks isZ_0 h
      have hb1256 : ∀ (x5 : Int32) (y0 : Int32) (y1 : Int32) (y2 : Int32) (y3 : Int32) (y4 : Int32) (y5 : Option Nat) (G : GM) (M : MM) (L : ML) (kc : Nat) (ks : Nat), w_L_law_1256 V Q rec28 x0 x1 x3 x4 x5 y0 y1 y2 y3 y4 y5 G M L kc ks → ∀ (ls : Array Slot) (H : Heap) (locs : List Loc) (cells slots : Nat), lv_has ls 10 [(0, va_rf (some x0)), (1, va_rf (some x1)), (2, .ref (mh E)), (3, va_rf (some x3)), (4, va_rf (some x4)), (5, .int x5)] → xW V A G H → mW E M L H → lSep E G → va_S A s.heap H locs → cells + kc ≤ R.cells → slots + ks ≤ R.slots → W p l e R s m args below meth c H locs cells slots Z (F0 m 1256 ls [.int y0, .int y1, .int y2, .int y3, .int y4, va_rf y5]) := by
        intro x5 y0 y1 y2 y3 y4 y5 G M L kc ks h
        intro ls H locs cells slots hl hW hM hsep hS hkc hks
        refine sh_aload_n hx hb dL_law_1256 rfl (lv_at hl 3 rfl) ?_
        obtain ⟨c26, s27, hc1257, hs1257, h⟩ := h
        refine call_X0_map_S (ct_X0_map l hfl) C hW hS q1363 (le_lit hRf rfl) (le_lit hRl rfl) hc1257 hs1257 hkc hks hl.1 (Nat.le_of_ble_eq_true rfl) dL_law_1257 h (fun r24 G25 H locs h hW hS hF hkc hks => ?_)
        obtain ⟨hM, hsep⟩ := lw_callG hM hsep hgE hF
        refine lv_istore (lv' := [(6, .int r24), (0, va_rf (some x0)), (1, va_rf (some x1)), (2, .ref (mh E)), (3, va_rf (some x3)), (4, va_rf (some x4)), (5, .int x5)]) hx hb dL_law_1260 hl (by decide) rfl (fun ls hl => ?_)
        refine lv_aload_n hx hb dL_law_1262 rfl (lv_at hl 3 rfl) ?_
        refine sh_aload_n hx hb dL_law_1263 rfl (lv_at hl 1 rfl) ?_
        refine lv_iload hx hb dL_law_1264 (lv_at hl 6 rfl) ?_
        refine lv_iconst (v := 1) hx hb dL_law_1266 (by decide) ?_
        refine lv_iadd hx hb dL_law_1267 ?_
        refine sh_iald C hW h dL_law_1268 (fun v28 h => ?_)
        refine sh_aload_n hx hb dL_law_1269 rfl (lv_at hl 1 rfl) ?_
        refine lv_iload hx hb dL_law_1270 (lv_at hl 6 rfl) ?_
        refine lv_iconst (v := 2) hx hb dL_law_1272 (by decide) ?_
        refine lv_iadd hx hb dL_law_1273 ?_
        refine sh_iald C hW h dL_law_1274 (fun v29 h => ?_)
        refine sh_aload_n hx hb dL_law_1275 rfl (lv_at hl 1 rfl) ?_
        refine lv_iload hx hb dL_law_1276 (lv_at hl 6 rfl) ?_
        refine lv_iconst (v := 3) hx hb dL_law_1278 (by decide) ?_
        refine lv_iadd hx hb dL_law_1279 ?_
        refine sh_iald C hW h dL_law_1280 (fun v30 h => ?_)
        refine sh_aload_n hx hb dL_law_1281 rfl (lv_at hl 1 rfl) ?_
        refine lv_iload hx hb dL_law_1282 (lv_at hl 6 rfl) ?_
        refine lv_iconst (v := 4) hx hb dL_law_1284 (by decide) ?_
        refine lv_iadd hx hb dL_law_1285 ?_
        refine sh_iald C hW h dL_law_1286 (fun v31 h => ?_)
        refine sh_aload_n hx hb dL_law_1287 rfl (lv_at hl 1 rfl) ?_
        refine lv_iload hx hb dL_law_1288 (lv_at hl 6 rfl) ?_
        refine lv_iconst (v := 5) hx hb dL_law_1290 (by decide) ?_
        refine lv_iadd hx hb dL_law_1291 ?_
        refine sh_iald C hW h dL_law_1292 (fun v32 h => ?_)
        refine lv_if_eq (tgt := 1300) hx hb dL_law_1293 (by decide) (fun c33 => ?_) (fun c33 => ?_)
        · have h := wif_t h c33
          refine lv_iconst (v := 0) hx hb dL_law_1300 (by decide) ?_
          exact hb1301 _ _ _ _ _ _ _ _ _ _ _ _ h ls H locs _ _ (lv_sub hl [1, 2, 3, 4, 5, 6, 0] rfl) hW hM hsep hS hkc hks
        · have h := wif_f h c33
          refine lv_iconst (v := 1) hx hb dL_law_1296 (by decide) ?_
          refine lv_goto (tgt := 1301) hx hb dL_law_1297 (by decide) ?_
          exact hb1301 _ _ _ _ _ _ _ _ _ _ _ _ h ls H locs _ _ (lv_sub hl [1, 2, 3, 4, 5, 6, 0] rfl) hW hM hsep hS hkc hks
      have hb1401 : ∀ (x5 : Int32) (G : GM) (M : MM) (L : ML) (kc : Nat) (ks : Nat), w_L_law_1401 V Q rec28 x0 x1 x3 x4 x5 G M L kc ks → ∀ (ls : Array Slot) (H : Heap) (locs : List Loc) (cells slots : Nat), lv_has ls 10 [(0, va_rf (some x0)), (1, va_rf (some x1)), (2, .ref (mh E)), (3, va_rf (some x3)), (4, va_rf (some x4)), (5, .int x5)] → xW V A G H → mW E M L H → lSep E G → va_S A s.heap H locs → cells + kc ≤ R.cells → slots + ks ≤ R.slots → W p l e R s m args below meth c H locs cells slots Z (F0 m 1401 ls []) := by
        intro x5 G M L kc ks h
        intro ls H locs cells slots hl hW hM hsep hS hkc hks
        refine lv_goto (tgt := 2004) hx hb dL_law_1401 (by decide) ?_
        exact hb2004 _ _ _ _ _ _ h ls H locs _ _ (lv_sub hl [0, 1, 2, 3, 4, 5] rfl) hW hM hsep hS hkc hks
      have hb1493 : ∀ (x5 : Int32) (G : GM) (M : MM) (L : ML) (kc : Nat) (ks : Nat), w_L_law_1493 V Q rec28 x0 x1 x3 x4 x5 G M L kc ks → ∀ (ls : Array Slot) (H : Heap) (locs : List Loc) (cells slots : Nat), lv_has ls 10 [(0, va_rf (some x0)), (1, va_rf (some x1)), (2, .ref (mh E)), (3, va_rf (some x3)), (4, va_rf (some x4)), (5, .int x5)] → xW V A G H → mW E M L H → lSep E G → va_S A s.heap H locs → cells + kc ≤ R.cells → slots + ks ≤ R.slots → W p l e R s m args below meth c H locs cells slots Z (F0 m 1493 ls []) := by
        intro x5 G M L kc ks h
        intro ls H locs cells slots hl hW hM hsep hS hkc hks
        refine lv_goto (tgt := 2004) hx hb dL_law_1493 (by decide) ?_
        exact hb2004 _ _ _ _ _ _ h ls H locs _ _ (lv_sub hl [0, 1, 2, 3, 4, 5] rfl) hW hM hsep hS hkc hks
      have hb1561 : ∀ (x5 : Int32) (G : GM) (M : MM) (L : ML) (kc : Nat) (ks : Nat), w_L_law_1561 V Q rec28 x0 x1 x3 x4 x5 G M L kc ks → ∀ (ls : Array Slot) (H : Heap) (locs : List Loc) (cells slots : Nat), lv_has ls 10 [(0, va_rf (some x0)), (1, va_rf (some x1)), (2, .ref (mh E)), (3, va_rf (some x3)), (4, va_rf (some x4)), (5, .int x5)] → xW V A G H → mW E M L H → lSep E G → va_S A s.heap H locs → cells + kc ≤ R.cells → slots + ks ≤ R.slots → W p l e R s m args below meth c H locs cells slots Z (F0 m 1561 ls []) := by
        intro x5 G M L kc ks h
        intro ls H locs cells slots hl hW hM hsep hS hkc hks
        refine lv_goto (tgt := 2004) hx hb dL_law_1561 (by decide) ?_
        exact hb2004 _ _ _ _ _ _ h ls H locs _ _ (lv_sub hl [0, 1, 2, 3, 4, 5] rfl) hW hM hsep hS hkc hks
      have hb1629 : ∀ (x5 : Int32) (G : GM) (M : MM) (L : ML) (kc : Nat) (ks : Nat), w_L_law_1629 V Q rec28 x0 x1 x3 x4 x5 G M L kc ks → ∀ (ls : Array Slot) (H : Heap) (locs : List Loc) (cells slots : Nat), lv_has ls 10 [(0, va_rf (some x0)), (1, va_rf (some x1)), (2, .ref (mh E)), (3, va_rf (some x3)), (4, va_rf (some x4)), (5, .int x5)] → xW V A G H → mW E M L H → lSep E G → va_S A s.heap H locs → cells + kc ≤ R.cells → slots + ks ≤ R.slots → W p l e R s m args below meth c H locs cells slots Z (F0 m 1629 ls []) := by
        intro x5 G M L kc ks h
        intro ls H locs cells slots hl hW hM hsep hS hkc hks
        refine lv_goto (tgt := 2004) hx hb dL_law_1629 (by decide) ?_
        exact hb2004 _ _ _ _ _ _ h ls H locs _ _ (lv_sub hl [0, 1, 2, 3, 4, 5] rfl) hW hM hsep hS hkc hks
      have hb1709 : ∀ (x5 : Int32) (G : GM) (M : MM) (L : ML) (kc : Nat) (ks : Nat), w_L_law_1709 V Q rec28 x0 x1 x3 x4 x5 G M L kc ks → ∀ (ls : Array Slot) (H : Heap) (locs : List Loc) (cells slots : Nat), lv_has ls 10 [(0, va_rf (some x0)), (1, va_rf (some x1)), (2, .ref (mh E)), (3, va_rf (some x3)), (4, va_rf (some x4)), (5, .int x5)] → xW V A G H → mW E M L H → lSep E G → va_S A s.heap H locs → cells + kc ≤ R.cells → slots + ks ≤ R.slots → W p l e R s m args below meth c H locs cells slots Z (F0 m 1709 ls []) := by
        intro x5 G M L kc ks h
        intro ls H locs cells slots hl hW hM hsep hS hkc hks
        refine lv_goto (tgt := 2004) hx hb dL_law_1709 (by decide) ?_
        exact hb2004 _ _ _ _ _ _ h ls H locs _ _ (lv_sub hl [0, 1, 2, 3, 4, 5] rfl) hW hM hsep hS hkc hks
      have hb1789 : ∀ (x5 : Int32) (G : GM) (M : MM) (L : ML) (kc : Nat) (ks : Nat), w_L_law_1789 V Q rec28 x0 x1 x3 x4 x5 G M L kc ks → ∀ (ls : Array Slot) (H : Heap) (locs : List Loc) (cells slots : Nat), lv_has ls 10 [(0, va_rf (some x0)), (1, va_rf (some x1)), (2, .ref (mh E)), (3, va_rf (some x3)), (4, va_rf (some x4)), (5, .int x5)] → xW V A G H → mW E M L H → lSep E G → va_S A s.heap H locs → cells + kc ≤ R.cells → slots + ks ≤ R.slots → W p l e R s m args below meth c H locs cells slots Z (F0 m 1789 ls []) := by
        intro x5 G M L kc ks h
        intro ls H locs cells slots hl hW hM hsep hS hkc hks
        refine lv_goto (tgt := 2004) hx hb dL_law_1789 (by decide) ?_
        exact hb2004 _ _ _ _ _ _ h ls H locs _ _ (lv_sub hl [0, 1, 2, 3, 4, 5] rfl) hW hM hsep hS hkc hks
      have hb1845 : ∀ (x5 : Int32) (G : GM) (M : MM) (L : ML) (kc : Nat) (ks : Nat), w_L_law_1845 V Q rec28 x0 x1 x3 x4 x5 G M L kc ks → ∀ (ls : Array Slot) (H : Heap) (locs : List Loc) (cells slots : Nat), lv_has ls 10 [(0, va_rf (some x0)), (1, va_rf (some x1)), (2, .ref (mh E)), (3, va_rf (some x3)), (4, va_rf (some x4)), (5, .int x5)] → xW V A G H → mW E M L H → lSep E G → va_S A s.heap H locs → cells + kc ≤ R.cells → slots + ks ≤ R.slots → W p l e R s m args below meth c H locs cells slots Z (F0 m 1845 ls []) := by
        intro x5 G M L kc ks h
        intro ls H locs cells slots hl hW hM hsep hS hkc hks
        refine lv_goto (tgt := 2004) hx hb dL_law_1845 (by decide) ?_
        exact hb2004 _ _ _ _ _ _ h ls H locs _ _ (lv_sub hl [0, 1, 2, 3, 4, 5] rfl) hW hM hsep hS hkc hks
      have hb1911 : ∀ (x5 : Int32) (G : GM) (M : MM) (L : ML) (kc : Nat) (ks : Nat), w_L_law_1911 V Q rec28 x0 x1 x3 x4 x5 G M L kc ks → ∀ (ls : Array Slot) (H : Heap) (locs : List Loc) (cells slots : Nat), lv_has ls 10 [(0, va_rf (some x0)), (1, va_rf (some x1)), (2, .ref (mh E)), (3, va_rf (some x3)), (4, va_rf (some x4)), (5, .int x5)] → xW V A G H → mW E M L H → lSep E G → va_S A s.heap H locs → cells + kc ≤ R.cells → slots + ks ≤ R.slots → W p l e R s m args below meth c H locs cells slots Z (F0 m 1911 ls []) := by
        intro x5 G M L kc ks h
        intro ls H locs cells slots hl hW hM hsep hS hkc hks
        refine lv_goto (tgt := 2004) hx hb dL_law_1911 (by decide) ?_
        exact hb2004 _ _ _ _ _ _ h ls H locs _ _ (lv_sub hl [0, 1, 2, 3, 4, 5] rfl) hW hM hsep hS hkc hks
      have hb2001 : ∀ (x5 : Int32) (G : GM) (M : MM) (L : ML) (kc : Nat) (ks : Nat), w_L_law_2001 V Q rec28 x0 x1 x3 x4 x5 G M L kc ks → ∀ (ls : Array Slot) (H : Heap) (locs : List Loc) (cells slots : Nat), lv_has ls 10 [(0, va_rf (some x0)), (1, va_rf (some x1)), (2, .ref (mh E)), (3, va_rf (some x3)), (4, va_rf (some x4)), (5, .int x5)] → xW V A G H → mW E M L H → lSep E G → va_S A s.heap H locs → cells + kc ≤ R.cells → slots + ks ≤ R.slots → W p l e R s m args below meth c H locs cells slots Z (F0 m 2001 ls []) := by
        intro x5 G M L kc ks h
        intro ls H locs cells slots hl hW hM hsep hS hkc hks
        refine lv_goto (tgt := 2004) hx hb dL_law_2001 (by decide) ?_
        exact hb2004 _ _ _ _ _ _ h ls H locs _ _ (lv_sub hl [0, 1, 2, 3, 4, 5] rfl) hW hM hsep hS hkc hks
      intro x5 G M L kc ks h
      rw [hG28]
      intro ls H locs cells slots hl hW hM hsep hS hkc hks
      refine lv_iload hx hb dL_law_28 (lv_at hl 5 rfl) ?_
      refine sh_aload_n hx hb dL_law_30 rfl (lv_at hl 0 rfl) ?_
      refine sh_len C hW h dL_law_31 (fun v34 h => ?_)
      refine lv_bipush (v := 6) hx hb dL_law_32 (by decide) ?_
      refine lv_isub hx hb dL_law_34 ?_
      refine lv_icmp_gt (tgt := 2010) hx hb dL_law_35 (by decide) (fun c437 => ?_) (fun c437 => ?_)
      · have h := wif_t h c437
        refine lv_iconst (v := 1) hx hb dL_law_2010 (by decide) ?_
        exact hret _ _ _ _ _ _ _ dL_law_2011 hW hS hkc hks isZ_1 h
      · have h := wif_f h c437
        refine sh_aload_n hx hb dL_law_38 rfl (lv_at hl 0 rfl) ?_
        refine lv_iload hx hb dL_law_39 (lv_at hl 5 rfl) ?_
        refine sh_iald C hW h dL_law_41 (fun v35 h => ?_)
        refine lv_bipush (v := 31) hx hb dL_law_42 (by decide) ?_
        refine lv_iand hx hb dL_law_44 ?_
        by_cases c45 : (v35 &&& (31 : Int32)) = (0 : Int32)
        · have h := wif_t h c45
          refine lv_tableIn (tgt := 164) (off := 119) hx hb dL_law_45 (by rw [c45]; decide) (by rw [c45]; decide) (by rw [c45]; rfl) (by decide) ?_
          refine sh_aload_n hx hb dL_law_164 rfl (lv_at hl 1 rfl) ?_
          obtain ⟨a36, c37, ho165, hcv165, h⟩ := h
          have hcc := h.1
          have h := h.2
          obtain ⟨c40, s41, hc165, hs165, h⟩ := h
          refine call_X1_clear_V (ct_X1_clear l) C hW hS q220 ho165 hcv165 hcc (le_lit hRf rfl) (le_lit hRl rfl) hc165 hs165 hkc hks hl.1 (Nat.le_of_ble_eq_true rfl) dL_law_165 h (fun r38 G39 H locs h hW hS hF hkc hks => ?_)
          obtain ⟨hM, hsep⟩ := lw_callG hM hsep hgE hF
          refine lv_aload_n hx hb dL_law_168 rfl (lv_at hl 2 rfl) ?_
          refine call_X3_clear (ct_X3_clear l) C.1 hKm hM hS C.2.2.2 hAw q1899 (le_lit hRf rfl) (le_lit hRl rfl) ⟨Nat.le_trans (Nat.le_add_right _ _) hkc, Nat.le_trans (Nat.le_add_right _ _) hks⟩ hl.1 (Nat.le_of_ble_eq_true rfl) dL_law_169 h (fun r42 M43 H locs h hM hS hk => ?_)
          have hW := lw_callM hW hsep hk
          refine lv_icmp_eq (tgt := 2004) hx hb dL_law_172 (by decide) (fun c44 => ?_) (fun c44 => ?_)
          · have h := wif_t h c44
            exact hb2004 _ _ _ _ _ _ h ls H locs _ _ (lv_sub hl [0, 1, 2, 3, 4, 5] rfl) hW hM hsep hS hkc hks
          · have h := wif_f h c44
            refine lv_iconst (v := 0) hx hb dL_law_175 (by decide) ?_
            exact hret _ _ _ _ _ _ _ dL_law_176 hW hS hkc hks isZ_0 h
        · have h := wif_f h c45
          by_cases c57 : (v35 &&& (31 : Int32)) = (1 : Int32)
          · have h := wif_t h c57
            refine lv_tableIn (tgt := 177) (off := 132) hx hb dL_law_45 (by rw [c57]; decide) (by rw [c57]; decide) (by rw [c57]; rfl) (by decide) ?_
            refine sh_aload_n hx hb dL_law_177 rfl (lv_at hl 1 rfl) ?_
            refine sh_aload_n hx hb dL_law_178 rfl (lv_at hl 3 rfl) ?_
            obtain ⟨c48, s49, hc179, hs179, h⟩ := h
            refine call_X0_addComposition_S (ct_X0_addComposition l hfl) C hW hS q625 (le_lit hRf rfl) (le_lit hRl rfl) hc179 hs179 hkc hks hl.1 (Nat.le_of_ble_eq_true rfl) dL_law_179 h (fun r46 G47 H locs h hW hS hF hkc hks => ?_)
            obtain ⟨hM, hsep⟩ := lw_callG hM hsep hgE hF
            refine lv_istore (lv' := [(6, .int r46), (0, va_rf (some x0)), (1, va_rf (some x1)), (2, .ref (mh E)), (3, va_rf (some x3)), (4, va_rf (some x4)), (5, .int x5)]) hx hb dL_law_182 hl (by decide) rfl (fun ls hl => ?_)
            refine lv_aload_n hx hb dL_law_184 rfl (lv_at hl 3 rfl) ?_
            refine call_X3_addComposition (ct_X3_addComposition l) C.1 hKm hM hS C.2.2.2 hAw q1903 (le_lit hRf rfl) (le_lit hRl rfl) ⟨Nat.le_trans (Nat.le_add_right _ _) hkc, Nat.le_trans (Nat.le_add_right _ _) hks⟩ hl.1 (Nat.le_of_ble_eq_true rfl) dL_law_185 h (fun r50 M51 H locs h hM hS hk => ?_)
            have hW := lw_callM hW hsep hk
            refine lv_istore (lv' := [(7, .int r50), (6, .int r46), (0, va_rf (some x0)), (1, va_rf (some x1)), (2, .ref (mh E)), (3, va_rf (some x3)), (4, va_rf (some x4)), (5, .int x5)]) hx hb dL_law_188 hl (by decide) rfl (fun ls hl => ?_)
            refine lv_aload_n hx hb dL_law_190 rfl (lv_at hl 4 rfl) ?_
            refine call_X3_thrown (ct_X3_thrown l) C.1 hKm hM hS C.2.2.2 q1895 (le_lit hRf rfl) (le_lit hRl rfl) ⟨Nat.le_trans (Nat.le_add_right _ _) hkc, Nat.le_trans (Nat.le_add_right _ _) hks⟩ hl.1 (Nat.le_of_ble_eq_true rfl) dL_law_191 h (fun r52 H locs h hk hS => ?_)
            have hW := hW.kept hk
            have hM := hM.kept hk
            refine lv_iload hx hb dL_law_194 (lv_at hl 1 rfl) ?_
            refine lv_icmp_eq (tgt := 201) hx hb dL_law_196 (by decide) (fun c56 => ?_) (fun c56 => ?_)
            · have h := wif_t h c56
              refine lv_iload hx hb dL_law_201 (lv_at hl 1 rfl) ?_
              refine lv_if_ne (tgt := 218) hx hb dL_law_203 (by decide) (fun c55 => ?_) (fun c55 => ?_)
              · have h := wif_f h c55
                exact hb218 _ _ _ _ _ _ h ls H locs _ _ (lv_sub hl [2, 3, 4, 5, 6, 7] rfl) hW hM hsep hS hkc hks
              · have h := wif_t h c55
                refine sh_aload_n hx hb dL_law_206 rfl (lv_at hl 5 rfl) ?_
                refine lv_iconst (v := 0) hx hb dL_law_207 (by decide) ?_
                refine sh_lald C hW h dL_law_208 (fun v53 h => ?_)
                refine lv_iload hx hb dL_law_209 (lv_at hl 0 rfl) ?_
                refine lv_i2l hx hb dL_law_211 rfl ?_
                refine W.lcmp hx hb dL_law_212 ?_
                refine lv_if_eq (tgt := 218) hx hb dL_law_213 (by decide) (fun c54 => ?_) (fun c54 => ?_)
                · have h := wif_t h c54
                  exact hb218 _ _ _ _ _ _ h ls H locs _ _ (lv_sub hl [2, 3, 4, 5, 6, 7] rfl) hW hM hsep hS hkc hks
                · have h := wif_f h c54
                  refine lv_iconst (v := 0) hx hb dL_law_216 (by decide) ?_
                  exact hret _ _ _ _ _ _ _ dL_law_217 hW hS hkc hks isZ_0 h
            · have h := wif_f h c56
              refine lv_iconst (v := 0) hx hb dL_law_199 (by decide) ?_
              exact hret _ _ _ _ _ _ _ dL_law_200 hW hS hkc hks isZ_0 h
          · have h := wif_f h c57
            by_cases c77 : (v35 &&& (31 : Int32)) = (2 : Int32)
            · have h := wif_t h c77
              refine lv_tableIn (tgt := 221) (off := 176) hx hb dL_law_45 (by rw [c77]; decide) (by rw [c77]; decide) (by rw [c77]; rfl) (by decide) ?_
              refine sh_aload_n hx hb dL_law_221 rfl (lv_at hl 1 rfl) ?_
              refine sh_aload_n hx hb dL_law_222 rfl (lv_at hl 0 rfl) ?_
              refine lv_iload hx hb dL_law_223 (lv_at hl 5 rfl) ?_
              refine lv_iconst (v := 1) hx hb dL_law_225 (by decide) ?_
              refine lv_iadd hx hb dL_law_226 ?_
              refine sh_iald C hW h dL_law_227 (fun v58 h => ?_)
              refine sh_aload_n hx hb dL_law_228 rfl (lv_at hl 0 rfl) ?_
              refine lv_iload hx hb dL_law_229 (lv_at hl 5 rfl) ?_
              refine lv_iconst (v := 2) hx hb dL_law_231 (by decide) ?_
              refine lv_iadd hx hb dL_law_232 ?_
              refine sh_iald C hW h dL_law_233 (fun v59 h => ?_)
              refine sh_aload_n hx hb dL_law_234 rfl (lv_at hl 0 rfl) ?_
              refine lv_iload hx hb dL_law_235 (lv_at hl 5 rfl) ?_
              refine lv_iconst (v := 3) hx hb dL_law_237 (by decide) ?_
              refine lv_iadd hx hb dL_law_238 ?_
              refine sh_iald C hW h dL_law_239 (fun v60 h => ?_)
              refine sh_aload_n hx hb dL_law_240 rfl (lv_at hl 0 rfl) ?_
              refine lv_iload hx hb dL_law_241 (lv_at hl 5 rfl) ?_
              refine lv_iconst (v := 4) hx hb dL_law_243 (by decide) ?_
              refine lv_iadd hx hb dL_law_244 ?_
              refine sh_iald C hW h dL_law_245 (fun v61 h => ?_)
              refine sh_aload_n hx hb dL_law_246 rfl (lv_at hl 3 rfl) ?_
              obtain ⟨c64, s65, hc247, hs247, h⟩ := h
              refine call_X0_addRect_S (ct_X0_addRect l hfl) C hW hS q737 (le_lit hRf rfl) (le_lit hRl rfl) hc247 hs247 hkc hks hl.1 (Nat.le_of_ble_eq_true rfl) dL_law_247 h (fun r62 G63 H locs h hW hS hF hkc hks => ?_)
              obtain ⟨hM, hsep⟩ := lw_callG hM hsep hgE hF
              refine lv_istore (lv' := [(6, .int r62), (0, va_rf (some x0)), (1, va_rf (some x1)), (2, .ref (mh E)), (3, va_rf (some x3)), (4, va_rf (some x4)), (5, .int x5)]) hx hb dL_law_250 hl (by decide) rfl (fun ls hl => ?_)
              refine lv_aload_n hx hb dL_law_252 rfl (lv_at hl 3 rfl) ?_
              refine sh_aload_n hx hb dL_law_253 rfl (lv_at hl 1 rfl) ?_
              refine lv_iload hx hb dL_law_254 (lv_at hl 6 rfl) ?_
              refine lv_iconst (v := 1) hx hb dL_law_256 (by decide) ?_
              refine lv_iadd hx hb dL_law_257 ?_
              refine sh_iald C hW h dL_law_258 (fun v66 h => ?_)
              refine sh_aload_n hx hb dL_law_259 rfl (lv_at hl 1 rfl) ?_
              refine lv_iload hx hb dL_law_260 (lv_at hl 6 rfl) ?_
              refine lv_iconst (v := 2) hx hb dL_law_262 (by decide) ?_
              refine lv_iadd hx hb dL_law_263 ?_
              refine sh_iald C hW h dL_law_264 (fun v67 h => ?_)
              refine sh_aload_n hx hb dL_law_265 rfl (lv_at hl 1 rfl) ?_
              refine lv_iload hx hb dL_law_266 (lv_at hl 6 rfl) ?_
              refine lv_iconst (v := 3) hx hb dL_law_268 (by decide) ?_
              refine lv_iadd hx hb dL_law_269 ?_
              refine sh_iald C hW h dL_law_270 (fun v68 h => ?_)
              refine sh_aload_n hx hb dL_law_271 rfl (lv_at hl 1 rfl) ?_
              refine lv_iload hx hb dL_law_272 (lv_at hl 6 rfl) ?_
              refine lv_iconst (v := 4) hx hb dL_law_274 (by decide) ?_
              refine lv_iadd hx hb dL_law_275 ?_
              refine sh_iald C hW h dL_law_276 (fun v69 h => ?_)
              refine call_X3_addRect (ct_X3_addRect l) C.1 hKm hM hS C.2.2.2 hAw q1911 (le_lit hRf rfl) (le_lit hRl rfl) ⟨Nat.le_trans (Nat.le_add_right _ _) hkc, Nat.le_trans (Nat.le_add_right _ _) hks⟩ hl.1 (Nat.le_of_ble_eq_true rfl) dL_law_277 h (fun r70 M71 H locs h hM hS hk => ?_)
              have hW := lw_callM hW hsep hk
              refine lv_istore (lv' := [(7, .int r70), (6, .int r62), (0, va_rf (some x0)), (1, va_rf (some x1)), (2, .ref (mh E)), (3, va_rf (some x3)), (4, va_rf (some x4)), (5, .int x5)]) hx hb dL_law_280 hl (by decide) rfl (fun ls hl => ?_)
              refine lv_aload_n hx hb dL_law_282 rfl (lv_at hl 4 rfl) ?_
              refine call_X3_thrown (ct_X3_thrown l) C.1 hKm hM hS C.2.2.2 q1895 (le_lit hRf rfl) (le_lit hRl rfl) ⟨Nat.le_trans (Nat.le_add_right _ _) hkc, Nat.le_trans (Nat.le_add_right _ _) hks⟩ hl.1 (Nat.le_of_ble_eq_true rfl) dL_law_283 h (fun r72 H locs h hk hS => ?_)
              have hW := hW.kept hk
              have hM := hM.kept hk
              refine lv_iload hx hb dL_law_286 (lv_at hl 1 rfl) ?_
              refine lv_icmp_eq (tgt := 293) hx hb dL_law_288 (by decide) (fun c76 => ?_) (fun c76 => ?_)
              · have h := wif_t h c76
                refine lv_iload hx hb dL_law_293 (lv_at hl 1 rfl) ?_
                refine lv_if_ne (tgt := 310) hx hb dL_law_295 (by decide) (fun c75 => ?_) (fun c75 => ?_)
                · have h := wif_f h c75
                  exact hb310 _ _ _ _ _ _ h ls H locs _ _ (lv_sub hl [2, 3, 4, 5, 6, 7] rfl) hW hM hsep hS hkc hks
                · have h := wif_t h c75
                  refine sh_aload_n hx hb dL_law_298 rfl (lv_at hl 5 rfl) ?_
                  refine lv_iconst (v := 0) hx hb dL_law_299 (by decide) ?_
                  refine sh_lald C hW h dL_law_300 (fun v73 h => ?_)
                  refine lv_iload hx hb dL_law_301 (lv_at hl 0 rfl) ?_
                  refine lv_i2l hx hb dL_law_303 rfl ?_
                  refine W.lcmp hx hb dL_law_304 ?_
                  refine lv_if_eq (tgt := 310) hx hb dL_law_305 (by decide) (fun c74 => ?_) (fun c74 => ?_)
                  · have h := wif_t h c74
                    exact hb310 _ _ _ _ _ _ h ls H locs _ _ (lv_sub hl [2, 3, 4, 5, 6, 7] rfl) hW hM hsep hS hkc hks
                  · have h := wif_f h c74
                    refine lv_iconst (v := 0) hx hb dL_law_308 (by decide) ?_
                    exact hret _ _ _ _ _ _ _ dL_law_309 hW hS hkc hks isZ_0 h
              · have h := wif_f h c76
                refine lv_iconst (v := 0) hx hb dL_law_291 (by decide) ?_
                exact hret _ _ _ _ _ _ _ dL_law_292 hW hS hkc hks isZ_0 h
            · have h := wif_f h c77
              by_cases c93 : (v35 &&& (31 : Int32)) = (3 : Int32)
              · have h := wif_t h c93
                refine lv_tableIn (tgt := 313) (off := 268) hx hb dL_law_45 (by rw [c93]; decide) (by rw [c93]; decide) (by rw [c93]; rfl) (by decide) ?_
                refine sh_aload_n hx hb dL_law_313 rfl (lv_at hl 1 rfl) ?_
                refine sh_aload_n hx hb dL_law_314 rfl (lv_at hl 0 rfl) ?_
                refine lv_iload hx hb dL_law_315 (lv_at hl 5 rfl) ?_
                refine lv_iconst (v := 1) hx hb dL_law_317 (by decide) ?_
                refine lv_iadd hx hb dL_law_318 ?_
                refine sh_iald C hW h dL_law_319 (fun v78 h => ?_)
                refine sh_aload_n hx hb dL_law_320 rfl (lv_at hl 0 rfl) ?_
                refine lv_iload hx hb dL_law_321 (lv_at hl 5 rfl) ?_
                refine lv_iconst (v := 2) hx hb dL_law_323 (by decide) ?_
                refine lv_iadd hx hb dL_law_324 ?_
                refine sh_iald C hW h dL_law_325 (fun v79 h => ?_)
                refine sh_aload_n hx hb dL_law_326 rfl (lv_at hl 3 rfl) ?_
                obtain ⟨c82, s83, hc327, hs327, h⟩ := h
                refine call_X0_addStroke_S (ct_X0_addStroke l hfl) C hW hS q882 (le_lit hRf rfl) (le_lit hRl rfl) hc327 hs327 hkc hks hl.1 (Nat.le_of_ble_eq_true rfl) dL_law_327 h (fun r80 G81 H locs h hW hS hF hkc hks => ?_)
                obtain ⟨hM, hsep⟩ := lw_callG hM hsep hgE hF
                refine lv_istore (lv' := [(6, .int r80), (0, va_rf (some x0)), (1, va_rf (some x1)), (2, .ref (mh E)), (3, va_rf (some x3)), (4, va_rf (some x4)), (5, .int x5)]) hx hb dL_law_330 hl (by decide) rfl (fun ls hl => ?_)
                refine lv_aload_n hx hb dL_law_332 rfl (lv_at hl 3 rfl) ?_
                refine sh_aload_n hx hb dL_law_333 rfl (lv_at hl 1 rfl) ?_
                refine lv_iload hx hb dL_law_334 (lv_at hl 6 rfl) ?_
                refine lv_iconst (v := 1) hx hb dL_law_336 (by decide) ?_
                refine lv_iadd hx hb dL_law_337 ?_
                refine sh_iald C hW h dL_law_338 (fun v84 h => ?_)
                refine sh_aload_n hx hb dL_law_339 rfl (lv_at hl 1 rfl) ?_
                refine lv_iload hx hb dL_law_340 (lv_at hl 6 rfl) ?_
                refine lv_iconst (v := 2) hx hb dL_law_342 (by decide) ?_
                refine lv_iadd hx hb dL_law_343 ?_
                refine sh_iald C hW h dL_law_344 (fun v85 h => ?_)
                refine call_X3_addStroke (ct_X3_addStroke l) C.1 hKm hM hS C.2.2.2 hAw q1930 (le_lit hRf rfl) (le_lit hRl rfl) ⟨Nat.le_trans (Nat.le_add_right _ _) hkc, Nat.le_trans (Nat.le_add_right _ _) hks⟩ hl.1 (Nat.le_of_ble_eq_true rfl) dL_law_345 h (fun r86 M87 H locs h hM hS hk => ?_)
                have hW := lw_callM hW hsep hk
                refine lv_istore (lv' := [(7, .int r86), (6, .int r80), (0, va_rf (some x0)), (1, va_rf (some x1)), (2, .ref (mh E)), (3, va_rf (some x3)), (4, va_rf (some x4)), (5, .int x5)]) hx hb dL_law_348 hl (by decide) rfl (fun ls hl => ?_)
                refine lv_aload_n hx hb dL_law_350 rfl (lv_at hl 4 rfl) ?_
                refine call_X3_thrown (ct_X3_thrown l) C.1 hKm hM hS C.2.2.2 q1895 (le_lit hRf rfl) (le_lit hRl rfl) ⟨Nat.le_trans (Nat.le_add_right _ _) hkc, Nat.le_trans (Nat.le_add_right _ _) hks⟩ hl.1 (Nat.le_of_ble_eq_true rfl) dL_law_351 h (fun r88 H locs h hk hS => ?_)
                have hW := hW.kept hk
                have hM := hM.kept hk
                refine lv_iload hx hb dL_law_354 (lv_at hl 1 rfl) ?_
                refine lv_icmp_eq (tgt := 361) hx hb dL_law_356 (by decide) (fun c92 => ?_) (fun c92 => ?_)
                · have h := wif_t h c92
                  refine lv_iload hx hb dL_law_361 (lv_at hl 1 rfl) ?_
                  refine lv_if_ne (tgt := 378) hx hb dL_law_363 (by decide) (fun c91 => ?_) (fun c91 => ?_)
                  · have h := wif_f h c91
                    exact hb378 _ _ _ _ _ _ h ls H locs _ _ (lv_sub hl [2, 3, 4, 5, 6, 7] rfl) hW hM hsep hS hkc hks
                  · have h := wif_t h c91
                    refine sh_aload_n hx hb dL_law_366 rfl (lv_at hl 5 rfl) ?_
                    refine lv_iconst (v := 0) hx hb dL_law_367 (by decide) ?_
                    refine sh_lald C hW h dL_law_368 (fun v89 h => ?_)
                    refine lv_iload hx hb dL_law_369 (lv_at hl 0 rfl) ?_
                    refine lv_i2l hx hb dL_law_371 rfl ?_
                    refine W.lcmp hx hb dL_law_372 ?_
                    refine lv_if_eq (tgt := 378) hx hb dL_law_373 (by decide) (fun c90 => ?_) (fun c90 => ?_)
                    · have h := wif_t h c90
                      exact hb378 _ _ _ _ _ _ h ls H locs _ _ (lv_sub hl [2, 3, 4, 5, 6, 7] rfl) hW hM hsep hS hkc hks
                    · have h := wif_f h c90
                      refine lv_iconst (v := 0) hx hb dL_law_376 (by decide) ?_
                      exact hret _ _ _ _ _ _ _ dL_law_377 hW hS hkc hks isZ_0 h
                · have h := wif_f h c92
                  refine lv_iconst (v := 0) hx hb dL_law_359 (by decide) ?_
                  exact hret _ _ _ _ _ _ _ dL_law_360 hW hS hkc hks isZ_0 h
              · have h := wif_f h c93
                by_cases c111 : (v35 &&& (31 : Int32)) = (4 : Int32)
                · have h := wif_t h c111
                  refine lv_tableIn (tgt := 381) (off := 336) hx hb dL_law_45 (by rw [c111]; decide) (by rw [c111]; decide) (by rw [c111]; rfl) (by decide) ?_
                  refine sh_aload_n hx hb dL_law_381 rfl (lv_at hl 1 rfl) ?_
                  refine sh_aload_n hx hb dL_law_382 rfl (lv_at hl 0 rfl) ?_
                  refine lv_iload hx hb dL_law_383 (lv_at hl 5 rfl) ?_
                  refine lv_iconst (v := 1) hx hb dL_law_385 (by decide) ?_
                  refine lv_iadd hx hb dL_law_386 ?_
                  refine sh_iald C hW h dL_law_387 (fun v94 h => ?_)
                  refine sh_aload_n hx hb dL_law_388 rfl (lv_at hl 0 rfl) ?_
                  refine lv_iload hx hb dL_law_389 (lv_at hl 5 rfl) ?_
                  refine lv_iconst (v := 2) hx hb dL_law_391 (by decide) ?_
                  refine lv_iadd hx hb dL_law_392 ?_
                  refine sh_iald C hW h dL_law_393 (fun v95 h => ?_)
                  refine sh_aload_n hx hb dL_law_394 rfl (lv_at hl 0 rfl) ?_
                  refine lv_iload hx hb dL_law_395 (lv_at hl 5 rfl) ?_
                  refine lv_iconst (v := 3) hx hb dL_law_397 (by decide) ?_
                  refine lv_iadd hx hb dL_law_398 ?_
                  refine sh_iald C hW h dL_law_399 (fun v96 h => ?_)
                  refine sh_aload_n hx hb dL_law_400 rfl (lv_at hl 3 rfl) ?_
                  obtain ⟨c99, s100, hc401, hs401, h⟩ := h
                  refine call_X0_addPoint_S (ct_X0_addPoint l hfl) C hW hS q914 (le_lit hRf rfl) (le_lit hRl rfl) hc401 hs401 hkc hks hl.1 (Nat.le_of_ble_eq_true rfl) dL_law_401 h (fun r97 G98 H locs h hW hS hF hkc hks => ?_)
                  obtain ⟨hM, hsep⟩ := lw_callG hM hsep hgE hF
                  refine lv_istore (lv' := [(6, .int r97), (0, va_rf (some x0)), (1, va_rf (some x1)), (2, .ref (mh E)), (3, va_rf (some x3)), (4, va_rf (some x4)), (5, .int x5)]) hx hb dL_law_404 hl (by decide) rfl (fun ls hl => ?_)
                  refine lv_aload_n hx hb dL_law_406 rfl (lv_at hl 3 rfl) ?_
                  refine sh_aload_n hx hb dL_law_407 rfl (lv_at hl 1 rfl) ?_
                  refine lv_iload hx hb dL_law_408 (lv_at hl 6 rfl) ?_
                  refine lv_iconst (v := 1) hx hb dL_law_410 (by decide) ?_
                  refine lv_iadd hx hb dL_law_411 ?_
                  refine sh_iald C hW h dL_law_412 (fun v101 h => ?_)
                  refine sh_aload_n hx hb dL_law_413 rfl (lv_at hl 1 rfl) ?_
                  refine lv_iload hx hb dL_law_414 (lv_at hl 6 rfl) ?_
                  refine lv_iconst (v := 2) hx hb dL_law_416 (by decide) ?_
                  refine lv_iadd hx hb dL_law_417 ?_
                  refine sh_iald C hW h dL_law_418 (fun v102 h => ?_)
                  refine sh_aload_n hx hb dL_law_419 rfl (lv_at hl 1 rfl) ?_
                  refine lv_iload hx hb dL_law_420 (lv_at hl 6 rfl) ?_
                  refine lv_iconst (v := 3) hx hb dL_law_422 (by decide) ?_
                  refine lv_iadd hx hb dL_law_423 ?_
                  refine sh_iald C hW h dL_law_424 (fun v103 h => ?_)
                  refine call_X3_addPoint (ct_X3_addPoint l) C.1 hKm hM hS C.2.2.2 hAw q1934 (le_lit hRf rfl) (le_lit hRl rfl) ⟨Nat.le_trans (Nat.le_add_right _ _) hkc, Nat.le_trans (Nat.le_add_right _ _) hks⟩ hl.1 (Nat.le_of_ble_eq_true rfl) dL_law_425 h (fun r104 M105 H locs h hM hS hk => ?_)
                  have hW := lw_callM hW hsep hk
                  refine lv_istore (lv' := [(7, .int r104), (6, .int r97), (0, va_rf (some x0)), (1, va_rf (some x1)), (2, .ref (mh E)), (3, va_rf (some x3)), (4, va_rf (some x4)), (5, .int x5)]) hx hb dL_law_428 hl (by decide) rfl (fun ls hl => ?_)
                  refine lv_aload_n hx hb dL_law_430 rfl (lv_at hl 4 rfl) ?_
                  refine call_X3_thrown (ct_X3_thrown l) C.1 hKm hM hS C.2.2.2 q1895 (le_lit hRf rfl) (le_lit hRl rfl) ⟨Nat.le_trans (Nat.le_add_right _ _) hkc, Nat.le_trans (Nat.le_add_right _ _) hks⟩ hl.1 (Nat.le_of_ble_eq_true rfl) dL_law_431 h (fun r106 H locs h hk hS => ?_)
                  have hW := hW.kept hk
                  have hM := hM.kept hk
                  refine lv_iload hx hb dL_law_434 (lv_at hl 1 rfl) ?_
                  refine lv_icmp_eq (tgt := 441) hx hb dL_law_436 (by decide) (fun c110 => ?_) (fun c110 => ?_)
                  · have h := wif_t h c110
                    refine lv_iload hx hb dL_law_441 (lv_at hl 1 rfl) ?_
                    refine lv_if_ne (tgt := 458) hx hb dL_law_443 (by decide) (fun c109 => ?_) (fun c109 => ?_)
                    · have h := wif_f h c109
                      exact hb458 _ _ _ _ _ _ h ls H locs _ _ (lv_sub hl [2, 3, 4, 5, 6, 7] rfl) hW hM hsep hS hkc hks
                    · have h := wif_t h c109
                      refine sh_aload_n hx hb dL_law_446 rfl (lv_at hl 5 rfl) ?_
                      refine lv_iconst (v := 0) hx hb dL_law_447 (by decide) ?_
                      refine sh_lald C hW h dL_law_448 (fun v107 h => ?_)
                      refine lv_iload hx hb dL_law_449 (lv_at hl 0 rfl) ?_
                      refine lv_i2l hx hb dL_law_451 rfl ?_
                      refine W.lcmp hx hb dL_law_452 ?_
                      refine lv_if_eq (tgt := 458) hx hb dL_law_453 (by decide) (fun c108 => ?_) (fun c108 => ?_)
                      · have h := wif_t h c108
                        exact hb458 _ _ _ _ _ _ h ls H locs _ _ (lv_sub hl [2, 3, 4, 5, 6, 7] rfl) hW hM hsep hS hkc hks
                      · have h := wif_f h c108
                        refine lv_iconst (v := 0) hx hb dL_law_456 (by decide) ?_
                        exact hret _ _ _ _ _ _ _ dL_law_457 hW hS hkc hks isZ_0 h
                  · have h := wif_f h c110
                    refine lv_iconst (v := 0) hx hb dL_law_439 (by decide) ?_
                    exact hret _ _ _ _ _ _ _ dL_law_440 hW hS hkc hks isZ_0 h
                · have h := wif_f h c111
                  by_cases c127 : (v35 &&& (31 : Int32)) = (5 : Int32)
                  · have h := wif_t h c127
                    refine lv_tableIn (tgt := 461) (off := 416) hx hb dL_law_45 (by rw [c127]; decide) (by rw [c127]; decide) (by rw [c127]; rfl) (by decide) ?_
                    refine sh_aload_n hx hb dL_law_461 rfl (lv_at hl 1 rfl) ?_
                    refine sh_aload_n hx hb dL_law_462 rfl (lv_at hl 0 rfl) ?_
                    refine lv_iload hx hb dL_law_463 (lv_at hl 5 rfl) ?_
                    refine lv_iconst (v := 1) hx hb dL_law_465 (by decide) ?_
                    refine lv_iadd hx hb dL_law_466 ?_
                    refine sh_iald C hW h dL_law_467 (fun v112 h => ?_)
                    refine sh_aload_n hx hb dL_law_468 rfl (lv_at hl 0 rfl) ?_
                    refine lv_iload hx hb dL_law_469 (lv_at hl 5 rfl) ?_
                    refine lv_iconst (v := 2) hx hb dL_law_471 (by decide) ?_
                    refine lv_iadd hx hb dL_law_472 ?_
                    refine sh_iald C hW h dL_law_473 (fun v113 h => ?_)
                    refine sh_aload_n hx hb dL_law_474 rfl (lv_at hl 3 rfl) ?_
                    obtain ⟨c116, s117, hc475, hs475, h⟩ := h
                    refine call_X0_addNested_S (ct_X0_addNested l hfl) C hW hS q954 (le_lit hRf rfl) (le_lit hRl rfl) hc475 hs475 hkc hks hl.1 (Nat.le_of_ble_eq_true rfl) dL_law_475 h (fun r114 G115 H locs h hW hS hF hkc hks => ?_)
                    obtain ⟨hM, hsep⟩ := lw_callG hM hsep hgE hF
                    refine lv_istore (lv' := [(6, .int r114), (0, va_rf (some x0)), (1, va_rf (some x1)), (2, .ref (mh E)), (3, va_rf (some x3)), (4, va_rf (some x4)), (5, .int x5)]) hx hb dL_law_478 hl (by decide) rfl (fun ls hl => ?_)
                    refine lv_aload_n hx hb dL_law_480 rfl (lv_at hl 3 rfl) ?_
                    refine sh_aload_n hx hb dL_law_481 rfl (lv_at hl 1 rfl) ?_
                    refine lv_iload hx hb dL_law_482 (lv_at hl 6 rfl) ?_
                    refine lv_iconst (v := 1) hx hb dL_law_484 (by decide) ?_
                    refine lv_iadd hx hb dL_law_485 ?_
                    refine sh_iald C hW h dL_law_486 (fun v118 h => ?_)
                    refine sh_aload_n hx hb dL_law_487 rfl (lv_at hl 1 rfl) ?_
                    refine lv_iload hx hb dL_law_488 (lv_at hl 6 rfl) ?_
                    refine lv_iconst (v := 2) hx hb dL_law_490 (by decide) ?_
                    refine lv_iadd hx hb dL_law_491 ?_
                    refine sh_iald C hW h dL_law_492 (fun v119 h => ?_)
                    refine call_X3_addNested (ct_X3_addNested l) C.1 hKm hM hS C.2.2.2 hAw q1946 (le_lit hRf rfl) (le_lit hRl rfl) ⟨Nat.le_trans (Nat.le_add_right _ _) hkc, Nat.le_trans (Nat.le_add_right _ _) hks⟩ hl.1 (Nat.le_of_ble_eq_true rfl) dL_law_493 h (fun r120 M121 H locs h hM hS hk => ?_)
                    have hW := lw_callM hW hsep hk
                    refine lv_istore (lv' := [(7, .int r120), (6, .int r114), (0, va_rf (some x0)), (1, va_rf (some x1)), (2, .ref (mh E)), (3, va_rf (some x3)), (4, va_rf (some x4)), (5, .int x5)]) hx hb dL_law_496 hl (by decide) rfl (fun ls hl => ?_)
                    refine lv_aload_n hx hb dL_law_498 rfl (lv_at hl 4 rfl) ?_
                    refine call_X3_thrown (ct_X3_thrown l) C.1 hKm hM hS C.2.2.2 q1895 (le_lit hRf rfl) (le_lit hRl rfl) ⟨Nat.le_trans (Nat.le_add_right _ _) hkc, Nat.le_trans (Nat.le_add_right _ _) hks⟩ hl.1 (Nat.le_of_ble_eq_true rfl) dL_law_499 h (fun r122 H locs h hk hS => ?_)
                    have hW := hW.kept hk
                    have hM := hM.kept hk
                    refine lv_iload hx hb dL_law_502 (lv_at hl 1 rfl) ?_
                    refine lv_icmp_eq (tgt := 509) hx hb dL_law_504 (by decide) (fun c126 => ?_) (fun c126 => ?_)
                    · have h := wif_t h c126
                      refine lv_iload hx hb dL_law_509 (lv_at hl 1 rfl) ?_
                      refine lv_if_ne (tgt := 526) hx hb dL_law_511 (by decide) (fun c125 => ?_) (fun c125 => ?_)
                      · have h := wif_f h c125
                        exact hb526 _ _ _ _ _ _ h ls H locs _ _ (lv_sub hl [2, 3, 4, 5, 6, 7] rfl) hW hM hsep hS hkc hks
                      · have h := wif_t h c125
                        refine sh_aload_n hx hb dL_law_514 rfl (lv_at hl 5 rfl) ?_
                        refine lv_iconst (v := 0) hx hb dL_law_515 (by decide) ?_
                        refine sh_lald C hW h dL_law_516 (fun v123 h => ?_)
                        refine lv_iload hx hb dL_law_517 (lv_at hl 0 rfl) ?_
                        refine lv_i2l hx hb dL_law_519 rfl ?_
                        refine W.lcmp hx hb dL_law_520 ?_
                        refine lv_if_eq (tgt := 526) hx hb dL_law_521 (by decide) (fun c124 => ?_) (fun c124 => ?_)
                        · have h := wif_t h c124
                          exact hb526 _ _ _ _ _ _ h ls H locs _ _ (lv_sub hl [2, 3, 4, 5, 6, 7] rfl) hW hM hsep hS hkc hks
                        · have h := wif_f h c124
                          refine lv_iconst (v := 0) hx hb dL_law_524 (by decide) ?_
                          exact hret _ _ _ _ _ _ _ dL_law_525 hW hS hkc hks isZ_0 h
                    · have h := wif_f h c126
                      refine lv_iconst (v := 0) hx hb dL_law_507 (by decide) ?_
                      exact hret _ _ _ _ _ _ _ dL_law_508 hW hS hkc hks isZ_0 h
                  · have h := wif_f h c127
                    by_cases c141 : (v35 &&& (31 : Int32)) = (6 : Int32)
                    · have h := wif_t h c141
                      refine lv_tableIn (tgt := 529) (off := 484) hx hb dL_law_45 (by rw [c141]; decide) (by rw [c141]; decide) (by rw [c141]; rfl) (by decide) ?_
                      refine sh_aload_n hx hb dL_law_529 rfl (lv_at hl 1 rfl) ?_
                      refine sh_aload_n hx hb dL_law_530 rfl (lv_at hl 0 rfl) ?_
                      refine lv_iload hx hb dL_law_531 (lv_at hl 5 rfl) ?_
                      refine lv_iconst (v := 1) hx hb dL_law_533 (by decide) ?_
                      refine lv_iadd hx hb dL_law_534 ?_
                      refine sh_iald C hW h dL_law_535 (fun v128 h => ?_)
                      refine sh_aload_n hx hb dL_law_536 rfl (lv_at hl 3 rfl) ?_
                      obtain ⟨c131, s132, hc537, hs537, h⟩ := h
                      refine call_X0_addNull_S (ct_X0_addNull l hfl) C hW hS q1048 (le_lit hRf rfl) (le_lit hRl rfl) hc537 hs537 hkc hks hl.1 (Nat.le_of_ble_eq_true rfl) dL_law_537 h (fun r129 G130 H locs h hW hS hF hkc hks => ?_)
                      obtain ⟨hM, hsep⟩ := lw_callG hM hsep hgE hF
                      refine lv_istore (lv' := [(6, .int r129), (0, va_rf (some x0)), (1, va_rf (some x1)), (2, .ref (mh E)), (3, va_rf (some x3)), (4, va_rf (some x4)), (5, .int x5)]) hx hb dL_law_540 hl (by decide) rfl (fun ls hl => ?_)
                      refine lv_aload_n hx hb dL_law_542 rfl (lv_at hl 3 rfl) ?_
                      refine sh_aload_n hx hb dL_law_543 rfl (lv_at hl 1 rfl) ?_
                      refine lv_iload hx hb dL_law_544 (lv_at hl 6 rfl) ?_
                      refine lv_iconst (v := 1) hx hb dL_law_546 (by decide) ?_
                      refine lv_iadd hx hb dL_law_547 ?_
                      refine sh_iald C hW h dL_law_548 (fun v133 h => ?_)
                      refine call_X3_addNull (ct_X3_addNull l) C.1 hKm hM hS C.2.2.2 hAw q1954 (le_lit hRf rfl) (le_lit hRl rfl) ⟨Nat.le_trans (Nat.le_add_right _ _) hkc, Nat.le_trans (Nat.le_add_right _ _) hks⟩ hl.1 (Nat.le_of_ble_eq_true rfl) dL_law_549 h (fun r134 M135 H locs h hM hS hk => ?_)
                      have hW := lw_callM hW hsep hk
                      refine lv_istore (lv' := [(7, .int r134), (6, .int r129), (0, va_rf (some x0)), (1, va_rf (some x1)), (2, .ref (mh E)), (3, va_rf (some x3)), (4, va_rf (some x4)), (5, .int x5)]) hx hb dL_law_552 hl (by decide) rfl (fun ls hl => ?_)
                      refine lv_aload_n hx hb dL_law_554 rfl (lv_at hl 4 rfl) ?_
                      refine call_X3_thrown (ct_X3_thrown l) C.1 hKm hM hS C.2.2.2 q1895 (le_lit hRf rfl) (le_lit hRl rfl) ⟨Nat.le_trans (Nat.le_add_right _ _) hkc, Nat.le_trans (Nat.le_add_right _ _) hks⟩ hl.1 (Nat.le_of_ble_eq_true rfl) dL_law_555 h (fun r136 H locs h hk hS => ?_)
                      have hW := hW.kept hk
                      have hM := hM.kept hk
                      refine lv_iload hx hb dL_law_558 (lv_at hl 1 rfl) ?_
                      refine lv_icmp_eq (tgt := 565) hx hb dL_law_560 (by decide) (fun c140 => ?_) (fun c140 => ?_)
                      · have h := wif_t h c140
                        refine lv_iload hx hb dL_law_565 (lv_at hl 1 rfl) ?_
                        refine lv_if_ne (tgt := 582) hx hb dL_law_567 (by decide) (fun c139 => ?_) (fun c139 => ?_)
                        · have h := wif_f h c139
                          exact hb582 _ _ _ _ _ _ h ls H locs _ _ (lv_sub hl [2, 3, 4, 5, 6, 7] rfl) hW hM hsep hS hkc hks
                        · have h := wif_t h c139
                          refine sh_aload_n hx hb dL_law_570 rfl (lv_at hl 5 rfl) ?_
                          refine lv_iconst (v := 0) hx hb dL_law_571 (by decide) ?_
                          refine sh_lald C hW h dL_law_572 (fun v137 h => ?_)
                          refine lv_iload hx hb dL_law_573 (lv_at hl 0 rfl) ?_
                          refine lv_i2l hx hb dL_law_575 rfl ?_
                          refine W.lcmp hx hb dL_law_576 ?_
                          refine lv_if_eq (tgt := 582) hx hb dL_law_577 (by decide) (fun c138 => ?_) (fun c138 => ?_)
                          · have h := wif_t h c138
                            exact hb582 _ _ _ _ _ _ h ls H locs _ _ (lv_sub hl [2, 3, 4, 5, 6, 7] rfl) hW hM hsep hS hkc hks
                          · have h := wif_f h c138
                            refine lv_iconst (v := 0) hx hb dL_law_580 (by decide) ?_
                            exact hret _ _ _ _ _ _ _ dL_law_581 hW hS hkc hks isZ_0 h
                      · have h := wif_f h c140
                        refine lv_iconst (v := 0) hx hb dL_law_563 (by decide) ?_
                        exact hret _ _ _ _ _ _ _ dL_law_564 hW hS hkc hks isZ_0 h
                    · have h := wif_f h c141
                      by_cases c155 : (v35 &&& (31 : Int32)) = (7 : Int32)
                      · have h := wif_t h c155
                        refine lv_tableIn (tgt := 585) (off := 540) hx hb dL_law_45 (by rw [c155]; decide) (by rw [c155]; decide) (by rw [c155]; rfl) (by decide) ?_
                        refine sh_aload_n hx hb dL_law_585 rfl (lv_at hl 1 rfl) ?_
                        refine sh_aload_n hx hb dL_law_586 rfl (lv_at hl 0 rfl) ?_
                        refine lv_iload hx hb dL_law_587 (lv_at hl 5 rfl) ?_
                        refine lv_iconst (v := 1) hx hb dL_law_589 (by decide) ?_
                        refine lv_iadd hx hb dL_law_590 ?_
                        refine sh_iald C hW h dL_law_591 (fun v142 h => ?_)
                        refine sh_aload_n hx hb dL_law_592 rfl (lv_at hl 3 rfl) ?_
                        obtain ⟨c145, s146, hc593, hs593, h⟩ := h
                        refine call_X0_remove_S (ct_X0_remove l hfl) C hW hS q1070 (le_lit hRf rfl) (le_lit hRl rfl) hc593 hs593 hkc hks hl.1 (Nat.le_of_ble_eq_true rfl) dL_law_593 h (fun r143 G144 H locs h hW hS hF hkc hks => ?_)
                        obtain ⟨hM, hsep⟩ := lw_callG hM hsep hgE hF
                        refine lv_istore (lv' := [(6, .int r143), (0, va_rf (some x0)), (1, va_rf (some x1)), (2, .ref (mh E)), (3, va_rf (some x3)), (4, va_rf (some x4)), (5, .int x5)]) hx hb dL_law_596 hl (by decide) rfl (fun ls hl => ?_)
                        refine lv_aload_n hx hb dL_law_598 rfl (lv_at hl 3 rfl) ?_
                        refine sh_aload_n hx hb dL_law_599 rfl (lv_at hl 1 rfl) ?_
                        refine lv_iload hx hb dL_law_600 (lv_at hl 6 rfl) ?_
                        refine lv_iconst (v := 1) hx hb dL_law_602 (by decide) ?_
                        refine lv_iadd hx hb dL_law_603 ?_
                        refine sh_iald C hW h dL_law_604 (fun v147 h => ?_)
                        refine call_X3_remove (ct_X3_remove l) C.1 hKm hM hS C.2.2.2 hAw q1958 (le_lit hRf rfl) (le_lit hRl rfl) ⟨Nat.le_trans (Nat.le_add_right _ _) hkc, Nat.le_trans (Nat.le_add_right _ _) hks⟩ hl.1 (Nat.le_of_ble_eq_true rfl) dL_law_605 h (fun r148 M149 H locs h hM hS hk => ?_)
                        have hW := lw_callM hW hsep hk
                        refine lv_istore (lv' := [(7, .int r148), (6, .int r143), (0, va_rf (some x0)), (1, va_rf (some x1)), (2, .ref (mh E)), (3, va_rf (some x3)), (4, va_rf (some x4)), (5, .int x5)]) hx hb dL_law_608 hl (by decide) rfl (fun ls hl => ?_)
                        refine lv_aload_n hx hb dL_law_610 rfl (lv_at hl 4 rfl) ?_
                        refine call_X3_thrown (ct_X3_thrown l) C.1 hKm hM hS C.2.2.2 q1895 (le_lit hRf rfl) (le_lit hRl rfl) ⟨Nat.le_trans (Nat.le_add_right _ _) hkc, Nat.le_trans (Nat.le_add_right _ _) hks⟩ hl.1 (Nat.le_of_ble_eq_true rfl) dL_law_611 h (fun r150 H locs h hk hS => ?_)
                        have hW := hW.kept hk
                        have hM := hM.kept hk
                        refine lv_iload hx hb dL_law_614 (lv_at hl 1 rfl) ?_
                        refine lv_icmp_eq (tgt := 621) hx hb dL_law_616 (by decide) (fun c154 => ?_) (fun c154 => ?_)
                        · have h := wif_t h c154
                          refine lv_iload hx hb dL_law_621 (lv_at hl 1 rfl) ?_
                          refine lv_if_ne (tgt := 638) hx hb dL_law_623 (by decide) (fun c153 => ?_) (fun c153 => ?_)
                          · have h := wif_f h c153
                            exact hb638 _ _ _ _ _ _ h ls H locs _ _ (lv_sub hl [2, 3, 4, 5, 6, 7] rfl) hW hM hsep hS hkc hks
                          · have h := wif_t h c153
                            refine sh_aload_n hx hb dL_law_626 rfl (lv_at hl 5 rfl) ?_
                            refine lv_iconst (v := 0) hx hb dL_law_627 (by decide) ?_
                            refine sh_lald C hW h dL_law_628 (fun v151 h => ?_)
                            refine lv_iload hx hb dL_law_629 (lv_at hl 0 rfl) ?_
                            refine lv_i2l hx hb dL_law_631 rfl ?_
                            refine W.lcmp hx hb dL_law_632 ?_
                            refine lv_if_eq (tgt := 638) hx hb dL_law_633 (by decide) (fun c152 => ?_) (fun c152 => ?_)
                            · have h := wif_t h c152
                              exact hb638 _ _ _ _ _ _ h ls H locs _ _ (lv_sub hl [2, 3, 4, 5, 6, 7] rfl) hW hM hsep hS hkc hks
                            · have h := wif_f h c152
                              refine lv_iconst (v := 0) hx hb dL_law_636 (by decide) ?_
                              exact hret _ _ _ _ _ _ _ dL_law_637 hW hS hkc hks isZ_0 h
                        · have h := wif_f h c154
                          refine lv_iconst (v := 0) hx hb dL_law_619 (by decide) ?_
                          exact hret _ _ _ _ _ _ _ dL_law_620 hW hS hkc hks isZ_0 h
                      · have h := wif_f h c155
                        by_cases c171 : (v35 &&& (31 : Int32)) = (8 : Int32)
                        · have h := wif_t h c171
                          refine lv_tableIn (tgt := 641) (off := 596) hx hb dL_law_45 (by rw [c171]; decide) (by rw [c171]; decide) (by rw [c171]; rfl) (by decide) ?_
                          refine sh_aload_n hx hb dL_law_641 rfl (lv_at hl 1 rfl) ?_
                          refine sh_aload_n hx hb dL_law_642 rfl (lv_at hl 0 rfl) ?_
                          refine lv_iload hx hb dL_law_643 (lv_at hl 5 rfl) ?_
                          refine lv_iconst (v := 1) hx hb dL_law_645 (by decide) ?_
                          refine lv_iadd hx hb dL_law_646 ?_
                          refine sh_iald C hW h dL_law_647 (fun v156 h => ?_)
                          refine sh_aload_n hx hb dL_law_648 rfl (lv_at hl 0 rfl) ?_
                          refine lv_iload hx hb dL_law_649 (lv_at hl 5 rfl) ?_
                          refine lv_iconst (v := 2) hx hb dL_law_651 (by decide) ?_
                          refine lv_iadd hx hb dL_law_652 ?_
                          refine sh_iald C hW h dL_law_653 (fun v157 h => ?_)
                          refine sh_aload_n hx hb dL_law_654 rfl (lv_at hl 3 rfl) ?_
                          obtain ⟨c160, s161, hc655, hs655, h⟩ := h
                          refine call_X0_order_S (ct_X0_order l hfl) C hW hS q1130 (le_lit hRf rfl) (le_lit hRl rfl) hc655 hs655 hkc hks hl.1 (Nat.le_of_ble_eq_true rfl) dL_law_655 h (fun r158 G159 H locs h hW hS hF hkc hks => ?_)
                          obtain ⟨hM, hsep⟩ := lw_callG hM hsep hgE hF
                          refine lv_istore (lv' := [(6, .int r158), (0, va_rf (some x0)), (1, va_rf (some x1)), (2, .ref (mh E)), (3, va_rf (some x3)), (4, va_rf (some x4)), (5, .int x5)]) hx hb dL_law_658 hl (by decide) rfl (fun ls hl => ?_)
                          refine lv_aload_n hx hb dL_law_660 rfl (lv_at hl 3 rfl) ?_
                          refine sh_aload_n hx hb dL_law_661 rfl (lv_at hl 1 rfl) ?_
                          refine lv_iload hx hb dL_law_662 (lv_at hl 6 rfl) ?_
                          refine lv_iconst (v := 1) hx hb dL_law_664 (by decide) ?_
                          refine lv_iadd hx hb dL_law_665 ?_
                          refine sh_iald C hW h dL_law_666 (fun v162 h => ?_)
                          refine sh_aload_n hx hb dL_law_667 rfl (lv_at hl 1 rfl) ?_
                          refine lv_iload hx hb dL_law_668 (lv_at hl 6 rfl) ?_
                          refine lv_iconst (v := 2) hx hb dL_law_670 (by decide) ?_
                          refine lv_iadd hx hb dL_law_671 ?_
                          refine sh_iald C hW h dL_law_672 (fun v163 h => ?_)
                          refine call_X3_order (ct_X3_order l) C.1 hKm hM hS C.2.2.2 hAw q1970 (le_lit hRf rfl) (le_lit hRl rfl) ⟨Nat.le_trans (Nat.le_add_right _ _) hkc, Nat.le_trans (Nat.le_add_right _ _) hks⟩ hl.1 (Nat.le_of_ble_eq_true rfl) dL_law_673 h (fun r164 M165 H locs h hM hS hk => ?_)
                          have hW := lw_callM hW hsep hk
                          refine lv_istore (lv' := [(7, .int r164), (6, .int r158), (0, va_rf (some x0)), (1, va_rf (some x1)), (2, .ref (mh E)), (3, va_rf (some x3)), (4, va_rf (some x4)), (5, .int x5)]) hx hb dL_law_676 hl (by decide) rfl (fun ls hl => ?_)
                          refine lv_aload_n hx hb dL_law_678 rfl (lv_at hl 4 rfl) ?_
                          refine call_X3_thrown (ct_X3_thrown l) C.1 hKm hM hS C.2.2.2 q1895 (le_lit hRf rfl) (le_lit hRl rfl) ⟨Nat.le_trans (Nat.le_add_right _ _) hkc, Nat.le_trans (Nat.le_add_right _ _) hks⟩ hl.1 (Nat.le_of_ble_eq_true rfl) dL_law_679 h (fun r166 H locs h hk hS => ?_)
                          have hW := hW.kept hk
                          have hM := hM.kept hk
                          refine lv_iload hx hb dL_law_682 (lv_at hl 1 rfl) ?_
                          refine lv_icmp_eq (tgt := 689) hx hb dL_law_684 (by decide) (fun c170 => ?_) (fun c170 => ?_)
                          · have h := wif_t h c170
                            refine lv_iload hx hb dL_law_689 (lv_at hl 1 rfl) ?_
                            refine lv_if_ne (tgt := 706) hx hb dL_law_691 (by decide) (fun c169 => ?_) (fun c169 => ?_)
                            · have h := wif_f h c169
                              exact hb706 _ _ _ _ _ _ h ls H locs _ _ (lv_sub hl [2, 3, 4, 5, 6, 7] rfl) hW hM hsep hS hkc hks
                            · have h := wif_t h c169
                              refine sh_aload_n hx hb dL_law_694 rfl (lv_at hl 5 rfl) ?_
                              refine lv_iconst (v := 0) hx hb dL_law_695 (by decide) ?_
                              refine sh_lald C hW h dL_law_696 (fun v167 h => ?_)
                              refine lv_iload hx hb dL_law_697 (lv_at hl 0 rfl) ?_
                              refine lv_i2l hx hb dL_law_699 rfl ?_
                              refine W.lcmp hx hb dL_law_700 ?_
                              refine lv_if_eq (tgt := 706) hx hb dL_law_701 (by decide) (fun c168 => ?_) (fun c168 => ?_)
                              · have h := wif_t h c168
                                exact hb706 _ _ _ _ _ _ h ls H locs _ _ (lv_sub hl [2, 3, 4, 5, 6, 7] rfl) hW hM hsep hS hkc hks
                              · have h := wif_f h c168
                                refine lv_iconst (v := 0) hx hb dL_law_704 (by decide) ?_
                                exact hret _ _ _ _ _ _ _ dL_law_705 hW hS hkc hks isZ_0 h
                          · have h := wif_f h c170
                            refine lv_iconst (v := 0) hx hb dL_law_687 (by decide) ?_
                            exact hret _ _ _ _ _ _ _ dL_law_688 hW hS hkc hks isZ_0 h
                        · have h := wif_f h c171
                          by_cases c187 : (v35 &&& (31 : Int32)) = (9 : Int32)
                          · have h := wif_t h c187
                            refine lv_tableIn (tgt := 709) (off := 664) hx hb dL_law_45 (by rw [c187]; decide) (by rw [c187]; decide) (by rw [c187]; rfl) (by decide) ?_
                            refine sh_aload_n hx hb dL_law_709 rfl (lv_at hl 1 rfl) ?_
                            refine sh_aload_n hx hb dL_law_710 rfl (lv_at hl 0 rfl) ?_
                            refine lv_iload hx hb dL_law_711 (lv_at hl 5 rfl) ?_
                            refine lv_iconst (v := 1) hx hb dL_law_713 (by decide) ?_
                            refine lv_iadd hx hb dL_law_714 ?_
                            refine sh_iald C hW h dL_law_715 (fun v172 h => ?_)
                            refine sh_aload_n hx hb dL_law_716 rfl (lv_at hl 0 rfl) ?_
                            refine lv_iload hx hb dL_law_717 (lv_at hl 5 rfl) ?_
                            refine lv_iconst (v := 2) hx hb dL_law_719 (by decide) ?_
                            refine lv_iadd hx hb dL_law_720 ?_
                            refine sh_iald C hW h dL_law_721 (fun v173 h => ?_)
                            refine sh_aload_n hx hb dL_law_722 rfl (lv_at hl 3 rfl) ?_
                            obtain ⟨c176, s177, hc723, hs723, h⟩ := h
                            refine call_X0_setParent_S (ct_X0_setParent l hfl) C hW hS q1185 (le_lit hRf rfl) (le_lit hRl rfl) hc723 hs723 hkc hks hl.1 (Nat.le_of_ble_eq_true rfl) dL_law_723 h (fun r174 G175 H locs h hW hS hF hkc hks => ?_)
                            obtain ⟨hM, hsep⟩ := lw_callG hM hsep hgE hF
                            refine lv_istore (lv' := [(6, .int r174), (0, va_rf (some x0)), (1, va_rf (some x1)), (2, .ref (mh E)), (3, va_rf (some x3)), (4, va_rf (some x4)), (5, .int x5)]) hx hb dL_law_726 hl (by decide) rfl (fun ls hl => ?_)
                            refine lv_aload_n hx hb dL_law_728 rfl (lv_at hl 3 rfl) ?_
                            refine sh_aload_n hx hb dL_law_729 rfl (lv_at hl 1 rfl) ?_
                            refine lv_iload hx hb dL_law_730 (lv_at hl 6 rfl) ?_
                            refine lv_iconst (v := 1) hx hb dL_law_732 (by decide) ?_
                            refine lv_iadd hx hb dL_law_733 ?_
                            refine sh_iald C hW h dL_law_734 (fun v178 h => ?_)
                            refine sh_aload_n hx hb dL_law_735 rfl (lv_at hl 1 rfl) ?_
                            refine lv_iload hx hb dL_law_736 (lv_at hl 6 rfl) ?_
                            refine lv_iconst (v := 2) hx hb dL_law_738 (by decide) ?_
                            refine lv_iadd hx hb dL_law_739 ?_
                            refine sh_iald C hW h dL_law_740 (fun v179 h => ?_)
                            refine call_X3_setParent (ct_X3_setParent l) C.1 hKm hM hS C.2.2.2 hAw q1974 (le_lit hRf rfl) (le_lit hRl rfl) ⟨Nat.le_trans (Nat.le_add_right _ _) hkc, Nat.le_trans (Nat.le_add_right _ _) hks⟩ hl.1 (Nat.le_of_ble_eq_true rfl) dL_law_741 h (fun r180 M181 H locs h hM hS hk => ?_)
                            have hW := lw_callM hW hsep hk
                            refine lv_istore (lv' := [(7, .int r180), (6, .int r174), (0, va_rf (some x0)), (1, va_rf (some x1)), (2, .ref (mh E)), (3, va_rf (some x3)), (4, va_rf (some x4)), (5, .int x5)]) hx hb dL_law_744 hl (by decide) rfl (fun ls hl => ?_)
                            refine lv_aload_n hx hb dL_law_746 rfl (lv_at hl 4 rfl) ?_
                            refine call_X3_thrown (ct_X3_thrown l) C.1 hKm hM hS C.2.2.2 q1895 (le_lit hRf rfl) (le_lit hRl rfl) ⟨Nat.le_trans (Nat.le_add_right _ _) hkc, Nat.le_trans (Nat.le_add_right _ _) hks⟩ hl.1 (Nat.le_of_ble_eq_true rfl) dL_law_747 h (fun r182 H locs h hk hS => ?_)
                            have hW := hW.kept hk
                            have hM := hM.kept hk
                            refine lv_iload hx hb dL_law_750 (lv_at hl 1 rfl) ?_
                            refine lv_icmp_eq (tgt := 757) hx hb dL_law_752 (by decide) (fun c186 => ?_) (fun c186 => ?_)
                            · have h := wif_t h c186
                              refine lv_iload hx hb dL_law_757 (lv_at hl 1 rfl) ?_
                              refine lv_if_ne (tgt := 774) hx hb dL_law_759 (by decide) (fun c185 => ?_) (fun c185 => ?_)
                              · have h := wif_f h c185
                                exact hb774 _ _ _ _ _ _ h ls H locs _ _ (lv_sub hl [2, 3, 4, 5, 6, 7] rfl) hW hM hsep hS hkc hks
                              · have h := wif_t h c185
                                refine sh_aload_n hx hb dL_law_762 rfl (lv_at hl 5 rfl) ?_
                                refine lv_iconst (v := 0) hx hb dL_law_763 (by decide) ?_
                                refine sh_lald C hW h dL_law_764 (fun v183 h => ?_)
                                refine lv_iload hx hb dL_law_765 (lv_at hl 0 rfl) ?_
                                refine lv_i2l hx hb dL_law_767 rfl ?_
                                refine W.lcmp hx hb dL_law_768 ?_
                                refine lv_if_eq (tgt := 774) hx hb dL_law_769 (by decide) (fun c184 => ?_) (fun c184 => ?_)
                                · have h := wif_t h c184
                                  exact hb774 _ _ _ _ _ _ h ls H locs _ _ (lv_sub hl [2, 3, 4, 5, 6, 7] rfl) hW hM hsep hS hkc hks
                                · have h := wif_f h c184
                                  refine lv_iconst (v := 0) hx hb dL_law_772 (by decide) ?_
                                  exact hret _ _ _ _ _ _ _ dL_law_773 hW hS hkc hks isZ_0 h
                            · have h := wif_f h c186
                              refine lv_iconst (v := 0) hx hb dL_law_755 (by decide) ?_
                              exact hret _ _ _ _ _ _ _ dL_law_756 hW hS hkc hks isZ_0 h
                          · have h := wif_f h c187
                            by_cases c192 : (v35 &&& (31 : Int32)) = (10 : Int32)
                            · have h := wif_t h c192
                              refine lv_tableIn (tgt := 777) (off := 732) hx hb dL_law_45 (by rw [c192]; decide) (by rw [c192]; decide) (by rw [c192]; rfl) (by decide) ?_
                              refine sh_aload_n hx hb dL_law_777 rfl (lv_at hl 1 rfl) ?_
                              refine sh_aload_n hx hb dL_law_778 rfl (lv_at hl 0 rfl) ?_
                              refine lv_iload hx hb dL_law_779 (lv_at hl 5 rfl) ?_
                              refine lv_iconst (v := 1) hx hb dL_law_781 (by decide) ?_
                              refine lv_iadd hx hb dL_law_782 ?_
                              refine sh_iald C hW h dL_law_783 (fun v188 h => ?_)
                              refine sh_aload_n hx hb dL_law_784 rfl (lv_at hl 0 rfl) ?_
                              refine lv_iload hx hb dL_law_785 (lv_at hl 5 rfl) ?_
                              refine lv_iconst (v := 2) hx hb dL_law_787 (by decide) ?_
                              refine lv_iadd hx hb dL_law_788 ?_
                              refine sh_iald C hW h dL_law_789 (fun v189 h => ?_)
                              refine sh_aload_n hx hb dL_law_790 rfl (lv_at hl 0 rfl) ?_
                              refine lv_iload hx hb dL_law_791 (lv_at hl 5 rfl) ?_
                              refine lv_iconst (v := 3) hx hb dL_law_793 (by decide) ?_
                              refine lv_iadd hx hb dL_law_794 ?_
                              refine sh_iald C hW h dL_law_795 (fun v190 h => ?_)
                              refine lv_if_eq (tgt := 803) hx hb dL_law_796 (by decide) (fun c191 => ?_) (fun c191 => ?_)
                              · have h := wif_t h c191
                                refine lv_iconst (v := 0) hx hb dL_law_803 (by decide) ?_
                                exact hb804 _ _ _ _ _ _ _ _ _ _ h ls H locs _ _ (lv_sub hl [0, 1, 2, 3, 4, 5] rfl) hW hM hsep hS hkc hks
                              · have h := wif_f h c191
                                refine lv_iconst (v := 1) hx hb dL_law_799 (by decide) ?_
                                refine lv_goto (tgt := 804) hx hb dL_law_800 (by decide) ?_
                                exact hb804 _ _ _ _ _ _ _ _ _ _ h ls H locs _ _ (lv_sub hl [0, 1, 2, 3, 4, 5] rfl) hW hM hsep hS hkc hks
                            · have h := wif_f h c192
                              by_cases c210 : (v35 &&& (31 : Int32)) = (11 : Int32)
                              · have h := wif_t h c210
                                refine lv_tableIn (tgt := 873) (off := 828) hx hb dL_law_45 (by rw [c210]; decide) (by rw [c210]; decide) (by rw [c210]; rfl) (by decide) ?_
                                refine sh_aload_n hx hb dL_law_873 rfl (lv_at hl 1 rfl) ?_
                                refine sh_aload_n hx hb dL_law_874 rfl (lv_at hl 0 rfl) ?_
                                refine lv_iload hx hb dL_law_875 (lv_at hl 5 rfl) ?_
                                refine lv_iconst (v := 1) hx hb dL_law_877 (by decide) ?_
                                refine lv_iadd hx hb dL_law_878 ?_
                                refine sh_iald C hW h dL_law_879 (fun v193 h => ?_)
                                refine sh_aload_n hx hb dL_law_880 rfl (lv_at hl 0 rfl) ?_
                                refine lv_iload hx hb dL_law_881 (lv_at hl 5 rfl) ?_
                                refine lv_iconst (v := 2) hx hb dL_law_883 (by decide) ?_
                                refine lv_iadd hx hb dL_law_884 ?_
                                refine sh_iald C hW h dL_law_885 (fun v194 h => ?_)
                                refine sh_aload_n hx hb dL_law_886 rfl (lv_at hl 0 rfl) ?_
                                refine lv_iload hx hb dL_law_887 (lv_at hl 5 rfl) ?_
                                refine lv_iconst (v := 3) hx hb dL_law_889 (by decide) ?_
                                refine lv_iadd hx hb dL_law_890 ?_
                                refine sh_iald C hW h dL_law_891 (fun v195 h => ?_)
                                refine sh_aload_n hx hb dL_law_892 rfl (lv_at hl 3 rfl) ?_
                                obtain ⟨c198, s199, hc893, hs893, h⟩ := h
                                refine call_X0_setSpan_S (ct_X0_setSpan l hfl) C hW hS q1210 (le_lit hRf rfl) (le_lit hRl rfl) hc893 hs893 hkc hks hl.1 (Nat.le_of_ble_eq_true rfl) dL_law_893 h (fun r196 G197 H locs h hW hS hF hkc hks => ?_)
                                obtain ⟨hM, hsep⟩ := lw_callG hM hsep hgE hF
                                refine lv_istore (lv' := [(6, .int r196), (0, va_rf (some x0)), (1, va_rf (some x1)), (2, .ref (mh E)), (3, va_rf (some x3)), (4, va_rf (some x4)), (5, .int x5)]) hx hb dL_law_896 hl (by decide) rfl (fun ls hl => ?_)
                                refine lv_aload_n hx hb dL_law_898 rfl (lv_at hl 3 rfl) ?_
                                refine sh_aload_n hx hb dL_law_899 rfl (lv_at hl 1 rfl) ?_
                                refine lv_iload hx hb dL_law_900 (lv_at hl 6 rfl) ?_
                                refine lv_iconst (v := 1) hx hb dL_law_902 (by decide) ?_
                                refine lv_iadd hx hb dL_law_903 ?_
                                refine sh_iald C hW h dL_law_904 (fun v200 h => ?_)
                                refine sh_aload_n hx hb dL_law_905 rfl (lv_at hl 1 rfl) ?_
                                refine lv_iload hx hb dL_law_906 (lv_at hl 6 rfl) ?_
                                refine lv_iconst (v := 2) hx hb dL_law_908 (by decide) ?_
                                refine lv_iadd hx hb dL_law_909 ?_
                                refine sh_iald C hW h dL_law_910 (fun v201 h => ?_)
                                refine sh_aload_n hx hb dL_law_911 rfl (lv_at hl 1 rfl) ?_
                                refine lv_iload hx hb dL_law_912 (lv_at hl 6 rfl) ?_
                                refine lv_iconst (v := 3) hx hb dL_law_914 (by decide) ?_
                                refine lv_iadd hx hb dL_law_915 ?_
                                refine sh_iald C hW h dL_law_916 (fun v202 h => ?_)
                                refine call_X3_setSpan (ct_X3_setSpan l) C.1 hKm hM hS C.2.2.2 hAw q1986 (le_lit hRf rfl) (le_lit hRl rfl) ⟨Nat.le_trans (Nat.le_add_right _ _) hkc, Nat.le_trans (Nat.le_add_right _ _) hks⟩ hl.1 (Nat.le_of_ble_eq_true rfl) dL_law_917 h (fun r203 M204 H locs h hM hS hk => ?_)
                                have hW := lw_callM hW hsep hk
                                refine lv_istore (lv' := [(7, .int r203), (6, .int r196), (0, va_rf (some x0)), (1, va_rf (some x1)), (2, .ref (mh E)), (3, va_rf (some x3)), (4, va_rf (some x4)), (5, .int x5)]) hx hb dL_law_920 hl (by decide) rfl (fun ls hl => ?_)
                                refine lv_aload_n hx hb dL_law_922 rfl (lv_at hl 4 rfl) ?_
                                refine call_X3_thrown (ct_X3_thrown l) C.1 hKm hM hS C.2.2.2 q1895 (le_lit hRf rfl) (le_lit hRl rfl) ⟨Nat.le_trans (Nat.le_add_right _ _) hkc, Nat.le_trans (Nat.le_add_right _ _) hks⟩ hl.1 (Nat.le_of_ble_eq_true rfl) dL_law_923 h (fun r205 H locs h hk hS => ?_)
                                have hW := hW.kept hk
                                have hM := hM.kept hk
                                refine lv_iload hx hb dL_law_926 (lv_at hl 1 rfl) ?_
                                refine lv_icmp_eq (tgt := 933) hx hb dL_law_928 (by decide) (fun c209 => ?_) (fun c209 => ?_)
                                · have h := wif_t h c209
                                  refine lv_iload hx hb dL_law_933 (lv_at hl 1 rfl) ?_
                                  refine lv_if_ne (tgt := 950) hx hb dL_law_935 (by decide) (fun c208 => ?_) (fun c208 => ?_)
                                  · have h := wif_f h c208
                                    exact hb950 _ _ _ _ _ _ h ls H locs _ _ (lv_sub hl [2, 3, 4, 5, 6, 7] rfl) hW hM hsep hS hkc hks
                                  · have h := wif_t h c208
                                    refine sh_aload_n hx hb dL_law_938 rfl (lv_at hl 5 rfl) ?_
                                    refine lv_iconst (v := 0) hx hb dL_law_939 (by decide) ?_
                                    refine sh_lald C hW h dL_law_940 (fun v206 h => ?_)
                                    refine lv_iload hx hb dL_law_941 (lv_at hl 0 rfl) ?_
                                    refine lv_i2l hx hb dL_law_943 rfl ?_
                                    refine W.lcmp hx hb dL_law_944 ?_
                                    refine lv_if_eq (tgt := 950) hx hb dL_law_945 (by decide) (fun c207 => ?_) (fun c207 => ?_)
                                    · have h := wif_t h c207
                                      exact hb950 _ _ _ _ _ _ h ls H locs _ _ (lv_sub hl [2, 3, 4, 5, 6, 7] rfl) hW hM hsep hS hkc hks
                                    · have h := wif_f h c207
                                      refine lv_iconst (v := 0) hx hb dL_law_948 (by decide) ?_
                                      exact hret _ _ _ _ _ _ _ dL_law_949 hW hS hkc hks isZ_0 h
                                · have h := wif_f h c209
                                  refine lv_iconst (v := 0) hx hb dL_law_931 (by decide) ?_
                                  exact hret _ _ _ _ _ _ _ dL_law_932 hW hS hkc hks isZ_0 h
                              · have h := wif_f h c210
                                by_cases c232 : (v35 &&& (31 : Int32)) = (12 : Int32)
                                · have h := wif_t h c232
                                  refine lv_tableIn (tgt := 953) (off := 908) hx hb dL_law_45 (by rw [c232]; decide) (by rw [c232]; decide) (by rw [c232]; rfl) (by decide) ?_
                                  refine sh_aload_n hx hb dL_law_953 rfl (lv_at hl 1 rfl) ?_
                                  refine sh_aload_n hx hb dL_law_954 rfl (lv_at hl 0 rfl) ?_
                                  refine lv_iload hx hb dL_law_955 (lv_at hl 5 rfl) ?_
                                  refine lv_iconst (v := 1) hx hb dL_law_957 (by decide) ?_
                                  refine lv_iadd hx hb dL_law_958 ?_
                                  refine sh_iald C hW h dL_law_959 (fun v211 h => ?_)
                                  refine sh_aload_n hx hb dL_law_960 rfl (lv_at hl 0 rfl) ?_
                                  refine lv_iload hx hb dL_law_961 (lv_at hl 5 rfl) ?_
                                  refine lv_iconst (v := 2) hx hb dL_law_963 (by decide) ?_
                                  refine lv_iadd hx hb dL_law_964 ?_
                                  refine sh_iald C hW h dL_law_965 (fun v212 h => ?_)
                                  refine sh_aload_n hx hb dL_law_966 rfl (lv_at hl 0 rfl) ?_
                                  refine lv_iload hx hb dL_law_967 (lv_at hl 5 rfl) ?_
                                  refine lv_iconst (v := 3) hx hb dL_law_969 (by decide) ?_
                                  refine lv_iadd hx hb dL_law_970 ?_
                                  refine sh_iald C hW h dL_law_971 (fun v213 h => ?_)
                                  refine sh_aload_n hx hb dL_law_972 rfl (lv_at hl 0 rfl) ?_
                                  refine lv_iload hx hb dL_law_973 (lv_at hl 5 rfl) ?_
                                  refine lv_iconst (v := 4) hx hb dL_law_975 (by decide) ?_
                                  refine lv_iadd hx hb dL_law_976 ?_
                                  refine sh_iald C hW h dL_law_977 (fun v214 h => ?_)
                                  refine sh_aload_n hx hb dL_law_978 rfl (lv_at hl 0 rfl) ?_
                                  refine lv_iload hx hb dL_law_979 (lv_at hl 5 rfl) ?_
                                  refine lv_iconst (v := 5) hx hb dL_law_981 (by decide) ?_
                                  refine lv_iadd hx hb dL_law_982 ?_
                                  refine sh_iald C hW h dL_law_983 (fun v215 h => ?_)
                                  refine sh_aload_n hx hb dL_law_984 rfl (lv_at hl 3 rfl) ?_
                                  obtain ⟨c218, s219, hc985, hs985, h⟩ := h
                                  refine call_X0_key_S (ct_X0_key l hfl) C hW hS q1217 (le_lit hRf rfl) (le_lit hRl rfl) hc985 hs985 hkc hks hl.1 (Nat.le_of_ble_eq_true rfl) dL_law_985 h (fun r216 G217 H locs h hW hS hF hkc hks => ?_)
                                  obtain ⟨hM, hsep⟩ := lw_callG hM hsep hgE hF
                                  refine lv_istore (lv' := [(6, .int r216), (0, va_rf (some x0)), (1, va_rf (some x1)), (2, .ref (mh E)), (3, va_rf (some x3)), (4, va_rf (some x4)), (5, .int x5)]) hx hb dL_law_988 hl (by decide) rfl (fun ls hl => ?_)
                                  refine lv_aload_n hx hb dL_law_990 rfl (lv_at hl 3 rfl) ?_
                                  refine sh_aload_n hx hb dL_law_991 rfl (lv_at hl 1 rfl) ?_
                                  refine lv_iload hx hb dL_law_992 (lv_at hl 6 rfl) ?_
                                  refine lv_iconst (v := 1) hx hb dL_law_994 (by decide) ?_
                                  refine lv_iadd hx hb dL_law_995 ?_
                                  refine sh_iald C hW h dL_law_996 (fun v220 h => ?_)
                                  refine sh_aload_n hx hb dL_law_997 rfl (lv_at hl 1 rfl) ?_
                                  refine lv_iload hx hb dL_law_998 (lv_at hl 6 rfl) ?_
                                  refine lv_iconst (v := 2) hx hb dL_law_1000 (by decide) ?_
                                  refine lv_iadd hx hb dL_law_1001 ?_
                                  refine sh_iald C hW h dL_law_1002 (fun v221 h => ?_)
                                  refine sh_aload_n hx hb dL_law_1003 rfl (lv_at hl 1 rfl) ?_
                                  refine lv_iload hx hb dL_law_1004 (lv_at hl 6 rfl) ?_
                                  refine lv_iconst (v := 3) hx hb dL_law_1006 (by decide) ?_
                                  refine lv_iadd hx hb dL_law_1007 ?_
                                  refine sh_iald C hW h dL_law_1008 (fun v222 h => ?_)
                                  refine sh_aload_n hx hb dL_law_1009 rfl (lv_at hl 1 rfl) ?_
                                  refine lv_iload hx hb dL_law_1010 (lv_at hl 6 rfl) ?_
                                  refine lv_iconst (v := 4) hx hb dL_law_1012 (by decide) ?_
                                  refine lv_iadd hx hb dL_law_1013 ?_
                                  refine sh_iald C hW h dL_law_1014 (fun v223 h => ?_)
                                  refine sh_aload_n hx hb dL_law_1015 rfl (lv_at hl 1 rfl) ?_
                                  refine lv_iload hx hb dL_law_1016 (lv_at hl 6 rfl) ?_
                                  refine lv_iconst (v := 5) hx hb dL_law_1018 (by decide) ?_
                                  refine lv_iadd hx hb dL_law_1019 ?_
                                  refine sh_iald C hW h dL_law_1020 (fun v224 h => ?_)
                                  refine call_X3_key (ct_X3_key l) C.1 hKm hM hS C.2.2.2 hAw q1993 (le_lit hRf rfl) (le_lit hRl rfl) ⟨Nat.le_trans (Nat.le_add_right _ _) hkc, Nat.le_trans (Nat.le_add_right _ _) hks⟩ hl.1 (Nat.le_of_ble_eq_true rfl) dL_law_1021 h (fun r225 M226 H locs h hM hS hk => ?_)
                                  have hW := lw_callM hW hsep hk
                                  refine lv_istore (lv' := [(7, .int r225), (6, .int r216), (0, va_rf (some x0)), (1, va_rf (some x1)), (2, .ref (mh E)), (3, va_rf (some x3)), (4, va_rf (some x4)), (5, .int x5)]) hx hb dL_law_1024 hl (by decide) rfl (fun ls hl => ?_)
                                  refine lv_aload_n hx hb dL_law_1026 rfl (lv_at hl 4 rfl) ?_
                                  refine call_X3_thrown (ct_X3_thrown l) C.1 hKm hM hS C.2.2.2 q1895 (le_lit hRf rfl) (le_lit hRl rfl) ⟨Nat.le_trans (Nat.le_add_right _ _) hkc, Nat.le_trans (Nat.le_add_right _ _) hks⟩ hl.1 (Nat.le_of_ble_eq_true rfl) dL_law_1027 h (fun r227 H locs h hk hS => ?_)
                                  have hW := hW.kept hk
                                  have hM := hM.kept hk
                                  refine lv_iload hx hb dL_law_1030 (lv_at hl 1 rfl) ?_
                                  refine lv_icmp_eq (tgt := 1037) hx hb dL_law_1032 (by decide) (fun c231 => ?_) (fun c231 => ?_)
                                  · have h := wif_t h c231
                                    refine lv_iload hx hb dL_law_1037 (lv_at hl 1 rfl) ?_
                                    refine lv_if_ne (tgt := 1054) hx hb dL_law_1039 (by decide) (fun c230 => ?_) (fun c230 => ?_)
                                    · have h := wif_f h c230
                                      exact hb1054 _ _ _ _ _ _ h ls H locs _ _ (lv_sub hl [2, 3, 4, 5, 6, 7] rfl) hW hM hsep hS hkc hks
                                    · have h := wif_t h c230
                                      refine sh_aload_n hx hb dL_law_1042 rfl (lv_at hl 5 rfl) ?_
                                      refine lv_iconst (v := 0) hx hb dL_law_1043 (by decide) ?_
                                      refine sh_lald C hW h dL_law_1044 (fun v228 h => ?_)
                                      refine lv_iload hx hb dL_law_1045 (lv_at hl 0 rfl) ?_
                                      refine lv_i2l hx hb dL_law_1047 rfl ?_
                                      refine W.lcmp hx hb dL_law_1048 ?_
                                      refine lv_if_eq (tgt := 1054) hx hb dL_law_1049 (by decide) (fun c229 => ?_) (fun c229 => ?_)
                                      · have h := wif_t h c229
                                        exact hb1054 _ _ _ _ _ _ h ls H locs _ _ (lv_sub hl [2, 3, 4, 5, 6, 7] rfl) hW hM hsep hS hkc hks
                                      · have h := wif_f h c229
                                        refine lv_iconst (v := 0) hx hb dL_law_1052 (by decide) ?_
                                        exact hret _ _ _ _ _ _ _ dL_law_1053 hW hS hkc hks isZ_0 h
                                  · have h := wif_f h c231
                                    refine lv_iconst (v := 0) hx hb dL_law_1035 (by decide) ?_
                                    exact hret _ _ _ _ _ _ _ dL_law_1036 hW hS hkc hks isZ_0 h
                                · have h := wif_f h c232
                                  by_cases c250 : (v35 &&& (31 : Int32)) = (13 : Int32)
                                  · have h := wif_t h c250
                                    refine lv_tableIn (tgt := 1057) (off := 1012) hx hb dL_law_45 (by rw [c250]; decide) (by rw [c250]; decide) (by rw [c250]; rfl) (by decide) ?_
                                    refine sh_aload_n hx hb dL_law_1057 rfl (lv_at hl 1 rfl) ?_
                                    refine sh_aload_n hx hb dL_law_1058 rfl (lv_at hl 0 rfl) ?_
                                    refine lv_iload hx hb dL_law_1059 (lv_at hl 5 rfl) ?_
                                    refine lv_iconst (v := 1) hx hb dL_law_1061 (by decide) ?_
                                    refine lv_iadd hx hb dL_law_1062 ?_
                                    refine sh_iald C hW h dL_law_1063 (fun v233 h => ?_)
                                    refine sh_aload_n hx hb dL_law_1064 rfl (lv_at hl 0 rfl) ?_
                                    refine lv_iload hx hb dL_law_1065 (lv_at hl 5 rfl) ?_
                                    refine lv_iconst (v := 2) hx hb dL_law_1067 (by decide) ?_
                                    refine lv_iadd hx hb dL_law_1068 ?_
                                    refine sh_iald C hW h dL_law_1069 (fun v234 h => ?_)
                                    refine sh_aload_n hx hb dL_law_1070 rfl (lv_at hl 0 rfl) ?_
                                    refine lv_iload hx hb dL_law_1071 (lv_at hl 5 rfl) ?_
                                    refine lv_iconst (v := 3) hx hb dL_law_1073 (by decide) ?_
                                    refine lv_iadd hx hb dL_law_1074 ?_
                                    refine sh_iald C hW h dL_law_1075 (fun v235 h => ?_)
                                    refine sh_aload_n hx hb dL_law_1076 rfl (lv_at hl 3 rfl) ?_
                                    obtain ⟨c238, s239, hc1077, hs1077, h⟩ := h
                                    refine call_X0_unkey_S (ct_X0_unkey l hfl) C hW hS q1291 (le_lit hRf rfl) (le_lit hRl rfl) hc1077 hs1077 hkc hks hl.1 (Nat.le_of_ble_eq_true rfl) dL_law_1077 h (fun r236 G237 H locs h hW hS hF hkc hks => ?_)
                                    obtain ⟨hM, hsep⟩ := lw_callG hM hsep hgE hF
                                    refine lv_istore (lv' := [(6, .int r236), (0, va_rf (some x0)), (1, va_rf (some x1)), (2, .ref (mh E)), (3, va_rf (some x3)), (4, va_rf (some x4)), (5, .int x5)]) hx hb dL_law_1080 hl (by decide) rfl (fun ls hl => ?_)
                                    refine lv_aload_n hx hb dL_law_1082 rfl (lv_at hl 3 rfl) ?_
                                    refine sh_aload_n hx hb dL_law_1083 rfl (lv_at hl 1 rfl) ?_
                                    refine lv_iload hx hb dL_law_1084 (lv_at hl 6 rfl) ?_
                                    refine lv_iconst (v := 1) hx hb dL_law_1086 (by decide) ?_
                                    refine lv_iadd hx hb dL_law_1087 ?_
                                    refine sh_iald C hW h dL_law_1088 (fun v240 h => ?_)
                                    refine sh_aload_n hx hb dL_law_1089 rfl (lv_at hl 1 rfl) ?_
                                    refine lv_iload hx hb dL_law_1090 (lv_at hl 6 rfl) ?_
                                    refine lv_iconst (v := 2) hx hb dL_law_1092 (by decide) ?_
                                    refine lv_iadd hx hb dL_law_1093 ?_
                                    refine sh_iald C hW h dL_law_1094 (fun v241 h => ?_)
                                    refine sh_aload_n hx hb dL_law_1095 rfl (lv_at hl 1 rfl) ?_
                                    refine lv_iload hx hb dL_law_1096 (lv_at hl 6 rfl) ?_
                                    refine lv_iconst (v := 3) hx hb dL_law_1098 (by decide) ?_
                                    refine lv_iadd hx hb dL_law_1099 ?_
                                    refine sh_iald C hW h dL_law_1100 (fun v242 h => ?_)
                                    refine call_X3_unkey (ct_X3_unkey l) C.1 hKm hM hS C.2.2.2 hAw q2014 (le_lit hRf rfl) (le_lit hRl rfl) ⟨Nat.le_trans (Nat.le_add_right _ _) hkc, Nat.le_trans (Nat.le_add_right _ _) hks⟩ hl.1 (Nat.le_of_ble_eq_true rfl) dL_law_1101 h (fun r243 M244 H locs h hM hS hk => ?_)
                                    have hW := lw_callM hW hsep hk
                                    refine lv_istore (lv' := [(7, .int r243), (6, .int r236), (0, va_rf (some x0)), (1, va_rf (some x1)), (2, .ref (mh E)), (3, va_rf (some x3)), (4, va_rf (some x4)), (5, .int x5)]) hx hb dL_law_1104 hl (by decide) rfl (fun ls hl => ?_)
                                    refine lv_aload_n hx hb dL_law_1106 rfl (lv_at hl 4 rfl) ?_
                                    refine call_X3_thrown (ct_X3_thrown l) C.1 hKm hM hS C.2.2.2 q1895 (le_lit hRf rfl) (le_lit hRl rfl) ⟨Nat.le_trans (Nat.le_add_right _ _) hkc, Nat.le_trans (Nat.le_add_right _ _) hks⟩ hl.1 (Nat.le_of_ble_eq_true rfl) dL_law_1107 h (fun r245 H locs h hk hS => ?_)
                                    have hW := hW.kept hk
                                    have hM := hM.kept hk
                                    refine lv_iload hx hb dL_law_1110 (lv_at hl 1 rfl) ?_
                                    refine lv_icmp_eq (tgt := 1117) hx hb dL_law_1112 (by decide) (fun c249 => ?_) (fun c249 => ?_)
                                    · have h := wif_t h c249
                                      refine lv_iload hx hb dL_law_1117 (lv_at hl 1 rfl) ?_
                                      refine lv_if_ne (tgt := 1134) hx hb dL_law_1119 (by decide) (fun c248 => ?_) (fun c248 => ?_)
                                      · have h := wif_f h c248
                                        exact hb1134 _ _ _ _ _ _ h ls H locs _ _ (lv_sub hl [2, 3, 4, 5, 6, 7] rfl) hW hM hsep hS hkc hks
                                      · have h := wif_t h c248
                                        refine sh_aload_n hx hb dL_law_1122 rfl (lv_at hl 5 rfl) ?_
                                        refine lv_iconst (v := 0) hx hb dL_law_1123 (by decide) ?_
                                        refine sh_lald C hW h dL_law_1124 (fun v246 h => ?_)
                                        refine lv_iload hx hb dL_law_1125 (lv_at hl 0 rfl) ?_
                                        refine lv_i2l hx hb dL_law_1127 rfl ?_
                                        refine W.lcmp hx hb dL_law_1128 ?_
                                        refine lv_if_eq (tgt := 1134) hx hb dL_law_1129 (by decide) (fun c247 => ?_) (fun c247 => ?_)
                                        · have h := wif_t h c247
                                          exact hb1134 _ _ _ _ _ _ h ls H locs _ _ (lv_sub hl [2, 3, 4, 5, 6, 7] rfl) hW hM hsep hS hkc hks
                                        · have h := wif_f h c247
                                          refine lv_iconst (v := 0) hx hb dL_law_1132 (by decide) ?_
                                          exact hret _ _ _ _ _ _ _ dL_law_1133 hW hS hkc hks isZ_0 h
                                    · have h := wif_f h c249
                                      refine lv_iconst (v := 0) hx hb dL_law_1115 (by decide) ?_
                                      exact hret _ _ _ _ _ _ _ dL_law_1116 hW hS hkc hks isZ_0 h
                                  · have h := wif_f h c250
                                    by_cases c268 : (v35 &&& (31 : Int32)) = (14 : Int32)
                                    · have h := wif_t h c268
                                      refine lv_tableIn (tgt := 1137) (off := 1092) hx hb dL_law_45 (by rw [c268]; decide) (by rw [c268]; decide) (by rw [c268]; rfl) (by decide) ?_
                                      refine sh_aload_n hx hb dL_law_1137 rfl (lv_at hl 1 rfl) ?_
                                      refine sh_aload_n hx hb dL_law_1138 rfl (lv_at hl 0 rfl) ?_
                                      refine lv_iload hx hb dL_law_1139 (lv_at hl 5 rfl) ?_
                                      refine lv_iconst (v := 1) hx hb dL_law_1141 (by decide) ?_
                                      refine lv_iadd hx hb dL_law_1142 ?_
                                      refine sh_iald C hW h dL_law_1143 (fun v251 h => ?_)
                                      refine sh_aload_n hx hb dL_law_1144 rfl (lv_at hl 0 rfl) ?_
                                      refine lv_iload hx hb dL_law_1145 (lv_at hl 5 rfl) ?_
                                      refine lv_iconst (v := 2) hx hb dL_law_1147 (by decide) ?_
                                      refine lv_iadd hx hb dL_law_1148 ?_
                                      refine sh_iald C hW h dL_law_1149 (fun v252 h => ?_)
                                      refine sh_aload_n hx hb dL_law_1150 rfl (lv_at hl 0 rfl) ?_
                                      refine lv_iload hx hb dL_law_1151 (lv_at hl 5 rfl) ?_
                                      refine lv_iconst (v := 3) hx hb dL_law_1153 (by decide) ?_
                                      refine lv_iadd hx hb dL_law_1154 ?_
                                      refine sh_iald C hW h dL_law_1155 (fun v253 h => ?_)
                                      refine sh_aload_n hx hb dL_law_1156 rfl (lv_at hl 3 rfl) ?_
                                      obtain ⟨c256, s257, hc1157, hs1157, h⟩ := h
                                      refine call_X0_value_S (ct_X0_value l hfl) C hW hS q1301 (le_lit hRf rfl) (le_lit hRl rfl) hc1157 hs1157 hkc hks hl.1 (Nat.le_of_ble_eq_true rfl) dL_law_1157 h (fun r254 G255 H locs h hW hS hF hkc hks => ?_)
                                      obtain ⟨hM, hsep⟩ := lw_callG hM hsep hgE hF
                                      refine lv_istore (lv' := [(6, .int r254), (0, va_rf (some x0)), (1, va_rf (some x1)), (2, .ref (mh E)), (3, va_rf (some x3)), (4, va_rf (some x4)), (5, .int x5)]) hx hb dL_law_1160 hl (by decide) rfl (fun ls hl => ?_)
                                      refine lv_aload_n hx hb dL_law_1162 rfl (lv_at hl 3 rfl) ?_
                                      refine sh_aload_n hx hb dL_law_1163 rfl (lv_at hl 1 rfl) ?_
                                      refine lv_iload hx hb dL_law_1164 (lv_at hl 6 rfl) ?_
                                      refine lv_iconst (v := 1) hx hb dL_law_1166 (by decide) ?_
                                      refine lv_iadd hx hb dL_law_1167 ?_
                                      refine sh_iald C hW h dL_law_1168 (fun v258 h => ?_)
                                      refine sh_aload_n hx hb dL_law_1169 rfl (lv_at hl 1 rfl) ?_
                                      refine lv_iload hx hb dL_law_1170 (lv_at hl 6 rfl) ?_
                                      refine lv_iconst (v := 2) hx hb dL_law_1172 (by decide) ?_
                                      refine lv_iadd hx hb dL_law_1173 ?_
                                      refine sh_iald C hW h dL_law_1174 (fun v259 h => ?_)
                                      refine sh_aload_n hx hb dL_law_1175 rfl (lv_at hl 1 rfl) ?_
                                      refine lv_iload hx hb dL_law_1176 (lv_at hl 6 rfl) ?_
                                      refine lv_iconst (v := 3) hx hb dL_law_1178 (by decide) ?_
                                      refine lv_iadd hx hb dL_law_1179 ?_
                                      refine sh_iald C hW h dL_law_1180 (fun v260 h => ?_)
                                      refine call_X3_value (ct_X3_value l) C.1 hKm hM hS C.2.2.2 hAw q2018 (le_lit hRf rfl) (le_lit hRl rfl) ⟨Nat.le_trans (Nat.le_add_right _ _) hkc, Nat.le_trans (Nat.le_add_right _ _) hks⟩ hl.1 (Nat.le_of_ble_eq_true rfl) dL_law_1181 h (fun r261 M262 H locs h hM hS hk => ?_)
                                      have hW := lw_callM hW hsep hk
                                      refine lv_istore (lv' := [(7, .int r261), (6, .int r254), (0, va_rf (some x0)), (1, va_rf (some x1)), (2, .ref (mh E)), (3, va_rf (some x3)), (4, va_rf (some x4)), (5, .int x5)]) hx hb dL_law_1184 hl (by decide) rfl (fun ls hl => ?_)
                                      refine lv_aload_n hx hb dL_law_1186 rfl (lv_at hl 4 rfl) ?_
                                      refine call_X3_thrown (ct_X3_thrown l) C.1 hKm hM hS C.2.2.2 q1895 (le_lit hRf rfl) (le_lit hRl rfl) ⟨Nat.le_trans (Nat.le_add_right _ _) hkc, Nat.le_trans (Nat.le_add_right _ _) hks⟩ hl.1 (Nat.le_of_ble_eq_true rfl) dL_law_1187 h (fun r263 H locs h hk hS => ?_)
                                      have hW := hW.kept hk
                                      have hM := hM.kept hk
                                      refine lv_iload hx hb dL_law_1190 (lv_at hl 1 rfl) ?_
                                      refine lv_icmp_eq (tgt := 1197) hx hb dL_law_1192 (by decide) (fun c267 => ?_) (fun c267 => ?_)
                                      · have h := wif_t h c267
                                        refine lv_iload hx hb dL_law_1197 (lv_at hl 1 rfl) ?_
                                        refine lv_if_ne (tgt := 1214) hx hb dL_law_1199 (by decide) (fun c266 => ?_) (fun c266 => ?_)
                                        · have h := wif_f h c266
                                          exact hb1214 _ _ _ _ _ _ h ls H locs _ _ (lv_sub hl [2, 3, 4, 5, 6, 7] rfl) hW hM hsep hS hkc hks
                                        · have h := wif_t h c266
                                          refine sh_aload_n hx hb dL_law_1202 rfl (lv_at hl 5 rfl) ?_
                                          refine lv_iconst (v := 0) hx hb dL_law_1203 (by decide) ?_
                                          refine sh_lald C hW h dL_law_1204 (fun v264 h => ?_)
                                          refine lv_iload hx hb dL_law_1205 (lv_at hl 0 rfl) ?_
                                          refine lv_i2l hx hb dL_law_1207 rfl ?_
                                          refine W.lcmp hx hb dL_law_1208 ?_
                                          refine lv_if_eq (tgt := 1214) hx hb dL_law_1209 (by decide) (fun c265 => ?_) (fun c265 => ?_)
                                          · have h := wif_t h c265
                                            exact hb1214 _ _ _ _ _ _ h ls H locs _ _ (lv_sub hl [2, 3, 4, 5, 6, 7] rfl) hW hM hsep hS hkc hks
                                          · have h := wif_f h c265
                                            refine lv_iconst (v := 0) hx hb dL_law_1212 (by decide) ?_
                                            exact hret _ _ _ _ _ _ _ dL_law_1213 hW hS hkc hks isZ_0 h
                                      · have h := wif_f h c267
                                        refine lv_iconst (v := 0) hx hb dL_law_1195 (by decide) ?_
                                        exact hret _ _ _ _ _ _ _ dL_law_1196 hW hS hkc hks isZ_0 h
                                    · have h := wif_f h c268
                                      by_cases c275 : (v35 &&& (31 : Int32)) = (15 : Int32)
                                      · have h := wif_t h c275
                                        refine lv_tableIn (tgt := 1217) (off := 1172) hx hb dL_law_45 (by rw [c275]; decide) (by rw [c275]; decide) (by rw [c275]; rfl) (by decide) ?_
                                        refine sh_aload_n hx hb dL_law_1217 rfl (lv_at hl 1 rfl) ?_
                                        refine sh_aload_n hx hb dL_law_1218 rfl (lv_at hl 0 rfl) ?_
                                        refine lv_iload hx hb dL_law_1219 (lv_at hl 5 rfl) ?_
                                        refine lv_iconst (v := 1) hx hb dL_law_1221 (by decide) ?_
                                        refine lv_iadd hx hb dL_law_1222 ?_
                                        refine sh_iald C hW h dL_law_1223 (fun v269 h => ?_)
                                        refine sh_aload_n hx hb dL_law_1224 rfl (lv_at hl 0 rfl) ?_
                                        refine lv_iload hx hb dL_law_1225 (lv_at hl 5 rfl) ?_
                                        refine lv_iconst (v := 2) hx hb dL_law_1227 (by decide) ?_
                                        refine lv_iadd hx hb dL_law_1228 ?_
                                        refine sh_iald C hW h dL_law_1229 (fun v270 h => ?_)
                                        refine sh_aload_n hx hb dL_law_1230 rfl (lv_at hl 0 rfl) ?_
                                        refine lv_iload hx hb dL_law_1231 (lv_at hl 5 rfl) ?_
                                        refine lv_iconst (v := 3) hx hb dL_law_1233 (by decide) ?_
                                        refine lv_iadd hx hb dL_law_1234 ?_
                                        refine sh_iald C hW h dL_law_1235 (fun v271 h => ?_)
                                        refine sh_aload_n hx hb dL_law_1236 rfl (lv_at hl 0 rfl) ?_
                                        refine lv_iload hx hb dL_law_1237 (lv_at hl 5 rfl) ?_
                                        refine lv_iconst (v := 4) hx hb dL_law_1239 (by decide) ?_
                                        refine lv_iadd hx hb dL_law_1240 ?_
                                        refine sh_iald C hW h dL_law_1241 (fun v272 h => ?_)
                                        refine sh_aload_n hx hb dL_law_1242 rfl (lv_at hl 0 rfl) ?_
                                        refine lv_iload hx hb dL_law_1243 (lv_at hl 5 rfl) ?_
                                        refine lv_iconst (v := 5) hx hb dL_law_1245 (by decide) ?_
                                        refine lv_iadd hx hb dL_law_1246 ?_
                                        refine sh_iald C hW h dL_law_1247 (fun v273 h => ?_)
                                        refine lv_if_eq (tgt := 1255) hx hb dL_law_1248 (by decide) (fun c274 => ?_) (fun c274 => ?_)
                                        · have h := wif_t h c274
                                          refine lv_iconst (v := 0) hx hb dL_law_1255 (by decide) ?_
                                          exact hb1256 _ _ _ _ _ _ _ _ _ _ _ _ h ls H locs _ _ (lv_sub hl [0, 1, 2, 3, 4, 5] rfl) hW hM hsep hS hkc hks
                                        · have h := wif_f h c274
                                          refine lv_iconst (v := 1) hx hb dL_law_1251 (by decide) ?_
                                          refine lv_goto (tgt := 1256) hx hb dL_law_1252 (by decide) ?_
                                          exact hb1256 _ _ _ _ _ _ _ _ _ _ _ _ h ls H locs _ _ (lv_sub hl [0, 1, 2, 3, 4, 5] rfl) hW hM hsep hS hkc hks
                                      · have h := wif_f h c275
                                        by_cases c291 : (v35 &&& (31 : Int32)) = (16 : Int32)
                                        · have h := wif_t h c291
                                          refine lv_tableIn (tgt := 1336) (off := 1291) hx hb dL_law_45 (by rw [c291]; decide) (by rw [c291]; decide) (by rw [c291]; rfl) (by decide) ?_
                                          refine sh_aload_n hx hb dL_law_1336 rfl (lv_at hl 1 rfl) ?_
                                          refine sh_aload_n hx hb dL_law_1337 rfl (lv_at hl 0 rfl) ?_
                                          refine lv_iload hx hb dL_law_1338 (lv_at hl 5 rfl) ?_
                                          refine lv_iconst (v := 1) hx hb dL_law_1340 (by decide) ?_
                                          refine lv_iadd hx hb dL_law_1341 ?_
                                          refine sh_iald C hW h dL_law_1342 (fun v276 h => ?_)
                                          refine sh_aload_n hx hb dL_law_1343 rfl (lv_at hl 0 rfl) ?_
                                          refine lv_iload hx hb dL_law_1344 (lv_at hl 5 rfl) ?_
                                          refine lv_iconst (v := 2) hx hb dL_law_1346 (by decide) ?_
                                          refine lv_iadd hx hb dL_law_1347 ?_
                                          refine sh_iald C hW h dL_law_1348 (fun v277 h => ?_)
                                          refine sh_aload_n hx hb dL_law_1349 rfl (lv_at hl 3 rfl) ?_
                                          obtain ⟨c280, s281, hc1350, hs1350, h⟩ := h
                                          refine call_X0_left_S (ct_X0_left l hfl) C hW hS q1396 (le_lit hRf rfl) (le_lit hRl rfl) hc1350 hs1350 hkc hks hl.1 (Nat.le_of_ble_eq_true rfl) dL_law_1350 h (fun r278 G279 H locs h hW hS hF hkc hks => ?_)
                                          obtain ⟨hM, hsep⟩ := lw_callG hM hsep hgE hF
                                          refine lv_istore (lv' := [(6, .int r278), (0, va_rf (some x0)), (1, va_rf (some x1)), (2, .ref (mh E)), (3, va_rf (some x3)), (4, va_rf (some x4)), (5, .int x5)]) hx hb dL_law_1353 hl (by decide) rfl (fun ls hl => ?_)
                                          refine lv_aload_n hx hb dL_law_1355 rfl (lv_at hl 3 rfl) ?_
                                          refine sh_aload_n hx hb dL_law_1356 rfl (lv_at hl 1 rfl) ?_
                                          refine lv_iload hx hb dL_law_1357 (lv_at hl 6 rfl) ?_
                                          refine lv_iconst (v := 1) hx hb dL_law_1359 (by decide) ?_
                                          refine lv_iadd hx hb dL_law_1360 ?_
                                          refine sh_iald C hW h dL_law_1361 (fun v282 h => ?_)
                                          refine sh_aload_n hx hb dL_law_1362 rfl (lv_at hl 1 rfl) ?_
                                          refine lv_iload hx hb dL_law_1363 (lv_at hl 6 rfl) ?_
                                          refine lv_iconst (v := 2) hx hb dL_law_1365 (by decide) ?_
                                          refine lv_iadd hx hb dL_law_1366 ?_
                                          refine sh_iald C hW h dL_law_1367 (fun v283 h => ?_)
                                          refine call_X3_left (ct_X3_left l) C.1 hKm hM hS C.2.2.2 hAw q2058 (le_lit hRf rfl) (le_lit hRl rfl) ⟨Nat.le_trans (Nat.le_add_right _ _) hkc, Nat.le_trans (Nat.le_add_right _ _) hks⟩ hl.1 (Nat.le_of_ble_eq_true rfl) dL_law_1368 h (fun r284 M285 H locs h hM hS hk => ?_)
                                          have hW := lw_callM hW hsep hk
                                          refine lv_istore (lv' := [(7, .int r284), (6, .int r278), (0, va_rf (some x0)), (1, va_rf (some x1)), (2, .ref (mh E)), (3, va_rf (some x3)), (4, va_rf (some x4)), (5, .int x5)]) hx hb dL_law_1371 hl (by decide) rfl (fun ls hl => ?_)
                                          refine lv_aload_n hx hb dL_law_1373 rfl (lv_at hl 4 rfl) ?_
                                          refine call_X3_thrown (ct_X3_thrown l) C.1 hKm hM hS C.2.2.2 q1895 (le_lit hRf rfl) (le_lit hRl rfl) ⟨Nat.le_trans (Nat.le_add_right _ _) hkc, Nat.le_trans (Nat.le_add_right _ _) hks⟩ hl.1 (Nat.le_of_ble_eq_true rfl) dL_law_1374 h (fun r286 H locs h hk hS => ?_)
                                          have hW := hW.kept hk
                                          have hM := hM.kept hk
                                          refine lv_iload hx hb dL_law_1377 (lv_at hl 1 rfl) ?_
                                          refine lv_icmp_eq (tgt := 1384) hx hb dL_law_1379 (by decide) (fun c290 => ?_) (fun c290 => ?_)
                                          · have h := wif_t h c290
                                            refine lv_iload hx hb dL_law_1384 (lv_at hl 1 rfl) ?_
                                            refine lv_if_ne (tgt := 1401) hx hb dL_law_1386 (by decide) (fun c289 => ?_) (fun c289 => ?_)
                                            · have h := wif_f h c289
                                              exact hb1401 _ _ _ _ _ _ h ls H locs _ _ (lv_sub hl [2, 3, 4, 5, 6, 7] rfl) hW hM hsep hS hkc hks
                                            · have h := wif_t h c289
                                              refine sh_aload_n hx hb dL_law_1389 rfl (lv_at hl 5 rfl) ?_
                                              refine lv_iconst (v := 0) hx hb dL_law_1390 (by decide) ?_
                                              refine sh_lald C hW h dL_law_1391 (fun v287 h => ?_)
                                              refine lv_iload hx hb dL_law_1392 (lv_at hl 0 rfl) ?_
                                              refine lv_i2l hx hb dL_law_1394 rfl ?_
                                              refine W.lcmp hx hb dL_law_1395 ?_
                                              refine lv_if_eq (tgt := 1401) hx hb dL_law_1396 (by decide) (fun c288 => ?_) (fun c288 => ?_)
                                              · have h := wif_t h c288
                                                exact hb1401 _ _ _ _ _ _ h ls H locs _ _ (lv_sub hl [2, 3, 4, 5, 6, 7] rfl) hW hM hsep hS hkc hks
                                              · have h := wif_f h c288
                                                refine lv_iconst (v := 0) hx hb dL_law_1399 (by decide) ?_
                                                exact hret _ _ _ _ _ _ _ dL_law_1400 hW hS hkc hks isZ_0 h
                                          · have h := wif_f h c290
                                            refine lv_iconst (v := 0) hx hb dL_law_1382 (by decide) ?_
                                            exact hret _ _ _ _ _ _ _ dL_law_1383 hW hS hkc hks isZ_0 h
                                        · have h := wif_f h c291
                                          by_cases c312 : (v35 &&& (31 : Int32)) = (17 : Int32)
                                          · have h := wif_t h c312
                                            refine lv_tableIn (tgt := 1404) (off := 1359) hx hb dL_law_45 (by rw [c312]; decide) (by rw [c312]; decide) (by rw [c312]; rfl) (by decide) ?_
                                            refine sh_aload_n hx hb dL_law_1404 rfl (lv_at hl 1 rfl) ?_
                                            refine sh_aload_n hx hb dL_law_1405 rfl (lv_at hl 0 rfl) ?_
                                            refine lv_iload hx hb dL_law_1406 (lv_at hl 5 rfl) ?_
                                            refine lv_iconst (v := 1) hx hb dL_law_1408 (by decide) ?_
                                            refine lv_iadd hx hb dL_law_1409 ?_
                                            refine sh_iald C hW h dL_law_1410 (fun v292 h => ?_)
                                            refine sh_aload_n hx hb dL_law_1411 rfl (lv_at hl 0 rfl) ?_
                                            refine lv_iload hx hb dL_law_1412 (lv_at hl 5 rfl) ?_
                                            refine lv_iconst (v := 2) hx hb dL_law_1414 (by decide) ?_
                                            refine lv_iadd hx hb dL_law_1415 ?_
                                            refine sh_iald C hW h dL_law_1416 (fun v293 h => ?_)
                                            refine sh_aload_n hx hb dL_law_1417 rfl (lv_at hl 0 rfl) ?_
                                            refine lv_iload hx hb dL_law_1418 (lv_at hl 5 rfl) ?_
                                            refine lv_iconst (v := 3) hx hb dL_law_1420 (by decide) ?_
                                            refine lv_iadd hx hb dL_law_1421 ?_
                                            refine sh_iald C hW h dL_law_1422 (fun v294 h => ?_)
                                            refine sh_aload_n hx hb dL_law_1423 rfl (lv_at hl 0 rfl) ?_
                                            refine lv_iload hx hb dL_law_1424 (lv_at hl 5 rfl) ?_
                                            refine lv_iconst (v := 4) hx hb dL_law_1426 (by decide) ?_
                                            refine lv_iadd hx hb dL_law_1427 ?_
                                            refine sh_iald C hW h dL_law_1428 (fun v295 h => ?_)
                                            refine sh_aload_n hx hb dL_law_1429 rfl (lv_at hl 3 rfl) ?_
                                            obtain ⟨c298, s299, hc1430, hs1430, h⟩ := h
                                            refine call_X0_cell_S (ct_X0_cell l hfl) C hW hS q1422 (le_lit hRf rfl) (le_lit hRl rfl) hc1430 hs1430 hkc hks hl.1 (Nat.le_of_ble_eq_true rfl) dL_law_1430 h (fun r296 G297 H locs h hW hS hF hkc hks => ?_)
                                            obtain ⟨hM, hsep⟩ := lw_callG hM hsep hgE hF
                                            refine lv_istore (lv' := [(6, .int r296), (0, va_rf (some x0)), (1, va_rf (some x1)), (2, .ref (mh E)), (3, va_rf (some x3)), (4, va_rf (some x4)), (5, .int x5)]) hx hb dL_law_1433 hl (by decide) rfl (fun ls hl => ?_)
                                            refine lv_aload_n hx hb dL_law_1435 rfl (lv_at hl 3 rfl) ?_
                                            refine sh_aload_n hx hb dL_law_1436 rfl (lv_at hl 1 rfl) ?_
                                            refine lv_iload hx hb dL_law_1437 (lv_at hl 6 rfl) ?_
                                            refine lv_iconst (v := 1) hx hb dL_law_1439 (by decide) ?_
                                            refine lv_iadd hx hb dL_law_1440 ?_
                                            refine sh_iald C hW h dL_law_1441 (fun v300 h => ?_)
                                            refine sh_aload_n hx hb dL_law_1442 rfl (lv_at hl 1 rfl) ?_
                                            refine lv_iload hx hb dL_law_1443 (lv_at hl 6 rfl) ?_
                                            refine lv_iconst (v := 2) hx hb dL_law_1445 (by decide) ?_
                                            refine lv_iadd hx hb dL_law_1446 ?_
                                            refine sh_iald C hW h dL_law_1447 (fun v301 h => ?_)
                                            refine sh_aload_n hx hb dL_law_1448 rfl (lv_at hl 1 rfl) ?_
                                            refine lv_iload hx hb dL_law_1449 (lv_at hl 6 rfl) ?_
                                            refine lv_iconst (v := 3) hx hb dL_law_1451 (by decide) ?_
                                            refine lv_iadd hx hb dL_law_1452 ?_
                                            refine sh_iald C hW h dL_law_1453 (fun v302 h => ?_)
                                            refine sh_aload_n hx hb dL_law_1454 rfl (lv_at hl 1 rfl) ?_
                                            refine lv_iload hx hb dL_law_1455 (lv_at hl 6 rfl) ?_
                                            refine lv_iconst (v := 4) hx hb dL_law_1457 (by decide) ?_
                                            refine lv_iadd hx hb dL_law_1458 ?_
                                            refine sh_iald C hW h dL_law_1459 (fun v303 h => ?_)
                                            refine call_X3_cell (ct_X3_cell l) C.1 hKm hM hS C.2.2.2 hAw q2078 (le_lit hRf rfl) (le_lit hRl rfl) ⟨Nat.le_trans (Nat.le_add_right _ _) hkc, Nat.le_trans (Nat.le_add_right _ _) hks⟩ hl.1 (Nat.le_of_ble_eq_true rfl) dL_law_1460 h (fun r304 M305 L306 H locs h hM hS hk => ?_)
                                            have hW := lw_callM hW hsep hk
                                            refine lv_istore (lv' := [(7, .int r304), (6, .int r296), (0, va_rf (some x0)), (1, va_rf (some x1)), (2, .ref (mh E)), (3, va_rf (some x3)), (4, va_rf (some x4)), (5, .int x5)]) hx hb dL_law_1463 hl (by decide) rfl (fun ls hl => ?_)
                                            refine lv_aload_n hx hb dL_law_1465 rfl (lv_at hl 4 rfl) ?_
                                            refine call_X3_thrown (ct_X3_thrown l) C.1 hKm hM hS C.2.2.2 q1895 (le_lit hRf rfl) (le_lit hRl rfl) ⟨Nat.le_trans (Nat.le_add_right _ _) hkc, Nat.le_trans (Nat.le_add_right _ _) hks⟩ hl.1 (Nat.le_of_ble_eq_true rfl) dL_law_1466 h (fun r307 H locs h hk hS => ?_)
                                            have hW := hW.kept hk
                                            have hM := hM.kept hk
                                            refine lv_iload hx hb dL_law_1469 (lv_at hl 1 rfl) ?_
                                            refine lv_icmp_eq (tgt := 1476) hx hb dL_law_1471 (by decide) (fun c311 => ?_) (fun c311 => ?_)
                                            · have h := wif_t h c311
                                              refine lv_iload hx hb dL_law_1476 (lv_at hl 1 rfl) ?_
                                              refine lv_if_ne (tgt := 1493) hx hb dL_law_1478 (by decide) (fun c310 => ?_) (fun c310 => ?_)
                                              · have h := wif_f h c310
                                                exact hb1493 _ _ _ _ _ _ h ls H locs _ _ (lv_sub hl [2, 3, 4, 5, 6, 7] rfl) hW hM hsep hS hkc hks
                                              · have h := wif_t h c310
                                                refine sh_aload_n hx hb dL_law_1481 rfl (lv_at hl 5 rfl) ?_
                                                refine lv_iconst (v := 0) hx hb dL_law_1482 (by decide) ?_
                                                refine sh_lald C hW h dL_law_1483 (fun v308 h => ?_)
                                                refine lv_iload hx hb dL_law_1484 (lv_at hl 0 rfl) ?_
                                                refine lv_i2l hx hb dL_law_1486 rfl ?_
                                                refine W.lcmp hx hb dL_law_1487 ?_
                                                refine lv_if_eq (tgt := 1493) hx hb dL_law_1488 (by decide) (fun c309 => ?_) (fun c309 => ?_)
                                                · have h := wif_t h c309
                                                  exact hb1493 _ _ _ _ _ _ h ls H locs _ _ (lv_sub hl [2, 3, 4, 5, 6, 7] rfl) hW hM hsep hS hkc hks
                                                · have h := wif_f h c309
                                                  refine lv_iconst (v := 0) hx hb dL_law_1491 (by decide) ?_
                                                  exact hret _ _ _ _ _ _ _ dL_law_1492 hW hS hkc hks isZ_0 h
                                            · have h := wif_f h c311
                                              refine lv_iconst (v := 0) hx hb dL_law_1474 (by decide) ?_
                                              exact hret _ _ _ _ _ _ _ dL_law_1475 hW hS hkc hks isZ_0 h
                                          · have h := wif_f h c312
                                            by_cases c329 : (v35 &&& (31 : Int32)) = (18 : Int32)
                                            · have h := wif_t h c329
                                              refine lv_tableIn (tgt := 1496) (off := 1451) hx hb dL_law_45 (by rw [c329]; decide) (by rw [c329]; decide) (by rw [c329]; rfl) (by decide) ?_
                                              refine sh_aload_n hx hb dL_law_1496 rfl (lv_at hl 1 rfl) ?_
                                              refine sh_aload_n hx hb dL_law_1497 rfl (lv_at hl 0 rfl) ?_
                                              refine lv_iload hx hb dL_law_1498 (lv_at hl 5 rfl) ?_
                                              refine lv_iconst (v := 1) hx hb dL_law_1500 (by decide) ?_
                                              refine lv_iadd hx hb dL_law_1501 ?_
                                              refine sh_iald C hW h dL_law_1502 (fun v313 h => ?_)
                                              refine sh_aload_n hx hb dL_law_1503 rfl (lv_at hl 0 rfl) ?_
                                              refine lv_iload hx hb dL_law_1504 (lv_at hl 5 rfl) ?_
                                              refine lv_iconst (v := 2) hx hb dL_law_1506 (by decide) ?_
                                              refine lv_iadd hx hb dL_law_1507 ?_
                                              refine sh_iald C hW h dL_law_1508 (fun v314 h => ?_)
                                              refine sh_aload_n hx hb dL_law_1509 rfl (lv_at hl 3 rfl) ?_
                                              obtain ⟨c317, s318, hc1510, hs1510, h⟩ := h
                                              refine call_X0_covered_S (ct_X0_covered l hfl) C hW hS q1588 (le_lit hRf rfl) (le_lit hRl rfl) hc1510 hs1510 hkc hks hl.1 (Nat.le_of_ble_eq_true rfl) dL_law_1510 h (fun r315 G316 H locs h hW hS hF hkc hks => ?_)
                                              obtain ⟨hM, hsep⟩ := lw_callG hM hsep hgE hF
                                              refine lv_istore (lv' := [(6, .int r315), (0, va_rf (some x0)), (1, va_rf (some x1)), (2, .ref (mh E)), (3, va_rf (some x3)), (4, va_rf (some x4)), (5, .int x5)]) hx hb dL_law_1513 hl (by decide) rfl (fun ls hl => ?_)
                                              refine lv_aload_n hx hb dL_law_1515 rfl (lv_at hl 3 rfl) ?_
                                              refine sh_aload_n hx hb dL_law_1516 rfl (lv_at hl 1 rfl) ?_
                                              refine lv_iload hx hb dL_law_1517 (lv_at hl 6 rfl) ?_
                                              refine lv_iconst (v := 1) hx hb dL_law_1519 (by decide) ?_
                                              refine lv_iadd hx hb dL_law_1520 ?_
                                              refine sh_iald C hW h dL_law_1521 (fun v319 h => ?_)
                                              refine sh_aload_n hx hb dL_law_1522 rfl (lv_at hl 1 rfl) ?_
                                              refine lv_iload hx hb dL_law_1523 (lv_at hl 6 rfl) ?_
                                              refine lv_iconst (v := 2) hx hb dL_law_1525 (by decide) ?_
                                              refine lv_iadd hx hb dL_law_1526 ?_
                                              refine sh_iald C hW h dL_law_1527 (fun v320 h => ?_)
                                              refine call_X3_covered (ct_X3_covered l) C.1 hKm hM hS C.2.2.2 hAw q2142 (le_lit hRf rfl) (le_lit hRl rfl) ⟨Nat.le_trans (Nat.le_add_right _ _) hkc, Nat.le_trans (Nat.le_add_right _ _) hks⟩ hl.1 (Nat.le_of_ble_eq_true rfl) dL_law_1528 h (fun r321 M322 L323 H locs h hM hS hk => ?_)
                                              have hW := lw_callM hW hsep hk
                                              refine lv_istore (lv' := [(7, .int r321), (6, .int r315), (0, va_rf (some x0)), (1, va_rf (some x1)), (2, .ref (mh E)), (3, va_rf (some x3)), (4, va_rf (some x4)), (5, .int x5)]) hx hb dL_law_1531 hl (by decide) rfl (fun ls hl => ?_)
                                              refine lv_aload_n hx hb dL_law_1533 rfl (lv_at hl 4 rfl) ?_
                                              refine call_X3_thrown (ct_X3_thrown l) C.1 hKm hM hS C.2.2.2 q1895 (le_lit hRf rfl) (le_lit hRl rfl) ⟨Nat.le_trans (Nat.le_add_right _ _) hkc, Nat.le_trans (Nat.le_add_right _ _) hks⟩ hl.1 (Nat.le_of_ble_eq_true rfl) dL_law_1534 h (fun r324 H locs h hk hS => ?_)
                                              have hW := hW.kept hk
                                              have hM := hM.kept hk
                                              refine lv_iload hx hb dL_law_1537 (lv_at hl 1 rfl) ?_
                                              refine lv_icmp_eq (tgt := 1544) hx hb dL_law_1539 (by decide) (fun c328 => ?_) (fun c328 => ?_)
                                              · have h := wif_t h c328
                                                refine lv_iload hx hb dL_law_1544 (lv_at hl 1 rfl) ?_
                                                refine lv_if_ne (tgt := 1561) hx hb dL_law_1546 (by decide) (fun c327 => ?_) (fun c327 => ?_)
                                                · have h := wif_f h c327
                                                  exact hb1561 _ _ _ _ _ _ h ls H locs _ _ (lv_sub hl [2, 3, 4, 5, 6, 7] rfl) hW hM hsep hS hkc hks
                                                · have h := wif_t h c327
                                                  refine sh_aload_n hx hb dL_law_1549 rfl (lv_at hl 5 rfl) ?_
                                                  refine lv_iconst (v := 0) hx hb dL_law_1550 (by decide) ?_
                                                  refine sh_lald C hW h dL_law_1551 (fun v325 h => ?_)
                                                  refine lv_iload hx hb dL_law_1552 (lv_at hl 0 rfl) ?_
                                                  refine lv_i2l hx hb dL_law_1554 rfl ?_
                                                  refine W.lcmp hx hb dL_law_1555 ?_
                                                  refine lv_if_eq (tgt := 1561) hx hb dL_law_1556 (by decide) (fun c326 => ?_) (fun c326 => ?_)
                                                  · have h := wif_t h c326
                                                    exact hb1561 _ _ _ _ _ _ h ls H locs _ _ (lv_sub hl [2, 3, 4, 5, 6, 7] rfl) hW hM hsep hS hkc hks
                                                  · have h := wif_f h c326
                                                    refine lv_iconst (v := 0) hx hb dL_law_1559 (by decide) ?_
                                                    exact hret _ _ _ _ _ _ _ dL_law_1560 hW hS hkc hks isZ_0 h
                                              · have h := wif_f h c328
                                                refine lv_iconst (v := 0) hx hb dL_law_1542 (by decide) ?_
                                                exact hret _ _ _ _ _ _ _ dL_law_1543 hW hS hkc hks isZ_0 h
                                            · have h := wif_f h c329
                                              by_cases c346 : (v35 &&& (31 : Int32)) = (19 : Int32)
                                              · have h := wif_t h c346
                                                refine lv_tableIn (tgt := 1564) (off := 1519) hx hb dL_law_45 (by rw [c346]; decide) (by rw [c346]; decide) (by rw [c346]; rfl) (by decide) ?_
                                                refine sh_aload_n hx hb dL_law_1564 rfl (lv_at hl 1 rfl) ?_
                                                refine sh_aload_n hx hb dL_law_1565 rfl (lv_at hl 0 rfl) ?_
                                                refine lv_iload hx hb dL_law_1566 (lv_at hl 5 rfl) ?_
                                                refine lv_iconst (v := 1) hx hb dL_law_1568 (by decide) ?_
                                                refine lv_iadd hx hb dL_law_1569 ?_
                                                refine sh_iald C hW h dL_law_1570 (fun v330 h => ?_)
                                                refine sh_aload_n hx hb dL_law_1571 rfl (lv_at hl 0 rfl) ?_
                                                refine lv_iload hx hb dL_law_1572 (lv_at hl 5 rfl) ?_
                                                refine lv_iconst (v := 2) hx hb dL_law_1574 (by decide) ?_
                                                refine lv_iadd hx hb dL_law_1575 ?_
                                                refine sh_iald C hW h dL_law_1576 (fun v331 h => ?_)
                                                refine sh_aload_n hx hb dL_law_1577 rfl (lv_at hl 3 rfl) ?_
                                                obtain ⟨c334, s335, hc1578, hs1578, h⟩ := h
                                                refine call_X0_checksum_S (ct_X0_checksum l hfl) C hW hS q1603 (le_lit hRf rfl) (le_lit hRl rfl) hc1578 hs1578 hkc hks hl.1 (Nat.le_of_ble_eq_true rfl) dL_law_1578 h (fun r332 G333 H locs h hW hS hF hkc hks => ?_)
                                                obtain ⟨hM, hsep⟩ := lw_callG hM hsep hgE hF
                                                refine lv_istore (lv' := [(6, .int r332), (0, va_rf (some x0)), (1, va_rf (some x1)), (2, .ref (mh E)), (3, va_rf (some x3)), (4, va_rf (some x4)), (5, .int x5)]) hx hb dL_law_1581 hl (by decide) rfl (fun ls hl => ?_)
                                                refine lv_aload_n hx hb dL_law_1583 rfl (lv_at hl 3 rfl) ?_
                                                refine sh_aload_n hx hb dL_law_1584 rfl (lv_at hl 1 rfl) ?_
                                                refine lv_iload hx hb dL_law_1585 (lv_at hl 6 rfl) ?_
                                                refine lv_iconst (v := 1) hx hb dL_law_1587 (by decide) ?_
                                                refine lv_iadd hx hb dL_law_1588 ?_
                                                refine sh_iald C hW h dL_law_1589 (fun v336 h => ?_)
                                                refine sh_aload_n hx hb dL_law_1590 rfl (lv_at hl 1 rfl) ?_
                                                refine lv_iload hx hb dL_law_1591 (lv_at hl 6 rfl) ?_
                                                refine lv_iconst (v := 2) hx hb dL_law_1593 (by decide) ?_
                                                refine lv_iadd hx hb dL_law_1594 ?_
                                                refine sh_iald C hW h dL_law_1595 (fun v337 h => ?_)
                                                refine call_X3_checksum (ct_X3_checksum l) C.1 hKm hM hS C.2.2.2 hAw q2150 (le_lit hRf rfl) (le_lit hRl rfl) ⟨Nat.le_trans (Nat.le_add_right _ _) hkc, Nat.le_trans (Nat.le_add_right _ _) hks⟩ hl.1 (Nat.le_of_ble_eq_true rfl) dL_law_1596 h (fun r338 M339 L340 H locs h hM hS hk => ?_)
                                                have hW := lw_callM hW hsep hk
                                                refine lv_istore (lv' := [(7, .int r338), (6, .int r332), (0, va_rf (some x0)), (1, va_rf (some x1)), (2, .ref (mh E)), (3, va_rf (some x3)), (4, va_rf (some x4)), (5, .int x5)]) hx hb dL_law_1599 hl (by decide) rfl (fun ls hl => ?_)
                                                refine lv_aload_n hx hb dL_law_1601 rfl (lv_at hl 4 rfl) ?_
                                                refine call_X3_thrown (ct_X3_thrown l) C.1 hKm hM hS C.2.2.2 q1895 (le_lit hRf rfl) (le_lit hRl rfl) ⟨Nat.le_trans (Nat.le_add_right _ _) hkc, Nat.le_trans (Nat.le_add_right _ _) hks⟩ hl.1 (Nat.le_of_ble_eq_true rfl) dL_law_1602 h (fun r341 H locs h hk hS => ?_)
                                                have hW := hW.kept hk
                                                have hM := hM.kept hk
                                                refine lv_iload hx hb dL_law_1605 (lv_at hl 1 rfl) ?_
                                                refine lv_icmp_eq (tgt := 1612) hx hb dL_law_1607 (by decide) (fun c345 => ?_) (fun c345 => ?_)
                                                · have h := wif_t h c345
                                                  refine lv_iload hx hb dL_law_1612 (lv_at hl 1 rfl) ?_
                                                  refine lv_if_ne (tgt := 1629) hx hb dL_law_1614 (by decide) (fun c344 => ?_) (fun c344 => ?_)
                                                  · have h := wif_f h c344
                                                    exact hb1629 _ _ _ _ _ _ h ls H locs _ _ (lv_sub hl [2, 3, 4, 5, 6, 7] rfl) hW hM hsep hS hkc hks
                                                  · have h := wif_t h c344
                                                    refine sh_aload_n hx hb dL_law_1617 rfl (lv_at hl 5 rfl) ?_
                                                    refine lv_iconst (v := 0) hx hb dL_law_1618 (by decide) ?_
                                                    refine sh_lald C hW h dL_law_1619 (fun v342 h => ?_)
                                                    refine lv_iload hx hb dL_law_1620 (lv_at hl 0 rfl) ?_
                                                    refine lv_i2l hx hb dL_law_1622 rfl ?_
                                                    refine W.lcmp hx hb dL_law_1623 ?_
                                                    refine lv_if_eq (tgt := 1629) hx hb dL_law_1624 (by decide) (fun c343 => ?_) (fun c343 => ?_)
                                                    · have h := wif_t h c343
                                                      exact hb1629 _ _ _ _ _ _ h ls H locs _ _ (lv_sub hl [2, 3, 4, 5, 6, 7] rfl) hW hM hsep hS hkc hks
                                                    · have h := wif_f h c343
                                                      refine lv_iconst (v := 0) hx hb dL_law_1627 (by decide) ?_
                                                      exact hret _ _ _ _ _ _ _ dL_law_1628 hW hS hkc hks isZ_0 h
                                                · have h := wif_f h c345
                                                  refine lv_iconst (v := 0) hx hb dL_law_1610 (by decide) ?_
                                                  exact hret _ _ _ _ _ _ _ dL_law_1611 hW hS hkc hks isZ_0 h
                                              · have h := wif_f h c346
                                                by_cases c364 : (v35 &&& (31 : Int32)) = (20 : Int32)
                                                · have h := wif_t h c364
                                                  refine lv_tableIn (tgt := 1632) (off := 1587) hx hb dL_law_45 (by rw [c364]; decide) (by rw [c364]; decide) (by rw [c364]; rfl) (by decide) ?_
                                                  refine sh_aload_n hx hb dL_law_1632 rfl (lv_at hl 1 rfl) ?_
                                                  refine sh_aload_n hx hb dL_law_1633 rfl (lv_at hl 0 rfl) ?_
                                                  refine lv_iload hx hb dL_law_1634 (lv_at hl 5 rfl) ?_
                                                  refine lv_iconst (v := 1) hx hb dL_law_1636 (by decide) ?_
                                                  refine lv_iadd hx hb dL_law_1637 ?_
                                                  refine sh_iald C hW h dL_law_1638 (fun v347 h => ?_)
                                                  refine sh_aload_n hx hb dL_law_1639 rfl (lv_at hl 0 rfl) ?_
                                                  refine lv_iload hx hb dL_law_1640 (lv_at hl 5 rfl) ?_
                                                  refine lv_iconst (v := 2) hx hb dL_law_1642 (by decide) ?_
                                                  refine lv_iadd hx hb dL_law_1643 ?_
                                                  refine sh_iald C hW h dL_law_1644 (fun v348 h => ?_)
                                                  refine sh_aload_n hx hb dL_law_1645 rfl (lv_at hl 0 rfl) ?_
                                                  refine lv_iload hx hb dL_law_1646 (lv_at hl 5 rfl) ?_
                                                  refine lv_iconst (v := 3) hx hb dL_law_1648 (by decide) ?_
                                                  refine lv_iadd hx hb dL_law_1649 ?_
                                                  refine sh_iald C hW h dL_law_1650 (fun v349 h => ?_)
                                                  refine sh_aload_n hx hb dL_law_1651 rfl (lv_at hl 3 rfl) ?_
                                                  obtain ⟨c352, s353, hc1652, hs1652, h⟩ := h
                                                  refine call_X0_playErrors_S (ct_X0_playErrors l hfl) C hW hS q1610 (le_lit hRf rfl) (le_lit hRl rfl) hc1652 hs1652 hkc hks hl.1 (Nat.le_of_ble_eq_true rfl) dL_law_1652 h (fun r350 G351 H locs h hW hS hF hkc hks => ?_)
                                                  obtain ⟨hM, hsep⟩ := lw_callG hM hsep hgE hF
                                                  refine lv_istore (lv' := [(6, .int r350), (0, va_rf (some x0)), (1, va_rf (some x1)), (2, .ref (mh E)), (3, va_rf (some x3)), (4, va_rf (some x4)), (5, .int x5)]) hx hb dL_law_1655 hl (by decide) rfl (fun ls hl => ?_)
                                                  refine lv_aload_n hx hb dL_law_1657 rfl (lv_at hl 3 rfl) ?_
                                                  refine sh_aload_n hx hb dL_law_1658 rfl (lv_at hl 1 rfl) ?_
                                                  refine lv_iload hx hb dL_law_1659 (lv_at hl 6 rfl) ?_
                                                  refine lv_iconst (v := 1) hx hb dL_law_1661 (by decide) ?_
                                                  refine lv_iadd hx hb dL_law_1662 ?_
                                                  refine sh_iald C hW h dL_law_1663 (fun v354 h => ?_)
                                                  refine sh_aload_n hx hb dL_law_1664 rfl (lv_at hl 1 rfl) ?_
                                                  refine lv_iload hx hb dL_law_1665 (lv_at hl 6 rfl) ?_
                                                  refine lv_iconst (v := 2) hx hb dL_law_1667 (by decide) ?_
                                                  refine lv_iadd hx hb dL_law_1668 ?_
                                                  refine sh_iald C hW h dL_law_1669 (fun v355 h => ?_)
                                                  refine sh_aload_n hx hb dL_law_1670 rfl (lv_at hl 1 rfl) ?_
                                                  refine lv_iload hx hb dL_law_1671 (lv_at hl 6 rfl) ?_
                                                  refine lv_iconst (v := 3) hx hb dL_law_1673 (by decide) ?_
                                                  refine lv_iadd hx hb dL_law_1674 ?_
                                                  refine sh_iald C hW h dL_law_1675 (fun v356 h => ?_)
                                                  refine call_X3_playErrors (ct_X3_playErrors l) C.1 hKm hM hS C.2.2.2 hAw q2154 (le_lit hRf rfl) (le_lit hRl rfl) ⟨Nat.le_trans (Nat.le_add_right _ _) hkc, Nat.le_trans (Nat.le_add_right _ _) hks⟩ hl.1 (Nat.le_of_ble_eq_true rfl) dL_law_1676 h (fun r357 M358 H locs h hM hS hk => ?_)
                                                  have hW := lw_callM hW hsep hk
                                                  refine lv_istore (lv' := [(7, .int r357), (6, .int r350), (0, va_rf (some x0)), (1, va_rf (some x1)), (2, .ref (mh E)), (3, va_rf (some x3)), (4, va_rf (some x4)), (5, .int x5)]) hx hb dL_law_1679 hl (by decide) rfl (fun ls hl => ?_)
                                                  refine lv_aload_n hx hb dL_law_1681 rfl (lv_at hl 4 rfl) ?_
                                                  refine call_X3_thrown (ct_X3_thrown l) C.1 hKm hM hS C.2.2.2 q1895 (le_lit hRf rfl) (le_lit hRl rfl) ⟨Nat.le_trans (Nat.le_add_right _ _) hkc, Nat.le_trans (Nat.le_add_right _ _) hks⟩ hl.1 (Nat.le_of_ble_eq_true rfl) dL_law_1682 h (fun r359 H locs h hk hS => ?_)
                                                  have hW := hW.kept hk
                                                  have hM := hM.kept hk
                                                  refine lv_iload hx hb dL_law_1685 (lv_at hl 1 rfl) ?_
                                                  refine lv_icmp_eq (tgt := 1692) hx hb dL_law_1687 (by decide) (fun c363 => ?_) (fun c363 => ?_)
                                                  · have h := wif_t h c363
                                                    refine lv_iload hx hb dL_law_1692 (lv_at hl 1 rfl) ?_
                                                    refine lv_if_ne (tgt := 1709) hx hb dL_law_1694 (by decide) (fun c362 => ?_) (fun c362 => ?_)
                                                    · have h := wif_f h c362
                                                      exact hb1709 _ _ _ _ _ _ h ls H locs _ _ (lv_sub hl [2, 3, 4, 5, 6, 7] rfl) hW hM hsep hS hkc hks
                                                    · have h := wif_t h c362
                                                      refine sh_aload_n hx hb dL_law_1697 rfl (lv_at hl 5 rfl) ?_
                                                      refine lv_iconst (v := 0) hx hb dL_law_1698 (by decide) ?_
                                                      refine sh_lald C hW h dL_law_1699 (fun v360 h => ?_)
                                                      refine lv_iload hx hb dL_law_1700 (lv_at hl 0 rfl) ?_
                                                      refine lv_i2l hx hb dL_law_1702 rfl ?_
                                                      refine W.lcmp hx hb dL_law_1703 ?_
                                                      refine lv_if_eq (tgt := 1709) hx hb dL_law_1704 (by decide) (fun c361 => ?_) (fun c361 => ?_)
                                                      · have h := wif_t h c361
                                                        exact hb1709 _ _ _ _ _ _ h ls H locs _ _ (lv_sub hl [2, 3, 4, 5, 6, 7] rfl) hW hM hsep hS hkc hks
                                                      · have h := wif_f h c361
                                                        refine lv_iconst (v := 0) hx hb dL_law_1707 (by decide) ?_
                                                        exact hret _ _ _ _ _ _ _ dL_law_1708 hW hS hkc hks isZ_0 h
                                                  · have h := wif_f h c363
                                                    refine lv_iconst (v := 0) hx hb dL_law_1690 (by decide) ?_
                                                    exact hret _ _ _ _ _ _ _ dL_law_1691 hW hS hkc hks isZ_0 h
                                                · have h := wif_f h c364
                                                  by_cases c383 : (v35 &&& (31 : Int32)) = (21 : Int32)
                                                  · have h := wif_t h c383
                                                    refine lv_tableIn (tgt := 1712) (off := 1667) hx hb dL_law_45 (by rw [c383]; decide) (by rw [c383]; decide) (by rw [c383]; rfl) (by decide) ?_
                                                    refine sh_aload_n hx hb dL_law_1712 rfl (lv_at hl 1 rfl) ?_
                                                    refine sh_aload_n hx hb dL_law_1713 rfl (lv_at hl 0 rfl) ?_
                                                    refine lv_iload hx hb dL_law_1714 (lv_at hl 5 rfl) ?_
                                                    refine lv_iconst (v := 1) hx hb dL_law_1716 (by decide) ?_
                                                    refine lv_iadd hx hb dL_law_1717 ?_
                                                    refine sh_iald C hW h dL_law_1718 (fun v365 h => ?_)
                                                    refine sh_aload_n hx hb dL_law_1719 rfl (lv_at hl 0 rfl) ?_
                                                    refine lv_iload hx hb dL_law_1720 (lv_at hl 5 rfl) ?_
                                                    refine lv_iconst (v := 2) hx hb dL_law_1722 (by decide) ?_
                                                    refine lv_iadd hx hb dL_law_1723 ?_
                                                    refine sh_iald C hW h dL_law_1724 (fun v366 h => ?_)
                                                    refine sh_aload_n hx hb dL_law_1725 rfl (lv_at hl 0 rfl) ?_
                                                    refine lv_iload hx hb dL_law_1726 (lv_at hl 5 rfl) ?_
                                                    refine lv_iconst (v := 3) hx hb dL_law_1728 (by decide) ?_
                                                    refine lv_iadd hx hb dL_law_1729 ?_
                                                    refine sh_iald C hW h dL_law_1730 (fun v367 h => ?_)
                                                    refine sh_aload_n hx hb dL_law_1731 rfl (lv_at hl 3 rfl) ?_
                                                    obtain ⟨c370, s371, hc1732, hs1732, h⟩ := h
                                                    refine call_X0_writeRow_S (ct_X0_writeRow l hfl) C hW hS q1621 (le_lit hRf rfl) (le_lit hRl rfl) hc1732 hs1732 hkc hks hl.1 (Nat.le_of_ble_eq_true rfl) dL_law_1732 h (fun r368 G369 H locs h hW hS hF hkc hks => ?_)
                                                    obtain ⟨hM, hsep⟩ := lw_callG hM hsep hgE hF
                                                    refine lv_istore (lv' := [(6, .int r368), (0, va_rf (some x0)), (1, va_rf (some x1)), (2, .ref (mh E)), (3, va_rf (some x3)), (4, va_rf (some x4)), (5, .int x5)]) hx hb dL_law_1735 hl (by decide) rfl (fun ls hl => ?_)
                                                    refine lv_aload_n hx hb dL_law_1737 rfl (lv_at hl 3 rfl) ?_
                                                    refine sh_aload_n hx hb dL_law_1738 rfl (lv_at hl 1 rfl) ?_
                                                    refine lv_iload hx hb dL_law_1739 (lv_at hl 6 rfl) ?_
                                                    refine lv_iconst (v := 1) hx hb dL_law_1741 (by decide) ?_
                                                    refine lv_iadd hx hb dL_law_1742 ?_
                                                    refine sh_iald C hW h dL_law_1743 (fun v372 h => ?_)
                                                    refine sh_aload_n hx hb dL_law_1744 rfl (lv_at hl 1 rfl) ?_
                                                    refine lv_iload hx hb dL_law_1745 (lv_at hl 6 rfl) ?_
                                                    refine lv_iconst (v := 2) hx hb dL_law_1747 (by decide) ?_
                                                    refine lv_iadd hx hb dL_law_1748 ?_
                                                    refine sh_iald C hW h dL_law_1749 (fun v373 h => ?_)
                                                    refine sh_aload_n hx hb dL_law_1750 rfl (lv_at hl 1 rfl) ?_
                                                    refine lv_iload hx hb dL_law_1751 (lv_at hl 6 rfl) ?_
                                                    refine lv_iconst (v := 3) hx hb dL_law_1753 (by decide) ?_
                                                    refine lv_iadd hx hb dL_law_1754 ?_
                                                    refine sh_iald C hW h dL_law_1755 (fun v374 h => ?_)
                                                    refine call_X3_writeRow (ct_X3_writeRow l) C.1 hKm hM hS C.2.2.2 hAw q2158 (le_lit hRf rfl) (le_lit hRl rfl) ⟨Nat.le_trans (Nat.le_add_right _ _) hkc, Nat.le_trans (Nat.le_add_right _ _) hks⟩ hl.1 (Nat.le_of_ble_eq_true rfl) dL_law_1756 h (fun r375 M376 L377 H locs h hM hS hk => ?_)
                                                    have hW := lw_callM hW hsep hk
                                                    refine lv_istore (lv' := [(7, .int r375), (6, .int r368), (0, va_rf (some x0)), (1, va_rf (some x1)), (2, .ref (mh E)), (3, va_rf (some x3)), (4, va_rf (some x4)), (5, .int x5)]) hx hb dL_law_1759 hl (by decide) rfl (fun ls hl => ?_)
                                                    refine lv_aload_n hx hb dL_law_1761 rfl (lv_at hl 4 rfl) ?_
                                                    refine call_X3_thrown (ct_X3_thrown l) C.1 hKm hM hS C.2.2.2 q1895 (le_lit hRf rfl) (le_lit hRl rfl) ⟨Nat.le_trans (Nat.le_add_right _ _) hkc, Nat.le_trans (Nat.le_add_right _ _) hks⟩ hl.1 (Nat.le_of_ble_eq_true rfl) dL_law_1762 h (fun r378 H locs h hk hS => ?_)
                                                    have hW := hW.kept hk
                                                    have hM := hM.kept hk
                                                    refine lv_iload hx hb dL_law_1765 (lv_at hl 1 rfl) ?_
                                                    refine lv_icmp_eq (tgt := 1772) hx hb dL_law_1767 (by decide) (fun c382 => ?_) (fun c382 => ?_)
                                                    · have h := wif_t h c382
                                                      refine lv_iload hx hb dL_law_1772 (lv_at hl 1 rfl) ?_
                                                      refine lv_if_ne (tgt := 1789) hx hb dL_law_1774 (by decide) (fun c381 => ?_) (fun c381 => ?_)
                                                      · have h := wif_f h c381
                                                        exact hb1789 _ _ _ _ _ _ h ls H locs _ _ (lv_sub hl [2, 3, 4, 5, 6, 7] rfl) hW hM hsep hS hkc hks
                                                      · have h := wif_t h c381
                                                        refine sh_aload_n hx hb dL_law_1777 rfl (lv_at hl 5 rfl) ?_
                                                        refine lv_iconst (v := 0) hx hb dL_law_1778 (by decide) ?_
                                                        refine sh_lald C hW h dL_law_1779 (fun v379 h => ?_)
                                                        refine lv_iload hx hb dL_law_1780 (lv_at hl 0 rfl) ?_
                                                        refine lv_i2l hx hb dL_law_1782 rfl ?_
                                                        refine W.lcmp hx hb dL_law_1783 ?_
                                                        refine lv_if_eq (tgt := 1789) hx hb dL_law_1784 (by decide) (fun c380 => ?_) (fun c380 => ?_)
                                                        · have h := wif_t h c380
                                                          exact hb1789 _ _ _ _ _ _ h ls H locs _ _ (lv_sub hl [2, 3, 4, 5, 6, 7] rfl) hW hM hsep hS hkc hks
                                                        · have h := wif_f h c380
                                                          refine lv_iconst (v := 0) hx hb dL_law_1787 (by decide) ?_
                                                          exact hret _ _ _ _ _ _ _ dL_law_1788 hW hS hkc hks isZ_0 h
                                                    · have h := wif_f h c382
                                                      refine lv_iconst (v := 0) hx hb dL_law_1770 (by decide) ?_
                                                      exact hret _ _ _ _ _ _ _ dL_law_1771 hW hS hkc hks isZ_0 h
                                                  · have h := wif_f h c383
                                                    by_cases c397 : (v35 &&& (31 : Int32)) = (22 : Int32)
                                                    · have h := wif_t h c397
                                                      refine lv_tableIn (tgt := 1792) (off := 1747) hx hb dL_law_45 (by rw [c397]; decide) (by rw [c397]; decide) (by rw [c397]; rfl) (by decide) ?_
                                                      refine sh_aload_n hx hb dL_law_1792 rfl (lv_at hl 1 rfl) ?_
                                                      refine sh_aload_n hx hb dL_law_1793 rfl (lv_at hl 0 rfl) ?_
                                                      refine lv_iload hx hb dL_law_1794 (lv_at hl 5 rfl) ?_
                                                      refine lv_iconst (v := 1) hx hb dL_law_1796 (by decide) ?_
                                                      refine lv_iadd hx hb dL_law_1797 ?_
                                                      refine sh_iald C hW h dL_law_1798 (fun v384 h => ?_)
                                                      refine sh_aload_n hx hb dL_law_1799 rfl (lv_at hl 3 rfl) ?_
                                                      obtain ⟨c387, s388, hc1800, hs1800, h⟩ := h
                                                      refine call_X0_write_S (ct_X0_write l hfl) C hW hS q1676 (le_lit hRf rfl) (le_lit hRl rfl) hc1800 hs1800 hkc hks hl.1 (Nat.le_of_ble_eq_true rfl) dL_law_1800 h (fun r385 G386 H locs h hW hS hF hkc hks => ?_)
                                                      obtain ⟨hM, hsep⟩ := lw_callG hM hsep hgE hF
                                                      refine lv_istore (lv' := [(6, .int r385), (0, va_rf (some x0)), (1, va_rf (some x1)), (2, .ref (mh E)), (3, va_rf (some x3)), (4, va_rf (some x4)), (5, .int x5)]) hx hb dL_law_1803 hl (by decide) rfl (fun ls hl => ?_)
                                                      refine lv_aload_n hx hb dL_law_1805 rfl (lv_at hl 3 rfl) ?_
                                                      refine sh_aload_n hx hb dL_law_1806 rfl (lv_at hl 1 rfl) ?_
                                                      refine lv_iload hx hb dL_law_1807 (lv_at hl 6 rfl) ?_
                                                      refine lv_iconst (v := 1) hx hb dL_law_1809 (by decide) ?_
                                                      refine lv_iadd hx hb dL_law_1810 ?_
                                                      refine sh_iald C hW h dL_law_1811 (fun v389 h => ?_)
                                                      obtain ⟨hn1, hn2, h⟩ := h
                                                      refine call_X3_write (ct_X3_write l) C.1 hKm hM hS C.2.2.2 hAw q2166 (le_lit hRf rfl) (le_lit hRl rfl) ⟨by omega, by omega⟩ hl.1 (Nat.le_of_ble_eq_true rfl) dL_law_1812 h (fun r390 M391 H locs h hM hS hk => ?_)
                                                      have hW := lw_callM hW hsep hk
                                                      replace hkc := lw_bud hn1 hkc
                                                      replace hks := lw_bud hn2 hks
                                                      refine lv_istore (lv' := [(7, .int r390), (6, .int r385), (0, va_rf (some x0)), (1, va_rf (some x1)), (2, .ref (mh E)), (3, va_rf (some x3)), (4, va_rf (some x4)), (5, .int x5)]) hx hb dL_law_1815 hl (by decide) rfl (fun ls hl => ?_)
                                                      refine lv_aload_n hx hb dL_law_1817 rfl (lv_at hl 4 rfl) ?_
                                                      refine call_X3_thrown (ct_X3_thrown l) C.1 hKm hM hS C.2.2.2 q1895 (le_lit hRf rfl) (le_lit hRl rfl) ⟨Nat.le_trans (Nat.le_add_right _ _) hkc, Nat.le_trans (Nat.le_add_right _ _) hks⟩ hl.1 (Nat.le_of_ble_eq_true rfl) dL_law_1818 h (fun r392 H locs h hk hS => ?_)
                                                      have hW := hW.kept hk
                                                      have hM := hM.kept hk
                                                      refine lv_iload hx hb dL_law_1821 (lv_at hl 1 rfl) ?_
                                                      refine lv_icmp_eq (tgt := 1828) hx hb dL_law_1823 (by decide) (fun c396 => ?_) (fun c396 => ?_)
                                                      · have h := wif_t h c396
                                                        refine lv_iload hx hb dL_law_1828 (lv_at hl 1 rfl) ?_
                                                        refine lv_if_ne (tgt := 1845) hx hb dL_law_1830 (by decide) (fun c395 => ?_) (fun c395 => ?_)
                                                        · have h := wif_f h c395
                                                          exact hb1845 _ _ _ _ _ _ h ls H locs _ _ (lv_sub hl [2, 3, 4, 5, 6, 7] rfl) hW hM hsep hS hkc hks
                                                        · have h := wif_t h c395
                                                          refine sh_aload_n hx hb dL_law_1833 rfl (lv_at hl 5 rfl) ?_
                                                          refine lv_iconst (v := 0) hx hb dL_law_1834 (by decide) ?_
                                                          refine sh_lald C hW h dL_law_1835 (fun v393 h => ?_)
                                                          refine lv_iload hx hb dL_law_1836 (lv_at hl 0 rfl) ?_
                                                          refine lv_i2l hx hb dL_law_1838 rfl ?_
                                                          refine W.lcmp hx hb dL_law_1839 ?_
                                                          refine lv_if_eq (tgt := 1845) hx hb dL_law_1840 (by decide) (fun c394 => ?_) (fun c394 => ?_)
                                                          · have h := wif_t h c394
                                                            exact hb1845 _ _ _ _ _ _ h ls H locs _ _ (lv_sub hl [2, 3, 4, 5, 6, 7] rfl) hW hM hsep hS hkc hks
                                                          · have h := wif_f h c394
                                                            refine lv_iconst (v := 0) hx hb dL_law_1843 (by decide) ?_
                                                            exact hret _ _ _ _ _ _ _ dL_law_1844 hW hS hkc hks isZ_0 h
                                                      · have h := wif_f h c396
                                                        refine lv_iconst (v := 0) hx hb dL_law_1826 (by decide) ?_
                                                        exact hret _ _ _ _ _ _ _ dL_law_1827 hW hS hkc hks isZ_0 h
                                                    · have h := wif_f h c397
                                                      by_cases c406 : (v35 &&& (31 : Int32)) = (23 : Int32)
                                                      · have h := wif_t h c406
                                                        refine lv_tableIn (tgt := 1848) (off := 1803) hx hb dL_law_45 (by rw [c406]; decide) (by rw [c406]; decide) (by rw [c406]; rfl) (by decide) ?_
                                                        refine sh_aload_n hx hb dL_law_1848 rfl (lv_at hl 1 rfl) ?_
                                                        refine sh_aload_n hx hb dL_law_1849 rfl (lv_at hl 0 rfl) ?_
                                                        refine lv_iload hx hb dL_law_1850 (lv_at hl 5 rfl) ?_
                                                        refine lv_iconst (v := 1) hx hb dL_law_1852 (by decide) ?_
                                                        refine lv_iadd hx hb dL_law_1853 ?_
                                                        refine sh_iald C hW h dL_law_1854 (fun v398 h => ?_)
                                                        obtain ⟨a399, c400, ho1855, hcv1855, h⟩ := h
                                                        have hcc := h.1
                                                        have h := h.2
                                                        refine call_X1_outputByte_V (ct_X1_outputByte l) C hW hS q588 ho1855 hcv1855 hcc (le_lit hRf rfl) (le_lit hRl rfl) ⟨Nat.le_trans (Nat.le_add_right _ _) hkc, Nat.le_trans (Nat.le_add_right _ _) hks⟩ hl.1 (Nat.le_of_ble_eq_true rfl) dL_law_1855 h (fun r401 H locs h hW hS hF => ?_)
                                                        obtain ⟨hM, hsep⟩ := lw_callG hM hsep hgE hF
                                                        refine lv_aload_n hx hb dL_law_1858 rfl (lv_at hl 2 rfl) ?_
                                                        refine sh_aload_n hx hb dL_law_1859 rfl (lv_at hl 0 rfl) ?_
                                                        refine lv_iload hx hb dL_law_1860 (lv_at hl 5 rfl) ?_
                                                        refine lv_iconst (v := 1) hx hb dL_law_1862 (by decide) ?_
                                                        refine lv_iadd hx hb dL_law_1863 ?_
                                                        refine sh_iald C hW h dL_law_1864 (fun v402 h => ?_)
                                                        refine call_X3_outputByte (ct_X3_outputByte l) C.1 hKm hM hS C.2.2.2 hAw q2186 (le_lit hRf rfl) (le_lit hRl rfl) ⟨Nat.le_trans (Nat.le_add_right _ _) hkc, Nat.le_trans (Nat.le_add_right _ _) hks⟩ hl.1 (Nat.le_of_ble_eq_true rfl) dL_law_1865 h (fun r403 M404 H locs h hM hS hk => ?_)
                                                        have hW := lw_callM hW hsep hk
                                                        refine lv_icmp_eq (tgt := 2004) hx hb dL_law_1868 (by decide) (fun c405 => ?_) (fun c405 => ?_)
                                                        · have h := wif_t h c405
                                                          exact hb2004 _ _ _ _ _ _ h ls H locs _ _ (lv_sub hl [0, 1, 2, 3, 4, 5] rfl) hW hM hsep hS hkc hks
                                                        · have h := wif_f h c405
                                                          refine lv_iconst (v := 0) hx hb dL_law_1871 (by decide) ?_
                                                          exact hret _ _ _ _ _ _ _ dL_law_1872 hW hS hkc hks isZ_0 h
                                                      · have h := wif_f h c406
                                                        by_cases c415 : (v35 &&& (31 : Int32)) = (24 : Int32)
                                                        · have h := wif_t h c415
                                                          refine lv_tableIn (tgt := 1873) (off := 1828) hx hb dL_law_45 (by rw [c415]; decide) (by rw [c415]; decide) (by rw [c415]; rfl) (by decide) ?_
                                                          refine sh_aload_n hx hb dL_law_1873 rfl (lv_at hl 1 rfl) ?_
                                                          obtain ⟨a407, c408, ho1874, hcv1874, h⟩ := h
                                                          have hcc := h.1
                                                          have h := h.2
                                                          refine call_X1_meanKeys_V (ct_X1_meanKeys l) C hW hS q611 ho1874 hcv1874 hcc (le_lit hRf rfl) (le_lit hRl rfl) ⟨Nat.le_trans (Nat.le_add_right _ _) hkc, Nat.le_trans (Nat.le_add_right _ _) hks⟩ hl.1 (Nat.le_of_ble_eq_true rfl) dL_law_1874 h (fun r409 H locs h hW hS hF => ?_)
                                                          obtain ⟨hM, hsep⟩ := lw_callG hM hsep hgE hF
                                                          refine lv_dstore (lv' := [(6, .double r409), (0, va_rf (some x0)), (1, va_rf (some x1)), (2, .ref (mh E)), (3, va_rf (some x3)), (4, va_rf (some x4)), (5, .int x5)]) hx hb dL_law_1877 hl (by decide) rfl (fun ls hl => ?_)
                                                          refine lv_aload_n hx hb dL_law_1879 rfl (lv_at hl 3 rfl) ?_
                                                          refine call_X3_meanKeys (ct_X3_meanKeys l) C.1 hKm hM hS C.2.2.2 hAw q2190 (le_lit hRf rfl) (le_lit hRl rfl) ⟨Nat.le_trans (Nat.le_add_right _ _) hkc, Nat.le_trans (Nat.le_add_right _ _) hks⟩ hl.1 (Nat.le_of_ble_eq_true rfl) dL_law_1880 h (fun r410 M411 H locs h hM hS hk => ?_)
                                                          have hW := lw_callM hW hsep hk
                                                          refine lv_dstore (lv' := [(8, .double r410), (6, .double r409), (0, va_rf (some x0)), (1, va_rf (some x1)), (2, .ref (mh E)), (3, va_rf (some x3)), (4, va_rf (some x4)), (5, .int x5)]) hx hb dL_law_1883 hl (by decide) rfl (fun ls hl => ?_)
                                                          refine lv_dload hx hb dL_law_1885 (lv_at hl 1 rfl) ?_
                                                          refine lv_dload hx hb dL_law_1887 (lv_at hl 0 rfl) ?_
                                                          refine lv_dcmp hx hb dL_law_1889 ?_
                                                          refine lv_if_eq (tgt := 1911) hx hb dL_law_1890 (by decide) (fun c414 => ?_) (fun c414 => ?_)
                                                          · have h := wif_t h c414
                                                            exact hb1911 _ _ _ _ _ _ h ls H locs _ _ (lv_sub hl [2, 3, 4, 5, 6, 7] rfl) hW hM hsep hS hkc hks
                                                          · have h := wif_f h c414
                                                            refine lv_dload hx hb dL_law_1893 (lv_at hl 1 rfl) ?_
                                                            refine lv_dload hx hb dL_law_1895 (lv_at hl 1 rfl) ?_
                                                            refine lv_dcmp hx hb dL_law_1897 ?_
                                                            refine lv_if_eq (tgt := 1909) hx hb dL_law_1898 (by decide) (fun c413 => ?_) (fun c413 => ?_)
                                                            · have h := wif_t h c413
                                                              refine lv_iconst (v := 0) hx hb dL_law_1909 (by decide) ?_
                                                              exact hret _ _ _ _ _ _ _ dL_law_1910 hW hS hkc hks isZ_0 h
                                                            · have h := wif_f h c413
                                                              refine lv_dload hx hb dL_law_1901 (lv_at hl 0 rfl) ?_
                                                              refine lv_dload hx hb dL_law_1903 (lv_at hl 0 rfl) ?_
                                                              refine lv_dcmp hx hb dL_law_1905 ?_
                                                              refine lv_if_ne (tgt := 1911) hx hb dL_law_1906 (by decide) (fun c412 => ?_) (fun c412 => ?_)
                                                              · have h := wif_f h c412
                                                                exact hb1911 _ _ _ _ _ _ h ls H locs _ _ (lv_sub hl [2, 3, 4, 5, 6, 7] rfl) hW hM hsep hS hkc hks
                                                              · have h := wif_t h c412
                                                                refine lv_iconst (v := 0) hx hb dL_law_1909 (by decide) ?_
                                                                exact hret _ _ _ _ _ _ _ dL_law_1910 hW hS hkc hks isZ_0 h
                                                        · have h := wif_f h c415
                                                          by_cases c436 : (v35 &&& (31 : Int32)) = (25 : Int32)
                                                          · have h := wif_t h c436
                                                            refine lv_tableIn (tgt := 1914) (off := 1869) hx hb dL_law_45 (by rw [c436]; decide) (by rw [c436]; decide) (by rw [c436]; rfl) (by decide) ?_
                                                            refine sh_aload_n hx hb dL_law_1914 rfl (lv_at hl 1 rfl) ?_
                                                            refine sh_aload_n hx hb dL_law_1915 rfl (lv_at hl 0 rfl) ?_
                                                            refine lv_iload hx hb dL_law_1916 (lv_at hl 5 rfl) ?_
                                                            refine lv_iconst (v := 1) hx hb dL_law_1918 (by decide) ?_
                                                            refine lv_iadd hx hb dL_law_1919 ?_
                                                            refine sh_iald C hW h dL_law_1920 (fun v416 h => ?_)
                                                            refine sh_aload_n hx hb dL_law_1921 rfl (lv_at hl 0 rfl) ?_
                                                            refine lv_iload hx hb dL_law_1922 (lv_at hl 5 rfl) ?_
                                                            refine lv_iconst (v := 2) hx hb dL_law_1924 (by decide) ?_
                                                            refine lv_iadd hx hb dL_law_1925 ?_
                                                            refine sh_iald C hW h dL_law_1926 (fun v417 h => ?_)
                                                            refine sh_aload hx hb dL_law_1927 (lv_at hl 4 rfl) ?_
                                                            obtain ⟨c420, s421, hc1929, hs1929, h⟩ := h
                                                            refine call_X0_coveredPart_S (ct_X0_coveredPart l hfl) C hW hS q1788 (le_lit hRf rfl) (le_lit hRl rfl) hc1929 hs1929 hkc hks hl.1 (Nat.le_of_ble_eq_true rfl) dL_law_1929 h (fun r418 G419 H locs h hW hS hF hkc hks => ?_)
                                                            obtain ⟨hM, hsep⟩ := lw_callG hM hsep hgE hF
                                                            refine lv_istore (lv' := [(6, .int r418), (0, va_rf (some x0)), (1, va_rf (some x1)), (2, .ref (mh E)), (3, va_rf (some x3)), (4, va_rf (some x4)), (5, .int x5)]) hx hb dL_law_1932 hl (by decide) rfl (fun ls hl => ?_)
                                                            refine lv_aload_n hx hb dL_law_1934 rfl (lv_at hl 3 rfl) ?_
                                                            refine sh_aload_n hx hb dL_law_1935 rfl (lv_at hl 1 rfl) ?_
                                                            refine lv_iload hx hb dL_law_1936 (lv_at hl 6 rfl) ?_
                                                            refine lv_iconst (v := 1) hx hb dL_law_1938 (by decide) ?_
                                                            refine lv_iadd hx hb dL_law_1939 ?_
                                                            refine sh_iald C hW h dL_law_1940 (fun v422 h => ?_)
                                                            refine sh_aload_n hx hb dL_law_1941 rfl (lv_at hl 1 rfl) ?_
                                                            refine lv_iload hx hb dL_law_1942 (lv_at hl 6 rfl) ?_
                                                            refine lv_iconst (v := 2) hx hb dL_law_1944 (by decide) ?_
                                                            refine lv_iadd hx hb dL_law_1945 ?_
                                                            refine sh_iald C hW h dL_law_1946 (fun v423 h => ?_)
                                                            refine call_X3_coveredPart (ct_X3_coveredPart l) C.1 hKm hM hS C.2.2.2 hAw q2194 (le_lit hRf rfl) (le_lit hRl rfl) ⟨Nat.le_trans (Nat.le_add_right _ _) hkc, Nat.le_trans (Nat.le_add_right _ _) hks⟩ hl.1 (Nat.le_of_ble_eq_true rfl) dL_law_1947 h (fun r424 M425 L426 H locs h hM hS hk => ?_)
                                                            have hW := lw_callM hW hsep hk
                                                            refine lv_fstore (lv' := [(7, .float r424), (6, .int r418), (0, va_rf (some x0)), (1, va_rf (some x1)), (2, .ref (mh E)), (3, va_rf (some x3)), (4, va_rf (some x4)), (5, .int x5)]) hx hb dL_law_1950 hl (by decide) rfl (fun ls hl => ?_)
                                                            refine lv_aload_n hx hb dL_law_1952 rfl (lv_at hl 4 rfl) ?_
                                                            refine call_X3_thrown (ct_X3_thrown l) C.1 hKm hM hS C.2.2.2 q1895 (le_lit hRf rfl) (le_lit hRl rfl) ⟨Nat.le_trans (Nat.le_add_right _ _) hkc, Nat.le_trans (Nat.le_add_right _ _) hks⟩ hl.1 (Nat.le_of_ble_eq_true rfl) dL_law_1953 h (fun r427 H locs h hk hS => ?_)
                                                            have hW := hW.kept hk
                                                            have hM := hM.kept hk
                                                            refine lv_iload hx hb dL_law_1956 (lv_at hl 1 rfl) ?_
                                                            refine lv_icmp_eq (tgt := 1963) hx hb dL_law_1958 (by decide) (fun c435 => ?_) (fun c435 => ?_)
                                                            · have h := wif_t h c435
                                                              refine lv_iload hx hb dL_law_1963 (lv_at hl 1 rfl) ?_
                                                              refine lv_if_ne (tgt := 2001) hx hb dL_law_1965 (by decide) (fun c434 => ?_) (fun c434 => ?_)
                                                              · have h := wif_f h c434
                                                                exact hb2001 _ _ _ _ _ _ h ls H locs _ _ (lv_sub hl [2, 3, 4, 5, 6, 7] rfl) hW hM hsep hS hkc hks
                                                              · have h := wif_t h c434
                                                                refine sh_aload hx hb dL_law_1968 (lv_at hl 6 rfl) ?_
                                                                refine lv_iconst (v := 0) hx hb dL_law_1970 (by decide) ?_
                                                                refine sh_dald C hW h dL_law_1971 (fun v428 h => ?_)
                                                                refine lv_fload hx hb dL_law_1972 (lv_at hl 0 rfl) ?_
                                                                refine lv_f2d hx hb dL_law_1974 h.1 ?_
                                                                have h := h.2
                                                                refine lv_dcmp hx hb dL_law_1975 ?_
                                                                refine lv_if_eq (tgt := 2001) hx hb dL_law_1976 (by decide) (fun c433 => ?_) (fun c433 => ?_)
                                                                · have h := wif_t h c433
                                                                  exact hb2001 _ _ _ _ _ _ h ls H locs _ _ (lv_sub hl [2, 3, 4, 5, 6, 7] rfl) hW hM hsep hS hkc hks
                                                                · have h := wif_f h c433
                                                                  refine sh_aload hx hb dL_law_1979 (lv_at hl 6 rfl) ?_
                                                                  refine lv_iconst (v := 0) hx hb dL_law_1981 (by decide) ?_
                                                                  refine sh_dald C hW h dL_law_1982 (fun v429 h => ?_)
                                                                  refine sh_aload hx hb dL_law_1983 (lv_at hl 6 rfl) ?_
                                                                  refine lv_iconst (v := 0) hx hb dL_law_1985 (by decide) ?_
                                                                  refine sh_dald C hW h dL_law_1986 (fun v430 h => ?_)
                                                                  refine lv_dcmp hx hb dL_law_1987 ?_
                                                                  refine lv_if_eq (tgt := 1999) hx hb dL_law_1988 (by decide) (fun c432 => ?_) (fun c432 => ?_)
                                                                  · have h := wif_t h c432
                                                                    refine lv_iconst (v := 0) hx hb dL_law_1999 (by decide) ?_
                                                                    exact hret _ _ _ _ _ _ _ dL_law_2000 hW hS hkc hks isZ_0 h
                                                                  · have h := wif_f h c432
                                                                    refine lv_fload hx hb dL_law_1991 (lv_at hl 0 rfl) ?_
                                                                    refine lv_fload hx hb dL_law_1993 (lv_at hl 0 rfl) ?_
                                                                    refine lv_fcmp hx hb dL_law_1995 ?_
                                                                    refine lv_if_ne (tgt := 2001) hx hb dL_law_1996 (by decide) (fun c431 => ?_) (fun c431 => ?_)
                                                                    · have h := wif_f h c431
                                                                      exact hb2001 _ _ _ _ _ _ h ls H locs _ _ (lv_sub hl [2, 3, 4, 5, 6, 7] rfl) hW hM hsep hS hkc hks
                                                                    · have h := wif_t h c431
                                                                      refine lv_iconst (v := 0) hx hb dL_law_1999 (by decide) ?_
                                                                      exact hret _ _ _ _ _ _ _ dL_law_2000 hW hS hkc hks isZ_0 h
                                                            · have h := wif_f h c435
                                                              refine lv_iconst (v := 0) hx hb dL_law_1961 (by decide) ?_
                                                              exact hret _ _ _ _ _ _ _ dL_law_1962 hW hS hkc hks isZ_0 h
                                                          · have h := wif_f h c436
                                                            refine lv_tableOut (tgt := 2004) hx hb dL_law_45 (by have ec45 : (v35 &&& (31 : Int32)).toInt ≠ 0 := fun q => c45 (Int32.toInt_inj.mp (q.trans (by decide))); have ec57 : (v35 &&& (31 : Int32)).toInt ≠ 1 := fun q => c57 (Int32.toInt_inj.mp (q.trans (by decide))); have ec77 : (v35 &&& (31 : Int32)).toInt ≠ 2 := fun q => c77 (Int32.toInt_inj.mp (q.trans (by decide))); have ec93 : (v35 &&& (31 : Int32)).toInt ≠ 3 := fun q => c93 (Int32.toInt_inj.mp (q.trans (by decide))); have ec111 : (v35 &&& (31 : Int32)).toInt ≠ 4 := fun q => c111 (Int32.toInt_inj.mp (q.trans (by decide))); have ec127 : (v35 &&& (31 : Int32)).toInt ≠ 5 := fun q => c127 (Int32.toInt_inj.mp (q.trans (by decide))); have ec141 : (v35 &&& (31 : Int32)).toInt ≠ 6 := fun q => c141 (Int32.toInt_inj.mp (q.trans (by decide))); have ec155 : (v35 &&& (31 : Int32)).toInt ≠ 7 := fun q => c155 (Int32.toInt_inj.mp (q.trans (by decide))); have ec171 : (v35 &&& (31 : Int32)).toInt ≠ 8 := fun q => c171 (Int32.toInt_inj.mp (q.trans (by decide))); have ec187 : (v35 &&& (31 : Int32)).toInt ≠ 9 := fun q => c187 (Int32.toInt_inj.mp (q.trans (by decide))); have ec192 : (v35 &&& (31 : Int32)).toInt ≠ 10 := fun q => c192 (Int32.toInt_inj.mp (q.trans (by decide))); have ec210 : (v35 &&& (31 : Int32)).toInt ≠ 11 := fun q => c210 (Int32.toInt_inj.mp (q.trans (by decide))); have ec232 : (v35 &&& (31 : Int32)).toInt ≠ 12 := fun q => c232 (Int32.toInt_inj.mp (q.trans (by decide))); have ec250 : (v35 &&& (31 : Int32)).toInt ≠ 13 := fun q => c250 (Int32.toInt_inj.mp (q.trans (by decide))); have ec268 : (v35 &&& (31 : Int32)).toInt ≠ 14 := fun q => c268 (Int32.toInt_inj.mp (q.trans (by decide))); have ec275 : (v35 &&& (31 : Int32)).toInt ≠ 15 := fun q => c275 (Int32.toInt_inj.mp (q.trans (by decide))); have ec291 : (v35 &&& (31 : Int32)).toInt ≠ 16 := fun q => c291 (Int32.toInt_inj.mp (q.trans (by decide))); have ec312 : (v35 &&& (31 : Int32)).toInt ≠ 17 := fun q => c312 (Int32.toInt_inj.mp (q.trans (by decide))); have ec329 : (v35 &&& (31 : Int32)).toInt ≠ 18 := fun q => c329 (Int32.toInt_inj.mp (q.trans (by decide))); have ec346 : (v35 &&& (31 : Int32)).toInt ≠ 19 := fun q => c346 (Int32.toInt_inj.mp (q.trans (by decide))); have ec364 : (v35 &&& (31 : Int32)).toInt ≠ 20 := fun q => c364 (Int32.toInt_inj.mp (q.trans (by decide))); have ec383 : (v35 &&& (31 : Int32)).toInt ≠ 21 := fun q => c383 (Int32.toInt_inj.mp (q.trans (by decide))); have ec397 : (v35 &&& (31 : Int32)).toInt ≠ 22 := fun q => c397 (Int32.toInt_inj.mp (q.trans (by decide))); have ec406 : (v35 &&& (31 : Int32)).toInt ≠ 23 := fun q => c406 (Int32.toInt_inj.mp (q.trans (by decide))); have ec415 : (v35 &&& (31 : Int32)).toInt ≠ 24 := fun q => c415 (Int32.toInt_inj.mp (q.trans (by decide))); have ec436 : (v35 &&& (31 : Int32)).toInt ≠ 25 := fun q => c436 (Int32.toInt_inj.mp (q.trans (by decide))); omega) (by decide) ?_
                                                            exact hb2004 _ _ _ _ _ _ h ls H locs _ _ (lv_sub hl [0, 1, 2, 3, 4, 5] rfl) hW hM hsep hS hkc hks
    intro x5 G M L kc ks h
    exact (hG28 x5 G M L kc ks).mp (loop_walk (fun s => GG28 s.1 s.2.1 s.2.2.1 s.2.2.2.1 s.2.2.2.2.1 s.2.2.2.2.2) (fun rec hrec s h => hB28 (fun x5 G M L kc ks => rec (x5, G, M, L, kc, ks)) (fun x5 G M L kc ks h => hrec (x5, G, M, L, kc, ks) h) s.1 s.2.1 s.2.2.1 s.2.2.2.1 s.2.2.2.2.1 s.2.2.2.2.2 h) (x5, G, M, L, kc, ks) h)
  exact hL28
