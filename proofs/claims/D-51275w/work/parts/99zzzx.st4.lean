/-! THE START, 4: classes, arrays' classes, sites -/
set_option maxRecDepth 100000
section
variable {args : Array Value} {s : State}
theorem kn_y {k : Nat} {C : String} {T : u_T} {N : Nat} (hk : fw_cl[k]? = some (C, T, N)) (h : ∃ cC iS, u_Kn s C T N cC iS) : ∃ y : ClassId × (Nat → Nat), ∀ q : vw_C, fw_cl[k]? = some q → u_Kn s q.1 q.2.1 q.2.2 y.1 y.2 := by
  obtain ⟨a, b, h⟩ := h
  exact ⟨(a, b), fun q hq => by rw [hk] at hq; cases hq; exact h⟩
theorem ws_0 {C : String} {T : u_T} : ∀ w ∈ u_ws C T 0, w ∈ lw_all := fun w hw => nomatch hw
set_option maxHeartbeats 1000000 in
theorem kn_all (hts : ∀ w ∈ lw_tbl, w.before args s = true) : ∃ D : va_G, ∀ (k : Nat) (q : vw_C), fw_cl[k]? = some q → u_Kn s q.1 q.2.1 q.2.2 (D.1 k) (D.2 k) := by
  have H : ∀ w ∈ lw_all, w.before args s = true := fun w hw => hts w (lw_all_tbl hw)
  have h0 : ∀ k : Nat, ∃ y : ClassId × (Nat → Nat), ∀ q : vw_C, fw_cl[k]? = some q → u_Kn s q.1 q.2.1 q.2.2 y.1 y.2 := fun k => by
    match k with
    | 0 => exact kn_y (C := RX1) rfl (u_known H in_X1 (H _ q194))
    | 1 => exact kn_y (C := RX1) rfl (u_known H in_X1 (H _ q194))
    | 2 => exact kn_y (C := RX2) rfl (u_known H in_X2 (H _ q205))
    | 3 => exact kn_y (C := RX3) rfl (u_known H in_X3 (H _ q210))
    | 4 => exact kn_y (C := RX4) rfl (u_known H in_X4 (H _ q346))
    | 5 => exact kn_y (C := RX5) rfl (u_known H in_X5 (H _ q452))
    | 6 => exact kn_y (C := RX6) rfl (u_known H in_X6 (H _ q2246))
    | 7 => exact kn_y (C := RX7) rfl (u_known H in_X7 (H _ q1462))
    | 8 => exact kn_y (C := RX8) rfl (u_known H in_X8 (H _ q1530))
    | 9 => exact kn_y (C := RX9) rfl (u_known H in_X9 (H _ q1751))
    | 10 => exact kn_y (C := RX10) rfl (u_known H in_X10 (H _ q1850))
    | 11 => exact kn_y (C := RX11) rfl (u_known H in_X11 (H _ q1036))
    | 12 => exact kn_y (C := RX12) rfl (u_known H in_X12 (H _ q1059))
    | 13 => exact kn_y (C := RJ2) rfl (u_known H in_J2 (H _ q216))
    | 14 => exact kn_y (C := RJ7) rfl (u_known H in_J7 (H _ q501))
    | 15 => exact kn_y (C := RJ9) rfl (u_known H in_J9 (H _ q521))
    | 16 => exact kn_y (C := RJ10) rfl (u_known H in_J10 (H _ q683))
    | 17 => exact kn_y (C := RJ20) rfl (u_known H in_J20 (H _ q1204))
    | 18 => exact kn_y (C := RJ17) rfl (u_known H ws_0 (H _ q1419))
    | 19 => exact kn_y (C := RJ18) rfl (u_known H ws_0 (H _ q715))
    | 20 => exact kn_y (C := RJ22) rfl (u_known H ws_0 (H _ q1938))
    | k + 21 =>
      have e : fw_cl[k + 21]? = none := List.getElem?_eq_none (by show 21 ≤ k + 21; omega)
      exact ⟨(0, fun _ => 0), fun q hq => by rw [e] at hq; cases hq⟩
  obtain ⟨D, hD⟩ := Classical.axiomOfChoice h0
  exact ⟨(fun k => (D k).1, fun k => (D k).2), hD⟩
theorem ar_T {cA comp : ClassId} {ty : FieldType} {k : Class} (h2 : s.vm.classes[cA]? = some k) (h3 : k.kind = .array comp ty) : ArrOfT s cA ty := fun n z => ⟨fun q h => (by cases h), k, h2, comp, h3⟩
/-- an array's class: what is asked of it, and its row -/
def KA (s : State) (cA : ClassId) (ty : FieldType) : Prop := (ArrOfT s cA ty ∧ va_RA s cA ty) ∧ s.vm.findClass ("[" ++ ty.toString) = some cA ∧ ∃ k comp, s.vm.classes[cA]? = some k ∧ k.kind = .array comp ty
theorem ar_int (h : (Cond.arrayClass .int).before args s = true) : ∃ cA, KA s cA .int := by
  obtain ⟨c, k, comp, h1, h2, h3⟩ := Cond.arrayClass_spec h
  exact ⟨c, ⟨ar_T h2 h3, h1⟩, h1, k, comp, h2, h3⟩
theorem ar_byte (h : (Cond.arrayClass .byte).before args s = true) : ∃ cA, KA s cA .byte := by
  obtain ⟨c, k, comp, h1, h2, h3⟩ := Cond.arrayClass_spec h
  exact ⟨c, ⟨ar_T h2 h3, h1⟩, h1, k, comp, h2, h3⟩
theorem ar_boolean (h : (Cond.arrayClass .boolean).before args s = true) : ∃ cA, KA s cA .boolean := by
  obtain ⟨c, k, comp, h1, h2, h3⟩ := Cond.arrayClass_spec h
  exact ⟨c, ⟨ar_T h2 h3, h1⟩, h1, k, comp, h2, h3⟩
theorem ar_long (h : (Cond.arrayClass .long).before args s = true) : ∃ cA, KA s cA .long := by
  obtain ⟨c, k, comp, h1, h2, h3⟩ := Cond.arrayClass_spec h
  exact ⟨c, ⟨ar_T h2 h3, h1⟩, h1, k, comp, h2, h3⟩
theorem ar_obj {n : String} (h : (Cond.arrayOver (.object n)).before args s = true) : ∃ cA, KA s cA (.object n) := by
  obtain ⟨comp, c, k, h1, h2, h3, h4, h5⟩ := Cond.arrayOver_spec h
  exact ⟨c, ⟨ar_T h3 h4, k, comp, h3, h4, h1, h5⟩, h5, k, comp, h3, h4⟩
theorem site_of {x : MethodName} {pc ix : Nat} {σ : Lambda.Shape} (h : (Cond.lambdaSite x pc ix σ).before args s = true) : ∃ y : ClassId × Option Addr, s.lambdaAt? x pc ix σ = some y := by
  obtain ⟨c, one, h⟩ := Cond.lambdaSite_spec h
  exact ⟨(c, one), h⟩
theorem lam_tag {x : MethodName} {pc ix : Nat} {σ : Lambda.Shape} {c : ClassId} {one : Option Addr} (h : s.lambdaAt? x pc ix σ = some (c, one)) : ∃ k : Class, s.vm.classes[c]? = some k ∧ k.kind = .ordinary ∧ k.name = x.cls ++ "$$Lambda" := by
  obtain ⟨m, k, cf, i0, p0, l, hm, hk, -, -, -, -, hmade, -⟩ := State.lambdaAt?_spec h
  obtain ⟨k2, hk2, hn⟩ := className_of_methodNamed hm
  cases hk.symm.trans hk2
  obtain ⟨dk, k3, ok, tk, file, cf2, object, iface, t, lay, methods, tgt, found, hd, hk3, -, -, -, -, -, -, -, -, -, -, -, ⟨r1, r2, -⟩, -⟩ := Lambda.isMade_spec hmade
  cases hk.symm.trans hd
  exact ⟨k3, hk3, r2, by rw [r1, hn]⟩
theorem lam_one {x : MethodName} {pc ix : Nat} {σ : Lambda.Shape} {c : ClassId} {one : Option Addr} (h : s.lambdaAt? x pc ix σ = some (c, one)) (hσ : σ.captured = []) : ∃ a cell, one = some a ∧ s.heap[a]? = some cell ∧ cell.cls = c ∧ cell.vm = .none ∧ cell.slots = #[] := by
  obtain ⟨m, k, cf, i0, p0, l, hm, hk, -, -, -, -, -, -, h9⟩ := State.lambdaAt?_spec h
  rcases h9 with ⟨a, cell, -, h1, -, h2⟩ | ⟨-, -, h1⟩
  · exact ⟨a, cell, h1, h2⟩
  · exact absurd hσ h1
set_option maxHeartbeats 1000000 in
theorem st_lam (hgv : (Jvm.Cond.and given_1 narrow_1).before args s = true) : ∃ (lm : Nat → ClassId) (one : Nat → Option Addr), s.lambdaAt? yX7_running 1 264 sg80 = some (lm 80, one 80) ∧ s.lambdaAt? yX7_hastening 10 267 sg81 = some (lm 81, one 81) ∧ s.lambdaAt? yX7_turning 1 270 sg82 = some (lm 82, one 82) ∧ s.lambdaAt? yX7_atCell 28 271 sg83 = some (lm 83, one 83) ∧ s.lambdaAt? yX7_atCell 174 277 sg84 = some (lm 84, one 84) ∧ s.lambdaAt? yX7_atCell 184 278 sg85 = some (lm 85, one 85) ∧ s.lambdaAt? yX7_atCell 194 279 sg86 = some (lm 86, one 86) ∧ s.lambdaAt? yX7_atCell 204 280 sg87 = some (lm 87, one 87) ∧ s.lambdaAt? yX1_run 14 460 sg88 = some (lm 88, one 88) ∧ s.lambdaAt? yX1_setFence 9 467 sg89 = some (lm 89, one 89) ∧ s.lambdaAt? yX1_dropFence 9 468 sg90 = some (lm 90, one 90) ∧ s.lambdaAt? yX1_pave 9 469 sg91 = some (lm 91, one 91) ∧ s.lambdaAt? yX1_sow 9 470 sg92 = some (lm 92, one 92) ∧ s.lambdaAt? yX1_setHaste 21 471 sg93 = some (lm 93, one 93) ∧ s.lambdaAt? yX1_turnRound 8 474 sg94 = some (lm 94, one 94) := by
  obtain ⟨⟨a0, o0⟩, h0⟩ := site_of (s := s) (x := yX7_running) (pc := 1) (ix := 264) (σ := sg80) (flat_of_before _ hgv siteWord_1_1 (by decide +kernel))
  obtain ⟨⟨a1, o1⟩, h1⟩ := site_of (s := s) (x := yX7_hastening) (pc := 10) (ix := 267) (σ := sg81) (flat_of_before _ hgv siteWord_1_2 (by decide +kernel))
  obtain ⟨⟨a2, o2⟩, h2⟩ := site_of (s := s) (x := yX7_turning) (pc := 1) (ix := 270) (σ := sg82) (flat_of_before _ hgv siteWord_1_3 (by decide +kernel))
  obtain ⟨⟨a3, o3⟩, h3⟩ := site_of (s := s) (x := yX7_atCell) (pc := 28) (ix := 271) (σ := sg83) (flat_of_before _ hgv siteWord_1_4 (by decide +kernel))
  obtain ⟨⟨a4, o4⟩, h4⟩ := site_of (s := s) (x := yX7_atCell) (pc := 174) (ix := 277) (σ := sg84) (flat_of_before _ hgv siteWord_1_5 (by decide +kernel))
  obtain ⟨⟨a5, o5⟩, h5⟩ := site_of (s := s) (x := yX7_atCell) (pc := 184) (ix := 278) (σ := sg85) (flat_of_before _ hgv siteWord_1_6 (by decide +kernel))
  obtain ⟨⟨a6, o6⟩, h6⟩ := site_of (s := s) (x := yX7_atCell) (pc := 194) (ix := 279) (σ := sg86) (flat_of_before _ hgv siteWord_1_7 (by decide +kernel))
  obtain ⟨⟨a7, o7⟩, h7⟩ := site_of (s := s) (x := yX7_atCell) (pc := 204) (ix := 280) (σ := sg87) (flat_of_before _ hgv siteWord_1_8 (by decide +kernel))
  obtain ⟨⟨a8, o8⟩, h8⟩ := site_of (s := s) (x := yX1_run) (pc := 14) (ix := 460) (σ := sg88) (flat_of_before _ hgv siteWord_1_9 (by decide +kernel))
  obtain ⟨⟨a9, o9⟩, h9⟩ := site_of (s := s) (x := yX1_setFence) (pc := 9) (ix := 467) (σ := sg89) (flat_of_before _ hgv siteWord_1_10 (by decide +kernel))
  obtain ⟨⟨a10, o10⟩, h10⟩ := site_of (s := s) (x := yX1_dropFence) (pc := 9) (ix := 468) (σ := sg90) (flat_of_before _ hgv siteWord_1_11 (by decide +kernel))
  obtain ⟨⟨a11, o11⟩, h11⟩ := site_of (s := s) (x := yX1_pave) (pc := 9) (ix := 469) (σ := sg91) (flat_of_before _ hgv siteWord_1_12 (by decide +kernel))
  obtain ⟨⟨a12, o12⟩, h12⟩ := site_of (s := s) (x := yX1_sow) (pc := 9) (ix := 470) (σ := sg92) (flat_of_before _ hgv siteWord_1_13 (by decide +kernel))
  obtain ⟨⟨a13, o13⟩, h13⟩ := site_of (s := s) (x := yX1_setHaste) (pc := 21) (ix := 471) (σ := sg93) (flat_of_before _ hgv siteWord_1_14 (by decide +kernel))
  obtain ⟨⟨a14, o14⟩, h14⟩ := site_of (s := s) (x := yX1_turnRound) (pc := 8) (ix := 474) (σ := sg94) (flat_of_before _ hgv siteWord_1_15 (by decide +kernel))
  exact ⟨fun k => match k with | 80 => a0 | 81 => a1 | 82 => a2 | 83 => a3 | 84 => a4 | 85 => a5 | 86 => a6 | 87 => a7 | 88 => a8 | 89 => a9 | 90 => a10 | 91 => a11 | 92 => a12 | 93 => a13 | 94 => a14 | _ => a0, fun k => match k with | 80 => o0 | 81 => o1 | 82 => o2 | 83 => o3 | 84 => o4 | 85 => o5 | 86 => o6 | 87 => o7 | 88 => o8 | 89 => o9 | 90 => o10 | 91 => o11 | 92 => o12 | 93 => o13 | 94 => o14 | _ => o0, h0, h1, h2, h3, h4, h5, h6, h7, h8, h9, h10, h11, h12, h13, h14⟩
end
