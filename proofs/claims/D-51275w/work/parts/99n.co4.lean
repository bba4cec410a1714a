/-! THE COMPONENT, 8: what would be -/
set_option maxRecDepth 100000
/-- a copy's cells are new -/
theorem cp_old {A B : HA} {u : Nat} {d d' : Nat → Nat} {σ : Rw} (hz : Zo A) (h : Cp A B u d d' σ) : ∀ y, y < A.z → ¬ Ow B.G u y := by
  intro y hy ho
  obtain ⟨h1, h2⟩ := ho
  rw [(h.2.2.2.1.2 y hy).1] at h1 h2
  rw [h.1] at h1
  have := hz y hy
  omega
theorem cp_gw {A B D : HA} {u : Nat} {d d' : Nat → Nat} {σ τ : Rw} (hz : Zo A) (h : Cp A B u d d' σ) (hN : Nx B D u d' τ) : Gw A D Non := h.2.2.2.1.tr2 hN.2.2.gw (fun y hy q => cp_old hz h y hy q)
set_option maxHeartbeats 4000000 in
theorem c_behind {g : GZ} {A : HA} {c a : Nat} {d : Nat → Nat} {σ : Rw} (hc : (A.G c).1 = 1) (hn : A.R c 0 = some a) (hL : Ly A a d σ) (hv : Lv A.I a d σ) (hJ : RowJ σ) (hG : GdK g) (hDE : DeK g A) (hnam : ∀ k, k < rK σ → ∃ nm, A.R (d (30 + k)) 0 = some nm) (h999 : rD σ ≤ 999) {x : Int32} : Ct g wR yX1_behind (.code yX1_behind cX1_behind 2 (Option.some (Jvm.ClassFile.FieldType.object "LawnPaths$Lawn"))) 11 26 946 [.ref c, .int x] (A) (fun u A' => inZ x 0 60 ∧ (∃ d', Ly A' u d' (daysR σ (nt x)) ∧ Lv A'.I u d' (daysR σ (nt x))) ∧ Gw A A' Non) (fun q A' => ¬ inZ x 0 60 ∧ TX A A' Non 19 q) := by
  refine Ct.of [some (.ref c), some (.int x)] (by decide) rfl rfl fun z C hx hnm E => ?_
  have hW := hJ.w
  have hS := hW.s
  have hw3 := hS.w3
  have hw10 := hS.w10
  have hh8 := hS.h8
  have hc80 := hS.c80
  have k6 := hW.k6
  have g6 := hW.g6
  have hC : ∀ c, c < 80 → CelF σ c := fun c hc => (hJ.c hc).fe
  have d9 := hW.d9
  refine r_Zo fun hZo => ?_
  refine r_iload_1 (pc := 0) C dX1_behind_0 ?_
  refine r_i2l (pc := 1) C dX1_behind_1 ?_
  refine r_lconst (pc := 2) (v := 0) C dX1_behind_2 (by decide) ?_
  refine r_ldc2 (pc := 3) C q2104 dX1_behind_3 ?_
  refine r_S3io (pc := 6) C (c_inZ (p := 0) (q := 60) (by decide) (by decide)) sl_X1_114 (by decide) (by omega) (by omega) (Nat.le_of_ble_eq_true rfl) rfl dX1_behind_6 (fun u1 A1 hc1 => ?_)
  refine r_top hc1.1 ?_
  refine r_eqA hc1.2 ?_
  clear hc1 A1 u1
  refine r_S1vx (pc := 9) C (c_argument) sl_X1_118 (by decide) (by omega) (by omega) (Nat.le_of_ble_eq_true rfl) rfl dX1_behind_9 (fun q A9 hp hE => r_out C E (by rw [hx]; exact fun x h => nomatch h) hE.choose_spec (by omega) (by omega) (hp)) (fun u2 A2 hc2 => ?_)
  obtain ⟨hp2, eA2⟩ := hc2
  refine r_eqA eA2 ?_
  clear eA2 A2 u2
  have b99 : inZ x 0 60 := by assumption
  obtain ⟨k, hk, rfl⟩ := inZ_of2 (n := 60) rfl b99 (by omega)
  refine r_aload_0 (pc := 12) C dX1_behind_12 ?_
  refine r_getR (pc := 13) C fl_X1_24_1 (by exact hc) rfl (by exact hn) dX1_behind_13 ?_
  refine r_V0r (pc := 16) C (l_copy hL hv hW hC hDE hnam) vl_X1_187 (ly_g hL) (by decide) (by omega) (by omega) (Nat.le_of_ble_eq_true rfl) rfl dX1_behind_16 (fun u3 A3 hc3 => ?_)
  obtain ⟨d', hCp⟩ := hc3
  generalize A3 = B at hCp ⊢
  generalize u3 = q at hCp ⊢
  refine r_iload_1 (pc := 19) C dX1_behind_19 ?_
  refine r_V1ro (pc := 20) C (l_behind hCp.2.1 hCp.2.2.1 hJ hG (n := k) (by omega)) vl_X1_430 (ly_g hCp.2.1) (by decide) (by omega) (by omega) (Nat.le_of_ble_eq_true rfl) rfl dX1_behind_20 (fun u4 A4 hc4 => ?_)
  obtain ⟨hNb, eu4⟩ := hc4
  refine r_topR eu4 ?_
  clear eu4 u4
  refine r_aret (pc := 23) C E rfl (by omega) (by omega) dX1_behind_23 ?_
  exact ⟨b99, ⟨d', by rw [nt_n (by omega)]; exact ⟨hNb.1, hNb.2.1⟩⟩, cp_gw hZo hCp hNb⟩
set_option maxHeartbeats 4000000 in
theorem c_bareIn {g : GZ} {A : HA} {c a : Nat} {d : Nat → Nat} {σ : Rw} (hc : (A.G c).1 = 1) (hn : A.R c 0 = some a) (hL : Ly A a d σ) (hv : Lv A.I a d σ) (hJ : RowJ σ) (hG : GdK g) (hDE : DeK g A) (hnam : ∀ k, k < rK σ → ∃ nm, A.R (d (30 + k)) 0 = some nm) (h999 : rD σ ≤ 999) {x : Int32} : Ct g wI yX1_bareIn (.code yX1_bareIn cX1_bareIn 2 (Option.some Jvm.ClassFile.FieldType.int)) 12 26 946 [.ref c, .int x] (A) (fun u A' => inZ x 0 60 ∧ u = nI (bareR (daysR σ (nt x))) ∧ Gw A A' Non) (fun q A' => ¬ inZ x 0 60 ∧ TX A A' Non 19 q) := by
  refine Ct.of [some (.ref c), some (.int x)] (by decide) rfl rfl fun z C hx hnm E => ?_
  have hW := hJ.w
  have hS := hW.s
  have hw3 := hS.w3
  have hw10 := hS.w10
  have hh8 := hS.h8
  have hc80 := hS.c80
  have k6 := hW.k6
  have g6 := hW.g6
  have hC : ∀ c, c < 80 → CelF σ c := fun c hc => (hJ.c hc).fe
  have d9 := hW.d9
  refine r_aload_0 (pc := 0) C dX1_bareIn_0 ?_
  refine r_iload_1 (pc := 1) C dX1_bareIn_1 ?_
  refine r_V1rx (pc := 2) C (c_behind hc hn hL hv hJ hG hDE hnam h999) vl_X1_434 (by exact hc) (by decide) (by omega) (by omega) (Nat.le_of_ble_eq_true rfl) rfl dX1_bareIn_2 (fun q A9 hp hE => r_out C E (by rw [hx]; exact fun x h => nomatch h) hE.choose_spec (by omega) (by omega) (hp)) (fun u1 A1 hc1 => ?_)
  obtain ⟨hi1, ⟨d', hLq, hvq⟩, hGq⟩ := hc1
  generalize A1 = B at hLq hvq hGq ⊢
  generalize u1 = q at hLq hvq ⊢
  have b99 : inZ x 0 60 := by assumption
  have hJd := (days_J hJ (nt x) (by obtain ⟨k, hk, rfl⟩ := inZ_of2 (n := 60) rfl b99 (by omega); rw [nt_n (by omega)]; omega)).1
  refine r_V0io (pc := 5) C (l_bareAll hLq hvq hJd.w) vl_X1_230 (ly_g hLq) (by decide) (by omega) (by omega) (Nat.le_of_ble_eq_true rfl) rfl dX1_bareIn_5 (fun u2 A2 hc2 => ?_)
  refine r_top hc2.1 ?_
  refine r_eqA hc2.2 ?_
  clear hc2 A2 u2
  refine r_iret (pc := 8) C E rfl (by omega) (by omega) dX1_bareIn_8 ?_
  exact ⟨b99, rfl, hGq⟩
