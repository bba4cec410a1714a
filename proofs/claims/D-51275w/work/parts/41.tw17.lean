/-! THE REFERENCE, 17: public questions, 4 -/
set_option maxRecDepth 100000
theorem when_n {σ : Rw} {c : Nat} (h : ¬ σ (153 + 5 * c + 0) = 0) : whenA σ c = -1 := if_neg h
theorem when_s {σ : Rw} {c n : Nat} (h : σ (153 + 5 * c + 0) = 0) (hf : firstB (fun n => decide (bare (daysR σ n) c)) n = none) (hb : decide (bare (daysR σ n) c) = true) (hn : n < 101) : whenA σ c = nI n := by
  unfold whenA
  rw [if_pos h, firstB_some hf hb 101 hn, oI_some]
theorem when_f {σ : Rw} {c : Nat} (h : σ (153 + 5 * c + 0) = 0) (hf : firstB (fun n => decide (bare (daysR σ n) c)) 101 = none) : whenA σ c = -1 := by
  unfold whenA
  rw [if_pos h, hf, oI_none]
set_option maxHeartbeats 4000000 in
theorem m_areDays {g : GZ} {A : HA} {x : Int32} : Ct g wI yX6_areDays (.code yX6_areDays cX6_areDays 1 (Option.some Jvm.ClassFile.FieldType.boolean)) 2 0 0 [.int x] (A) (fun u A' => u = bI (inZ x 0 60) ∧ A' = A) fw_no := by
  refine Ct.of [some (.int x)] (by decide) rfl rfl fun z C hx hnm E => ?_
  refine r_iload_0 (pc := 0) C dX6_areDays_0 ?_
  refine r_i2l (pc := 1) C dX6_areDays_1 ?_
  refine r_lconst (pc := 2) (v := 0) C dX6_areDays_2 (by decide) ?_
  refine r_ldc2 (pc := 3) C q2826 dX6_areDays_3 ?_
  refine r_S3io (pc := 6) C (m_inZ (p := 0) (q := 60) (by decide) (by decide)) sl_X6_68 (by decide) (Nat.le_refl _) (Nat.le_refl _) (Nat.le_of_ble_eq_true rfl) rfl dX6_areDays_6 (fun u1 A1 hc1 => ?_)
  refine r_top hc1.1 ?_
  refine r_eqA hc1.2 ?_
  clear hc1 A1 u1
  refine r_iret (pc := 9) C E (nar_b _) (Nat.le_refl _) (Nat.le_refl _) dX6_areDays_9 ?_
  exact ⟨rfl, rfl⟩
set_option maxHeartbeats 4000000 in
theorem m_ifOpen {g : GZ} {A : HA} {t : Nat} {σ κ π τ : Nat → Int32} (hT : Tw A t) {x : Int32} (hW : RowW σ) : Ct g wI yX6_ifOpen (.code yX6_ifOpen cX6_ifOpen 2 (Option.some Jvm.ClassFile.FieldType.int)) 6 0 0 [.ref t, .int x] (S5 A t σ κ π τ) (fun u A' => QP A t σ τ (qOne (inW σ x) (nI (costR σ (nt x) 0) - nI (costR σ (nt x) 1))) u A') fw_no := by
  refine Ct.of [some (.ref t), some (.int x)] (by decide) rfl rfl fun z C hx hnm E => ?_
  have hS := hW.s
  have hc80 := hS.c80
  have k6 := hW.k6
  have g6 := hW.g6
  have hc80 := hS.c80
  have hw10 := hS.w10
  have hh8 := hS.h8
  have hw3 := hS.w3
  refine r_aload_0 (pc := 0) C dX6_ifOpen_0 ?_
  refine r_aload_0 (pc := 1) C dX6_ifOpen_1 ?_
  refine r_iload_1 (pc := 2) C dX6_ifOpen_2 ?_
  refine r_V1io (pc := 3) C (m_isWalker (by exact hT) (S5_1 _ _ _ _ _ _) hW.k k6) vl_X6_413 (tw_g hT) (by decide) (Nat.le_refl _) (Nat.le_refl _) (Nat.le_of_ble_eq_true rfl) rfl dX6_ifOpen_3 (fun u1 A1 hc1 => ?_)
  refine r_top hc1.1 ?_
  refine r_eqA hc1.2 ?_
  clear hc1 A1 u1
  refine r_V1io (pc := 6) C (m_passes (by exact hT)) vl_X6_186 (tw_g hT) (by decide) (Nat.le_refl _) (Nat.le_refl _) (Nat.le_of_ble_eq_true rfl) rfl dX6_ifOpen_6 (fun u2 A2 hc2 => ?_)
  refine r_top hc2.1 ?_
  refine r_eqA (hc2.2.trans (by rw [S5_0, S5_w0])) ?_
  clear hc2 A2 u2
  refine r_if_eq (pc := 9) (tgt := 28) C dX6_ifOpen_9 (by decide) (fun b9 => ?_) (fun b9 => ?_)
  · skip
    have b9 := bI_0.mp b9
    refine r_iconst (pc := 28) C dX6_ifOpen_28 ci_0 ?_
    refine r_iret (pc := 29) C E rfl (Nat.le_refl _) (Nat.le_refl _) dX6_ifOpen_29 ?_
    first
      | exact QP.no (by assumption) (Qo.o rfl)
      | exact QP.no2 (by assumption) (Qo.o rfl)
      | exact QP.one b99 (by rw [nt_n (by omega)]) (Qo.o rfl)
  · skip
    have b9 := bI_n.mp b9
    have b99 := b9
    obtain ⟨k, hk, rfl⟩ := inZ_of b9 (by omega)
    have hcf := gC_lt hS (hW.G (hW.K hk).1.2)
    refine r_aload_0 (pc := 12) C dX6_ifOpen_12 ?_
    refine r_iload_1 (pc := 13) C dX6_ifOpen_13 ?_
    refine r_iconst (pc := 14) C dX6_ifOpen_14 ci_0 ?_
    refine r_V2io (pc := 15) C (m_laysCosts  (by exact hT) (S5_1 _ _ _ _ _ _) hW hk (by omega)) vl_X6_124 (tw_g hT) (by decide) (Nat.le_refl _) (Nat.le_refl _) (Nat.le_of_ble_eq_true rfl) rfl dX6_ifOpen_15 (fun u3 A3 hc3 => ?_)
    obtain ⟨fL, κL, eA, hκ, hSol, eu⟩ := hc3
    refine r_top eu ?_
    refine r_eqA (eA.trans (S5_w6 _ _ _ _ _ _ _)) ?_
    have h0m := dist_m hW hSol hcf (fun j hj => (hκ j hj).2)
    refine r_top h0m.1 ?_
    have h0m := h0m.2
    clear eu eA A3 u3 hSol hκ
    refine r_aload_0 (pc := 18) C dX6_ifOpen_18 ?_
    refine r_iload_1 (pc := 19) C dX6_ifOpen_19 ?_
    refine r_iconst (pc := 20) C dX6_ifOpen_20 ci_1 ?_
    refine r_V2io (pc := 21) C (m_laysCosts  (by exact hT) (S5_1 _ _ _ _ _ _) hW hk (by omega)) vl_X6_124 (tw_g hT) (by decide) (Nat.le_refl _) (Nat.le_refl _) (Nat.le_of_ble_eq_true rfl) rfl dX6_ifOpen_21 (fun u4 A4 hc4 => ?_)
    obtain ⟨fL, κL, eA, hκ, hSol, eu⟩ := hc4
    refine r_top eu ?_
    refine r_eqA (eA.trans (S5_w6 _ _ _ _ _ _ _)) ?_
    have h1m := dist_m hW hSol hcf (fun j hj => (hκ j hj).2)
    refine r_top h1m.1 ?_
    have h1m := h1m.2
    clear eu eA A4 u4 hSol hκ
    refine r_isub (pc := 24) C dX6_ifOpen_24 ?_
    refine r_goto (pc := 25) (tgt := 29) C dX6_ifOpen_25 (by decide) ?_
    refine r_iret (pc := 29) C E rfl (Nat.le_refl _) (Nat.le_refl _) dX6_ifOpen_29 ?_
    first
      | exact QP.no (by assumption) (Qo.o rfl)
      | exact QP.no2 (by assumption) (Qo.o rfl)
      | exact QP.one b99 (by rw [nt_n (by omega)]) (Qo.o rfl)
set_option maxHeartbeats 4000000 in
theorem m_grassIn {g : GZ} {A : HA} {t : Nat} {σ κ π τ : Nat → Int32} (hT : Tw A t) {x y w : Int32} (hW : RowW σ) (hy : ways σ)(hd9 : rD σ ≤ 999) : Ct g wI yX6_grassIn (.code yX6_grassIn cX6_grassIn 4 (Option.some Jvm.ClassFile.FieldType.int)) 10 0 0 [.ref t, .int x, .int y, .int w] (S5 A t σ κ π τ) (fun u A' => QP A t σ τ (qTwo (inC2 σ x y) (inZ w 0 60) (cellA (daysR σ (nt w)) (cat σ x y) 1)) u A') fw_no := by
  refine Ct.of [some (.ref t), some (.int x), some (.int y), some (.int w)] (by decide) rfl rfl fun z C hx hnm E => ?_
  have hS := hW.s
  have hc80 := hS.c80
  have k6 := hW.k6
  have g6 := hW.g6
  have hc80 := hS.c80
  have hw10 := hS.w10
  have hh8 := hS.h8
  have hw3 := hS.w3
  refine r_aload_0 (pc := 0) C dX6_grassIn_0 ?_
  refine r_aload_0 (pc := 1) C dX6_grassIn_1 ?_
  refine r_iload_1 (pc := 2) C dX6_grassIn_2 ?_
  refine r_iload_2 (pc := 3) C dX6_grassIn_3 ?_
  refine r_V2io (pc := 4) C (m_isCell (by exact hT) (S5_1 _ _ _ _ _ _) hS) vl_X6_89 (tw_g hT) (by decide) (Nat.le_refl _) (Nat.le_refl _) (Nat.le_of_ble_eq_true rfl) rfl dX6_grassIn_4 (fun u1 A1 hc1 => ?_)
  refine r_top hc1.1 ?_
  refine r_eqA hc1.2 ?_
  clear hc1 A1 u1
  refine r_iload_3 (pc := 7) C dX6_grassIn_7 ?_
  refine r_S1io (pc := 8) C m_areDays sl_X6_450 (by decide) (Nat.le_refl _) (Nat.le_refl _) (Nat.le_of_ble_eq_true rfl) rfl dX6_grassIn_8 (fun u2 A2 hc2 => ?_)
  refine r_top hc2.1 ?_
  refine r_eqA hc2.2 ?_
  clear hc2 A2 u2
  refine r_V2io (pc := 11) C (m_passesBoth (by exact hT)) vl_X6_398 (tw_g hT) (by decide) (Nat.le_refl _) (Nat.le_refl _) (Nat.le_of_ble_eq_true rfl) rfl dX6_grassIn_11 (fun u3 A3 hc3 => ?_)
  refine r_top hc3.1 ?_
  refine r_eqA (hc3.2.trans (by rw [S5_0, S5_w0])) ?_
  clear hc3 A3 u3
  refine r_if_ne (pc := 14) (tgt := 19) C dX6_grassIn_14 (by decide) (fun b14 => ?_) (fun b14 => ?_)
  · skip
    have b14 := bI_n.mp b14
    have b99 := b14
    obtain ⟨a, ha, rfl⟩ := inZ_of b14.1.1 (by omega)
    obtain ⟨b, hb, rfl⟩ := inZ_of b14.1.2 (by omega)
    obtain ⟨n, hn, rfl⟩ := inZ_of2 (n := 60) rfl b14.2 (by omega)
    have hcl := at_lt hS ha hb
    have hcat := cat_n (σ := σ) (show a < 1000 by omega) (show b < 1000 by omega)
    obtain ⟨hSm, hMv, hDd⟩ := daysR_keep hW hy n (by omega)
    have hV := hW.same hSm hMv
    refine r_aload_0 (pc := 19) C dX6_grassIn_19 ?_
    refine r_V0vo (pc := 20) C (m_tries (by exact hT)) vl_X6_453 (tw_g hT) (by decide) (Nat.le_refl _) (Nat.le_refl _) (Nat.le_of_ble_eq_true rfl) rfl dX6_grassIn_20 (fun u4 A4 hc4 => ?_)
    refine r_eqA hc4 ?_
    clear hc4 A4 u4
    refine r_aload_0 (pc := 23) C dX6_grassIn_23 ?_
    refine r_iload_3 (pc := 24) C dX6_grassIn_24 ?_
    refine r_V1vo (pc := 25) C (m_goBy (by exact hT) hW hy (by omega)) vl_X6_170 (tw_g hT) (by decide) (Nat.le_refl _) (Nat.le_refl _) (Nat.le_of_ble_eq_true rfl) rfl dX6_grassIn_25 (fun u5 A5 hc5 => ?_)
    obtain ⟨κL, πL, mL, eA⟩ := hc5
    refine r_eqA (eA.trans (by first | rw [bx_upd] | rfl)) ?_
    clear eA A5 u5
    refine r_aload_0 (pc := 28) C dX6_grassIn_28 ?_
    refine r_aload_0 (pc := 29) C dX6_grassIn_29 ?_
    refine r_aload_0 (pc := 30) C dX6_grassIn_30 ?_
    refine r_iload_1 (pc := 31) C dX6_grassIn_31 ?_
    refine r_iload_2 (pc := 32) C dX6_grassIn_32 ?_
    refine r_V2io (pc := 33) C (m_at (by exact hT) (S5_1 _ _ _ _ _ _) hV.s) vl_X6_83 (tw_g hT) (by decide) (Nat.le_refl _) (Nat.le_refl _) (Nat.le_of_ble_eq_true rfl) rfl dX6_grassIn_33 (fun u6 A6 hc6 => ?_)
    refine r_top (hc6.1.trans (by rw [hSm.w])) ?_
    refine r_eqA hc6.2 ?_
    clear hc6 A6 u6
    refine r_iconst (pc := 36) C dX6_grassIn_36 ci_1 ?_
    refine r_V2io (pc := 37) C (m_cellNow (σ := daysR σ n) (by exact hT) hV (ways_all hW hV hSm hy) (by omega) (by omega)) vl_X6_402 (tw_g hT) (by decide) (Nat.le_refl _) (Nat.le_refl _) (Nat.le_of_ble_eq_true rfl) rfl dX6_grassIn_37 (fun u7 A7 hc7 => ?_)
    obtain ⟨⟨κL, πL, mL, eA⟩, eu⟩ := hc7
    refine r_top eu ?_
    refine r_eqA (eA.trans (by first | rw [bx_upd] | rfl)) ?_
    clear eu eA A7 u7
    refine r_V1io (pc := 40) C (m_laidBack (by exact hT)) vl_X6_456 (tw_g hT) (by decide) (Nat.le_refl _) (Nat.le_refl _) (Nat.le_of_ble_eq_true rfl) rfl dX6_grassIn_40 (fun u8 A8 hc8 => ?_)
    refine r_top hc8.1 ?_
    refine r_eqA (hc8.2.trans (by rw [sI_s, cpy_back (fun j hj => hSm j (by unfold Stat; omega))])) ?_
    clear hc8 A8 u8
    refine r_iret (pc := 43) C E rfl (Nat.le_refl _) (Nat.le_refl _) dX6_grassIn_43 ?_
    first
      | exact QP.no (by assumption) (Qo.o rfl)
      | exact QP.no2 (by assumption) (Qo.o rfl)
      | exact QP.two b99 (by rw [hcat, nt_n (by omega)]) ⟨_, _, _, _, rfl⟩
  · skip
    have b14 := bI_0.mp b14
    refine r_iconst (pc := 17) C dX6_grassIn_17 ci_0 ?_
    refine r_iret (pc := 18) C E rfl (Nat.le_refl _) (Nat.le_refl _) dX6_grassIn_18 ?_
    first
      | exact QP.no (by assumption) (Qo.o rfl)
      | exact QP.no2 (by assumption) (Qo.o rfl)
      | exact QP.two b99 (by rw [hcat, nt_n (by omega)]) ⟨_, _, _, _, rfl⟩
set_option maxHeartbeats 4000000 in
theorem m_bareIn {g : GZ} {A : HA} {t : Nat} {σ κ π τ : Nat → Int32} (hT : Tw A t) {w : Int32} (hW : RowW σ) (hy : ways σ)(hd9 : rD σ ≤ 999) : Ct g wI yX6_bareIn (.code yX6_bareIn cX6_bareIn 2 (Option.some Jvm.ClassFile.FieldType.int)) 10 0 0 [.ref t, .int w] (S5 A t σ κ π τ) (fun u A' => QP A t σ τ (qOne (inZ w 0 60) (nI (bareR (daysR σ (nt w))))) u A') fw_no := by
  refine Ct.of [some (.ref t), some (.int w)] (by decide) rfl rfl fun z C hx hnm E => ?_
  have hS := hW.s
  have hc80 := hS.c80
  have k6 := hW.k6
  have g6 := hW.g6
  have hc80 := hS.c80
  have hw10 := hS.w10
  have hh8 := hS.h8
  have hw3 := hS.w3
  refine r_aload_0 (pc := 0) C dX6_bareIn_0 ?_
  refine r_iload_1 (pc := 1) C dX6_bareIn_1 ?_
  refine r_S1io (pc := 2) C m_areDays sl_X6_450 (by decide) (Nat.le_refl _) (Nat.le_refl _) (Nat.le_of_ble_eq_true rfl) rfl dX6_bareIn_2 (fun u1 A1 hc1 => ?_)
  refine r_top hc1.1 ?_
  refine r_eqA hc1.2 ?_
  clear hc1 A1 u1
  refine r_V1io (pc := 5) C (m_passes (by exact hT)) vl_X6_186 (tw_g hT) (by decide) (Nat.le_refl _) (Nat.le_refl _) (Nat.le_of_ble_eq_true rfl) rfl dX6_bareIn_5 (fun u2 A2 hc2 => ?_)
  refine r_top hc2.1 ?_
  refine r_eqA (hc2.2.trans (by rw [S5_0, S5_w0])) ?_
  clear hc2 A2 u2
  refine r_if_ne (pc := 8) (tgt := 13) C dX6_bareIn_8 (by decide) (fun b8 => ?_) (fun b8 => ?_)
  · skip
    have b8 := bI_n.mp b8
    have b99 := b8
    obtain ⟨n, hn, rfl⟩ := inZ_of2 (n := 60) rfl b8 (by omega)
    obtain ⟨hSm, hMv, hDd⟩ := daysR_keep hW hy n (by omega)
    have hV := hW.same hSm hMv
    refine r_aload_0 (pc := 13) C dX6_bareIn_13 ?_
    refine r_V0vo (pc := 14) C (m_tries (by exact hT)) vl_X6_453 (tw_g hT) (by decide) (Nat.le_refl _) (Nat.le_refl _) (Nat.le_of_ble_eq_true rfl) rfl dX6_bareIn_14 (fun u3 A3 hc3 => ?_)
    refine r_eqA hc3 ?_
    clear hc3 A3 u3
    refine r_aload_0 (pc := 17) C dX6_bareIn_17 ?_
    refine r_iload_1 (pc := 18) C dX6_bareIn_18 ?_
    refine r_V1vo (pc := 19) C (m_goBy (by exact hT) hW hy (by omega)) vl_X6_170 (tw_g hT) (by decide) (Nat.le_refl _) (Nat.le_refl _) (Nat.le_of_ble_eq_true rfl) rfl dX6_bareIn_19 (fun u4 A4 hc4 => ?_)
    obtain ⟨κL, πL, mL, eA⟩ := hc4
    refine r_eqA (eA.trans (by first | rw [bx_upd] | rfl)) ?_
    clear eA A4 u4
    refine r_aload_0 (pc := 22) C dX6_bareIn_22 ?_
    refine r_aload_0 (pc := 23) C dX6_bareIn_23 ?_
    refine r_V0io (pc := 24) C (m_bareCells (by exact hT) hV.s) vl_X6_384 (tw_g hT) (by decide) (Nat.le_refl _) (Nat.le_refl _) (Nat.le_of_ble_eq_true rfl) rfl dX6_bareIn_24 (fun u5 A5 hc5 => ?_)
    refine r_top hc5.1 ?_
    refine r_eqA hc5.2 ?_
    clear hc5 A5 u5
    refine r_V1io (pc := 27) C (m_laidBack (by exact hT)) vl_X6_456 (tw_g hT) (by decide) (Nat.le_refl _) (Nat.le_refl _) (Nat.le_of_ble_eq_true rfl) rfl dX6_bareIn_27 (fun u6 A6 hc6 => ?_)
    refine r_top hc6.1 ?_
    refine r_eqA (hc6.2.trans (by rw [sI_s, cpy_back (fun j hj => hSm j (by unfold Stat; omega))])) ?_
    clear hc6 A6 u6
    refine r_iret (pc := 30) C E rfl (Nat.le_refl _) (Nat.le_refl _) dX6_bareIn_30 ?_
    first
      | exact QP.no (by assumption) (Qo.o rfl)
      | exact QP.no2 (by assumption) (Qo.o rfl)
      | exact QP.one b99 (by rw [nt_n (by omega)]) ⟨_, _, _, _, rfl⟩
  · skip
    have b8 := bI_0.mp b8
    refine r_iconst (pc := 11) C dX6_bareIn_11 ci_0 ?_
    refine r_iret (pc := 12) C E rfl (Nat.le_refl _) (Nat.le_refl _) dX6_bareIn_12 ?_
    first
      | exact QP.no (by assumption) (Qo.o rfl)
      | exact QP.no2 (by assumption) (Qo.o rfl)
      | exact QP.one b99 (by rw [nt_n (by omega)]) ⟨_, _, _, _, rfl⟩
set_option maxHeartbeats 4000000 in
theorem m_whenBare {g : GZ} {A : HA} {t : Nat} {σ κ π τ : Nat → Int32} (hT : Tw A t) {x y : Int32} (hW : RowW σ) (hy : ways σ)(hd9 : rD σ ≤ 999) : Ct g wI yX6_whenBare (.code yX6_whenBare cX6_whenBare 5 (Option.some Jvm.ClassFile.FieldType.int)) 9 0 0 [.ref t, .int x, .int y] (S5 A t σ κ π τ) (fun u A' => QP A t σ τ (qOne (inC2 σ x y) (whenA σ (cat σ x y))) u A') fw_no := by
  refine Ct.of [some (.ref t), some (.int x), some (.int y), none, none] (by decide) rfl rfl fun z C hx hnm E => ?_
  have hS := hW.s
  have hc80 := hS.c80
  have k6 := hW.k6
  have g6 := hW.g6
  have hc80 := hS.c80
  have hw10 := hS.w10
  have hh8 := hS.h8
  have hw3 := hS.w3
  refine r_aload_0 (pc := 0) C dX6_whenBare_0 ?_
  refine r_aload_0 (pc := 1) C dX6_whenBare_1 ?_
  refine r_iload_1 (pc := 2) C dX6_whenBare_2 ?_
  refine r_iload_2 (pc := 3) C dX6_whenBare_3 ?_
  refine r_V2io (pc := 4) C (m_isCell (by exact hT) (S5_1 _ _ _ _ _ _) hS) vl_X6_89 (tw_g hT) (by decide) (Nat.le_refl _) (Nat.le_refl _) (Nat.le_of_ble_eq_true rfl) rfl dX6_whenBare_4 (fun u1 A1 hc1 => ?_)
  refine r_top hc1.1 ?_
  refine r_eqA hc1.2 ?_
  clear hc1 A1 u1
  refine r_V1io (pc := 7) C (m_passes (by exact hT)) vl_X6_186 (tw_g hT) (by decide) (Nat.le_refl _) (Nat.le_refl _) (Nat.le_of_ble_eq_true rfl) rfl dX6_whenBare_7 (fun u2 A2 hc2 => ?_)
  refine r_top hc2.1 ?_
  refine r_eqA (hc2.2.trans (by rw [S5_0, S5_w0])) ?_
  clear hc2 A2 u2
  refine r_if_ne (pc := 10) (tgt := 15) C dX6_whenBare_10 (by decide) (fun b10 => ?_) (fun b10 => ?_)
  · skip
    have b10 := bI_n.mp b10
    have b99 := b10
    obtain ⟨a, ha, rfl⟩ := inZ_of b10.1 (by omega)
    obtain ⟨b, hb, rfl⟩ := inZ_of b10.2 (by omega)
    have hcl := at_lt hS ha hb
    have hcat := cat_n (σ := σ) (show a < 1000 by omega) (show b < 1000 by omega)
    refine r_aload_0 (pc := 15) C dX6_whenBare_15 ?_
    refine r_iload_1 (pc := 16) C dX6_whenBare_16 ?_
    refine r_iload_2 (pc := 17) C dX6_whenBare_17 ?_
    refine r_V2io (pc := 18) C (m_at (by exact hT) (S5_1 _ _ _ _ _ _) hS) vl_X6_83 (tw_g hT) (by decide) (Nat.le_refl _) (Nat.le_refl _) (Nat.le_of_ble_eq_true rfl) rfl dX6_whenBare_18 (fun u3 A3 hc3 => ?_)
    refine r_top hc3.1 ?_
    refine r_eqA hc3.2 ?_
    clear hc3 A3 u3
    refine r_istore_3 (pc := 21) C dX6_whenBare_21 rfl ?_
    refine r_aload_0 (pc := 22) C dX6_whenBare_22 ?_
    refine r_iload_3 (pc := 23) C dX6_whenBare_23 ?_
    refine r_V1io (pc := 24) C (m_isGrass (by exact hT) (S5_1 _ _ _ _ _ _)) vl_X6_93 (tw_g hT) (by decide) (Nat.le_refl _) (Nat.le_refl _) (Nat.le_of_ble_eq_true rfl) rfl dX6_whenBare_24 (fun u4 A4 hc4 => ?_)
    refine r_top hc4.1 ?_
    refine r_eqA hc4.2 ?_
    clear hc4 A4 u4
    refine r_if_ne (pc := 27) (tgt := 32) C dX6_whenBare_27 (by decide) (fun b27 => ?_) (fun b27 => ?_)
    · skip
      have b27 := bI_n.mp b27
      refine r_aload_0 (pc := 32) C dX6_whenBare_32 ?_
      refine r_V0vo (pc := 33) C (m_tries (by exact hT)) vl_X6_453 (tw_g hT) (by decide) (Nat.le_refl _) (Nat.le_refl _) (Nat.le_of_ble_eq_true rfl) rfl dX6_whenBare_33 (fun u5 A5 hc5 => ?_)
      refine r_eqA hc5 ?_
      clear hc5 A5 u5
      refine r_iconst (pc := 36) C dX6_whenBare_36 ci_0 ?_
      refine r_istore_4 (pc := 37) C dX6_whenBare_37 rfl ?_
      have lp39_6 : ∀ (fu : Nat) (n : Nat) (κ1 π1 : Nat → Int32) (m1 : Int32) (hn : n ≤ 101) (hf : firstB (fun n => decide (bare (daysR σ n) (b * rW σ + a))) n = none), 101 - n < fu → wa g z 0 0 (S5 (A.sI (t + 4) (va_cpy σ (A.I (t + 4)) 0 0 553)) t (daysR σ n) κ1 π1 (upd (upd τ 6 (bI (¬ inC2 σ (nI a) (nI b)))) 10 m1)) 39 [some (.ref t), some (.int (nI (a))), some (.int (nI (b))), some (.int (nI (b * rW σ + a))), some (.int (nI (n)))] [] := by
        intro fu
        induction fu with
        | zero => intro n  κ1 π1  m1  hn hf hm39; exact absurd hm39 (Nat.not_lt_zero _)
        | succ fu ih39 =>
          intro n  κ1 π1  m1  hn hf hm39
          obtain ⟨hSm, hMv, hDd⟩ := daysR_keep hW hy n (by omega)
          have hV := hW.same hSm hMv
          refine r_iload_4 (pc := 39) C dX6_whenBare_39 ?_
          refine r_bipush (pc := 41) C dX6_whenBare_41 cb_100 ?_
          refine r_icmp_gt (pc := 43) (tgt := 71) C dX6_whenBare_43 (by decide) (fun b43 => ?_) (fun b43 => ?_)
          · skip
            have b43 := (nI_lt2 (by omega) (by omega)).mp b43
            have e9 : n = 101 := by omega
            subst e9
            refine r_aload_0 (pc := 71) C dX6_whenBare_71 ?_
            refine r_iconst (pc := 72) C dX6_whenBare_72 ci_m1 ?_
            refine r_V1io (pc := 73) C (m_laidBack (by exact hT)) vl_X6_456 (tw_g hT) (by decide) (Nat.le_refl _) (Nat.le_refl _) (Nat.le_of_ble_eq_true rfl) rfl dX6_whenBare_73 (fun u7 A7 hc7 => ?_)
            refine r_top hc7.1 ?_
            refine r_eqA (hc7.2.trans (by rw [sI_s, cpy_back (fun j hj => hSm j (by unfold Stat; omega))])) ?_
            clear hc7 A7 u7
            refine r_iret (pc := 76) C E rfl (Nat.le_refl _) (Nat.le_refl _) dX6_whenBare_76 ?_
            exact QP.one b99 (by rw [hcat, when_f b27 hf]) ⟨_, _, _, _, rfl⟩
          · skip
            have b43 := (not_congr (nI_lt2 (by omega) (by omega))).mp b43
            refine r_aload_0 (pc := 46) C dX6_whenBare_46 ?_
            refine r_iload_3 (pc := 47) C dX6_whenBare_47 ?_
            refine r_V1io (pc := 48) C (m_isBare (by exact hT) (by first | assumption | omega)) vl_X6_379 (tw_g hT) (by decide) (Nat.le_refl _) (Nat.le_refl _) (Nat.le_of_ble_eq_true rfl) rfl dX6_whenBare_48 (fun u8 A8 hc8 => ?_)
            refine r_top hc8.1 ?_
            refine r_eqA hc8.2 ?_
            clear hc8 A8 u8
            refine r_if_eq (pc := 51) (tgt := 61) C dX6_whenBare_51 (by decide) (fun b51 => ?_) (fun b51 => ?_)
            · skip
              have b51 := bI_0.mp b51
              refine r_aload_0 (pc := 61) C dX6_whenBare_61 ?_
              refine r_V0vo (pc := 62) C (m_dayOnce (by exact hT) hV (ways_all hW hV hSm hy) (by omega)) vl_X6_167 (tw_g hT) (by decide) (Nat.le_refl _) (Nat.le_refl _) (Nat.le_of_ble_eq_true rfl) rfl dX6_whenBare_62 (fun u9 A9 hc9 => ?_)
              obtain ⟨κL, πL, mL, eA⟩ := hc9
              refine r_eqA (eA.trans (by first | rw [bx_upd] | rfl)) ?_
              clear eA A9 u9
              refine r_iinc_4 (pc := 65) C dX6_whenBare_65 (nI_inc _) rfl ?_
              refine r_goto (pc := 68) (tgt := 39) C dX6_whenBare_68 (by decide) ?_
              exact ih39 (n + 1) _ _ _ (by omega) (firstB_none hf (by rw [decide_eq_true_iff]; exact b51)) (by omega)
            · skip
              have b51 := bI_n.mp b51
              refine r_aload_0 (pc := 54) C dX6_whenBare_54 ?_
              refine r_iload_4 (pc := 55) C dX6_whenBare_55 ?_
              refine r_V1io (pc := 57) C (m_laidBack (by exact hT)) vl_X6_456 (tw_g hT) (by decide) (Nat.le_refl _) (Nat.le_refl _) (Nat.le_of_ble_eq_true rfl) rfl dX6_whenBare_57 (fun u10 A10 hc10 => ?_)
              refine r_top hc10.1 ?_
              refine r_eqA (hc10.2.trans (by rw [sI_s, cpy_back (fun j hj => hSm j (by unfold Stat; omega))])) ?_
              clear hc10 A10 u10
              refine r_iret (pc := 60) C E rfl (Nat.le_refl _) (Nat.le_refl _) dX6_whenBare_60 ?_
              exact QP.one b99 (by rw [hcat, when_s b27 hf (by rw [decide_eq_true_iff]; exact b51) (by omega)]) ⟨_, _, _, _, rfl⟩
      rw [show S5 (A.sI (t + 4) (va_cpy σ (A.I (t + 4)) 0 0 553)) t σ κ π (upd τ 6 (bI (¬ inC2 σ (nI a) (nI b)))) = S5 (A.sI (t + 4) (va_cpy σ (A.I (t + 4)) 0 0 553)) t (daysR σ 0) κ π (upd (upd τ 6 (bI (¬ inC2 σ (nI a) (nI b)))) 10 ((upd τ 6 (bI (¬ inC2 σ (nI a) (nI b)))) 10)) by rw [upd_10]; rfl]
      exact lp39_6 _ 0 κ π ((upd τ 6 (bI (¬ inC2 σ (nI a) (nI b)))) 10) (by omega) rfl (Nat.lt_succ_self _)
    · skip
      have b27 := bI_0.mp b27
      refine r_iconst (pc := 30) C dX6_whenBare_30 ci_m1 ?_
      refine r_iret (pc := 31) C E rfl (Nat.le_refl _) (Nat.le_refl _) dX6_whenBare_31 ?_
      exact QP.one b99 (by rw [hcat, when_n b27]) (Qo.o rfl)
  · skip
    have b10 := bI_0.mp b10
    refine r_iconst (pc := 13) C dX6_whenBare_13 ci_0 ?_
    refine r_iret (pc := 14) C E rfl (Nat.le_refl _) (Nat.le_refl _) dX6_whenBare_14 ?_
    exact QP.no b10 (Qo.o rfl)
