/-! THE REFERENCE, 12: what is asked, inner methods, 2 -/
set_option maxRecDepth 100000
theorem fenB_t {σ : Rw} {w n : Nat} : ∀ {m}, n < m → fenced σ (wy σ w n) → fenB σ w m = true
  | 0, h, _ => absurd h (Nat.not_lt_zero _)
  | m + 1, h, q => by
    show (fenB σ w m || decide (fenced σ (wy σ w m))) = true
    by_cases e : n = m
    · subst e; rw [decide_eq_true q, Bool.or_true]
    · rw [fenB_t (show n < m by omega) q, Bool.true_or]
theorem fenB_f {σ : Rw} {w m : Nat} (h : fenB σ w m = false) (q : ¬ fenced σ (wy σ w m)) : fenB σ w (m + 1) = false := by
  show (fenB σ w m || decide (fenced σ (wy σ w m))) = false
  rw [h, decide_eq_false q]; rfl
theorem bI_tt {b : Bool} (h : b = true) : nI 1 = bI (b = true) := by rw [bI_t h, nI1]
theorem bI_ff {b : Bool} (h : b = false) : nI 0 = bI (b = true) := by rw [bI_f (by rw [h]; decide), nI0]
theorem low_le {σ : Rw} {c k : Nat} (h : lowR σ c = some k) : k < rK σ := by
  unfold lowR at h
  revert h
  generalize rK σ = n
  induction n with
  | zero => intro h; cases h
  | succ n ih =>
    intro h
    have h : (match firstB (onR σ c) n with | some k => some k | none => if onR σ c n then some n else none) = some k := h
    cases e : firstB (onR σ c) n with
    | some j => rw [e] at h; cases h; have := ih e; omega
    | none =>
      rw [e] at h
      have h : (if onR σ c n then some n else none) = some k := h
      split at h
      · cases h; omega
      · cases h
set_option maxHeartbeats 4000000 in
theorem m_walkersWith {g : GZ} {A : HA} {t : Nat} {σ κ π τ : Nat → Int32} (hT : Tw A t) {w r : Nat} (hW : RowW σ) (hw : w < 13) (hr : r < 1000) : Ct g wI yX6_walkersWith (.code yX6_walkersWith cX6_walkersWith 5 (Option.some Jvm.ClassFile.FieldType.int)) 2 0 0 [.ref t, .int (nI (w)), .int (nI (r))] (S5 A t σ κ π τ) (fun u A' => u = nI (withR σ w r) ∧ A' = S5 A t σ κ π τ) fw_no := by
  refine Ct.of [some (.ref t), some (.int (nI (w))), some (.int (nI (r))), none, none] (by decide) rfl rfl fun z C hx hnm E => ?_
  have hS := hW.s
  have hc80 := hS.c80
  have k6 := hW.k6
  refine r_iconst (pc := 0) C dX6_walkersWith_0 ci_0 ?_
  refine r_istore_3 (pc := 1) C dX6_walkersWith_1 rfl ?_
  refine r_iconst (pc := 2) C dX6_walkersWith_2 ci_0 ?_
  refine r_istore_4 (pc := 3) C dX6_walkersWith_3 rfl ?_
  have lp5_1 : ∀ (fu : Nat) (k : Nat) (hk : k ≤ rK σ), rK σ - k < fu → wa g z 0 0 (S5 A t σ κ π τ) 5 [some (.ref t), some (.int (nI (w))), some (.int (nI (r))), some (.int (nI (smN (fun k => b01 (decide (σ (75 + 13 * k + w) = nI r))) k))), some (.int (nI (k)))] [] := by
    intro fu
    induction fu with
    | zero => intro k  hk hm5; exact absurd hm5 (Nat.not_lt_zero _)
    | succ fu ih5 =>
      intro k  hk hm5
      refine r_iload_4 (pc := 5) C dX6_walkersWith_5 ?_
      refine r_aload_0 (pc := 7) C dX6_walkersWith_7 ?_
      refine r_getR (pc := 8) C fl_X6_7_6 (tw_g hT) rfl (tw_r1 hT) dX6_walkersWith_8 ?_
      refine r_iconst (pc := 11) C dX6_walkersWith_11 ci_1 ?_
      refine r_iald (pc := 12) C (tw_g1 hT) rfl rfl (lt_eq (by omega) (tw_n1 hT)) (by omega) dX6_walkersWith_12 ?_
      refine r_top (congrFun (S5_1 _ _ _ _ _ _) _) ?_
      refine r_top hW.k ?_
      refine r_icmp_ge (pc := 13) (tgt := 44) C dX6_walkersWith_13 (by decide) (fun b13 => ?_) (fun b13 => ?_)
      · skip
        have b13 := (nI_le2 (by omega) (by omega)).mp b13
        refine r_iload_3 (pc := 44) C dX6_walkersWith_44 ?_
        refine r_iret (pc := 45) C E rfl (Nat.le_refl _) (Nat.le_refl _) dX6_walkersWith_45 ?_
        have e9 : k = rK σ := by omega
        subst e9
        exact ⟨rfl, rfl⟩
      · skip
        have b13 := (not_congr (nI_le2 (by omega) (by omega))).mp b13
        refine r_iload_3 (pc := 16) C dX6_walkersWith_16 ?_
        refine r_aload_0 (pc := 17) C dX6_walkersWith_17 ?_
        refine r_iload_4 (pc := 18) C dX6_walkersWith_18 ?_
        refine r_iload_1 (pc := 20) C dX6_walkersWith_20 ?_
        refine r_V2io (pc := 21) C (m_of (by exact hT) (S5_1 _ _ _ _ _ _)) vl_X6_103 (tw_g hT) (by decide) (Nat.le_refl _) (Nat.le_refl _) (Nat.le_of_ble_eq_true rfl) rfl dX6_walkersWith_21 (fun u2 A2 hc2 => ?_)
        refine r_top hc2.1 ?_
        refine r_eqA hc2.2 ?_
        clear hc2 A2 u2
        refine r_iload_2 (pc := 24) C dX6_walkersWith_24 ?_
        refine r_icmp_ne (pc := 25) (tgt := 32) C dX6_walkersWith_25 (by decide) (fun b25 => ?_) (fun b25 => ?_)
        · skip
          refine r_iconst (pc := 32) C dX6_walkersWith_32 ci_0 ?_
          refine r_S1io (pc := 33) C m_truth0 sl_X6_130 (by decide) (Nat.le_refl _) (Nat.le_refl _) (Nat.le_of_ble_eq_true rfl) rfl dX6_walkersWith_33 (fun u3 A3 hc3 => ?_)
          refine r_top hc3.1 ?_
          refine r_eqA hc3.2 ?_
          clear hc3 A3 u3
          refine r_iadd (pc := 36) C dX6_walkersWith_36 ?_
          refine r_top (nI_add _ _) ?_
          refine r_istore_3 (pc := 37) C dX6_walkersWith_37 rfl ?_
          refine r_iinc_4 (pc := 38) C dX6_walkersWith_38 (nI_inc _) rfl ?_
          refine r_goto (pc := 41) (tgt := 5) C dX6_walkersWith_41 (by decide) ?_
          first | rw [smN_1 (f := fun k => b01 (decide (σ (75 + 13 * k + w) = nI r))) (b01_t (by assumption))] | rw [smN_0 (f := fun k => b01 (decide (σ (75 + 13 * k + w) = nI r))) (b01_f (by assumption))]
          exact ih5 (k + 1) (by omega) (by omega)
        · skip
          refine r_iconst (pc := 28) C dX6_walkersWith_28 ci_1 ?_
          refine r_goto (pc := 29) (tgt := 33) C dX6_walkersWith_29 (by decide) ?_
          refine r_S1io (pc := 33) C m_truth1 sl_X6_130 (by decide) (Nat.le_refl _) (Nat.le_refl _) (Nat.le_of_ble_eq_true rfl) rfl dX6_walkersWith_33 (fun u4 A4 hc4 => ?_)
          refine r_top hc4.1 ?_
          refine r_eqA hc4.2 ?_
          clear hc4 A4 u4
          refine r_iadd (pc := 36) C dX6_walkersWith_36 ?_
          refine r_top (nI_add _ _) ?_
          refine r_istore_3 (pc := 37) C dX6_walkersWith_37 rfl ?_
          refine r_iinc_4 (pc := 38) C dX6_walkersWith_38 (nI_inc _) rfl ?_
          refine r_goto (pc := 41) (tgt := 5) C dX6_walkersWith_41 (by decide) ?_
          first | rw [smN_1 (f := fun k => b01 (decide (σ (75 + 13 * k + w) = nI r))) (b01_t (by assumption))] | rw [smN_0 (f := fun k => b01 (decide (σ (75 + 13 * k + w) = nI r))) (b01_f (by assumption))]
          exact ih5 (k + 1) (by omega) (by omega)
  exact lp5_1 _ 0 (by omega) (Nat.lt_succ_self _)
set_option maxHeartbeats 4000000 in
theorem m_allGrass {g : GZ} {A : HA} {t : Nat} {σ κ π τ : Nat → Int32} (hT : Tw A t) (hW : RowW σ) : Ct g wI yX6_allGrass (.code yX6_allGrass cX6_allGrass 3 (Option.some Jvm.ClassFile.FieldType.int)) 3 0 0 [.ref t] (S5 A t σ κ π τ) (fun u A' => u = nI (allG σ) ∧ A' = S5 A t σ κ π τ) fw_no := by
  refine Ct.of [some (.ref t), none, none] (by decide) rfl rfl fun z C hx hnm E => ?_
  have hS := hW.s
  have hc80 := hS.c80
  have k6 := hW.k6
  refine r_iconst (pc := 0) C dX6_allGrass_0 ci_0 ?_
  refine r_istore_1 (pc := 1) C dX6_allGrass_1 rfl ?_
  refine r_iconst (pc := 2) C dX6_allGrass_2 ci_0 ?_
  refine r_istore_2 (pc := 3) C dX6_allGrass_3 rfl ?_
  have lp4_1 : ∀ (fu : Nat) (c : Nat) (hc : c ≤ rC σ), rC σ - c < fu → wa g z 0 0 (S5 A t σ κ π τ) 4 [some (.ref t), some (.int (nI (smN (grassF σ) c))), some (.int (nI (c)))] [] := by
    intro fu
    induction fu with
    | zero => intro c  hc hm4; exact absurd hm4 (Nat.not_lt_zero _)
    | succ fu ih4 =>
      intro c  hc hm4
      refine r_iload_2 (pc := 4) C dX6_allGrass_4 ?_
      refine r_aload_0 (pc := 5) C dX6_allGrass_5 ?_
      refine r_V0io (pc := 6) C (m_cells (by exact hT) (S5_1 _ _ _ _ _ _) hS) vl_X6_117 (tw_g hT) (by decide) (Nat.le_refl _) (Nat.le_refl _) (Nat.le_of_ble_eq_true rfl) rfl dX6_allGrass_6 (fun u2 A2 hc2 => ?_)
      refine r_top hc2.1 ?_
      refine r_eqA hc2.2 ?_
      clear hc2 A2 u2
      refine r_icmp_ge (pc := 9) (tgt := 39) C dX6_allGrass_9 (by decide) (fun b9 => ?_) (fun b9 => ?_)
      · skip
        have b9 := (nI_le2 (by omega) (by omega)).mp b9
        refine r_iload_1 (pc := 39) C dX6_allGrass_39 ?_
        refine r_iret (pc := 40) C E rfl (Nat.le_refl _) (Nat.le_refl _) dX6_allGrass_40 ?_
        have e9 : c = rC σ := by omega
        subst e9
        exact ⟨rfl, rfl⟩
      · skip
        have b9 := (not_congr (nI_le2 (by omega) (by omega))).mp b9
        refine r_iload_1 (pc := 12) C dX6_allGrass_12 ?_
        refine r_aload_0 (pc := 13) C dX6_allGrass_13 ?_
        refine r_iload_2 (pc := 14) C dX6_allGrass_14 ?_
        refine r_V1io (pc := 15) C (m_isGrass (by exact hT) (S5_1 _ _ _ _ _ _)) vl_X6_93 (tw_g hT) (by decide) (Nat.le_refl _) (Nat.le_refl _) (Nat.le_of_ble_eq_true rfl) rfl dX6_allGrass_15 (fun u3 A3 hc3 => ?_)
        refine r_top hc3.1 ?_
        refine r_eqA hc3.2 ?_
        clear hc3 A3 u3
        refine r_if_eq (pc := 18) (tgt := 30) C dX6_allGrass_18 (by decide) (fun b18 => ?_) (fun b18 => ?_)
        · skip
          have b18 := bI_0.mp b18
          refine r_iconst (pc := 30) C dX6_allGrass_30 ci_0 ?_
          refine r_iadd (pc := 31) C dX6_allGrass_31 ?_
          refine r_top (nI_add _ _) ?_
          refine r_istore_1 (pc := 32) C dX6_allGrass_32 rfl ?_
          refine r_iinc_2 (pc := 33) C dX6_allGrass_33 (nI_inc _) rfl ?_
          refine r_goto (pc := 36) (tgt := 4) C dX6_allGrass_36 (by decide) ?_
          first | rw [show smN (grassF σ) c + cGr σ c = smN (grassF σ) (c + 1) from congrArg (smN (grassF σ) c + ·) (if_pos (by assumption) : grassF σ c = cGr σ c).symm] | rw [show smN (grassF σ) c + 0 = smN (grassF σ) (c + 1) from congrArg (smN (grassF σ) c + ·) (if_neg (by assumption) : grassF σ c = 0).symm]
          exact ih4 (c + 1) (by omega) (by omega)
        · skip
          have b18 := bI_n.mp b18
          refine r_aload_0 (pc := 21) C dX6_allGrass_21 ?_
          refine r_iload_2 (pc := 22) C dX6_allGrass_22 ?_
          refine r_iconst (pc := 23) C dX6_allGrass_23 ci_1 ?_
          refine r_V2io (pc := 24) C (m_ofCell (by exact hT) (S5_1 _ _ _ _ _ _)) vl_X6_86 (tw_g hT) (by decide) (Nat.le_refl _) (Nat.le_refl _) (Nat.le_of_ble_eq_true rfl) rfl dX6_allGrass_24 (fun u4 A4 hc4 => ?_)
          refine r_top hc4.1 ?_
          refine r_eqA hc4.2 ?_
          clear hc4 A4 u4
          refine r_top (hW.c (by omega)) ?_
          refine r_goto (pc := 27) (tgt := 31) C dX6_allGrass_27 (by decide) ?_
          refine r_iadd (pc := 31) C dX6_allGrass_31 ?_
          refine r_top (nI_add _ _) ?_
          refine r_istore_1 (pc := 32) C dX6_allGrass_32 rfl ?_
          refine r_iinc_2 (pc := 33) C dX6_allGrass_33 (nI_inc _) rfl ?_
          refine r_goto (pc := 36) (tgt := 4) C dX6_allGrass_36 (by decide) ?_
          first | rw [show smN (grassF σ) c + cGr σ c = smN (grassF σ) (c + 1) from congrArg (smN (grassF σ) c + ·) (if_pos (by assumption) : grassF σ c = cGr σ c).symm] | rw [show smN (grassF σ) c + 0 = smN (grassF σ) (c + 1) from congrArg (smN (grassF σ) c + ·) (if_neg (by assumption) : grassF σ c = 0).symm]
          exact ih4 (c + 1) (by omega) (by omega)
  exact lp4_1 _ 0 (by omega) (Nat.lt_succ_self _)
set_option maxHeartbeats 4000000 in
theorem m_isBare {g : GZ} {A : HA} {t : Nat} {σ κ π τ : Nat → Int32} (hT : Tw A t) {c : Nat} (hc : c < 80) : Ct g wI yX6_isBare (.code yX6_isBare cX6_isBare 2 (Option.some Jvm.ClassFile.FieldType.boolean)) 3 0 0 [.ref t, .int (nI (c))] (S5 A t σ κ π τ) (fun u A' => u = bI (bare σ c) ∧ A' = S5 A t σ κ π τ) fw_no := by
  refine Ct.of [some (.ref t), some (.int (nI (c)))] (by decide) rfl rfl fun z C hx hnm E => ?_
  refine r_aload_0 (pc := 0) C dX6_isBare_0 ?_
  refine r_iload_1 (pc := 1) C dX6_isBare_1 ?_
  refine r_V1io (pc := 2) C (m_isGrass (by exact hT) (S5_1 _ _ _ _ _ _)) vl_X6_93 (tw_g hT) (by decide) (Nat.le_refl _) (Nat.le_refl _) (Nat.le_of_ble_eq_true rfl) rfl dX6_isBare_2 (fun u1 A1 hc1 => ?_)
  refine r_top hc1.1 ?_
  refine r_eqA hc1.2 ?_
  clear hc1 A1 u1
  refine r_if_eq (pc := 5) (tgt := 21) C dX6_isBare_5 (by decide) (fun b5 => ?_) (fun b5 => ?_)
  · skip
    have b5 := bI_0.mp b5
    refine r_iconst (pc := 21) C dX6_isBare_21 ci_0 ?_
    refine r_iret (pc := 22) C E nar_0 (Nat.le_refl _) (Nat.le_refl _) dX6_isBare_22 ?_
    first | exact ⟨bI_1 ⟨‹_›, ‹_›⟩, rfl⟩ | exact ⟨bI_00 (fun q => absurd q.1 ‹_›), rfl⟩ | exact ⟨bI_00 (fun q => absurd q.2 ‹_›), rfl⟩
  · skip
    have b5 := bI_n.mp b5
    refine r_aload_0 (pc := 8) C dX6_isBare_8 ?_
    refine r_iload_1 (pc := 9) C dX6_isBare_9 ?_
    refine r_iconst (pc := 10) C dX6_isBare_10 ci_1 ?_
    refine r_V2io (pc := 11) C (m_ofCell (by exact hT) (S5_1 _ _ _ _ _ _)) vl_X6_86 (tw_g hT) (by decide) (Nat.le_refl _) (Nat.le_refl _) (Nat.le_of_ble_eq_true rfl) rfl dX6_isBare_11 (fun u2 A2 hc2 => ?_)
    refine r_top hc2.1 ?_
    refine r_eqA hc2.2 ?_
    clear hc2 A2 u2
    refine r_if_ne (pc := 14) (tgt := 21) C dX6_isBare_14 (by decide) (fun b14 => ?_) (fun b14 => ?_)
    · skip
      refine r_iconst (pc := 21) C dX6_isBare_21 ci_0 ?_
      refine r_iret (pc := 22) C E nar_0 (Nat.le_refl _) (Nat.le_refl _) dX6_isBare_22 ?_
      first | exact ⟨bI_1 ⟨‹_›, ‹_›⟩, rfl⟩ | exact ⟨bI_00 (fun q => absurd q.1 ‹_›), rfl⟩ | exact ⟨bI_00 (fun q => absurd q.2 ‹_›), rfl⟩
    · skip
      refine r_iconst (pc := 17) C dX6_isBare_17 ci_1 ?_
      refine r_goto (pc := 18) (tgt := 22) C dX6_isBare_18 (by decide) ?_
      refine r_iret (pc := 22) C E nar_1 (Nat.le_refl _) (Nat.le_refl _) dX6_isBare_22 ?_
      first | exact ⟨bI_1 ⟨‹_›, ‹_›⟩, rfl⟩ | exact ⟨bI_00 (fun q => absurd q.1 ‹_›), rfl⟩ | exact ⟨bI_00 (fun q => absurd q.2 ‹_›), rfl⟩
set_option maxHeartbeats 4000000 in
theorem m_bareCells {g : GZ} {A : HA} {t : Nat} {σ κ π τ : Nat → Int32} (hT : Tw A t) (hS : RowS σ) : Ct g wI yX6_bareCells (.code yX6_bareCells cX6_bareCells 3 (Option.some Jvm.ClassFile.FieldType.int)) 4 0 0 [.ref t] (S5 A t σ κ π τ) (fun u A' => u = nI (bareR σ) ∧ A' = S5 A t σ κ π τ) fw_no := by
  refine Ct.of [some (.ref t), none, none] (by decide) rfl rfl fun z C hx hnm E => ?_
  have hc80 := hS.c80
  refine r_iconst (pc := 0) C dX6_bareCells_0 ci_0 ?_
  refine r_istore_1 (pc := 1) C dX6_bareCells_1 rfl ?_
  refine r_iconst (pc := 2) C dX6_bareCells_2 ci_0 ?_
  refine r_istore_2 (pc := 3) C dX6_bareCells_3 rfl ?_
  have lp4_1 : ∀ (fu : Nat) (c : Nat) (hc : c ≤ rC σ), rC σ - c < fu → wa g z 0 0 (S5 A t σ κ π τ) 4 [some (.ref t), some (.int (nI (smN (fun c => b01 (decide (bare σ c))) c))), some (.int (nI (c)))] [] := by
    intro fu
    induction fu with
    | zero => intro c  hc hm4; exact absurd hm4 (Nat.not_lt_zero _)
    | succ fu ih4 =>
      intro c  hc hm4
      refine r_iload_2 (pc := 4) C dX6_bareCells_4 ?_
      refine r_aload_0 (pc := 5) C dX6_bareCells_5 ?_
      refine r_V0io (pc := 6) C (m_cells (by exact hT) (S5_1 _ _ _ _ _ _) hS) vl_X6_117 (tw_g hT) (by decide) (Nat.le_refl _) (Nat.le_refl _) (Nat.le_of_ble_eq_true rfl) rfl dX6_bareCells_6 (fun u2 A2 hc2 => ?_)
      refine r_top hc2.1 ?_
      refine r_eqA hc2.2 ?_
      clear hc2 A2 u2
      refine r_icmp_ge (pc := 9) (tgt := 29) C dX6_bareCells_9 (by decide) (fun b9 => ?_) (fun b9 => ?_)
      · skip
        have b9 := (nI_le2 (by omega) (by omega)).mp b9
        refine r_iload_1 (pc := 29) C dX6_bareCells_29 ?_
        refine r_iret (pc := 30) C E rfl (Nat.le_refl _) (Nat.le_refl _) dX6_bareCells_30 ?_
        have e9 : c = rC σ := by omega
        subst e9
        exact ⟨rfl, rfl⟩
      · skip
        have b9 := (not_congr (nI_le2 (by omega) (by omega))).mp b9
        refine r_iload_1 (pc := 12) C dX6_bareCells_12 ?_
        refine r_aload_0 (pc := 13) C dX6_bareCells_13 ?_
        refine r_iload_2 (pc := 14) C dX6_bareCells_14 ?_
        refine r_V1io (pc := 15) C (m_isBare (by exact hT) (by first | assumption | omega)) vl_X6_379 (tw_g hT) (by decide) (Nat.le_refl _) (Nat.le_refl _) (Nat.le_of_ble_eq_true rfl) rfl dX6_bareCells_15 (fun u3 A3 hc3 => ?_)
        refine r_top hc3.1 ?_
        refine r_eqA hc3.2 ?_
        clear hc3 A3 u3
        refine r_S1io (pc := 18) C m_truth sl_X6_130 (by decide) (Nat.le_refl _) (Nat.le_refl _) (Nat.le_of_ble_eq_true rfl) rfl dX6_bareCells_18 (fun u4 A4 hc4 => ?_)
        refine r_top hc4.1 ?_
        refine r_eqA hc4.2 ?_
        clear hc4 A4 u4
        refine r_top (bI_b01 _) ?_
        refine r_iadd (pc := 21) C dX6_bareCells_21 ?_
        refine r_top (nI_add _ _) ?_
        refine r_istore_1 (pc := 22) C dX6_bareCells_22 rfl ?_
        refine r_iinc_2 (pc := 23) C dX6_bareCells_23 (nI_inc _) rfl ?_
        refine r_goto (pc := 26) (tgt := 4) C dX6_bareCells_26 (by decide) ?_
        exact ih4 (c + 1) (by omega) (by omega)
  exact lp4_1 _ 0 (by omega) (Nat.lt_succ_self _)
set_option maxHeartbeats 4000000 in
theorem m_account0 {g : GZ} {A : HA} {t : Nat} {σ κ π τ : Nat → Int32} (hT : Tw A t) {a : Nat} (ha : a < 544) : Ct g wI yX6_account0 (.code yX6_account0 cX6_account0 2 (Option.some Jvm.ClassFile.FieldType.int)) 1 0 0 [.ref t, .int (nI (a))] (S5 A t σ κ π τ) (fun u A' => u = σ (9 + a) ∧ A' = S5 A t σ κ π τ) fw_no := by
  refine Ct.of [some (.ref t), some (.int (nI (a)))] (by decide) rfl rfl fun z C hx hnm E => ?_
  refine r_aload_0 (pc := 0) C dX6_account0_0 ?_
  refine r_getR (pc := 1) C fl_X6_7_6 (tw_g hT) rfl (tw_r1 hT) dX6_account0_1 ?_
  refine r_bipush (pc := 4) C dX6_account0_4 cb_9 ?_
  refine r_iload_1 (pc := 6) C dX6_account0_6 ?_
  refine r_iadd (pc := 7) C dX6_account0_7 ?_
  refine r_top (nI_add _ _) ?_
  refine r_iald (pc := 8) C (tw_g1 hT) rfl rfl (lt_eq (by omega) (tw_n1 hT)) (by omega) dX6_account0_8 ?_
  refine r_top (congrFun (S5_1 _ _ _ _ _ _) _) ?_
  refine r_iret (pc := 9) C E rfl (Nat.le_refl _) (Nat.le_refl _) dX6_account0_9 ?_
  exact ⟨rfl, rfl⟩
set_option maxHeartbeats 4000000 in
theorem m_grassBehind {g : GZ} {A : HA} {t : Nat} {σ κ π τ : Nat → Int32} (hT : Tw A t) {n : Nat} (hW : RowW σ) (hy : ways σ) (hd : rD σ + n ≤ 1200) : Ct g wI yX6_grassBehind (.code yX6_grassBehind cX6_grassBehind 2 (Option.some Jvm.ClassFile.FieldType.int)) 10 0 0 [.ref t, .int (nI (n))] (S5 A t σ κ π τ) (fun u A' => (∃ κ' π' m', A' = S5 A t (daysR σ n) κ' π' (upd τ 10 m')) ∧ u = nI (allG (daysR σ n))) fw_no := by
  refine Ct.of [some (.ref t), some (.int (nI (n)))] (by decide) rfl rfl fun z C hx hnm E => ?_
  have hk := daysR_keep hW hy n hd
  have hV := hW.same hk.1 hk.2.1
  refine r_aload_0 (pc := 0) C dX6_grassBehind_0 ?_
  refine r_iload_1 (pc := 1) C dX6_grassBehind_1 ?_
  refine r_V1vo (pc := 2) C (m_goBy (by exact hT) hW hy hd) vl_X6_170 (tw_g hT) (by decide) (Nat.le_refl _) (Nat.le_refl _) (Nat.le_of_ble_eq_true rfl) rfl dX6_grassBehind_2 (fun u1 A1 hc1 => ?_)
  obtain ⟨κL, πL, mL, eA⟩ := hc1
  refine r_eqA (eA.trans (by first | rw [bx_upd] | rfl)) ?_
  clear eA A1 u1
  refine r_aload_0 (pc := 5) C dX6_grassBehind_5 ?_
  refine r_V0io (pc := 6) C (m_allGrass (by exact hT) hV) vl_X6_318 (tw_g hT) (by decide) (Nat.le_refl _) (Nat.le_refl _) (Nat.le_of_ble_eq_true rfl) rfl dX6_grassBehind_6 (fun u2 A2 hc2 => ?_)
  refine r_top hc2.1 ?_
  refine r_eqA hc2.2 ?_
  clear hc2 A2 u2
  refine r_iret (pc := 9) C E rfl (Nat.le_refl _) (Nat.le_refl _) dX6_grassBehind_9 ?_
  exact ⟨⟨_, _, _, rfl⟩, rfl⟩
set_option maxHeartbeats 4000000 in
theorem m_grassWithFence {g : GZ} {A : HA} {t : Nat} {σ κ π τ : Nat → Int32} (hT : Tw A t) {c n : Nat} (hW : RowW σ) (hy : ways (fenceOn σ c)) (hc : c < 80) (hd : rD σ + n ≤ 1200) : Ct g wI yX6_grassWithFence (.code yX6_grassWithFence cX6_grassWithFence 3 (Option.some Jvm.ClassFile.FieldType.int)) 11 0 0 [.ref t, .int (nI (c)), .int (nI (n))] (S5 A t σ κ π τ) (fun u A' => (∃ α' κ' π' m', A' = S5 (A.sI (t + 4) α') t σ κ' π' (upd τ 10 m')) ∧ u = nI (allG (daysR (fenceOn σ c) n))) fw_no := by
  refine Ct.of [some (.ref t), some (.int (nI (c))), some (.int (nI (n)))] (by decide) rfl rfl fun z C hx hnm E => ?_
  have hd2 : rD (fenceOn σ c) + n ≤ 1200 := by have : rD (fenceOn σ c) = rD σ := upd_rD (by omega); omega
  have hk := daysR_keep hW.fenceOn hy n hd2
  refine r_aload_0 (pc := 0) C dX6_grassWithFence_0 ?_
  refine r_V0vo (pc := 1) C (m_tries (by exact hT)) vl_X6_453 (tw_g hT) (by decide) (Nat.le_refl _) (Nat.le_refl _) (Nat.le_of_ble_eq_true rfl) rfl dX6_grassWithFence_1 (fun u1 A1 hc1 => ?_)
  refine r_eqA hc1 ?_
  clear hc1 A1 u1
  refine r_aload_0 (pc := 4) C dX6_grassWithFence_4 ?_
  refine r_iload_1 (pc := 5) C dX6_grassWithFence_5 ?_
  refine r_iconst (pc := 6) C dX6_grassWithFence_6 ci_2 ?_
  refine r_iconst (pc := 7) C dX6_grassWithFence_7 ci_1 ?_
  refine r_V3vo (pc := 8) C (m_putsCell (by exact hT) (S5_1 _ _ _ _ _ _)) vl_X6_139 (tw_g hT) (by decide) (Nat.le_refl _) (Nat.le_refl _) (Nat.le_of_ble_eq_true rfl) rfl dX6_grassWithFence_8 (fun u2 A2 hc2 => ?_)
  refine r_eqA hc2 ?_
  clear hc2 A2 u2
  refine r_eqA (S5_w1 _ _ _ _ _ _ _) ?_
  refine r_aload_0 (pc := 11) C dX6_grassWithFence_11 ?_
  refine r_aload_0 (pc := 12) C dX6_grassWithFence_12 ?_
  refine r_iload_2 (pc := 13) C dX6_grassWithFence_13 ?_
  refine r_V1io (pc := 14) C (m_grassBehind (σ := fenceOn σ c) (by exact hT) hW.fenceOn hy hd2) vl_X6_459 (tw_g hT) (by decide) (Nat.le_refl _) (Nat.le_refl _) (Nat.le_of_ble_eq_true rfl) rfl dX6_grassWithFence_14 (fun u3 A3 hc3 => ?_)
  obtain ⟨⟨κL, πL, mL, eA⟩, eu⟩ := hc3
  refine r_top eu ?_
  refine r_eqA (eA.trans (by first | rw [bx_upd] | rfl)) ?_
  clear eu eA A3 u3
  refine r_V1io (pc := 17) C (m_laidBack (by exact hT)) vl_X6_456 (tw_g hT) (by decide) (Nat.le_refl _) (Nat.le_refl _) (Nat.le_of_ble_eq_true rfl) rfl dX6_grassWithFence_17 (fun u4 A4 hc4 => ?_)
  refine r_top hc4.1 ?_
  refine r_eqA (hc4.2.trans (by rw [sI_s, cpy_back (fun j hj => ((hk.1 j (by unfold Stat; omega)).trans (pk_un (by omega))))])) ?_
  clear hc4 A4 u4
  refine r_iret (pc := 20) C E rfl (Nat.le_refl _) (Nat.le_refl _) dX6_grassWithFence_20 ?_
  exact ⟨⟨_, _, _, _, rfl⟩, rfl⟩
set_option maxHeartbeats 4000000 in
theorem m_isBroken {g : GZ} {A : HA} {t : Nat} {σ κ π τ : Nat → Int32} (hT : Tw A t) {k : Nat} (hW : RowW σ) (hy : ways σ) (hk2 : k < rK σ) : Ct g wI yX6_isBroken (.code yX6_isBroken cX6_isBroken 3 (Option.some Jvm.ClassFile.FieldType.boolean)) 7 0 0 [.ref t, .int (nI (k))] (S5 A t σ κ π τ) (fun u A' => (∃ κ' π' m', A' = S5 A t σ κ' π' (upd τ 10 m')) ∧ u = bI (brokB σ k = true)) fw_no := by
  refine Ct.of [some (.ref t), some (.int (nI (k))), none] (by decide) rfl rfl fun z C hx hnm E => ?_
  have hS := hW.s
  have hc80 := hS.c80
  have k6 := hW.k6
  have hwf := wy_facts hW hk2 (hy _ hk2)
  have hlt := hy _ hk2
  have hT10 : (upd τ 10 (nI (wl σ k + 1))) 10 = nI (wl σ k + 1) := pk_us
  refine r_aload_0 (pc := 0) C dX6_isBroken_0 ?_
  refine r_iload_1 (pc := 1) C dX6_isBroken_1 ?_
  refine r_V1io (pc := 2) C (m_laysWay (by exact hT) hW hk2 (hy _ hk2)) vl_X6_147 (tw_g hT) (by decide) (Nat.le_refl _) (Nat.le_refl _) (Nat.le_of_ble_eq_true rfl) rfl dX6_isBroken_2 (fun u1 A1 hc1 => ?_)
  obtain ⟨κL, πL, eA, hπL, eu⟩ := hc1
  refine r_top eu ?_
  refine r_eqA (eA.trans (by first | rw [bx_upd] | rfl)) ?_
  clear eu eA A1 u1
  refine r_ldc (pc := 5) (v := nI 1000000) C (by have h9 := q2423; rwa [show (1000000 : Int32) = nI 1000000 by decide +kernel] at h9) dX6_isBroken_5 ?_
  refine r_icmp_lt (pc := 7) (tgt := 12) C dX6_isBroken_7 (by decide) (fun b7 => ?_) (fun b7 => ?_)
  · skip
    have b7 := (nI_lt2 (by omega) (by omega)).mp b7
    refine r_iconst (pc := 12) C dX6_isBroken_12 ci_0 ?_
    refine r_istore_2 (pc := 13) C dX6_isBroken_13 rfl ?_
    have lp14_2 : ∀ (fu : Nat) (j : Nat) (hj : j ≤ wl σ k + 1) (hf : fenB σ k j = false), wl σ k + 1 - j < fu → wa g z 0 0 (S5 A t σ κL πL (upd τ 10 (nI (wl σ k + 1)))) 14 [some (.ref t), some (.int (nI (k))), some (.int (nI (j)))] [] := by
      intro fu
      induction fu with
      | zero => intro j  hj hf hm14; exact absurd hm14 (Nat.not_lt_zero _)
      | succ fu ih14 =>
        intro j  hj hf hm14
        refine r_iload_2 (pc := 14) C dX6_isBroken_14 ?_
        refine r_aload_0 (pc := 15) C dX6_isBroken_15 ?_
        refine r_getI (pc := 16) C fl_X6_127_6 (tw_g hT) rfl dX6_isBroken_16 ?_
        refine r_top (congrFun (S5_0 _ _ _ _ _ _) _) ?_
        refine r_top hT10 ?_
        refine r_icmp_ge (pc := 19) (tgt := 43) C dX6_isBroken_19 (by decide) (fun b19 => ?_) (fun b19 => ?_)
        · skip
          have b19 := (nI_le2 (by omega) (by omega)).mp b19
          refine r_iconst (pc := 43) C dX6_isBroken_43 ci_0 ?_
          refine r_iret (pc := 44) C E nar_0 (Nat.le_refl _) (Nat.le_refl _) dX6_isBroken_44 ?_
          have e9 : j = wl σ k + 1 := by omega
          subst e9
          exact ⟨⟨_, _, _, rfl⟩, bI_ff hf⟩
        · skip
          have b19 := (not_congr (nI_le2 (by omega) (by omega))).mp b19
          refine r_aload_0 (pc := 22) C dX6_isBroken_22 ?_
          refine r_aload_0 (pc := 23) C dX6_isBroken_23 ?_
          refine r_getR (pc := 24) C fl_X6_28_6 (tw_g hT) rfl (tw_r7 hT) dX6_isBroken_24 ?_
          refine r_iload_2 (pc := 27) C dX6_isBroken_27 ?_
          refine r_iald (pc := 28) C (tw_g7 hT) rfl rfl (lt_eq (by omega) (tw_n7 hT)) (by omega) dX6_isBroken_28 ?_
          refine r_top (congrFun (S5_7 _ _ _ _ _ _) _) ?_
          refine r_top (hπL _ (by omega)) ?_
          have hyk : wy σ k j < 80 := by have := hwf.1 j (by omega); omega
          refine r_V1io (pc := 29) C (m_hasFence (by exact hT) (S5_1 _ _ _ _ _ _)) vl_X6_97 (tw_g hT) (by decide) (Nat.le_refl _) (Nat.le_refl _) (Nat.le_of_ble_eq_true rfl) rfl dX6_isBroken_29 (fun u3 A3 hc3 => ?_)
          refine r_top hc3.1 ?_
          refine r_eqA hc3.2 ?_
          clear hc3 A3 u3
          refine r_if_eq (pc := 32) (tgt := 37) C dX6_isBroken_32 (by decide) (fun b32 => ?_) (fun b32 => ?_)
          · skip
            have b32 := bI_0.mp b32
            refine r_iinc_2 (pc := 37) C dX6_isBroken_37 (nI_inc _) rfl ?_
            refine r_goto (pc := 40) (tgt := 14) C dX6_isBroken_40 (by decide) ?_
            exact ih14 (j + 1) (by omega) (fenB_f hf b32) (by omega)
          · skip
            have b32 := bI_n.mp b32
            refine r_iconst (pc := 35) C dX6_isBroken_35 ci_1 ?_
            refine r_iret (pc := 36) C E nar_1 (Nat.le_refl _) (Nat.le_refl _) dX6_isBroken_36 ?_
            exact ⟨⟨_, _, _, rfl⟩, bI_tt (fenB_t (by omega) b32)⟩
    exact lp14_2 _ 0 (by omega) rfl (Nat.lt_succ_self _)
  · skip
    have b7 := (not_congr (nI_lt2 (by omega) (by omega))).mp b7
    exfalso; omega
set_option maxHeartbeats 4000000 in
theorem m_markOf {g : GZ} {A : HA} {t : Nat} {σ κ π τ : Nat → Int32} (hT : Tw A t) {c : Nat} (hc : c < 80) : Ct g wI yX6_markOf (.code yX6_markOf cX6_markOf 2 (Option.some Jvm.ClassFile.FieldType.int)) 3 0 0 [.ref t, .int (nI (c))] (S5 A t σ κ π τ) (fun u A' => u = markR σ c ∧ A' = S5 A t σ κ π τ) fw_no := by
  refine Ct.of [some (.ref t), some (.int (nI (c)))] (by decide) rfl rfl fun z C hx hnm E => ?_
  refine r_aload_0 (pc := 0) C dX6_markOf_0 ?_
  refine r_iload_1 (pc := 1) C dX6_markOf_1 ?_
  refine r_V1io (pc := 2) C (m_isGrass (by exact hT) (S5_1 _ _ _ _ _ _)) vl_X6_93 (tw_g hT) (by decide) (Nat.le_refl _) (Nat.le_refl _) (Nat.le_of_ble_eq_true rfl) rfl dX6_markOf_2 (fun u1 A1 hc1 => ?_)
  refine r_top hc1.1 ?_
  refine r_eqA hc1.2 ?_
  clear hc1 A1 u1
  refine r_if_ne (pc := 5) (tgt := 26) C dX6_markOf_5 (by decide) (fun b5 => ?_) (fun b5 => ?_)
  · skip
    have b5 := bI_n.mp b5
    refine r_aload_0 (pc := 26) C dX6_markOf_26 ?_
    refine r_iload_1 (pc := 27) C dX6_markOf_27 ?_
    refine r_V1io (pc := 28) C (m_hasFence (by exact hT) (S5_1 _ _ _ _ _ _)) vl_X6_97 (tw_g hT) (by decide) (Nat.le_refl _) (Nat.le_refl _) (Nat.le_of_ble_eq_true rfl) rfl dX6_markOf_28 (fun u2 A2 hc2 => ?_)
    refine r_top hc2.1 ?_
    refine r_eqA hc2.2 ?_
    clear hc2 A2 u2
    refine r_if_eq (pc := 31) (tgt := 39) C dX6_markOf_31 (by decide) (fun b31 => ?_) (fun b31 => ?_)
    · skip
      have b31 := bI_0.mp b31
      refine r_bipush (pc := 39) C dX6_markOf_39 cb_48 ?_
      refine r_aload_0 (pc := 41) C dX6_markOf_41 ?_
      refine r_iload_1 (pc := 42) C dX6_markOf_42 ?_
      refine r_iconst (pc := 43) C dX6_markOf_43 ci_1 ?_
      refine r_V2io (pc := 44) C (m_ofCell (by exact hT) (S5_1 _ _ _ _ _ _)) vl_X6_86 (tw_g hT) (by decide) (Nat.le_refl _) (Nat.le_refl _) (Nat.le_of_ble_eq_true rfl) rfl dX6_markOf_44 (fun u3 A3 hc3 => ?_)
      refine r_top hc3.1 ?_
      refine r_eqA hc3.2 ?_
      clear hc3 A3 u3
      refine r_iadd (pc := 47) C dX6_markOf_47 ?_
      refine r_iret (pc := 48) C E rfl (Nat.le_refl _) (Nat.le_refl _) dX6_markOf_48 ?_
      refine ⟨?_, rfl⟩
      unfold markR
      first
        | rw [if_pos (by assumption), if_pos (by assumption)]
        | rw [if_pos (by assumption), if_neg (by assumption)]
        | rw [if_neg (by assumption), if_pos (by assumption)]
        | rw [if_neg (by assumption), if_neg (by assumption)]
    · skip
      have b31 := bI_n.mp b31
      refine r_bipush (pc := 34) C dX6_markOf_34 cb_70 ?_
      refine r_goto (pc := 36) (tgt := 48) C dX6_markOf_36 (by decide) ?_
      refine r_iret (pc := 48) C E rfl (Nat.le_refl _) (Nat.le_refl _) dX6_markOf_48 ?_
      refine ⟨?_, rfl⟩
      unfold markR
      first
        | rw [if_pos (by assumption), if_pos (by assumption)]
        | rw [if_pos (by assumption), if_neg (by assumption)]
        | rw [if_neg (by assumption), if_pos (by assumption)]
        | rw [if_neg (by assumption), if_neg (by assumption)]
  · skip
    have b5 := bI_0.mp b5
    refine r_aload_0 (pc := 8) C dX6_markOf_8 ?_
    refine r_iload_1 (pc := 9) C dX6_markOf_9 ?_
    refine r_iconst (pc := 10) C dX6_markOf_10 ci_0 ?_
    refine r_V2io (pc := 11) C (m_ofCell (by exact hT) (S5_1 _ _ _ _ _ _)) vl_X6_86 (tw_g hT) (by decide) (Nat.le_refl _) (Nat.le_refl _) (Nat.le_of_ble_eq_true rfl) rfl dX6_markOf_11 (fun u4 A4 hc4 => ?_)
    refine r_top hc4.1 ?_
    refine r_eqA hc4.2 ?_
    clear hc4 A4 u4
    refine r_iconst (pc := 14) C dX6_markOf_14 ci_2 ?_
    refine r_icmp_ne (pc := 15) (tgt := 23) C dX6_markOf_15 (by decide) (fun b15 => ?_) (fun b15 => ?_)
    · skip
      refine r_bipush (pc := 23) C dX6_markOf_23 cb_83 ?_
      refine r_iret (pc := 25) C E rfl (Nat.le_refl _) (Nat.le_refl _) dX6_markOf_25 ?_
      refine ⟨?_, rfl⟩
      unfold markR
      first
        | rw [if_pos (by assumption), if_pos (by assumption)]
        | rw [if_pos (by assumption), if_neg (by assumption)]
        | rw [if_neg (by assumption), if_pos (by assumption)]
        | rw [if_neg (by assumption), if_neg (by assumption)]
    · skip
      refine r_bipush (pc := 18) C dX6_markOf_18 cb_71 ?_
      refine r_goto (pc := 20) (tgt := 25) C dX6_markOf_20 (by decide) ?_
      refine r_iret (pc := 25) C E rfl (Nat.le_refl _) (Nat.le_refl _) dX6_markOf_25 ?_
      refine ⟨?_, rfl⟩
      unfold markR
      first
        | rw [if_pos (by assumption), if_pos (by assumption)]
        | rw [if_pos (by assumption), if_neg (by assumption)]
        | rw [if_neg (by assumption), if_pos (by assumption)]
        | rw [if_neg (by assumption), if_neg (by assumption)]
