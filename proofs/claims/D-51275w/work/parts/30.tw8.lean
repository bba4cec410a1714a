/-! THE REFERENCE, 8: changes -/
set_option maxRecDepth 100000
theorem cell_iff {a b W H : Nat} (ha : a < 1000) (hb : b < 1000) : (inZ (nI a) 0 ((W : Int) - 1) ∧ inZ (nI b) 0 ((H : Int) - 1)) ↔ (a < W ∧ b < H) := by
  rw [inZ_nI (by omega), inZ_nI (by omega)]; omega
theorem m5_isCell {g : GZ} {A : HA} {t : Nat} {σ κ π τ : Rw} (hT : Tw A t) (hS : RowS σ) {a b : Nat} (ha : a < 1000) (hb : b < 1000) : Ct g wI yX6_isCell (.code yX6_isCell cX6_isCell 3 (Option.some Jvm.ClassFile.FieldType.boolean)) 2 0 0 [.ref t, .int (nI a), .int (nI b)] (S5 A t σ κ π τ) (fun u A' => u = bI (a < rW σ ∧ b < rH σ) ∧ A' = S5 A t σ κ π τ) fw_no :=
  (m_isCell (by exact hT) (S5_1 _ _ _ _ _ _) hS).mono (fun u A' h => ⟨h.1.trans (bI_iff (cell_iff ha hb)), h.2⟩) (fun _ _ h => h)
theorem inC_no {σ : Rw} {a b : Nat} {f : Nat → Int32 × Rw} (h : ¬ (a < rW σ ∧ b < rH σ)) : inC σ a b f = (-8, σ) := if_neg h
theorem inC_in {σ : Rw} {a b : Nat} {f : Nat → Int32 × Rw} (h : a < rW σ ∧ b < rH σ) : inC σ a b f = f (b * rW σ + a) := if_pos h
theorem whyF_z {σ : Rw} {c : Nat} : whyF σ c = nI 0 ∨ (¬ whyF σ c = nI 0 ∧ ¬ 0 ≤ whyF σ c) := by
  unfold whyF
  split
  · split
    · exact Or.inr ⟨by decide +kernel, by decide +kernel⟩
    · split
      · exact Or.inr ⟨by decide +kernel, by decide +kernel⟩
      · split
        · exact Or.inl rfl
        · exact Or.inr ⟨by decide +kernel, by decide +kernel⟩
  · exact Or.inr ⟨by decide +kernel, by decide +kernel⟩
theorem whyF_ge {σ : Rw} {c : Nat} (h : 0 ≤ whyF σ c) : whyF σ c = nI 0 := whyF_z.elim id (fun q => absurd h q.2)
theorem whyF_lt {σ : Rw} {c : Nat} (h : ¬ 0 ≤ whyF σ c) : ¬ whyF σ c = nI 0 := fun q => h (by rw [q]; decide +kernel)
theorem m_truth1 {g : GZ} {A : HA} : Ct g wI yX6_truth (.code yX6_truth cX6_truth 1 (Option.some Jvm.ClassFile.FieldType.int)) 1 0 0 [.int (nI 1)] A (fun u A' => u = nI 1 ∧ A' = A) fw_no := by
  have h := m_truth (g := g) (A := A) (p := True)
  rw [bI_t trivial, ← nI1] at h
  exact h
theorem m_truth0 {g : GZ} {A : HA} : Ct g wI yX6_truth (.code yX6_truth cX6_truth 1 (Option.some Jvm.ClassFile.FieldType.int)) 1 0 0 [.int (nI 0)] A (fun u A' => u = nI 0 ∧ A' = A) fw_no := by
  have h := m_truth (g := g) (A := A) (p := False)
  rw [bI_f id, ← nI0] at h
  exact h
theorem smN_1 {f : Nat → Nat} {j : Nat} (h : f j = 1) : smN f j + 1 = smN f (j + 1) := by
  show smN f j + 1 = smN f j + f j
  rw [h]
theorem smN_0 {f : Nat → Nat} {j : Nat} (h : f j = 0) : smN f j + 0 = smN f (j + 1) := by
  show smN f j + 0 = smN f j + f j
  rw [h]
theorem b01_t {p : Prop} [Decidable p] (h : p) : b01 (decide p) = 1 := by rw [decide_eq_true h]; rfl
theorem b01_f {p : Prop} [Decidable p] (h : ¬ p) : b01 (decide p) = 0 := by rw [decide_eq_false h]; rfl
theorem fence_0 {σ : Rw} {c : Nat} (h : CelI σ c) (h2 : ¬ fenced σ c) : upd (fenceOn σ c) (153 + 5 * c + 2) (nI 0) = σ := by
  unfold fenceOn
  rw [bx_upd]
  have := h.2.1.resolve_right h2
  rw [← this]; exact upd_id _ _
set_option maxHeartbeats 4000000 in
theorem m_runNow {g : GZ} {A : HA} {t : Nat} {σ κ π τ : Nat → Int32} (hT : Tw A t) {n : Nat} (hW : RowW σ) (hy : ways σ) (hn : n ≤ 60) (hd : rD σ ≤ 999) : Ct g wI yX6_runNow (.code yX6_runNow cX6_runNow 3 (Option.some Jvm.ClassFile.FieldType.int)) 10 0 0 [.ref t, .int (nI (n))] (S5 A t σ κ π τ) (fun u A' => (∃ κ' π' m', A' = S5 A t (runC σ n).2 κ' π' (upd τ 10 m')) ∧ u = (runC σ n).1) fw_no := by
  refine Ct.of [some (.ref t), some (.int (nI (n))), none] (by decide) rfl rfl fun z C hx hnm E => ?_
  refine r_aload_0 (pc := 0) C dX6_runNow_0 ?_
  refine r_getR (pc := 1) C fl_X6_7_6 (tw_g hT) rfl (tw_r1 hT) dX6_runNow_1 ?_
  refine r_iconst (pc := 4) C dX6_runNow_4 ci_3 ?_
  refine r_iald (pc := 5) C (tw_g1 hT) rfl rfl (lt_eq (by omega) (tw_n1 hT)) (by omega) dX6_runNow_5 ?_
  refine r_top (congrFun (S5_1 _ _ _ _ _ _) _) ?_
  refine r_top hW.d ?_
  refine r_iload_1 (pc := 6) C dX6_runNow_6 ?_
  refine r_iadd (pc := 7) C dX6_runNow_7 ?_
  refine r_top (nI_add _ _) ?_
  refine r_sipush (pc := 8) C dX6_runNow_8 cs_999 ?_
  refine r_icmp_le (pc := 11) (tgt := 17) C dX6_runNow_11 (by decide) (fun b11 => ?_) (fun b11 => ?_)
  · skip
    have b11 := (nI_le2 (by omega) (by omega)).mp b11
    refine r_aload_0 (pc := 17) C dX6_runNow_17 ?_
    refine r_getR (pc := 18) C fl_X6_7_6 (tw_g hT) rfl (tw_r1 hT) dX6_runNow_18 ?_
    refine r_bipush (pc := 21) C dX6_runNow_21 cb_9 ?_
    refine r_iald (pc := 23) C (tw_g1 hT) rfl rfl (lt_eq (by omega) (tw_n1 hT)) (by omega) dX6_runNow_23 ?_
    refine r_top (congrFun (S5_1 _ _ _ _ _ _) _) ?_
    refine r_istore_2 (pc := 24) C dX6_runNow_24 rfl ?_
    refine r_aload_0 (pc := 25) C dX6_runNow_25 ?_
    refine r_iload_1 (pc := 26) C dX6_runNow_26 ?_
    refine r_V1vo (pc := 27) C (m_goBy (by exact hT) hW hy (by omega)) vl_X6_170 (tw_g hT) (by decide) (Nat.le_refl _) (Nat.le_refl _) (Nat.le_of_ble_eq_true rfl) rfl dX6_runNow_27 (fun u1 A1 hc1 => ?_)
    obtain ⟨κL, πL, mL, eA⟩ := hc1
    refine r_eqA (eA.trans (by first | rw [bx_upd] | rfl)) ?_
    clear eA A1 u1
    refine r_aload_0 (pc := 30) C dX6_runNow_30 ?_
    refine r_getR (pc := 31) C fl_X6_7_6 (tw_g hT) rfl (tw_r1 hT) dX6_runNow_31 ?_
    refine r_bipush (pc := 34) C dX6_runNow_34 cb_9 ?_
    refine r_iald (pc := 36) C (tw_g1 hT) rfl rfl (lt_eq (by omega) (tw_n1 hT)) (by omega) dX6_runNow_36 ?_
    refine r_top (congrFun (S5_1 _ _ _ _ _ _) _) ?_
    refine r_iload_2 (pc := 37) C dX6_runNow_37 ?_
    refine r_isub (pc := 38) C dX6_runNow_38 ?_
    refine r_iret (pc := 39) C E rfl (Nat.le_refl _) (Nat.le_refl _) dX6_runNow_39 ?_
    rw [runC, if_pos (by assumption)]
    exact ⟨⟨_, _, _, rfl⟩, rfl⟩
  · skip
    have b11 := (not_congr (nI_le2 (by omega) (by omega))).mp b11
    refine r_bipush (pc := 14) C dX6_runNow_14 cb_m7 ?_
    refine r_iret (pc := 16) C E rfl (Nat.le_refl _) (Nat.le_refl _) dX6_runNow_16 ?_
    rw [runC, if_neg (by assumption)]
    exact ⟨⟨κ, π, τ 10, by rw [upd_10]⟩, rfl⟩
set_option maxHeartbeats 4000000 in
theorem m_whyNoFence {g : GZ} {A : HA} {t : Nat} {σ κ π τ : Nat → Int32} (hT : Tw A t) {c : Nat} (hW : RowW σ) (hC : CelI σ c) (hc : c < 80) : Ct g wI yX6_whyNoFence (.code yX6_whyNoFence cX6_whyNoFence 3 (Option.some Jvm.ClassFile.FieldType.int)) 7 0 0 [.ref t, .int (nI (c))] (S5 A t σ κ π τ) (fun u A' => (∃ κ', A' = S5 A t σ κ' π τ) ∧ u = whyF σ c) fw_no := by
  refine Ct.of [some (.ref t), some (.int (nI (c))), none] (by decide) rfl rfl fun z C hx hnm E => ?_
  have hf10 := hW.f10
  refine r_aload_0 (pc := 0) C dX6_whyNoFence_0 ?_
  refine r_iload_1 (pc := 1) C dX6_whyNoFence_1 ?_
  refine r_V1io (pc := 2) C (m_isGrass (by exact hT) (S5_1 _ _ _ _ _ _)) vl_X6_93 (tw_g hT) (by decide) (Nat.le_refl _) (Nat.le_refl _) (Nat.le_of_ble_eq_true rfl) rfl dX6_whyNoFence_2 (fun u1 A1 hc1 => ?_)
  refine r_top hc1.1 ?_
  refine r_eqA hc1.2 ?_
  clear hc1 A1 u1
  refine r_if_ne (pc := 5) (tgt := 10) C dX6_whyNoFence_5 (by decide) (fun b5 => ?_) (fun b5 => ?_)
  · skip
    have b5 := bI_n.mp b5
    refine r_aload_0 (pc := 10) C dX6_whyNoFence_10 ?_
    refine r_iload_1 (pc := 11) C dX6_whyNoFence_11 ?_
    refine r_V1io (pc := 12) C (m_hasFence (by exact hT) (S5_1 _ _ _ _ _ _)) vl_X6_97 (tw_g hT) (by decide) (Nat.le_refl _) (Nat.le_refl _) (Nat.le_of_ble_eq_true rfl) rfl dX6_whyNoFence_12 (fun u2 A2 hc2 => ?_)
    refine r_top hc2.1 ?_
    refine r_eqA hc2.2 ?_
    clear hc2 A2 u2
    refine r_if_eq (pc := 15) (tgt := 21) C dX6_whyNoFence_15 (by decide) (fun b15 => ?_) (fun b15 => ?_)
    · skip
      have b15 := bI_0.mp b15
      refine r_aload_0 (pc := 21) C dX6_whyNoFence_21 ?_
      refine r_getR (pc := 22) C fl_X6_7_6 (tw_g hT) rfl (tw_r1 hT) dX6_whyNoFence_22 ?_
      refine r_iconst (pc := 25) C dX6_whyNoFence_25 ci_2 ?_
      refine r_iald (pc := 26) C (tw_g1 hT) rfl rfl (lt_eq (by omega) (tw_n1 hT)) (by omega) dX6_whyNoFence_26 ?_
      refine r_top (congrFun (S5_1 _ _ _ _ _ _) _) ?_
      refine r_top hW.f ?_
      refine r_bipush (pc := 27) C dX6_whyNoFence_27 cb_10 ?_
      refine r_icmp_ne (pc := 29) (tgt := 35) C dX6_whyNoFence_29 (by decide) (fun b29 => ?_) (fun b29 => ?_)
      · skip
        have b29 := (not_congr (nI_eqI (by omega) (by omega))).mp b29
        refine r_aload_0 (pc := 35) C dX6_whyNoFence_35 ?_
        refine r_iload_1 (pc := 36) C dX6_whyNoFence_36 ?_
        refine r_iconst (pc := 37) C dX6_whyNoFence_37 ci_2 ?_
        refine r_iconst (pc := 38) C dX6_whyNoFence_38 ci_1 ?_
        refine r_V3vo (pc := 39) C (m_putsCell (by exact hT) (S5_1 _ _ _ _ _ _)) vl_X6_139 (tw_g hT) (by decide) (Nat.le_refl _) (Nat.le_refl _) (Nat.le_of_ble_eq_true rfl) rfl dX6_whyNoFence_39 (fun u3 A3 hc3 => ?_)
        refine r_eqA hc3 ?_
        clear hc3 A3 u3
        refine r_eqA (S5_w1 _ _ _ _ _ _ _) ?_
        refine r_aload_0 (pc := 42) C dX6_whyNoFence_42 ?_
        refine r_V0io (pc := 43) C (m_areWays (σ := fenceOn σ c) (by exact hT) hW.fenceOn) vl_X6_173 (tw_g hT) (by decide) (Nat.le_refl _) (Nat.le_refl _) (Nat.le_of_ble_eq_true rfl) rfl dX6_whyNoFence_43 (fun u4 A4 hc4 => ?_)
        obtain ⟨κL4, eA4, eu4⟩ := hc4
        refine r_top eu4 ?_
        refine r_eqA eA4 ?_
        clear eu4 eA4 A4 u4
        refine r_istore_2 (pc := 46) C dX6_whyNoFence_46 rfl ?_
        refine r_aload_0 (pc := 47) C dX6_whyNoFence_47 ?_
        refine r_iload_1 (pc := 48) C dX6_whyNoFence_48 ?_
        refine r_iconst (pc := 49) C dX6_whyNoFence_49 ci_2 ?_
        refine r_iconst (pc := 50) C dX6_whyNoFence_50 ci_0 ?_
        refine r_V3vo (pc := 51) C (m_putsCell (by exact hT) (S5_1 _ _ _ _ _ _)) vl_X6_139 (tw_g hT) (by decide) (Nat.le_refl _) (Nat.le_refl _) (Nat.le_of_ble_eq_true rfl) rfl dX6_whyNoFence_51 (fun u5 A5 hc5 => ?_)
        refine r_eqA hc5 ?_
        clear hc5 A5 u5
        refine r_eqA (S5_w1 _ _ _ _ _ _ _) ?_
        refine r_iload_2 (pc := 54) C dX6_whyNoFence_54 ?_
        refine r_if_eq (pc := 55) (tgt := 62) C dX6_whyNoFence_55 (by decide) (fun b55 => ?_) (fun b55 => ?_)
        · skip
          have b55 := bI_0.mp b55
          refine r_bipush (pc := 62) C dX6_whyNoFence_62 cb_m5 ?_
          refine r_iret (pc := 64) C E rfl (Nat.le_refl _) (Nat.le_refl _) dX6_whyNoFence_64 ?_
          refine ⟨⟨_, by rw [fence_0 hC (by assumption)]⟩, ?_⟩
          unfold whyF
          rw [if_pos (by assumption), if_neg (by assumption), if_neg (by assumption)]
          first
            | rw [if_pos (by assumption)]
            | rw [if_neg (by assumption)]
        · skip
          have b55 := bI_n.mp b55
          refine r_iconst (pc := 58) C dX6_whyNoFence_58 ci_0 ?_
          refine r_goto (pc := 59) (tgt := 64) C dX6_whyNoFence_59 (by decide) ?_
          refine r_iret (pc := 64) C E rfl (Nat.le_refl _) (Nat.le_refl _) dX6_whyNoFence_64 ?_
          refine ⟨⟨_, by rw [fence_0 hC (by assumption)]⟩, ?_⟩
          unfold whyF
          rw [if_pos (by assumption), if_neg (by assumption), if_neg (by assumption)]
          first
            | rw [if_pos (by assumption)]
            | rw [if_neg (by assumption)]
      · skip
        have b29 := (nI_eqI (by omega) (by omega)).mp b29
        refine r_bipush (pc := 32) C dX6_whyNoFence_32 cb_m4 ?_
        refine r_iret (pc := 34) C E rfl (Nat.le_refl _) (Nat.le_refl _) dX6_whyNoFence_34 ?_
        exact ⟨⟨_, rfl⟩, by unfold whyF; rw [if_pos (by assumption), if_neg (by assumption), if_pos (by assumption)]⟩
    · skip
      have b15 := bI_n.mp b15
      refine r_bipush (pc := 18) C dX6_whyNoFence_18 cb_m2 ?_
      refine r_iret (pc := 20) C E rfl (Nat.le_refl _) (Nat.le_refl _) dX6_whyNoFence_20 ?_
      exact ⟨⟨_, rfl⟩, by unfold whyF; rw [if_pos (by assumption), if_pos (by assumption)]⟩
  · skip
    have b5 := bI_0.mp b5
    refine r_iconst (pc := 8) C dX6_whyNoFence_8 ci_m1 ?_
    refine r_iret (pc := 9) C E rfl (Nat.le_refl _) (Nat.le_refl _) dX6_whyNoFence_9 ?_
    exact ⟨⟨_, rfl⟩, by unfold whyF; rw [if_neg (by assumption)]⟩
set_option maxHeartbeats 4000000 in
theorem m_fenceNow {g : GZ} {A : HA} {t : Nat} {σ κ π τ : Nat → Int32} (hT : Tw A t) {a b : Nat} (hW : RowW σ) (hC : ∀ c, c < 80 → CelI σ c) (ha : a < 1000) (hb : b < 1000) : Ct g wI yX6_fenceNow (.code yX6_fenceNow cX6_fenceNow 4 (Option.some Jvm.ClassFile.FieldType.int)) 8 0 0 [.ref t, .int (nI (a)), .int (nI (b))] (S5 A t σ κ π τ) (fun u A' => (∃ κ', A' = S5 A t (inC σ a b (fenceC σ)).2 κ' π τ) ∧ u = (inC σ a b (fenceC σ)).1) fw_no := by
  refine Ct.of [some (.ref t), some (.int (nI (a))), some (.int (nI (b))), none] (by decide) rfl rfl fun z C hx hnm E => ?_
  have hS := hW.s
  have hc80 := hS.c80
  have hw10 := hS.w10
  have hh8 := hS.h8
  refine r_aload_0 (pc := 0) C dX6_fenceNow_0 ?_
  refine r_iload_1 (pc := 1) C dX6_fenceNow_1 ?_
  refine r_iload_2 (pc := 2) C dX6_fenceNow_2 ?_
  refine r_V2io (pc := 3) C (m5_isCell (by exact hT) hS ha hb) vl_X6_89 (tw_g hT) (by decide) (Nat.le_refl _) (Nat.le_refl _) (Nat.le_of_ble_eq_true rfl) rfl dX6_fenceNow_3 (fun u1 A1 hc1 => ?_)
  refine r_top hc1.1 ?_
  refine r_eqA hc1.2 ?_
  clear hc1 A1 u1
  refine r_if_ne (pc := 6) (tgt := 12) C dX6_fenceNow_6 (by decide) (fun b6 => ?_) (fun b6 => ?_)
  · skip
    have b6 := bI_n.mp b6
    have hc1 : b * rW σ + a < 80 := Nat.lt_of_lt_of_le (at_lt hS b6.1 b6.2) hc80
    refine r_aload_0 (pc := 12) C dX6_fenceNow_12 ?_
    refine r_aload_0 (pc := 13) C dX6_fenceNow_13 ?_
    refine r_iload_1 (pc := 14) C dX6_fenceNow_14 ?_
    refine r_iload_2 (pc := 15) C dX6_fenceNow_15 ?_
    refine r_V2io (pc := 16) C (m_at (by exact hT) (S5_1 _ _ _ _ _ _) hS) vl_X6_83 (tw_g hT) (by decide) (Nat.le_refl _) (Nat.le_refl _) (Nat.le_of_ble_eq_true rfl) rfl dX6_fenceNow_16 (fun u2 A2 hc2 => ?_)
    refine r_top hc2.1 ?_
    refine r_eqA hc2.2 ?_
    clear hc2 A2 u2
    refine r_V1io (pc := 19) C (m_whyNoFence (by exact hT) hW (hC _ hc1) hc1) vl_X6_177 (tw_g hT) (by decide) (Nat.le_refl _) (Nat.le_refl _) (Nat.le_of_ble_eq_true rfl) rfl dX6_fenceNow_19 (fun u3 A3 hc3 => ?_)
    obtain ⟨⟨κL, eA⟩, eu⟩ := hc3
    refine r_top eu ?_
    refine r_eqA eA ?_
    clear eu eA A3 u3
    refine r_istore_3 (pc := 22) C dX6_fenceNow_22 rfl ?_
    refine r_iload_3 (pc := 23) C dX6_fenceNow_23 ?_
    refine r_if_ge (pc := 24) (tgt := 29) C dX6_fenceNow_24 (by decide) (fun b24 => ?_) (fun b24 => ?_)
    · skip
      have hz := whyF_ge b24
      refine r_aload_0 (pc := 29) C dX6_fenceNow_29 ?_
      refine r_aload_0 (pc := 30) C dX6_fenceNow_30 ?_
      refine r_iload_1 (pc := 31) C dX6_fenceNow_31 ?_
      refine r_iload_2 (pc := 32) C dX6_fenceNow_32 ?_
      refine r_V2io (pc := 33) C (m_at (by exact hT) (S5_1 _ _ _ _ _ _) hS) vl_X6_83 (tw_g hT) (by decide) (Nat.le_refl _) (Nat.le_refl _) (Nat.le_of_ble_eq_true rfl) rfl dX6_fenceNow_33 (fun u4 A4 hc4 => ?_)
      refine r_top hc4.1 ?_
      refine r_eqA hc4.2 ?_
      clear hc4 A4 u4
      refine r_iconst (pc := 36) C dX6_fenceNow_36 ci_2 ?_
      refine r_iconst (pc := 37) C dX6_fenceNow_37 ci_1 ?_
      refine r_V3vo (pc := 38) C (m_putsCell (by exact hT) (S5_1 _ _ _ _ _ _)) vl_X6_139 (tw_g hT) (by decide) (Nat.le_refl _) (Nat.le_refl _) (Nat.le_of_ble_eq_true rfl) rfl dX6_fenceNow_38 (fun u5 A5 hc5 => ?_)
      refine r_eqA hc5 ?_
      clear hc5 A5 u5
      refine r_eqA (S5_w1 _ _ _ _ _ _ _) ?_
      refine r_aload_0 (pc := 41) C dX6_fenceNow_41 ?_
      refine r_getR (pc := 42) C fl_X6_7_6 (tw_g hT) rfl (tw_r1 hT) dX6_fenceNow_42 ?_
      refine r_iconst (pc := 45) C dX6_fenceNow_45 ci_2 ?_
      refine r_dup2 (pc := 46) C dX6_fenceNow_46 rfl rfl ?_
      refine r_iald (pc := 47) C (tw_g1 hT) rfl rfl (lt_eq (by omega) (tw_n1 hT)) (by omega) dX6_fenceNow_47 ?_
      refine r_top (congrFun (S5_1 _ _ _ _ _ _) _) ?_
      refine r_iconst (pc := 48) C dX6_fenceNow_48 ci_1 ?_
      refine r_iadd (pc := 49) C dX6_fenceNow_49 ?_
      refine r_iast (pc := 50) C (tw_g1 hT) rfl rfl (lt_eq (by omega) (tw_n1 hT)) (by omega) dX6_fenceNow_50 ?_
      refine r_eqA (S5_u1 _ _ _ _ _ _ _ _) ?_
      refine r_aload_0 (pc := 51) C dX6_fenceNow_51 ?_
      refine r_bipush (pc := 52) C dX6_fenceNow_52 cb_9 ?_
      refine r_iconst (pc := 54) C dX6_fenceNow_54 ci_1 ?_
      refine r_V2vo (pc := 55) C (m_grows (by exact hT) (S5_1 _ _ _ _ _ _)) vl_X6_143 (tw_g hT) (by decide) (Nat.le_refl _) (Nat.le_refl _) (Nat.le_of_ble_eq_true rfl) rfl dX6_fenceNow_55 (fun u6 A6 hc6 => ?_)
      refine r_eqA hc6 ?_
      clear hc6 A6 u6
      refine r_eqA (S5_w1 _ _ _ _ _ _ _) ?_
      refine r_aload_0 (pc := 58) C dX6_fenceNow_58 ?_
      refine r_getR (pc := 59) C fl_X6_7_6 (tw_g hT) rfl (tw_r1 hT) dX6_fenceNow_59 ?_
      refine r_iconst (pc := 62) C dX6_fenceNow_62 ci_2 ?_
      refine r_iald (pc := 63) C (tw_g1 hT) rfl rfl (lt_eq (by omega) (tw_n1 hT)) (by omega) dX6_fenceNow_63 ?_
      refine r_top (congrFun (S5_1 _ _ _ _ _ _) _) ?_
      refine r_iret (pc := 64) C E rfl (Nat.le_refl _) (Nat.le_refl _) dX6_fenceNow_64 ?_
      rw [inC_in (by assumption), fenceC, if_pos hz]
      exact ⟨⟨_, rfl⟩, rfl⟩
    · skip
      have hz := whyF_lt b24
      refine r_iload_3 (pc := 27) C dX6_fenceNow_27 ?_
      refine r_iret (pc := 28) C E rfl (Nat.le_refl _) (Nat.le_refl _) dX6_fenceNow_28 ?_
      rw [inC_in (by assumption), fenceC, if_neg hz]
      exact ⟨⟨_, rfl⟩, rfl⟩
  · skip
    have b6 := bI_0.mp b6
    refine r_bipush (pc := 9) C dX6_fenceNow_9 cb_m8 ?_
    refine r_iret (pc := 11) C E rfl (Nat.le_refl _) (Nat.le_refl _) dX6_fenceNow_11 ?_
    rw [inC_no (by assumption)]
    exact ⟨⟨_, rfl⟩, rfl⟩
set_option maxHeartbeats 4000000 in
theorem m_openNow {g : GZ} {A : HA} {t : Nat} {σ κ π τ : Nat → Int32} (hT : Tw A t) {a b : Nat} (hW : RowW σ) (ha : a < 1000) (hb : b < 1000) : Ct g wI yX6_openNow (.code yX6_openNow cX6_openNow 3 (Option.some Jvm.ClassFile.FieldType.int)) 3 0 0 [.ref t, .int (nI (a)), .int (nI (b))] (S5 A t σ κ π τ) (fun u A' => u = (inC σ a b (openC σ)).1 ∧ A' = S5 A t (inC σ a b (openC σ)).2 κ π τ) fw_no := by
  refine Ct.of [some (.ref t), some (.int (nI (a))), some (.int (nI (b)))] (by decide) rfl rfl fun z C hx hnm E => ?_
  have hS := hW.s
  have hc80 := hS.c80
  have hw10 := hS.w10
  have hh8 := hS.h8
  refine r_aload_0 (pc := 0) C dX6_openNow_0 ?_
  refine r_iload_1 (pc := 1) C dX6_openNow_1 ?_
  refine r_iload_2 (pc := 2) C dX6_openNow_2 ?_
  refine r_V2io (pc := 3) C (m5_isCell (by exact hT) hS ha hb) vl_X6_89 (tw_g hT) (by decide) (Nat.le_refl _) (Nat.le_refl _) (Nat.le_of_ble_eq_true rfl) rfl dX6_openNow_3 (fun u1 A1 hc1 => ?_)
  refine r_top hc1.1 ?_
  refine r_eqA hc1.2 ?_
  clear hc1 A1 u1
  refine r_if_ne (pc := 6) (tgt := 12) C dX6_openNow_6 (by decide) (fun b6 => ?_) (fun b6 => ?_)
  · skip
    have b6 := bI_n.mp b6
    have hc1 : b * rW σ + a < 80 := Nat.lt_of_lt_of_le (at_lt hS b6.1 b6.2) hc80
    refine r_aload_0 (pc := 12) C dX6_openNow_12 ?_
    refine r_aload_0 (pc := 13) C dX6_openNow_13 ?_
    refine r_iload_1 (pc := 14) C dX6_openNow_14 ?_
    refine r_iload_2 (pc := 15) C dX6_openNow_15 ?_
    refine r_V2io (pc := 16) C (m_at (by exact hT) (S5_1 _ _ _ _ _ _) hS) vl_X6_83 (tw_g hT) (by decide) (Nat.le_refl _) (Nat.le_refl _) (Nat.le_of_ble_eq_true rfl) rfl dX6_openNow_16 (fun u2 A2 hc2 => ?_)
    refine r_top hc2.1 ?_
    refine r_eqA hc2.2 ?_
    clear hc2 A2 u2
    refine r_V1io (pc := 19) C (m_hasFence (by exact hT) (S5_1 _ _ _ _ _ _)) vl_X6_97 (tw_g hT) (by decide) (Nat.le_refl _) (Nat.le_refl _) (Nat.le_of_ble_eq_true rfl) rfl dX6_openNow_19 (fun u3 A3 hc3 => ?_)
    refine r_top hc3.1 ?_
    refine r_eqA hc3.2 ?_
    clear hc3 A3 u3
    refine r_if_ne (pc := 22) (tgt := 28) C dX6_openNow_22 (by decide) (fun b22 => ?_) (fun b22 => ?_)
    · skip
      have b22 := bI_n.mp b22
      refine r_aload_0 (pc := 28) C dX6_openNow_28 ?_
      refine r_aload_0 (pc := 29) C dX6_openNow_29 ?_
      refine r_iload_1 (pc := 30) C dX6_openNow_30 ?_
      refine r_iload_2 (pc := 31) C dX6_openNow_31 ?_
      refine r_V2io (pc := 32) C (m_at (by exact hT) (S5_1 _ _ _ _ _ _) hS) vl_X6_83 (tw_g hT) (by decide) (Nat.le_refl _) (Nat.le_refl _) (Nat.le_of_ble_eq_true rfl) rfl dX6_openNow_32 (fun u4 A4 hc4 => ?_)
      refine r_top hc4.1 ?_
      refine r_eqA hc4.2 ?_
      clear hc4 A4 u4
      refine r_iconst (pc := 35) C dX6_openNow_35 ci_2 ?_
      refine r_iconst (pc := 36) C dX6_openNow_36 ci_0 ?_
      refine r_V3vo (pc := 37) C (m_putsCell (by exact hT) (S5_1 _ _ _ _ _ _)) vl_X6_139 (tw_g hT) (by decide) (Nat.le_refl _) (Nat.le_refl _) (Nat.le_of_ble_eq_true rfl) rfl dX6_openNow_37 (fun u5 A5 hc5 => ?_)
      refine r_eqA hc5 ?_
      clear hc5 A5 u5
      refine r_eqA (S5_w1 _ _ _ _ _ _ _) ?_
      refine r_aload_0 (pc := 40) C dX6_openNow_40 ?_
      refine r_getR (pc := 41) C fl_X6_7_6 (tw_g hT) rfl (tw_r1 hT) dX6_openNow_41 ?_
      refine r_iconst (pc := 44) C dX6_openNow_44 ci_2 ?_
      refine r_dup2 (pc := 45) C dX6_openNow_45 rfl rfl ?_
      refine r_iald (pc := 46) C (tw_g1 hT) rfl rfl (lt_eq (by omega) (tw_n1 hT)) (by omega) dX6_openNow_46 ?_
      refine r_top (congrFun (S5_1 _ _ _ _ _ _) _) ?_
      refine r_iconst (pc := 47) C dX6_openNow_47 ci_1 ?_
      refine r_isub (pc := 48) C dX6_openNow_48 ?_
      refine r_iast (pc := 49) C (tw_g1 hT) rfl rfl (lt_eq (by omega) (tw_n1 hT)) (by omega) dX6_openNow_49 ?_
      refine r_eqA (S5_u1 _ _ _ _ _ _ _ _) ?_
      refine r_aload_0 (pc := 50) C dX6_openNow_50 ?_
      refine r_bipush (pc := 51) C dX6_openNow_51 cb_10 ?_
      refine r_iconst (pc := 53) C dX6_openNow_53 ci_1 ?_
      refine r_V2vo (pc := 54) C (m_grows (by exact hT) (S5_1 _ _ _ _ _ _)) vl_X6_143 (tw_g hT) (by decide) (Nat.le_refl _) (Nat.le_refl _) (Nat.le_of_ble_eq_true rfl) rfl dX6_openNow_54 (fun u6 A6 hc6 => ?_)
      refine r_eqA hc6 ?_
      clear hc6 A6 u6
      refine r_eqA (S5_w1 _ _ _ _ _ _ _) ?_
      refine r_aload_0 (pc := 57) C dX6_openNow_57 ?_
      refine r_getR (pc := 58) C fl_X6_7_6 (tw_g hT) rfl (tw_r1 hT) dX6_openNow_58 ?_
      refine r_iconst (pc := 61) C dX6_openNow_61 ci_2 ?_
      refine r_iald (pc := 62) C (tw_g1 hT) rfl rfl (lt_eq (by omega) (tw_n1 hT)) (by omega) dX6_openNow_62 ?_
      refine r_top (congrFun (S5_1 _ _ _ _ _ _) _) ?_
      refine r_iret (pc := 63) C E rfl (Nat.le_refl _) (Nat.le_refl _) dX6_openNow_63 ?_
      rw [inC_in (by assumption), openC, if_pos (by assumption)]
      exact ⟨rfl, rfl⟩
    · skip
      have b22 := bI_0.mp b22
      refine r_bipush (pc := 25) C dX6_openNow_25 cb_m3 ?_
      refine r_iret (pc := 27) C E rfl (Nat.le_refl _) (Nat.le_refl _) dX6_openNow_27 ?_
      rw [inC_in (by assumption), openC, if_neg (by assumption)]
      exact ⟨rfl, rfl⟩
  · skip
    have b6 := bI_0.mp b6
    refine r_bipush (pc := 9) C dX6_openNow_9 cb_m8 ?_
    refine r_iret (pc := 11) C E rfl (Nat.le_refl _) (Nat.le_refl _) dX6_openNow_11 ?_
    rw [inC_no (by assumption)]
    exact ⟨rfl, rfl⟩
set_option maxHeartbeats 4000000 in
theorem m_manyOf {g : GZ} {A : HA} {t : Nat} {σ κ π τ : Nat → Int32} (hT : Tw A t) {k : Nat} (hS : RowS σ) (hk : k < 1000) : Ct g wI yX6_manyOf (.code yX6_manyOf cX6_manyOf 4 (Option.some Jvm.ClassFile.FieldType.int)) 2 0 0 [.ref t, .int (nI (k))] (S5 A t σ κ π τ) (fun u A' => u = nI (manyR σ k) ∧ A' = S5 A t σ κ π τ) fw_no := by
  refine Ct.of [some (.ref t), some (.int (nI (k))), none, none] (by decide) rfl rfl fun z C hx hnm E => ?_
  have hc80 := hS.c80
  refine r_iconst (pc := 0) C dX6_manyOf_0 ci_0 ?_
  refine r_istore_2 (pc := 1) C dX6_manyOf_1 rfl ?_
  refine r_iconst (pc := 2) C dX6_manyOf_2 ci_0 ?_
  refine r_istore_3 (pc := 3) C dX6_manyOf_3 rfl ?_
  have lp4_1 : ∀ (fu : Nat) (j : Nat) (hj : j ≤ rC σ), rC σ - j < fu → wa g z 0 0 (S5 A t σ κ π τ) 4 [some (.ref t), some (.int (nI (k))), some (.int (nI (smN (fun c => b01 (decide (σ (153 + 5 * c + 0) = nI k))) j))), some (.int (nI (j)))] [] := by
    intro fu
    induction fu with
    | zero => intro j  hj hm4; exact absurd hm4 (Nat.not_lt_zero _)
    | succ fu ih4 =>
      intro j  hj hm4
      refine r_iload_3 (pc := 4) C dX6_manyOf_4 ?_
      refine r_aload_0 (pc := 5) C dX6_manyOf_5 ?_
      refine r_V0io (pc := 6) C (m_cells (by exact hT) (S5_1 _ _ _ _ _ _) hS) vl_X6_117 (tw_g hT) (by decide) (Nat.le_refl _) (Nat.le_refl _) (Nat.le_of_ble_eq_true rfl) rfl dX6_manyOf_6 (fun u2 A2 hc2 => ?_)
      refine r_top hc2.1 ?_
      refine r_eqA hc2.2 ?_
      clear hc2 A2 u2
      refine r_icmp_ge (pc := 9) (tgt := 39) C dX6_manyOf_9 (by decide) (fun b9 => ?_) (fun b9 => ?_)
      · skip
        have b9 := (nI_le2 (by omega) (by omega)).mp b9
        refine r_iload_2 (pc := 39) C dX6_manyOf_39 ?_
        refine r_iret (pc := 40) C E rfl (Nat.le_refl _) (Nat.le_refl _) dX6_manyOf_40 ?_
        have e9 : j = rC σ := by omega
        subst e9
        exact ⟨rfl, rfl⟩
      · skip
        have b9 := (not_congr (nI_le2 (by omega) (by omega))).mp b9
        refine r_iload_2 (pc := 12) C dX6_manyOf_12 ?_
        refine r_aload_0 (pc := 13) C dX6_manyOf_13 ?_
        refine r_iload_3 (pc := 14) C dX6_manyOf_14 ?_
        refine r_iconst (pc := 15) C dX6_manyOf_15 ci_0 ?_
        refine r_V2io (pc := 16) C (m_ofCell (by exact hT) (S5_1 _ _ _ _ _ _)) vl_X6_86 (tw_g hT) (by decide) (Nat.le_refl _) (Nat.le_refl _) (Nat.le_of_ble_eq_true rfl) rfl dX6_manyOf_16 (fun u3 A3 hc3 => ?_)
        refine r_top hc3.1 ?_
        refine r_eqA hc3.2 ?_
        clear hc3 A3 u3
        refine r_iload_1 (pc := 19) C dX6_manyOf_19 ?_
        refine r_icmp_ne (pc := 20) (tgt := 27) C dX6_manyOf_20 (by decide) (fun b20 => ?_) (fun b20 => ?_)
        · skip
          refine r_iconst (pc := 27) C dX6_manyOf_27 ci_0 ?_
          refine r_S1io (pc := 28) C m_truth0 sl_X6_130 (by decide) (Nat.le_refl _) (Nat.le_refl _) (Nat.le_of_ble_eq_true rfl) rfl dX6_manyOf_28 (fun u4 A4 hc4 => ?_)
          refine r_top hc4.1 ?_
          refine r_eqA hc4.2 ?_
          clear hc4 A4 u4
          refine r_iadd (pc := 31) C dX6_manyOf_31 ?_
          refine r_top (nI_add _ _) ?_
          refine r_istore_2 (pc := 32) C dX6_manyOf_32 rfl ?_
          refine r_iinc_3 (pc := 33) C dX6_manyOf_33 (nI_inc _) rfl ?_
          refine r_goto (pc := 36) (tgt := 4) C dX6_manyOf_36 (by decide) ?_
          first | rw [smN_1 (f := fun c => b01 (decide (σ (153 + 5 * c + 0) = nI k))) (b01_t (by assumption))] | rw [smN_0 (f := fun c => b01 (decide (σ (153 + 5 * c + 0) = nI k))) (b01_f (by assumption))]
          exact ih4 (j + 1) (by omega) (by omega)
        · skip
          refine r_iconst (pc := 23) C dX6_manyOf_23 ci_1 ?_
          refine r_goto (pc := 24) (tgt := 28) C dX6_manyOf_24 (by decide) ?_
          refine r_S1io (pc := 28) C m_truth1 sl_X6_130 (by decide) (Nat.le_refl _) (Nat.le_refl _) (Nat.le_of_ble_eq_true rfl) rfl dX6_manyOf_28 (fun u5 A5 hc5 => ?_)
          refine r_top hc5.1 ?_
          refine r_eqA hc5.2 ?_
          clear hc5 A5 u5
          refine r_iadd (pc := 31) C dX6_manyOf_31 ?_
          refine r_top (nI_add _ _) ?_
          refine r_istore_2 (pc := 32) C dX6_manyOf_32 rfl ?_
          refine r_iinc_3 (pc := 33) C dX6_manyOf_33 (nI_inc _) rfl ?_
          refine r_goto (pc := 36) (tgt := 4) C dX6_manyOf_36 (by decide) ?_
          first | rw [smN_1 (f := fun c => b01 (decide (σ (153 + 5 * c + 0) = nI k))) (b01_t (by assumption))] | rw [smN_0 (f := fun c => b01 (decide (σ (153 + 5 * c + 0) = nI k))) (b01_f (by assumption))]
          exact ih4 (j + 1) (by omega) (by omega)
  exact lp4_1 _ 0 (by omega) (Nat.lt_succ_self _)
set_option maxHeartbeats 4000000 in
theorem m_becomesStone {g : GZ} {A : HA} {t : Nat} {σ κ π τ : Nat → Int32} (hT : Tw A t) {c : Nat} (hc : c < 80) : Ct g wV yX6_becomesStone (.code yX6_becomesStone cX6_becomesStone 2 (Option.none : Option Jvm.ClassFile.FieldType)) 2 0 0 [.ref t, .int (nI (c))] (S5 A t σ κ π τ) (fun u A' => A' = S5 A t (stoneR σ c) κ π τ) fw_no := by
  refine Ct.of [some (.ref t), some (.int (nI (c)))] (by decide) rfl rfl fun z C hx hnm E => ?_
  refine r_aload_0 (pc := 0) C dX6_becomesStone_0 ?_
  refine r_iload_1 (pc := 1) C dX6_becomesStone_1 ?_
  refine r_iconst (pc := 2) C dX6_becomesStone_2 ci_0 ?_
  refine r_iconst (pc := 3) C dX6_becomesStone_3 ci_1 ?_
  refine r_V3vo (pc := 4) C (m_putsCell (by exact hT) (S5_1 _ _ _ _ _ _)) vl_X6_139 (tw_g hT) (by decide) (Nat.le_refl _) (Nat.le_refl _) (Nat.le_of_ble_eq_true rfl) rfl dX6_becomesStone_4 (fun u1 A1 hc1 => ?_)
  refine r_eqA hc1 ?_
  clear hc1 A1 u1
  refine r_eqA (S5_w1 _ _ _ _ _ _ _) ?_
  refine r_aload_0 (pc := 7) C dX6_becomesStone_7 ?_
  refine r_iload_1 (pc := 8) C dX6_becomesStone_8 ?_
  refine r_iconst (pc := 9) C dX6_becomesStone_9 ci_1 ?_
  refine r_iconst (pc := 10) C dX6_becomesStone_10 ci_0 ?_
  refine r_V3vo (pc := 11) C (m_putsCell (by exact hT) (S5_1 _ _ _ _ _ _)) vl_X6_139 (tw_g hT) (by decide) (Nat.le_refl _) (Nat.le_refl _) (Nat.le_of_ble_eq_true rfl) rfl dX6_becomesStone_11 (fun u2 A2 hc2 => ?_)
  refine r_eqA hc2 ?_
  clear hc2 A2 u2
  refine r_eqA (S5_w1 _ _ _ _ _ _ _) ?_
  refine r_vret (pc := 14) C E (Nat.le_refl _) (Nat.le_refl _) dX6_becomesStone_14 ?_
  exact rfl
