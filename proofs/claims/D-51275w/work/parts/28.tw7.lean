/-! THE REFERENCE, 7: days -/
set_option maxRecDepth 100000
theorem r_eqL {g : GZ} {z : ZX} {k n pc : Nat} {A : HA} {lv lv' : List (Option Value)} {st : List Value} (h : lv = lv') (kk : wa g z k n A pc lv' st) : wa g z k n A pc lv st := h ▸ kk
theorem upd_10 (τ : Nat → Int32) : upd τ 10 (τ 10) = τ := upd_id τ 10
theorem ways_k {σ : Nat → Int32} (hW : RowW σ) (hy : ways σ) {k : Nat} (hk : k < rK σ) : RowW (wkK σ k) ∧ Same σ (wkK σ k) ∧ rD (wkK σ k) = rD σ ∧ dist (wkK σ k) k 0 (gC (wkK σ k) (wFr (wkK σ k) k)) < 1000000 := by
  obtain ⟨h1, h2, h3⟩ := wkK_keep hW hy k (by omega)
  have hV := hW.same h1 h2
  exact ⟨hV, h1, h3, ways_same hW hV h1 hk (hy k hk)⟩
set_option maxHeartbeats 4000000 in
theorem m_walksOn {g : GZ} {A : HA} {t : Nat} {σ κ π τ : Nat → Int32} (hT : Tw A t) {w d : Nat} (hk : RowK σ w) (hw : w < 6) (hd : d < 100000) : Ct g wI yX6_walksOn (.code yX6_walksOn cX6_walksOn 3 (Option.some Jvm.ClassFile.FieldType.boolean)) 2 0 0 [.ref t, .int (nI (w)), .int (nI (d))] (S5 A t σ κ π τ) (fun u A' => u = bI (d % wPd σ w = 0) ∧ A' = S5 A t σ κ π τ) fw_no := by
  refine Ct.of [some (.ref t), some (.int (nI (w))), some (.int (nI (d)))] (by decide) rfl rfl fun z C hx hnm E => ?_
  have hp := hk.2.2.2
  have hm := Nat.mod_le d (wPd σ w)
  refine r_iload_2 (pc := 0) C dX6_walksOn_0 ?_
  refine r_aload_0 (pc := 1) C dX6_walksOn_1 ?_
  refine r_iload_1 (pc := 2) C dX6_walksOn_2 ?_
  refine r_bipush (pc := 3) C dX6_walksOn_3 cb_10 ?_
  refine r_V2io (pc := 5) C (m_of (by exact hT) (S5_1 _ _ _ _ _ _)) vl_X6_103 (tw_g hT) (by decide) (Nat.le_refl _) (Nat.le_refl _) (Nat.le_of_ble_eq_true rfl) rfl dX6_walksOn_5 (fun u1 A1 hc1 => ?_)
  refine r_top hc1.1 ?_
  refine r_eqA hc1.2 ?_
  clear hc1 A1 u1
  refine r_top hp.1 ?_
  refine r_irem (pc := 8) C dX6_walksOn_8 (nI_nz (by omega) (by omega)) ?_
  refine r_top (nI_rem (by omega) (by omega) (by omega)) ?_
  refine r_if_ne (pc := 9) (tgt := 16) C dX6_walksOn_9 (by decide) (fun b9 => ?_) (fun b9 => ?_)
  · skip
    have b9 := (not_congr (nI_eq0 (by omega))).mp b9
    refine r_iconst (pc := 16) C dX6_walksOn_16 ci_0 ?_
    refine r_iret (pc := 17) C E nar_0 (Nat.le_refl _) (Nat.le_refl _) dX6_walksOn_17 ?_
    first | exact ⟨bI_1 ‹_›, rfl⟩ | exact ⟨bI_00 ‹_›, rfl⟩
  · skip
    have b9 := (nI_eq0 (by omega)).mp b9
    refine r_iconst (pc := 12) C dX6_walksOn_12 ci_1 ?_
    refine r_goto (pc := 13) (tgt := 17) C dX6_walksOn_13 (by decide) ?_
    refine r_iret (pc := 17) C E nar_1 (Nat.le_refl _) (Nat.le_refl _) dX6_walksOn_17 ?_
    first | exact ⟨bI_1 ‹_›, rfl⟩ | exact ⟨bI_00 ‹_›, rfl⟩
set_option maxHeartbeats 4000000 in
theorem m_dayOnce {g : GZ} {A : HA} {t : Nat} {σ κ π τ : Nat → Int32} (hT : Tw A t) (hW : RowW σ) (hy : ways σ) (hd : rD σ < 1200) : Ct g wV yX6_dayOnce (.code yX6_dayOnce cX6_dayOnce 3 (Option.none : Option Jvm.ClassFile.FieldType)) 8 0 0 [.ref t] (S5 A t σ κ π τ) (fun u A' => ∃ κ' π' m', A' = S5 A t (dayR σ) κ' π' (upd τ 10 m')) fw_no := by
  refine Ct.of [some (.ref t), none, none] (by decide) rfl rfl fun z C hx hnm E => ?_
  have k6 := hW.k6
  have hS := hW.s
  have hc80 := hS.c80
  have hgr := hW.gr
  have hgr1 := hW.gr1
  have hgr9 := hW.gr9
  have hm := Nat.mod_le (rD σ + 1) (rGr σ)
  refine r_iconst (pc := 0) C dX6_dayOnce_0 ci_0 ?_
  refine r_istore_1 (pc := 1) C dX6_dayOnce_1 rfl ?_
  have lp2_1 : ∀ (fu : Nat) (k : Nat) (κ1 π1 : Nat → Int32) (m1 : Int32) (hk : k ≤ rK σ), rK σ - k < fu → wa g z 0 0 (S5 A t (wkK σ k) κ1 π1 (upd τ 10 m1)) 2 [some (.ref t), some (.int (nI (k))), none] [] := by
    intro fu
    induction fu with
    | zero => intro k  κ1 π1  m1  hk hm2; exact absurd hm2 (Nat.not_lt_zero _)
    | succ fu ih2 =>
      intro k  κ1 π1  m1  hk hm2
      obtain ⟨hSm, hMv, hDd⟩ := wkK_keep hW hy k hk
      have hV := hW.same hSm hMv
      have hd9 := hW.d9
      refine r_iload_1 (pc := 2) C dX6_dayOnce_2 ?_
      refine r_aload_0 (pc := 3) C dX6_dayOnce_3 ?_
      refine r_getR (pc := 4) C fl_X6_7_6 (tw_g hT) rfl (tw_r1 hT) dX6_dayOnce_4 ?_
      refine r_iconst (pc := 7) C dX6_dayOnce_7 ci_1 ?_
      refine r_iald (pc := 8) C (tw_g1 hT) rfl rfl (lt_eq (by omega) (tw_n1 hT)) (by omega) dX6_dayOnce_8 ?_
      refine r_top (congrFun (S5_1 _ _ _ _ _ _) _) ?_
      refine r_top (hV.k.trans (congrArg nI hSm.k)) ?_
      refine r_icmp_ge (pc := 9) (tgt := 37) C dX6_dayOnce_9 (by decide) (fun b9 => ?_) (fun b9 => ?_)
      · skip
        have b9 := (nI_le2 (by omega) (by omega)).mp b9
        have e9 : k = rK σ := by omega
        subst e9
        have hG : ∀ c, c ≤ rC σ → Same σ (grK (isDay σ) (dy1 σ) c) ∧ Mov (grK (isDay σ) (dy1 σ) c) ∧ rD (grK (isDay σ) (dy1 σ) c) = rD σ := fun c hc => by
          obtain ⟨a1, a2, a3⟩ := grK_keep (b := isDay σ) hMv c (by omega)
          exact ⟨hSm.tr a1, a2, a3.trans hDd⟩
        refine r_aload_0 (pc := 37) C dX6_dayOnce_37 ?_
        refine r_getR (pc := 38) C fl_X6_7_6 (tw_g hT) rfl (tw_r1 hT) dX6_dayOnce_38 ?_
        refine r_iconst (pc := 41) C dX6_dayOnce_41 ci_3 ?_
        refine r_iald (pc := 42) C (tw_g1 hT) rfl rfl (lt_eq (by omega) (tw_n1 hT)) (by omega) dX6_dayOnce_42 ?_
        refine r_top (congrFun (S5_1 _ _ _ _ _ _) _) ?_
        refine r_top (hV.d.trans (congrArg nI hDd)) ?_
        refine r_iconst (pc := 43) C dX6_dayOnce_43 ci_1 ?_
        refine r_iadd (pc := 44) C dX6_dayOnce_44 ?_
        refine r_top (nI_add _ _) ?_
        refine r_aload_0 (pc := 45) C dX6_dayOnce_45 ?_
        refine r_getR (pc := 46) C fl_X6_7_6 (tw_g hT) rfl (tw_r1 hT) dX6_dayOnce_46 ?_
        refine r_bipush (pc := 49) C dX6_dayOnce_49 cb_6 ?_
        refine r_iald (pc := 51) C (tw_g1 hT) rfl rfl (lt_eq (by omega) (tw_n1 hT)) (by omega) dX6_dayOnce_51 ?_
        refine r_top (congrFun (S5_1 _ _ _ _ _ _) _) ?_
        refine r_top (hV.gr.trans (congrArg nI hSm.gr)) ?_
        refine r_irem (pc := 52) C dX6_dayOnce_52 (nI_nz (by omega) (by omega)) ?_
        refine r_top (nI_rem (by omega) (by omega) (by omega)) ?_
        refine r_if_ne (pc := 53) (tgt := 60) C dX6_dayOnce_53 (by decide) (fun b53 => ?_) (fun b53 => ?_)
        · skip
          have b53 := (not_congr (nI_eq0 (by omega))).mp b53
          have b53 : ¬ isDay σ := b53
          refine r_iconst (pc := 60) C dX6_dayOnce_60 ci_0 ?_
          refine r_istore_1 (pc := 61) C dX6_dayOnce_61 rfl ?_
          refine r_iconst (pc := 62) C dX6_dayOnce_62 ci_0 ?_
          refine r_istore_2 (pc := 63) C dX6_dayOnce_63 rfl ?_
          have lp64_2 : ∀ (fu : Nat) (c : Nat) (hc : c ≤ rC σ), rC σ - c < fu → wa g z 0 0 (S5 A t (grK (isDay σ) (dy1 σ) c) κ1 π1 (upd τ 10 m1)) 64 [some (.ref t), some (.int (bI (isDay σ))), some (.int (nI (c)))] [] := by
            intro fu
            induction fu with
            | zero => intro c  hc hm64; exact absurd hm64 (Nat.not_lt_zero _)
            | succ fu ih64 =>
              intro c  hc hm64
              obtain ⟨hSm, hMv, hDd⟩ := hG c hc
              have hV := hW.same hSm hMv
              refine r_iload_2 (pc := 64) C dX6_dayOnce_64 ?_
              refine r_aload_0 (pc := 65) C dX6_dayOnce_65 ?_
              refine r_V0io (pc := 66) C (m_cells (by exact hT) (S5_1 _ _ _ _ _ _) hV.s) vl_X6_117 (tw_g hT) (by decide) (Nat.le_refl _) (Nat.le_refl _) (Nat.le_of_ble_eq_true rfl) rfl dX6_dayOnce_66 (fun u3 A3 hc3 => ?_)
              refine r_top hc3.1 ?_
              refine r_eqA hc3.2 ?_
              clear hc3 A3 u3
              refine r_top (congrArg nI hSm.c) ?_
              refine r_icmp_ge (pc := 69) (tgt := 92) C dX6_dayOnce_69 (by decide) (fun b69 => ?_) (fun b69 => ?_)
              · skip
                have b69 := (nI_le2 (by omega) (by omega)).mp b69
                have e9 : c = rC σ := by omega
                subst e9
                refine r_aload_0 (pc := 92) C dX6_dayOnce_92 ?_
                refine r_bipush (pc := 93) C dX6_dayOnce_93 cb_8 ?_
                refine r_aload_0 (pc := 95) C dX6_dayOnce_95 ?_
                refine r_aload_0 (pc := 96) C dX6_dayOnce_96 ?_
                refine r_getR (pc := 97) C fl_X6_7_6 (tw_g hT) rfl (tw_r1 hT) dX6_dayOnce_97 ?_
                refine r_iconst (pc := 100) C dX6_dayOnce_100 ci_3 ?_
                refine r_iald (pc := 101) C (tw_g1 hT) rfl rfl (lt_eq (by omega) (tw_n1 hT)) (by omega) dX6_dayOnce_101 ?_
                refine r_top (congrFun (S5_1 _ _ _ _ _ _) _) ?_
                refine r_top (hV.d.trans (congrArg nI hDd)) ?_
                refine r_V1io (pc := 102) C (m_isWetDay (by exact hT) (S5_1 _ _ _ _ _ _) hV.wt hV.wt9) vl_X6_100 (tw_g hT) (by decide) (Nat.le_refl _) (Nat.le_refl _) (Nat.le_of_ble_eq_true rfl) rfl dX6_dayOnce_102 (fun u4 A4 hc4 => ?_)
                refine r_top hc4.1 ?_
                refine r_eqA hc4.2 ?_
                clear hc4 A4 u4
                refine r_top (bI_iff (by unfold wetD wetB; rw [hSm.wt])) ?_
                refine r_S1io (pc := 105) C m_truth sl_X6_130 (by decide) (Nat.le_refl _) (Nat.le_refl _) (Nat.le_of_ble_eq_true rfl) rfl dX6_dayOnce_105 (fun u5 A5 hc5 => ?_)
                refine r_top hc5.1 ?_
                refine r_eqA hc5.2 ?_
                clear hc5 A5 u5
                refine r_V2vo (pc := 108) C (m_grows (by exact hT) (S5_1 _ _ _ _ _ _)) vl_X6_143 (tw_g hT) (by decide) (Nat.le_refl _) (Nat.le_refl _) (Nat.le_of_ble_eq_true rfl) rfl dX6_dayOnce_108 (fun u6 A6 hc6 => ?_)
                refine r_eqA hc6 ?_
                clear hc6 A6 u6
                refine r_eqA (S5_w1 _ _ _ _ _ _ _) ?_
                refine r_aload_0 (pc := 111) C dX6_dayOnce_111 ?_
                refine r_getR (pc := 112) C fl_X6_7_6 (tw_g hT) rfl (tw_r1 hT) dX6_dayOnce_112 ?_
                refine r_iconst (pc := 115) C dX6_dayOnce_115 ci_3 ?_
                refine r_dup2 (pc := 116) C dX6_dayOnce_116 rfl rfl ?_
                refine r_iald (pc := 117) C (tw_g1 hT) rfl rfl (lt_eq (by omega) (tw_n1 hT)) (by omega) dX6_dayOnce_117 ?_
                refine r_top (congrFun (S5_1 _ _ _ _ _ _) _) ?_
                refine r_top ((pk_un (by omega)).trans (hV.d.trans (congrArg nI hDd))) ?_
                refine r_iconst (pc := 118) C dX6_dayOnce_118 ci_1 ?_
                refine r_iadd (pc := 119) C dX6_dayOnce_119 ?_
                refine r_top (nI_add _ _) ?_
                refine r_iast (pc := 120) C (tw_g1 hT) rfl rfl (lt_eq (by omega) (tw_n1 hT)) (by omega) dX6_dayOnce_120 ?_
                refine r_eqA (S5_u1 _ _ _ _ _ _ _ _) ?_
                refine r_vret (pc := 121) C E (Nat.le_refl _) (Nat.le_refl _) dX6_dayOnce_121 ?_
                exact ⟨_, _, _, rfl⟩
              · skip
                have b69 := (not_congr (nI_le2 (by omega) (by omega))).mp b69
                refine r_aload_0 (pc := 72) C dX6_dayOnce_72 ?_
                refine r_iload_2 (pc := 73) C dX6_dayOnce_73 ?_
                refine r_V1io (pc := 74) C (m_isGrass (by exact hT) (S5_1 _ _ _ _ _ _)) vl_X6_93 (tw_g hT) (by decide) (Nat.le_refl _) (Nat.le_refl _) (Nat.le_of_ble_eq_true rfl) rfl dX6_dayOnce_74 (fun u7 A7 hc7 => ?_)
                refine r_top hc7.1 ?_
                refine r_eqA hc7.2 ?_
                clear hc7 A7 u7
                refine r_if_eq (pc := 77) (tgt := 86) C dX6_dayOnce_77 (by decide) (fun b77 => ?_) (fun b77 => ?_)
                · skip
                  have b77 := bI_0.mp b77
                  refine r_iinc_2 (pc := 86) C dX6_dayOnce_86 (nI_inc _) rfl ?_
                  refine r_goto (pc := 89) (tgt := 64) C dX6_dayOnce_89 (by decide) ?_
                  first | rw [show growR (grK (isDay σ) (dy1 σ) c) c (isDay σ) = grK (isDay σ) (dy1 σ) (c + 1) from (if_pos (by assumption)).symm] | rw [show grK (isDay σ) (dy1 σ) c = grK (isDay σ) (dy1 σ) (c + 1) from (if_neg (by assumption)).symm]
                  exact ih64 (c + 1) (by omega) (by omega)
                · skip
                  have b77 := bI_n.mp b77
                  refine r_aload_0 (pc := 80) C dX6_dayOnce_80 ?_
                  refine r_iload_2 (pc := 81) C dX6_dayOnce_81 ?_
                  refine r_iload_1 (pc := 82) C dX6_dayOnce_82 ?_
                  refine r_V2vo (pc := 83) C (m_growsCell (by exact hT) (p := isDay σ) (by omega)) vl_X6_163 (tw_g hT) (by decide) (Nat.le_refl _) (Nat.le_refl _) (Nat.le_of_ble_eq_true rfl) rfl dX6_dayOnce_83 (fun u8 A8 hc8 => ?_)
                  refine r_eqA hc8 ?_
                  clear hc8 A8 u8
                  refine r_iinc_2 (pc := 86) C dX6_dayOnce_86 (nI_inc _) rfl ?_
                  refine r_goto (pc := 89) (tgt := 64) C dX6_dayOnce_89 (by decide) ?_
                  first | rw [show growR (grK (isDay σ) (dy1 σ) c) c (isDay σ) = grK (isDay σ) (dy1 σ) (c + 1) from (if_pos (by assumption)).symm] | rw [show grK (isDay σ) (dy1 σ) c = grK (isDay σ) (dy1 σ) (c + 1) from (if_neg (by assumption)).symm]
                  exact ih64 (c + 1) (by omega) (by omega)
          show wa g z 0 0 (S5 A t (grK (isDay σ) (dy1 σ) 0) _ _ _) 64 _ _
          refine r_eqL (lv' := [some (.ref t), some (.int (bI (isDay σ))), some (.int (nI 0))]) (by first | rw [bI_t (by assumption), nI1] | rw [bI_f (by assumption), nI0]) ?_
          exact lp64_2 _ 0 (by omega) (Nat.lt_succ_self _)
        · skip
          have b53 := (nI_eq0 (by omega)).mp b53
          have b53 : isDay σ := b53
          refine r_iconst (pc := 56) C dX6_dayOnce_56 ci_1 ?_
          refine r_goto (pc := 57) (tgt := 61) C dX6_dayOnce_57 (by decide) ?_
          refine r_istore_1 (pc := 61) C dX6_dayOnce_61 rfl ?_
          refine r_iconst (pc := 62) C dX6_dayOnce_62 ci_0 ?_
          refine r_istore_2 (pc := 63) C dX6_dayOnce_63 rfl ?_
          have lp64_9 : ∀ (fu : Nat) (c : Nat) (hc : c ≤ rC σ), rC σ - c < fu → wa g z 0 0 (S5 A t (grK (isDay σ) (dy1 σ) c) κ1 π1 (upd τ 10 m1)) 64 [some (.ref t), some (.int (bI (isDay σ))), some (.int (nI (c)))] [] := by
            intro fu
            induction fu with
            | zero => intro c  hc hm64; exact absurd hm64 (Nat.not_lt_zero _)
            | succ fu ih64 =>
              intro c  hc hm64
              obtain ⟨hSm, hMv, hDd⟩ := hG c hc
              have hV := hW.same hSm hMv
              refine r_iload_2 (pc := 64) C dX6_dayOnce_64 ?_
              refine r_aload_0 (pc := 65) C dX6_dayOnce_65 ?_
              refine r_V0io (pc := 66) C (m_cells (by exact hT) (S5_1 _ _ _ _ _ _) hV.s) vl_X6_117 (tw_g hT) (by decide) (Nat.le_refl _) (Nat.le_refl _) (Nat.le_of_ble_eq_true rfl) rfl dX6_dayOnce_66 (fun u10 A10 hc10 => ?_)
              refine r_top hc10.1 ?_
              refine r_eqA hc10.2 ?_
              clear hc10 A10 u10
              refine r_top (congrArg nI hSm.c) ?_
              refine r_icmp_ge (pc := 69) (tgt := 92) C dX6_dayOnce_69 (by decide) (fun b69 => ?_) (fun b69 => ?_)
              · skip
                have b69 := (nI_le2 (by omega) (by omega)).mp b69
                have e9 : c = rC σ := by omega
                subst e9
                refine r_aload_0 (pc := 92) C dX6_dayOnce_92 ?_
                refine r_bipush (pc := 93) C dX6_dayOnce_93 cb_8 ?_
                refine r_aload_0 (pc := 95) C dX6_dayOnce_95 ?_
                refine r_aload_0 (pc := 96) C dX6_dayOnce_96 ?_
                refine r_getR (pc := 97) C fl_X6_7_6 (tw_g hT) rfl (tw_r1 hT) dX6_dayOnce_97 ?_
                refine r_iconst (pc := 100) C dX6_dayOnce_100 ci_3 ?_
                refine r_iald (pc := 101) C (tw_g1 hT) rfl rfl (lt_eq (by omega) (tw_n1 hT)) (by omega) dX6_dayOnce_101 ?_
                refine r_top (congrFun (S5_1 _ _ _ _ _ _) _) ?_
                refine r_top (hV.d.trans (congrArg nI hDd)) ?_
                refine r_V1io (pc := 102) C (m_isWetDay (by exact hT) (S5_1 _ _ _ _ _ _) hV.wt hV.wt9) vl_X6_100 (tw_g hT) (by decide) (Nat.le_refl _) (Nat.le_refl _) (Nat.le_of_ble_eq_true rfl) rfl dX6_dayOnce_102 (fun u11 A11 hc11 => ?_)
                refine r_top hc11.1 ?_
                refine r_eqA hc11.2 ?_
                clear hc11 A11 u11
                refine r_top (bI_iff (by unfold wetD wetB; rw [hSm.wt])) ?_
                refine r_S1io (pc := 105) C m_truth sl_X6_130 (by decide) (Nat.le_refl _) (Nat.le_refl _) (Nat.le_of_ble_eq_true rfl) rfl dX6_dayOnce_105 (fun u12 A12 hc12 => ?_)
                refine r_top hc12.1 ?_
                refine r_eqA hc12.2 ?_
                clear hc12 A12 u12
                refine r_V2vo (pc := 108) C (m_grows (by exact hT) (S5_1 _ _ _ _ _ _)) vl_X6_143 (tw_g hT) (by decide) (Nat.le_refl _) (Nat.le_refl _) (Nat.le_of_ble_eq_true rfl) rfl dX6_dayOnce_108 (fun u13 A13 hc13 => ?_)
                refine r_eqA hc13 ?_
                clear hc13 A13 u13
                refine r_eqA (S5_w1 _ _ _ _ _ _ _) ?_
                refine r_aload_0 (pc := 111) C dX6_dayOnce_111 ?_
                refine r_getR (pc := 112) C fl_X6_7_6 (tw_g hT) rfl (tw_r1 hT) dX6_dayOnce_112 ?_
                refine r_iconst (pc := 115) C dX6_dayOnce_115 ci_3 ?_
                refine r_dup2 (pc := 116) C dX6_dayOnce_116 rfl rfl ?_
                refine r_iald (pc := 117) C (tw_g1 hT) rfl rfl (lt_eq (by omega) (tw_n1 hT)) (by omega) dX6_dayOnce_117 ?_
                refine r_top (congrFun (S5_1 _ _ _ _ _ _) _) ?_
                refine r_top ((pk_un (by omega)).trans (hV.d.trans (congrArg nI hDd))) ?_
                refine r_iconst (pc := 118) C dX6_dayOnce_118 ci_1 ?_
                refine r_iadd (pc := 119) C dX6_dayOnce_119 ?_
                refine r_top (nI_add _ _) ?_
                refine r_iast (pc := 120) C (tw_g1 hT) rfl rfl (lt_eq (by omega) (tw_n1 hT)) (by omega) dX6_dayOnce_120 ?_
                refine r_eqA (S5_u1 _ _ _ _ _ _ _ _) ?_
                refine r_vret (pc := 121) C E (Nat.le_refl _) (Nat.le_refl _) dX6_dayOnce_121 ?_
                exact ⟨_, _, _, rfl⟩
              · skip
                have b69 := (not_congr (nI_le2 (by omega) (by omega))).mp b69
                refine r_aload_0 (pc := 72) C dX6_dayOnce_72 ?_
                refine r_iload_2 (pc := 73) C dX6_dayOnce_73 ?_
                refine r_V1io (pc := 74) C (m_isGrass (by exact hT) (S5_1 _ _ _ _ _ _)) vl_X6_93 (tw_g hT) (by decide) (Nat.le_refl _) (Nat.le_refl _) (Nat.le_of_ble_eq_true rfl) rfl dX6_dayOnce_74 (fun u14 A14 hc14 => ?_)
                refine r_top hc14.1 ?_
                refine r_eqA hc14.2 ?_
                clear hc14 A14 u14
                refine r_if_eq (pc := 77) (tgt := 86) C dX6_dayOnce_77 (by decide) (fun b77 => ?_) (fun b77 => ?_)
                · skip
                  have b77 := bI_0.mp b77
                  refine r_iinc_2 (pc := 86) C dX6_dayOnce_86 (nI_inc _) rfl ?_
                  refine r_goto (pc := 89) (tgt := 64) C dX6_dayOnce_89 (by decide) ?_
                  first | rw [show growR (grK (isDay σ) (dy1 σ) c) c (isDay σ) = grK (isDay σ) (dy1 σ) (c + 1) from (if_pos (by assumption)).symm] | rw [show grK (isDay σ) (dy1 σ) c = grK (isDay σ) (dy1 σ) (c + 1) from (if_neg (by assumption)).symm]
                  exact ih64 (c + 1) (by omega) (by omega)
                · skip
                  have b77 := bI_n.mp b77
                  refine r_aload_0 (pc := 80) C dX6_dayOnce_80 ?_
                  refine r_iload_2 (pc := 81) C dX6_dayOnce_81 ?_
                  refine r_iload_1 (pc := 82) C dX6_dayOnce_82 ?_
                  refine r_V2vo (pc := 83) C (m_growsCell (by exact hT) (p := isDay σ) (by omega)) vl_X6_163 (tw_g hT) (by decide) (Nat.le_refl _) (Nat.le_refl _) (Nat.le_of_ble_eq_true rfl) rfl dX6_dayOnce_83 (fun u15 A15 hc15 => ?_)
                  refine r_eqA hc15 ?_
                  clear hc15 A15 u15
                  refine r_iinc_2 (pc := 86) C dX6_dayOnce_86 (nI_inc _) rfl ?_
                  refine r_goto (pc := 89) (tgt := 64) C dX6_dayOnce_89 (by decide) ?_
                  first | rw [show growR (grK (isDay σ) (dy1 σ) c) c (isDay σ) = grK (isDay σ) (dy1 σ) (c + 1) from (if_pos (by assumption)).symm] | rw [show grK (isDay σ) (dy1 σ) c = grK (isDay σ) (dy1 σ) (c + 1) from (if_neg (by assumption)).symm]
                  exact ih64 (c + 1) (by omega) (by omega)
          show wa g z 0 0 (S5 A t (grK (isDay σ) (dy1 σ) 0) _ _ _) 64 _ _
          refine r_eqL (lv' := [some (.ref t), some (.int (bI (isDay σ))), some (.int (nI 0))]) (by first | rw [bI_t (by assumption), nI1] | rw [bI_f (by assumption), nI0]) ?_
          exact lp64_9 _ 0 (by omega) (Nat.lt_succ_self _)
      · skip
        have b9 := (not_congr (nI_le2 (by omega) (by omega))).mp b9
        have hk2 : k < rK σ := by omega
        have hwy := (ways_k hW hy hk2).2.2.2
        refine r_aload_0 (pc := 12) C dX6_dayOnce_12 ?_
        refine r_iload_1 (pc := 13) C dX6_dayOnce_13 ?_
        refine r_aload_0 (pc := 14) C dX6_dayOnce_14 ?_
        refine r_getR (pc := 15) C fl_X6_7_6 (tw_g hT) rfl (tw_r1 hT) dX6_dayOnce_15 ?_
        refine r_iconst (pc := 18) C dX6_dayOnce_18 ci_3 ?_
        refine r_iald (pc := 19) C (tw_g1 hT) rfl rfl (lt_eq (by omega) (tw_n1 hT)) (by omega) dX6_dayOnce_19 ?_
        refine r_top (congrFun (S5_1 _ _ _ _ _ _) _) ?_
        refine r_top (hV.d.trans (congrArg nI hDd)) ?_
        refine r_V2io (pc := 20) C (m_walksOn (by exact hT) (hV.K (by rw [hSm.k]; exact hk2)) (by omega) (by omega)) vl_X6_157 (tw_g hT) (by decide) (Nat.le_refl _) (Nat.le_refl _) (Nat.le_of_ble_eq_true rfl) rfl dX6_dayOnce_20 (fun u16 A16 hc16 => ?_)
        refine r_top hc16.1 ?_
        refine r_eqA hc16.2 ?_
        clear hc16 A16 u16
        have hpd : wPd (wkK σ k) k = wPd σ k := hSm.pd (by omega)
        refine r_top (by rw [hpd]) ?_
        refine r_if_eq (pc := 23) (tgt := 31) C dX6_dayOnce_23 (by decide) (fun b23 => ?_) (fun b23 => ?_)
        · skip
          have b23 := bI_0.mp b23
          refine r_iinc_1 (pc := 31) C dX6_dayOnce_31 (nI_inc _) rfl ?_
          refine r_goto (pc := 34) (tgt := 2) C dX6_dayOnce_34 (by decide) ?_
          first | rw [show walkR (wkK σ k) k = wkK σ (k + 1) from (if_pos (by assumption)).symm] | rw [show wkK σ k = wkK σ (k + 1) from (if_neg (by assumption)).symm]
          exact ih2 (k + 1) _ _ _ (by omega) (by omega)
        · skip
          have b23 := bI_n.mp b23
          refine r_aload_0 (pc := 26) C dX6_dayOnce_26 ?_
          refine r_iload_1 (pc := 27) C dX6_dayOnce_27 ?_
          refine r_V1vo (pc := 28) C (m_walks (by exact hT) hV (by rw [hSm.k]; exact hk2) hwy) vl_X6_160 (tw_g hT) (by decide) (Nat.le_refl _) (Nat.le_refl _) (Nat.le_of_ble_eq_true rfl) rfl dX6_dayOnce_28 (fun u17 A17 hc17 => ?_)
          obtain ⟨κL, πL, eA⟩ := hc17
          refine r_eqA eA ?_
          rw [bx_upd]
          clear eA A17 u17
          refine r_iinc_1 (pc := 31) C dX6_dayOnce_31 (nI_inc _) rfl ?_
          refine r_goto (pc := 34) (tgt := 2) C dX6_dayOnce_34 (by decide) ?_
          first | rw [show walkR (wkK σ k) k = wkK σ (k + 1) from (if_pos (by assumption)).symm] | rw [show wkK σ k = wkK σ (k + 1) from (if_neg (by assumption)).symm]
          exact ih2 (k + 1) _ _ _ (by omega) (by omega)
  rw [show S5 A t σ κ π τ = S5 A t (wkK σ 0) κ π (upd τ 10 (τ 10)) by rw [upd_10]; rfl]
  exact lp2_1 _ 0 κ π (τ 10) (by omega) (Nat.lt_succ_self _)
set_option maxHeartbeats 4000000 in
theorem m_goBy {g : GZ} {A : HA} {t : Nat} {σ κ π τ : Nat → Int32} (hT : Tw A t) {n : Nat} (hW : RowW σ) (hy : ways σ) (hd : rD σ + n ≤ 1200) : Ct g wV yX6_goBy (.code yX6_goBy cX6_goBy 3 (Option.none : Option Jvm.ClassFile.FieldType)) 9 0 0 [.ref t, .int (nI (n))] (S5 A t σ κ π τ) (fun u A' => ∃ κ' π' m', A' = S5 A t (daysR σ n) κ' π' (upd τ 10 m')) fw_no := by
  refine Ct.of [some (.ref t), some (.int (nI (n))), none] (by decide) rfl rfl fun z C hx hnm E => ?_
  refine r_iconst (pc := 0) C dX6_goBy_0 ci_0 ?_
  refine r_istore_2 (pc := 1) C dX6_goBy_1 rfl ?_
  have lp2_1 : ∀ (fu : Nat) (k : Nat) (κ1 π1 : Nat → Int32) (m1 : Int32) (hk : k ≤ n), n - k < fu → wa g z 0 0 (S5 A t (daysR σ k) κ1 π1 (upd τ 10 m1)) 2 [some (.ref t), some (.int (nI (n))), some (.int (nI (k)))] [] := by
    intro fu
    induction fu with
    | zero => intro k  κ1 π1  m1  hk hm2; exact absurd hm2 (Nat.not_lt_zero _)
    | succ fu ih2 =>
      intro k  κ1 π1  m1  hk hm2
      obtain ⟨hSm, hMv, hDd⟩ := daysR_keep hW hy k (by omega)
      have hV := hW.same hSm hMv
      refine r_iload_2 (pc := 2) C dX6_goBy_2 ?_
      refine r_iload_1 (pc := 3) C dX6_goBy_3 ?_
      refine r_icmp_ge (pc := 4) (tgt := 17) C dX6_goBy_4 (by decide) (fun b4 => ?_) (fun b4 => ?_)
      · skip
        have b4 := (nI_le2 (by omega) (by omega)).mp b4
        refine r_vret (pc := 17) C E (Nat.le_refl _) (Nat.le_refl _) dX6_goBy_17 ?_
        have e9 : k = n := by omega
        subst e9
        exact ⟨_, _, _, rfl⟩
      · skip
        have b4 := (not_congr (nI_le2 (by omega) (by omega))).mp b4
        refine r_aload_0 (pc := 7) C dX6_goBy_7 ?_
        refine r_V0vo (pc := 8) C (m_dayOnce (by exact hT) hV (ways_all hW hV hSm hy) (by omega)) vl_X6_167 (tw_g hT) (by decide) (Nat.le_refl _) (Nat.le_refl _) (Nat.le_of_ble_eq_true rfl) rfl dX6_goBy_8 (fun u2 A2 hc2 => ?_)
        obtain ⟨κL, πL, mL, eA⟩ := hc2
        refine r_eqA (eA.trans (by rw [bx_upd])) ?_
        clear eA A2 u2
        refine r_iinc_2 (pc := 11) C dX6_goBy_11 (nI_inc _) rfl ?_
        refine r_goto (pc := 14) (tgt := 2) C dX6_goBy_14 (by decide) ?_
        exact ih2 (k + 1) _ _ _ (by omega) (by omega)
  rw [show S5 A t σ κ π τ = S5 A t (daysR σ 0) κ π (upd τ 10 (τ 10)) by rw [upd_10]; rfl]
  exact lp2_1 _ 0 κ π (τ 10) (by omega) (Nat.lt_succ_self _)
