/-! THE REFERENCE, 23: the output text, written -/
set_option maxRecDepth 100000
set_option maxHeartbeats 4000000 in
theorem m_writeLawn {g : GZ} {A : HA} {t : Nat} {σ κ π τ : Nat → Int32} (hT : Tw A t) (hS : RowS σ) : Ct g wI yX6_writeLawn (.code yX6_writeLawn cX6_writeLawn 2 (Option.some Jvm.ClassFile.FieldType.int)) 4 0 0 [.ref t] (S5 A t σ κ π τ) (fun u A' => u = nI (wlS σ (A.I (t + 10)) (rC σ)).1 ∧ A' = S5 (A.sI (t + 10) (wlS σ (A.I (t + 10)) (rC σ)).2) t σ κ π (upd (upd τ 6 (nI 0)) 24 (nI (wlS σ (A.I (t + 10)) (rC σ)).1))) fw_no := by
  refine Ct.of [some (.ref t), none] (by decide) rfl rfl fun z C hx hnm E => ?_
  have hc80 := hS.c80
  have hw3 := hS.w3
  refine r_aload_0 (pc := 0) C dX6_writeLawn_0 ?_
  refine r_iconst (pc := 1) C dX6_writeLawn_1 ci_0 ?_
  refine r_putI (pc := 2) C fl_X6_61_6 (tw_g hT) rfl (fun _ _ _ h => by cases h; exact Or.inl rfl) rfl rfl rfl dX6_writeLawn_2 ?_
  refine r_eqA (S5_u0 _ _ _ _ _ _ _ _) ?_
  refine r_aload_0 (pc := 5) C dX6_writeLawn_5 ?_
  refine r_iconst (pc := 6) C dX6_writeLawn_6 ci_0 ?_
  refine r_putI (pc := 7) C fl_X6_473_6 (tw_g hT) rfl (fun _ _ _ h => by cases h; exact Or.inl rfl) rfl rfl rfl dX6_writeLawn_7 ?_
  refine r_eqA (S5_u0 _ _ _ _ _ _ _ _) ?_
  refine r_iconst (pc := 10) C dX6_writeLawn_10 ci_0 ?_
  refine r_istore_1 (pc := 11) C dX6_writeLawn_11 rfl ?_
  have lp12_1 : ∀ (fu : Nat) (k : Nat) (hk : k ≤ rC σ), rC σ - k < fu → wa g z 0 0 (S5 (A.sI (t + 10) (wlS σ (A.I (t + 10)) k).2) t σ κ π (upd (upd τ 6 (nI 0)) 24 (nI (wlS σ (A.I (t + 10)) k).1))) 12 [some (.ref t), some (.int (nI (k)))] [] := by
    intro fu
    induction fu with
    | zero => intro k  hk hm12; exact absurd hm12 (Nat.not_lt_zero _)
    | succ fu ih12 =>
      intro k  hk hm12
      have hlt := wlS_lt (o := (A.I (t + 10))) hS hk
      refine r_iload_1 (pc := 12) C dX6_writeLawn_12 ?_
      refine r_aload_0 (pc := 13) C dX6_writeLawn_13 ?_
      refine r_V0io (pc := 14) C (m_cells (by exact hT) (S5_1 _ _ _ _ _ _) hS) vl_X6_117 (tw_g hT) (by decide) (Nat.le_refl _) (Nat.le_refl _) (Nat.le_of_ble_eq_true rfl) rfl dX6_writeLawn_14 (fun u2 A2 hc2 => ?_)
      refine r_top hc2.1 ?_
      refine r_eqA hc2.2 ?_
      clear hc2 A2 u2
      refine r_icmp_ge (pc := 17) (tgt := 53) C dX6_writeLawn_17 (by decide) (fun b17 => ?_) (fun b17 => ?_)
      · skip
        have b17 := (nI_le2 (by omega) (by omega)).mp b17
        refine r_aload_0 (pc := 53) C dX6_writeLawn_53 ?_
        refine r_getI (pc := 54) C fl_X6_473_6 (tw_g hT) rfl dX6_writeLawn_54 ?_
        refine r_top (congrFun (S5_0 _ _ _ _ _ _) _) ?_
        refine r_top pk_us ?_
        refine r_iret (pc := 57) C E rfl (Nat.le_refl _) (Nat.le_refl _) dX6_writeLawn_57 ?_
        have e9 : k = rC σ := by omega
        subst e9
        exact ⟨rfl, rfl⟩
      · skip
        have b17 := (not_congr (nI_le2 (by omega) (by omega))).mp b17
        refine r_iload_1 (pc := 20) C dX6_writeLawn_20 ?_
        refine r_if_le (pc := 21) (tgt := 38) C dX6_writeLawn_21 (by decide) (fun b21 => ?_) (fun b21 => ?_)
        · skip
          have b21 := (nI_le0 (by omega)).mp b21
          refine r_aload_0 (pc := 38) C dX6_writeLawn_38 ?_
          refine r_aload_0 (pc := 39) C dX6_writeLawn_39 ?_
          refine r_iload_1 (pc := 40) C dX6_writeLawn_40 ?_
          refine r_V1io (pc := 41) C (m_markOf (by exact hT) (by first | assumption | omega)) vl_X6_479 (tw_g hT) (by decide) (Nat.le_refl _) (Nat.le_refl _) (Nat.le_of_ble_eq_true rfl) rfl dX6_writeLawn_41 (fun u3 A3 hc3 => ?_)
          refine r_top hc3.1 ?_
          refine r_eqA hc3.2 ?_
          clear hc3 A3 u3
          refine r_V1vo (pc := 44) C (m_writes (by exact hT) pk_us (by omega)) vl_X6_476 (tw_g hT) (by decide) (Nat.le_refl _) (Nat.le_refl _) (Nat.le_of_ble_eq_true rfl) rfl dX6_writeLawn_44 (fun u4 A4 hc4 => ?_)
          refine r_eqA (hc4.trans (by rw [sI_s, sI_sI, bx_upd])) ?_
          clear hc4 A4 u4
          refine r_iinc_1 (pc := 47) C dX6_writeLawn_47 (nI_inc _) rfl ?_
          refine r_goto (pc := 50) (tgt := 12) C dX6_writeLawn_50 (by decide) ?_
          first | rw [show S5 (A.sI (t + 10) (upd (upd (wlS σ (A.I (t + 10)) k).2 (wlS σ (A.I (t + 10)) k).1 (nI 47)) ((wlS σ (A.I (t + 10)) k).1 + 1) (markR σ k))) t σ κ π (upd (upd τ 6 (nI 0)) 24 (nI ((wlS σ (A.I (t + 10)) k).1 + 1 + 1))) = S5 (A.sI (t + 10) (wlS σ (A.I (t + 10)) (k + 1)).2) t σ κ π (upd (upd τ 6 (nI 0)) 24 (nI (wlS σ (A.I (t + 10)) (k + 1)).1)) from by rw [wlS_y ⟨by omega, by assumption⟩]] | rw [show S5 (A.sI (t + 10) (upd (wlS σ (A.I (t + 10)) k).2 (wlS σ (A.I (t + 10)) k).1 (markR σ k))) t σ κ π (upd (upd τ 6 (nI 0)) 24 (nI ((wlS σ (A.I (t + 10)) k).1 + 1))) = S5 (A.sI (t + 10) (wlS σ (A.I (t + 10)) (k + 1)).2) t σ κ π (upd (upd τ 6 (nI 0)) 24 (nI (wlS σ (A.I (t + 10)) (k + 1)).1)) from by rw [wlS_n (fun q => by first | exact absurd q.2 (by assumption) | omega)]]
          exact ih12 (k + 1) (by omega) (by omega)
        · skip
          have b21 := (not_congr (nI_le0 (by omega))).mp b21
          refine r_aload_0 (pc := 24) C dX6_writeLawn_24 ?_
          refine r_iload_1 (pc := 25) C dX6_writeLawn_25 ?_
          refine r_V1io (pc := 26) C (m_xOf (by exact hT) (S5_1 _ _ _ _ _ _) hS (by omega)) vl_X6_76 (tw_g hT) (by decide) (Nat.le_refl _) (Nat.le_refl _) (Nat.le_of_ble_eq_true rfl) rfl dX6_writeLawn_26 (fun u5 A5 hc5 => ?_)
          refine r_top hc5.1 ?_
          refine r_eqA hc5.2 ?_
          have hml := Nat.mod_le k (rW σ)
          clear hc5 A5 u5
          refine r_if_ne (pc := 29) (tgt := 38) C dX6_writeLawn_29 (by decide) (fun b29 => ?_) (fun b29 => ?_)
          · skip
            have b29 := (not_congr (nI_eq0 (by omega))).mp b29
            refine r_aload_0 (pc := 38) C dX6_writeLawn_38 ?_
            refine r_aload_0 (pc := 39) C dX6_writeLawn_39 ?_
            refine r_iload_1 (pc := 40) C dX6_writeLawn_40 ?_
            refine r_V1io (pc := 41) C (m_markOf (by exact hT) (by first | assumption | omega)) vl_X6_479 (tw_g hT) (by decide) (Nat.le_refl _) (Nat.le_refl _) (Nat.le_of_ble_eq_true rfl) rfl dX6_writeLawn_41 (fun u6 A6 hc6 => ?_)
            refine r_top hc6.1 ?_
            refine r_eqA hc6.2 ?_
            clear hc6 A6 u6
            refine r_V1vo (pc := 44) C (m_writes (by exact hT) pk_us (by omega)) vl_X6_476 (tw_g hT) (by decide) (Nat.le_refl _) (Nat.le_refl _) (Nat.le_of_ble_eq_true rfl) rfl dX6_writeLawn_44 (fun u7 A7 hc7 => ?_)
            refine r_eqA (hc7.trans (by rw [sI_s, sI_sI, bx_upd])) ?_
            clear hc7 A7 u7
            refine r_iinc_1 (pc := 47) C dX6_writeLawn_47 (nI_inc _) rfl ?_
            refine r_goto (pc := 50) (tgt := 12) C dX6_writeLawn_50 (by decide) ?_
            first | rw [show S5 (A.sI (t + 10) (upd (upd (wlS σ (A.I (t + 10)) k).2 (wlS σ (A.I (t + 10)) k).1 (nI 47)) ((wlS σ (A.I (t + 10)) k).1 + 1) (markR σ k))) t σ κ π (upd (upd τ 6 (nI 0)) 24 (nI ((wlS σ (A.I (t + 10)) k).1 + 1 + 1))) = S5 (A.sI (t + 10) (wlS σ (A.I (t + 10)) (k + 1)).2) t σ κ π (upd (upd τ 6 (nI 0)) 24 (nI (wlS σ (A.I (t + 10)) (k + 1)).1)) from by rw [wlS_y ⟨by omega, by assumption⟩]] | rw [show S5 (A.sI (t + 10) (upd (wlS σ (A.I (t + 10)) k).2 (wlS σ (A.I (t + 10)) k).1 (markR σ k))) t σ κ π (upd (upd τ 6 (nI 0)) 24 (nI ((wlS σ (A.I (t + 10)) k).1 + 1))) = S5 (A.sI (t + 10) (wlS σ (A.I (t + 10)) (k + 1)).2) t σ κ π (upd (upd τ 6 (nI 0)) 24 (nI (wlS σ (A.I (t + 10)) (k + 1)).1)) from by rw [wlS_n (fun q => by first | exact absurd q.2 (by assumption) | omega)]]
            exact ih12 (k + 1) (by omega) (by omega)
          · skip
            have b29 := (nI_eq0 (by omega)).mp b29
            refine r_aload_0 (pc := 32) C dX6_writeLawn_32 ?_
            refine r_bipush (pc := 33) C dX6_writeLawn_33 cb_47 ?_
            refine r_V1vo (pc := 35) C (m_writes (L := (wlS σ (A.I (t + 10)) k).1) (by exact hT) pk_us (by omega)) vl_X6_476 (tw_g hT) (by decide) (Nat.le_refl _) (Nat.le_refl _) (Nat.le_of_ble_eq_true rfl) rfl dX6_writeLawn_35 (fun u8 A8 hc8 => ?_)
            refine r_eqA (hc8.trans (by rw [sI_s, sI_sI, bx_upd])) ?_
            clear hc8 A8 u8
            refine r_aload_0 (pc := 38) C dX6_writeLawn_38 ?_
            refine r_aload_0 (pc := 39) C dX6_writeLawn_39 ?_
            refine r_iload_1 (pc := 40) C dX6_writeLawn_40 ?_
            refine r_V1io (pc := 41) C (m_markOf (by exact hT) (by first | assumption | omega)) vl_X6_479 (tw_g hT) (by decide) (Nat.le_refl _) (Nat.le_refl _) (Nat.le_of_ble_eq_true rfl) rfl dX6_writeLawn_41 (fun u9 A9 hc9 => ?_)
            refine r_top hc9.1 ?_
            refine r_eqA hc9.2 ?_
            clear hc9 A9 u9
            refine r_V1vo (pc := 44) C (m_writes (by exact hT) pk_us (by omega)) vl_X6_476 (tw_g hT) (by decide) (Nat.le_refl _) (Nat.le_refl _) (Nat.le_of_ble_eq_true rfl) rfl dX6_writeLawn_44 (fun u10 A10 hc10 => ?_)
            refine r_eqA (hc10.trans (by rw [sI_s, sI_sI, bx_upd])) ?_
            clear hc10 A10 u10
            refine r_iinc_1 (pc := 47) C dX6_writeLawn_47 (nI_inc _) rfl ?_
            refine r_goto (pc := 50) (tgt := 12) C dX6_writeLawn_50 (by decide) ?_
            first | rw [show S5 (A.sI (t + 10) (upd (upd (wlS σ (A.I (t + 10)) k).2 (wlS σ (A.I (t + 10)) k).1 (nI 47)) ((wlS σ (A.I (t + 10)) k).1 + 1) (markR σ k))) t σ κ π (upd (upd τ 6 (nI 0)) 24 (nI ((wlS σ (A.I (t + 10)) k).1 + 1 + 1))) = S5 (A.sI (t + 10) (wlS σ (A.I (t + 10)) (k + 1)).2) t σ κ π (upd (upd τ 6 (nI 0)) 24 (nI (wlS σ (A.I (t + 10)) (k + 1)).1)) from by rw [wlS_y ⟨by omega, by assumption⟩]] | rw [show S5 (A.sI (t + 10) (upd (wlS σ (A.I (t + 10)) k).2 (wlS σ (A.I (t + 10)) k).1 (markR σ k))) t σ κ π (upd (upd τ 6 (nI 0)) 24 (nI ((wlS σ (A.I (t + 10)) k).1 + 1))) = S5 (A.sI (t + 10) (wlS σ (A.I (t + 10)) (k + 1)).2) t σ κ π (upd (upd τ 6 (nI 0)) 24 (nI (wlS σ (A.I (t + 10)) (k + 1)).1)) from by rw [wlS_n (fun q => by first | exact absurd q.2 (by assumption) | omega)]]
            exact ih12 (k + 1) (by omega) (by omega)
  rw [show S5 A t σ κ π (upd (upd τ 6 (nI 0)) 24 (nI 0)) = S5 (A.sI (t + 10) (wlS σ (A.I (t + 10)) 0).2) t σ κ π (upd (upd τ 6 (nI 0)) 24 (nI (wlS σ (A.I (t + 10)) 0).1)) from by show _ = S5 (A.sI (t + 10) (A.I (t + 10))) t σ κ π _; rw [sI_self]; rfl]
  exact lp12_1 _ 0 (by omega) (Nat.lt_succ_self _)
set_option maxHeartbeats 4000000 in
theorem m_writeWay {g : GZ} {A : HA} {t : Nat} {σ κ π τ : Nat → Int32} (hT : Tw A t) {x : Int32} (hW : RowW σ) (hy : ways σ) : Ct g wI yX6_writeWay (.code yX6_writeWay cX6_writeWay 5 (Option.some Jvm.ClassFile.FieldType.int)) 7 0 0 [.ref t, .int x] (S5 A t σ κ π τ) (fun u A' => (inW σ x → u = nI (wl σ (nt x)) ∧ ∃ κ' π', A' = S5 (A.sI (t + 10) (wwS σ (nt x) (A.I (t + 10)) (wl σ (nt x)))) t σ κ' π' (upd (upd (upd τ 6 (nI 0)) 10 (nI (wl σ (nt x) + 1))) 24 (nI (wl σ (nt x))))) ∧ (¬ inW σ x → u = nI 0 ∧ A' = S5 A t σ κ π (upd τ 6 (nI 1)))) fw_no := by
  refine Ct.of [some (.ref t), some (.int x), none, none, none] (by decide) rfl rfl fun z C hx hnm E => ?_
  have hS := hW.s
  have hc80 := hS.c80
  have k6 := hW.k6
  have g6 := hW.g6
  have hc80 := hS.c80
  have hw10 := hS.w10
  have hh8 := hS.h8
  have hw3 := hS.w3
  refine r_aload_0 (pc := 0) C dX6_writeWay_0 ?_
  refine r_aload_0 (pc := 1) C dX6_writeWay_1 ?_
  refine r_iload_1 (pc := 2) C dX6_writeWay_2 ?_
  refine r_V1io (pc := 3) C (m_isWalker (by exact hT) (S5_1 _ _ _ _ _ _) hW.k k6) vl_X6_413 (tw_g hT) (by decide) (Nat.le_refl _) (Nat.le_refl _) (Nat.le_of_ble_eq_true rfl) rfl dX6_writeWay_3 (fun u1 A1 hc1 => ?_)
  refine r_top hc1.1 ?_
  refine r_eqA hc1.2 ?_
  clear hc1 A1 u1
  refine r_V1io (pc := 6) C (m_passes (by exact hT)) vl_X6_186 (tw_g hT) (by decide) (Nat.le_refl _) (Nat.le_refl _) (Nat.le_of_ble_eq_true rfl) rfl dX6_writeWay_6 (fun u2 A2 hc2 => ?_)
  refine r_top hc2.1 ?_
  refine r_eqA (hc2.2.trans (by rw [S5_0, S5_w0])) ?_
  clear hc2 A2 u2
  refine r_if_ne (pc := 9) (tgt := 14) C dX6_writeWay_9 (by decide) (fun b9 => ?_) (fun b9 => ?_)
  · skip
    have b9 := bI_n.mp b9
    have b99 := b9
    obtain ⟨w, hw, rfl⟩ := inZ_of b9 (by omega)
    have hwf := wy_facts hW hw (hy _ hw)
    refine r_aload_0 (pc := 14) C dX6_writeWay_14 ?_
    refine r_iload_1 (pc := 15) C dX6_writeWay_15 ?_
    refine r_V1io (pc := 16) C (m_laysWay (by exact hT) hW hw (hy _ hw)) vl_X6_147 (tw_g hT) (by decide) (Nat.le_refl _) (Nat.le_refl _) (Nat.le_of_ble_eq_true rfl) rfl dX6_writeWay_16 (fun u3 A3 hc3 => ?_)
    obtain ⟨κL, πL, eA, hπL, eu⟩ := hc3
    refine r_top eu ?_
    refine r_eqA (eA.trans (by first | rw [bx_upd] | rfl)) ?_
    clear eu eA A3 u3
    refine r_istore_2 (pc := 19) C dX6_writeWay_19 rfl ?_
    refine r_aload_0 (pc := 20) C dX6_writeWay_20 ?_
    refine r_iconst (pc := 21) C dX6_writeWay_21 ci_0 ?_
    refine r_putI (pc := 22) C fl_X6_473_6 (tw_g hT) rfl (fun _ _ _ h => by cases h; exact Or.inl rfl) rfl rfl rfl dX6_writeWay_22 ?_
    refine r_eqA (S5_u0 _ _ _ _ _ _ _ _) ?_
    refine r_iconst (pc := 25) C dX6_writeWay_25 ci_1 ?_
    refine r_istore_3 (pc := 26) C dX6_writeWay_26 rfl ?_
    have lp27_4 : ∀ (fu : Nat) (i : Nat) (hi : i ≤ wl σ w), wl σ w - i < fu → wa g z 0 0 (S5 (A.sI (t + 10) (wwS σ w (A.I (t + 10)) i)) t σ κL πL (upd (upd (upd τ 6 (bI (¬ inW σ (nI w)))) 10 (nI (wl σ w + 1))) 24 (nI i))) 27 [some (.ref t), some (.int (nI (w))), some (.int (nI (costR σ w 0))), some (.int (nI (i + 1))), none] [] := by
      intro fu
      induction fu with
      | zero => intro i  hi hm27; exact absurd hm27 (Nat.not_lt_zero _)
      | succ fu ih27 =>
        intro i  hi hm27
        refine r_iload_3 (pc := 27) C dX6_writeWay_27 ?_
        refine r_aload_0 (pc := 28) C dX6_writeWay_28 ?_
        refine r_getI (pc := 29) C fl_X6_127_6 (tw_g hT) rfl dX6_writeWay_29 ?_
        refine r_top (congrFun (S5_0 _ _ _ _ _ _) _) ?_
        refine r_top ((pk_un (by omega)).trans pk_us) ?_
        refine r_icmp_ge (pc := 32) (tgt := 82) C dX6_writeWay_32 (by decide) (fun b32 => ?_) (fun b32 => ?_)
        · skip
          have b32 := (nI_le2 (by omega) (by omega)).mp b32
          have e9 : i = wl σ w := by omega
          subst e9
          refine r_aload_0 (pc := 82) C dX6_writeWay_82 ?_
          refine r_getI (pc := 83) C fl_X6_473_6 (tw_g hT) rfl dX6_writeWay_83 ?_
          refine r_top (congrFun (S5_0 _ _ _ _ _ _) _) ?_
          refine r_top pk_us ?_
          refine r_iret (pc := 86) C E rfl (Nat.le_refl _) (Nat.le_refl _) dX6_writeWay_86 ?_
          refine ⟨fun _ => ?_, fun q => absurd b99 q⟩
          rw [nt_n (show w < 2147483648 by omega)]
          exact ⟨rfl, κL, πL, by rw [bI_f (fun q => q b99), ← nI0]⟩
        · skip
          have b32 := (not_congr (nI_le2 (by omega) (by omega))).mp b32
          have hi2 : i < wl σ w := by omega
          obtain ⟨s0, hs0, hs1⟩ := wy_dir hW hw (hy _ hw) hi2
          have htn := tnF_spec hs0 hs1
          have hy1 := hwf.1 i (by omega)
          have hy2 := hwf.1 (i + 1) (by omega)
          have hnb : ∀ s k, nb (rW σ) (rH σ) (wy σ w i) s = some k → k < 1000 := fun s k h => by have := nb_lt (show 0 < rW σ by omega) hy1 h; unfold rC at hc80; omega
          refine r_iconst (pc := 35) C dX6_writeWay_35 ci_0 ?_
          refine r_istore_4 (pc := 36) C dX6_writeWay_36 rfl ?_
          have lp38_5 : ∀ (fu : Nat) (s : Nat) (hs : s ≤ tnF σ (wy σ w i) (wy σ w (i + 1))), tnF σ (wy σ w i) (wy σ w (i + 1)) - s < fu → wa g z 0 0 (S5 (A.sI (t + 10) (wwS σ w (A.I (t + 10)) i)) t σ κL πL (upd (upd (upd τ 6 (bI (¬ inW σ (nI w)))) 10 (nI (wl σ w + 1))) 24 (nI i))) 38 [some (.ref t), some (.int (nI (w))), some (.int (nI (costR σ w 0))), some (.int (nI (i + 1))), some (.int (nI (s)))] [] := by
            intro fu
            induction fu with
            | zero => intro s  hs hm38; exact absurd hm38 (Nat.not_lt_zero _)
            | succ fu ih38 =>
              intro s  hs hm38
              have htn4 := htn.1
              refine r_aload_0 (pc := 38) C dX6_writeWay_38 ?_
              refine r_aload_0 (pc := 39) C dX6_writeWay_39 ?_
              refine r_getR (pc := 40) C fl_X6_28_6 (tw_g hT) rfl (tw_r7 hT) dX6_writeWay_40 ?_
              refine r_iload_3 (pc := 43) C dX6_writeWay_43 ?_
              refine r_iconst (pc := 44) C dX6_writeWay_44 ci_1 ?_
              refine r_isub (pc := 45) C dX6_writeWay_45 ?_
              refine r_top (pk_sub (by omega)) ?_
              refine r_iald (pc := 46) C (tw_g7 hT) rfl rfl (lt_eq (by omega) (tw_n7 hT)) (by omega) dX6_writeWay_46 ?_
              refine r_top (congrFun (S5_7 _ _ _ _ _ _) _) ?_
              refine r_top (hπL _ (by omega)) ?_
              refine r_iload_4 (pc := 47) C dX6_writeWay_47 ?_
              refine r_V2io (pc := 49) C (m_nextTo (by exact hT) (S5_1 _ _ _ _ _ _) hS (hwf.1 i (by omega)) (by omega)) vl_X6_106 (tw_g hT) (by decide) (Nat.le_refl _) (Nat.le_refl _) (Nat.le_of_ble_eq_true rfl) rfl dX6_writeWay_49 (fun u6 A6 hc6 => ?_)
              refine r_top hc6.1 ?_
              refine r_eqA hc6.2 ?_
              clear hc6 A6 u6
              refine r_aload_0 (pc := 52) C dX6_writeWay_52 ?_
              refine r_getR (pc := 53) C fl_X6_28_6 (tw_g hT) rfl (tw_r7 hT) dX6_writeWay_53 ?_
              refine r_iload_3 (pc := 56) C dX6_writeWay_56 ?_
              refine r_iald (pc := 57) C (tw_g7 hT) rfl rfl (lt_eq (by omega) (tw_n7 hT)) (by omega) dX6_writeWay_57 ?_
              refine r_top (congrFun (S5_7 _ _ _ _ _ _) _) ?_
              refine r_top (hπL _ (by omega)) ?_
              refine r_icmp_eq (pc := 58) (tgt := 67) C dX6_writeWay_58 (by decide) (fun b58 => ?_) (fun b58 => ?_)
              · skip
                have b58 := (oI_eq (by omega) (hnb s)).mp b58
                have e8 : s = tnF σ (wy σ w i) (wy σ w (i + 1)) := by
                  rcases Nat.lt_or_ge s (tnF σ (wy σ w i) (wy σ w (i + 1))) with q | q
                  · exact absurd b58 (htn.2.2 s q)
                  · omega
                subst e8
                refine r_aload_0 (pc := 67) C dX6_writeWay_67 ?_
                refine r_iload_4 (pc := 68) C dX6_writeWay_68 ?_
                refine r_S1io (pc := 70) C (m_letterOf (by first | assumption | omega)) sl_X6_482 (by decide) (Nat.le_refl _) (Nat.le_refl _) (Nat.le_of_ble_eq_true rfl) rfl dX6_writeWay_70 (fun u7 A7 hc7 => ?_)
                refine r_top hc7.1 ?_
                refine r_eqA hc7.2 ?_
                clear hc7 A7 u7
                refine r_V1vo (pc := 73) C (m_writes (L := i) (by exact hT) pk_us (by omega)) vl_X6_476 (tw_g hT) (by decide) (Nat.le_refl _) (Nat.le_refl _) (Nat.le_of_ble_eq_true rfl) rfl dX6_writeWay_73 (fun u8 A8 hc8 => ?_)
                refine r_eqA (hc8.trans (by rw [sI_s, sI_sI, bx_upd])) ?_
                clear hc8 A8 u8
                refine r_iinc_3 (pc := 76) C dX6_writeWay_76 (nI_inc _) rfl ?_
                refine r_goto (pc := 79) (tgt := 27) C dX6_writeWay_79 (by decide) ?_
                refine r_forget (lv' := [some _, some _, some _, some _, none]) ⟨rfl, rfl, rfl, rfl, trivial⟩ ?_
                exact ih27 (i + 1) (by omega) (by omega)
              · skip
                have b58 := fun q => b58 ((oI_eq (by omega) (hnb s)).mpr q)
                have hs3 : s < tnF σ (wy σ w i) (wy σ w (i + 1)) := by
                  rcases Nat.lt_or_ge s (tnF σ (wy σ w i) (wy σ w (i + 1))) with q | q
                  · exact q
                  · exact absurd (by rw [show s = tnF σ (wy σ w i) (wy σ w (i + 1)) by omega]; exact htn.2.1) b58
                refine r_iinc_4 (pc := 61) C dX6_writeWay_61 (nI_inc _) rfl ?_
                refine r_goto (pc := 64) (tgt := 38) C dX6_writeWay_64 (by decide) ?_
                exact ih38 (s + 1) (by omega) (by omega)
          exact lp38_5 _ 0 (by omega) (Nat.lt_succ_self _)
    rw [show S5 A t σ κL πL (upd (upd (upd τ 6 (bI (¬ inW σ (nI w)))) 10 (nI (wl σ w + 1))) 24 (nI 0)) = S5 (A.sI (t + 10) (wwS σ w (A.I (t + 10)) 0)) t σ κL πL (upd (upd (upd τ 6 (bI (¬ inW σ (nI w)))) 10 (nI (wl σ w + 1))) 24 (nI 0)) from by show _ = S5 (A.sI (t + 10) (A.I (t + 10))) t σ κL πL _; rw [sI_self]]
    exact lp27_4 _ 0 (by omega) (Nat.lt_succ_self _)
  · skip
    have b9 := bI_0.mp b9
    refine r_iconst (pc := 12) C dX6_writeWay_12 ci_0 ?_
    refine r_iret (pc := 13) C E rfl (Nat.le_refl _) (Nat.le_refl _) dX6_writeWay_13 ?_
    exact ⟨fun q => absurd q b9, fun _ => ⟨rfl, by rw [bI_t b9, nI1]⟩⟩
