/-! THE REFERENCE, 13: reasons, balances -/
set_option maxRecDepth 100000
theorem bx_upd0 {τ : Rw} {a b : Int32} : upd (upd τ 6 a) 6 b = upd τ 6 b := bx_upd _ _ _ _
theorem sinceR_m1 {n : Nat} : pick 0 (nI n) (nI n) (nI n) = nI n := rfl
theorem pick0 {a b c : Int32} {d : Nat} (h : d = 0) : pick d a b c = a := if_pos h
theorem pick1 {a b c : Int32} {d : Nat} (h : ¬ d = 0) (h1 : d = 1) : pick d a b c = b := by unfold pick; rw [if_neg h, if_pos h1]
theorem pick2 {a b c : Int32} {d : Nat} (h : ¬ d = 0) (h1 : ¬ d = 1) : pick d a b c = c := by unfold pick; rw [if_neg h, if_neg h1]
theorem dist_m {σ : Rw} (hW : RowW σ) {w m c : Nat} {f : Nat → Nat} (hSol : Sol σ w m f) (hc : c < rC σ) (hf : ∀ j, j < 80 → f j ≤ 1000000) : nI (f c) = nI (dist σ w m c) ∧ dist σ w m c ≤ 1000000 := by
  have e := dist_eq hW hSol hc
  have hc80 := hW.s.c80
  rw [e]
  exact ⟨rfl, hf _ (by omega)⟩
theorem oI_m1 {o : Option Nat} {n : Nat} (h : ∀ k, o = some k → k < 1000) : oI o = -1 ↔ o = none := by
  cases o with
  | none => exact ⟨fun _ => rfl, fun _ => rfl⟩
  | some k => exact ⟨fun q => absurd q (nI_m1 (by have := h k rfl; omega)), fun q => by cases q⟩
set_option maxHeartbeats 4000000 in
theorem m_whyWay {g : GZ} {A : HA} {t : Nat} {σ κ π τ : Nat → Int32} (hT : Tw A t) {w d : Nat} (hW : RowW σ) (hy : ways σ) (hw : w < rK σ) (hd : d ≤ 2) : Ct g wI yX6_whyWay (.code yX6_whyWay cX6_whyWay 7 (Option.some Jvm.ClassFile.FieldType.int)) 7 0 0 [.ref t, .int (nI (w)), .int (nI (d))] (S5 A t σ κ π τ) (fun u A' => (∃ κ' π' m', A' = S5 A t σ κ' π' (upd τ 10 m')) ∧ u = whyA σ w d) fw_no := by
  refine Ct.of [some (.ref t), some (.int (nI (w))), some (.int (nI (d))), none, none, none, none] (by decide) rfl rfl fun z C hx hnm E => ?_
  have hS := hW.s
  have hc80 := hS.c80
  have k6 := hW.k6
  have hcf := gC_lt hS (hW.G (hW.K hw).1.2)
  have hwf := wy_facts hW hw (hy _ hw)
  have hlt := hy _ hw
  have hdl := dist_le hW hcf hlt
  have hT10 : (upd τ 10 (nI (wl σ w + 1))) 10 = nI (wl σ w + 1) := pk_us
  have hgl := smb_le (f := fun i => decide (σ (153 + 5 * wy σ w i + 0) = 0)) (wl σ w + 1)
  refine r_aload_0 (pc := 0) C dX6_whyWay_0 ?_
  refine r_iload_1 (pc := 1) C dX6_whyWay_1 ?_
  refine r_iconst (pc := 2) C dX6_whyWay_2 ci_1 ?_
  refine r_V2io (pc := 3) C (m_laysCosts (by exact hT) (S5_1 _ _ _ _ _ _) hW hw (by omega)) vl_X6_124 (tw_g hT) (by decide) (Nat.le_refl _) (Nat.le_refl _) (Nat.le_of_ble_eq_true rfl) rfl dX6_whyWay_3 (fun u1 A1 hc1 => ?_)
  obtain ⟨fL, κL, eA, hκ, hSol, eu⟩ := hc1
  refine r_top eu ?_
  refine r_eqA (eA.trans (S5_w6 _ _ _ _ _ _ _)) ?_
  have h1m := dist_m hW hSol hcf (fun j hj => (hκ j hj).2)
  refine r_top h1m.1 ?_
  have h1m := h1m.2
  clear eu eA A1 u1 hSol hκ
  refine r_istore_3 (pc := 6) C dX6_whyWay_6 rfl ?_
  refine r_aload_0 (pc := 7) C dX6_whyWay_7 ?_
  refine r_iload_1 (pc := 8) C dX6_whyWay_8 ?_
  refine r_iconst (pc := 9) C dX6_whyWay_9 ci_2 ?_
  refine r_V2io (pc := 10) C (m_laysCosts (by exact hT) (S5_1 _ _ _ _ _ _) hW hw (by omega)) vl_X6_124 (tw_g hT) (by decide) (Nat.le_refl _) (Nat.le_refl _) (Nat.le_of_ble_eq_true rfl) rfl dX6_whyWay_10 (fun u2 A2 hc2 => ?_)
  obtain ⟨fL, κL, eA, hκ, hSol, eu⟩ := hc2
  refine r_top eu ?_
  refine r_eqA (eA.trans (S5_w6 _ _ _ _ _ _ _)) ?_
  have h2m := dist_m hW hSol hcf (fun j hj => (hκ j hj).2)
  refine r_top h2m.1 ?_
  have h2m := h2m.2
  clear eu eA A2 u2 hSol hκ
  refine r_istore_4 (pc := 13) C dX6_whyWay_13 rfl ?_
  refine r_aload_0 (pc := 15) C dX6_whyWay_15 ?_
  refine r_iload_1 (pc := 16) C dX6_whyWay_16 ?_
  refine r_V1io (pc := 17) C (m_laysWay (by exact hT) hW hw hlt) vl_X6_147 (tw_g hT) (by decide) (Nat.le_refl _) (Nat.le_refl _) (Nat.le_of_ble_eq_true rfl) rfl dX6_whyWay_17 (fun u3 A3 hc3 => ?_)
  obtain ⟨κL, πL, eA, hπL, eu⟩ := hc3
  refine r_top eu ?_
  refine r_eqA (eA.trans (by first | rw [bx_upd] | rfl)) ?_
  clear eu eA A3 u3
  refine r_istore_5 (pc := 20) C dX6_whyWay_20 rfl ?_
  refine r_aload_0 (pc := 22) C dX6_whyWay_22 ?_
  refine r_V0io (pc := 23) C (m_grassOnWay (y := wy σ w) (L := wl σ w) (by exact hT) (by omega) hT10 hπL (fun i hi => Nat.lt_of_lt_of_le (hwf.1 i hi) hc80)) vl_X6_423 (tw_g hT) (by decide) (Nat.le_refl _) (Nat.le_refl _) (Nat.le_of_ble_eq_true rfl) rfl dX6_whyWay_23 (fun u4 A4 hc4 => ?_)
  refine r_top hc4.1 ?_
  refine r_eqA hc4.2 ?_
  clear hc4 A4 u4
  refine r_istore_6 (pc := 26) C dX6_whyWay_26 rfl ?_
  refine r_iload_5 (pc := 28) C dX6_whyWay_28 ?_
  refine r_iload_3 (pc := 30) C dX6_whyWay_30 ?_
  refine r_icmp_le (pc := 31) (tgt := 59) C dX6_whyWay_31 (by decide) (fun b31 => ?_) (fun b31 => ?_)
  · skip
    have b31 := (nI_le2 (by omega) (by omega)).mp b31
    refine r_iload_6 (pc := 59) C dX6_whyWay_59 ?_
    refine r_if_ne (pc := 61) (tgt := 90) C dX6_whyWay_61 (by decide) (fun b61 => ?_) (fun b61 => ?_)
    · skip
      have b61 := (not_congr (nI_eq0 (by omega))).mp b61
      refine r_iload_2 (pc := 90) C dX6_whyWay_90 ?_
      refine r_if_ne (pc := 91) (tgt := 98) C dX6_whyWay_91 (by decide) (fun b91 => ?_) (fun b91 => ?_)
      · skip
        have b91 := (not_congr (nI_eq0 (by omega))).mp b91
        refine r_iload_2 (pc := 98) C dX6_whyWay_98 ?_
        refine r_iconst (pc := 99) C dX6_whyWay_99 ci_1 ?_
        refine r_icmp_ne (pc := 100) (tgt := 112) C dX6_whyWay_100 (by decide) (fun b100 => ?_) (fun b100 => ?_)
        · skip
          have b100 := (not_congr (nI_eqI (by omega) (by omega))).mp b100
          refine r_iload_4 (pc := 112) C dX6_whyWay_112 ?_
          refine r_ldc (pc := 114) (v := nI 1000000) C (by have h9 := q2423; rwa [show (1000000 : Int32) = nI 1000000 by decide +kernel] at h9) dX6_whyWay_114 ?_
          refine r_icmp_lt (pc := 116) (tgt := 125) C dX6_whyWay_116 (by decide) (fun b116 => ?_) (fun b116 => ?_)
          · skip
            have b116 := (nI_lt2 (by omega) (by omega)).mp b116
            refine r_sipush (pc := 125) C dX6_whyWay_125 cs_301 ?_
            refine r_iload_4 (pc := 128) C dX6_whyWay_128 ?_
            refine r_iadd (pc := 130) C dX6_whyWay_130 ?_
            refine r_top (nI_add _ _) ?_
            refine r_iload_5 (pc := 131) C dX6_whyWay_131 ?_
            refine r_isub (pc := 133) C dX6_whyWay_133 ?_
            refine r_iret (pc := 134) C E rfl (Nat.le_refl _) (Nat.le_refl _) dX6_whyWay_134 ?_
            refine ⟨⟨_, _, _, rfl⟩, ?_⟩
            unfold whyA
            rw [if_pos b31, if_neg b61]
            first
              | rw [if_pos b116]
              | rw [if_neg b116]
              | skip
            first
              | rw [pick0 (by assumption)]
              | rw [pick1 (by assumption) (by assumption)]
              | rw [pick2 (by assumption) (by assumption)]
          · skip
            have b116 := (not_congr (nI_lt2 (by omega) (by omega))).mp b116
            refine r_sipush (pc := 119) C dX6_whyWay_119 cs_300 ?_
            refine r_goto (pc := 122) (tgt := 134) C dX6_whyWay_122 (by decide) ?_
            refine r_iret (pc := 134) C E rfl (Nat.le_refl _) (Nat.le_refl _) dX6_whyWay_134 ?_
            refine ⟨⟨_, _, _, rfl⟩, ?_⟩
            unfold whyA
            rw [if_pos b31, if_neg b61]
            first
              | rw [if_pos b116]
              | rw [if_neg b116]
              | skip
            first
              | rw [pick0 (by assumption)]
              | rw [pick1 (by assumption) (by assumption)]
              | rw [pick2 (by assumption) (by assumption)]
        · skip
          have b100 := (nI_eqI (by omega) (by omega)).mp b100
          refine r_sipush (pc := 103) C dX6_whyWay_103 cs_201 ?_
          refine r_iload_6 (pc := 106) C dX6_whyWay_106 ?_
          refine r_iadd (pc := 108) C dX6_whyWay_108 ?_
          refine r_top (nI_add _ _) ?_
          refine r_goto (pc := 109) (tgt := 134) C dX6_whyWay_109 (by decide) ?_
          refine r_iret (pc := 134) C E rfl (Nat.le_refl _) (Nat.le_refl _) dX6_whyWay_134 ?_
          refine ⟨⟨_, _, _, rfl⟩, ?_⟩
          unfold whyA
          rw [if_pos b31, if_neg b61]
          first
            | rw [if_pos b116]
            | rw [if_neg b116]
            | skip
          first
            | rw [pick0 (by assumption)]
            | rw [pick1 (by assumption) (by assumption)]
            | rw [pick2 (by assumption) (by assumption)]
      · skip
        have b91 := (nI_eq0 (by omega)).mp b91
        refine r_iconst (pc := 94) C dX6_whyWay_94 ci_2 ?_
        refine r_goto (pc := 95) (tgt := 134) C dX6_whyWay_95 (by decide) ?_
        refine r_iret (pc := 134) C E rfl (Nat.le_refl _) (Nat.le_refl _) dX6_whyWay_134 ?_
        refine ⟨⟨_, _, _, rfl⟩, ?_⟩
        unfold whyA
        rw [if_pos b31, if_neg b61]
        first
          | rw [if_pos b116]
          | rw [if_neg b116]
          | skip
        first
          | rw [pick0 (by assumption)]
          | rw [pick1 (by assumption) (by assumption)]
          | rw [pick2 (by assumption) (by assumption)]
    · skip
      have b61 := (nI_eq0 (by omega)).mp b61
      refine r_iload_2 (pc := 64) C dX6_whyWay_64 ?_
      refine r_if_ne (pc := 65) (tgt := 72) C dX6_whyWay_65 (by decide) (fun b65 => ?_) (fun b65 => ?_)
      · skip
        have b65 := (not_congr (nI_eq0 (by omega))).mp b65
        refine r_iload_2 (pc := 72) C dX6_whyWay_72 ?_
        refine r_iconst (pc := 73) C dX6_whyWay_73 ci_1 ?_
        refine r_icmp_ne (pc := 74) (tgt := 88) C dX6_whyWay_74 (by decide) (fun b74 => ?_) (fun b74 => ?_)
        · skip
          have b74 := (not_congr (nI_eqI (by omega) (by omega))).mp b74
          refine r_iconst (pc := 88) C dX6_whyWay_88 ci_0 ?_
          refine r_iret (pc := 89) C E rfl (Nat.le_refl _) (Nat.le_refl _) dX6_whyWay_89 ?_
          refine ⟨⟨_, _, _, rfl⟩, ?_⟩
          unfold whyA
          rw [if_pos b31, if_pos b61]
          first
            | rw [pick0 (by assumption)]
            | rw [pick1 (by assumption) (by assumption)]
            | rw [pick2 (by assumption) (by assumption)]
        · skip
          have b74 := (nI_eqI (by omega) (by omega)).mp b74
          refine r_sipush (pc := 77) C dX6_whyWay_77 cs_400 ?_
          refine r_aload_0 (pc := 80) C dX6_whyWay_80 ?_
          refine r_getI (pc := 81) C fl_X6_127_6 (tw_g hT) rfl dX6_whyWay_81 ?_
          refine r_top (congrFun (S5_0 _ _ _ _ _ _) _) ?_
          refine r_top hT10 ?_
          refine r_iadd (pc := 84) C dX6_whyWay_84 ?_
          refine r_top (nI_add _ _) ?_
          refine r_goto (pc := 85) (tgt := 89) C dX6_whyWay_85 (by decide) ?_
          refine r_iret (pc := 89) C E rfl (Nat.le_refl _) (Nat.le_refl _) dX6_whyWay_89 ?_
          refine ⟨⟨_, _, _, rfl⟩, ?_⟩
          unfold whyA
          rw [if_pos b31, if_pos b61]
          first
            | rw [pick0 (by assumption)]
            | rw [pick1 (by assumption) (by assumption)]
            | rw [pick2 (by assumption) (by assumption)]
      · skip
        have b65 := (nI_eq0 (by omega)).mp b65
        refine r_iconst (pc := 68) C dX6_whyWay_68 ci_3 ?_
        refine r_goto (pc := 69) (tgt := 89) C dX6_whyWay_69 (by decide) ?_
        refine r_iret (pc := 89) C E rfl (Nat.le_refl _) (Nat.le_refl _) dX6_whyWay_89 ?_
        refine ⟨⟨_, _, _, rfl⟩, ?_⟩
        unfold whyA
        rw [if_pos b31, if_pos b61]
        first
          | rw [pick0 (by assumption)]
          | rw [pick1 (by assumption) (by assumption)]
          | rw [pick2 (by assumption) (by assumption)]
  · skip
    have b31 := (not_congr (nI_le2 (by omega) (by omega))).mp b31
    refine r_iload_2 (pc := 34) C dX6_whyWay_34 ?_
    refine r_if_ne (pc := 35) (tgt := 42) C dX6_whyWay_35 (by decide) (fun b35 => ?_) (fun b35 => ?_)
    · skip
      have b35 := (not_congr (nI_eq0 (by omega))).mp b35
      refine r_iload_2 (pc := 42) C dX6_whyWay_42 ?_
      refine r_iconst (pc := 43) C dX6_whyWay_43 ci_1 ?_
      refine r_icmp_ne (pc := 44) (tgt := 57) C dX6_whyWay_44 (by decide) (fun b44 => ?_) (fun b44 => ?_)
      · skip
        have b44 := (not_congr (nI_eqI (by omega) (by omega))).mp b44
        refine r_iconst (pc := 57) C dX6_whyWay_57 ci_0 ?_
        refine r_iret (pc := 58) C E rfl (Nat.le_refl _) (Nat.le_refl _) dX6_whyWay_58 ?_
        refine ⟨⟨_, _, _, rfl⟩, ?_⟩
        unfold whyA
        rw [if_neg b31]
        first
          | rw [pick0 (by assumption)]
          | rw [pick1 (by assumption) (by assumption)]
          | rw [pick2 (by assumption) (by assumption)]
      · skip
        have b44 := (nI_eqI (by omega) (by omega)).mp b44
        refine r_bipush (pc := 47) C dX6_whyWay_47 cb_101 ?_
        refine r_iload_5 (pc := 49) C dX6_whyWay_49 ?_
        refine r_iadd (pc := 51) C dX6_whyWay_51 ?_
        refine r_top (nI_add _ _) ?_
        refine r_iload_3 (pc := 52) C dX6_whyWay_52 ?_
        refine r_isub (pc := 53) C dX6_whyWay_53 ?_
        refine r_goto (pc := 54) (tgt := 58) C dX6_whyWay_54 (by decide) ?_
        refine r_iret (pc := 58) C E rfl (Nat.le_refl _) (Nat.le_refl _) dX6_whyWay_58 ?_
        refine ⟨⟨_, _, _, rfl⟩, ?_⟩
        unfold whyA
        rw [if_neg b31]
        first
          | rw [pick0 (by assumption)]
          | rw [pick1 (by assumption) (by assumption)]
          | rw [pick2 (by assumption) (by assumption)]
    · skip
      have b35 := (nI_eq0 (by omega)).mp b35
      refine r_iconst (pc := 38) C dX6_whyWay_38 ci_1 ?_
      refine r_goto (pc := 39) (tgt := 58) C dX6_whyWay_39 (by decide) ?_
      refine r_iret (pc := 58) C E rfl (Nat.le_refl _) (Nat.le_refl _) dX6_whyWay_58 ?_
      refine ⟨⟨_, _, _, rfl⟩, ?_⟩
      unfold whyA
      rw [if_neg b31]
      first
        | rw [pick0 (by assumption)]
        | rw [pick1 (by assumption) (by assumption)]
        | rw [pick2 (by assumption) (by assumption)]
