/-! THE COMPONENT, 5: why, kept by, cells -/
set_option maxRecDepth 100000
theorem i_le {a b : Nat} (ha : a ≤ 1000000) (hb : b ≤ 1000000) : nI a - nI b ≤ 0 ↔ a ≤ b := by
  rw [Int32.le_iff_toInt_le, pk_sub_toInt (by omega) (by omega), show (0 : Int32).toInt = 0 by decide +kernel]
  omega
theorem i_as {a b c : Nat} : nI a + (nI b - nI c) = nI (a + b) - nI c := by
  rw [← nI_add, Int32.sub_eq_add_neg, Int32.sub_eq_add_neg, Int32.add_assoc]
theorem sw_out {x : Int32} {lo hi : Int} (h : ¬ inZ x lo hi) : x.toInt < lo ∨ hi < x.toInt := by
  unfold inZ at h
  omega
/-- thrown by the first or by the second check -/
def T2 (A A' : HA) (p q : Prop) (x : Nat) : Prop := (¬ p ∧ TX A A' Non 20 x) ∨ (p ∧ ¬ q ∧ TX A A' Non 19 x)
set_option maxHeartbeats 4000000 in
theorem c_waySteps {g : GZ} {A : HA} {c a : Nat} {d : Nat → Nat} {σ : Rw} (hc : (A.G c).1 = 1) (hn : A.R c 0 = some a) (hL : Ly A a d σ) (hv : Lv A.I a d σ) (hJ : RowJ σ) (hG : GdK g) (hIc : IcK g A) {x : Int32} : Ct g wI yX1_waySteps (.code yX1_waySteps cX1_waySteps 2 (Option.some Jvm.ClassFile.FieldType.int)) 10 3 12 [.ref c, .int x] (A) (fun u A' => inW σ x ∧ u = nI (wl σ (nt x)) ∧ Gs A A' d) (fun q A' => ¬ inW σ x ∧ TX A A' Non 20 q) := by
  refine Ct.of [some (.ref c), some (.int x)] (by decide) rfl rfl fun z C hx hnm E => ?_
  have hW := hJ.w
  have hS := hW.s
  have hw3 := hS.w3
  have hw10 := hS.w10
  have hh8 := hS.h8
  have hc80 := hS.c80
  have k6 := hW.k6
  have g6 := hW.g6
  have hC : ∀ c, c < 80 → CelF σ c := fun c hc => (hJ.c hc).fe
  have d9 := hW.d9
  refine r_aload_0 (pc := 0) C dX1_waySteps_0 ?_
  refine r_aload_0 (pc := 1) C dX1_waySteps_1 ?_
  refine r_iload_1 (pc := 2) C dX1_waySteps_2 ?_
  refine r_V1rx (pc := 3) C (c_walkerAt hc hn hL hv hJ) vl_X1_330 (by exact hc) (by decide) (by omega) (by omega) (Nat.le_of_ble_eq_true rfl) rfl dX1_waySteps_3 (fun q A9 hp hE => r_out C E (by rw [hx]; exact fun x h => nomatch h) hE.choose_spec (by omega) (by omega) (hp)) (fun u1 A1 hc1 => ?_)
  obtain ⟨hi1, eu1, eA1⟩ := hc1
  refine r_topR eu1 ?_
  refine r_eqA eA1 ?_
  clear eu1 eA1 A1 u1
  have b98 : inW σ x := by assumption
  have hkx : nt x < rK σ := by obtain ⟨k, hk, rfl⟩ := inZ_of (n := rK σ) b98 (by omega); rw [nt_n (by omega)]; exact hk
  refine r_V1i (pc := 6) C (c_stepsOf hc hn hL hv hJ hG hIc hkx) vl_X1_385 (by exact hc) (by decide) (by omega) (by omega) (Nat.le_of_ble_eq_true rfl) rfl dX1_waySteps_6 (fun u2 A2 hc2 => ?_)
  obtain ⟨eu2, hGs2⟩ := hc2
  refine r_top eu2 ?_
  refine r_iret (pc := 9) C E rfl (by omega) (by omega) dX1_waySteps_9 ?_
  exact ⟨b98, rfl, by assumption⟩
set_option maxHeartbeats 4000000 in
theorem c_why {g : GZ} {A : HA} {c a : Nat} {d : Nat → Nat} {σ : Rw} (hc : (A.G c).1 = 1) (hn : A.R c 0 = some a) (hL : Ly A a d σ) (hv : Lv A.I a d σ) (hJ : RowJ σ) (hG : GdK g) (hIc : IcK g A) {x w : Int32} : Ct g wI yX1_why (.code yX1_why cX1_why 8 (Option.some Jvm.ClassFile.FieldType.int)) 10 6 24 [.ref c, .int x, .int w] (A) (fun u A' => inW σ x ∧ inZ w 0 2 ∧ u = whyA σ (nt x) (nt w) ∧ Gs A A' d) (fun q A' => T2 A A' (inW σ x) (inZ w 0 2) q) := by
  refine Ct.of [some (.ref c), some (.int x), some (.int w), none, none, none, none, none] (by decide) rfl rfl fun z C hx hnm E => ?_
  have hW := hJ.w
  have hS := hW.s
  have hw3 := hS.w3
  have hw10 := hS.w10
  have hh8 := hS.h8
  have hc80 := hS.c80
  have k6 := hW.k6
  have g6 := hW.g6
  have hC : ∀ c, c < 80 → CelF σ c := fun c hc => (hJ.c hc).fe
  have d9 := hW.d9
  refine r_Z fun hZ => ?_
  have hcz := hZ.lt hc rfl
  refine r_aload_0 (pc := 0) C dX1_why_0 ?_
  refine r_iload_1 (pc := 1) C dX1_why_1 ?_
  refine r_V1rx (pc := 2) C (c_walkerAt hc hn hL hv hJ) vl_X1_330 (by exact hc) (by decide) (by omega) (by omega) (Nat.le_of_ble_eq_true rfl) rfl dX1_why_2 (fun q A9 hp hE => r_out C E (by rw [hx]; exact fun x h => nomatch h) hE.choose_spec (by omega) (by omega) (Or.inl hp)) (fun u1 A1 hc1 => ?_)
  obtain ⟨hi1, eu1, eA1⟩ := hc1
  refine r_topR eu1 ?_
  refine r_eqA eA1 ?_
  clear eu1 eA1 A1 u1
  have b98 : inW σ x := by assumption
  have hkx : nt x < rK σ := by obtain ⟨k, hk, rfl⟩ := inZ_of (n := rK σ) b98 (by omega); rw [nt_n (by omega)]; exact hk
  refine r_astore_3 (pc := 5) C dX1_why_5 rfl ?_
  refine r_iload_2 (pc := 6) C dX1_why_6 ?_
  refine r_i2l (pc := 7) C dX1_why_7 ?_
  refine r_lconst (pc := 8) (v := 0) C dX1_why_8 (by decide) ?_
  refine r_ldc2 (pc := 9) C q2062 dX1_why_9 ?_
  refine r_S3io (pc := 12) C (c_inZ (p := 0) (q := 2) (by decide) (by decide)) sl_X1_114 (by decide) (by omega) (by omega) (Nat.le_of_ble_eq_true rfl) rfl dX1_why_12 (fun u2 A2 hc2 => ?_)
  refine r_top hc2.1 ?_
  refine r_eqA hc2.2 ?_
  clear hc2 A2 u2
  refine r_S1vx (pc := 15) C (c_argument) sl_X1_118 (by decide) (by omega) (by omega) (Nat.le_of_ble_eq_true rfl) rfl dX1_why_15 (fun q A9 hp hE => r_out C E (by rw [hx]; exact fun x h => nomatch h) hE.choose_spec (by omega) (by omega) (Or.inr ⟨b98, hp.1, hp.2⟩)) (fun u3 A3 hc3 => ?_)
  obtain ⟨hp3, eA3⟩ := hc3
  refine r_eqA eA3 ?_
  clear eA3 A3 u3
  have b97 : inZ w 0 2 := by assumption
  obtain ⟨j, hj, rfl⟩ := inZ_of2 (n := 2) rfl b97 (by omega)
  have hd0 : costR σ (nt x) 0 ≤ 1000000 := (dist_S hW).1 _ (Nat.lt_of_lt_of_le (gC_lt hS (hW.G (hW.K hkx).1.2)) hc80)
  have hd1 : costR σ (nt x) 1 ≤ 1000000 := (dist_S hW).1 _ (Nat.lt_of_lt_of_le (gC_lt hS (hW.G (hW.K hkx).1.2)) hc80)
  have hd2 : costR σ (nt x) 2 ≤ 1000000 := (dist_S hW).1 _ (Nat.lt_of_lt_of_le (gC_lt hS (hW.G (hW.K hkx).1.2)) hc80)
  have hd9 : dist σ (nt x) 2 (gC σ (wFr σ (nt x))) ≤ 1000000 := hd2
  have hwf := wy_facts hW hkx (hJ.y _ hkx)
  have hgo := smb_le (f := fun i => decide (σ (153 + 5 * wy σ (nt x) i + 0) = 0)) (wl σ (nt x) + 1)
  have hgo : gOn σ (nt x) ≤ wl σ (nt x) + 1 := hgo
  refine r_aload_0 (pc := 18) C dX1_why_18 ?_
  refine r_aload_3 (pc := 19) C dX1_why_19 ?_
  refine r_V1io (pc := 20) C (c_dearer hc hn hL hv hJ hG hkx) vl_X1_397 (by exact hc) (by decide) (by omega) (by omega) (Nat.le_of_ble_eq_true rfl) rfl dX1_why_20 (fun u4 A4 hc4 => ?_)
  obtain ⟨eu4, κ4, μ4, eA4⟩ := hc4
  refine r_top eu4 ?_
  have hGs1 : Gs A A4 d := by rw [eA4]; exact Gs.FH
  clear eu4 u4 eA4
  generalize A4 = B1 at hGs1 ⊢
  have hLB1 := hGs1.ly hZ hL
  have hvB1 := hGs1.lv hZ hL hv
  have hIB1 := hGs1.ic hZ hL hIc
  have hcB1 : (B1.G c).1 = 1 := by rw [(hGs1.1.2 c hcz).1]; exact hc
  have hnB1 : B1.R c 0 = some a := by rw [hGs1.2 c hcz]; exact hn
  refine r_istore_4 (pc := 23) C dX1_why_23 rfl ?_
  refine r_iload_4 (pc := 25) C dX1_why_25 ?_
  refine r_if_le (pc := 27) (tgt := 42) C dX1_why_27 (by decide) (fun b27 => ?_) (fun b27 => ?_)
  · skip
    have b27 := (i_le hd0 hd1).mp b27
    refine r_aload_0 (pc := 42) C dX1_why_42 ?_
    refine r_aload_3 (pc := 43) C dX1_why_43 ?_
    refine r_V1i (pc := 44) C (c_grassOn hcB1 hnB1 hLB1 hvB1 hJ hG hIB1 hkx) vl_X1_404 (by rw [(hGs1.1.2 c hcz).1]; exact hc) (by decide) (by omega) (by omega) (Nat.le_of_ble_eq_true rfl) rfl dX1_why_44 (fun u5 A5 hc5 => ?_)
    obtain ⟨eu5, hGq5⟩ := hc5
    refine r_top eu5 ?_
    have hGs2 : Gs A A5 d := hGs1.tr hGq5
    clear eu5 u5 hGq5
    generalize A5 = B2 at hGs2 ⊢
    have hLB2 := hGs2.ly hZ hL
    have hvB2 := hGs2.lv hZ hL hv
    have hIB2 := hGs2.ic hZ hL hIc
    have hcB2 : (B2.G c).1 = 1 := by rw [(hGs2.1.2 c hcz).1]; exact hc
    have hnB2 : B2.R c 0 = some a := by rw [hGs2.2 c hcz]; exact hn
    refine r_istore_5 (pc := 47) C dX1_why_47 rfl ?_
    refine r_iload_5 (pc := 49) C dX1_why_49 ?_
    refine r_if_ne (pc := 51) (tgt := 70) C dX1_why_51 (by decide) (fun b51 => ?_) (fun b51 => ?_)
    · skip
      have b51 := (not_congr (nI_eq0 (by omega))).mp b51
      refine r_aload_0 (pc := 70) C dX1_why_70 ?_
      refine r_getR (pc := 71) C fl_X1_24_1 (by rw [(hGs2.1.2 c hcz).1]; exact hc) rfl (by rw [hGs2.2 c hcz]; exact hn) dX1_why_71 ?_
      refine r_aload_3 (pc := 74) C dX1_why_74 ?_
      refine r_getS (pc := 75) C (hG 0 (by omega)).1 q980 dX1_why_75 ?_
      refine r_V2io (pc := 78) C (l_tellsFar hLB2 hvB2 hW hC hJ.g hkx (by omega) (hG 0 (by omega)).2) vl_X1_381 (ly_g hLB2) (by decide) (by omega) (by omega) (Nat.le_of_ble_eq_true rfl) rfl dX1_why_78 (fun u6 A6 hc6 => ?_)
      obtain ⟨⟨f6, κ6, μ6, eA6, -, -, -⟩, eu6⟩ := hc6
      refine r_top eu6 ?_
      have hGs3 : Gs A A6 d := hGs2.tr (by rw [eA6]; exact Gs.FH)
      clear eu6 u6 eA6
      generalize A6 = B3 at hGs3 ⊢
      have hLB3 := hGs3.ly hZ hL
      have hvB3 := hGs3.lv hZ hL hv
      have hIB3 := hGs3.ic hZ hL hIc
      have hcB3 : (B3.G c).1 = 1 := by rw [(hGs3.1.2 c hcz).1]; exact hc
      have hnB3 : B3.R c 0 = some a := by rw [hGs3.2 c hcz]; exact hn
      refine r_istore_6 (pc := 81) C dX1_why_81 rfl ?_
      refine r_aload_0 (pc := 83) C dX1_why_83 ?_
      refine r_getR (pc := 84) C fl_X1_24_1 (by rw [(hGs3.1.2 c hcz).1]; exact hc) rfl (by rw [hGs3.2 c hcz]; exact hn) dX1_why_84 ?_
      refine r_aload_3 (pc := 87) C dX1_why_87 ?_
      refine r_getS (pc := 88) C (hG 2 (by omega)).1 q2076 dX1_why_88 ?_
      refine r_V2io (pc := 91) C (l_tellsFar hLB3 hvB3 hW hC hJ.g hkx (by omega) (hG 2 (by omega)).2) vl_X1_381 (ly_g hLB3) (by decide) (by omega) (by omega) (Nat.le_of_ble_eq_true rfl) rfl dX1_why_91 (fun u7 A7 hc7 => ?_)
      obtain ⟨⟨f7, κ7, μ7, eA7, -, -, -⟩, eu7⟩ := hc7
      refine r_top eu7 ?_
      have hGs4 : Gs A A7 d := hGs3.tr (by rw [eA7]; exact Gs.FH)
      clear eu7 u7 eA7
      generalize A7 = B4 at hGs4 ⊢
      have hLB4 := hGs4.ly hZ hL
      have hvB4 := hGs4.lv hZ hL hv
      have hIB4 := hGs4.ic hZ hL hIc
      have hcB4 : (B4.G c).1 = 1 := by rw [(hGs4.1.2 c hcz).1]; exact hc
      have hnB4 : B4.R c 0 = some a := by rw [hGs4.2 c hcz]; exact hn
      refine r_istore_7 (pc := 94) C dX1_why_94 rfl ?_
      refine r_iload_2 (pc := 96) C dX1_why_96 ?_
      refine r_iconst (pc := 97) C dX1_why_97 ci_2 ?_
      refine r_sipush (pc := 98) C dX1_why_98 cs_201 ?_
      refine r_iload_5 (pc := 101) C dX1_why_101 ?_
      refine r_iadd (pc := 103) C dX1_why_103 ?_
      refine r_top (nI_add _ _) ?_
      refine r_iload_7 (pc := 104) C dX1_why_104 ?_
      refine r_ldcwI (pc := 106) (v := nI 1000000) C (by have h9 := q1028; rwa [show (1000000 : Int32) = nI 1000000 by decide +kernel] at h9) dX1_why_106 ?_
      refine r_icmp_lt (pc := 109) (tgt := 118) C dX1_why_109 (by decide) (fun b109 => ?_) (fun b109 => ?_)
      · skip
        have b109 := (nI_lt2 (by omega) (by omega)).mp b109
        refine r_sipush (pc := 118) C dX1_why_118 cs_301 ?_
        refine r_iload_7 (pc := 121) C dX1_why_121 ?_
        refine r_iadd (pc := 123) C dX1_why_123 ?_
        refine r_top (nI_add _ _) ?_
        refine r_iload_6 (pc := 124) C dX1_why_124 ?_
        refine r_isub (pc := 126) C dX1_why_126 ?_
        refine r_S4io (pc := 127) C (c_because (by omega)) sl_X1_400 (by decide) (by omega) (by omega) (Nat.le_of_ble_eq_true rfl) rfl dX1_why_127 (fun u8 A8 hc8 => ?_)
        refine r_top hc8.1 ?_
        refine r_eqA hc8.2 ?_
        clear hc8 A8 u8
        refine r_iret (pc := 130) C E rfl (by omega) (by omega) dX1_why_130 ?_
        refine ⟨b98, b97, ?_, hGs4⟩
        rw [nt_n (by omega)]
        unfold whyA
        rw [if_pos b27, if_neg b51]
        first
          | rw [if_pos b109]
          | rw [if_neg b109]
      · skip
        have b109 := (not_congr (nI_lt2 (by omega) (by omega))).mp b109
        refine r_sipush (pc := 112) C dX1_why_112 cs_300 ?_
        refine r_goto (pc := 115) (tgt := 127) C dX1_why_115 (by decide) ?_
        refine r_S4io (pc := 127) C (c_because (by omega)) sl_X1_400 (by decide) (by omega) (by omega) (Nat.le_of_ble_eq_true rfl) rfl dX1_why_127 (fun u9 A9 hc9 => ?_)
        refine r_top hc9.1 ?_
        refine r_eqA hc9.2 ?_
        clear hc9 A9 u9
        refine r_iret (pc := 130) C E rfl (by omega) (by omega) dX1_why_130 ?_
        refine ⟨b98, b97, ?_, hGs4⟩
        rw [nt_n (by omega)]
        unfold whyA
        rw [if_pos b27, if_neg b51]
        first
          | rw [if_pos b109]
          | rw [if_neg b109]
    · skip
      have b51 := (nI_eq0 (by omega)).mp b51
      refine r_iload_2 (pc := 54) C dX1_why_54 ?_
      refine r_iconst (pc := 55) C dX1_why_55 ci_3 ?_
      refine r_sipush (pc := 56) C dX1_why_56 cs_401 ?_
      refine r_aload_0 (pc := 59) C dX1_why_59 ?_
      refine r_aload_3 (pc := 60) C dX1_why_60 ?_
      refine r_V1i (pc := 61) C (c_stepsOf hcB2 hnB2 hLB2 hvB2 hJ hG hIB2 hkx) vl_X1_385 (by rw [(hGs2.1.2 c hcz).1]; exact hc) (by decide) (by omega) (by omega) (Nat.le_of_ble_eq_true rfl) rfl dX1_why_61 (fun u10 A10 hc10 => ?_)
      obtain ⟨eu10, hGq10⟩ := hc10
      refine r_top eu10 ?_
      have hGs3 : Gs A A10 d := hGs2.tr hGq10
      clear eu10 u10 hGq10
      generalize A10 = B3 at hGs3 ⊢
      have hLB3 := hGs3.ly hZ hL
      have hvB3 := hGs3.lv hZ hL hv
      have hIB3 := hGs3.ic hZ hL hIc
      have hcB3 : (B3.G c).1 = 1 := by rw [(hGs3.1.2 c hcz).1]; exact hc
      have hnB3 : B3.R c 0 = some a := by rw [hGs3.2 c hcz]; exact hn
      refine r_iadd (pc := 64) C dX1_why_64 ?_
      refine r_top (nI_add _ _) ?_
      refine r_iconst (pc := 65) C dX1_why_65 ci_0 ?_
      refine r_S4io (pc := 66) C (c_because (by omega)) sl_X1_400 (by decide) (by omega) (by omega) (Nat.le_of_ble_eq_true rfl) rfl dX1_why_66 (fun u11 A11 hc11 => ?_)
      refine r_top hc11.1 ?_
      refine r_eqA hc11.2 ?_
      clear hc11 A11 u11
      refine r_iret (pc := 69) C E rfl (by omega) (by omega) dX1_why_69 ?_
      refine ⟨b98, b97, ?_, hGs3⟩
      rw [nt_n (by omega)]
      unfold whyA
      rw [if_pos b27, if_pos b51, show 400 + (wl σ (nt x) + 1) = 401 + wl σ (nt x) by omega]
  · skip
    have b27 := fun q => b27 ((i_le hd0 hd1).mpr q)
    refine r_iload_2 (pc := 30) C dX1_why_30 ?_
    refine r_iconst (pc := 31) C dX1_why_31 ci_1 ?_
    refine r_bipush (pc := 32) C dX1_why_32 cb_101 ?_
    refine r_iload_4 (pc := 34) C dX1_why_34 ?_
    refine r_iadd (pc := 36) C dX1_why_36 ?_
    refine r_iconst (pc := 37) C dX1_why_37 ci_0 ?_
    refine r_S4io (pc := 38) C (c_because (by omega)) sl_X1_400 (by decide) (by omega) (by omega) (Nat.le_of_ble_eq_true rfl) rfl dX1_why_38 (fun u12 A12 hc12 => ?_)
    refine r_top hc12.1 ?_
    refine r_eqA hc12.2 ?_
    clear hc12 A12 u12
    refine r_iret (pc := 41) C E rfl (by omega) (by omega) dX1_why_41 ?_
    refine ⟨b98, b97, ?_, hGs1⟩
    rw [nt_n (by omega)]
    unfold whyA
    rw [if_neg b27, ← i_as]
set_option maxHeartbeats 4000000 in
theorem c_cell {g : GZ} {A : HA} {c a : Nat} {d : Nat → Nat} {σ : Rw} (hc : (A.G c).1 = 1) (hn : A.R c 0 = some a) (hL : Ly A a d σ) (hv : Lv A.I a d σ) (hJ : RowJ σ) (hG : GdK g) (hIc : IcK g A) {x y w : Int32} : Ct g wI yX1_cell (.code yX1_cell cX1_cell 5 (Option.some Jvm.ClassFile.FieldType.int)) 11 13 42 [.ref c, .int x, .int y, .int w] (A) (fun u A' => inC2 σ x y ∧ inZ w 0 5 ∧ u = cellA σ (cat σ x y) (nt w) ∧ Gs A A' d) (fun q A' => T2 A A' (inC2 σ x y) (inZ w 0 5) q) := by
  refine Ct.of [some (.ref c), some (.int x), some (.int y), some (.int w), none] (by decide) rfl rfl fun z C hx hnm E => ?_
  have hW := hJ.w
  have hS := hW.s
  have hw3 := hS.w3
  have hw10 := hS.w10
  have hh8 := hS.h8
  have hc80 := hS.c80
  have k6 := hW.k6
  have g6 := hW.g6
  have hC : ∀ c, c < 80 → CelF σ c := fun c hc => (hJ.c hc).fe
  have d9 := hW.d9
  refine r_Z fun hZ => ?_
  have hcz := hZ.lt hc rfl
  refine r_aload_0 (pc := 0) C dX1_cell_0 ?_
  refine r_iload_1 (pc := 1) C dX1_cell_1 ?_
  refine r_iload_2 (pc := 2) C dX1_cell_2 ?_
  refine r_V2ix (pc := 3) C (c_at hc hn hL hv hJ) vl_X1_283 (by exact hc) (by decide) (by omega) (by omega) (Nat.le_of_ble_eq_true rfl) rfl dX1_cell_3 (fun q A9 hp hE => r_out C E (by rw [hx]; exact fun x h => nomatch h) hE.choose_spec (by omega) (by omega) (Or.inl hp)) (fun u1 A1 hc1 => ?_)
  obtain ⟨hi1, eu1, eA1⟩ := hc1
  refine r_top eu1 ?_
  refine r_eqA eA1 ?_
  clear eu1 eA1 A1 u1
  have b98 : inC2 σ x y := by assumption
  have hcc : cat σ x y < rC σ := by obtain ⟨i, hi, rfl⟩ := inZ_of b98.1 (by omega); obtain ⟨j, hj, rfl⟩ := inZ_of b98.2 (by omega); rw [cat_n (by omega) (by omega)]; exact at_lt hS hi hj
  refine r_istore_4 (pc := 6) C dX1_cell_6 rfl ?_
  rcases Classical.em (inZ w 0 5) with b97 | b97
  · skip
    obtain ⟨j, hj, rfl⟩ := inZ_of2 (n := 5) rfl b97 (by omega)
    refine r_iload_3 (pc := 8) C dX1_cell_8 ?_
    by_cases w9_0 : j = 0
    · skip
      subst w9_0
      refine r_tableIn (pc := 9) (tgt := 48) (off := 39) C dX1_cell_9 (by decide +kernel) (by decide +kernel) (by decide +kernel) (by decide) ?_
      refine r_aload_0 (pc := 48) C dX1_cell_48 ?_
      refine r_getR (pc := 49) C fl_X1_24_1 (by exact hc) rfl (by exact hn) dX1_cell_49 ?_
      refine r_ngetR (pc := 52) C fn_X1_287_2 (ly_g hL) rfl (ly_rf hL 5 (by decide)) dX1_cell_52 ?_
      refine r_iload_4 (pc := 55) C dX1_cell_55 ?_
      refine r_iald (pc := 57) C (ly_gf hL 5 (by decide)) rfl rfl (lt_eq (by omega) (ly_nf hL 5 (by decide) (by decide))) (by omega) dX1_cell_57 ?_
      refine r_top (hv.kind hcc) ?_
      refine r_goto (pc := 58) (tgt := 145) C dX1_cell_58 (by decide) ?_
      refine r_iret (pc := 145) C E rfl (by omega) (by omega) dX1_cell_145 ?_
      refine ⟨b98, b97, ?_, by first | exact Gs.rf | exact hGs1⟩
      rw [nt_n (by omega)]
      first
        | rfl
        | exact (if_pos (by assumption)).symm
        | exact (if_neg (by assumption)).symm
    by_cases w9_1 : j = 1
    · skip
      subst w9_1
      refine r_tableIn (pc := 9) (tgt := 61) (off := 52) C dX1_cell_9 (by decide +kernel) (by decide +kernel) (by decide +kernel) (by decide) ?_
      refine r_aload_0 (pc := 61) C dX1_cell_61 ?_
      refine r_getR (pc := 62) C fl_X1_24_1 (by exact hc) rfl (by exact hn) dX1_cell_62 ?_
      refine r_iload_4 (pc := 65) C dX1_cell_65 ?_
      refine r_V1io (pc := 67) C (l_isGrass hL hv hW hcc) vl_X1_290 (ly_g hL) (by decide) (by omega) (by omega) (Nat.le_of_ble_eq_true rfl) rfl dX1_cell_67 (fun u2 A2 hc2 => ?_)
      refine r_top hc2.1 ?_
      refine r_eqA hc2.2 ?_
      clear hc2 A2 u2
      refine r_if_eq (pc := 70) (tgt := 86) C dX1_cell_70 (by decide) (fun b70 => ?_) (fun b70 => ?_)
      · skip
        have b70 := bI_0.mp b70
        refine r_iconst (pc := 86) C dX1_cell_86 ci_m1 ?_
        refine r_goto (pc := 87) (tgt := 145) C dX1_cell_87 (by decide) ?_
        refine r_iret (pc := 145) C E rfl (by omega) (by omega) dX1_cell_145 ?_
        refine ⟨b98, b97, ?_, by first | exact Gs.rf | exact hGs1⟩
        rw [nt_n (by omega)]
        first
          | rfl
          | exact (if_pos (by assumption)).symm
          | exact (if_neg (by assumption)).symm
      · skip
        have b70 := bI_n.mp b70
        refine r_aload_0 (pc := 73) C dX1_cell_73 ?_
        refine r_getR (pc := 74) C fl_X1_24_1 (by exact hc) rfl (by exact hn) dX1_cell_74 ?_
        refine r_ngetR (pc := 77) C fn_X1_293_2 (ly_g hL) rfl (ly_rf hL 6 (by decide)) dX1_cell_77 ?_
        refine r_iload_4 (pc := 80) C dX1_cell_80 ?_
        refine r_iald (pc := 82) C (ly_gf hL 6 (by decide)) rfl rfl (lt_eq (by omega) (ly_nf hL 6 (by decide) (by decide))) (by omega) dX1_cell_82 ?_
        refine r_top (hv.grass hcc) ?_
        refine r_goto (pc := 83) (tgt := 145) C dX1_cell_83 (by decide) ?_
        refine r_iret (pc := 145) C E rfl (by omega) (by omega) dX1_cell_145 ?_
        refine ⟨b98, b97, ?_, by first | exact Gs.rf | exact hGs1⟩
        rw [nt_n (by omega)]
        first
          | rfl
          | exact (if_pos (by assumption)).symm
          | exact (if_neg (by assumption)).symm
    by_cases w9_2 : j = 2
    · skip
      subst w9_2
      refine r_tableIn (pc := 9) (tgt := 90) (off := 81) C dX1_cell_9 (by decide +kernel) (by decide +kernel) (by decide +kernel) (by decide) ?_
      refine r_aload_0 (pc := 90) C dX1_cell_90 ?_
      refine r_getR (pc := 91) C fl_X1_24_1 (by exact hc) rfl (by exact hn) dX1_cell_91 ?_
      refine r_ngetR (pc := 94) C fn_X1_296_2 (ly_g hL) rfl (ly_rf hL 10 (by decide)) dX1_cell_94 ?_
      refine r_iload_4 (pc := 97) C dX1_cell_97 ?_
      refine r_zald (pc := 99) C (ly_gf hL 10 (by decide)) rfl rfl (lt_eq (by omega) (ly_nf hL 10 (by decide) (by decide))) (by omega) dX1_cell_99 ?_
      refine r_top ((hv.fence hcc).trans (fen_bI (hC _ (by omega)))) ?_
      refine r_S1io (pc := 100) C (l_bit) sl_X1_222 (by decide) (by omega) (by omega) (Nat.le_of_ble_eq_true rfl) rfl dX1_cell_100 (fun u3 A3 hc3 => ?_)
      refine r_top hc3.1 ?_
      refine r_eqA hc3.2 ?_
      clear hc3 A3 u3
      refine r_top (fen_bI (hC _ (by omega))).symm ?_
      refine r_goto (pc := 103) (tgt := 145) C dX1_cell_103 (by decide) ?_
      refine r_iret (pc := 145) C E rfl (by omega) (by omega) dX1_cell_145 ?_
      refine ⟨b98, b97, ?_, by first | exact Gs.rf | exact hGs1⟩
      rw [nt_n (by omega)]
      first
        | rfl
        | exact (if_pos (by assumption)).symm
        | exact (if_neg (by assumption)).symm
    by_cases w9_3 : j = 3
    · skip
      subst w9_3
      refine r_tableIn (pc := 9) (tgt := 106) (off := 97) C dX1_cell_9 (by decide +kernel) (by decide +kernel) (by decide +kernel) (by decide) ?_
      refine r_aload_0 (pc := 106) C dX1_cell_106 ?_
      refine r_getR (pc := 107) C fl_X1_24_1 (by exact hc) rfl (by exact hn) dX1_cell_107 ?_
      refine r_ngetR (pc := 110) C fn_X1_300_2 (ly_g hL) rfl (ly_rf hL 7 (by decide)) dX1_cell_110 ?_
      refine r_iload_4 (pc := 113) C dX1_cell_113 ?_
      refine r_iald (pc := 115) C (ly_gf hL 7 (by decide)) rfl rfl (lt_eq (by omega) (ly_nf hL 7 (by decide) (by decide))) (by omega) dX1_cell_115 ?_
      refine r_top (hv.trod hcc) ?_
      refine r_goto (pc := 116) (tgt := 145) C dX1_cell_116 (by decide) ?_
      refine r_iret (pc := 145) C E rfl (by omega) (by omega) dX1_cell_145 ?_
      refine ⟨b98, b97, ?_, by first | exact Gs.rf | exact hGs1⟩
      rw [nt_n (by omega)]
      first
        | rfl
        | exact (if_pos (by assumption)).symm
        | exact (if_neg (by assumption)).symm
    by_cases w9_4 : j = 4
    · skip
      subst w9_4
      refine r_tableIn (pc := 9) (tgt := 119) (off := 110) C dX1_cell_9 (by decide +kernel) (by decide +kernel) (by decide +kernel) (by decide) ?_
      refine r_aload_0 (pc := 119) C dX1_cell_119 ?_
      refine r_iload_4 (pc := 120) C dX1_cell_120 ?_
      refine r_V1io (pc := 122) C (c_since hc hn hL hv hJ hcc) vl_X1_303 (by exact hc) (by decide) (by omega) (by omega) (Nat.le_of_ble_eq_true rfl) rfl dX1_cell_122 (fun u4 A4 hc4 => ?_)
      refine r_top hc4.1 ?_
      refine r_eqA hc4.2 ?_
      clear hc4 A4 u4
      refine r_goto (pc := 125) (tgt := 145) C dX1_cell_125 (by decide) ?_
      refine r_iret (pc := 145) C E rfl (by omega) (by omega) dX1_cell_145 ?_
      refine ⟨b98, b97, ?_, by first | exact Gs.rf | exact hGs1⟩
      rw [nt_n (by omega)]
      first
        | rfl
        | exact (if_pos (by assumption)).symm
        | exact (if_neg (by assumption)).symm
    by_cases w9_5 : j = 5
    · skip
      subst w9_5
      refine r_tableIn (pc := 9) (tgt := 128) (off := 119) C dX1_cell_9 (by decide +kernel) (by decide +kernel) (by decide +kernel) (by decide) ?_
      refine r_aload_0 (pc := 128) C dX1_cell_128 ?_
      refine r_iload_4 (pc := 129) C dX1_cell_129 ?_
      refine r_V1i (pc := 131) C (c_walkersOver hc hn hL hv hJ hG hIc (e := cat σ x y) (by omega)) vl_X1_306 (by exact hc) (by decide) (by omega) (by omega) (Nat.le_of_ble_eq_true rfl) rfl dX1_cell_131 (fun u5 A5 hc5 => ?_)
      obtain ⟨eu5, hGq5⟩ := hc5
      refine r_top eu5 ?_
      have hGs1 : Gs A A5 d := hGq5
      clear eu5 u5 hGq5
      generalize A5 = B1 at hGs1 ⊢
      have hLB1 := hGs1.ly hZ hL
      have hvB1 := hGs1.lv hZ hL hv
      have hIB1 := hGs1.ic hZ hL hIc
      have hcB1 : (B1.G c).1 = 1 := by rw [(hGs1.1.2 c hcz).1]; exact hc
      have hnB1 : B1.R c 0 = some a := by rw [hGs1.2 c hcz]; exact hn
      refine r_goto (pc := 134) (tgt := 145) C dX1_cell_134 (by decide) ?_
      refine r_iret (pc := 145) C E rfl (by omega) (by omega) dX1_cell_145 ?_
      refine ⟨b98, b97, ?_, by first | exact Gs.rf | exact hGs1⟩
      rw [nt_n (by omega)]
      first
        | rfl
        | exact (if_pos (by assumption)).symm
        | exact (if_neg (by assumption)).symm
    exfalso; omega
  · skip
    refine r_iload_3 (pc := 8) C dX1_cell_8 ?_
    refine r_tableOut (pc := 9) (tgt := 137) C dX1_cell_9 (sw_out b97) (by decide) ?_
    refine r_make19 (pc := 137) C dX1_cell_137 dX1_cell_140 dX1_cell_141 (by decide) (Nat.le_of_ble_eq_true rfl) rfl (by omega) (by omega) fun m hm => ?_
    refine r_athrow (pc := 144) C dX1_cell_144 ?_
    refine r_out C E (by rw [hx]; exact fun x h => nomatch h) (En := RJ18) ((congrArg fw_ex (tx_mz (X := Non) hm).1).trans rfl) (by omega) (by omega) (Or.inr ⟨b98, b97, tx_mz hm⟩)
