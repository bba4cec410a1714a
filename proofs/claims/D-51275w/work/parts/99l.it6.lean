/-! THE COMPONENT, 6: kept by -/
set_option maxRecDepth 100000
theorem sm_first {f : Nat → Bool} : ∀ n, smN (fun k => b01 (f k)) n = 0 ↔ firstB f n = none
  | 0 => ⟨fun _ => rfl, fun _ => rfl⟩
  | n + 1 => by
    have ih := sm_first (f := f) n
    show smN (fun k => b01 (f k)) n + b01 (f n) = 0 ↔ (match firstB f n with
      | some k => some k
      | none => if f n then some n else none) = none
    cases h : firstB f n with
    | some k =>
      have h1 : ¬ smN (fun k => b01 (f k)) n = 0 := fun q => by rw [ih.mp q] at h; cases h
      exact ⟨fun q => absurd q (by omega), fun q => by cases q⟩
    | none =>
      have h1 := ih.mpr h
      cases hf : f n with
      | true =>
        refine ⟨fun q => ?_, fun q => ?_⟩
        · have q : smN (fun k => b01 (f k)) n + 1 = 0 := q
          omega
        · simp at q
      | false =>
        refine ⟨fun _ => by simp, fun _ => ?_⟩
        show smN (fun k => b01 (f k)) n + 0 = 0
        omega
theorem since_m1 {σ : Rw} {c : Nat} (h : CelI σ c) (hd : σ 3 = nI (rD σ)) (h9 : rD σ ≤ 1200) : sinceR σ c = -1 ↔ σ (153 + 5 * c + 3) = 0 := by
  obtain ⟨-, -, h3, h4, h5⟩ := h
  have h42 := h4.2
  have h32 := h3.2
  have e3 : σ (153 + 5 * c + 3) = 0 ↔ cTr σ c = 0 := by rw [h3.1]; exact nI_z (by omega)
  rw [e3, h5]
  unfold sinceR
  rw [h4.1, hd]
  by_cases q : cLt σ c = 0
  · rw [if_pos ((nI_z (by omega)).mpr q)]; exact ⟨fun _ => q, fun _ => rfl⟩
  · rw [if_neg (fun z => q ((nI_z (by omega)).mp z)), pk_sub h42]
    exact ⟨fun z => absurd z (nI_m1 (by omega)), fun z => absurd z q⟩
theorem kept_n {σ : Rw} {c d : Nat} (hk : σ (153 + 5 * c + 0) = 0) (h0 : overR σ c = 0) : keptA σ c d = if sinceR σ c = -1 ∨ d = 2 then nI 0 else if d = 0 then nI 2 else nI 701 + sinceR σ c := by
  have h1 : lowR σ c = none := (sm_first _).mp h0
  unfold keptA
  rw [if_pos hk, h1]
theorem kept_s {σ : Rw} {c d k : Nat} (hk : σ (153 + 5 * c + 0) = 0) (h1 : lowR σ c = some k) : keptA σ c d = pick d (nI 1) (nI (501 + k)) (nI (601 + overR σ c)) := by
  unfold keptA
  rw [if_pos hk, h1]
set_option maxHeartbeats 4000000 in
theorem c_keptBy {g : GZ} {A : HA} {c a : Nat} {d : Nat → Nat} {σ : Rw} (hc : (A.G c).1 = 1) (hn : A.R c 0 = some a) (hL : Ly A a d σ) (hv : Lv A.I a d σ) (hJ : RowJ σ) (hG : GdK g) (hIc : IcK g A) {x y w : Int32} : Ct g wI yX1_keptBy (.code yX1_keptBy cX1_keptBy 7 (Option.some Jvm.ClassFile.FieldType.int)) 11 26 90 [.ref c, .int x, .int y, .int w] (A) (fun u A' => inC2 σ x y ∧ inZ w 0 2 ∧ u = keptA σ (cat σ x y) (nt w) ∧ Gs A A' d) (fun q A' => T2 A A' (inC2 σ x y) (inZ w 0 2) q) := by
  refine Ct.of [some (.ref c), some (.int x), some (.int y), some (.int w), none, none, none] (by decide) rfl rfl fun z C hx hnm E => ?_
  have hW := hJ.w
  have hS := hW.s
  have hw3 := hS.w3
  have hw10 := hS.w10
  have hh8 := hS.h8
  have hc80 := hS.c80
  have k6 := hW.k6
  have g6 := hW.g6
  have hC : ∀ c, c < 80 → CelF σ c := fun c hc => (hJ.c hc).fe
  have d9 := hW.d9
  refine r_Z fun hZ => ?_
  have hcz := hZ.lt hc rfl
  refine r_aload_0 (pc := 0) C dX1_keptBy_0 ?_
  refine r_iload_1 (pc := 1) C dX1_keptBy_1 ?_
  refine r_iload_2 (pc := 2) C dX1_keptBy_2 ?_
  refine r_V2ix (pc := 3) C (c_at hc hn hL hv hJ) vl_X1_283 (by exact hc) (by decide) (by omega) (by omega) (Nat.le_of_ble_eq_true rfl) rfl dX1_keptBy_3 (fun q A9 hp hE => r_out C E (by rw [hx]; exact fun x h => nomatch h) hE.choose_spec (by omega) (by omega) (Or.inl hp)) (fun u1 A1 hc1 => ?_)
  obtain ⟨hi1, eu1, eA1⟩ := hc1
  refine r_top eu1 ?_
  refine r_eqA eA1 ?_
  clear eu1 eA1 A1 u1
  have b98 : inC2 σ x y := by assumption
  have hcc : cat σ x y < rC σ := by obtain ⟨i, hi, rfl⟩ := inZ_of b98.1 (by omega); obtain ⟨j, hj, rfl⟩ := inZ_of b98.2 (by omega); rw [cat_n (by omega) (by omega)]; exact at_lt hS hi hj
  refine r_istore_4 (pc := 6) C dX1_keptBy_6 rfl ?_
  refine r_iload_3 (pc := 8) C dX1_keptBy_8 ?_
  refine r_i2l (pc := 9) C dX1_keptBy_9 ?_
  refine r_lconst (pc := 10) (v := 0) C dX1_keptBy_10 (by decide) ?_
  refine r_ldc2 (pc := 11) C q2062 dX1_keptBy_11 ?_
  refine r_S3io (pc := 14) C (c_inZ (p := 0) (q := 2) (by decide) (by decide)) sl_X1_114 (by decide) (by omega) (by omega) (Nat.le_of_ble_eq_true rfl) rfl dX1_keptBy_14 (fun u2 A2 hc2 => ?_)
  refine r_top hc2.1 ?_
  refine r_eqA hc2.2 ?_
  clear hc2 A2 u2
  refine r_S1vx (pc := 17) C (c_argument) sl_X1_118 (by decide) (by omega) (by omega) (Nat.le_of_ble_eq_true rfl) rfl dX1_keptBy_17 (fun q A9 hp hE => r_out C E (by rw [hx]; exact fun x h => nomatch h) hE.choose_spec (by omega) (by omega) (Or.inr ⟨b98, hp.1, hp.2⟩)) (fun u3 A3 hc3 => ?_)
  obtain ⟨hp3, eA3⟩ := hc3
  refine r_eqA eA3 ?_
  clear eA3 A3 u3
  have b97 : inZ w 0 2 := by assumption
  obtain ⟨j, hj, rfl⟩ := inZ_of2 (n := 2) rfl b97 (by omega)
  have hcl := hJ.c (show cat σ x y < 80 by omega)
  have hov := smb_le (f := onR σ (cat σ x y)) (rK σ)
  have hov : overR σ (cat σ x y) ≤ rK σ := hov
  have hsm := since_m1 hcl hW.d d9
  refine r_aload_0 (pc := 20) C dX1_keptBy_20 ?_
  refine r_getR (pc := 21) C fl_X1_24_1 (by exact hc) rfl (by exact hn) dX1_keptBy_21 ?_
  refine r_iload_4 (pc := 24) C dX1_keptBy_24 ?_
  refine r_V1io (pc := 26) C (l_isGrass hL hv hW hcc) vl_X1_290 (ly_g hL) (by decide) (by omega) (by omega) (Nat.le_of_ble_eq_true rfl) rfl dX1_keptBy_26 (fun u4 A4 hc4 => ?_)
  refine r_top hc4.1 ?_
  refine r_eqA hc4.2 ?_
  clear hc4 A4 u4
  refine r_if_ne (pc := 29) (tgt := 34) C dX1_keptBy_29 (by decide) (fun b29 => ?_) (fun b29 => ?_)
  · skip
    have b29 := bI_n.mp b29
    refine r_aload_0 (pc := 34) C dX1_keptBy_34 ?_
    refine r_iload_4 (pc := 35) C dX1_keptBy_35 ?_
    refine r_V1i (pc := 37) C (c_walkersOver hc hn hL hv hJ hG hIc (e := cat σ x y) (by omega)) vl_X1_306 (by exact hc) (by decide) (by omega) (by omega) (Nat.le_of_ble_eq_true rfl) rfl dX1_keptBy_37 (fun u5 A5 hc5 => ?_)
    obtain ⟨eu5, hGq5⟩ := hc5
    refine r_top eu5 ?_
    have hGs1 : Gs A A5 d := hGq5
    clear eu5 u5 hGq5
    generalize A5 = B1 at hGs1 ⊢
    have hLB1 := hGs1.ly hZ hL
    have hvB1 := hGs1.lv hZ hL hv
    have hIB1 := hGs1.ic hZ hL hIc
    have hcB1 : (B1.G c).1 = 1 := by rw [(hGs1.1.2 c hcz).1]; exact hc
    have hnB1 : B1.R c 0 = some a := by rw [hGs1.2 c hcz]; exact hn
    refine r_istore_5 (pc := 40) C dX1_keptBy_40 rfl ?_
    refine r_iload_5 (pc := 42) C dX1_keptBy_42 ?_
    refine r_if_ne (pc := 44) (tgt := 81) C dX1_keptBy_44 (by decide) (fun b44 => ?_) (fun b44 => ?_)
    · skip
      have b44 := (not_congr (nI_eq0 (by omega))).mp b44
      refine r_iconst (pc := 81) C dX1_keptBy_81 ci_0 ?_
      refine r_istore_6 (pc := 82) C dX1_keptBy_82 rfl ?_
      have lp84_6 : ∀ (fu : Nat) (k : Nat) (F : HA) (hk : k ≤ rK σ) (hGsF : Gs A F d) (hf : firstB (onR σ (cat σ x y)) k = none), rK σ - k < fu → wa g z (14 + 2 * k) (48 + 6 * k) (F) 84 [some (.ref c), some (.int x), some (.int y), some (.int (nI (j))), some (.int (nI (cat σ x y))), some (.int (nI (overR σ (cat σ x y)))), some (.int (nI (k)))] [] := by
        intro fu
        induction fu with
        | zero => intro k  F  hk hGsF hf hm84; exact absurd hm84 (Nat.not_lt_zero _)
        | succ fu ih84 =>
          intro k  F  hk hGsF hf hm84
          have hLF := hGsF.ly hZ hL
          have hvF := hGsF.lv hZ hL hv
          have hIF := hGsF.ic hZ hL hIc
          have hcF : (F.G c).1 = 1 := by rw [(hGsF.1.2 c hcz).1]; exact hc
          have hnF : F.R c 0 = some a := by rw [hGsF.2 c hcz]; exact hn
          have hk2 : k < rK σ := by rcases Nat.lt_or_ge k (rK σ) with q | q; exact q; exact absurd ((sm_first _).mpr (by rw [show rK σ = k by omega]; exact hf)) b44
          refine r_aload_0 (pc := 84) C dX1_keptBy_84 ?_
          refine r_aload_0 (pc := 85) C dX1_keptBy_85 ?_
          refine r_getR (pc := 86) C fl_X1_24_1 (by rw [(hGsF.1.2 c hcz).1]; exact hc) rfl (by rw [hGsF.2 c hcz]; exact hn) dX1_keptBy_86 ?_
          refine r_iload_6 (pc := 89) C dX1_keptBy_89 ?_
          refine r_V1ro (pc := 91) C (l_walker hLF hvF hW (k := k) (by omega)) vl_X1_271 (ly_g hLF) (by decide) (by omega) (by omega) (Nat.le_of_ble_eq_true rfl) rfl dX1_keptBy_91 (fun u7 A7 hc7 => ?_)
          refine r_topR hc7.1 ?_
          refine r_eqA hc7.2 ?_
          clear hc7 A7 u7
          refine r_iload_4 (pc := 94) C dX1_keptBy_94 ?_
          refine r_V2i (pc := 96) C (c_isOn hcF hnF hLF hvF hJ hG hIF (k := k) (e := cat σ x y) (by omega) (by omega)) vl_X1_275 (by rw [(hGsF.1.2 c hcz).1]; exact hc) (by decide) (by omega) (by omega) (Nat.le_of_ble_eq_true rfl) rfl dX1_keptBy_96 (fun u8 A8 hc8 => ?_)
          obtain ⟨eu8, hGs2⟩ := hc8
          refine r_top eu8 ?_
          have hGsT := hGsF.tr hGs2
          clear eu8 u8
          generalize A8 = F2 at hGsT ⊢
          refine r_if_ne (pc := 99) (tgt := 108) C dX1_keptBy_99 (by decide) (fun b99 => ?_) (fun b99 => ?_)
          · skip
            have b99 := bI_n.mp b99
            refine r_iload_3 (pc := 108) C dX1_keptBy_108 ?_
            refine r_iconst (pc := 109) C dX1_keptBy_109 ci_1 ?_
            refine r_sipush (pc := 110) C dX1_keptBy_110 cs_501 ?_
            refine r_iload_6 (pc := 113) C dX1_keptBy_113 ?_
            refine r_iadd (pc := 115) C dX1_keptBy_115 ?_
            refine r_top (nI_add _ _) ?_
            refine r_sipush (pc := 116) C dX1_keptBy_116 cs_601 ?_
            refine r_iload_5 (pc := 119) C dX1_keptBy_119 ?_
            refine r_iadd (pc := 121) C dX1_keptBy_121 ?_
            refine r_top (nI_add _ _) ?_
            refine r_S4io (pc := 122) C (c_because (by omega)) sl_X1_400 (by decide) (by omega) (by omega) (Nat.le_of_ble_eq_true rfl) rfl dX1_keptBy_122 (fun u9 A9 hc9 => ?_)
            refine r_top hc9.1 ?_
            refine r_eqA hc9.2 ?_
            clear hc9 A9 u9
            refine r_iret (pc := 125) C E rfl (by omega) (by omega) dX1_keptBy_125 ?_
            refine ⟨b98, b97, ?_, hGsT⟩
            rw [nt_n (by omega), kept_s (by assumption) (firstB_some hf (by assumption) _ hk2)]
          · skip
            have b99 := bI_0.mp b99
            refine r_iinc_6 (pc := 102) C dX1_keptBy_102 (nI_inc _) rfl ?_
            refine r_goto (pc := 105) (tgt := 84) C dX1_keptBy_105 (by decide) ?_
            refine r_widen (k' := 14 + 2 * (k + 1)) (n' := 48 + 6 * (k + 1)) (by omega) (by omega) ?_
            exact ih84 (k + 1) _ (by omega) hGsT (firstB_none hf (by assumption)) (by omega)
      refine r_widen (k' := 14 + 2 * 0) (n' := 48 + 6 * 0) (by omega) (by omega) ?_
      exact lp84_6 _ 0 B1 (Nat.zero_le _) hGs1 rfl (Nat.lt_succ_self _)
    · skip
      have b44 := (nI_eq0 (by omega)).mp b44
      refine r_aload_0 (pc := 47) C dX1_keptBy_47 ?_
      refine r_getR (pc := 48) C fl_X1_24_1 (by rw [(hGs1.1.2 c hcz).1]; exact hc) rfl (by rw [hGs1.2 c hcz]; exact hn) dX1_keptBy_48 ?_
      refine r_ngetR (pc := 51) C fn_X1_300_2 (ly_g hLB1) rfl (ly_rf hLB1 7 (by decide)) dX1_keptBy_51 ?_
      refine r_iload_4 (pc := 54) C dX1_keptBy_54 ?_
      refine r_iald (pc := 56) C (ly_gf hLB1 7 (by decide)) rfl rfl (lt_eq (by omega) (ly_nf hLB1 7 (by decide) (by decide))) (by omega) dX1_keptBy_56 ?_
      refine r_top (hvB1.trod hcc) ?_
      refine r_if_ne (pc := 57) (tgt := 64) C dX1_keptBy_57 (by decide) (fun b57 => ?_) (fun b57 => ?_)
      · skip
        refine r_iload_3 (pc := 64) C dX1_keptBy_64 ?_
        refine r_iconst (pc := 65) C dX1_keptBy_65 ci_2 ?_
        refine r_sipush (pc := 66) C dX1_keptBy_66 cs_701 ?_
        refine r_aload_0 (pc := 69) C dX1_keptBy_69 ?_
        refine r_iload_4 (pc := 70) C dX1_keptBy_70 ?_
        refine r_V1io (pc := 72) C (c_since hcB1 hnB1 hLB1 hvB1 hJ hcc) vl_X1_303 (by rw [(hGs1.1.2 c hcz).1]; exact hc) (by decide) (by omega) (by omega) (Nat.le_of_ble_eq_true rfl) rfl dX1_keptBy_72 (fun u10 A10 hc10 => ?_)
        refine r_top hc10.1 ?_
        refine r_eqA hc10.2 ?_
        clear hc10 A10 u10
        refine r_iadd (pc := 75) C dX1_keptBy_75 ?_
        refine r_iconst (pc := 76) C dX1_keptBy_76 ci_0 ?_
        refine r_S4io (pc := 77) C (c_because (by omega)) sl_X1_400 (by decide) (by omega) (by omega) (Nat.le_of_ble_eq_true rfl) rfl dX1_keptBy_77 (fun u11 A11 hc11 => ?_)
        refine r_top hc11.1 ?_
        refine r_eqA hc11.2 ?_
        clear hc11 A11 u11
        refine r_iret (pc := 80) C E rfl (by omega) (by omega) dX1_keptBy_80 ?_
        refine ⟨b98, b97, ?_, hGs1⟩
        rw [nt_n (by omega), kept_n (by assumption) b44]
        first
          | rw [if_pos (Or.inl (hsm.mpr b57))]
          | (have b57 := fun q => b57 (hsm.mp q); unfold pick; rcases (show j = 0 ∨ j = 1 ∨ j = 2 by omega) with q | q | q <;> subst q)
            · rw [if_pos rfl, if_neg (fun q => q.elim b57 (fun q => by omega)), if_pos rfl]
            · rw [if_neg (by omega), if_pos rfl, if_neg (fun q => q.elim b57 (fun q => by omega)), if_neg (by omega)]
            · rw [if_neg (by omega), if_neg (by omega), if_pos (Or.inr rfl)]
      · skip
        refine r_iconst (pc := 60) C dX1_keptBy_60 ci_0 ?_
        refine r_goto (pc := 61) (tgt := 80) C dX1_keptBy_61 (by decide) ?_
        refine r_iret (pc := 80) C E rfl (by omega) (by omega) dX1_keptBy_80 ?_
        refine ⟨b98, b97, ?_, hGs1⟩
        rw [nt_n (by omega), kept_n (by assumption) b44]
        first
          | rw [if_pos (Or.inl (hsm.mpr b57))]
          | (have b57 := fun q => b57 (hsm.mp q); unfold pick; rcases (show j = 0 ∨ j = 1 ∨ j = 2 by omega) with q | q | q <;> subst q)
            · rw [if_pos rfl, if_neg (fun q => q.elim b57 (fun q => by omega)), if_pos rfl]
            · rw [if_neg (by omega), if_pos rfl, if_neg (fun q => q.elim b57 (fun q => by omega)), if_neg (by omega)]
            · rw [if_neg (by omega), if_neg (by omega), if_pos (Or.inr rfl)]
  · skip
    have b29 := bI_0.mp b29
    refine r_iconst (pc := 32) C dX1_keptBy_32 ci_0 ?_
    refine r_iret (pc := 33) C E rfl (by omega) (by omega) dX1_keptBy_33 ?_
    refine ⟨b98, b97, ?_, Gs.rf⟩
    rw [nt_n (by omega)]
    exact (if_neg (by assumption)).symm
