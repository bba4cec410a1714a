/-! THE REFERENCE, 19: public questions, 6 -/
set_option maxRecDepth 100000
theorem m1_lt {n : Nat} (h : n < 2147483648) : (-1 : Int32) < nI n := by
  have h2 : (-1 : Int32).toInt = -1 := by decide +kernel
  rw [Int32.lt_iff_toInt_lt, t_nI h, h2]
  omega
theorem best_no {σ : Rw} {n k : Nat} (h : ¬ whyF σ k = nI 0) : bestS σ n (k + 1) = bestS σ n k := if_neg h
theorem best_0 {σ : Rw} {n k : Nat} (h : whyF σ k = nI 0) (e : bestS σ n k = none) : bestS σ n (k + 1) = some (k, allG (daysR (fenceOn σ k) n)) := by
  show (if whyF σ k = nI 0 then (match bestS σ n k with
      | none => some (k, allG (daysR (fenceOn σ k) n))
      | some (b, m) => if allG (daysR (fenceOn σ k) n) ≤ m then some (b, m) else some (k, allG (daysR (fenceOn σ k) n))) else bestS σ n k) = _
  rw [if_pos h, e]
theorem best_1 {σ : Rw} {n k b m : Nat} (h : whyF σ k = nI 0) (e : bestS σ n k = some (b, m)) (q : ¬ m < allG (daysR (fenceOn σ k) n)) : bestS σ n (k + 1) = some (b, m) := by
  show (if whyF σ k = nI 0 then (match bestS σ n k with
      | none => some (k, allG (daysR (fenceOn σ k) n))
      | some (b, m) => if allG (daysR (fenceOn σ k) n) ≤ m then some (b, m) else some (k, allG (daysR (fenceOn σ k) n))) else bestS σ n k) = _
  rw [if_pos h, e]
  exact if_pos (by omega)
theorem best_2 {σ : Rw} {n k b m : Nat} (h : whyF σ k = nI 0) (e : bestS σ n k = some (b, m)) (q : m < allG (daysR (fenceOn σ k) n)) : bestS σ n (k + 1) = some (k, allG (daysR (fenceOn σ k) n)) := by
  show (if whyF σ k = nI 0 then (match bestS σ n k with
      | none => some (k, allG (daysR (fenceOn σ k) n))
      | some (b, m) => if allG (daysR (fenceOn σ k) n) ≤ m then some (b, m) else some (k, allG (daysR (fenceOn σ k) n))) else bestS σ n k) = _
  rw [if_pos h, e]
  exact if_neg (by omega)
def oB (σ : Rw) (o : Option (Nat × Nat)) : Int32 := oS σ (o.map Prod.fst)
theorem gb_le {σ : Rw} (hW : RowW σ) (hd9 : rD σ ≤ 999) {n k : Nat} (hn : n ≤ 5) (hz : whyF σ k = nI 0) : allG (daysR (fenceOn σ k) n) ≤ 720 := by
  have hz2 := whyF_0 hz
  have hd2 : rD (fenceOn σ k) + n ≤ 1200 := by have : rD (fenceOn σ k) = rD σ := upd_rD (by omega); omega
  have hkp := daysR_keep hW.fenceOn hz2.2.2.2 n hd2
  have hVk := hW.fenceOn.same hkp.1 hkp.2.1
  exact allG_le hVk hVk.s.c80
theorem best_le {σ : Rw} (hW : RowW σ) (hd9 : rD σ ≤ 999) {n : Nat} (hn : n ≤ 5) : ∀ k {b m : Nat}, bestS σ n k = some (b, m) → m ≤ 720
  | 0, b, m, h => by cases h
  | k + 1, b, m, h => by
    by_cases hz : whyF σ k = nI 0
    · have hg := gb_le hW hd9 hn hz
      cases e : bestS σ n k with
      | none => rw [best_0 hz e] at h; cases h; exact hg
      | some p =>
        obtain ⟨b0, m0⟩ := p
        by_cases q : m0 < allG (daysR (fenceOn σ k) n)
        · rw [best_2 hz e q] at h; cases h; exact hg
        · rw [best_1 hz e q] at h; cases h; exact best_le hW hd9 hn k e
    · rw [best_no hz] at h; exact best_le hW hd9 hn k h
set_option maxHeartbeats 4000000 in
theorem m_bestFence {g : GZ} {A : HA} {t : Nat} {σ κ π τ : Nat → Int32} (hT : Tw A t) {w : Int32} (hW : RowW σ) (hy : ways σ)(hC : ∀ c, c < 80 → CelI σ c) (hd9 : rD σ ≤ 999) : Ct g wI yX6_bestFence (.code yX6_bestFence cX6_bestFence 6 (Option.some Jvm.ClassFile.FieldType.int)) 12 0 0 [.ref t, .int w] (S5 A t σ κ π τ) (fun u A' => QP A t σ τ (qOne (inZ w 1 5) (oB σ (bestS σ (nt w) (rC σ)))) u A') fw_no := by
  refine Ct.of [some (.ref t), some (.int w), none, none, none, none] (by decide) rfl rfl fun z C hx hnm E => ?_
  have hS := hW.s
  have hc80 := hS.c80
  have k6 := hW.k6
  have g6 := hW.g6
  have hc80 := hS.c80
  have hw10 := hS.w10
  have hh8 := hS.h8
  have hw3 := hS.w3
  refine r_aload_0 (pc := 0) C dX6_bestFence_0 ?_
  refine r_iload_1 (pc := 1) C dX6_bestFence_1 ?_
  refine r_i2l (pc := 2) C dX6_bestFence_2 ?_
  refine r_lconst (pc := 3) (v := 1) C dX6_bestFence_3 (by decide) ?_
  refine r_ldc2 (pc := 4) C q2692 dX6_bestFence_4 ?_
  refine r_S3io (pc := 7) C (m_inZ (p := 1) (q := 5) (by decide) (by decide)) sl_X6_68 (by decide) (Nat.le_refl _) (Nat.le_refl _) (Nat.le_of_ble_eq_true rfl) rfl dX6_bestFence_7 (fun u1 A1 hc1 => ?_)
  refine r_top hc1.1 ?_
  refine r_eqA hc1.2 ?_
  clear hc1 A1 u1
  refine r_V1io (pc := 10) C (m_passes (by exact hT)) vl_X6_186 (tw_g hT) (by decide) (Nat.le_refl _) (Nat.le_refl _) (Nat.le_of_ble_eq_true rfl) rfl dX6_bestFence_10 (fun u2 A2 hc2 => ?_)
  refine r_top hc2.1 ?_
  refine r_eqA (hc2.2.trans (by rw [S5_0, S5_w0])) ?_
  clear hc2 A2 u2
  refine r_if_ne (pc := 13) (tgt := 18) C dX6_bestFence_13 (by decide) (fun b13 => ?_) (fun b13 => ?_)
  · skip
    have b13 := bI_n.mp b13
    have b99 := b13
    obtain ⟨n, hn, rfl⟩ := inZ_of2 (n := 5) rfl ⟨(by have := b13.1; omega), b13.2⟩ (by omega)
    refine r_iconst (pc := 18) C dX6_bestFence_18 ci_m1 ?_
    refine r_istore_2 (pc := 19) C dX6_bestFence_19 rfl ?_
    refine r_iconst (pc := 20) C dX6_bestFence_20 ci_m1 ?_
    refine r_istore_3 (pc := 21) C dX6_bestFence_21 rfl ?_
    refine r_iconst (pc := 22) C dX6_bestFence_22 ci_0 ?_
    refine r_istore_4 (pc := 23) C dX6_bestFence_23 rfl ?_
    have lp25_3 : ∀ (fu : Nat) (k : Nat) (α1 : Rw) (κ1 π1 : Nat → Int32) (m1 : Int32) (hk : k ≤ rC σ), rC σ - k < fu → wa g z 0 0 (S5 (A.sI (t + 4) α1) t σ κ1 π1 (upd (upd τ 6 (bI (¬ inZ (nI n) 1 5))) 10 m1)) 25 [some (.ref t), some (.int (nI (n))), some (.int (oB σ (bestS σ n k))), some (.int (oM (bestS σ n k))), some (.int (nI (k))), none] [] := by
      intro fu
      induction fu with
      | zero => intro k  α1  κ1 π1  m1  hk hm25; exact absurd hm25 (Nat.not_lt_zero _)
      | succ fu ih25 =>
        intro k  α1  κ1 π1  m1  hk hm25
        refine r_iload_4 (pc := 25) C dX6_bestFence_25 ?_
        refine r_aload_0 (pc := 27) C dX6_bestFence_27 ?_
        refine r_V0io (pc := 28) C (m_cells (by exact hT) (S5_1 _ _ _ _ _ _) hS) vl_X6_117 (tw_g hT) (by decide) (Nat.le_refl _) (Nat.le_refl _) (Nat.le_of_ble_eq_true rfl) rfl dX6_bestFence_28 (fun u4 A4 hc4 => ?_)
        refine r_top hc4.1 ?_
        refine r_eqA hc4.2 ?_
        clear hc4 A4 u4
        refine r_icmp_ge (pc := 31) (tgt := 80) C dX6_bestFence_31 (by decide) (fun b31 => ?_) (fun b31 => ?_)
        · skip
          have b31 := (nI_le2 (by omega) (by omega)).mp b31
          refine r_iload_2 (pc := 80) C dX6_bestFence_80 ?_
          refine r_iret (pc := 81) C E rfl (Nat.le_refl _) (Nat.le_refl _) dX6_bestFence_81 ?_
          have e9 : k = rC σ := by omega
          subst e9
          exact QP.one b99 (by rw [nt_n (by omega)]) ⟨_, _, _, _, rfl⟩
        · skip
          have b31 := (not_congr (nI_le2 (by omega) (by omega))).mp b31
          refine r_aload_0 (pc := 34) C dX6_bestFence_34 ?_
          refine r_iload_4 (pc := 35) C dX6_bestFence_35 ?_
          refine r_V1io (pc := 37) C (m_whyNoFence (by exact hT) hW (hC _ (by omega)) (by omega)) vl_X6_177 (tw_g hT) (by decide) (Nat.le_refl _) (Nat.le_refl _) (Nat.le_of_ble_eq_true rfl) rfl dX6_bestFence_37 (fun u5 A5 hc5 => ?_)
          obtain ⟨⟨κL, eA⟩, eu⟩ := hc5
          refine r_top eu ?_
          refine r_eqA eA ?_
          clear eu eA A5 u5
          refine r_if_ge (pc := 40) (tgt := 46) C dX6_bestFence_40 (by decide) (fun b40 => ?_) (fun b40 => ?_)
          · skip
            have hz := whyF_ge b40
            have hz2 := whyF_0 hz
            have hd2 : rD (fenceOn σ k) + n ≤ 1200 := by have : rD (fenceOn σ k) = rD σ := upd_rD (by omega); omega
            have hkp := daysR_keep hW.fenceOn hz2.2.2.2 n hd2
            have hVk := hW.fenceOn.same hkp.1 hkp.2.1
            have hck : rC (daysR (fenceOn σ k) n) ≤ 80 := hVk.s.c80
            refine r_aload_0 (pc := 46) C dX6_bestFence_46 ?_
            refine r_iload_4 (pc := 47) C dX6_bestFence_47 ?_
            refine r_iload_1 (pc := 49) C dX6_bestFence_49 ?_
            refine r_V2io (pc := 50) C (m_grassWithFence (by exact hT) hW hz2.2.2.2 (by omega) (by omega)) vl_X6_462 (tw_g hT) (by decide) (Nat.le_refl _) (Nat.le_refl _) (Nat.le_of_ble_eq_true rfl) rfl dX6_bestFence_50 (fun u6 A6 hc6 => ?_)
            obtain ⟨⟨αL, κL, πL, mL, eA⟩, eu⟩ := hc6
            refine r_top eu ?_
            refine r_eqA (eA.trans (by rw [bx_upd, sI_sI])) ?_
            have hgl := allG_le hVk hck
            have hgl : allG (daysR (fenceOn σ k) n) ≤ 720 := hgl
            clear eu eA A6 u6
            refine r_istore_5 (pc := 53) C dX6_bestFence_53 rfl ?_
            rcases hb : bestS σ n k with _ | ⟨b0, m0⟩
            · skip
              refine r_eqL (lv' := [some (.ref t), some (.int (nI n)), some (.int (-1)), some (.int (-1)), some (.int (nI k)), some (.int (nI (allG (daysR (fenceOn σ k) n))))]) rfl ?_
              refine r_iload_5 (pc := 55) C dX6_bestFence_55 ?_
              refine r_iload_3 (pc := 57) C dX6_bestFence_57 ?_
              refine r_icmp_gt (pc := 58) (tgt := 64) C dX6_bestFence_58 (by decide) (fun b58 => ?_) (fun b58 => ?_)
              · skip
                refine r_aload_0 (pc := 64) C dX6_bestFence_64 ?_
                refine r_iload_4 (pc := 65) C dX6_bestFence_65 ?_
                refine r_V1io (pc := 67) C (m_shown (by exact hT) (S5_1 _ _ _ _ _ _) hS) vl_X6_420 (tw_g hT) (by decide) (Nat.le_refl _) (Nat.le_refl _) (Nat.le_of_ble_eq_true rfl) rfl dX6_bestFence_67 (fun u7 A7 hc7 => ?_)
                refine r_top hc7.1 ?_
                refine r_eqA hc7.2 ?_
                clear hc7 A7 u7
                refine r_istore_2 (pc := 70) C dX6_bestFence_70 rfl ?_
                refine r_iload_5 (pc := 71) C dX6_bestFence_71 ?_
                refine r_istore_3 (pc := 73) C dX6_bestFence_73 rfl ?_
                refine r_iinc_4 (pc := 74) C dX6_bestFence_74 (nI_inc _) rfl ?_
                refine r_goto (pc := 77) (tgt := 25) C dX6_bestFence_77 (by decide) ?_
                first | (refine r_eqL (lv' := [some (.ref t), some (.int (nI n)), some (.int (oB σ (bestS σ n (k + 1)))), some (.int (oM (bestS σ n (k + 1)))), some (.int (nI (k + 1))), none]) (by rw [best_no hz]) ?_) | (refine r_eqL (lv' := [some (.ref t), some (.int (nI n)), some (.int (oB σ (bestS σ n (k + 1)))), some (.int (oM (bestS σ n (k + 1)))), some (.int (nI (k + 1))), some (.int (nI (allG (daysR (fenceOn σ k) n))))]) (by first | (rw [best_0 hz hb]; rfl) | (rw [best_1 hz hb b58]; rfl) | (rw [best_2 hz hb b58]; rfl)) ?_)
                refine r_forget (lv' := [some _, some _, some _, some _, some _, none]) ⟨rfl, rfl, rfl, rfl, rfl, trivial⟩ ?_
                exact ih25 (k + 1) _ _ _ _ (by omega) (by omega)
              · skip
                exact absurd (m1_lt (by omega)) b58
            · skip
              refine r_eqL (lv' := [some (.ref t), some (.int (nI n)), some (.int (oB σ (some (b0, m0)))), some (.int (nI m0)), some (.int (nI k)), some (.int (nI (allG (daysR (fenceOn σ k) n))))]) rfl ?_
              have hm0 := best_le hW hd9 (show n ≤ 5 by omega) k hb
              refine r_iload_5 (pc := 55) C dX6_bestFence_55 ?_
              refine r_iload_3 (pc := 57) C dX6_bestFence_57 ?_
              refine r_icmp_gt (pc := 58) (tgt := 64) C dX6_bestFence_58 (by decide) (fun b58 => ?_) (fun b58 => ?_)
              · skip
                have b58 := (nI_lt2 (by omega) (by omega)).mp b58
                refine r_aload_0 (pc := 64) C dX6_bestFence_64 ?_
                refine r_iload_4 (pc := 65) C dX6_bestFence_65 ?_
                refine r_V1io (pc := 67) C (m_shown (by exact hT) (S5_1 _ _ _ _ _ _) hS) vl_X6_420 (tw_g hT) (by decide) (Nat.le_refl _) (Nat.le_refl _) (Nat.le_of_ble_eq_true rfl) rfl dX6_bestFence_67 (fun u8 A8 hc8 => ?_)
                refine r_top hc8.1 ?_
                refine r_eqA hc8.2 ?_
                clear hc8 A8 u8
                refine r_istore_2 (pc := 70) C dX6_bestFence_70 rfl ?_
                refine r_iload_5 (pc := 71) C dX6_bestFence_71 ?_
                refine r_istore_3 (pc := 73) C dX6_bestFence_73 rfl ?_
                refine r_iinc_4 (pc := 74) C dX6_bestFence_74 (nI_inc _) rfl ?_
                refine r_goto (pc := 77) (tgt := 25) C dX6_bestFence_77 (by decide) ?_
                first | (refine r_eqL (lv' := [some (.ref t), some (.int (nI n)), some (.int (oB σ (bestS σ n (k + 1)))), some (.int (oM (bestS σ n (k + 1)))), some (.int (nI (k + 1))), none]) (by rw [best_no hz]) ?_) | (refine r_eqL (lv' := [some (.ref t), some (.int (nI n)), some (.int (oB σ (bestS σ n (k + 1)))), some (.int (oM (bestS σ n (k + 1)))), some (.int (nI (k + 1))), some (.int (nI (allG (daysR (fenceOn σ k) n))))]) (by first | (rw [best_0 hz hb]; rfl) | (rw [best_1 hz hb b58]; rfl) | (rw [best_2 hz hb b58]; rfl)) ?_)
                refine r_forget (lv' := [some _, some _, some _, some _, some _, none]) ⟨rfl, rfl, rfl, rfl, rfl, trivial⟩ ?_
                exact ih25 (k + 1) _ _ _ _ (by omega) (by omega)
              · skip
                have b58 := (not_congr (nI_lt2 (by omega) (by omega))).mp b58
                refine r_goto (pc := 61) (tgt := 74) C dX6_bestFence_61 (by decide) ?_
                refine r_iinc_4 (pc := 74) C dX6_bestFence_74 (nI_inc _) rfl ?_
                refine r_goto (pc := 77) (tgt := 25) C dX6_bestFence_77 (by decide) ?_
                first | (refine r_eqL (lv' := [some (.ref t), some (.int (nI n)), some (.int (oB σ (bestS σ n (k + 1)))), some (.int (oM (bestS σ n (k + 1)))), some (.int (nI (k + 1))), none]) (by rw [best_no hz]) ?_) | (refine r_eqL (lv' := [some (.ref t), some (.int (nI n)), some (.int (oB σ (bestS σ n (k + 1)))), some (.int (oM (bestS σ n (k + 1)))), some (.int (nI (k + 1))), some (.int (nI (allG (daysR (fenceOn σ k) n))))]) (by first | (rw [best_0 hz hb]; rfl) | (rw [best_1 hz hb b58]; rfl) | (rw [best_2 hz hb b58]; rfl)) ?_)
                refine r_forget (lv' := [some _, some _, some _, some _, some _, none]) ⟨rfl, rfl, rfl, rfl, rfl, trivial⟩ ?_
                exact ih25 (k + 1) _ _ _ _ (by omega) (by omega)
          · skip
            have hz := whyF_lt b40
            refine r_goto (pc := 43) (tgt := 74) C dX6_bestFence_43 (by decide) ?_
            refine r_iinc_4 (pc := 74) C dX6_bestFence_74 (nI_inc _) rfl ?_
            refine r_goto (pc := 77) (tgt := 25) C dX6_bestFence_77 (by decide) ?_
            first | (refine r_eqL (lv' := [some (.ref t), some (.int (nI n)), some (.int (oB σ (bestS σ n (k + 1)))), some (.int (oM (bestS σ n (k + 1)))), some (.int (nI (k + 1))), none]) (by rw [best_no hz]) ?_) | (refine r_eqL (lv' := [some (.ref t), some (.int (nI n)), some (.int (oB σ (bestS σ n (k + 1)))), some (.int (oM (bestS σ n (k + 1)))), some (.int (nI (k + 1))), some (.int (nI (allG (daysR (fenceOn σ k) n))))]) (by first | (rw [best_0 hz hb]; rfl) | (rw [best_1 hz hb b58]; rfl) | (rw [best_2 hz hb b58]; rfl)) ?_)
            exact ih25 (k + 1) _ _ _ _ (by omega) (by omega)
    rw [show S5 A t σ κ π (upd τ 6 (bI (¬ inZ (nI n) 1 5))) = S5 (A.sI (t + 4) (A.I (t + 4))) t σ κ π (upd (upd τ 6 (bI (¬ inZ (nI n) 1 5))) 10 ((upd τ 6 (bI (¬ inZ (nI n) 1 5))) 10)) by rw [upd_10, sI_self]]
    exact lp25_3 _ 0 (A.I (t + 4)) κ π ((upd τ 6 (bI (¬ inZ (nI n) 1 5))) 10) (by omega) (Nat.lt_succ_self _)
  · skip
    have b13 := bI_0.mp b13
    refine r_iconst (pc := 16) C dX6_bestFence_16 ci_0 ?_
    refine r_iret (pc := 17) C E rfl (Nat.le_refl _) (Nat.le_refl _) dX6_bestFence_17 ?_
    exact QP.no b13 (Qo.o rfl)
