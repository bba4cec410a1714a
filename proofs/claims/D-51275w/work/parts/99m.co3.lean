/-! THE COMPONENT, 7: the busiest cell, means -/
set_option maxRecDepth 100000
theorem busy_s {σ : Rw} {k : Nat} (h : cTr σ k ≤ (busyS σ k).2) : busyS σ (k + 1) = busyS σ k := if_pos h
theorem busy_n {σ : Rw} {k : Nat} (h : ¬ cTr σ k ≤ (busyS σ k).2) : busyS σ (k + 1) = (some k, cTr σ k) := if_neg h
theorem busy_i {σ : Rw} : ∀ k, ((busyS σ k).1 = none → (busyS σ k).2 = 0) ∧ ∀ j, (busyS σ k).1 = some j → j < k ∧ (busyS σ k).2 = cTr σ j
  | 0 => ⟨fun _ => rfl, fun j h => by cases h⟩
  | k + 1 => by
    obtain ⟨h1, h2⟩ := busy_i (σ := σ) k
    by_cases q : cTr σ k ≤ (busyS σ k).2
    · rw [busy_s q]
      exact ⟨h1, fun j h => ⟨Nat.lt_succ_of_lt (h2 j h).1, (h2 j h).2⟩⟩
    · rw [busy_n q]
      refine ⟨fun h => (by cases h), fun j h => ?_⟩
      cases h
      exact ⟨Nat.lt_succ_self _, rfl⟩
set_option maxHeartbeats 4000000 in
theorem c_busiest {g : GZ} {A : HA} {c a : Nat} {d : Nat → Nat} {σ : Rw} (hc : (A.G c).1 = 1) (hn : A.R c 0 = some a) (hL : Ly A a d σ) (hv : Lv A.I a d σ) (hJ : RowJ σ)  : Ct g wI yX1_busiest (.code yX1_busiest cX1_busiest 3 (Option.some Jvm.ClassFile.FieldType.int)) 2 0 0 [.ref c] (A) (fun u A' => u = oS σ (busyS σ (rC σ)).1 ∧ A' = A) fw_no := by
  refine Ct.of [some (.ref c), none, none] (by decide) rfl rfl fun z C hx hnm E => ?_
  have hW := hJ.w
  have hS := hW.s
  have hw3 := hS.w3
  have hw10 := hS.w10
  have hh8 := hS.h8
  have hc80 := hS.c80
  have k6 := hW.k6
  have g6 := hW.g6
  have hC : ∀ c, c < 80 → CelF σ c := fun c hc => (hJ.c hc).fe
  have d9 := hW.d9
  refine r_iconst (pc := 0) C dX1_busiest_0 ci_m1 ?_
  refine r_istore_1 (pc := 1) C dX1_busiest_1 rfl ?_
  refine r_iconst (pc := 2) C dX1_busiest_2 ci_0 ?_
  refine r_istore_2 (pc := 3) C dX1_busiest_3 rfl ?_
  have lp4_1 : ∀ (fu : Nat) (k : Nat) (hk : k ≤ rC σ), rC σ - k < fu → wa g z 0 0 (A) 4 [some (.ref c), some (.int (oI (busyS σ k).1)), some (.int (nI (k)))] [] := by
    intro fu
    induction fu with
    | zero => intro k  hk hm4; exact absurd hm4 (Nat.not_lt_zero _)
    | succ fu ih4 =>
      intro k  hk hm4
      have hbi := busy_i (σ := σ) k
      refine r_iload_2 (pc := 4) C dX1_busiest_4 ?_
      refine r_aload_0 (pc := 5) C dX1_busiest_5 ?_
      refine r_getR (pc := 6) C fl_X1_24_1 (by exact hc) rfl (by exact hn) dX1_busiest_6 ?_
      refine r_ngetI (pc := 9) C fn_X1_446_2 (ly_g hL) rfl dX1_busiest_9 ?_
      refine r_top hv.c ?_
      refine r_icmp_ge (pc := 12) (tgt := 61) C dX1_busiest_12 (by decide) (fun b12 => ?_) (fun b12 => ?_)
      · skip
        have b12 := (nI_le2 (by omega) (by omega)).mp b12
        rcases hnr : (busyS σ k).1 with _ | j
        · skip
          refine r_eqL (lv' := [some (.ref c), some (.int (-1)), some (.int (nI (k)))]) rfl ?_
          refine r_iload_1 (pc := 61) C dX1_busiest_61 ?_
          refine r_iconst (pc := 62) C dX1_busiest_62 ci_m1 ?_
          refine r_icmp_ne (pc := 63) (tgt := 70) C dX1_busiest_63 (by decide) (fun b63 => ?_) (fun b63 => ?_)
          · exact absurd b63 (by decide +kernel)
          · skip
            refine r_iconst (pc := 66) C dX1_busiest_66 ci_m1 ?_
            refine r_goto (pc := 67) (tgt := 75) C dX1_busiest_67 (by decide) ?_
            refine r_iret (pc := 75) C E rfl (by omega) (by omega) dX1_busiest_75 ?_
            have e9 : k = rC σ := by omega
            subst e9
            exact ⟨by rw [hnr]; rfl, rfl⟩
        · skip
          refine r_eqL (lv' := [some (.ref c), some (.int (nI j)), some (.int (nI (k)))]) rfl ?_
          have hjs := hbi.2 j hnr
          have hjs1 := hjs.1
          refine r_iload_1 (pc := 61) C dX1_busiest_61 ?_
          refine r_iconst (pc := 62) C dX1_busiest_62 ci_m1 ?_
          refine r_icmp_ne (pc := 63) (tgt := 70) C dX1_busiest_63 (by decide) (fun b63 => ?_) (fun b63 => ?_)
          · skip
            refine r_aload_0 (pc := 70) C dX1_busiest_70 ?_
            refine r_iload_1 (pc := 71) C dX1_busiest_71 ?_
            refine r_V1io (pc := 72) C (c_told hc hn hL hv hJ (by omega)) vl_X1_389 (by exact hc) (by decide) (by omega) (by omega) (Nat.le_of_ble_eq_true rfl) rfl dX1_busiest_72 (fun u2 A2 hc2 => ?_)
            refine r_top hc2.1 ?_
            refine r_eqA hc2.2 ?_
            clear hc2 A2 u2
            refine r_iret (pc := 75) C E rfl (by omega) (by omega) dX1_busiest_75 ?_
            have e9 : k = rC σ := by omega
            subst e9
            exact ⟨by rw [hnr]; rfl, rfl⟩
          · skip
            exact absurd b63 (nI_m1 (by omega))
      · skip
        have b12 := (not_congr (nI_le2 (by omega) (by omega))).mp b12
        refine r_aload_0 (pc := 15) C dX1_busiest_15 ?_
        refine r_getR (pc := 16) C fl_X1_24_1 (by exact hc) rfl (by exact hn) dX1_busiest_16 ?_
        refine r_ngetR (pc := 19) C fn_X1_300_2 (ly_g hL) rfl (ly_rf hL 7 (by decide)) dX1_busiest_19 ?_
        refine r_iload_2 (pc := 22) C dX1_busiest_22 ?_
        refine r_iald (pc := 23) C (ly_gf hL 7 (by decide)) rfl rfl (lt_eq (by omega) (ly_nf hL 7 (by decide) (by decide))) (by omega) dX1_busiest_23 ?_
        refine r_top ((hv.trod (by omega)).trans (hJ.c (show k < 80 by omega)).2.2.1.1) ?_
        have htrk := (hJ.c (show k < 80 by omega)).2.2.1.2
        refine r_if_le (pc := 24) (tgt := 55) C dX1_busiest_24 (by decide) (fun b24 => ?_) (fun b24 => ?_)
        · skip
          have b24 := (nI_le0 (by omega)).mp b24
          refine r_iinc_2 (pc := 55) C dX1_busiest_55 (nI_inc _) rfl ?_
          refine r_goto (pc := 58) (tgt := 4) C dX1_busiest_58 (by decide) ?_
          refine r_eqL (lv' := [some (.ref c), some (.int (oI (busyS σ (k + 1)).1)), some (.int (nI (k + 1)))]) (by first | (rw [busy_s (by omega)]; done) | (rw [busy_s (by omega), hnr] <;> rfl) | (rw [busy_n (by omega)] <;> rfl)) ?_
          exact ih4 (k + 1) (by omega) (by omega)
        · skip
          have b24 := (not_congr (nI_le0 (by omega))).mp b24
          rcases hnr : (busyS σ k).1 with _ | j
          · skip
            refine r_eqL (lv' := [some (.ref c), some (.int (-1)), some (.int (nI (k)))]) rfl ?_
            have hb2 := hbi.1 hnr
            refine r_iload_1 (pc := 27) C dX1_busiest_27 ?_
            refine r_iconst (pc := 28) C dX1_busiest_28 ci_m1 ?_
            refine r_icmp_eq (pc := 29) (tgt := 53) C dX1_busiest_29 (by decide) (fun b29 => ?_) (fun b29 => ?_)
            · skip
              refine r_iload_2 (pc := 53) C dX1_busiest_53 ?_
              refine r_istore_1 (pc := 54) C dX1_busiest_54 rfl ?_
              refine r_iinc_2 (pc := 55) C dX1_busiest_55 (nI_inc _) rfl ?_
              refine r_goto (pc := 58) (tgt := 4) C dX1_busiest_58 (by decide) ?_
              refine r_eqL (lv' := [some (.ref c), some (.int (oI (busyS σ (k + 1)).1)), some (.int (nI (k + 1)))]) (by first | (rw [busy_s (by omega)]; done) | (rw [busy_s (by omega), hnr] <;> rfl) | (rw [busy_n (by omega)] <;> rfl)) ?_
              exact ih4 (k + 1) (by omega) (by omega)
            · exact absurd b29 (by decide +kernel)
          · skip
            refine r_eqL (lv' := [some (.ref c), some (.int (nI j)), some (.int (nI (k)))]) rfl ?_
            have hjs := hbi.2 j hnr
            have hjs1 := hjs.1
            have hjs2 := hjs.2
            refine r_iload_1 (pc := 27) C dX1_busiest_27 ?_
            refine r_iconst (pc := 28) C dX1_busiest_28 ci_m1 ?_
            refine r_icmp_eq (pc := 29) (tgt := 53) C dX1_busiest_29 (by decide) (fun b29 => ?_) (fun b29 => ?_)
            · skip
              exact absurd b29 (nI_m1 (by omega))
            · skip
              refine r_aload_0 (pc := 32) C dX1_busiest_32 ?_
              refine r_getR (pc := 33) C fl_X1_24_1 (by exact hc) rfl (by exact hn) dX1_busiest_33 ?_
              refine r_ngetR (pc := 36) C fn_X1_300_2 (ly_g hL) rfl (ly_rf hL 7 (by decide)) dX1_busiest_36 ?_
              refine r_iload_2 (pc := 39) C dX1_busiest_39 ?_
              refine r_iald (pc := 40) C (ly_gf hL 7 (by decide)) rfl rfl (lt_eq (by omega) (ly_nf hL 7 (by decide) (by decide))) (by omega) dX1_busiest_40 ?_
              refine r_top ((hv.trod (by omega)).trans (hJ.c (show k < 80 by omega)).2.2.1.1) ?_
              have htrk := (hJ.c (show k < 80 by omega)).2.2.1.2
              refine r_aload_0 (pc := 41) C dX1_busiest_41 ?_
              refine r_getR (pc := 42) C fl_X1_24_1 (by exact hc) rfl (by exact hn) dX1_busiest_42 ?_
              refine r_ngetR (pc := 45) C fn_X1_300_2 (ly_g hL) rfl (ly_rf hL 7 (by decide)) dX1_busiest_45 ?_
              refine r_iload_1 (pc := 48) C dX1_busiest_48 ?_
              refine r_iald (pc := 49) C (ly_gf hL 7 (by decide)) rfl rfl (lt_eq (by omega) (ly_nf hL 7 (by decide) (by decide))) (by omega) dX1_busiest_49 ?_
              refine r_top ((hv.trod (by omega)).trans (hJ.c (show j < 80 by omega)).2.2.1.1) ?_
              have htrj := (hJ.c (show j < 80 by omega)).2.2.1.2
              refine r_icmp_le (pc := 50) (tgt := 55) C dX1_busiest_50 (by decide) (fun b50 => ?_) (fun b50 => ?_)
              · skip
                have b50 := (nI_le2 (by omega) (by omega)).mp b50
                refine r_iinc_2 (pc := 55) C dX1_busiest_55 (nI_inc _) rfl ?_
                refine r_goto (pc := 58) (tgt := 4) C dX1_busiest_58 (by decide) ?_
                refine r_eqL (lv' := [some (.ref c), some (.int (oI (busyS σ (k + 1)).1)), some (.int (nI (k + 1)))]) (by first | (rw [busy_s (by omega)]; done) | (rw [busy_s (by omega), hnr] <;> rfl) | (rw [busy_n (by omega)] <;> rfl)) ?_
                exact ih4 (k + 1) (by omega) (by omega)
              · skip
                have b50 := (not_congr (nI_le2 (by omega) (by omega))).mp b50
                refine r_iload_2 (pc := 53) C dX1_busiest_53 ?_
                refine r_istore_1 (pc := 54) C dX1_busiest_54 rfl ?_
                refine r_iinc_2 (pc := 55) C dX1_busiest_55 (nI_inc _) rfl ?_
                refine r_goto (pc := 58) (tgt := 4) C dX1_busiest_58 (by decide) ?_
                refine r_eqL (lv' := [some (.ref c), some (.int (oI (busyS σ (k + 1)).1)), some (.int (nI (k + 1)))]) (by first | (rw [busy_s (by omega)]; done) | (rw [busy_s (by omega), hnr] <;> rfl) | (rw [busy_n (by omega)] <;> rfl)) ?_
                exact ih4 (k + 1) (by omega) (by omega)
  exact lp4_1 _ 0 (by omega) (Nat.lt_succ_self _)
set_option maxHeartbeats 4000000 in
theorem c_meanGrass {g : GZ} {A : HA} {c a : Nat} {d : Nat → Nat} {σ : Rw} (hc : (A.G c).1 = 1) (hn : A.R c 0 = some a) (hL : Ly A a d σ) (hv : Lv A.I a d σ) (hJ : RowJ σ)  : Ct g wD yX1_meanGrass (.code yX1_meanGrass cX1_meanGrass 2 (Option.some Jvm.ClassFile.FieldType.double)) 3 0 0 [.ref c] (A) (fun u A' => u = meanA σ ∧ A' = A) fw_no := by
  refine Ct.of [some (.ref c), none] (by decide) rfl rfl fun z C hx hnm E => ?_
  have hW := hJ.w
  have hS := hW.s
  have hw3 := hS.w3
  have hw10 := hS.w10
  have hh8 := hS.h8
  have hc80 := hS.c80
  have k6 := hW.k6
  have g6 := hW.g6
  have hC : ∀ c, c < 80 → CelF σ c := fun c hc => (hJ.c hc).fe
  have d9 := hW.d9
  refine r_aload_0 (pc := 0) C dX1_meanGrass_0 ?_
  refine r_getR (pc := 1) C fl_X1_24_1 (by exact hc) rfl (by exact hn) dX1_meanGrass_1 ?_
  refine r_iconst (pc := 4) C dX1_meanGrass_4 ci_0 ?_
  refine r_V1io (pc := 5) C (l_cellsOf hL hv hW (k := 0) (by omega)) vl_X1_226 (ly_g hL) (by decide) (by omega) (by omega) (Nat.le_of_ble_eq_true rfl) rfl dX1_meanGrass_5 (fun u1 A1 hc1 => ?_)
  refine r_top hc1.1 ?_
  refine r_eqA hc1.2 ?_
  have hml := smb_le (f := fun c => decide (σ (153 + 5 * c + 0) = nI 0)) (rC σ)
  have hml : manyR σ 0 ≤ rC σ := hml
  clear hc1 A1 u1
  refine r_istore_1 (pc := 8) C dX1_meanGrass_8 rfl ?_
  refine r_iload_1 (pc := 9) C dX1_meanGrass_9 ?_
  refine r_if_ne (pc := 10) (tgt := 17) C dX1_meanGrass_10 (by decide) (fun b10 => ?_) (fun b10 => ?_)
  · skip
    have b10 := (not_congr (nI_eq0 (by omega))).mp b10
    refine r_aload_0 (pc := 17) C dX1_meanGrass_17 ?_
    refine r_getR (pc := 18) C fl_X1_24_1 (by exact hc) rfl (by exact hn) dX1_meanGrass_18 ?_
    refine r_V0io (pc := 21) C (l_grassAll hL hv hW hC) vl_X1_233 (ly_g hL) (by decide) (by omega) (by omega) (Nat.le_of_ble_eq_true rfl) rfl dX1_meanGrass_21 (fun u2 A2 hc2 => ?_)
    refine r_top hc2.1 ?_
    refine r_eqA hc2.2 ?_
    clear hc2 A2 u2
    refine r_i2d (pc := 24) C dX1_meanGrass_24 ?_
    refine r_iload_1 (pc := 25) C dX1_meanGrass_25 ?_
    refine r_i2d (pc := 26) C dX1_meanGrass_26 ?_
    refine r_ddiv (pc := 27) C dX1_meanGrass_27 (nan64 b10 (by omega) (allG_many hW)) ?_
    refine r_dret (pc := 28) C E (by omega) (by omega) dX1_meanGrass_28 ?_
    refine ⟨?_, rfl⟩
    unfold meanA
    first
      | rw [if_pos b10]
      | rw [if_neg b10]
  · skip
    have b10 := (nI_eq0 (by omega)).mp b10
    refine r_dconst0 (pc := 13) C dX1_meanGrass_13 ?_
    refine r_goto (pc := 14) (tgt := 28) C dX1_meanGrass_14 (by decide) ?_
    refine r_dret (pc := 28) C E (by omega) (by omega) dX1_meanGrass_28 ?_
    refine ⟨?_, rfl⟩
    unfold meanA
    first
      | rw [if_pos b10]
      | rw [if_neg b10]
set_option maxHeartbeats 4000000 in
theorem c_bareShare {g : GZ} {A : HA} {c a : Nat} {d : Nat → Nat} {σ : Rw} (hc : (A.G c).1 = 1) (hn : A.R c 0 = some a) (hL : Ly A a d σ) (hv : Lv A.I a d σ) (hJ : RowJ σ)  : Ct g wF yX1_bareShare (.code yX1_bareShare cX1_bareShare 2 (Option.some Jvm.ClassFile.FieldType.float)) 3 0 0 [.ref c] (A) (fun u A' => u = shareA σ ∧ A' = A) fw_no := by
  refine Ct.of [some (.ref c), none] (by decide) rfl rfl fun z C hx hnm E => ?_
  have hW := hJ.w
  have hS := hW.s
  have hw3 := hS.w3
  have hw10 := hS.w10
  have hh8 := hS.h8
  have hc80 := hS.c80
  have k6 := hW.k6
  have g6 := hW.g6
  have hC : ∀ c, c < 80 → CelF σ c := fun c hc => (hJ.c hc).fe
  have d9 := hW.d9
  refine r_aload_0 (pc := 0) C dX1_bareShare_0 ?_
  refine r_getR (pc := 1) C fl_X1_24_1 (by exact hc) rfl (by exact hn) dX1_bareShare_1 ?_
  refine r_iconst (pc := 4) C dX1_bareShare_4 ci_0 ?_
  refine r_V1io (pc := 5) C (l_cellsOf hL hv hW (k := 0) (by omega)) vl_X1_226 (ly_g hL) (by decide) (by omega) (by omega) (Nat.le_of_ble_eq_true rfl) rfl dX1_bareShare_5 (fun u1 A1 hc1 => ?_)
  refine r_top hc1.1 ?_
  refine r_eqA hc1.2 ?_
  have hml := smb_le (f := fun c => decide (σ (153 + 5 * c + 0) = nI 0)) (rC σ)
  have hml : manyR σ 0 ≤ rC σ := hml
  clear hc1 A1 u1
  refine r_istore_1 (pc := 8) C dX1_bareShare_8 rfl ?_
  refine r_iload_1 (pc := 9) C dX1_bareShare_9 ?_
  refine r_if_ne (pc := 10) (tgt := 17) C dX1_bareShare_10 (by decide) (fun b10 => ?_) (fun b10 => ?_)
  · skip
    have b10 := (not_congr (nI_eq0 (by omega))).mp b10
    refine r_aload_0 (pc := 17) C dX1_bareShare_17 ?_
    refine r_getR (pc := 18) C fl_X1_24_1 (by exact hc) rfl (by exact hn) dX1_bareShare_18 ?_
    refine r_V0io (pc := 21) C (l_bareAll hL hv hW) vl_X1_230 (ly_g hL) (by decide) (by omega) (by omega) (Nat.le_of_ble_eq_true rfl) rfl dX1_bareShare_21 (fun u2 A2 hc2 => ?_)
    refine r_top hc2.1 ?_
    refine r_eqA hc2.2 ?_
    clear hc2 A2 u2
    refine r_i2f (pc := 24) C dX1_bareShare_24 ?_
    refine r_iload_1 (pc := 25) C dX1_bareShare_25 ?_
    refine r_i2f (pc := 26) C dX1_bareShare_26 ?_
    refine r_fdiv (pc := 27) C dX1_bareShare_27 (nan32 b10 (by omega) bare_many) ?_
    refine r_fret (pc := 28) C E (by omega) (by omega) dX1_bareShare_28 ?_
    refine ⟨?_, rfl⟩
    unfold shareA
    first
      | rw [if_pos b10]
      | rw [if_neg b10]
  · skip
    have b10 := (nI_eq0 (by omega)).mp b10
    refine r_fconst0 (pc := 13) C dX1_bareShare_13 ?_
    refine r_goto (pc := 14) (tgt := 28) C dX1_bareShare_14 (by decide) ?_
    refine r_fret (pc := 28) C E (by omega) (by omega) dX1_bareShare_28 ?_
    refine ⟨?_, rfl⟩
    unfold shareA
    first
      | rw [if_pos b10]
      | rw [if_neg b10]
