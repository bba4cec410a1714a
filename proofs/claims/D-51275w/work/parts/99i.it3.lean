/-! THE COMPONENT, 3: questions over ways -/
set_option maxRecDepth 100000
set_option maxHeartbeats 4000000 in
theorem c_isOn {g : GZ} {A : HA} {c a : Nat} {d : Nat → Nat} {σ : Rw} (hc : (A.G c).1 = 1) (hn : A.R c 0 = some a) (hL : Ly A a d σ) (hv : Lv A.I a d σ) (hJ : RowJ σ) (hG : GdK g) (hIc : IcK g A) {k e : Nat} (hk : k < rK σ) (he : e < 1000) : Ct g wI yX1_isOn (.code yX1_isOn cX1_isOn 5 (Option.some Jvm.ClassFile.FieldType.boolean)) 9 2 6 [.ref c, .ref (d (30 + k)), .int (nI (e))] (A) (fun u A' => u = bI (onR σ e k = true) ∧ Gs A A' d) fw_no := by
  refine Ct.of [some (.ref c), some (.ref (d (30 + k))), some (.int (nI (e))), none, none] (by decide) rfl rfl fun z C hx hnm E => ?_
  have hW := hJ.w
  have hS := hW.s
  have hw3 := hS.w3
  have hw10 := hS.w10
  have hh8 := hS.h8
  have hc80 := hS.c80
  have k6 := hW.k6
  have g6 := hW.g6
  have hC : ∀ c, c < 80 → CelF σ c := fun c hc => (hJ.c hc).fe
  have d9 := hW.d9
  refine r_Z fun hZ => ?_
  have hcz := hZ.lt hc rfl
  refine r_aload_0 (pc := 0) C dX1_isOn_0 ?_
  refine r_getR (pc := 1) C fl_X1_24_1 (by exact hc) rfl (by exact hn) dX1_isOn_1 ?_
  refine r_aload_1 (pc := 4) C dX1_isOn_4 ?_
  refine r_V1r (pc := 5) C (l_way (k := k) hL hv hW hC hJ.g hG hk) vl_X1_247 (ly_g hL) (by decide) (by omega) (by omega) (Nat.le_of_ble_eq_true rfl) rfl dX1_isOn_5 (fun u1 A1 hc1 => ?_)
  obtain ⟨hWi, hFar, hGs1⟩ := hc1
  generalize A1 = B at hWi hFar hGs1 ⊢
  generalize u1 = p at hWi ⊢
  refine r_Z fun hZB => ?_
  have hLB := hGs1.ly hZ hL
  have hvB := hGs1.lv hZ hL hv
  have hIB := hGs1.ic hZ hL hIc
  refine r_F0r (pc := 8) C (j_iterator hLB hvB hJ hk hWi) fi_X1_251_11 hWi.1 (by decide) (by omega) (by omega) (Nat.le_of_ble_eq_true rfl) rfl dX1_isOn_8 (fun u2 A2 hc2 => ?_)
  obtain ⟨eu2, hIt0, hGn⟩ := hc2
  refine r_topR eu2 ?_
  clear eu2 u2
  generalize A2 = D at hIt0 hGn ⊢
  refine r_Z fun hZD => ?_
  have hLD := ly_gw hZB hLB hGn (fun _ _ q => q)
  have hvD := lv_gw hZB hLB hvB hGn (fun _ _ q => q)
  have hFD := hFar.gw hZB hLB hGn (fun q => q)
  have hID := hIB.gw hZB hGn (fun _ _ q => q.elim)
  have hG0 := hGs1.nx hGn (fun _ _ q => q)
  have hAB : A.z ≤ B.z := hGs1.1.1
  have hfs : ∀ y, Fp a d (rK σ) (rG σ) y → ¬ y = B.z := fun y hy e => by have h1 := fp_k hLD hy; rw [e, hIt0.1] at h1; omega
  have hwf := wy_facts hW hk (hJ.y _ hk)
  refine r_astore_3 (pc := 13) C dX1_isOn_13 rfl ?_
  have lp14_3 : ∀ (fu : Nat) (i : Nat) (F : HA)  (hi : i ≤ wl σ k + 1) (hItE : It F (B.z) a d σ k i) (hGE : Gw D F (fun y => y = B.z)) (hno : ∀ j, j < i → wy σ k j ≠ e), wl σ k + 1 - i < fu → wa g z 2 6 (F) 14 [some (.ref c), some (.ref (d (30 + k))), some (.int (nI (e))), some (.ref (B.z)), none] [] := by
    intro fu
    induction fu with
    | zero => intro i  F  hi hItE hGE hno hm14; exact absurd hm14 (Nat.not_lt_zero _)
    | succ fu ih14 =>
      intro i  F  hi hItE hGE hno hm14
      have hLE := ly_gw hZD hLD hGE hfs
      have hvE := lv_gw hZD hLD hvD hGE hfs
      have hFE := hFD.gw hZD hLD hGE (hfs _ (Or.inr (Or.inl ⟨15, by decide, rfl⟩)))
      have hIE := hID.gw hZD hGE (fun y _ e => by rw [e, hIt0.1]; omega)
      have hGsE : Gs A F d := hG0.nx hGE (fun y hy q => by omega)
      refine r_aload_3 (pc := 14) C dX1_isOn_14 ?_
      refine r_F0io (pc := 15) C (j_hasNext hItE) fi_X1_257_12 hItE.1 (by decide) (by omega) (by omega) (Nat.le_of_ble_eq_true rfl) rfl dX1_isOn_15 (fun u4 A4 hc4 => ?_)
      refine r_top hc4.1 ?_
      refine r_eqA hc4.2 ?_
      clear hc4 A4 u4
      refine r_if_eq (pc := 20) (tgt := 48) C dX1_isOn_20 (by decide) (fun b20 => ?_) (fun b20 => ?_)
      · skip
        have b20 := bI_0.mp b20
        refine r_iconst (pc := 48) C dX1_isOn_48 ci_0 ?_
        refine r_iret (pc := 49) C E nar_0 (by omega) (by omega) dX1_isOn_49 ?_
        refine ⟨bI_00 (fun q => ?_), hGsE⟩
        obtain ⟨j, h1, h2⟩ := onB_t.mp q
        exact hno j (by omega) h2
      · skip
        have b20 := bI_n.mp b20
        refine r_aload_3 (pc := 23) C dX1_isOn_23 ?_
        refine r_F0ro (pc := 24) C (j_next hLE hvE hJ hk hItE hIE hFE b20) fi_X1_263_12 hItE.1 (by decide) (by omega) (by omega) (Nat.le_of_ble_eq_true rfl) rfl dX1_isOn_24 (fun u5 A5 hc5 => ?_)
        obtain ⟨hu1, hu2, hIt2, hGw2⟩ := hc5
        generalize A5 = E2 at hu1 hu2 hIt2 hGw2 ⊢
        generalize u5 = v at hu1 hu2 ⊢
        have hwi := hwf.1 i b20
        have hLE2 := ly_gw hZD hLD (hGE.tr hGw2) hfs
        have hvE2 := lv_gw hZD hLD hvD (hGE.tr hGw2) hfs
        have hGsE2 : Gs A E2 d := hG0.nx (hGE.tr hGw2) (fun y hy q => by omega)
        refine r_castS (pc := 29) C q1236 hu1 rfl rfl dX1_isOn_29 ?_
        refine r_V0io (pc := 32) C (j_intValue hu1) vl_X1_268 hu1 (by decide) (by omega) (by omega) (Nat.le_of_ble_eq_true rfl) rfl dX1_isOn_32 (fun u6 A6 hc6 => ?_)
        refine r_top (hc6.1.trans hu2) ?_
        refine r_eqA hc6.2 ?_
        clear hc6 A6 u6
        refine r_istore_4 (pc := 35) C dX1_isOn_35 rfl ?_
        refine r_iload_4 (pc := 37) C dX1_isOn_37 ?_
        refine r_iload_2 (pc := 39) C dX1_isOn_39 ?_
        refine r_icmp_ne (pc := 40) (tgt := 45) C dX1_isOn_40 (by decide) (fun b40 => ?_) (fun b40 => ?_)
        · skip
          have b40 := (not_congr (nI_eqI (by omega) (by omega))).mp b40
          refine r_goto (pc := 45) (tgt := 14) C dX1_isOn_45 (by decide) ?_
          refine r_forget (lv' := [some _, some _, some _, some _, none]) ⟨rfl, rfl, rfl, rfl, trivial⟩ ?_
          exact ih14 (i + 1) _  (by omega) hIt2 (hGE.tr hGw2) (fun j hj => if q9 : j = i then by rw [q9]; omega else hno j (by omega)) (by omega)
        · skip
          have b40 := (nI_eqI (by omega) (by omega)).mp b40
          refine r_iconst (pc := 43) C dX1_isOn_43 ci_1 ?_
          refine r_iret (pc := 44) C E nar_1 (by omega) (by omega) dX1_isOn_44 ?_
          exact ⟨bI_1 (onB_t.mpr ⟨i, by omega, b40⟩), hGsE2⟩
  exact lp14_3 _ 0 D  (Nat.zero_le _) hIt0 Gw.rf (fun j hj => absurd hj (Nat.not_lt_zero _)) (Nat.lt_succ_self _)
set_option maxHeartbeats 4000000 in
theorem c_stepsOf {g : GZ} {A : HA} {c a : Nat} {d : Nat → Nat} {σ : Rw} (hc : (A.G c).1 = 1) (hn : A.R c 0 = some a) (hL : Ly A a d σ) (hv : Lv A.I a d σ) (hJ : RowJ σ) (hG : GdK g) (hIc : IcK g A) {k : Nat} (hk : k < rK σ) : Ct g wI yX1_stepsOf (.code yX1_stepsOf cX1_stepsOf 5 (Option.some Jvm.ClassFile.FieldType.int)) 9 2 6 [.ref c, .ref (d (30 + k))] (A) (fun u A' => u = nI (wl σ k) ∧ Gs A A' d) fw_no := by
  refine Ct.of [some (.ref c), some (.ref (d (30 + k))), none, none, none] (by decide) rfl rfl fun z C hx hnm E => ?_
  have hW := hJ.w
  have hS := hW.s
  have hw3 := hS.w3
  have hw10 := hS.w10
  have hh8 := hS.h8
  have hc80 := hS.c80
  have k6 := hW.k6
  have g6 := hW.g6
  have hC : ∀ c, c < 80 → CelF σ c := fun c hc => (hJ.c hc).fe
  have d9 := hW.d9
  refine r_Z fun hZ => ?_
  have hcz := hZ.lt hc rfl
  refine r_iconst (pc := 0) C dX1_stepsOf_0 ci_0 ?_
  refine r_istore_2 (pc := 1) C dX1_stepsOf_1 rfl ?_
  refine r_aload_0 (pc := 2) C dX1_stepsOf_2 ?_
  refine r_getR (pc := 3) C fl_X1_24_1 (by exact hc) rfl (by exact hn) dX1_stepsOf_3 ?_
  refine r_aload_1 (pc := 6) C dX1_stepsOf_6 ?_
  refine r_V1r (pc := 7) C (l_way (k := k) hL hv hW hC hJ.g hG hk) vl_X1_247 (ly_g hL) (by decide) (by omega) (by omega) (Nat.le_of_ble_eq_true rfl) rfl dX1_stepsOf_7 (fun u1 A1 hc1 => ?_)
  obtain ⟨hWi, hFar, hGs1⟩ := hc1
  generalize A1 = B at hWi hFar hGs1 ⊢
  generalize u1 = p at hWi ⊢
  refine r_Z fun hZB => ?_
  have hLB := hGs1.ly hZ hL
  have hvB := hGs1.lv hZ hL hv
  have hIB := hGs1.ic hZ hL hIc
  refine r_F0r (pc := 10) C (j_iterator hLB hvB hJ hk hWi) fi_X1_251_11 hWi.1 (by decide) (by omega) (by omega) (Nat.le_of_ble_eq_true rfl) rfl dX1_stepsOf_10 (fun u2 A2 hc2 => ?_)
  obtain ⟨eu2, hIt0, hGn⟩ := hc2
  refine r_topR eu2 ?_
  clear eu2 u2
  generalize A2 = D at hIt0 hGn ⊢
  refine r_Z fun hZD => ?_
  have hLD := ly_gw hZB hLB hGn (fun _ _ q => q)
  have hvD := lv_gw hZB hLB hvB hGn (fun _ _ q => q)
  have hFD := hFar.gw hZB hLB hGn (fun q => q)
  have hID := hIB.gw hZB hGn (fun _ _ q => q.elim)
  have hG0 := hGs1.nx hGn (fun _ _ q => q)
  have hAB : A.z ≤ B.z := hGs1.1.1
  have hfs : ∀ y, Fp a d (rK σ) (rG σ) y → ¬ y = B.z := fun y hy e => by have h1 := fp_k hLD hy; rw [e, hIt0.1] at h1; omega
  have hwf := wy_facts hW hk (hJ.y _ hk)
  refine r_astore_3 (pc := 15) C dX1_stepsOf_15 rfl ?_
  have lp16_3 : ∀ (fu : Nat) (i : Nat) (F : HA)  (hi : i ≤ wl σ k + 1) (hItE : It F (B.z) a d σ k i) (hGE : Gw D F (fun y => y = B.z)), wl σ k + 1 - i < fu → wa g z 2 6 (F) 16 [some (.ref c), some (.ref (d (30 + k))), some (.int (nI (i))), some (.ref (B.z)), none] [] := by
    intro fu
    induction fu with
    | zero => intro i  F  hi hItE hGE hm16; exact absurd hm16 (Nat.not_lt_zero _)
    | succ fu ih16 =>
      intro i  F  hi hItE hGE hm16
      have hLE := ly_gw hZD hLD hGE hfs
      have hvE := lv_gw hZD hLD hvD hGE hfs
      have hFE := hFD.gw hZD hLD hGE (hfs _ (Or.inr (Or.inl ⟨15, by decide, rfl⟩)))
      have hIE := hID.gw hZD hGE (fun y _ e => by rw [e, hIt0.1]; omega)
      have hGsE : Gs A F d := hG0.nx hGE (fun y hy q => by omega)
      refine r_aload_3 (pc := 16) C dX1_stepsOf_16 ?_
      refine r_F0io (pc := 17) C (j_hasNext hItE) fi_X1_257_12 hItE.1 (by decide) (by omega) (by omega) (Nat.le_of_ble_eq_true rfl) rfl dX1_stepsOf_17 (fun u4 A4 hc4 => ?_)
      refine r_top hc4.1 ?_
      refine r_eqA hc4.2 ?_
      clear hc4 A4 u4
      refine r_if_eq (pc := 22) (tgt := 45) C dX1_stepsOf_22 (by decide) (fun b22 => ?_) (fun b22 => ?_)
      · skip
        have b22 := bI_0.mp b22
        refine r_iload_2 (pc := 45) C dX1_stepsOf_45 ?_
        refine r_iconst (pc := 46) C dX1_stepsOf_46 ci_1 ?_
        refine r_isub (pc := 47) C dX1_stepsOf_47 ?_
        refine r_top (pk_sub (by omega)) ?_
        refine r_iret (pc := 48) C E rfl (by omega) (by omega) dX1_stepsOf_48 ?_
        have e9 : i = wl σ k + 1 := by omega
        subst e9
        exact ⟨rfl, hGsE⟩
      · skip
        have b22 := bI_n.mp b22
        refine r_aload_3 (pc := 25) C dX1_stepsOf_25 ?_
        refine r_F0ro (pc := 26) C (j_next hLE hvE hJ hk hItE hIE hFE b22) fi_X1_263_12 hItE.1 (by decide) (by omega) (by omega) (Nat.le_of_ble_eq_true rfl) rfl dX1_stepsOf_26 (fun u5 A5 hc5 => ?_)
        obtain ⟨hu1, hu2, hIt2, hGw2⟩ := hc5
        generalize A5 = E2 at hu1 hu2 hIt2 hGw2 ⊢
        generalize u5 = v at hu1 hu2 ⊢
        have hwi := hwf.1 i b22
        have hLE2 := ly_gw hZD hLD (hGE.tr hGw2) hfs
        have hvE2 := lv_gw hZD hLD hvD (hGE.tr hGw2) hfs
        have hGsE2 : Gs A E2 d := hG0.nx (hGE.tr hGw2) (fun y hy q => by omega)
        refine r_castS (pc := 31) C q1236 hu1 rfl rfl dX1_stepsOf_31 ?_
        refine r_V0io (pc := 34) C (j_intValue hu1) vl_X1_268 hu1 (by decide) (by omega) (by omega) (Nat.le_of_ble_eq_true rfl) rfl dX1_stepsOf_34 (fun u6 A6 hc6 => ?_)
        refine r_top (hc6.1.trans hu2) ?_
        refine r_eqA hc6.2 ?_
        clear hc6 A6 u6
        refine r_istore_4 (pc := 37) C dX1_stepsOf_37 rfl ?_
        refine r_iinc_2 (pc := 39) C dX1_stepsOf_39 (nI_inc _) rfl ?_
        refine r_goto (pc := 42) (tgt := 16) C dX1_stepsOf_42 (by decide) ?_
        refine r_forget (lv' := [some _, some _, some _, some _, none]) ⟨rfl, rfl, rfl, rfl, trivial⟩ ?_
        exact ih16 (i + 1) _  (by omega) hIt2 (hGE.tr hGw2) (by omega)
  exact lp16_3 _ 0 D  (Nat.zero_le _) hIt0 Gw.rf (Nat.lt_succ_self _)
