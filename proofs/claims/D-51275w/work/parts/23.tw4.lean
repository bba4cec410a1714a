/-! THE REFERENCE, 4: costs laid -/
set_option maxRecDepth 100000
theorem msr {fl a b fu : Nat} (h : fl ≤ 1) (hd : fl = 1 → a < b) (hm : 1 + b < fu + 1) : fl * (1 + a) < fu := by
  rcases Nat.eq_zero_or_pos fl with q | q
  · rw [q, Nat.zero_mul]; omega
  · have e : fl = 1 := by omega
    have := hd e
    rw [e, Nat.one_mul]; omega
def fillK (f : Nat → Int32) (k : Nat) : Nat → Int32 := fun j => if j < k then nI 1000000 else f j
theorem fill_0 (f : Nat → Int32) : fillK f 0 = f := by
  funext j
  exact if_neg (by omega)
theorem fill_s (f : Nat → Int32) (k : Nat) : upd (fillK f k) k (nI 1000000) = fillK f (k + 1) := by
  funext j
  show (if j = k then nI 1000000 else if j < k then nI 1000000 else f j) = if j < k + 1 then nI 1000000 else f j
  by_cases q : j = k
  · rw [if_pos q, if_pos (by omega)]
  · rw [if_neg q]
    by_cases q2 : j < k
    · rw [if_pos q2, if_pos (by omega)]
    · rw [if_neg q2, if_neg (by omega)]
theorem cby_le {σ : Nat → Int32} {f : Nat → Nat} {w m c s : Nat} (hW : RowW σ) (hc : c < rC σ) : cby σ f w m c s ≤ 1000116 := by
  have hS := hW.s
  have hc80 := hS.c80
  have hw3 := hS.w3
  rcases cby_cases σ f w m c s with q | ⟨n, e, h1, h2, h3, h4⟩
  · omega
  · have hn := nb_lt (show 0 < rW σ by omega) hc h1
    have := ecost_le hW (show n < 80 by unfold rC at hc80; omega) h3
    omega
theorem s16 (A : HA) (t : Nat) (F : Nat → Int32) : (A.sI (t + 6) F).I (t + 1) = A.I (t + 1) := sI_o A F (by omega)
theorem s66 (A : HA) (t : Nat) (F : Nat → Int32) : (A.sI (t + 6) F).I (t + 6) = F := sI_s A _ F
set_option maxHeartbeats 4000000 in
theorem m_laysCosts {g : GZ} {A : HA} {t : Nat} (hT : Tw A t) {σ : Nat → Int32} (hσ : A.I (t + 1) = σ) {w m : Nat} (hW : RowW (σ)) (hw : w < rK (σ)) (hm : m < 3) : Ct g wI yX6_laysCosts (.code yX6_laysCosts cX6_laysCosts 7 (Option.some Jvm.ClassFile.FieldType.int)) 5 0 0 [.ref t, .int (nI (w)), .int (nI (m))] (A) (fun u A' => ∃ (f : Nat → Nat) (κ : Nat → Int32), A' = A.sI (t + 6) κ ∧ (∀ j, j < 80 → κ j = nI (f j) ∧ f j ≤ 1000000) ∧ Sol (σ) w m f ∧ u = nI (f (gC (σ) (wFr (σ) w)))) fw_no := by
  refine Ct.of [some (.ref t), some (.int (nI (w))), some (.int (nI (m))), none, none, none, none] (by decide) rfl rfl fun z C hx hnm E => ?_
  subst hσ
  have hS := hW.s
  have hk6 := hW.k6
  have hg6 := hW.g6
  have hc80 := hS.c80
  have hto := (hW.K hw).2.1
  have hfr := (hW.K hw).1
  have hgt := hW.G hto.2
  have hgf := hW.G hfr.2
  have hct := gC_lt hS hgt
  have hcf := gC_lt hS hgf
  refine r_iconst (pc := 0) C dX6_laysCosts_0 ci_0 ?_
  refine r_istore_3 (pc := 1) C dX6_laysCosts_1 rfl ?_
  have lp2_1 : ∀ (fu : Nat) (k : Nat) (hk : k ≤ 80), 80 - k < fu → wa g z 0 0 (A.sI (t + 6) (fillK (A.I (t + 6)) k)) 2 [some (.ref t), some (.int (nI (w))), some (.int (nI (m))), some (.int (nI (k))), none, none, none] [] := by
    intro fu
    induction fu with
    | zero => intro k  hk hm2; exact absurd hm2 (Nat.not_lt_zero _)
    | succ fu ih2 =>
      intro k  hk hm2
      refine r_iload_3 (pc := 2) C dX6_laysCosts_2 ?_
      refine r_bipush (pc := 3) C dX6_laysCosts_3 cb_80 ?_
      refine r_icmp_ge (pc := 5) (tgt := 22) C dX6_laysCosts_5 (by decide) (fun b5 => ?_) (fun b5 => ?_)
      · skip
        have b5 := (nI_le2 (by omega) (by omega)).mp b5
        have hfill : ∀ j, j < 80 → fillK (A.I (t + 6)) k j = nI 1000000 := fun j hj => if_pos (by omega)
        refine r_aload_0 (pc := 22) C dX6_laysCosts_22 ?_
        refine r_getR (pc := 23) C fl_X6_25_6 (tw_g hT) rfl (tw_r6 hT) dX6_laysCosts_23 ?_
        refine r_aload_0 (pc := 26) C dX6_laysCosts_26 ?_
        refine r_aload_0 (pc := 27) C dX6_laysCosts_27 ?_
        refine r_iload_1 (pc := 28) C dX6_laysCosts_28 ?_
        refine r_bipush (pc := 29) C dX6_laysCosts_29 cb_8 ?_
        refine r_V2io (pc := 31) C (m_of (by exact hT) (s16 _ _ _)) vl_X6_103 (tw_g hT) (by decide) (Nat.le_refl _) (Nat.le_refl _) (Nat.le_of_ble_eq_true rfl) rfl dX6_laysCosts_31 (fun u2 A2 hc2 => ?_)
        refine r_top hc2.1 ?_
        refine r_eqA hc2.2 ?_
        clear hc2 A2 u2
        refine r_top hto.1 ?_
        refine r_V1io (pc := 34) C (m_gateCell (by exact hT) (s16 _ _ _) hS hgt) vl_X6_114 (tw_g hT) (by decide) (Nat.le_refl _) (Nat.le_refl _) (Nat.le_of_ble_eq_true rfl) rfl dX6_laysCosts_34 (fun u3 A3 hc3 => ?_)
        refine r_top hc3.1 ?_
        refine r_eqA hc3.2 ?_
        clear hc3 A3 u3
        refine r_iconst (pc := 37) C dX6_laysCosts_37 ci_0 ?_
        refine r_iast (pc := 38) C (tw_g6 hT) rfl rfl (lt_eq (by omega) (tw_n6 hT)) (by omega) dX6_laysCosts_38 ?_
        refine r_iconst (pc := 39) C dX6_laysCosts_39 ci_1 ?_
        refine r_istore_3 (pc := 40) C dX6_laysCosts_40 rfl ?_
        have lp41_4 : ∀ (fu : Nat) (f1 : Nat → Nat) (κ1 : Nat → Int32) (fl1 : Nat) (hI1 : LCI (A.I (t + 1)) w m κ1 f1) (hl1 : fl1 ≤ 1) (hx1 : fl1 = 0 → ∀ c, c < rC (A.I (t + 1)) → ∀ s, s < 4 → f1 c ≤ cby (A.I (t + 1)) f1 w m c s), fl1 * (1 + sumN f1 80) < fu → wa g z 0 0 (A.sI (t + 6) κ1) 41 [some (.ref t), some (.int (nI (w))), some (.int (nI (m))), some (.int (nI (fl1))), none, none, none] [] := by
          intro fu
          induction fu with
          | zero => intro f1  κ1  fl1  hI1 hl1 hx1 hm41; exact absurd hm41 (Nat.not_lt_zero _)
          | succ fu ih41 =>
            intro f1  κ1  fl1  hI1 hl1 hx1 hm41
            refine r_iload_3 (pc := 41) C dX6_laysCosts_41 ?_
            refine r_if_eq (pc := 42) (tgt := 121) C dX6_laysCosts_42 (by decide) (fun b42 => ?_) (fun b42 => ?_)
            · skip
              have b42 := (nI_eq0 (by omega)).mp b42
              refine r_aload_0 (pc := 121) C dX6_laysCosts_121 ?_
              refine r_getR (pc := 122) C fl_X6_25_6 (tw_g hT) rfl (tw_r6 hT) dX6_laysCosts_122 ?_
              refine r_aload_0 (pc := 125) C dX6_laysCosts_125 ?_
              refine r_aload_0 (pc := 126) C dX6_laysCosts_126 ?_
              refine r_iload_1 (pc := 127) C dX6_laysCosts_127 ?_
              refine r_bipush (pc := 128) C dX6_laysCosts_128 cb_7 ?_
              refine r_V2io (pc := 130) C (m_of (by exact hT) (s16 _ _ _)) vl_X6_103 (tw_g hT) (by decide) (Nat.le_refl _) (Nat.le_refl _) (Nat.le_of_ble_eq_true rfl) rfl dX6_laysCosts_130 (fun u5 A5 hc5 => ?_)
              refine r_top hc5.1 ?_
              refine r_eqA hc5.2 ?_
              clear hc5 A5 u5
              refine r_top hfr.1 ?_
              refine r_V1io (pc := 133) C (m_gateCell (by exact hT) (s16 _ _ _) hS hgf) vl_X6_114 (tw_g hT) (by decide) (Nat.le_refl _) (Nat.le_refl _) (Nat.le_of_ble_eq_true rfl) rfl dX6_laysCosts_133 (fun u6 A6 hc6 => ?_)
              refine r_top hc6.1 ?_
              refine r_eqA hc6.2 ?_
              clear hc6 A6 u6
              refine r_iald (pc := 136) C (tw_g6 hT) rfl rfl (lt_eq (by omega) (tw_n6 hT)) (by omega) dX6_laysCosts_136 ?_
              refine r_top ((congrFun (s66 _ _ _) _).trans (hI1.1 _ (by omega)).1) ?_
              refine r_iret (pc := 137) C E rfl (Nat.le_refl _) (Nat.le_refl _) dX6_laysCosts_137 ?_
              exact ⟨f1, κ1, rfl, hI1.1, hI1.sol hW (hx1 b42), rfl⟩
            · skip
              have b42 := (not_congr (nI_eq0 (by omega))).mp b42
              have e1 : fl1 = 1 := by omega
              refine r_iconst (pc := 45) C dX6_laysCosts_45 ci_0 ?_
              refine r_istore_3 (pc := 46) C dX6_laysCosts_46 rfl ?_
              refine r_iconst (pc := 47) C dX6_laysCosts_47 ci_0 ?_
              refine r_istore_4 (pc := 48) C dX6_laysCosts_48 rfl ?_
              have lp50_7 : ∀ (fu : Nat) (k : Nat) (f2 : Nat → Nat) (κ2 : Nat → Int32) (fl2 : Nat) (hk2 : k ≤ rC (A.I (t + 1))) (hI2 : LCI (A.I (t + 1)) w m κ2 f2) (hl2 : fl2 ≤ 1) (hx2 : fl2 = 0 → ∀ c, c < k → ∀ s, s < 4 → f2 c ≤ cby (A.I (t + 1)) f2 w m c s) (hle2 : sumN f2 80 ≤ sumN f1 80) (hd2 : fl2 = 1 → sumN f2 80 < sumN f1 80), rC (A.I (t + 1)) - k < fu → wa g z 0 0 (A.sI (t + 6) κ2) 50 [some (.ref t), some (.int (nI (w))), some (.int (nI (m))), some (.int (nI (fl2))), some (.int (nI (k))), none, none] [] := by
                intro fu
                induction fu with
                | zero => intro k  f2  κ2  fl2  hk2 hI2 hl2 hx2 hle2 hd2 hm50; exact absurd hm50 (Nat.not_lt_zero _)
                | succ fu ih50 =>
                  intro k  f2  κ2  fl2  hk2 hI2 hl2 hx2 hle2 hd2 hm50
                  refine r_iload_4 (pc := 50) C dX6_laysCosts_50 ?_
                  refine r_aload_0 (pc := 52) C dX6_laysCosts_52 ?_
                  refine r_V0io (pc := 53) C (m_cells (by exact hT) (s16 _ _ _) hS) vl_X6_117 (tw_g hT) (by decide) (Nat.le_refl _) (Nat.le_refl _) (Nat.le_of_ble_eq_true rfl) rfl dX6_laysCosts_53 (fun u8 A8 hc8 => ?_)
                  refine r_top hc8.1 ?_
                  refine r_eqA hc8.2 ?_
                  clear hc8 A8 u8
                  refine r_icmp_ge (pc := 56) (tgt := 118) C dX6_laysCosts_56 (by decide) (fun b56 => ?_) (fun b56 => ?_)
                  · skip
                    have b56 := (nI_le2 (by omega) (by omega)).mp b56
                    refine r_goto (pc := 118) (tgt := 41) C dX6_laysCosts_118 (by decide) ?_
                    refine r_forget (lv' := [some _, some _, some _, some _, none, none, none]) ⟨rfl, rfl, rfl, rfl, trivial⟩ ?_
                    exact ih41 f2 κ2 fl2 hI2 hl2 (fun h c hc => hx2 h c (by omega)) (msr hl2 hd2 (by rw [e1] at hm41; simpa using hm41))
                  · skip
                    have b56 := (not_congr (nI_le2 (by omega) (by omega))).mp b56
                    refine r_iconst (pc := 59) C dX6_laysCosts_59 ci_0 ?_
                    refine r_istore_5 (pc := 60) C dX6_laysCosts_60 rfl ?_
                    have lp62_9 : ∀ (fu : Nat) (s : Nat) (f3 : Nat → Nat) (κ3 : Nat → Int32) (fl3 : Nat) (hs3 : s ≤ 4) (hI3 : LCI (A.I (t + 1)) w m κ3 f3) (hl3 : fl3 ≤ 1) (hx3 : fl3 = 0 → (∀ c, c < k → ∀ s, s < 4 → f3 c ≤ cby (A.I (t + 1)) f3 w m c s) ∧ ∀ s2, s2 < s → f3 k ≤ cby (A.I (t + 1)) f3 w m k s2) (hle3 : sumN f3 80 ≤ sumN f1 80) (hd3 : fl3 = 1 → sumN f3 80 < sumN f1 80), 4 - s < fu → wa g z 0 0 (A.sI (t + 6) κ3) 62 [some (.ref t), some (.int (nI (w))), some (.int (nI (m))), some (.int (nI (fl3))), some (.int (nI (k))), some (.int (nI (s))), none] [] := by
                      intro fu
                      induction fu with
                      | zero => intro s  f3  κ3  fl3  hs3 hI3 hl3 hx3 hle3 hd3 hm62; exact absurd hm62 (Nat.not_lt_zero _)
                      | succ fu ih62 =>
                        intro s  f3  κ3  fl3  hs3 hI3 hl3 hx3 hle3 hd3 hm62
                        refine r_iload_5 (pc := 62) C dX6_laysCosts_62 ?_
                        refine r_iconst (pc := 64) C dX6_laysCosts_64 ci_4 ?_
                        refine r_icmp_ge (pc := 65) (tgt := 112) C dX6_laysCosts_65 (by decide) (fun b65 => ?_) (fun b65 => ?_)
                        · skip
                          have b65 := (nI_le2 (by omega) (by omega)).mp b65
                          refine r_iinc_4 (pc := 112) C dX6_laysCosts_112 (nI_inc _) rfl ?_
                          refine r_goto (pc := 115) (tgt := 50) C dX6_laysCosts_115 (by decide) ?_
                          refine r_forget (lv' := [some _, some _, some _, some _, some _, none, none]) ⟨rfl, rfl, rfl, rfl, rfl, trivial⟩ ?_
                          exact ih50 (k + 1) f3 κ3 fl3 (by omega) hI3 hl3 (fun h c hc s hs => if q : c = k then by rw [q]; exact (hx3 h).2 s (by omega) else (hx3 h).1 c (by omega) s hs) hle3 hd3 (by omega)
                        · skip
                          have b65 := (not_congr (nI_le2 (by omega) (by omega))).mp b65
                          refine r_aload_0 (pc := 68) C dX6_laysCosts_68 ?_
                          refine r_iload_1 (pc := 69) C dX6_laysCosts_69 ?_
                          refine r_iload_4 (pc := 70) C dX6_laysCosts_70 ?_
                          refine r_iload_5 (pc := 72) C dX6_laysCosts_72 ?_
                          refine r_iload_2 (pc := 74) C dX6_laysCosts_74 ?_
                          refine r_V4io (pc := 75) C (m_costBy (by exact hT) (s16 _ _ _) hW hw (by omega) (by omega) hm (f := f3) (fun j hj => by rw [s66]; exact hI3.1 j hj)) vl_X6_120 (tw_g hT) (by decide) (Nat.le_refl _) (Nat.le_refl _) (Nat.le_of_ble_eq_true rfl) rfl dX6_laysCosts_75 (fun u10 A10 hc10 => ?_)
                          refine r_top hc10.1 ?_
                          refine r_eqA hc10.2 ?_
                          clear hc10 A10 u10
                          refine r_istore_6 (pc := 78) C dX6_laysCosts_78 rfl ?_
                          have hcb := cby_le (f := f3) (w := w) (m := m) (s := s) hW (show k < rC (A.I (t + 1)) by omega)
                          have hf3k := (hI3.1 k (by omega)).2
                          refine r_iload_6 (pc := 80) C dX6_laysCosts_80 ?_
                          refine r_aload_0 (pc := 82) C dX6_laysCosts_82 ?_
                          refine r_getR (pc := 83) C fl_X6_25_6 (tw_g hT) rfl (tw_r6 hT) dX6_laysCosts_83 ?_
                          refine r_iload_4 (pc := 86) C dX6_laysCosts_86 ?_
                          refine r_iald (pc := 88) C (tw_g6 hT) rfl rfl (lt_eq (by omega) (tw_n6 hT)) (by omega) dX6_laysCosts_88 ?_
                          refine r_top ((congrFun (s66 _ _ _) _).trans (hI3.1 k (by omega)).1) ?_
                          refine r_icmp_lt (pc := 89) (tgt := 95) C dX6_laysCosts_89 (by decide) (fun b89 => ?_) (fun b89 => ?_)
                          · skip
                            have b89 := (nI_lt2 (by omega) (by omega)).mp b89
                            refine r_aload_0 (pc := 95) C dX6_laysCosts_95 ?_
                            refine r_getR (pc := 96) C fl_X6_25_6 (tw_g hT) rfl (tw_r6 hT) dX6_laysCosts_96 ?_
                            refine r_iload_4 (pc := 99) C dX6_laysCosts_99 ?_
                            refine r_iload_6 (pc := 101) C dX6_laysCosts_101 ?_
                            refine r_iast (pc := 103) C (tw_g6 hT) rfl rfl (lt_eq (by omega) (tw_n6 hT)) (by omega) dX6_laysCosts_103 ?_
                            refine r_iconst (pc := 104) C dX6_laysCosts_104 ci_1 ?_
                            refine r_istore_3 (pc := 105) C dX6_laysCosts_105 rfl ?_
                            refine r_iinc_5 (pc := 106) C dX6_laysCosts_106 (nI_inc _) rfl ?_
                            refine r_goto (pc := 109) (tgt := 62) C dX6_laysCosts_109 (by decide) ?_
                            refine r_forget (lv' := [some _, some _, some _, some _, some _, some _, none]) ⟨rfl, rfl, rfl, rfl, rfl, rfl, trivial⟩ ?_
                            have hst := LCI.step hW hI3 (k := k) (t := s) (by omega) (by omega) (by omega)
                            have hlt9 := hst.2
                            refine r_eqA (A' := A.sI (t + 6) (upd κ3 k (nI (cby (A.I (t + 1)) f3 w m k s)))) (by rw [s66, sI_sI]) ?_
                            exact ih62 (s + 1) _ _ 1 (by omega) hst.1 (by omega) (fun h => absurd h (by omega)) (by omega) (fun _ => by omega) (by omega)
                          · skip
                            have b89 := (not_congr (nI_lt2 (by omega) (by omega))).mp b89
                            refine r_goto (pc := 92) (tgt := 106) C dX6_laysCosts_92 (by decide) ?_
                            refine r_iinc_5 (pc := 106) C dX6_laysCosts_106 (nI_inc _) rfl ?_
                            refine r_goto (pc := 109) (tgt := 62) C dX6_laysCosts_109 (by decide) ?_
                            refine r_forget (lv' := [some _, some _, some _, some _, some _, some _, none]) ⟨rfl, rfl, rfl, rfl, rfl, rfl, trivial⟩ ?_
                            exact ih62 (s + 1) f3 κ3 fl3 (by omega) hI3 hl3 (fun h => ⟨(hx3 h).1, fun s2 hs2 => if q : s2 = s then by rw [q]; omega else (hx3 h).2 s2 (by omega)⟩) hle3 hd3 (by omega)
                    exact lp62_9 _ 0 f2 κ2 fl2 (by omega) hI2 hl2 (fun h => ⟨hx2 h, fun s2 hs2 => absurd hs2 (Nat.not_lt_zero _)⟩) hle2 hd2 (Nat.lt_succ_self _)
              exact lp50_7 _ 0 f1 κ1 0 (by omega) hI1 (by omega) (fun _ c hc => absurd hc (Nat.not_lt_zero _)) (Nat.le_refl _) (fun h => absurd h (by omega)) (Nat.lt_succ_self _)
        refine r_eqA (A' := A.sI (t + 6) _) (by rw [s66, sI_sI]) ?_
        exact lp41_4 _ _ _ 1 (LCI.init _ w m _ hfill) (by omega) (fun h => absurd h (by omega)) (Nat.lt_succ_self _)
      · skip
        have b5 := (not_congr (nI_le2 (by omega) (by omega))).mp b5
        refine r_aload_0 (pc := 8) C dX6_laysCosts_8 ?_
        refine r_getR (pc := 9) C fl_X6_25_6 (tw_g hT) rfl (tw_r6 hT) dX6_laysCosts_9 ?_
        refine r_iload_3 (pc := 12) C dX6_laysCosts_12 ?_
        refine r_ldc (pc := 13) (v := nI 1000000) C (by have h9 := q2423; rwa [show (1000000 : Int32) = nI 1000000 by decide +kernel] at h9) dX6_laysCosts_13 ?_
        refine r_iast (pc := 15) C (tw_g6 hT) rfl rfl (lt_eq (by omega) (tw_n6 hT)) (by omega) dX6_laysCosts_15 ?_
        refine r_iinc_3 (pc := 16) C dX6_laysCosts_16 (nI_inc _) rfl ?_
        refine r_goto (pc := 19) (tgt := 2) C dX6_laysCosts_19 (by decide) ?_
        refine r_eqA (A' := A.sI (t + 6) (fillK (A.I (t + 6)) (k + 1))) (by rw [s66, sI_sI, fill_s]) ?_
        exact ih2 (k + 1) (by omega) (by omega)
  refine r_eqA (A' := A.sI (t + 6) (fillK (A.I (t + 6)) 0)) (by rw [fill_0, sI_self]) ?_
  exact lp2_1 _ 0 (by omega) (Nat.lt_succ_self _)
