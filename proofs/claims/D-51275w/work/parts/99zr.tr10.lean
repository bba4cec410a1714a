/-! THE COMPONENT, 26: the words of orders -/
set_option maxRecDepth 100000
/-- a constant of a class, not the string w -/
def wkN (g : GZ) (A : HA) (w : Nat) (own : String) (ix : Nat) (tx : String) (l : List Nat) : Prop := ∃ q v, SK g own ix tx q ∧ StrV A q v (chs l) l.length ∧ q ≠ w
theorem eqt_h {f : Nat → Nat} {n : Nat} {l : List Nat} (h : EqT f n (chs l) l.length) : hshF f n = hshF (chs l) l.length := by
  rw [h.1]
  exact hsh_cong (fun i hi => h.2 i (by rw [h.1]; exact hi))
theorem StrV.lv {A : HA} {a v n : Nat} {f : Nat → Nat} (h : StrV A a v f n) {w : Nat} (hw : (A.G w).1 = 16) : v ≠ w := fun e => by
  have h1 := h.k
  rw [e, hw] at h1
  cases h1
def ActK (g : GZ) (A : HA) (w : Nat) : Prop := wkN g A w "LawnPaths" 127 "run" wRun ∧ wkN g A w "LawnPaths" 133 "fence" wFence ∧ wkN g A w "LawnPaths" 135 "open" wOpen ∧ wkN g A w "LawnPaths" 137 "pave" wPave ∧ wkN g A w "LawnPaths" 139 "sow" wSow ∧ wkN g A w "LawnPaths" 141 "haste" wHaste ∧ wkN g A w "LawnPaths" 143 "turn" wTurn
abbrev ActP (f : Nat → Nat) (n : Nat) : Prop := EqT f n (chs wRun) wRun.length ∨ EqT f n (chs wFence) wFence.length ∨ EqT f n (chs wOpen) wOpen.length ∨ EqT f n (chs wPave) wPave.length ∨ EqT f n (chs wSow) wSow.length ∨ EqT f n (chs wHaste) wHaste.length ∨ EqT f n (chs wTurn) wTurn.length
set_option maxHeartbeats 4000000 in
theorem c_isAct {g : GZ} {A : HA} {w v n : Nat} {f : Nat → Nat} (hs : StrV A w v f n) (hz : zS g) (hh : HsS g A w f n) (hA : ActK g A w)  : Ct g wI yX1_isAct (.code yX1_isAct cX1_isAct 3 (Option.some Jvm.ClassFile.FieldType.boolean)) 14 0 0 [.ref w] (A) (fun u A' => u = bI (ActP f n) ∧ StrV A' w v f n ∧ HsS g A' w f n ∧ Gw A A' (fun y => y = w)) fw_no := by
  refine Ct.of [some (.ref w), none, none] (by decide) rfl rfl fun z C hx hnm E => ?_
  refine r_Z fun hZ => ?_
  refine r_aload_0 (pc := 0) C dX1_isAct_0 ?_
  refine r_astore_1 (pc := 1) C dX1_isAct_1 rfl ?_
  refine r_iconst (pc := 2) C dX1_isAct_2 ci_m1 ?_
  refine r_istore_2 (pc := 3) C dX1_isAct_3 rfl ?_
  refine r_aload_1 (pc := 4) C dX1_isAct_4 ?_
  refine r_V0io (pc := 5) C (h_hash hs hz hh) vl_X1_122 hs.g (by decide) (by omega) (by omega) (Nat.le_of_ble_eq_true rfl) rfl dX1_isAct_5 (fun u1 A1 hc1 => ?_)
  obtain ⟨eu1, hsD, hhD, hGD⟩ := hc1
  refine r_top eu1 ?_
  clear eu1 u1
  generalize A1 = D at hsD hhD hGD ⊢
  obtain ⟨q0, v0, z0, t0, n0⟩ := hA.1
  have s0 := t0.gw hZ hGD (fun e => n0 e) (fun e => t0.lv hs.g e)
  obtain ⟨q1, v1, z1, t1, n1⟩ := hA.2.1
  have s1 := t1.gw hZ hGD (fun e => n1 e) (fun e => t1.lv hs.g e)
  obtain ⟨q2, v2, z2, t2, n2⟩ := hA.2.2.1
  have s2 := t2.gw hZ hGD (fun e => n2 e) (fun e => t2.lv hs.g e)
  obtain ⟨q3, v3, z3, t3, n3⟩ := hA.2.2.2.1
  have s3 := t3.gw hZ hGD (fun e => n3 e) (fun e => t3.lv hs.g e)
  obtain ⟨q4, v4, z4, t4, n4⟩ := hA.2.2.2.2.1
  have s4 := t4.gw hZ hGD (fun e => n4 e) (fun e => t4.lv hs.g e)
  obtain ⟨q5, v5, z5, t5, n5⟩ := hA.2.2.2.2.2.1
  have s5 := t5.gw hZ hGD (fun e => n5 e) (fun e => t5.lv hs.g e)
  obtain ⟨q6, v6, z6, t6, n6⟩ := hA.2.2.2.2.2.2
  have s6 := t6.gw hZ hGD (fun e => n6 e) (fun e => t6.lv hs.g e)
  by_cases k0 : hshF f n = 113291
  · skip
    refine r_lookup (pc := 8) (tgt := 76) (off := 68) C dX1_isAct_8 (by decide +kernel) (by rw [k0]; decide +kernel) (by decide) ?_
    refine r_aload_1 (pc := 76) C dX1_isAct_76 ?_
    refine r_ldcS (pc := 77) C z0 dX1_isAct_77 ?_
    refine r_V1io (pc := 79) C (j_J10_equals hz hsD s0) vl_X1_129 hsD.g (by decide) (by omega) (by omega) (Nat.le_of_ble_eq_true rfl) rfl dX1_isAct_79 (fun u2 A2 hc2 => ?_)
    refine r_top hc2.1 ?_
    refine r_eqA hc2.2 ?_
    clear hc2 A2 u2
    refine r_if_eq (pc := 82) (tgt := 172) C dX1_isAct_82 (by decide) (fun b82 => ?_) (fun b82 => ?_)
    · skip
      have b82 := bI_0.mp b82
      refine r_iload_2 (pc := 172) C dX1_isAct_172 ?_
      refine r_tableOut (pc := 173) (tgt := 220) C dX1_isAct_173 (by decide +kernel) (by decide) ?_
      refine r_iconst (pc := 220) C dX1_isAct_220 ci_0 ?_
      refine r_iret (pc := 221) C E nar_0 (by omega) (by omega) dX1_isAct_221 ?_
      refine ⟨(bI_00 (fun q => ?_)), hsD, hhD, hGD⟩
      rcases q with q | q | q | q | q | q | q
      · exact absurd q (by assumption)
      · have e9 := (eqt_h q).trans hsh_fence
        rw [k0] at e9; exact absurd e9 (by decide)
      · have e9 := (eqt_h q).trans hsh_open
        rw [k0] at e9; exact absurd e9 (by decide)
      · have e9 := (eqt_h q).trans hsh_pave
        rw [k0] at e9; exact absurd e9 (by decide)
      · have e9 := (eqt_h q).trans hsh_sow
        rw [k0] at e9; exact absurd e9 (by decide)
      · have e9 := (eqt_h q).trans hsh_haste
        rw [k0] at e9; exact absurd e9 (by decide)
      · have e9 := (eqt_h q).trans hsh_turn
        rw [k0] at e9; exact absurd e9 (by decide)
    · skip
      have b82 := bI_n.mp b82
      refine r_iconst (pc := 85) C dX1_isAct_85 ci_0 ?_
      refine r_istore_2 (pc := 86) C dX1_isAct_86 rfl ?_
      refine r_goto (pc := 87) (tgt := 172) C dX1_isAct_87 (by decide) ?_
      refine r_iload_2 (pc := 172) C dX1_isAct_172 ?_
      refine r_tableIn (pc := 173) (tgt := 216) (off := 43) C dX1_isAct_173 (by decide +kernel) (by decide +kernel) (by decide +kernel) (by decide) ?_
      refine r_iconst (pc := 216) C dX1_isAct_216 ci_1 ?_
      refine r_goto (pc := 217) (tgt := 221) C dX1_isAct_217 (by decide) ?_
      refine r_iret (pc := 221) C E nar_1 (by omega) (by omega) dX1_isAct_221 ?_
      refine ⟨(bI_1 ?_), hsD, hhD, hGD⟩
      exact Or.inl (by assumption)
  by_cases k1 : hshF f n = 97316913
  · skip
    refine r_lookup (pc := 8) (tgt := 90) (off := 82) C dX1_isAct_8 (by decide +kernel) (by rw [k1]; decide +kernel) (by decide) ?_
    refine r_aload_1 (pc := 90) C dX1_isAct_90 ?_
    refine r_ldcS (pc := 91) C z1 dX1_isAct_91 ?_
    refine r_V1io (pc := 93) C (j_J10_equals hz hsD s1) vl_X1_129 hsD.g (by decide) (by omega) (by omega) (Nat.le_of_ble_eq_true rfl) rfl dX1_isAct_93 (fun u3 A3 hc3 => ?_)
    refine r_top hc3.1 ?_
    refine r_eqA hc3.2 ?_
    clear hc3 A3 u3
    refine r_if_eq (pc := 96) (tgt := 172) C dX1_isAct_96 (by decide) (fun b96 => ?_) (fun b96 => ?_)
    · skip
      have b96 := bI_0.mp b96
      refine r_iload_2 (pc := 172) C dX1_isAct_172 ?_
      refine r_tableOut (pc := 173) (tgt := 220) C dX1_isAct_173 (by decide +kernel) (by decide) ?_
      refine r_iconst (pc := 220) C dX1_isAct_220 ci_0 ?_
      refine r_iret (pc := 221) C E nar_0 (by omega) (by omega) dX1_isAct_221 ?_
      refine ⟨(bI_00 (fun q => ?_)), hsD, hhD, hGD⟩
      rcases q with q | q | q | q | q | q | q
      · have e9 := (eqt_h q).trans hsh_run
        rw [k1] at e9; exact absurd e9 (by decide)
      · exact absurd q (by assumption)
      · have e9 := (eqt_h q).trans hsh_open
        rw [k1] at e9; exact absurd e9 (by decide)
      · have e9 := (eqt_h q).trans hsh_pave
        rw [k1] at e9; exact absurd e9 (by decide)
      · have e9 := (eqt_h q).trans hsh_sow
        rw [k1] at e9; exact absurd e9 (by decide)
      · have e9 := (eqt_h q).trans hsh_haste
        rw [k1] at e9; exact absurd e9 (by decide)
      · have e9 := (eqt_h q).trans hsh_turn
        rw [k1] at e9; exact absurd e9 (by decide)
    · skip
      have b96 := bI_n.mp b96
      refine r_iconst (pc := 99) C dX1_isAct_99 ci_1 ?_
      refine r_istore_2 (pc := 100) C dX1_isAct_100 rfl ?_
      refine r_goto (pc := 101) (tgt := 172) C dX1_isAct_101 (by decide) ?_
      refine r_iload_2 (pc := 172) C dX1_isAct_172 ?_
      refine r_tableIn (pc := 173) (tgt := 216) (off := 43) C dX1_isAct_173 (by decide +kernel) (by decide +kernel) (by decide +kernel) (by decide) ?_
      refine r_iconst (pc := 216) C dX1_isAct_216 ci_1 ?_
      refine r_goto (pc := 217) (tgt := 221) C dX1_isAct_217 (by decide) ?_
      refine r_iret (pc := 221) C E nar_1 (by omega) (by omega) dX1_isAct_221 ?_
      refine ⟨(bI_1 ?_), hsD, hhD, hGD⟩
      exact Or.inr (Or.inl (by assumption))
  by_cases k2 : hshF f n = 3417674
  · skip
    refine r_lookup (pc := 8) (tgt := 104) (off := 96) C dX1_isAct_8 (by decide +kernel) (by rw [k2]; decide +kernel) (by decide) ?_
    refine r_aload_1 (pc := 104) C dX1_isAct_104 ?_
    refine r_ldcS (pc := 105) C z2 dX1_isAct_105 ?_
    refine r_V1io (pc := 107) C (j_J10_equals hz hsD s2) vl_X1_129 hsD.g (by decide) (by omega) (by omega) (Nat.le_of_ble_eq_true rfl) rfl dX1_isAct_107 (fun u4 A4 hc4 => ?_)
    refine r_top hc4.1 ?_
    refine r_eqA hc4.2 ?_
    clear hc4 A4 u4
    refine r_if_eq (pc := 110) (tgt := 172) C dX1_isAct_110 (by decide) (fun b110 => ?_) (fun b110 => ?_)
    · skip
      have b110 := bI_0.mp b110
      refine r_iload_2 (pc := 172) C dX1_isAct_172 ?_
      refine r_tableOut (pc := 173) (tgt := 220) C dX1_isAct_173 (by decide +kernel) (by decide) ?_
      refine r_iconst (pc := 220) C dX1_isAct_220 ci_0 ?_
      refine r_iret (pc := 221) C E nar_0 (by omega) (by omega) dX1_isAct_221 ?_
      refine ⟨(bI_00 (fun q => ?_)), hsD, hhD, hGD⟩
      rcases q with q | q | q | q | q | q | q
      · have e9 := (eqt_h q).trans hsh_run
        rw [k2] at e9; exact absurd e9 (by decide)
      · have e9 := (eqt_h q).trans hsh_fence
        rw [k2] at e9; exact absurd e9 (by decide)
      · exact absurd q (by assumption)
      · have e9 := (eqt_h q).trans hsh_pave
        rw [k2] at e9; exact absurd e9 (by decide)
      · have e9 := (eqt_h q).trans hsh_sow
        rw [k2] at e9; exact absurd e9 (by decide)
      · have e9 := (eqt_h q).trans hsh_haste
        rw [k2] at e9; exact absurd e9 (by decide)
      · have e9 := (eqt_h q).trans hsh_turn
        rw [k2] at e9; exact absurd e9 (by decide)
    · skip
      have b110 := bI_n.mp b110
      refine r_iconst (pc := 113) C dX1_isAct_113 ci_2 ?_
      refine r_istore_2 (pc := 114) C dX1_isAct_114 rfl ?_
      refine r_goto (pc := 115) (tgt := 172) C dX1_isAct_115 (by decide) ?_
      refine r_iload_2 (pc := 172) C dX1_isAct_172 ?_
      refine r_tableIn (pc := 173) (tgt := 216) (off := 43) C dX1_isAct_173 (by decide +kernel) (by decide +kernel) (by decide +kernel) (by decide) ?_
      refine r_iconst (pc := 216) C dX1_isAct_216 ci_1 ?_
      refine r_goto (pc := 217) (tgt := 221) C dX1_isAct_217 (by decide) ?_
      refine r_iret (pc := 221) C E nar_1 (by omega) (by omega) dX1_isAct_221 ?_
      refine ⟨(bI_1 ?_), hsD, hhD, hGD⟩
      exact Or.inr (Or.inr (Or.inl (by assumption)))
  by_cases k3 : hshF f n = 3433568
  · skip
    refine r_lookup (pc := 8) (tgt := 118) (off := 110) C dX1_isAct_8 (by decide +kernel) (by rw [k3]; decide +kernel) (by decide) ?_
    refine r_aload_1 (pc := 118) C dX1_isAct_118 ?_
    refine r_ldcS (pc := 119) C z3 dX1_isAct_119 ?_
    refine r_V1io (pc := 121) C (j_J10_equals hz hsD s3) vl_X1_129 hsD.g (by decide) (by omega) (by omega) (Nat.le_of_ble_eq_true rfl) rfl dX1_isAct_121 (fun u5 A5 hc5 => ?_)
    refine r_top hc5.1 ?_
    refine r_eqA hc5.2 ?_
    clear hc5 A5 u5
    refine r_if_eq (pc := 124) (tgt := 172) C dX1_isAct_124 (by decide) (fun b124 => ?_) (fun b124 => ?_)
    · skip
      have b124 := bI_0.mp b124
      refine r_iload_2 (pc := 172) C dX1_isAct_172 ?_
      refine r_tableOut (pc := 173) (tgt := 220) C dX1_isAct_173 (by decide +kernel) (by decide) ?_
      refine r_iconst (pc := 220) C dX1_isAct_220 ci_0 ?_
      refine r_iret (pc := 221) C E nar_0 (by omega) (by omega) dX1_isAct_221 ?_
      refine ⟨(bI_00 (fun q => ?_)), hsD, hhD, hGD⟩
      rcases q with q | q | q | q | q | q | q
      · have e9 := (eqt_h q).trans hsh_run
        rw [k3] at e9; exact absurd e9 (by decide)
      · have e9 := (eqt_h q).trans hsh_fence
        rw [k3] at e9; exact absurd e9 (by decide)
      · have e9 := (eqt_h q).trans hsh_open
        rw [k3] at e9; exact absurd e9 (by decide)
      · exact absurd q (by assumption)
      · have e9 := (eqt_h q).trans hsh_sow
        rw [k3] at e9; exact absurd e9 (by decide)
      · have e9 := (eqt_h q).trans hsh_haste
        rw [k3] at e9; exact absurd e9 (by decide)
      · have e9 := (eqt_h q).trans hsh_turn
        rw [k3] at e9; exact absurd e9 (by decide)
    · skip
      have b124 := bI_n.mp b124
      refine r_iconst (pc := 127) C dX1_isAct_127 ci_3 ?_
      refine r_istore_2 (pc := 128) C dX1_isAct_128 rfl ?_
      refine r_goto (pc := 129) (tgt := 172) C dX1_isAct_129 (by decide) ?_
      refine r_iload_2 (pc := 172) C dX1_isAct_172 ?_
      refine r_tableIn (pc := 173) (tgt := 216) (off := 43) C dX1_isAct_173 (by decide +kernel) (by decide +kernel) (by decide +kernel) (by decide) ?_
      refine r_iconst (pc := 216) C dX1_isAct_216 ci_1 ?_
      refine r_goto (pc := 217) (tgt := 221) C dX1_isAct_217 (by decide) ?_
      refine r_iret (pc := 221) C E nar_1 (by omega) (by omega) dX1_isAct_221 ?_
      refine ⟨(bI_1 ?_), hsD, hhD, hGD⟩
      exact Or.inr (Or.inr (Or.inr (Or.inl (by assumption))))
  by_cases k4 : hshF f n = 114075
  · skip
    refine r_lookup (pc := 8) (tgt := 132) (off := 124) C dX1_isAct_8 (by decide +kernel) (by rw [k4]; decide +kernel) (by decide) ?_
    refine r_aload_1 (pc := 132) C dX1_isAct_132 ?_
    refine r_ldcS (pc := 133) C z4 dX1_isAct_133 ?_
    refine r_V1io (pc := 135) C (j_J10_equals hz hsD s4) vl_X1_129 hsD.g (by decide) (by omega) (by omega) (Nat.le_of_ble_eq_true rfl) rfl dX1_isAct_135 (fun u6 A6 hc6 => ?_)
    refine r_top hc6.1 ?_
    refine r_eqA hc6.2 ?_
    clear hc6 A6 u6
    refine r_if_eq (pc := 138) (tgt := 172) C dX1_isAct_138 (by decide) (fun b138 => ?_) (fun b138 => ?_)
    · skip
      have b138 := bI_0.mp b138
      refine r_iload_2 (pc := 172) C dX1_isAct_172 ?_
      refine r_tableOut (pc := 173) (tgt := 220) C dX1_isAct_173 (by decide +kernel) (by decide) ?_
      refine r_iconst (pc := 220) C dX1_isAct_220 ci_0 ?_
      refine r_iret (pc := 221) C E nar_0 (by omega) (by omega) dX1_isAct_221 ?_
      refine ⟨(bI_00 (fun q => ?_)), hsD, hhD, hGD⟩
      rcases q with q | q | q | q | q | q | q
      · have e9 := (eqt_h q).trans hsh_run
        rw [k4] at e9; exact absurd e9 (by decide)
      · have e9 := (eqt_h q).trans hsh_fence
        rw [k4] at e9; exact absurd e9 (by decide)
      · have e9 := (eqt_h q).trans hsh_open
        rw [k4] at e9; exact absurd e9 (by decide)
      · have e9 := (eqt_h q).trans hsh_pave
        rw [k4] at e9; exact absurd e9 (by decide)
      · exact absurd q (by assumption)
      · have e9 := (eqt_h q).trans hsh_haste
        rw [k4] at e9; exact absurd e9 (by decide)
      · have e9 := (eqt_h q).trans hsh_turn
        rw [k4] at e9; exact absurd e9 (by decide)
    · skip
      have b138 := bI_n.mp b138
      refine r_iconst (pc := 141) C dX1_isAct_141 ci_4 ?_
      refine r_istore_2 (pc := 142) C dX1_isAct_142 rfl ?_
      refine r_goto (pc := 143) (tgt := 172) C dX1_isAct_143 (by decide) ?_
      refine r_iload_2 (pc := 172) C dX1_isAct_172 ?_
      refine r_tableIn (pc := 173) (tgt := 216) (off := 43) C dX1_isAct_173 (by decide +kernel) (by decide +kernel) (by decide +kernel) (by decide) ?_
      refine r_iconst (pc := 216) C dX1_isAct_216 ci_1 ?_
      refine r_goto (pc := 217) (tgt := 221) C dX1_isAct_217 (by decide) ?_
      refine r_iret (pc := 221) C E nar_1 (by omega) (by omega) dX1_isAct_221 ?_
      refine ⟨(bI_1 ?_), hsD, hhD, hGD⟩
      exact Or.inr (Or.inr (Or.inr (Or.inr (Or.inl (by assumption)))))
  by_cases k5 : hshF f n = 99050123
  · skip
    refine r_lookup (pc := 8) (tgt := 146) (off := 138) C dX1_isAct_8 (by decide +kernel) (by rw [k5]; decide +kernel) (by decide) ?_
    refine r_aload_1 (pc := 146) C dX1_isAct_146 ?_
    refine r_ldcS (pc := 147) C z5 dX1_isAct_147 ?_
    refine r_V1io (pc := 149) C (j_J10_equals hz hsD s5) vl_X1_129 hsD.g (by decide) (by omega) (by omega) (Nat.le_of_ble_eq_true rfl) rfl dX1_isAct_149 (fun u7 A7 hc7 => ?_)
    refine r_top hc7.1 ?_
    refine r_eqA hc7.2 ?_
    clear hc7 A7 u7
    refine r_if_eq (pc := 152) (tgt := 172) C dX1_isAct_152 (by decide) (fun b152 => ?_) (fun b152 => ?_)
    · skip
      have b152 := bI_0.mp b152
      refine r_iload_2 (pc := 172) C dX1_isAct_172 ?_
      refine r_tableOut (pc := 173) (tgt := 220) C dX1_isAct_173 (by decide +kernel) (by decide) ?_
      refine r_iconst (pc := 220) C dX1_isAct_220 ci_0 ?_
      refine r_iret (pc := 221) C E nar_0 (by omega) (by omega) dX1_isAct_221 ?_
      refine ⟨(bI_00 (fun q => ?_)), hsD, hhD, hGD⟩
      rcases q with q | q | q | q | q | q | q
      · have e9 := (eqt_h q).trans hsh_run
        rw [k5] at e9; exact absurd e9 (by decide)
      · have e9 := (eqt_h q).trans hsh_fence
        rw [k5] at e9; exact absurd e9 (by decide)
      · have e9 := (eqt_h q).trans hsh_open
        rw [k5] at e9; exact absurd e9 (by decide)
      · have e9 := (eqt_h q).trans hsh_pave
        rw [k5] at e9; exact absurd e9 (by decide)
      · have e9 := (eqt_h q).trans hsh_sow
        rw [k5] at e9; exact absurd e9 (by decide)
      · exact absurd q (by assumption)
      · have e9 := (eqt_h q).trans hsh_turn
        rw [k5] at e9; exact absurd e9 (by decide)
    · skip
      have b152 := bI_n.mp b152
      refine r_iconst (pc := 155) C dX1_isAct_155 ci_5 ?_
      refine r_istore_2 (pc := 156) C dX1_isAct_156 rfl ?_
      refine r_goto (pc := 157) (tgt := 172) C dX1_isAct_157 (by decide) ?_
      refine r_iload_2 (pc := 172) C dX1_isAct_172 ?_
      refine r_tableIn (pc := 173) (tgt := 216) (off := 43) C dX1_isAct_173 (by decide +kernel) (by decide +kernel) (by decide +kernel) (by decide) ?_
      refine r_iconst (pc := 216) C dX1_isAct_216 ci_1 ?_
      refine r_goto (pc := 217) (tgt := 221) C dX1_isAct_217 (by decide) ?_
      refine r_iret (pc := 221) C E nar_1 (by omega) (by omega) dX1_isAct_221 ?_
      refine ⟨(bI_1 ?_), hsD, hhD, hGD⟩
      exact Or.inr (Or.inr (Or.inr (Or.inr (Or.inr (Or.inl (by assumption))))))
  by_cases k6 : hshF f n = 3571837
  · skip
    refine r_lookup (pc := 8) (tgt := 160) (off := 152) C dX1_isAct_8 (by decide +kernel) (by rw [k6]; decide +kernel) (by decide) ?_
    refine r_aload_1 (pc := 160) C dX1_isAct_160 ?_
    refine r_ldcS (pc := 161) C z6 dX1_isAct_161 ?_
    refine r_V1io (pc := 163) C (j_J10_equals hz hsD s6) vl_X1_129 hsD.g (by decide) (by omega) (by omega) (Nat.le_of_ble_eq_true rfl) rfl dX1_isAct_163 (fun u8 A8 hc8 => ?_)
    refine r_top hc8.1 ?_
    refine r_eqA hc8.2 ?_
    clear hc8 A8 u8
    refine r_if_eq (pc := 166) (tgt := 172) C dX1_isAct_166 (by decide) (fun b166 => ?_) (fun b166 => ?_)
    · skip
      have b166 := bI_0.mp b166
      refine r_iload_2 (pc := 172) C dX1_isAct_172 ?_
      refine r_tableOut (pc := 173) (tgt := 220) C dX1_isAct_173 (by decide +kernel) (by decide) ?_
      refine r_iconst (pc := 220) C dX1_isAct_220 ci_0 ?_
      refine r_iret (pc := 221) C E nar_0 (by omega) (by omega) dX1_isAct_221 ?_
      refine ⟨(bI_00 (fun q => ?_)), hsD, hhD, hGD⟩
      rcases q with q | q | q | q | q | q | q
      · have e9 := (eqt_h q).trans hsh_run
        rw [k6] at e9; exact absurd e9 (by decide)
      · have e9 := (eqt_h q).trans hsh_fence
        rw [k6] at e9; exact absurd e9 (by decide)
      · have e9 := (eqt_h q).trans hsh_open
        rw [k6] at e9; exact absurd e9 (by decide)
      · have e9 := (eqt_h q).trans hsh_pave
        rw [k6] at e9; exact absurd e9 (by decide)
      · have e9 := (eqt_h q).trans hsh_sow
        rw [k6] at e9; exact absurd e9 (by decide)
      · have e9 := (eqt_h q).trans hsh_haste
        rw [k6] at e9; exact absurd e9 (by decide)
      · exact absurd q (by assumption)
    · skip
      have b166 := bI_n.mp b166
      refine r_bipush (pc := 169) C dX1_isAct_169 cb_6 ?_
      refine r_istore_2 (pc := 171) C dX1_isAct_171 rfl ?_
      refine r_iload_2 (pc := 172) C dX1_isAct_172 ?_
      refine r_tableIn (pc := 173) (tgt := 216) (off := 43) C dX1_isAct_173 (by decide +kernel) (by decide +kernel) (by decide +kernel) (by decide) ?_
      refine r_iconst (pc := 216) C dX1_isAct_216 ci_1 ?_
      refine r_goto (pc := 217) (tgt := 221) C dX1_isAct_217 (by decide) ?_
      refine r_iret (pc := 221) C E nar_1 (by omega) (by omega) dX1_isAct_221 ?_
      refine ⟨(bI_1 ?_), hsD, hhD, hGD⟩
      exact Or.inr (Or.inr (Or.inr (Or.inr (Or.inr (Or.inr (by assumption))))))
  refine r_lookup (pc := 8) (tgt := 172) (off := 164) C dX1_isAct_8 (by decide +kernel) (lkp_none (fun q hq e => ?_)) (by decide) ?_
  · simp only [List.mem_cons, List.not_mem_nil, or_false] at hq
    rcases hq with e2 | e2 | e2 | e2 | e2 | e2 | e2 <;> rw [e2] at e
    · exact k0 (Int32.toInt_inj.mp (e.symm.trans (show (_ : Int) = ((113291 : Int32).toInt) by decide +kernel)))
    · exact k4 (Int32.toInt_inj.mp (e.symm.trans (show (_ : Int) = ((114075 : Int32).toInt) by decide +kernel)))
    · exact k2 (Int32.toInt_inj.mp (e.symm.trans (show (_ : Int) = ((3417674 : Int32).toInt) by decide +kernel)))
    · exact k3 (Int32.toInt_inj.mp (e.symm.trans (show (_ : Int) = ((3433568 : Int32).toInt) by decide +kernel)))
    · exact k6 (Int32.toInt_inj.mp (e.symm.trans (show (_ : Int) = ((3571837 : Int32).toInt) by decide +kernel)))
    · exact k1 (Int32.toInt_inj.mp (e.symm.trans (show (_ : Int) = ((97316913 : Int32).toInt) by decide +kernel)))
    · exact k5 (Int32.toInt_inj.mp (e.symm.trans (show (_ : Int) = ((99050123 : Int32).toInt) by decide +kernel)))
  · skip
    refine r_iload_2 (pc := 172) C dX1_isAct_172 ?_
    refine r_tableOut (pc := 173) (tgt := 220) C dX1_isAct_173 (by decide +kernel) (by decide) ?_
    refine r_iconst (pc := 220) C dX1_isAct_220 ci_0 ?_
    refine r_iret (pc := 221) C E nar_0 (by omega) (by omega) dX1_isAct_221 ?_
    refine ⟨(bI_00 (fun q => ?_)), hsD, hhD, hGD⟩
    rcases q with q | q | q | q | q | q | q
    · have e9 := (eqt_h q).trans hsh_run
      exact k0 e9
    · have e9 := (eqt_h q).trans hsh_fence
      exact k1 e9
    · have e9 := (eqt_h q).trans hsh_open
      exact k2 e9
    · have e9 := (eqt_h q).trans hsh_pave
      exact k3 e9
    · have e9 := (eqt_h q).trans hsh_sow
      exact k4 e9
    · have e9 := (eqt_h q).trans hsh_haste
      exact k5 e9
    · have e9 := (eqt_h q).trans hsh_turn
      exact k6 e9
