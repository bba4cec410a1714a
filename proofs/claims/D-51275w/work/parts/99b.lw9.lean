/-! MADE: a lawn by its parts -/
set_option maxRecDepth 100000
/-- a lawn's object as its inner constructor leaves it -/
def Li2 (g : GZ) (A A' : HA) (q w h : Nat) (gr wt : Int32) (rg k5 k6 k7 k8 k10 k9 : Nat) : Prop := A'.z = A.z + 6 ∧ Gw A A' (fun y => y = q) ∧
  (A'.R q 5 = some k5 ∧ A'.R q 6 = some k6 ∧ A'.R q 7 = some k7 ∧ A'.R q 8 = some k8 ∧ A'.R q 9 = some k9 ∧ A'.R q 10 = some k10 ∧ A'.R q 11 = some rg) ∧
  (A'.R q 12 = some A.z ∧ A'.R q 15 = some (A.z + 2) ∧ A'.R q 16 = some (A.z + 3) ∧ A'.R q 17 = some (A.z + 4) ∧ A'.R q 18 = some (A.z + 5)) ∧
  (A'.G A.z = (3, q) ∧ A'.R A.z 0 = some (A.z + 1) ∧ A'.G (A.z + 1) = (13, A.z) ∧ Ll g A' (A.z + 1) (g.c 70) 0 (fun _ => 0)) ∧
  ((A'.G (A.z + 2) = (126, q) ∧ A'.n (A.z + 2) = w * h) ∧ (A'.G (A.z + 3) = (127, q) ∧ A'.n (A.z + 3) = w * h) ∧ (A'.G (A.z + 4) = (322, q) ∧ A'.n (A.z + 4) = w * h) ∧ (A'.G (A.z + 5) = (323, q) ∧ A'.n (A.z + 5) = w * h)) ∧
  (A'.I q 0 = nI w ∧ A'.I q 1 = nI h ∧ A'.I q 2 = gr ∧ A'.I q 3 = wt ∧ A'.I q 4 = nI (w * h) ∧ A'.I q 13 = nI 0 ∧ A'.I q 14 = nI 0)
theorem Ll.gw {g : GZ} {A B : HA} {X : Nat → Prop} {l e m : Nat} {f : Nat → Nat} (h : Ll g A l e m f) (hz : Zk A) (hw : Gw A B X) (h1 : ¬ X l) (h2 : ¬ X e) : Ll g B l e m f := by
  obtain ⟨a1, a2, a3, a4, a5, a6⟩ := h
  have w1 := hw.2 l (hz.lt a1 rfl)
  have he : e ≠ g.c 70 ∨ m ≠ 0 → A.G e = (501, l) ∧ A.n e = 10 := fun q => a4.resolve_left (fun z => q.elim (fun q => q z.2) (fun q => q z.1))
  refine ⟨by rw [w1.1]; exact a1, by rw [(w1.2.2 h1).2.2]; exact a2, by rw [(w1.2.2 h1).2.1]; exact a3, ?_, a5, fun k hk => ?_⟩
  · rcases a4 with z | ⟨z1, z2⟩
    · exact Or.inl z
    · have w2 := hw.2 e (hz.lt (congrArg Prod.fst z1) rfl)
      exact Or.inr ⟨by rw [w2.1]; exact z1, by rw [w2.2.1]; exact z2⟩
  · have z1 := he (Or.inr (by omega))
    have w2 := hw.2 e (hz.lt (congrArg Prod.fst z1.1) rfl)
    rw [(w2.2.2 h2).2.2]; exact a6 k hk
set_option maxHeartbeats 4000000 in
theorem l_init2 {g : GZ} {A : HA} {q rg k5 k6 k7 k8 k10 k9 w h : Nat} {gr wt : Int32} (hq : (A.G q).1 = 2) (hD : DeK g A) (hw : w ≤ 10) (hh : h ≤ 8) : Ct g wV yX2_init_2 (.code yX2_init_2 cX2_init_2 12 (Option.none : Option Jvm.ClassFile.FieldType)) 6 6 400 [.ref q, .int (nI (w)), .int (nI (h)), .int gr, .int wt, .ref rg, .ref k5, .ref k6, .ref k7, .ref k8, .ref k10, .ref k9] (A) (fun u A' => Li2 g A A' q w h gr wt rg k5 k6 k7 k8 k10 k9) fw_no := by
  refine Ct.of [some (.ref q), some (.int (nI (w))), some (.int (nI (h))), some (.int gr), some (.int wt), some (.ref rg), some (.ref k5), some (.ref k6), some (.ref k7), some (.ref k8), some (.ref k10), some (.ref k9)] (by decide) rfl rfl fun z C hx hnm E => ?_
  refine r_Z fun hZ => ?_
  have hqz := hZ.lt hq rfl
  have hwh : w * h ≤ 80 := Nat.mul_le_mul hw hh
  have hr9 : ((A.mk 3 q 0).G A.z).1 = 3 := congrArg Prod.fst (if_pos rfl)
  refine r_aload_0 (pc := 0) C dX2_init_2_0 ?_
  refine r_objInit (pc := 1) C q251 q199 q200 rfl (Nat.le_of_ble_eq_true rfl) (by decide) dX2_init_2_1 ?_
  refine r_aload_0 (pc := 4) C dX2_init_2_4 ?_
  refine r_new (pc := 5) C (q) (by omega) nl_X2_3 NF3 (by omega) (by omega) dX2_init_2_5 ?_
  refine r_dup (pc := 8) C dX2_init_2_8 rfl ?_
  refine r_IN0v (pc := 9) C (j_X3_init hr9 (hD.gw hZ (X := Non) gw_mk)) inl_X2_5 (by decide) (by omega) (by omega) (Nat.le_of_ble_eq_true rfl) rfl dX2_init_2_9 (fun u1 A1 hc1 => ?_)
  generalize A1 = B at hc1 ⊢
  have hRw := hc1
  clear hc1 u1
  have hBz : B.z = A.z + 1 + 1 := hRw.1
  have hq0 : (B.G q).1 = 2 := by rw [(hRw.2.1.2 q (by rw [mk_z]; omega)).1]; show (if q = A.z then _ else A.G q).1 = 2; rw [if_neg (by omega)]; exact hq
  refine r_eqA (OB_self B q) ?_
  refine r_putR (pc := 12) C fl_X2_31_2 (by exact hq0) rfl (fun _ _ _ h => by cases h; exact Or.inr ⟨rfl, hnm⟩) rfl dX2_init_2_12 ?_
  refine r_eqA (OB_R _ _ _ _ _ _) ?_
  refine r_aload_0 (pc := 15) C dX2_init_2_15 ?_
  refine r_iconst (pc := 16) C dX2_init_2_16 ci_0 ?_
  refine r_putI (pc := 17) C fl_X2_35_2 (by exact hq0) rfl (fun _ _ _ h => by cases h; exact Or.inl rfl) rfl rfl rfl dX2_init_2_17 ?_
  refine r_eqA (OB_I _ _ _ _ _ _) ?_
  refine r_aload_0 (pc := 20) C dX2_init_2_20 ?_
  refine r_iconst (pc := 21) C dX2_init_2_21 ci_0 ?_
  refine r_putI (pc := 22) C fl_X2_25_2 (by exact hq0) rfl (fun _ _ _ h => by cases h; exact Or.inl rfl) rfl rfl rfl dX2_init_2_22 ?_
  refine r_eqA (OB_I _ _ _ _ _ _) ?_
  refine r_aload_0 (pc := 25) C dX2_init_2_25 ?_
  refine r_iload_1 (pc := 26) C dX2_init_2_26 ?_
  refine r_putI (pc := 27) C fl_X2_38_2 (by exact hq0) rfl (fun _ _ _ h => by cases h; exact Or.inr ⟨rfl, hnm⟩) rfl rfl rfl dX2_init_2_27 ?_
  refine r_eqA (OB_I _ _ _ _ _ _) ?_
  refine r_aload_0 (pc := 30) C dX2_init_2_30 ?_
  refine r_iload_2 (pc := 31) C dX2_init_2_31 ?_
  refine r_putI (pc := 32) C fl_X2_41_2 (by exact hq0) rfl (fun _ _ _ h => by cases h; exact Or.inr ⟨rfl, hnm⟩) rfl rfl rfl dX2_init_2_32 ?_
  refine r_eqA (OB_I _ _ _ _ _ _) ?_
  refine r_aload_0 (pc := 35) C dX2_init_2_35 ?_
  refine r_iload_3 (pc := 36) C dX2_init_2_36 ?_
  refine r_putI (pc := 37) C fl_X2_44_2 (by exact hq0) rfl (fun _ _ _ h => by cases h; exact Or.inr ⟨rfl, hnm⟩) rfl rfl rfl dX2_init_2_37 ?_
  refine r_eqA (OB_I _ _ _ _ _ _) ?_
  refine r_aload_0 (pc := 40) C dX2_init_2_40 ?_
  refine r_iload_4 (pc := 41) C dX2_init_2_41 ?_
  refine r_putI (pc := 43) C fl_X2_47_2 (by exact hq0) rfl (fun _ _ _ h => by cases h; exact Or.inr ⟨rfl, hnm⟩) rfl rfl rfl dX2_init_2_43 ?_
  refine r_eqA (OB_I _ _ _ _ _ _) ?_
  refine r_aload_0 (pc := 46) C dX2_init_2_46 ?_
  refine r_aload_5 (pc := 47) C dX2_init_2_47 ?_
  refine r_putR (pc := 49) C fl_X2_50_2 (by exact hq0) rfl (fun _ _ _ h => by cases h; exact Or.inr ⟨rfl, hnm⟩) rfl dX2_init_2_49 ?_
  refine r_eqA (OB_R _ _ _ _ _ _) ?_
  refine r_aload_0 (pc := 52) C dX2_init_2_52 ?_
  refine r_aload_6 (pc := 53) C dX2_init_2_53 ?_
  refine r_putR (pc := 55) C fl_X2_53_2 (by exact hq0) rfl (fun _ _ _ h => by cases h; exact Or.inr ⟨rfl, hnm⟩) rfl dX2_init_2_55 ?_
  refine r_eqA (OB_R _ _ _ _ _ _) ?_
  refine r_aload_0 (pc := 58) C dX2_init_2_58 ?_
  refine r_aload_7 (pc := 59) C dX2_init_2_59 ?_
  refine r_putR (pc := 61) C fl_X2_18_2 (by exact hq0) rfl (fun _ _ _ h => by cases h; exact Or.inr ⟨rfl, hnm⟩) rfl dX2_init_2_61 ?_
  refine r_eqA (OB_R _ _ _ _ _ _) ?_
  refine r_aload_0 (pc := 64) C dX2_init_2_64 ?_
  refine r_aload_8 (pc := 65) C dX2_init_2_65 ?_
  refine r_putR (pc := 67) C fl_X2_56_2 (by exact hq0) rfl (fun _ _ _ h => by cases h; exact Or.inr ⟨rfl, hnm⟩) rfl dX2_init_2_67 ?_
  refine r_eqA (OB_R _ _ _ _ _ _) ?_
  refine r_aload_0 (pc := 70) C dX2_init_2_70 ?_
  refine r_aload_9 (pc := 71) C dX2_init_2_71 ?_
  refine r_putR (pc := 73) C fl_X2_22_2 (by exact hq0) rfl (fun _ _ _ h => by cases h; exact Or.inr ⟨rfl, hnm⟩) rfl dX2_init_2_73 ?_
  refine r_eqA (OB_R _ _ _ _ _ _) ?_
  refine r_aload_0 (pc := 76) C dX2_init_2_76 ?_
  refine r_aload_10 (pc := 77) C dX2_init_2_77 ?_
  refine r_putR (pc := 79) C fl_X2_59_2 (by exact hq0) rfl (fun _ _ _ h => by cases h; exact Or.inr ⟨rfl, hnm⟩) rfl dX2_init_2_79 ?_
  refine r_eqA (OB_R _ _ _ _ _ _) ?_
  refine r_aload_0 (pc := 82) C dX2_init_2_82 ?_
  refine r_aload_11 (pc := 83) C dX2_init_2_83 ?_
  refine r_putR (pc := 85) C fl_X2_63_2 (by exact hq0) rfl (fun _ _ _ h => by cases h; exact Or.inr ⟨rfl, hnm⟩) rfl dX2_init_2_85 ?_
  refine r_eqA (OB_R _ _ _ _ _ _) ?_
  refine r_aload_0 (pc := 88) C dX2_init_2_88 ?_
  refine r_iload_1 (pc := 89) C dX2_init_2_89 ?_
  refine r_iload_2 (pc := 90) C dX2_init_2_90 ?_
  refine r_imul (pc := 91) C dX2_init_2_91 ?_
  refine r_top (pk_mul _ _) ?_
  refine r_putI (pc := 92) C fl_X2_14_2 (by exact hq0) rfl (fun _ _ _ h => by cases h; exact Or.inr ⟨rfl, hnm⟩) rfl rfl rfl dX2_init_2_92 ?_
  refine r_eqA (OB_I _ _ _ _ _ _) ?_
  refine r_aload_0 (pc := 95) C dX2_init_2_95 ?_
  refine r_aload_0 (pc := 96) C dX2_init_2_96 ?_
  refine r_getI (pc := 97) C fl_X2_14_2 (by exact hq0) rfl dX2_init_2_97 ?_
  refine r_top ((congrFun (OB_i _ _ _ _) 4).trans pk_us) ?_
  refine r_newI (pc := 100) C 126 (q) (show q ≤ B.z by omega) rfl q334 rfl (by omega) (by omega) (by omega) dX2_init_2_100 ?_
  refine r_eqA (OB_mk _ _ _ _ (show q ≠ B.z + 0 by omega)) ?_
  have hq1 : ((B.mk 126 q (w * h)).G q).1 = 2 := by show (if q = B.z + 0 then _ else B.G q).1 = 2; rw [if_neg (by omega)]; exact hq0
  refine r_putR (pc := 102) C fl_X2_66_2 (by exact hq1) rfl (fun _ _ _ h => by cases h; exact Or.inr ⟨rfl, hnm⟩) rfl dX2_init_2_102 ?_
  refine r_eqA (OB_R _ _ _ _ _ _) ?_
  refine r_aload_0 (pc := 105) C dX2_init_2_105 ?_
  refine r_aload_0 (pc := 106) C dX2_init_2_106 ?_
  refine r_getI (pc := 107) C fl_X2_14_2 (by exact hq1) rfl dX2_init_2_107 ?_
  refine r_top ((congrFun (OB_i _ _ _ _) 4).trans pk_us) ?_
  refine r_newI (pc := 110) C 127 (q) (show q ≤ B.z + 1 by omega) rfl q334 rfl (by omega) (by omega) (by omega) dX2_init_2_110 ?_
  refine r_eqA (OB_mk _ _ _ _ (show q ≠ B.z + 1 by omega)) ?_
  have hq2 : (((B.mk 126 q (w * h)).mk 127 q (w * h)).G q).1 = 2 := by show (if q = B.z + 1 then _ else (B.mk 126 q (w * h)).G q).1 = 2; rw [if_neg (by omega)]; exact hq1
  refine r_putR (pc := 112) C fl_X2_69_2 (by exact hq2) rfl (fun _ _ _ h => by cases h; exact Or.inr ⟨rfl, hnm⟩) rfl dX2_init_2_112 ?_
  refine r_eqA (OB_R _ _ _ _ _ _) ?_
  refine r_aload_0 (pc := 115) C dX2_init_2_115 ?_
  refine r_aload_0 (pc := 116) C dX2_init_2_116 ?_
  refine r_getI (pc := 117) C fl_X2_14_2 (by exact hq2) rfl dX2_init_2_117 ?_
  refine r_top ((congrFun (OB_i _ _ _ _) 4).trans pk_us) ?_
  refine r_newZ (pc := 120) C 322 (q) (show q ≤ B.z + 2 by omega) rfl q335 rfl (by omega) (by omega) (by omega) dX2_init_2_120 ?_
  refine r_eqA (OB_mk _ _ _ _ (show q ≠ B.z + 2 by omega)) ?_
  have hq3 : ((((B.mk 126 q (w * h)).mk 127 q (w * h)).mk 322 q (w * h)).G q).1 = 2 := by show (if q = B.z + 2 then _ else ((B.mk 126 q (w * h)).mk 127 q (w * h)).G q).1 = 2; rw [if_neg (by omega)]; exact hq2
  refine r_putR (pc := 122) C fl_X2_72_2 (by exact hq3) rfl (fun _ _ _ h => by cases h; exact Or.inr ⟨rfl, hnm⟩) rfl dX2_init_2_122 ?_
  refine r_eqA (OB_R _ _ _ _ _ _) ?_
  refine r_aload_0 (pc := 125) C dX2_init_2_125 ?_
  refine r_aload_0 (pc := 126) C dX2_init_2_126 ?_
  refine r_getI (pc := 127) C fl_X2_14_2 (by exact hq3) rfl dX2_init_2_127 ?_
  refine r_top ((congrFun (OB_i _ _ _ _) 4).trans pk_us) ?_
  refine r_newZ (pc := 130) C 323 (q) (show q ≤ B.z + 3 by omega) rfl q335 rfl (by omega) (by omega) (by omega) dX2_init_2_130 ?_
  refine r_eqA (OB_mk _ _ _ _ (show q ≠ B.z + 3 by omega)) ?_
  have hq4 : (((((B.mk 126 q (w * h)).mk 127 q (w * h)).mk 322 q (w * h)).mk 323 q (w * h)).G q).1 = 2 := by show (if q = B.z + 3 then _ else (((B.mk 126 q (w * h)).mk 127 q (w * h)).mk 322 q (w * h)).G q).1 = 2; rw [if_neg (by omega)]; exact hq3
  refine r_putR (pc := 132) C fl_X2_75_2 (by exact hq4) rfl (fun _ _ _ h => by cases h; exact Or.inr ⟨rfl, hnm⟩) rfl dX2_init_2_132 ?_
  refine r_eqA (OB_R _ _ _ _ _ _) ?_
  refine r_vret (pc := 135) C E (by omega) (by omega) dX2_init_2_135 ?_
  have c1 : ∀ x, x < A.z + 2 → (((((B.mk 126 q (w * h)).mk 127 q (w * h)).mk 322 q (w * h)).mk 323 q (w * h)).G x = B.G x ∧ ((((B.mk 126 q (w * h)).mk 127 q (w * h)).mk 322 q (w * h)).mk 323 q (w * h)).n x = B.n x ∧ ((((B.mk 126 q (w * h)).mk 127 q (w * h)).mk 322 q (w * h)).mk 323 q (w * h)).R x = B.R x ∧ ((((B.mk 126 q (w * h)).mk 127 q (w * h)).mk 322 q (w * h)).mk 323 q (w * h)).I x = B.I x ∧ ((((B.mk 126 q (w * h)).mk 127 q (w * h)).mk 322 q (w * h)).mk 323 q (w * h)).L x = B.L x) := fun x hx => by
    have n0 : x ≠ B.z := by omega
    have n1 : x ≠ B.z + 1 := by omega
    have n2 : x ≠ B.z + 1 + 1 := by omega
    have n3 : x ≠ B.z + 1 + 1 + 1 := by omega
    refine ⟨?_, ?_, ?_, ?_, ?_⟩
    · exact (if_neg n3).trans ((if_neg n2).trans ((if_neg n1).trans (if_neg n0)))
    · exact (if_neg n3).trans ((if_neg n2).trans ((if_neg n1).trans (if_neg n0)))
    · exact (if_neg n3).trans ((if_neg n2).trans ((if_neg n1).trans (if_neg n0)))
    · exact (if_neg n3).trans ((if_neg n2).trans ((if_neg n1).trans (if_neg n0)))
    · exact (if_neg n3).trans ((if_neg n2).trans ((if_neg n1).trans (if_neg n0)))
  obtain ⟨w1, w2, w3, w4, w5, w6⟩ := hRw
  have hcl := c1
  have z1 : A.z ≠ q := by omega
  have z2 : A.z + 1 ≠ q := by omega
  have w5 : B.G (A.z + 1) = (13, A.z) := w5
  have w6 : Ll g B (A.z + 1) (g.c 70) 0 (fun _ => 0) := w6
  have w3 : B.R A.z 0 = some (A.z + 1) := w3
  have g0 : B.G A.z = (3, q) := by rw [(w2.2 A.z (by rw [mk_z]; omega)).1]; exact if_pos rfl
  refine ⟨by show B.z + 1 + 1 + 1 + 1 = _; omega, ?_, ⟨?_, ?_, ?_, ?_, ?_, ?_, ?_⟩, ⟨?_, ?_, ?_, ?_, ?_⟩, ⟨?_, ?_, ?_, ?_⟩, ⟨⟨?_, ?_⟩, ⟨?_, ?_⟩, ⟨?_, ?_⟩, ?_, ?_⟩, ?_, ?_, ?_, ?_, ?_, ?_, ?_⟩
  · refine (gw_mk.tr2 (w2.mono (Y := fun y => y = A.z) (fun y _ h => h)) (fun y h1 h2 => absurd h2 (Nat.ne_of_lt h1))).tr2 (Y := fun y => y = q ∨ A.z + 2 ≤ y) ?_ (fun y h1 h2 => h2.elim id (fun h3 => by omega))
    exact (((gw_mk.tr gw_mk).tr gw_mk).tr gw_mk).tr (gw_OB _ _ _ _ (fun _ => Or.inl rfl))
  · rw [OB_r]; rfl
  · rw [OB_r]; rfl
  · rw [OB_r]; rfl
  · rw [OB_r]; rfl
  · rw [OB_r]; rfl
  · rw [OB_r]; rfl
  · rw [OB_r]; rfl
  · rw [OB_r]; rfl
  · rw [OB_r]; exact (congrArg some (show B.z + 0 = A.z + 2 by omega))
  · rw [OB_r]; exact (congrArg some (show B.z + 1 = A.z + 3 by omega))
  · rw [OB_r]; exact (congrArg some (show B.z + 2 = A.z + 4 by omega))
  · rw [OB_r]; exact (congrArg some (show B.z + 3 = A.z + 5 by omega))
  · show ((((B.mk 126 q (w * h)).mk 127 q (w * h)).mk 322 q (w * h)).mk 323 q (w * h)).G A.z = _; rw [(c1 A.z (by omega)).1]; exact g0
  · rw [OB_xR _ _ _ _ z1, (c1 A.z (by omega)).2.2.1]; exact w3
  · show ((((B.mk 126 q (w * h)).mk 127 q (w * h)).mk 322 q (w * h)).mk 323 q (w * h)).G (A.z + 1) = _; rw [(c1 (A.z + 1) (by omega)).1]; exact w5
  · refine ⟨?_, ?_, ?_, Or.inl ⟨rfl, rfl⟩, by omega, fun k hk => absurd hk (Nat.not_lt_zero _)⟩
    · show (((((B.mk 126 q (w * h)).mk 127 q (w * h)).mk 322 q (w * h)).mk 323 q (w * h)).G (A.z + 1)).1 = _; rw [(c1 (A.z + 1) (by omega)).1]; exact w6.1
    · rw [OB_xR _ _ _ _ z2, (c1 (A.z + 1) (by omega)).2.2.1]; exact w6.2.1
    · rw [OB_xI _ _ _ _ z2, (c1 (A.z + 1) (by omega)).2.2.2.1]; exact w6.2.2.1
  · show ((((B.mk 126 q (w * h)).mk 127 q (w * h)).mk 322 q (w * h)).mk 323 q (w * h)).G (A.z + 2) = _; rw [show A.z + 2 = B.z + 0 by omega]; exact (if_neg (by show B.z + 0 ≠ B.z + 3; omega)).trans ((if_neg (by show B.z + 0 ≠ B.z + 2; omega)).trans ((if_neg (by show B.z + 0 ≠ B.z + 1; omega)).trans (if_pos rfl)))
  · show ((((B.mk 126 q (w * h)).mk 127 q (w * h)).mk 322 q (w * h)).mk 323 q (w * h)).n (A.z + 2) = _; rw [show A.z + 2 = B.z + 0 by omega]; exact (if_neg (by show B.z + 0 ≠ B.z + 3; omega)).trans ((if_neg (by show B.z + 0 ≠ B.z + 2; omega)).trans ((if_neg (by show B.z + 0 ≠ B.z + 1; omega)).trans (if_pos rfl)))
  · show ((((B.mk 126 q (w * h)).mk 127 q (w * h)).mk 322 q (w * h)).mk 323 q (w * h)).G (A.z + 3) = _; rw [show A.z + 3 = B.z + 1 by omega]; exact (if_neg (by show B.z + 1 ≠ B.z + 3; omega)).trans ((if_neg (by show B.z + 1 ≠ B.z + 2; omega)).trans (if_pos rfl))
  · show ((((B.mk 126 q (w * h)).mk 127 q (w * h)).mk 322 q (w * h)).mk 323 q (w * h)).n (A.z + 3) = _; rw [show A.z + 3 = B.z + 1 by omega]; exact (if_neg (by show B.z + 1 ≠ B.z + 3; omega)).trans ((if_neg (by show B.z + 1 ≠ B.z + 2; omega)).trans (if_pos rfl))
  · show ((((B.mk 126 q (w * h)).mk 127 q (w * h)).mk 322 q (w * h)).mk 323 q (w * h)).G (A.z + 4) = _; rw [show A.z + 4 = B.z + 2 by omega]; exact (if_neg (by show B.z + 2 ≠ B.z + 3; omega)).trans (if_pos rfl)
  · show ((((B.mk 126 q (w * h)).mk 127 q (w * h)).mk 322 q (w * h)).mk 323 q (w * h)).n (A.z + 4) = _; rw [show A.z + 4 = B.z + 2 by omega]; exact (if_neg (by show B.z + 2 ≠ B.z + 3; omega)).trans (if_pos rfl)
  · show ((((B.mk 126 q (w * h)).mk 127 q (w * h)).mk 322 q (w * h)).mk 323 q (w * h)).G (A.z + 5) = _; rw [show A.z + 5 = B.z + 3 by omega]; exact if_pos rfl
  · show ((((B.mk 126 q (w * h)).mk 127 q (w * h)).mk 322 q (w * h)).mk 323 q (w * h)).n (A.z + 5) = _; rw [show A.z + 5 = B.z + 3 by omega]; exact if_pos rfl
  · rw [OB_i]; first | rfl | simp only [pk_un, pk_us, ne_eq, Nat.reduceEqDiff, not_false_eq_true]
  · rw [OB_i]; first | rfl | simp only [pk_un, pk_us, ne_eq, Nat.reduceEqDiff, not_false_eq_true]
  · rw [OB_i]; first | rfl | simp only [pk_un, pk_us, ne_eq, Nat.reduceEqDiff, not_false_eq_true]
  · rw [OB_i]; first | rfl | simp only [pk_un, pk_us, ne_eq, Nat.reduceEqDiff, not_false_eq_true]
  · rw [OB_i]; first | rfl | simp only [pk_un, pk_us, ne_eq, Nat.reduceEqDiff, not_false_eq_true]
  · rw [OB_i]; first | rfl | simp only [pk_un, pk_us, ne_eq, Nat.reduceEqDiff, not_false_eq_true]
  · rw [OB_i]; first | rfl | simp only [pk_un, pk_us, ne_eq, Nat.reduceEqDiff, not_false_eq_true]
