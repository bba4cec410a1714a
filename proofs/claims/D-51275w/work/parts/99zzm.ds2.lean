/-! A NEW LAWN: its constructor -/
set_option maxRecDepth 100000
set_option maxHeartbeats 4000000 in
theorem l_init1 {g : GZ} {A : HA} {q w h : Nat} {gr wt : Int32} {ρ : Rw} {z0 : Nat} (hq : A.G q = (2, q)) (hDE : DeK g A) (hw : w ≤ 10) (hh : h ≤ 8) (hρ : NewR ρ w h gr wt) (hz0 : z0 ≤ q ∧ z0 ≤ A.z)  : Ct g wV yX2_init (.code yX2_init cX2_init 6 (Option.none : Option Jvm.ClassFile.FieldType)) 9 14 900 [.ref q, .int (nI (w)), .int (nI (h)), .int gr, .int wt] (A) (fun u A' => LwB g A' z0 q (iniD A.z (g.c 70)) ρ ∧ Gw A A' (fun y => y = q)) fw_no := by
  refine Ct.of [some (.ref q), some (.int (nI (w))), some (.int (nI (h))), some (.int gr), some (.int wt), none] (by decide) rfl rfl fun z C hx hnm E => ?_
  refine r_Z fun hZ => ?_
  have hqz : q < A.z := hZ.lt (show (A.G q).1 = 2 by rw [hq]) rfl
  have hwh : w * h ≤ 80 := Nat.mul_le_mul hw hh
  refine r_aload_0 (pc := 0) C dX2_init_0 ?_
  refine r_iload_1 (pc := 1) C dX2_init_1 ?_
  refine r_iload_2 (pc := 2) C dX2_init_2 ?_
  refine r_iload_3 (pc := 3) C dX2_init_3 ?_
  refine r_iload_4 (pc := 4) C dX2_init_4 ?_
  refine r_new (pc := 6) C (0) (Nat.zero_le _) nl_X2_3 NF3 (by omega) (by omega) dX2_init_6 ?_
  refine r_dup (pc := 9) C dX2_init_9 rfl ?_
  refine r_IN0v (pc := 10) C (j_X3_init (r := A.z) (show ((A.mk 3 0 0).G A.z).1 = 3 by rw [mk_G, if_pos rfl]) (hDE.gw hZ (X := Non) gw_mk)) inl_X2_5 (by decide) (by omega) (by omega) (Nat.le_of_ble_eq_true rfl) rfl dX2_init_10 (fun u1 A1 hc1 => ?_)
  have hRw := hc1
  generalize A1 = F at hRw ⊢
  have zF : F.z = A.z + 2 := by rw [hRw.1, mk_z]
  have hAF : Gw A F Non := ((Gw.rf (A := A) (X := Non)).tr2 (gw_mk (A := A) (k := 3) (o := 0) (len := 0) (X := Non)) (fun _ _ q => q)).tr2 hRw.2.1 (fun y hy e => by omega)
  refine r_iload_1 (pc := 13) C dX2_init_13 ?_
  refine r_iload_2 (pc := 14) C dX2_init_14 ?_
  refine r_imul (pc := 15) C dX2_init_15 ?_
  refine r_top (pk_mul _ _) ?_
  refine r_newI (pc := 16) C 121 (q) (by omega) rfl q334 rfl (by omega) (by omega) (by omega) dX2_init_16 ?_
  refine r_gen fun P5 hP5 => ?_
  have zP5 : P5.z = F.z + 1 := by rw [hP5, mk_z]
  have qP5 : q ≤ P5.z := by omega
  refine r_iload_1 (pc := 18) C dX2_init_18 ?_
  refine r_iload_2 (pc := 19) C dX2_init_19 ?_
  refine r_imul (pc := 20) C dX2_init_20 ?_
  refine r_top (pk_mul _ _) ?_
  refine r_newI (pc := 21) C 122 (q) (by omega) rfl q334 rfl (by omega) (by omega) (by omega) dX2_init_21 ?_
  refine r_gen fun P6 hP6 => ?_
  have zP6 : P6.z = P5.z + 1 := by rw [hP6, mk_z]
  have qP6 : q ≤ P6.z := by omega
  refine r_iload_1 (pc := 23) C dX2_init_23 ?_
  refine r_iload_2 (pc := 24) C dX2_init_24 ?_
  refine r_imul (pc := 25) C dX2_init_25 ?_
  refine r_top (pk_mul _ _) ?_
  refine r_newI (pc := 26) C 123 (q) (by omega) rfl q334 rfl (by omega) (by omega) (by omega) dX2_init_26 ?_
  refine r_gen fun P7 hP7 => ?_
  have zP7 : P7.z = P6.z + 1 := by rw [hP7, mk_z]
  have qP7 : q ≤ P7.z := by omega
  refine r_iload_1 (pc := 28) C dX2_init_28 ?_
  refine r_iload_2 (pc := 29) C dX2_init_29 ?_
  refine r_imul (pc := 30) C dX2_init_30 ?_
  refine r_top (pk_mul _ _) ?_
  refine r_newI (pc := 31) C 124 (q) (by omega) rfl q334 rfl (by omega) (by omega) (by omega) dX2_init_31 ?_
  refine r_gen fun P8 hP8 => ?_
  have zP8 : P8.z = P7.z + 1 := by rw [hP8, mk_z]
  have qP8 : q ≤ P8.z := by omega
  refine r_iload_1 (pc := 33) C dX2_init_33 ?_
  refine r_iload_2 (pc := 34) C dX2_init_34 ?_
  refine r_imul (pc := 35) C dX2_init_35 ?_
  refine r_top (pk_mul _ _) ?_
  refine r_newZ (pc := 36) C 321 (q) (by omega) rfl q335 rfl (by omega) (by omega) (by omega) dX2_init_36 ?_
  refine r_gen fun P10 hP10 => ?_
  have zP10 : P10.z = P8.z + 1 := by rw [hP10, mk_z]
  have qP10 : q ≤ P10.z := by omega
  refine r_bipush (pc := 38) C dX2_init_38 cb_12 ?_
  refine r_newI (pc := 40) C 125 (q) (by omega) rfl q334 rfl (by omega) (by omega) (by omega) dX2_init_40 ?_
  refine r_gen fun P9 hP9 => ?_
  have zP9 : P9.z = P10.z + 1 := by rw [hP9, mk_z]
  have qP9 : q ≤ P9.z := by omega
  have kAP : Gw A P9 Non := (((((hAF.tr (mk_f hP5).1).tr (mk_f hP6).1).tr (mk_f hP7).1).tr (mk_f hP8).1).tr (mk_f hP10).1).tr (mk_f hP9).1
  have hqP : (P9.G q).1 = 2 := by rw [(kAP.2 q hqz).1, hq]
  have hDP := hDE.gw hZ kAP
  refine r_I11v (pc := 42) C (l_init2 hqP hDP hw hh) il_X2_9 (by decide) (by omega) (by omega) (Nat.le_of_ble_eq_true rfl) rfl dX2_init_42 (fun u2 A2 hc2 => ?_)
  have hLi := hc2
  generalize A2 = I9 at hLi ⊢
  have kI : Gw P9 I9 (fun y => y = q) := hLi.2.1
  have hqI : (I9.G q).1 = 2 := by rw [(kI.2 q (by omega)).1]; exact hqP
  have kP8 : Gw P8 I9 (fun y => y = q) := (((Gw.rf (A := P8) (X := fun y => y = q)).tr2 (mk_f hP10).1 (fun _ _ q => q.elim)).tr2 (mk_f hP9).1 (fun _ _ q => q.elim)).tr kI
  have kP6 : Gw P6 I9 (fun y => y = q) := (((Gw.rf (A := P6) (X := fun y => y = q)).tr2 (mk_f hP7).1 (fun _ _ q => q.elim)).tr2 (mk_f hP8).1 (fun _ _ q => q.elim)).tr kP8
  obtain ⟨m61, kn6, -⟩ := mk_l hP6 kP6 (by omega)
  obtain ⟨m81, kn8, -⟩ := mk_l hP8 kP8 (by omega)
  have kg6 : (I9.G P5.z).1 = 122 := by rw [m61]
  have kg8 : (I9.G P7.z).1 = 124 := by rw [m81]
  have hx4 : ∀ f6 f8, (((I9.sI P5.z f6).sI P7.z f8)).I q 4 = nI (w * h) := fun f6 f8 => by rw [sI_o _ _ (by omega), sI_o _ _ (by omega)]; exact hLi.2.2.2.2.2.2.2.2.2.2.1
  refine r_iconst (pc := 45) C dX2_init_45 ci_0 ?_
  refine r_istore_5 (pc := 46) C dX2_init_46 rfl ?_
  have lp48_3 : ∀ (fu : Nat) (i : Nat) (f6 f8 : Nat → Int32) (hi : i ≤ w * h) (h6 : ∀ j, j < i → f6 j = nI 9 ∧ f8 j = -1), w * h - i < fu → wa g z (14) (900) (((I9.sI P5.z f6).sI P7.z f8)) 48 [some (.ref q), some (.int (nI (w))), some (.int (nI (h))), some (.int gr), some (.int wt), some (.int (nI (i)))] [] := by
    intro fu
    induction fu with
    | zero => intro i  f6 f8  hi h6 hm48; exact absurd hm48 (Nat.not_lt_zero _)
    | succ fu ih48 =>
      intro i  f6 f8  hi h6 hm48
      refine r_iload_5 (pc := 48) C dX2_init_48 ?_
      refine r_aload_0 (pc := 50) C dX2_init_50 ?_
      refine r_getI (pc := 51) C fl_X2_14_2 (by exact hqI) rfl dX2_init_51 ?_
      refine r_top (hx4 _ _) ?_
      refine r_icmp_ge (pc := 54) (tgt := 80) C dX2_init_54 (by decide) (fun b54 => ?_) (fun b54 => ?_)
      · skip
        have b54 := (nI_le2 (by omega) (by omega)).mp b54
        refine r_aload_0 (pc := 80) C dX2_init_80 ?_
        refine r_bipush (pc := 81) C dX2_init_81 cb_9 ?_
        refine r_aload_0 (pc := 83) C dX2_init_83 ?_
        refine r_getI (pc := 84) C fl_X2_14_2 (by exact hqI) rfl dX2_init_84 ?_
        refine r_top (hx4 _ _) ?_
        refine r_imul (pc := 87) C dX2_init_87 ?_
        refine r_top (pk_mul _ _) ?_
        refine r_putI (pc := 88) C fl_X2_25_2 (by exact hqI) rfl (fun _ _ _ h => by cases h; exact Or.inl rfl) rfl rfl rfl dX2_init_88 ?_
        refine r_vret (pc := 91) C E (by omega) (by omega) dX2_init_91 ?_
        have ei : i = w * h := by omega
        exact init_fin hw hh hρ hDE hZ hz0 hq hRw hP5 hP6 hP7 hP8 hP10 hP9 hLi (fun j hj => h6 j (by omega))
      · skip
        have b54 := (not_congr (nI_le2 (by omega) (by omega))).mp b54
        refine r_aload_0 (pc := 57) C dX2_init_57 ?_
        refine r_getR (pc := 58) C fl_X2_18_2 (by exact hqI) rfl (by exact hLi.2.2.1.2.1) dX2_init_58 ?_
        refine r_iload_5 (pc := 61) C dX2_init_61 ?_
        refine r_bipush (pc := 63) C dX2_init_63 cb_9 ?_
        refine r_iast (pc := 65) C (by exact kg6) rfl rfl (lt_eq (by omega) (show _ = w * h from kn6)) (by omega) dX2_init_65 ?_
        refine r_eqA (w6_eq (by omega)) ?_
        refine r_aload_0 (pc := 66) C dX2_init_66 ?_
        refine r_getR (pc := 67) C fl_X2_22_2 (by exact hqI) rfl (by exact hLi.2.2.1.2.2.2.1) dX2_init_67 ?_
        refine r_iload_5 (pc := 70) C dX2_init_70 ?_
        refine r_iconst (pc := 72) C dX2_init_72 ci_m1 ?_
        refine r_iast (pc := 73) C (by exact kg8) rfl rfl (lt_eq (by omega) (show _ = w * h from kn8)) (by omega) dX2_init_73 ?_
        refine r_eqA w8_eq ?_
        refine r_iinc_5 (pc := 74) C dX2_init_74 (nI_inc _) rfl ?_
        refine r_goto (pc := 77) (tgt := 48) C dX2_init_77 (by decide) ?_
        exact ih48 (i + 1) (upd f6 i (nI 9)) (upd f8 i (-1)) (by omega) (fun j hj => by by_cases q9 : j = i; (rw [q9, pk_us, pk_us]; exact ⟨rfl, rfl⟩); (rw [pk_un q9, pk_un q9]; exact h6 j (by omega))) (by omega)
  refine r_widen (k' := 14) (n' := 900) (by omega) (by omega) ?_
  refine r_eqA (show I9 = (I9.sI P5.z (I9.I P5.z)).sI P7.z (I9.I P7.z) by rw [sI_self, sI_self]) ?_
  exact lp48_3 _ 0 (I9.I P5.z) (I9.I P7.z) (Nat.zero_le _) (fun j hj => absurd hj (Nat.not_lt_zero _)) (Nat.lt_succ_self _)
