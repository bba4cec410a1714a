/-! A LAWN'S COPY -/
set_option maxRecDepth 100000
theorem va_int {s : State} {c : ClassId} (h : va_RA s c .int) : s.vm.findClass "[I" = some c := by
  have e : ("[" ++ FieldType.int.toString) = "[I" := by decide +kernel
  unfold va_RA at h
  simp only at h
  rw [e] at h; exact h
theorem va_bool {s : State} {c : ClassId} (h : va_RA s c .boolean) : s.vm.findClass "[Z" = some c := by
  have e : ("[" ++ FieldType.boolean.toString) = "[Z" := by decide +kernel
  unfold va_RA at h
  simp only at h
  rw [e] at h; exact h
theorem r_gen {g : GZ} {z : ZX} {k n pc : Nat} {A : HA} {lv : List (Option Value)} {st : List Value} (kk : ∀ B, B = A → wa g z k n B pc lv st) : wa g z k n A pc lv st := kk A rfl
theorem Ll.cong {g : GZ} {A : HA} {l e m : Nat} {f h : Nat → Nat} (hl : Ll g A l e m f) (e1 : ∀ k, k < m → h k = f k) : Ll g A l e m h := ⟨hl.1, hl.2.1, hl.2.2.1, hl.2.2.2.1, hl.2.2.2.2.1, fun k hk => by rw [e1 k hk]; exact hl.2.2.2.2.2 k hk⟩
theorem Wc.gw {g : GZ} {A D E : HA} {X : Nat → Prop} {d wd : Nat → Nat} {q z0 l e k : Nat} (hz : Zk D) (h : Wc g A D d q z0 l e k wd) (hw : Gw D E X) (hX : ∀ y, y < D.z → X y → (D.G y).1 = 2) : Wc g A E d q z0 l e k wd := by
  obtain ⟨c1, c2, c3, c4, c5⟩ := h
  have hl : ¬ X l := fun q => by have h2 := hX l (hz.lt c1.1 rfl) q; rw [c1.1] at h2; omega
  refine ⟨?_, c2, c3, fun j hj => ?_, c5⟩
  · by_cases he : X e
    · rcases c1.2.2.2.1 with ⟨q1, q2⟩ | ⟨q1, q2⟩
      · have w1 := hw.2 l (hz.lt c1.1 rfl)
        exact ⟨by rw [w1.1]; exact c1.1, by rw [(w1.2.2 hl).2.2]; exact c1.2.1, by rw [(w1.2.2 hl).2.1]; exact c1.2.2.1, Or.inl ⟨q1, q2⟩, c1.2.2.2.2.1, fun k hk => by omega⟩
      · have h2 := hX e (hz.lt (congrArg Prod.fst q1) rfl) he
        rw [q1] at h2
        exact absurd (show (501 : Nat) = 2 from h2) (by decide)
    · exact c1.gw hz hw hl he
  · obtain ⟨b1, b2, b3, b4⟩ := c4 j hj
    have w1 := hw.2 (wd j) (hz.lt (congrArg Prod.fst b1) rfl)
    have hn : ¬ X (wd j) := fun q => by
      have h2 := hX _ (hz.lt (congrArg Prod.fst b1) rfl) q
      rw [b1] at h2
      exact absurd (show (5 : Nat) = 2 from h2) (by decide)
    exact ⟨by rw [w1.1]; exact b1, by rw [(w1.2.2 hn).2.2]; exact b2, fun f h1 h6 => by rw [(w1.2.2 hn).2.1]; exact b3 f h1 h6, b4⟩
theorem wc_next {g : GZ} {A D D1 E : HA} {d wd : Nat → Nat} {q z0 l e e' k : Nat} (hz : Zk D) (h : Wc g A D d q z0 l e k wd) (hz0 : z0 ≤ D.z) (w1 : Gw D D1 Non) (f1 : D1.z = D.z + 1) (f2 : D1.G D.z = (5, q)) (f3 : D1.R D.z 0 = A.R (d (30 + k)) 0) (f4 : ∀ f, 1 ≤ f → f ≤ 6 → D1.I D.z f = A.I (d (30 + k)) f)
    (w2 : Gw D1 E (fun y => y = l ∨ y = e)) (he : e < D.z) (hl' : Ll g E l e' (k + 1) (lower wd k D.z)) (he' : z0 ≤ e') : Wc g A E d q z0 l e' (k + 1) (lower wd k D.z) := by
  obtain ⟨c1, c2, c3, c4, c5⟩ := h
  have hlz := hz.lt c1.1 rfl
  refine ⟨hl', fun q => absurd q (Nat.succ_ne_zero _), fun _ => he', fun j hj => ?_, fun i j hij hj => ?_⟩
  · by_cases qj : j = k
    · rw [qj, lower_s]
      have v2 := w2.2 D.z (by omega)
      have hn : ¬ (D.z = l ∨ D.z = e) := fun q => q.elim (fun q => by omega) (fun q => by omega)
      exact ⟨by rw [v2.1]; exact f2, by rw [(v2.2.2 hn).2.2]; exact f3, fun f h1 h6 => by rw [(v2.2.2 hn).2.1]; exact f4 f h1 h6, hz0⟩
    · rw [lower_o _ _ qj]
      obtain ⟨b1, b2, b3, b4⟩ := c4 j (by omega)
      have hj5 : (D.G (wd j)).1 = 5 := congrArg Prod.fst b1
      have hjz := hz.lt hj5 rfl
      have v1 := w1.2 _ hjz
      have v2 := w2.2 (wd j) (by omega)
      have he5 : (D.G e).1 = 501 := congrArg Prod.fst (c1.2.2.2.1.resolve_left (fun z => by omega)).1
      have hn : ¬ (wd j = l ∨ wd j = e) := fun q => by
        rcases q with q | q
        · rw [q, c1.1] at hj5; omega
        · rw [q, he5] at hj5; omega
      have u1 := v1.2.2 (fun h => h)
      have u2 := v2.2.2 hn
      exact ⟨by rw [v2.1, v1.1]; exact b1, by rw [u2.2.2, u1.2.2]; exact b2, fun f h1 h6 => by rw [u2.2.1, u1.2.1]; exact b3 f h1 h6, b4⟩
  · by_cases qj : j = k
    · rw [qj, lower_s, lower_o _ _ (show i ≠ k by omega)]
      exact hz.lt (congrArg Prod.fst (c4 i (by omega)).1) rfl
    · rw [lower_o _ _ qj, lower_o _ _ (show i ≠ k by omega)]
      exact c5 i j hij (by omega)
theorem OkO5 : OkO 5 := ⟨_, _, _, rfl, rfl, q2975⟩
set_option maxHeartbeats 4000000 in
theorem l_copy {g : GZ} {A : HA} {a : Nat} {d : Nat → Nat} {σ : Rw} (hL : Ly A a d σ) (hv : Lv A.I a d σ) (hW : RowW σ) (hC : ∀ c, c < 80 → CelF σ c) (hDE : DeK g A) (hnam : ∀ k, k < rK σ → ∃ nm, A.R (d (30 + k)) 0 = some nm) : Ct g wR yX2_copy (.code yX2_copy cX2_copy 3 (Option.some (Jvm.ClassFile.FieldType.object "LawnPaths$Lawn"))) 7 25 940 [.ref a] (A) (fun u A' => ∃ d', Cp A A' u d d' σ) fw_no := by
  refine Ct.of [some (.ref a), none, none] (by decide) rfl rfl fun z C hx hnm E => ?_
  have hS := hW.s
  have hw3 := hS.w3
  have hw10 := hS.w10
  have hh8 := hS.h8
  have hc80 := hS.c80
  have k6 := hW.k6
  have g6 := hW.g6
  refine r_Z fun hZ => ?_
  have haz : a ≠ A.z := Nat.ne_of_lt (hZ.lt (ly_g hL) rfl)
  refine r_new (pc := 0) C (A.z) (by omega) nl_X2_10 NF2 (by omega) (by omega) dX2_copy_0 ?_
  refine r_gen fun H1 eH1 => ?_
  have hG1 : Gw A H1 Non := by rw [eH1]; exact gw_mk
  have hz1 : H1.z = A.z + 1 := by rw [eH1, mk_z]
  have hq1 : H1.G A.z = (2, A.z) := by rw [eH1]; exact if_pos rfl
  have hL1 := ly_gw hZ hL hG1 (fun _ _ h => h)
  have hv1 := lv_gw hZ hL hv hG1 (fun _ _ h => h)
  clear eH1
  refine r_widen (k' := 1) (n' := 19) (by omega) (by omega) ?_
  refine r_dup (pc := 3) C dX2_copy_3 rfl ?_
  refine r_aload_0 (pc := 4) C dX2_copy_4 ?_
  refine r_getI (pc := 5) C fl_X2_38_2 (ly_g hL1) rfl dX2_copy_5 ?_
  refine r_top (hv1.w.trans hW.s.w) ?_
  refine r_aload_0 (pc := 8) C dX2_copy_8 ?_
  refine r_getI (pc := 9) C fl_X2_41_2 (ly_g hL1) rfl dX2_copy_9 ?_
  refine r_top (hv1.h.trans hW.s.h) ?_
  refine r_aload_0 (pc := 12) C dX2_copy_12 ?_
  refine r_getI (pc := 13) C fl_X2_44_2 (ly_g hL1) rfl dX2_copy_13 ?_
  refine r_top (hv1.gr.trans hW.gr) ?_
  refine r_aload_0 (pc := 16) C dX2_copy_16 ?_
  refine r_getI (pc := 17) C fl_X2_47_2 (ly_g hL1) rfl dX2_copy_17 ?_
  refine r_top (hv1.wt.trans hW.wt) ?_
  refine r_aload_0 (pc := 20) C dX2_copy_20 ?_
  refine r_getR (pc := 21) C fl_X2_50_2 (ly_g hL1) rfl (ly_r11 hL1) dX2_copy_21 ?_
  refine r_aload_0 (pc := 24) C dX2_copy_24 ?_
  refine r_getR (pc := 25) C fl_X2_53_2 (ly_g hL1) rfl (ly_rf hL1 5 (by decide)) dX2_copy_25 ?_
  refine r_clone (pc := 28) (t := 1) (ty := .int) C 121 A.z (by omega) (ly_gf hL1 5 (by decide)) rfl ⟨rfl, rfl⟩ rfl va_int q1392 q1393 q1394 q1395 (fun _ _ => rfl) rfl (Nat.le_of_ble_eq_true rfl) (by decide) (by omega) (by rw [ly_nf hL1 5 (by decide) (by decide)]; omega) dX2_copy_28 ?_
  refine r_widen (k' := 2) (n' := 99) (Nat.le_refl _) (by rw [ly_nf hL1 5 (by decide) (by decide)]; omega) ?_
  refine r_topR hz1 ?_
  refine r_gen fun H2 eH2 => ?_
  have hw2 : Gw H1 H2 Non := by rw [eH2]; exact gw_cl
  have hG2 := hG1.tr hw2
  have hz2 : H2.z = A.z + 2 := by rw [eH2, cl_z, hz1]
  have hf1 : H2.G (A.z + 1) = (121, A.z) ∧ H2.n (A.z + 1) = lyN (rC σ) 5 ∧ H2.I (A.z + 1) = A.I (d 5) := by
    rw [eH2, ← hz1]
    exact ⟨if_pos rfl, (if_pos rfl).trans (ly_nf hL1 5 (by decide) (by decide)), (if_pos rfl).trans (((hG1.2 (d 5) (fp_lt hZ hL (Or.inr (Or.inl ⟨5, by decide, rfl⟩)))).2.2 (fun h => h)).2.1)⟩
  have hL2 := ly_gw hZ hL hG2 (fun _ _ h => h)
  have hv2 := lv_gw hZ hL hv hG2 (fun _ _ h => h)
  clear eH2
  refine r_castAr (pc := 31) (ki := 121) (t := 1) (ty := .int) C (congrArg Prod.fst hf1.1) rfl rfl va_int q1396 dX2_copy_31 ?_
  refine r_aload_0 (pc := 34) C dX2_copy_34 ?_
  refine r_getR (pc := 35) C fl_X2_18_2 (ly_g hL2) rfl (ly_rf hL2 6 (by decide)) dX2_copy_35 ?_
  refine r_clone (pc := 38) (t := 1) (ty := .int) C 122 A.z (by omega) (ly_gf hL2 6 (by decide)) rfl ⟨rfl, rfl⟩ rfl va_int q1392 q1393 q1394 q1395 (fun _ _ => rfl) rfl (Nat.le_of_ble_eq_true rfl) (by decide) (by omega) (by rw [ly_nf hL2 6 (by decide) (by decide)]; omega) dX2_copy_38 ?_
  refine r_widen (k' := 3) (n' := 179) (Nat.le_refl _) (by rw [ly_nf hL2 6 (by decide) (by decide)]; omega) ?_
  refine r_topR hz2 ?_
  refine r_gen fun H3 eH3 => ?_
  have hw3 : Gw H2 H3 Non := by rw [eH3]; exact gw_cl
  have hG3 := hG2.tr hw3
  have hz3 : H3.z = A.z + 3 := by rw [eH3, cl_z, hz2]
  have hf2 : H3.G (A.z + 2) = (122, A.z) ∧ H3.n (A.z + 2) = lyN (rC σ) 6 ∧ H3.I (A.z + 2) = A.I (d 6) := by
    rw [eH3, ← hz2]
    exact ⟨if_pos rfl, (if_pos rfl).trans (ly_nf hL2 6 (by decide) (by decide)), (if_pos rfl).trans (((hG2.2 (d 6) (fp_lt hZ hL (Or.inr (Or.inl ⟨6, by decide, rfl⟩)))).2.2 (fun h => h)).2.1)⟩
  have hL3 := ly_gw hZ hL hG3 (fun _ _ h => h)
  have hv3 := lv_gw hZ hL hv hG3 (fun _ _ h => h)
  clear eH3
  refine r_castAr (pc := 41) (ki := 122) (t := 1) (ty := .int) C (congrArg Prod.fst hf2.1) rfl rfl va_int q1396 dX2_copy_41 ?_
  refine r_aload_0 (pc := 44) C dX2_copy_44 ?_
  refine r_getR (pc := 45) C fl_X2_56_2 (ly_g hL3) rfl (ly_rf hL3 7 (by decide)) dX2_copy_45 ?_
  refine r_clone (pc := 48) (t := 1) (ty := .int) C 123 A.z (by omega) (ly_gf hL3 7 (by decide)) rfl ⟨rfl, rfl⟩ rfl va_int q1392 q1393 q1394 q1395 (fun _ _ => rfl) rfl (Nat.le_of_ble_eq_true rfl) (by decide) (by omega) (by rw [ly_nf hL3 7 (by decide) (by decide)]; omega) dX2_copy_48 ?_
  refine r_widen (k' := 4) (n' := 259) (Nat.le_refl _) (by rw [ly_nf hL3 7 (by decide) (by decide)]; omega) ?_
  refine r_topR hz3 ?_
  refine r_gen fun H4 eH4 => ?_
  have hw4 : Gw H3 H4 Non := by rw [eH4]; exact gw_cl
  have hG4 := hG3.tr hw4
  have hz4 : H4.z = A.z + 4 := by rw [eH4, cl_z, hz3]
  have hf3 : H4.G (A.z + 3) = (123, A.z) ∧ H4.n (A.z + 3) = lyN (rC σ) 7 ∧ H4.I (A.z + 3) = A.I (d 7) := by
    rw [eH4, ← hz3]
    exact ⟨if_pos rfl, (if_pos rfl).trans (ly_nf hL3 7 (by decide) (by decide)), (if_pos rfl).trans (((hG3.2 (d 7) (fp_lt hZ hL (Or.inr (Or.inl ⟨7, by decide, rfl⟩)))).2.2 (fun h => h)).2.1)⟩
  have hL4 := ly_gw hZ hL hG4 (fun _ _ h => h)
  have hv4 := lv_gw hZ hL hv hG4 (fun _ _ h => h)
  clear eH4
  refine r_castAr (pc := 51) (ki := 123) (t := 1) (ty := .int) C (congrArg Prod.fst hf3.1) rfl rfl va_int q1396 dX2_copy_51 ?_
  refine r_aload_0 (pc := 54) C dX2_copy_54 ?_
  refine r_getR (pc := 55) C fl_X2_22_2 (ly_g hL4) rfl (ly_rf hL4 8 (by decide)) dX2_copy_55 ?_
  refine r_clone (pc := 58) (t := 1) (ty := .int) C 124 A.z (by omega) (ly_gf hL4 8 (by decide)) rfl ⟨rfl, rfl⟩ rfl va_int q1392 q1393 q1394 q1395 (fun _ _ => rfl) rfl (Nat.le_of_ble_eq_true rfl) (by decide) (by omega) (by rw [ly_nf hL4 8 (by decide) (by decide)]; omega) dX2_copy_58 ?_
  refine r_widen (k' := 5) (n' := 339) (Nat.le_refl _) (by rw [ly_nf hL4 8 (by decide) (by decide)]; omega) ?_
  refine r_topR hz4 ?_
  refine r_gen fun H5 eH5 => ?_
  have hw5 : Gw H4 H5 Non := by rw [eH5]; exact gw_cl
  have hG5 := hG4.tr hw5
  have hz5 : H5.z = A.z + 5 := by rw [eH5, cl_z, hz4]
  have hf4 : H5.G (A.z + 4) = (124, A.z) ∧ H5.n (A.z + 4) = lyN (rC σ) 8 ∧ H5.I (A.z + 4) = A.I (d 8) := by
    rw [eH5, ← hz4]
    exact ⟨if_pos rfl, (if_pos rfl).trans (ly_nf hL4 8 (by decide) (by decide)), (if_pos rfl).trans (((hG4.2 (d 8) (fp_lt hZ hL (Or.inr (Or.inl ⟨8, by decide, rfl⟩)))).2.2 (fun h => h)).2.1)⟩
  have hL5 := ly_gw hZ hL hG5 (fun _ _ h => h)
  have hv5 := lv_gw hZ hL hv hG5 (fun _ _ h => h)
  clear eH5
  refine r_castAr (pc := 61) (ki := 124) (t := 1) (ty := .int) C (congrArg Prod.fst hf4.1) rfl rfl va_int q1396 dX2_copy_61 ?_
  refine r_aload_0 (pc := 64) C dX2_copy_64 ?_
  refine r_getR (pc := 65) C fl_X2_59_2 (ly_g hL5) rfl (ly_rf hL5 10 (by decide)) dX2_copy_65 ?_
  refine r_clone (pc := 68) (t := 3) (ty := .boolean) C 321 A.z (by omega) (ly_gf hL5 10 (by decide)) rfl ⟨rfl, rfl⟩ rfl va_bool q1397 q1398 q1399 q1400 (fun j hj => by rw [ly_nf hL5 10 (by decide) (by decide)] at hj; rw [hv5.fence hj]; rcases (hC j (by omega)).2 with q9 | q9 <;> rw [q9]; exact fit_0; exact fit_1) rfl (Nat.le_of_ble_eq_true rfl) (by decide) (by omega) (by rw [ly_nf hL5 10 (by decide) (by decide)]; omega) dX2_copy_68 ?_
  refine r_widen (k' := 6) (n' := 419) (Nat.le_refl _) (by rw [ly_nf hL5 10 (by decide) (by decide)]; omega) ?_
  refine r_topR hz5 ?_
  refine r_gen fun H6 eH6 => ?_
  have hw6 : Gw H5 H6 Non := by rw [eH6]; exact gw_cl
  have hG6 := hG5.tr hw6
  have hz6 : H6.z = A.z + 6 := by rw [eH6, cl_z, hz5]
  have hf5 : H6.G (A.z + 5) = (321, A.z) ∧ H6.n (A.z + 5) = lyN (rC σ) 10 ∧ H6.I (A.z + 5) = A.I (d 10) := by
    rw [eH6, ← hz5]
    exact ⟨if_pos rfl, (if_pos rfl).trans (ly_nf hL5 10 (by decide) (by decide)), (if_pos rfl).trans (((hG5.2 (d 10) (fp_lt hZ hL (Or.inr (Or.inl ⟨10, by decide, rfl⟩)))).2.2 (fun h => h)).2.1)⟩
  have hL6 := ly_gw hZ hL hG6 (fun _ _ h => h)
  have hv6 := lv_gw hZ hL hv hG6 (fun _ _ h => h)
  clear eH6
  refine r_castAr (pc := 71) (ki := 321) (t := 3) (ty := .boolean) C (congrArg Prod.fst hf5.1) rfl rfl va_bool q1401 dX2_copy_71 ?_
  refine r_aload_0 (pc := 74) C dX2_copy_74 ?_
  refine r_getR (pc := 75) C fl_X2_63_2 (ly_g hL6) rfl (ly_rf hL6 9 (by decide)) dX2_copy_75 ?_
  refine r_clone (pc := 78) (t := 1) (ty := .int) C 125 A.z (by omega) (ly_gf hL6 9 (by decide)) rfl ⟨rfl, rfl⟩ rfl va_int q1392 q1393 q1394 q1395 (fun _ _ => rfl) rfl (Nat.le_of_ble_eq_true rfl) (by decide) (by omega) (by rw [ly_n9 hL6]; omega) dX2_copy_78 ?_
  refine r_widen (k' := 7) (n' := 431) (Nat.le_refl _) (by rw [ly_n9 hL6]; omega) ?_
  refine r_topR hz6 ?_
  refine r_gen fun H7 eH7 => ?_
  have hw7 : Gw H6 H7 Non := by rw [eH7]; exact gw_cl
  have hG7 := hG6.tr hw7
  have hz7 : H7.z = A.z + 7 := by rw [eH7, cl_z, hz6]
  have hf6 : H7.G (A.z + 6) = (125, A.z) ∧ H7.n (A.z + 6) = lyN (rC σ) 9 ∧ H7.I (A.z + 6) = A.I (d 9) := by
    rw [eH7, ← hz6]
    exact ⟨if_pos rfl, (if_pos rfl).trans (ly_n9 hL6), (if_pos rfl).trans (((hG6.2 (d 9) (fp_lt hZ hL (Or.inr (Or.inl ⟨9, by decide, rfl⟩)))).2.2 (fun h => h)).2.1)⟩
  have hL7 := ly_gw hZ hL hG7 (fun _ _ h => h)
  have hv7 := lv_gw hZ hL hv hG7 (fun _ _ h => h)
  clear eH7
  refine r_castAr (pc := 81) (ki := 125) (t := 1) (ty := .int) C (congrArg Prod.fst hf6.1) rfl rfl va_int q1396 dX2_copy_81 ?_
  have hq7 : (H7.G A.z).1 = 2 := by rw [(hw7.2 A.z (by omega)).1, (hw6.2 A.z (by omega)).1, (hw5.2 A.z (by omega)).1, (hw4.2 A.z (by omega)).1, (hw3.2 A.z (by omega)).1, (hw2.2 A.z (by omega)).1, hq1]
  refine r_I11v (pc := 84) C (l_init2 (q := A.z) (rg := d 11) (k5 := A.z + 1) (k6 := A.z + 2) (k7 := A.z + 3) (k8 := A.z + 4) (k10 := A.z + 5) (k9 := A.z + 6) hq7 (hDE.gw hZ hG7) hw10 hh8) il_X2_9 (by decide) (by omega) (by omega) (Nat.le_of_ble_eq_true rfl) rfl dX2_copy_84 (fun u1 A1 hc1 => ?_)
  have hLi := hc1
  clear hc1 u1
  generalize A1 = B at hLi ⊢
  have hBz : B.z = A.z + 13 := by rw [hLi.1, hz7]
  have hGB : Gw A B Non := hG7.tr2 hLi.2.1 (fun y h1 h2 => by omega)
  have hLi9 := hLi.2.2.2.2.1
  rw [hz7] at hLi9
  have hqB : B.G A.z = (2, A.z) := by rw [(hLi.2.1.2 A.z (by omega)).1, (hw7.2 A.z (by omega)).1, (hw6.2 A.z (by omega)).1, (hw5.2 A.z (by omega)).1, (hw4.2 A.z (by omega)).1, (hw3.2 A.z (by omega)).1, (hw2.2 A.z (by omega)).1]; exact hq1
  have hR12 : B.R A.z 12 = some (A.z + 7) := hLi.2.2.2.1.1.trans (congrArg some hz7)
  refine r_widen (k' := 13 + 2 * 0) (n' := 831 + 17 * 0) (by omega) (by omega) ?_
  refine r_astore_1 (pc := 87) C dX2_copy_87 rfl ?_
  refine r_iconst (pc := 88) C dX2_copy_88 ci_0 ?_
  refine r_istore_2 (pc := 89) C dX2_copy_89 rfl ?_
  have lp90_2 : ∀ (fu : Nat) (k e : Nat) (D : HA) (wd : Nat → Nat) (hk : k ≤ rK σ) (hBD : Gw B D (fun y => y = A.z + 8 ∨ A.z + 13 ≤ y)) (hAD : Gw A D Non) (hWc : Wc g A D d A.z (A.z + 13) (A.z + 8) e k wd), rK σ - k < fu → wa g z (13 + 2 * k) (831 + 17 * k) (D) 90 [some (.ref a), some (.ref (A.z)), some (.int (nI (k)))] [] := by
    intro fu
    induction fu with
    | zero => intro k e  D  wd  hk hBD hAD hWc hm90; exact absurd hm90 (Nat.not_lt_zero _)
    | succ fu ih90 =>
      intro k e  D  wd  hk hBD hAD hWc hm90
      refine r_Z fun hZD => ?_
      have hLD := ly_gw hZ hL hAD (fun _ _ h => h)
      have hvD := lv_gw hZ hL hv hAD (fun _ _ h => h)
      have hDD := hDE.gw hZ hAD
      have hD13 : A.z + 13 ≤ D.z := by have := hBD.1; omega
      have hqG : D.G A.z = (2, A.z) := by rw [(hBD.2 A.z (by omega)).1]; exact hqB
      have hqD : (D.G A.z).1 = 2 := congrArg Prod.fst hqG
      have hq12 : D.R A.z 12 = some (A.z + 7) := by rw [((hBD.2 A.z (by omega)).2.2 (fun q => by omega)).2.2]; exact hR12
      have hrD : (D.G (A.z + 7)).1 = 3 := by rw [(hBD.2 (A.z + 7) (by omega)).1]; exact congrArg Prod.fst hLi9.1
      have hr0D : D.R (A.z + 7) 0 = some (A.z + 8) := by rw [((hBD.2 (A.z + 7) (by omega)).2.2 (fun q => by omega)).2.2]; exact hLi9.2.1
      refine r_iload_2 (pc := 90) C dX2_copy_90 ?_
      refine r_aload_0 (pc := 91) C dX2_copy_91 ?_
      refine r_getR (pc := 92) C fl_X2_31_2 (ly_g hLD) rfl (ly_r12 hLD) dX2_copy_92 ?_
      refine r_V0io (pc := 95) C (j_X3_size (ly_g12 hLD) (ly_r20 hLD) (ly_g20 hLD) (hvD.nk.trans hW.k)) vl_X2_85 (ly_g12 hLD) (by decide) (by omega) (by omega) (Nat.le_of_ble_eq_true rfl) rfl dX2_copy_95 (fun u3 A3 hc3 => ?_)
      refine r_top hc3.1 ?_
      refine r_eqA hc3.2 ?_
      clear hc3 A3 u3
      refine r_icmp_ge (pc := 98) (tgt := 122) C dX2_copy_98 (by decide) (fun b98 => ?_) (fun b98 => ?_)
      · skip
        have b98 := (nI_le2 (by omega) (by omega)).mp b98
        refine r_eqA (OB_self D A.z) ?_
        refine r_aload_1 (pc := 122) C dX2_copy_122 ?_
        refine r_aload_0 (pc := 123) C dX2_copy_123 ?_
        refine r_getI (pc := 124) C fl_X2_35_2 (ly_g hLD) rfl dX2_copy_124 ?_
        refine r_top ((congrFun (OB_xI _ _ _ _ haz) 13).trans hvD.day) ?_
        refine r_putI (pc := 127) C fl_X2_35_2 hqD rfl (fun _ _ _ h => by cases h; exact Or.inl rfl) rfl rfl rfl dX2_copy_127 ?_
        refine r_eqA (OB_I _ _ _ _ _ _) ?_
        refine r_aload_1 (pc := 130) C dX2_copy_130 ?_
        refine r_aload_0 (pc := 131) C dX2_copy_131 ?_
        refine r_getI (pc := 132) C fl_X2_25_2 (ly_g hLD) rfl dX2_copy_132 ?_
        refine r_top ((congrFun (OB_xI _ _ _ _ haz) 14).trans hvD.first) ?_
        refine r_putI (pc := 135) C fl_X2_25_2 hqD rfl (fun _ _ _ h => by cases h; exact Or.inl rfl) rfl rfl rfl dX2_copy_135 ?_
        refine r_eqA (OB_I _ _ _ _ _ _) ?_
        refine r_aload_1 (pc := 138) C dX2_copy_138 ?_
        refine r_aret (pc := 139) C E rfl (by omega) (by omega) dX2_copy_139 ?_
        have e9 : k = rK σ := by omega
        subst e9
        have hOG : ∀ y, (OB D A.z (D.R A.z) (upd (upd (D.I A.z) 13 (σ 3)) 14 (σ 8))).G y = D.G y := fun _ => rfl
        have hgO : Gw D (OB D A.z (D.R A.z) (upd (upd (D.I A.z) 13 (σ 3)) 14 (σ 8))) (fun y => y = A.z) := gw_OB _ _ _ _ (fun _ => rfl)
        have bd : ∀ y, y < A.z + 13 → y ≠ A.z + 8 → D.G y = B.G y ∧ D.n y = B.n y ∧ D.I y = B.I y ∧ D.R y = B.R y := fun y h1 h2 => by
          have v := hBD.2 y (by omega)
          have u := v.2.2 (fun q => by omega)
          exact ⟨v.1, v.2.1, u.2.1, u.2.2⟩
        have ac : ∀ i, 1 ≤ i → i < 7 → B.G (A.z + i) = H7.G (A.z + i) ∧ B.n (A.z + i) = H7.n (A.z + i) ∧ B.I (A.z + i) = H7.I (A.z + i) := fun i h1 h2 => by
          have v := hLi.2.1.2 (A.z + i) (by omega)
          have u := v.2.2 (fun q => by omega)
          exact ⟨v.1, v.2.1, u.2.1⟩
        have st : ∀ (i j : Nat) (P Q : HA), Gw P Q Non → A.z + i < P.z → Q.G (A.z + i) = P.G (A.z + i) ∧ Q.n (A.z + i) = P.n (A.z + i) ∧ Q.I (A.z + i) = P.I (A.z + i) := fun i _ P Q h1 h2 => by
          have v := h1.2 _ h2
          exact ⟨v.1, v.2.1, (v.2.2 (fun h => h)).2.1⟩
        have p1 := st 1 0 H2 H7 ((((hw3.tr hw4).tr hw5).tr hw6).tr hw7) (by omega)
        have g1 : D.G (A.z + 1) = (121, A.z) ∧ D.n (A.z + 1) = lyN (rC σ) 5 ∧ D.I (A.z + 1) = A.I (d 5) := ⟨(bd _ (by omega) (by omega)).1.trans ((ac 1 (by omega) (by omega)).1.trans (p1.1.trans hf1.1)), (bd _ (by omega) (by omega)).2.1.trans ((ac 1 (by omega) (by omega)).2.1.trans (p1.2.1.trans hf1.2.1)), (bd _ (by omega) (by omega)).2.2.1.trans ((ac 1 (by omega) (by omega)).2.2.trans (p1.2.2.trans hf1.2.2))⟩
        have p2 := st 2 0 H3 H7 (((hw4.tr hw5).tr hw6).tr hw7) (by omega)
        have g2 : D.G (A.z + 2) = (122, A.z) ∧ D.n (A.z + 2) = lyN (rC σ) 6 ∧ D.I (A.z + 2) = A.I (d 6) := ⟨(bd _ (by omega) (by omega)).1.trans ((ac 2 (by omega) (by omega)).1.trans (p2.1.trans hf2.1)), (bd _ (by omega) (by omega)).2.1.trans ((ac 2 (by omega) (by omega)).2.1.trans (p2.2.1.trans hf2.2.1)), (bd _ (by omega) (by omega)).2.2.1.trans ((ac 2 (by omega) (by omega)).2.2.trans (p2.2.2.trans hf2.2.2))⟩
        have p3 := st 3 0 H4 H7 ((hw5.tr hw6).tr hw7) (by omega)
        have g3 : D.G (A.z + 3) = (123, A.z) ∧ D.n (A.z + 3) = lyN (rC σ) 7 ∧ D.I (A.z + 3) = A.I (d 7) := ⟨(bd _ (by omega) (by omega)).1.trans ((ac 3 (by omega) (by omega)).1.trans (p3.1.trans hf3.1)), (bd _ (by omega) (by omega)).2.1.trans ((ac 3 (by omega) (by omega)).2.1.trans (p3.2.1.trans hf3.2.1)), (bd _ (by omega) (by omega)).2.2.1.trans ((ac 3 (by omega) (by omega)).2.2.trans (p3.2.2.trans hf3.2.2))⟩
        have p4 := st 4 0 H5 H7 (hw6.tr hw7) (by omega)
        have g4 : D.G (A.z + 4) = (124, A.z) ∧ D.n (A.z + 4) = lyN (rC σ) 8 ∧ D.I (A.z + 4) = A.I (d 8) := ⟨(bd _ (by omega) (by omega)).1.trans ((ac 4 (by omega) (by omega)).1.trans (p4.1.trans hf4.1)), (bd _ (by omega) (by omega)).2.1.trans ((ac 4 (by omega) (by omega)).2.1.trans (p4.2.1.trans hf4.2.1)), (bd _ (by omega) (by omega)).2.2.1.trans ((ac 4 (by omega) (by omega)).2.2.trans (p4.2.2.trans hf4.2.2))⟩
        have p5 := st 5 0 H6 H7 hw7 (by omega)
        have g5 : D.G (A.z + 5) = (321, A.z) ∧ D.n (A.z + 5) = lyN (rC σ) 10 ∧ D.I (A.z + 5) = A.I (d 10) := ⟨(bd _ (by omega) (by omega)).1.trans ((ac 5 (by omega) (by omega)).1.trans (p5.1.trans hf5.1)), (bd _ (by omega) (by omega)).2.1.trans ((ac 5 (by omega) (by omega)).2.1.trans (p5.2.1.trans hf5.2.1)), (bd _ (by omega) (by omega)).2.2.1.trans ((ac 5 (by omega) (by omega)).2.2.trans (p5.2.2.trans hf5.2.2))⟩
        have p6 : H7.G (A.z + 6) = H7.G (A.z + 6) ∧ H7.n (A.z + 6) = H7.n (A.z + 6) ∧ H7.I (A.z + 6) = H7.I (A.z + 6) := ⟨rfl, rfl, rfl⟩
        have g6 : D.G (A.z + 6) = (125, A.z) ∧ D.n (A.z + 6) = lyN (rC σ) 9 ∧ D.I (A.z + 6) = A.I (d 9) := ⟨(bd _ (by omega) (by omega)).1.trans ((ac 6 (by omega) (by omega)).1.trans (p6.1.trans hf6.1)), (bd _ (by omega) (by omega)).2.1.trans ((ac 6 (by omega) (by omega)).2.1.trans (p6.2.1.trans hf6.2.1)), (bd _ (by omega) (by omega)).2.2.1.trans ((ac 6 (by omega) (by omega)).2.2.trans (p6.2.2.trans hf6.2.2))⟩
        obtain ⟨l1, l2, ⟨m5, m6, m7, m8, m9, m10, m11⟩, ⟨m12, m15, m16, m17, m18⟩, ⟨r1, r2, r3, r4⟩, ⟨s15, s16, s17, s18⟩, ⟨i0, i1, i2, i3, i4, i13, i14⟩⟩ := hLi
        rw [hz7] at m12 m15 m16 m17 m18 r1 r2 r3 r4 s15 s16 s17 s18
        have bz := bd A.z (by omega) (by omega)
        have xR : ∀ y, (OB D A.z (D.R A.z) (upd (upd (D.I A.z) 13 (σ 3)) 14 (σ 8))).R y = D.R y := fun y => by rw [show OB D A.z (D.R A.z) (upd (upd (D.I A.z) 13 (σ 3)) 14 (σ 8)) = (D.sR A.z (D.R A.z)).sI A.z (upd (upd (D.I A.z) 13 (σ 3)) 14 (σ 8)) from rfl, sI_R, sR_R]; split <;> simp_all
        have xI : ∀ y, y ≠ A.z → (OB D A.z (D.R A.z) (upd (upd (D.I A.z) 13 (σ 3)) 14 (σ 8))).I y = D.I y := fun y hy => OB_xI _ _ _ _ hy
        refine ⟨cpD A.z e wd d, cp_mk hZ hL hv hW (hDD.gw hZD hgO) (hAD.tr2 hgO (fun y hy h => by omega)) (hqG) ⟨fun f hf => ?_, ?_⟩ (fun f hf => ?_) ⟨?_, ?_⟩ (hWc.gw hZD hgO (fun y _ h => by rw [h]; exact hqD)) ⟨?_, ?_, ?_, ?_, ?_, ?_, ?_⟩ (fun f h5 h9 => ?_)⟩
        · rw [xR, bz.2.2.2]
          rcases (show f = 5 ∨ f = 6 ∨ f = 7 ∨ f = 8 ∨ f = 9 ∨ f = 10 ∨ f = 15 ∨ f = 16 ∨ f = 17 ∨ f = 18 ∨ f = 12 by unfold arrF at hf; omega) with q9 | q9 | q9 | q9 | q9 | q9 | q9 | q9 | q9 | q9 | q9 <;> subst q9
          · exact m5
          · exact m6
          · exact m7
          · exact m8
          · exact m9
          · exact m10
          · exact m15
          · exact m16
          · exact m17
          · exact m18
          · exact m12
        · rw [xR, bz.2.2.2]; exact m11
        · show D.G _ = _ ∧ D.n _ = _
          rcases (show f = 5 ∨ f = 6 ∨ f = 7 ∨ f = 8 ∨ f = 9 ∨ f = 10 ∨ f = 15 ∨ f = 16 ∨ f = 17 ∨ f = 18 by unfold arrF at hf; omega) with q9 | q9 | q9 | q9 | q9 | q9 | q9 | q9 | q9 | q9 <;> subst q9
          · exact ⟨g1.1, g1.2.1⟩
          · exact ⟨g2.1, g2.2.1⟩
          · exact ⟨g3.1, g3.2.1⟩
          · exact ⟨g4.1, g4.2.1⟩
          · exact ⟨g6.1, g6.2.1⟩
          · exact ⟨g5.1, g5.2.1⟩
          · exact ⟨(bd (A.z + 9) (by omega) (by omega)).1.trans s15.1, (bd (A.z + 9) (by omega) (by omega)).2.1.trans s15.2⟩
          · exact ⟨(bd (A.z + 10) (by omega) (by omega)).1.trans s16.1, (bd (A.z + 10) (by omega) (by omega)).2.1.trans s16.2⟩
          · exact ⟨(bd (A.z + 11) (by omega) (by omega)).1.trans s17.1, (bd (A.z + 11) (by omega) (by omega)).2.1.trans s17.2⟩
          · exact ⟨(bd (A.z + 12) (by omega) (by omega)).1.trans s18.1, (bd (A.z + 12) (by omega) (by omega)).2.1.trans s18.2⟩
        · exact (bd (A.z + 7) (by omega) (by omega)).1.trans r1
        · rw [xR, (bd (A.z + 7) (by omega) (by omega)).2.2.2]; exact r2
        · rw [OB_i, pk_un (by decide), pk_un (by decide), bz.2.2.1]; exact i0.trans hS.w.symm
        · rw [OB_i, pk_un (by decide), pk_un (by decide), bz.2.2.1]; exact i1.trans hS.h.symm
        · rw [OB_i, pk_un (by decide), pk_un (by decide), bz.2.2.1]; exact i2.trans hW.gr.symm
        · rw [OB_i, pk_un (by decide), pk_un (by decide), bz.2.2.1]; exact i3.trans hW.wt.symm
        · rw [OB_i, pk_un (by decide), pk_un (by decide), bz.2.2.1]; exact i4
        · rw [OB_i, pk_un (by decide), pk_us]
        · rw [OB_i, pk_us]
        · rcases (show f = 5 ∨ f = 6 ∨ f = 7 ∨ f = 8 ∨ f = 9 ∨ f = 10 by omega) with q9 | q9 | q9 | q9 | q9 | q9 <;> subst q9
          · exact (xI (A.z + 1) (by omega)).trans g1.2.2
          · exact (xI (A.z + 2) (by omega)).trans g2.2.2
          · exact (xI (A.z + 3) (by omega)).trans g3.2.2
          · exact (xI (A.z + 4) (by omega)).trans g4.2.2
          · exact (xI (A.z + 6) (by omega)).trans g6.2.2
          · exact (xI (A.z + 5) (by omega)).trans g5.2.2
      · skip
        have b98 := (not_congr (nI_le2 (by omega) (by omega))).mp b98
        have hk2 : k < rK σ := by omega
        obtain ⟨nm, hnA⟩ := hnam k hk2
        have hnD : A.R (d (30 + k)) 0 = some nm := hnA
        have hnD2 : D.R (d (30 + k)) 0 = some nm := by rw [((hAD.2 _ (fp_lt hZ hL (Or.inr (Or.inr (Or.inr (Or.inl ⟨k, hk2, rfl⟩)))))).2.2 (fun h => h)).2.2]; exact hnA
        refine r_aload_1 (pc := 101) C dX2_copy_101 ?_
        refine r_getR (pc := 102) C fl_X2_31_2 hqD rfl hq12 dX2_copy_102 ?_
        refine r_aload_0 (pc := 105) C dX2_copy_105 ?_
        refine r_iload_2 (pc := 106) C dX2_copy_106 ?_
        refine r_V1ro (pc := 107) C (l_walker hLD hvD hW (k := k) (by omega)) vl_X2_89 (ly_g hLD) (by decide) (by omega) (by omega) (Nat.le_of_ble_eq_true rfl) rfl dX2_copy_107 (fun u4 A4 hc4 => ?_)
        refine r_topR hc4.1 ?_
        refine r_eqA hc4.2 ?_
        clear hc4 A4 u4
        refine r_V0r (pc := 110) C (j_X5_copy (o := A.z) (by omega) (ly_w hLD hk2).2 hnD2) vl_X2_93 (ly_w hLD hk2).2 (by decide) (by omega) (by omega) (Nat.le_of_ble_eq_true rfl) rfl dX2_copy_110 (fun u5 A5 hc5 => ?_)
        obtain ⟨eu5, hE1z, w1, gD2, nD, iD0⟩ := hc5
        refine r_topR eu5 ?_
        clear eu5 u5
        generalize A5 = E1 at hE1z w1 gD2 nD iD0 ⊢
        refine r_Z fun hZE => ?_
        have iD : ∀ f, 1 ≤ f → f ≤ 6 → E1.I D.z f = A.I (d (30 + k)) f := fun f h1 h6 => (iD0 f h1 h6).trans (congrFun ((hAD.2 _ (fp_lt hZ hL (Or.inr (Or.inr (Or.inr (Or.inl ⟨k, hk2, rfl⟩)))))).2.2 (fun h => h)).2.1 f)
        have hrE : (E1.G (A.z + 7)).1 = 3 := by rw [(w1.2 _ (by omega)).1]; exact hrD
        have hr0E : E1.R (A.z + 7) 0 = some (A.z + 8) := by rw [((w1.2 (A.z + 7) (by omega)).2.2 (fun h => h)).2.2]; exact hr0D
        have hDE1 := hDD.gw hZD w1
        have hLS := hWc.1.gw hZD w1 (fun h => h) (fun h => h)
        rcases Nat.eq_zero_or_pos k with hk0 | hk0
        · skip
          have hL0 : Ll g E1 (A.z + 8) (g.c 70) 0 wd := by have h9 := hLS; rw [hWc.2.1 hk0, hk0] at h9; exact h9
          have heD : e < D.z := by rw [hWc.2.1 hk0]; exact hZD.lt hDD.2.1 rfl
          refine r_V1v (pc := 113) C (j_X3_add0 hrE hr0E hL0 hDE1 (by rw [gD2]; exact OkO5)) vl_X2_99 hrE (by decide) (by omega) (by omega) (Nat.le_of_ble_eq_true rfl) rfl dX2_copy_113 (fun u6 A6 hc6 => ?_)
          refine r_eqA hc6 ?_
          clear hc6 A6 u6
          have hadd := ll_add0 (x := D.z) hZE hL0
          refine r_gen fun E2 eE2 => ?_
          have hll : Ll g E2 (A.z + 8) E1.z (k + 1) (lower wd k D.z) := by
            rw [eE2, hk0]
            exact hadd.1.cong (fun j hj => by rw [show j = 0 by omega, lower_s])
          have hgw : Gw E1 E2 (fun y => y = A.z + 8) := by rw [eE2]; exact hadd.2.1
          clear eE2
          have hWn := wc_next hZD hWc hD13 w1 hE1z gD2 (nD.trans (by rw [hnD])) iD (hgw.mono (fun y _ h => Or.inl h)) heD hll (by omega)
          have hBn : Gw B E2 (fun y => y = A.z + 8 ∨ A.z + 13 ≤ y) := (hBD.tr2 w1 (fun y _ h => h.elim)).tr2 hgw (fun y _ h => Or.inl h)
          have hAn : Gw A E2 Non := (hAD.tr2 w1 (fun y _ h => h.elim)).tr2 hgw (fun y hy h => by omega)
          refine r_iinc_2 (pc := 116) C dX2_copy_116 (nI_inc _) rfl ?_
          refine r_goto (pc := 119) (tgt := 90) C dX2_copy_119 (by decide) ?_
          refine r_widen (k' := 13 + 2 * (k + 1)) (n' := 831 + 17 * (k + 1)) (by omega) (by omega) ?_
          exact ih90 (k + 1) _ _ (lower wd k D.z) (by omega) hBn hAn hWn (by omega)
        · skip
          have heD : e < D.z := hZD.lt (congrArg Prod.fst (hWc.1.2.2.2.1.resolve_left (fun z => by omega)).1) rfl
          refine r_V1vo (pc := 113) C (j_X3_addS hrE hr0E hLS (by omega) (by omega) (by rw [gD2]; exact OkO5)) vl_X2_99 hrE (by decide) (by omega) (by omega) (Nat.le_of_ble_eq_true rfl) rfl dX2_copy_113 (fun u7 A7 hc7 => ?_)
          refine r_eqA hc7 ?_
          clear hc7 A7 u7
          have hadd := ll_addS (x := D.z) hLS (by omega) (by omega)
          refine r_gen fun E2 eE2 => ?_
          rw [← eE2] at hadd
          clear eE2
          have hWn := wc_next hZD hWc hD13 w1 hE1z gD2 (nD.trans (by rw [hnD])) iD hadd.2 heD hadd.1 (hWc.2.2.1 (by omega))
          have hBn : Gw B E2 (fun y => y = A.z + 8 ∨ A.z + 13 ≤ y) := (hBD.tr2 w1 (fun y _ h => h.elim)).tr2 hadd.2 (fun y _ h => h.elim Or.inl (fun h => Or.inr (by rw [h]; exact hWc.2.2.1 (by omega))))
          have hAn : Gw A E2 Non := (hAD.tr2 w1 (fun y _ h => h.elim)).tr2 hadd.2 (fun y hy h => by rcases h with h | h; omega; have := hWc.2.2.1 (by omega); omega)
          refine r_iinc_2 (pc := 116) C dX2_copy_116 (nI_inc _) rfl ?_
          refine r_goto (pc := 119) (tgt := 90) C dX2_copy_119 (by decide) ?_
          refine r_widen (k' := 13 + 2 * (k + 1)) (n' := 831 + 17 * (k + 1)) (by omega) (by omega) ?_
          exact ih90 (k + 1) _ _ (lower wd k D.z) (by omega) hBn hAn hWn (by omega)
  exact lp90_2 _ 0 (g.c 70) B (fun _ => 0) (Nat.zero_le _) Gw.rf hGB ⟨hLi9.2.2.2, fun _ => rfl, fun h => absurd rfl h, fun j hj => absurd hj (Nat.not_lt_zero _), fun i j _ hj => absurd hj (Nat.not_lt_zero _)⟩ (Nat.lt_succ_self _)
