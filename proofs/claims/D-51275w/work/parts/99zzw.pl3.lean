/-! THE COMPONENT, 40: the plain lawn, made -/
set_option maxRecDepth 100000
noncomputable def psR (i : Nat) : Rw := match i with | 0 => pW5 | 1 => pW6 | 2 => pW7 | 3 => pW8 | 4 => pW9 | _ => pW10
def psC (i : Nat) : Nat := match i with | 0 => 6 | 1 => 1 | 2 => 2 | 3 => 3 | _ => 4
theorem psR0 : psR 0 = pW5 := rfl
theorem psR1 : psR 1 = pW6 := rfl
theorem psR2 : psR 2 = pW7 := rfl
theorem psR3 : psR 3 = pW8 := rfl
theorem psR4 : psR 4 = pW9 := rfl
theorem psR5 : psR 5 = pW10 := rfl
theorem psc0 : 6 < rC pW5 := by decide +kernel
theorem psc1 : 1 < rC pW6 := by decide +kernel
theorem psc2 : 2 < rC pW7 := by decide +kernel
theorem psc3 : 3 < rC pW8 := by decide +kernel
theorem psc4 : 4 < rC pW9 := by decide +kernel
theorem ps_ok1 : ∀ i, i ≤ 5 → rK (psR i) = rK (psR 0) ∧ rG (psR i) = rG (psR 0) := by
  have h : ∀ i, i ≤ 5 → rK (psR i) = 2 ∧ rG (psR i) = 3 := by
    intro i hi
    rcases (show i = 0 ∨ i = 1 ∨ i = 2 ∨ i = 3 ∨ i = 4 ∨ i = 5 by omega) with e | e | e | e | e | e <;> subst e
    · rw [psR0]; exact ⟨pD5.2.2.2, pD5.2.2.1⟩
    · rw [psR1]; exact ⟨pD6.2.2, pD6.2.1⟩
    · rw [psR2]; exact ⟨pD7.2.2, pD7.2.1⟩
    · rw [psR3]; exact ⟨pD8.2.2, pD8.2.1⟩
    · rw [psR4]; exact ⟨pD9.2.2, pD9.2.1⟩
    · rw [psR5]; exact ⟨pD10.2.2, pD10.2.1⟩
  intro i hi
  rw [(h i hi).1, (h i hi).2, (h 0 (by omega)).1, (h 0 (by omega)).2]
  exact ⟨rfl, rfl⟩
theorem ps_ok2 : ∀ i, i < 5 → RowW (psR i) ∧ psC i < rC (psR i) ∧ psR i (153 + 5 * psC i + 0) = 0 ∧ psR (i + 1) = hd (psR i) (psC i) 1 := by
  intro i hi
  rcases (show i = 0 ∨ i = 1 ∨ i = 2 ∨ i = 3 ∨ i = 4 by omega) with e | e | e | e | e <;> subst e
  · rw [show psC 0 = 6 from rfl, show 0 + 1 = 1 from rfl, psR0, psR1]; exact ⟨pD5.1.1.w, psc0, ps_h0, pH6⟩
  · rw [show psC 1 = 1 from rfl, show 1 + 1 = 2 from rfl, psR1, psR2]; exact ⟨pD6.1.1.w, psc1, ps_h1, pH7⟩
  · rw [show psC 2 = 2 from rfl, show 2 + 1 = 3 from rfl, psR2, psR3]; exact ⟨pD7.1.1.w, psc2, ps_h2, pH8⟩
  · rw [show psC 3 = 3 from rfl, show 3 + 1 = 4 from rfl, psR3, psR4]; exact ⟨pD8.1.1.w, psc3, ps_h3, pH9⟩
  · rw [show psC 4 = 4 from rfl, show 4 + 1 = 5 from rfl, psR4, psR5]; exact ⟨pD9.1.1.w, psc4, ps_h4, pH10⟩
theorem pg_i0 : 5 < rC pW0 ∧ pW0 (153 + 5 * 5 + 0) = 0 := by decide +kernel
theorem pg_i1 : 9 < rC pW1 ∧ pW1 (153 + 5 * 9 + 0) = 0 := by decide +kernel
theorem pg_i2 : 17 < rC pW2 ∧ pW2 (153 + 5 * 17 + 0) = 0 := by decide +kernel
/-- a walker made for the lawn, not yet its -/
theorem wk_pre {g : GZ} {V : HA} {z0 l nm : Nat} {d : Nat → Nat} {σ : Rw} {v2 v3 v4 v1 : Int32} {Z8 : HA} (hB : LwB g V z0 l d σ) (hz : Zk V) (eZ : Z8 = OB (V.mk 5 l 0) V.z (va_up ((V.mk 5 l 0).R V.z) 0 (some nm)) (upd (upd (upd (upd ((V.mk 5 l 0).I V.z) 2 v2) 3 v3) 4 v4) 1 v1)) :
    LwB g Z8 z0 l d σ ∧ Gw V Z8 Non ∧ Z8.G V.z = (5, l) ∧ Z8.R V.z 0 = some nm ∧ (Z8.I V.z 2 = v2 ∧ Z8.I V.z 3 = v3 ∧ Z8.I V.z 4 = v4 ∧ Z8.I V.z 1 = v1 ∧ Z8.I V.z 5 = nI 0 ∧ Z8.I V.z 6 = nI 0) ∧ (∀ j, j < rK σ → d (30 + j) ≠ V.z) := by
  obtain ⟨hGn, hnG, hn2, hn3⟩ := wk_new (Y := V.mk 5 l 0) (t := V.z) (nm := nm) (v2 := v2) (v3 := v3) (v4 := v4) (v1 := v1)
  rw [← eZ] at hGn hnG hn2 hn3
  have hG : Gw V Z8 Non := (gw_mk (A := V) (k := 5) (o := l) (len := 0) (X := Non)).tr2 hGn (fun y hy q => by omega)
  have hY0 : ∀ j, (V.mk 5 l 0).I V.z j = 0 := fun j => by rw [mk_I, if_pos rfl]
  refine ⟨hB.mv hz hG (fun _ _ q => q) (StP.no hz hG), hG, by rw [hnG, mk_G, if_pos rfl], hn2, ⟨?_, ?_, ?_, ?_, ?_, ?_⟩, fun j hj e => ?_⟩
  · rw [hn3, pk_un (by decide), pk_un (by decide), pk_un (by decide), pk_us]
  · rw [hn3, pk_un (by decide), pk_un (by decide), pk_us]
  · rw [hn3, pk_un (by decide), pk_us]
  · rw [hn3, pk_us]
  · rw [hn3, pk_un (by decide), pk_un (by decide), pk_un (by decide), pk_un (by decide), hY0]; rfl
  · rw [hn3, pk_un (by decide), pk_un (by decide), pk_un (by decide), pk_un (by decide), hY0]; rfl
  · have h3 := fp_lt hz hB.L (Or.inr (Or.inr (Or.inr (Or.inl ⟨j, hj, rfl⟩))))
    omega
theorem wk_end0 {g : GZ} {A Z8 : HA} {z0 l x nm fr to hs pd : Nat} {d : Nat → Nat} {σ τ : Rw} (hB : LwB g Z8 z0 l d σ) (hz : Zk Z8) (hG : Gw A Z8 Non) (hzl : A.z ≤ z0) (hD : Dj σ) (hk0 : rK σ = 0) (hP : WalkP σ τ fr to hs pd) (hx : Z8.G x = (5, l) ∧ Z8.R x 0 = some nm ∧ z0 ≤ x) (hxI : Z8.I x 2 = nI fr ∧ Z8.I x 3 = nI to ∧ Z8.I x 4 = nI hs ∧ Z8.I x 1 = nI pd ∧ Z8.I x 5 = nI 0 ∧ Z8.I x 6 = nI 0) (hxn : ∀ k, k < rK σ → d (30 + k) ≠ x) (hN : NmS Z8 nm τ (75 + 13 * rK σ)) :
    (∃ d', LwB g (lA0 Z8 (d 20) x) z0 l d' τ) ∧ Gw A (lA0 Z8 (d 20) x) Non := by
  have hLg := hB.lw
  have hg20 := hLg.1
  have he0 := hB.k0 hk0
  rw [hk0, he0] at hLg
  have xz : x < Z8.z := hz.lt (show (Z8.G x).1 = 5 by rw [hx.1]) rfl
  have d20 : LX Z8 l d σ (d 20) := ⟨Or.inr (Or.inr (Or.inl (Or.inr (Or.inr (Or.inl rfl))))), by rw [hg20]; decide⟩
  obtain ⟨f1, f2, f3⟩ := ll_add0 (x := x) hz hLg
  refine ⟨⟨_, hB.walk (e := Z8.z) (nm := nm) hz hD.1.w hD.2.2.1 (by omega) hP hx hxI hxn hN (by rw [hk0]; exact f1.cong (fun j hj => by rw [show j = 0 by omega, lower_s])) (by have := hx.2.2; omega) f2 (fun y q => Or.inl q) (StP.gw hz f2 (fun y q => by rw [q, hg20]; exact ⟨by decide, by decide⟩))⟩, hG.tr2 f2 (fun y hy q => by rw [q] at hy; have := hB.lx0 d20; omega)⟩
theorem wk_endS {g : GZ} {A Z8 : HA} {z0 l x nm fr to hs pd : Nat} {d : Nat → Nat} {σ τ : Rw} (hB : LwB g Z8 z0 l d σ) (hz : Zk Z8) (hG : Gw A Z8 Non) (hzl : A.z ≤ z0) (hD : Dj σ) (hk0 : ¬ rK σ = 0) (k6 : rK σ < 6) (hP : WalkP σ τ fr to hs pd) (hx : Z8.G x = (5, l) ∧ Z8.R x 0 = some nm ∧ z0 ≤ x) (hxI : Z8.I x 2 = nI fr ∧ Z8.I x 3 = nI to ∧ Z8.I x 4 = nI hs ∧ Z8.I x 1 = nI pd ∧ Z8.I x 5 = nI 0 ∧ Z8.I x 6 = nI 0) (hxn : ∀ k, k < rK σ → d (30 + k) ≠ x) (hN : NmS Z8 nm τ (75 + 13 * rK σ)) :
    (∃ d', LwB g ((lA1 Z8 (d 20) (rK σ)).sR (d 21) (va_up (Z8.R (d 21)) (rK σ) (some x))) z0 l d' τ) ∧ Gw A ((lA1 Z8 (d 20) (rK σ)).sR (d 21) (va_up (Z8.R (d 21)) (rK σ) (some x))) Non := by
  have hLg := hB.lw
  have hg20 := hLg.1
  have hde := hB.de
  have hez9 := (hLg.2.2.2.1.resolve_left (fun q => hk0 q.1))
  have he5 : (Z8.G (d 21)).1 = 501 := by rw [hez9.1]
  have m21 : Fp l d (rK σ) (rG σ) (d 21) := Or.inr (Or.inr (Or.inl (Or.inr (Or.inr (Or.inr (Or.inl rfl))))))
  have hez : z0 ≤ d 21 := by
    rcases hB.2.2 (d 21) m21 with q | q
    · exact q
    · rw [q, hde.2.1] at he5; exact absurd he5 (by decide)
  have d20 : LX Z8 l d σ (d 20) := ⟨Or.inr (Or.inr (Or.inl (Or.inr (Or.inr (Or.inl rfl))))), by rw [hg20]; decide⟩
  have h20 := hB.lx0 d20
  obtain ⟨f1, f2⟩ := ll_addS (x := x) hLg (by omega) (by omega)
  refine ⟨⟨_, hB.walk (e := d 21) (nm := nm) hz hD.1.w hD.2.2.1 k6 hP hx hxI hxn hN f1 hez f2 (fun y q => q.imp id (fun q => by rw [q]; exact hez9.1)) (StP.gw hz f2 (fun y q => by rcases q with q | q; (rw [q, hg20]; exact ⟨by decide, by decide⟩); (rw [q, he5]; exact ⟨by decide, by decide⟩)))⟩, hG.tr2 f2 (fun y hy q => by rcases q with q | q <;> omega)⟩
set_option maxHeartbeats 4000000 in
theorem c_plain {g : GZ} {A : HA} (hDE : DeK g A) (hPl : PlC g)  : Ct g wR yX1_plain (.code yX1_plain cX1_plain 1 (Option.some (Jvm.ClassFile.FieldType.object "LawnPaths$Lawn"))) 12 40 1200 [] (A) (fun u A' => (∃ d', LwB g A' A.z u d' pW10) ∧ A.z ≤ u ∧ Gw A A' Non) fw_no := by
  refine Ct.of [none] (by decide) rfl rfl fun z C hx hnm E => ?_
  refine r_Z fun hZ => ?_
  obtain ⟨qw, vw, sw, lw1, lw2, lw3, lw4⟩ := hPl.1
  obtain ⟨qe, ve, se, le1, le2, le3, le4⟩ := hPl.2.1
  obtain ⟨qp, vp, sp, lp1, lp2, lp3, lp4⟩ := hPl.2.2.1
  obtain ⟨qa, va, sa, la1, la2, la3, la4⟩ := hPl.2.2.2.1
  obtain ⟨qb, vb, sb, lb1, lb2, lb3, lb4⟩ := hPl.2.2.2.2
  refine r_new (pc := 0) C (A.z) (Nat.le_refl _) nl_X1_51 NF2 (by omega) (by omega) dX1_plain_0 ?_
  refine r_dup (pc := 3) C dX1_plain_3 rfl ?_
  refine r_iconst (pc := 4) C dX1_plain_4 ci_5 ?_
  refine r_iconst (pc := 5) C dX1_plain_5 ci_4 ?_
  refine r_iconst (pc := 6) C dX1_plain_6 ci_3 ?_
  refine r_iconst (pc := 7) C dX1_plain_7 ci_2 ?_
  refine r_I4v (pc := 8) C (l_init1 (gr := nI 3) (wt := nI 2) (z0 := A.z) (by rw [mk_G, if_pos rfl]) (hDE.gw hZ (gw_mk (X := Non))) (by decide) (by decide) pN0 ⟨Nat.le_refl _, by rw [mk_z]; omega⟩) il_X1_56 (by decide) (by omega) (by omega) (Nat.le_of_ble_eq_true rfl) rfl dX1_plain_8 (fun u1 A1 hc1 => ?_)
  obtain ⟨hB0, hGi⟩ := hc1
  generalize A1 = Y0 at hB0 hGi ⊢
  obtain ⟨d0, ed0⟩ : ∃ d0, d0 = iniD (A.mk 2 A.z 0).z (g.c 70) := ⟨_, rfl⟩
  rw [← ed0] at hB0
  have hG0 : Gw A Y0 Non := (gw_mk (X := Non)).tr2 hGi (fun y hy q => by omega)
  refine r_old (A := Y0) fun ho0 => ?_
  refine r_Z (A := Y0) fun hZ0 => ?_
  refine r_astore_0 (pc := 11) C dX1_plain_11 ?_
  refine r_aload_0 (pc := 12) C dX1_plain_12 ?_
  refine r_ldcS (pc := 13) C sw dX1_plain_13 ?_
  refine r_iconst (pc := 15) C dX1_plain_15 ci_5 ?_
  refine r_V2v (pc := 16) C (l_addsGate hB0 pD0.1.1.w (by rw [pD0.2.2.2.1]; decide) pg_i0.1 pg_i0.2 pP0 (by rw [pD0.2.2.2.1]; exact nm_pl ho0 lw1 lw2 lw3 lw4 ⟨by decide, by decide⟩ pg_n0)) vl_X1_61 (by exact ly_g hB0.L) (by decide) (by omega) (by omega) (Nat.le_of_ble_eq_true rfl) rfl dX1_plain_16 (fun u2 A2 hc2 => ?_)
  obtain ⟨d1, hB1, hGg, -⟩ := hc2
  generalize A2 = Y1 at hB1 hGg ⊢
  have hG1 : Gw A Y1 Non := hG0.tr2 hGg (fun y hy q => by have := hB0.lx0 q; omega)
  refine r_old (A := Y1) fun ho1 => ?_
  refine r_Z (A := Y1) fun hZ1 => ?_
  refine r_aload_0 (pc := 19) C dX1_plain_19 ?_
  refine r_ldcS (pc := 20) C se dX1_plain_20 ?_
  refine r_bipush (pc := 22) C dX1_plain_22 cb_9 ?_
  refine r_V2v (pc := 24) C (l_addsGate hB1 pD1.1.1.w (by rw [pD1.2.2.2.1]; decide) pg_i1.1 pg_i1.2 pP1 (by rw [pD1.2.2.2.1]; exact nm_pl ho1 le1 le2 le3 le4 ⟨by decide, by decide⟩ pg_n1)) vl_X1_61 (by exact ly_g hB1.L) (by decide) (by omega) (by omega) (Nat.le_of_ble_eq_true rfl) rfl dX1_plain_24 (fun u3 A3 hc3 => ?_)
  obtain ⟨d2, hB2, hGg, -⟩ := hc3
  generalize A3 = Y2 at hB2 hGg ⊢
  have hG2 : Gw A Y2 Non := hG1.tr2 hGg (fun y hy q => by have := hB1.lx0 q; omega)
  refine r_old (A := Y2) fun ho2 => ?_
  refine r_Z (A := Y2) fun hZ2 => ?_
  refine r_aload_0 (pc := 27) C dX1_plain_27 ?_
  refine r_ldcS (pc := 28) C sp dX1_plain_28 ?_
  refine r_bipush (pc := 30) C dX1_plain_30 cb_17 ?_
  refine r_V2v (pc := 32) C (l_addsGate hB2 pD2.1.1.w (by rw [pD2.2.2.2.1]; decide) pg_i2.1 pg_i2.2 pP2 (by rw [pD2.2.2.2.1]; exact nm_pl ho2 lp1 lp2 lp3 lp4 ⟨by decide, by decide⟩ pg_n2)) vl_X1_61 (by exact ly_g hB2.L) (by decide) (by omega) (by omega) (Nat.le_of_ble_eq_true rfl) rfl dX1_plain_32 (fun u4 A4 hc4 => ?_)
  obtain ⟨d3, hB3, hGg, -⟩ := hc4
  generalize A4 = Y3 at hB3 hGg ⊢
  have hG3 : Gw A Y3 Non := hG2.tr2 hGg (fun y hy q => by have := hB2.lx0 q; omega)
  refine r_Z (A := Y3) fun hZ3 => ?_
  refine r_aload_0 (pc := 35) C dX1_plain_35 ?_
  refine r_ngetR (pc := 36) C fn_X1_69_2 (by exact ly_g hB3.L) rfl (by exact ly_r12 hB3.L) dX1_plain_36 ?_
  refine r_new (pc := 39) C (A.z) hG3.1 nl_X1_73 NF5 (by omega) (by omega) dX1_plain_39 ?_
  refine r_dup (pc := 42) C dX1_plain_42 rfl ?_
  refine r_ldcS (pc := 43) C sa dX1_plain_43 ?_
  refine r_iconst (pc := 45) C dX1_plain_45 ci_0 ?_
  refine r_iconst (pc := 46) C dX1_plain_46 ci_1 ?_
  refine r_iconst (pc := 47) C dX1_plain_47 ci_5 ?_
  refine r_iconst (pc := 48) C dX1_plain_48 ci_1 ?_
  refine r_I5vo (pc := 49) C (j_X5_init (t := Y3.z) (by rw [mk_G, if_pos rfl])) il_X1_77 (by decide) (by omega) (by omega) (Nat.le_of_ble_eq_true rfl) rfl dX1_plain_49 (fun u5 A5 hc5 => ?_)
  obtain ⟨hB38, hG38, hn31, hn32, hn33, hxn3⟩ := wk_pre hB3 hZ3 hc5
  generalize A5 = Z3 at hB38 hG38 hn31 hn32 hn33 hxn3 ⊢
  clear hc5
  refine r_Z (A := Z3) fun hZZ3 => ?_
  refine r_old (A := Z3) fun hoZ3 => ?_
  have hGZ3 : Gw A Z3 Non := hG3.tr hG38
  have hLg3 := hB38.lw
  rw [pD3.2.2.2.2, hB38.k0 pD3.2.2.2.2] at hLg3
  refine r_V1v (pc := 52) C (j_X3_add0 (x := Y3.z) (ly_g12 hB38.L) (ly_r20 hB38.L) hLg3 hB38.de (by rw [hn31]; exact OkO5)) vl_X1_80 (by exact ly_g12 hB38.L) (by decide) (by omega) (by omega) (Nat.le_of_ble_eq_true rfl) rfl dX1_plain_52 (fun u6 A6 hc6 => ?_)
  have hq3 := wk_end0 hB38 hZZ3 hGZ3 (Nat.le_refl _) pD3.1 pD3.2.2.2.2 pQ0 ⟨hn31, hn32, hG3.1⟩ hn33 hxn3 (by rw [pD3.2.2.2.2]; exact nm_pl hoZ3 la1 la2 la3 la4 ⟨by decide, by decide⟩ pk_n0)
  rw [← hc6] at hq3
  generalize A6 = Y4 at hq3 ⊢
  clear hc6
  obtain ⟨⟨d4, hB4⟩, hG4⟩ := hq3
  refine r_Z (A := Y4) fun hZ4 => ?_
  refine r_aload_0 (pc := 55) C dX1_plain_55 ?_
  refine r_ngetR (pc := 56) C fn_X1_69_2 (by exact ly_g hB4.L) rfl (by exact ly_r12 hB4.L) dX1_plain_56 ?_
  refine r_new (pc := 59) C (A.z) hG4.1 nl_X1_73 NF5 (by omega) (by omega) dX1_plain_59 ?_
  refine r_dup (pc := 62) C dX1_plain_62 rfl ?_
  refine r_ldcS (pc := 63) C sb dX1_plain_63 ?_
  refine r_iconst (pc := 65) C dX1_plain_65 ci_1 ?_
  refine r_iconst (pc := 66) C dX1_plain_66 ci_2 ?_
  refine r_iconst (pc := 67) C dX1_plain_67 ci_0 ?_
  refine r_iconst (pc := 68) C dX1_plain_68 ci_2 ?_
  refine r_I5vo (pc := 69) C (j_X5_init (t := Y4.z) (by rw [mk_G, if_pos rfl])) il_X1_77 (by decide) (by omega) (by omega) (Nat.le_of_ble_eq_true rfl) rfl dX1_plain_69 (fun u7 A7 hc7 => ?_)
  obtain ⟨hB48, hG48, hn41, hn42, hn43, hxn4⟩ := wk_pre hB4 hZ4 hc7
  generalize A7 = Z4 at hB48 hG48 hn41 hn42 hn43 hxn4 ⊢
  clear hc7
  refine r_Z (A := Z4) fun hZZ4 => ?_
  refine r_old (A := Z4) fun hoZ4 => ?_
  have hGZ4 : Gw A Z4 Non := hG4.tr hG48
  refine r_V1vo (pc := 72) C (j_X3_addS (x := Y4.z) (ly_g12 hB48.L) (ly_r20 hB48.L) hB48.lw (by rw [pD4.2.2.2]; decide) (by rw [pD4.2.2.2]; decide) (by rw [hn41]; exact OkO5)) vl_X1_80 (by exact ly_g12 hB48.L) (by decide) (by omega) (by omega) (Nat.le_of_ble_eq_true rfl) rfl dX1_plain_72 (fun u8 A8 hc8 => ?_)
  have hq4 := wk_endS hB48 hZZ4 hGZ4 (Nat.le_refl _) pD4.1 (by rw [pD4.2.2.2]; decide) (by rw [pD4.2.2.2]; decide) pQ1 ⟨hn41, hn42, hG4.1⟩ hn43 hxn4 (by rw [pD4.2.2.2]; exact nm_pl hoZ4 lb1 lb2 lb3 lb4 ⟨by decide, by decide⟩ pk_n1)
  rw [← hc8] at hq4
  generalize A8 = Y5 at hq4 ⊢
  clear hc8
  obtain ⟨⟨d5, hB5⟩, hG5⟩ := hq4
  refine r_Z (A := Y5) fun hZ5 => ?_
  refine r_aload_0 (pc := 75) C dX1_plain_75 ?_
  refine r_iconst (pc := 76) C dX1_plain_76 ci_5 ?_
  refine r_newI (pc := 77) C 130 (0) (Nat.zero_le _) rfl q334 rfl (by omega) (by omega) (by omega) dX1_plain_77 ?_
  refine r_dup (pc := 79) C dX1_plain_79 rfl ?_
  refine r_iconst (pc := 80) C dX1_plain_80 ci_0 ?_
  refine r_bipush (pc := 81) C dX1_plain_81 cb_6 ?_
  refine r_iast (pc := 83) C (show ((Y5.mk 130 0 5).G Y5.z).1 = 130 by rw [mk_G, if_pos rfl]) rfl rfl (lt_eq (by omega) (show (Y5.mk 130 0 5).n Y5.z = 5 by rw [mk_n, if_pos rfl])) (by omega) dX1_plain_83 ?_
  refine r_dup (pc := 84) C dX1_plain_84 rfl ?_
  refine r_iconst (pc := 85) C dX1_plain_85 ci_1 ?_
  refine r_iconst (pc := 86) C dX1_plain_86 ci_1 ?_
  refine r_iast (pc := 87) C (show ((Y5.mk 130 0 5).G Y5.z).1 = 130 by rw [mk_G, if_pos rfl]) rfl rfl (lt_eq (by omega) (show (Y5.mk 130 0 5).n Y5.z = 5 by rw [mk_n, if_pos rfl])) (by omega) dX1_plain_87 ?_
  refine r_dup (pc := 88) C dX1_plain_88 rfl ?_
  refine r_iconst (pc := 89) C dX1_plain_89 ci_2 ?_
  refine r_iconst (pc := 90) C dX1_plain_90 ci_2 ?_
  refine r_iast (pc := 91) C (show ((Y5.mk 130 0 5).G Y5.z).1 = 130 by rw [mk_G, if_pos rfl]) rfl rfl (lt_eq (by omega) (show (Y5.mk 130 0 5).n Y5.z = 5 by rw [mk_n, if_pos rfl])) (by omega) dX1_plain_91 ?_
  refine r_dup (pc := 92) C dX1_plain_92 rfl ?_
  refine r_iconst (pc := 93) C dX1_plain_93 ci_3 ?_
  refine r_iconst (pc := 94) C dX1_plain_94 ci_3 ?_
  refine r_iast (pc := 95) C (show ((Y5.mk 130 0 5).G Y5.z).1 = 130 by rw [mk_G, if_pos rfl]) rfl rfl (lt_eq (by omega) (show (Y5.mk 130 0 5).n Y5.z = 5 by rw [mk_n, if_pos rfl])) (by omega) dX1_plain_95 ?_
  refine r_dup (pc := 96) C dX1_plain_96 rfl ?_
  refine r_iconst (pc := 97) C dX1_plain_97 ci_4 ?_
  refine r_iconst (pc := 98) C dX1_plain_98 ci_4 ?_
  refine r_iast (pc := 99) C (show ((Y5.mk 130 0 5).G Y5.z).1 = 130 by rw [mk_G, if_pos rfl]) rfl rfl (lt_eq (by omega) (show (Y5.mk 130 0 5).n Y5.z = 5 by rw [mk_n, if_pos rfl])) (by omega) dX1_plain_99 ?_
  refine r_genA fun D hD => ?_
  have gD : D.G = (Y5.mk 130 0 5).G := by rw [hD]; rfl
  have nD : D.n = (Y5.mk 130 0 5).n := by rw [hD]; rfl
  have htD : (D.G Y5.z).1 = 130 := by rw [gD, mk_G, if_pos rfl]
  have hnD : D.n Y5.z = 5 := by rw [nD, mk_n, if_pos rfl]
  have iD : D.I Y5.z = upd (upd (upd (upd (upd (fun _ => 0) 0 (nI 6)) 1 (nI 1)) 2 (nI 2)) 3 (nI 3)) 4 (nI 4) := by rw [hD]; simp only [sI_s]; rw [mk_I, if_pos rfl]
  have hGD0 : Gw Y5 D Non := (gw_mk (A := Y5) (k := 130) (o := 0) (len := 5) (X := Non)).tr2 (show Gw (Y5.mk 130 0 5) D (fun y => y = Y5.z) by rw [hD]; exact ((((gw_sI (X := fun y => y = Y5.z) (fun _ => rfl)).tr (gw_sI (fun _ => rfl))).tr (gw_sI (fun _ => rfl))).tr (gw_sI (fun _ => rfl))).tr (gw_sI (fun _ => rfl))) (fun y hy q => by omega)
  clear hD
  have hBD : LwB g D A.z A.z d5 (psR 0) := hB5.mv hZ5 hGD0 (fun _ _ q => q) (StP.no hZ5 hGD0)
  have hcD : ∀ i, i < 5 → D.I Y5.z i = nI (psC i) := fun i hi => by rw [iD]; rcases (show i = 0 ∨ i = 1 ∨ i = 2 ∨ i = 3 ∨ i = 4 by omega) with e | e | e | e | e <;> subst e <;> rfl
  have hGD : Gw A D Non := hG5.tr hGD0
  refine r_S2vo (pc := 100) C (c_stones (ρ := psR) (cs := psC) hBD (by exact htD) (by exact hnD) hcD ps_ok1 ps_ok2) sl_X1_88 (by decide) (by omega) (by omega) (Nat.le_of_ble_eq_true rfl) rfl dX1_plain_100 (fun u9 A9 hc9 => ?_)
  obtain ⟨hB10, hGs⟩ := hc9
  generalize A9 = W at hB10 hGs ⊢
  refine r_aload_0 (pc := 103) C dX1_plain_103 ?_
  refine r_aret (pc := 104) C E rfl (by omega) (by omega) dX1_plain_104 ?_
  exact ⟨⟨d5, hB10⟩, Nat.le_refl _, hGD.tr2 hGs (fun y hy q => by have := hBD.lx0 q; omega)⟩
