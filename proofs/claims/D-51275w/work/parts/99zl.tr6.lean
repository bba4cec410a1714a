/-! THE COMPONENT, 22: the script, all orders -/
set_option maxRecDepth 100000
theorem ScK.mv {g : GZ} {A D : HA} {X : Nat → Prop} {s b : Nat} {db : Nat → Nat} {ρ : Rw} (h : ScK g A s b db ρ) (hz : Zk A) (hw : Gw A D X) (h10 : D.R s 0 = some b) (hX : ∀ y, y < A.z → X y → y = s) : ScK g D s b db ρ := by
  obtain ⟨⟨h1, h2⟩, hL, hv, hDE, hn⟩ := h
  have hf : ∀ y, Fp b db (rK ρ) (rG ρ) y → ¬ X y := fun y hy q => by
    have e := hX y (fp_lt hz hL hy) q
    have h3 := fp_k hL hy
    rw [e, h1] at h3
    omega
  refine ⟨⟨by rw [(hw.2 s (hz.lt h1 rfl)).1]; exact h1, h10⟩, ly_gw hz hL hw hf, lv_gw hz hL hv hw hf, hDE.gw hz hw, fun k hk => ?_⟩
  obtain ⟨nm, e⟩ := hn k hk
  have hy : Fp b db (rK ρ) (rG ρ) (db (30 + k)) := Or.inr (Or.inr (Or.inr (Or.inl ⟨k, hk, rfl⟩)))
  exact ⟨nm, by rw [((hw.2 _ (fp_lt hz hL hy)).2.2 (hf _ hy)).2.2]; exact e⟩
theorem doC_0 {χ : Nat → Chg} {m : Nat} {ρ σ : Rw} (h : doC χ (m - m) m ρ = doC χ m 0 σ) : doC χ m 0 σ = (m, ρ) := by rw [← h, Nat.sub_self]; rfl
theorem doC_n {χ : Nat → Chg} {m i : Nat} {ρ σ : Rw} (hi : i < m) (h : doC χ (m - i) i ρ = doC χ m 0 σ) (hc : ((χ i).C ρ).1 < 0) : doC χ m 0 σ = (i, ρ) := by
  rw [← h, show m - i = (m - i - 1) + 1 by omega]
  exact if_pos hc
theorem doC_s {χ : Nat → Chg} {m i : Nat} {ρ σ : Rw} (hi : i < m) (h : doC χ (m - i) i ρ = doC χ m 0 σ) (hc : 0 ≤ ((χ i).C ρ).1) : doC χ (m - (i + 1)) (i + 1) ((χ i).C ρ).2 = doC χ m 0 σ := by
  rw [← h, show m - i = (m - i - 1) + 1 by omega, show m - (i + 1) = m - i - 1 by omega]
  exact (if_neg (show ¬ ((χ i).C ρ).1 < 0 from fun q => by
    have h1 := Int32.le_iff_toInt_le.mp hc
    have h2 := Int32.lt_iff_toInt_lt.mp q
    omega)).symm
/-- the script behind n orders -/
def ScI (g : GZ) (A F : HA) (s a : Nat) (d : Nat → Nat) (σ : Rw) (n b : Nat) (db : Nat → Nat) (ρ : Rw) : Prop := ScK g F s b db ρ ∧ F.I s 1 = nI n ∧ RowN ρ ∧ (∀ j, (j = 0 ∨ j = 1 ∨ j = 4 ∨ j = 5) → ρ j = σ j) ∧ Gw A F (fun y => y = s) ∧ (n = 0 → b = a ∧ db = d ∧ ρ = σ) ∧ (0 < n → A.z ≤ b ∧ (F.G (db 21)).1 ≠ 502) ∧ (∀ j, (j = 11 ∨ j = 22 ∨ j = 23 ∨ 40 ≤ j) → db j = d j) ∧ (∀ k, k < rK σ → F.R (db (30 + k)) 0 = A.R (d (30 + k)) 0)
theorem chg_rK {ρ σ : Rw} (h : ∀ j, (j = 0 ∨ j = 1 ∨ j = 4 ∨ j = 5) → ρ j = σ j) : rK ρ = rK σ := by unfold rK; rw [h 1 (by omega)]
theorem ScI.mv {g : GZ} {A F D : HA} {s a n b : Nat} {d db : Nat → Nat} {σ ρ : Rw} (h : ScI g A F s a d σ n b db ρ) (hz : Zk F) (hw : Gw F D Non) : ScI g A D s a d σ n b db ρ := by
  obtain ⟨i1, i2, i3, i4, i5, i6, i7, i8, i9⟩ := h
  have ls := hz.lt i1.1.1 rfl
  have hL := i1.2.1
  have eK := chg_rK i4
  refine ⟨i1.mv hz hw (by rw [((hw.2 s ls).2.2 (fun q => q)).2.2]; exact i1.1.2) (fun _ _ q => q.elim), by rw [((hw.2 s ls).2.2 (fun q => q)).2.1]; exact i2, i3, i4, i5.tr2 hw (fun _ _ q => q.elim), i6, fun q => ⟨(i7 q).1, ?_⟩, i8, fun k hk => ?_⟩
  · have hy : Fp b db (rK ρ) (rG ρ) (db 21) := Or.inr (Or.inr (Or.inl (by simp)))
    rw [(hw.2 _ (fp_lt hz hL hy)).1]
    exact (i7 q).2
  · have hy : Fp b db (rK ρ) (rG ρ) (db (30 + k)) := Or.inr (Or.inr (Or.inr (Or.inl ⟨k, by rw [eK]; exact hk, rfl⟩)))
    rw [((hw.2 _ (fp_lt hz hL hy)).2.2 (fun q => q)).2.2]
    exact i9 k hk
theorem ScI.st {g : GZ} {A F B D : HA} {s a n b w : Nat} {d db d2 : Nat → Nat} {σ ρ τ : Rw} (h : ScI g A F s a d σ n b db ρ) (hz : Zk F) (hzD : Zk D) (hCp : Cp F B w db d2 ρ) (hN : Nx B D w d2 τ) (hGD : Gw F D Non) (hτ : ∀ j, (j = 0 ∨ j = 1 ∨ j = 4 ∨ j = 5) → τ j = ρ j) (hNr : RowN τ) :
    ScI g A ((D.sR s (va_up (D.R s) 0 (some w))).sI s (upd ((D.sR s (va_up (D.R s) 0 (some w))).I s) 1 (nI (n + 1)))) s a d σ (n + 1) w d2 τ := by
  obtain ⟨i1, i2, i3, i4, i5, i6, i7, i8, i9⟩ := h
  have ls := hz.lt i1.1.1 rfl
  have hL := i1.2.1
  have eK := chg_rK i4
  have eT := chg_rK hτ
  have hsD : (D.G s).1 = 10 := by rw [(hGD.2 s ls).1]; exact i1.1.1
  have hLD := hN.1
  have hf : ∀ y, Fp w d2 (rK τ) (rG τ) y → ¬ y = s := fun y hy e => by
    have h3 := fp_k hLD hy
    rw [e, hsD] at h3
    omega
  have hw9 : Gw D ((D.sR s (va_up (D.R s) 0 (some w))).sI s (upd ((D.sR s (va_up (D.R s) 0 (some w))).I s) 1 (nI (n + 1)))) (fun y => y = s) := (gw_sR (A := D) (X := fun y => y = s) (fun _ => rfl)).tr (gw_sI (X := fun y => y = s) (fun _ => rfl))
  have hR2 : ((D.sR s (va_up (D.R s) 0 (some w))).sI s (upd ((D.sR s (va_up (D.R s) 0 (some w))).I s) 1 (nI (n + 1)))).R s = va_up (D.R s) 0 (some w) := sR_s _ _ _
  have hI2 : ((D.sR s (va_up (D.R s) 0 (some w))).sI s (upd ((D.sR s (va_up (D.R s) 0 (some w))).I s) 1 (nI (n + 1)))).I s 1 = nI (n + 1) := by rw [sI_s, pk_us]
  generalize ((D.sR s (va_up (D.R s) 0 (some w))).sI s (upd ((D.sR s (va_up (D.R s) 0 (some w))).I s) 1 (nI (n + 1)))) = E2 at hw9 hR2 hI2 ⊢
  have hnmE : ∀ k, k < rK ρ → E2.R (d2 (30 + k)) 0 = F.R (db (30 + k)) 0 := fun k hk => by
    have hy : Fp w d2 (rK τ) (rG τ) (d2 (30 + k)) := Or.inr (Or.inr (Or.inr (Or.inl ⟨k, by rw [eT]; exact hk, rfl⟩)))
    rw [((hw9.2 _ (fp_lt hzD hLD hy)).2.2 (hf _ hy)).2.2, hN.2.2.2.1]
    exact hCp.2.2.2.2.2.1 k hk
  refine ⟨⟨⟨by rw [(hw9.2 s (hzD.lt hsD rfl)).1]; exact hsD, by rw [hR2]; rfl⟩, ly_gw hzD hLD hw9 hf, lv_gw hzD hLD hN.2.1 hw9 hf, (i1.2.2.2.1.gw hz hGD).gw hzD hw9, fun k hk => ?_⟩, hI2, hNr, fun j hj => (hτ j hj).trans (i4 j hj), (i5.tr2 hGD (fun _ _ q => q.elim)).tr hw9, fun q => absurd q (Nat.succ_ne_zero n), fun _ => ⟨?_, ?_⟩, fun j hj => (hCp.2.2.2.2.1 j hj).trans (i8 j hj), fun k hk => (hnmE k (by rw [eK]; exact hk)).trans (i9 k hk)⟩
  · rw [hnmE k (by rw [← eT]; exact hk)]
    exact i1.2.2.2.2 k (by rw [← eT]; exact hk)
  · rw [hCp.1]
    exact i5.1
  · have hy : Fp w d2 (rK τ) (rG τ) (d2 21) := Or.inr (Or.inr (Or.inl (by simp)))
    rw [(hw9.2 _ (fp_lt hzD hLD hy)).1, hN.2.2.1]
    exact hCp.2.2.2.2.2.2
set_option maxHeartbeats 4000000 in
theorem s_init {g : GZ} {A : HA} {s c a al m : Nat} {d : Nat → Nat} {σ : Rw} {χ : Nat → Chg} {oo : Nat → Nat} (h10 : (A.G s).1 = 10) (hs1 : A.I s 1 = nI 0) (hc : (A.G c).1 = 1) (hn : A.R c 0 = some a) (hL : Ly A a d σ) (hv : Lv A.I a d σ) (hNr0 : RowN σ) (hDE : DeK g A) (hnam : ∀ k, k < rK σ → ∃ nm, A.R (d (30 + k)) 0 = some nm) (hG : GdK g) (hK : LamK g) (hal : (A.G al).1 = 640) (han : A.n al = 31) (hm : m ≤ 30) (hoo : ∀ j, j < m → A.R al j = some (oo j) ∧ LamIs A (oo j) (χ j) ∧ (χ j).ok σ) (hm0 : A.R al m = none)  : Ct g wV yX10_init (.code yX10_init cX10_init 3 (Option.none : Option Jvm.ClassFile.FieldType)) 22 900 30000 [.ref s, .ref c, .ref al] (A) (fun u A' => ∃ n b db ρ, doC χ m 0 σ = (n, ρ) ∧ n ≤ m ∧ ScI g A A' s a d σ n b db ρ) fw_no := by
  refine Ct.of [some (.ref s), some (.ref c), some (.ref al)] (by decide) rfl rfl fun z C hx hnm E => ?_
  refine r_Z fun hZ => ?_
  have ls := hZ.lt h10 rfl
  have lc := hZ.lt hc rfl
  have la := hZ.lt hal rfl
  have ncs : c ≠ s := fun e => by rw [e, h10] at hc; cases hc
  have nas : ¬ al = s := fun e => by rw [e, h10] at hal; cases hal
  refine r_aload_0 (pc := 0) C dX10_init_0 ?_
  refine r_aload_1 (pc := 1) C dX10_init_1 ?_
  refine r_putR (pc := 2) C fl_X10_1_10 h10 rfl (fun _ _ _ h => by cases h; exact Or.inr ⟨rfl, hnm⟩) rfl dX10_init_2 ?_
  have hG1 : Gw A (A.sR s (va_up (A.R s) 2 (some c))) (fun y => y = s) := gw_sR (fun _ => rfl)
  have hR1 : (A.sR s (va_up (A.R s) 2 (some c))).R s 2 = some c := by rw [sR_s]; rfl
  have hC1 : (A.sR s (va_up (A.R s) 2 (some c))).R c = A.R c := sR_o _ _ ncs
  refine r_aload_0 (pc := 5) C dX10_init_5 ?_
  refine r_objInit (pc := 6) C q1854 q199 q200 rfl (Nat.le_of_ble_eq_true rfl) (by decide) dX10_init_6 ?_
  refine r_aload_0 (pc := 9) C dX10_init_9 ?_
  refine r_aload_0 (pc := 10) C dX10_init_10 ?_
  refine r_getR (pc := 11) C fl_X10_1_10 (by exact h10) rfl hR1 dX10_init_11 ?_
  refine r_ngetR (pc := 14) C fn_X10_13_1 (by exact hc) rfl ((congrFun hC1 0).trans hn) dX10_init_14 ?_
  refine r_putR (pc := 17) C fl_X10_19_10 (by exact h10) rfl (fun _ _ _ h => by cases h; exact Or.inl rfl) rfl dX10_init_17 ?_
  generalize hF1 : A.sR s (va_up (A.R s) 2 (some c)) = F1 at hG1 ⊢
  have hG2 : Gw A (F1.sR s (va_up (F1.R s) 0 (some a))) (fun y => y = s) := hG1.tr (gw_sR (fun _ => rfl))
  have hR2 : (F1.sR s (va_up (F1.R s) 0 (some a))).R s 0 = some a := by rw [sR_s]; rfl
  have hI2 : (F1.sR s (va_up (F1.R s) 0 (some a))).I s 1 = nI 0 := by rw [← hF1]; exact hs1
  generalize F1.sR s (va_up (F1.R s) 0 (some a)) = F2 at hG2 hR2 hI2 ⊢
  have hfx : ∀ y, Fp a d (rK σ) (rG σ) y → ¬ y = s := fun y hy e => by have h3 := fp_k hL hy; rw [e, h10] at h3; omega
  have hnm2 : ∀ k, k < rK σ → F2.R (d (30 + k)) 0 = A.R (d (30 + k)) 0 := fun k hk => by have hy : Fp a d (rK σ) (rG σ) (d (30 + k)) := Or.inr (Or.inr (Or.inr (Or.inl ⟨k, hk, rfl⟩))); rw [((hG2.2 _ (fp_lt hZ hL hy)).2.2 (hfx _ hy)).2.2]
  have hI0 : ScI g A F2 s a d σ 0 a d σ := ⟨⟨⟨by rw [(hG2.2 s ls).1]; exact h10, hR2⟩, ly_gw hZ hL hG2 hfx, lv_gw hZ hL hv hG2 hfx, hDE.gw hZ hG2, fun k hk => by rw [hnm2 k hk]; exact hnam k hk⟩, hI2, hNr0, fun _ _ => rfl, hG2, fun _ => ⟨rfl, rfl, rfl⟩, fun h => absurd h (Nat.lt_irrefl _), fun _ _ => rfl, hnm2⟩
  have lp20_1 : ∀ (fu : Nat) (i b : Nat) (db : Nat → Nat) (ρ : Rw) (F : HA) (hi : i ≤ m) (hI : ScI g A F s a d σ i b db ρ) (hdo : doC χ (m - i) i ρ = doC χ m 0 σ), m - i < fu → wa g z (29 * i) (968 * i) (F) 20 [some (.ref s), some (.ref c), some (.ref al)] [] := by
    intro fu
    induction fu with
    | zero => intro i b  db  ρ  F  hi hI hdo hm20; exact absurd hm20 (Nat.not_lt_zero _)
    | succ fu ih20 =>
      intro i b  db  ρ  F  hi hI hdo hm20
      have hGF : Gw A F (fun y => y = s) := hI.2.2.2.2.1
      refine r_Z fun hZF => ?_
      have haF : (F.G al).1 = 640 := by rw [(hGF.2 al la).1]; exact hal
      have hnF : F.n al = 31 := by rw [(hGF.2 al la).2.1]; exact han
      have hRF : F.R al = A.R al := ((hGF.2 al la).2.2 nas).2.2
      refine r_aload_2 (pc := 20) C dX10_init_20 ?_
      refine r_aload_0 (pc := 21) C dX10_init_21 ?_
      refine r_getI (pc := 22) C fl_X10_22_10 hI.1.1.1 rfl dX10_init_22 ?_
      refine r_top hI.2.1 ?_
      rcases (show i = m ∨ i < m by omega) with hi9 | hi9
      · skip
        subst hi9
        refine r_aaldN (pc := 25) (t := 6) C haF rfl rfl rfl (lt_eq (by omega) (show _ = 31 from hnF)) (by omega) (by rw [hRF]; exact hm0) dX10_init_25 ?_
        refine r_ifnullN (pc := 26) (tgt := 55) C dX10_init_26 (by decide) ?_
        refine r_vret (pc := 55) C E (by omega) (by omega) dX10_init_55 ?_
        exact ⟨i, b, db, ρ, doC_0 hdo, Nat.le_refl _, hI⟩
      · skip
        refine r_aaldR (pc := 25) (t := 6) C haF rfl rfl rfl (lt_eq (by omega) (show _ = 31 from hnF)) (by omega) (by rw [hRF]; exact (hoo i hi9).1) dX10_init_25 ?_
        refine r_ifnull (pc := 26) C dX10_init_26 ?_
        refine r_aload_0 (pc := 29) C dX10_init_29 ?_
        refine r_aload_2 (pc := 30) C dX10_init_30 ?_
        refine r_aload_0 (pc := 31) C dX10_init_31 ?_
        refine r_getI (pc := 32) C fl_X10_22_10 hI.1.1.1 rfl dX10_init_32 ?_
        refine r_top hI.2.1 ?_
        refine r_aaldR (pc := 35) (t := 6) C haF rfl rfl rfl (lt_eq (by omega) (show _ = 31 from hnF)) (by omega) (by rw [hRF]; exact (hoo i hi9).1) dX10_init_35 ?_
        have hIo := (hoo i hi9).2.1.gw hZ hGF (fun e => by have h8 := (hoo i hi9).2.1.k; rw [e, h10] at h8; omega)
        have hoki := ok_st hI.2.2.2.1 (hoo i hi9).2.2
        refine r_VH1i (pc := 36) C (s_isDone hI.1 hI.2.2.1.1 hG hK hIo hoki) vl_X10_26 hI.1.1.1 (by decide) (by omega) (by omega) (Nat.le_of_ble_eq_true rfl) rfl dX10_init_36 (fun u9 A9 hc9 => ?_)
        rcases hc9 with ⟨eu, h09, h79, w, B, D, d2, hCp, hN9, hGD, eA⟩ | ⟨eu, h09, hG9⟩
        · skip
          refine r_top eu ?_
          refine r_eqA eA ?_
          clear eu eA u9 A9
          refine r_Z (A := (D.sR s (va_up (D.R s) 0 (some w)))) fun hZ9 => ?_
          have hZD : Zk D := hZ9
          have hGs : Gw D (D.sR s (va_up (D.R s) 0 (some w))) (fun y => y = s) := gw_sR (fun _ => rfl)
          have hsF := hI.1.1.1
          have lsF := hZF.lt hsF rfl
          have hsD : (D.G s).1 = 10 := by rw [(hGD.2 s lsF).1]; exact hsF
          have hiD : D.I s 1 = nI i := by rw [((hGD.2 s lsF).2.2 (fun q => q)).2.1]; exact hI.2.1
          refine r_if_eq (pc := 39) (tgt := 55) C dX10_init_39 (by decide) (fun b39 => ?_) (fun b39 => ?_)
          · exact absurd b39 (by decide +kernel)
          · skip
            refine r_aload_0 (pc := 42) C dX10_init_42 ?_
            refine r_dup (pc := 43) C dX10_init_43 rfl ?_
            refine r_getI (pc := 44) C fl_X10_22_10 (by exact hsD) rfl dX10_init_44 ?_
            refine r_top hiD ?_
            refine r_iconst (pc := 47) C dX10_init_47 ci_1 ?_
            refine r_iadd (pc := 48) C dX10_init_48 ?_
            refine r_top (nI_add _ _) ?_
            refine r_putI (pc := 49) C fl_X10_22_10 (by exact hsD) rfl (fun _ _ _ h => by cases h; exact Or.inl rfl) rfl rfl rfl dX10_init_49 ?_
            have hI2 := hI.st hZF hZD hCp hN9 hGD (fun j hj => chg_g hI.2.2.1 hj) (chg_N hI.2.2.1 hoki)
            refine r_goto (pc := 52) (tgt := 20) C dX10_init_52 (by decide) ?_
            refine r_widen (k' := 29 * (i + 1)) (n' := 968 * (i + 1)) (by omega) (by omega) ?_
            exact ih20 (i + 1) w d2 ((χ i).C ρ).2 _ (by omega) hI2 (doC_s hi9 hdo h09) (by omega)
        · skip
          refine r_top eu ?_
          clear eu u9
          refine r_if_eq (pc := 39) (tgt := 55) C dX10_init_39 (by decide) (fun b39 => ?_) (fun b39 => ?_)
          · skip
            refine r_vret (pc := 55) C E (by omega) (by omega) dX10_init_55 ?_
            exact ⟨i, b, db, ρ, doC_n hi9 hdo h09, hi, hI.mv hZF hG9⟩
          · exact absurd b39 (by decide +kernel)
  exact lp20_1 _ 0 a d σ F2 (Nat.zero_le _) hI0 rfl (Nat.lt_succ_self _)
