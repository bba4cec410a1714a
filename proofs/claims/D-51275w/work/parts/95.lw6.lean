/-! THE LAWN, 6: changes -/
set_option maxRecDepth 100000
theorem NF8 : ∀ j, fw_ty 8 j ≠ .float ∧ fw_ty 8 j ≠ .double := by
  intro j
  show tyX8 j ≠ .float ∧ tyX8 j ≠ .double
  unfold tyX8
  split <;> exact ⟨fun h => (by cases h), fun h => (by cases h)⟩
theorem NF9 : ∀ j, fw_ty 9 j ≠ .float ∧ fw_ty 9 j ≠ .double := by
  intro j
  show tyX9 j ≠ .float ∧ tyX9 j ≠ .double
  unfold tyX9
  split <;> exact ⟨fun h => (by cases h), fun h => (by cases h)⟩
/-- an object thrown: of Unable's class, with a reason; X may have changed -/
def UX (A A' : HA) (X : Nat → Prop) (q : Nat) (r : Int32) : Prop := (A'.G q).1 = 9 ∧ A'.I q 6 = r ∧ Gw A A' X
theorem ux_mk {A : HA} {ρ : Nat → Option Nat} {f : Nat → Int32} {r : Int32} {X : Nat → Prop} : UX A (((A.mk 9 0 0).sR A.z ρ).sI A.z (upd f 6 r)) X A.z r := by
  refine ⟨?_, ?_, ?_⟩
  · show ((A.mk 9 0 0).G A.z).1 = 9
    rw [mk_G, if_pos rfl]
  · rw [sI_s, pk_us]
  · exact (gw_mk.tr2 (gw_sR (X := fun y => y = A.z) (fun _ => rfl)) (fun y h1 h2 => absurd h2 (Nat.ne_of_lt h1))).tr2 (gw_sI (X := fun y => y = A.z) (fun _ => rfl)) (fun y h1 h2 => absurd h2 (Nat.ne_of_lt h1))
theorem UX.of {A B D : HA} {X Y : Nat → Prop} {q : Nat} {r : Int32} (h : UX B D Y q r) (h0 : Gw A B X) (hY : ∀ y, y < A.z → Y y → X y) : UX A D X q r := ⟨h.1, h.2.1, h0.tr2 h.2.2 hY⟩
/-- places that tell of the lawn -/
def Tl (C K N j : Nat) : Prop := j < 2 ∨ (4 ≤ j ∧ j < 8) ∨ (21 ≤ j ∧ j < 21 + 9 * N ∧ 7 ≤ (j - 21) % 9) ∨ Dm C K j
/-- a row that is the same where it tells of the lawn -/
theorem Lv.cong {I : Nat → Nat → Int32} {a : Nat} {d : Nat → Nat} {σ τ : Rw} (h : Lv I a d σ) (e : ∀ j, Tl (rC σ) (rK σ) (rG σ) j → τ j = σ j) : Lv I a d τ := by
  have e0 : ∀ j, j < 2 ∨ (4 ≤ j ∧ j < 8) → τ j = σ j := fun j hj => e j (by unfold Tl; omega)
  have eC : rC τ = rC σ := by unfold rC rW rH; rw [e0 4 (by omega), e0 5 (by omega)]
  have eK : rK τ = rK σ := by unfold rK; rw [e0 1 (by omega)]
  have eG : rG τ = rG σ := by unfold rG; rw [e0 0 (by omega)]
  refine ⟨⟨?_, ?_, ?_, ?_, ?_, ?_, ?_⟩, fun r hr => ?_, fun j hj => ?_⟩
  · rw [e0 4 (by omega)]; exact h.w
  · rw [e0 5 (by omega)]; exact h.h
  · rw [e0 6 (by omega)]; exact h.gr
  · rw [e0 7 (by omega)]; exact h.wt
  · rw [eC]; exact h.c
  · rw [e0 1 (by omega)]; exact h.nk
  · rw [e0 0 (by omega)]; exact h.ng
  · rw [eG] at hr
    have g : gC τ r = gC σ r := by
      unfold gC gX gY rW
      rw [e0 4 (by omega), e (21 + 9 * r + 7) (Or.inr (Or.inr (Or.inl (by omega)))), e (21 + 9 * r + 8) (Or.inr (Or.inr (Or.inl (by omega))))]
    rw [g]; exact h.gate hr
  · rw [eC, eK] at hj
    rw [e j (Or.inr (Or.inr (Or.inr hj)))]; exact h.2.2 j hj
/-- the count of fences stands in no cell -/
theorem nx_at2 {A B : HA} {a : Nat} {d : Nat → Nat} {σ : Rw} {v : Int32} (h : Nx A B a d σ) : Nx A B a d (upd σ 2 v) := by
  have e0 : ∀ j, j ≠ 2 → upd σ 2 v j = σ j := fun j hj => pk_un hj
  have eC : rC (upd σ 2 v) = rC σ := by unfold rC rW rH; rw [e0 4 (by omega), e0 5 (by omega)]
  have eK : rK (upd σ 2 v) = rK σ := by unfold rK; rw [e0 1 (by omega)]
  have eG : rG (upd σ 2 v) = rG σ := by unfold rG; rw [e0 0 (by omega)]
  refine ⟨?_, h.2.1.cong (fun j hj => e0 j (fun q => ?_)), h.2.2⟩
  · unfold Ly; rw [eC, eK, eG]; exact h.1
  · rw [q] at hj; unfold Tl Dm at hj; omega
theorem fon_F {σ : Rw} {c : Nat} (hC : ∀ j, j < 80 → CelF σ j) (hk : σ (153 + 5 * c + 0) = 0) : ∀ j, j < 80 → CelF (fenceOn σ c) j := by
  intro j hj
  have e0 : fenceOn σ c (153 + 5 * j + 0) = σ (153 + 5 * j + 0) := fenceOn_s (by omega)
  have e1 : cGr (fenceOn σ c) j = cGr σ j := by unfold cGr; rw [fenceOn_s (by omega)]
  by_cases q : j = c
  · subst q
    exact ⟨Or.inl (by rw [e0]; exact hk), Or.inr (pk_us)⟩
  · have e2 : fenceOn σ c (153 + 5 * j + 2) = σ (153 + 5 * j + 2) := fenceOn_s (by omega)
    unfold CelF
    rw [e0, e1, e2]
    exact hC j hj
theorem fon_K {σ : Rw} {c : Nat} (hW : RowW σ) (h : GK σ) : GK (fenceOn σ c) := by
  intro r hr
  have g6 := hW.g6
  have hr : r < rG σ := hr
  rw [fenceOn_gc (by omega), fenceOn_s (by omega)]
  exact h r hr
theorem i_neg (r : Nat) (h1 : 1 ≤ r) (h : r < 10) : -(nI r) < 0 := by
  have : ∀ r, r < 10 → 1 ≤ r → -(nI r) < 0 := by decide +kernel
  exact this r h h1
/-- a change's answer where it isn't done -/
def XX (A : HA) (a : Nat) (C : Int32 × Rw) (σ : Rw) (q : Nat) (A' : HA) : Prop := ∃ r : Nat, 1 ≤ r ∧ r < 10 ∧ C = (-(nI r), σ) ∧ UX A A' (Ow A.G a) q (nI r)
theorem XX.of {A B D : HA} {a : Nat} {d : Nat → Nat} {τ : Rw} {C : Int32 × Rw} {σ : Rw} {q r : Nat} (h : Nx A B a d τ) (hu : UX B D Non q (nI r)) (h1 : 1 ≤ r) (h9 : r < 10) (hC : C = (-(nI r), σ)) : XX A a C σ q D := ⟨r, h1, h9, hC, hu.of h.2.2.gw (fun _ _ q => q.elim)⟩
theorem whyF_k {σ : Rw} {c : Nat} (h : ¬ σ (153 + 5 * c + 0) = 0) : (if whyF σ c = nI 0 then (fenceS σ c 2, fenceS σ c) else (whyF σ c, σ)) = (-1, σ) := by
  have e : whyF σ c = -1 := if_neg h
  rw [e, if_neg (by decide +kernel)]
theorem whyF_f {σ : Rw} {c : Nat} (h : σ (153 + 5 * c + 0) = 0) (h2 : fenced σ c) : (if whyF σ c = nI 0 then (fenceS σ c 2, fenceS σ c) else (whyF σ c, σ)) = (-2, σ) := by
  have e : whyF σ c = -2 := by unfold whyF; rw [if_pos h, if_pos h2]
  rw [e, if_neg (by decide +kernel)]
theorem whyF_m {σ : Rw} {c : Nat} (h : σ (153 + 5 * c + 0) = 0) (h2 : ¬ fenced σ c) (h3 : rF σ = 10) : (if whyF σ c = nI 0 then (fenceS σ c 2, fenceS σ c) else (whyF σ c, σ)) = (-4, σ) := by
  have e : whyF σ c = -4 := by unfold whyF; rw [if_pos h, if_neg h2, if_pos h3]
  rw [e, if_neg (by decide +kernel)]
theorem whyF_w {σ : Rw} {c : Nat} (h : σ (153 + 5 * c + 0) = 0) (h2 : ¬ fenced σ c) (h3 : ¬ rF σ = 10) (h4 : ¬ ways (fenceOn σ c)) : (if whyF σ c = nI 0 then (fenceS σ c 2, fenceS σ c) else (whyF σ c, σ)) = (-5, σ) := by
  have e : whyF σ c = -5 := by unfold whyF; rw [if_pos h, if_neg h2, if_neg h3, if_neg h4]
  rw [e, if_neg (by decide +kernel)]
theorem whyF_y {σ : Rw} {c : Nat} (h : σ (153 + 5 * c + 0) = 0) (h2 : ¬ fenced σ c) (h3 : ¬ rF σ = 10) (h4 : ways (fenceOn σ c)) : whyF σ c = nI 0 := by unfold whyF; rw [if_pos h, if_neg h2, if_neg h3, if_pos h4]
set_option maxHeartbeats 4000000 in
theorem l_must {g : GZ} {A : HA} {p : Prop} [Decidable p] {r : Nat} : Ct g wV yX1_must (.code yX1_must cX1_must 2 (Option.none : Option Jvm.ClassFile.FieldType)) 5 1 7 [.int (bI p), .int (nI (r))] (A) (fun u A' => p ∧ A' = A) (fun q A' => ¬ p ∧ UX A A' Non q (nI r)) := by
  refine Ct.of [some (.int (bI p)), some (.int (nI (r)))] (by decide) rfl rfl fun z C hx hnm E => ?_
  refine r_iload_0 (pc := 0) C dX1_must_0 ?_
  refine r_if_ne (pc := 1) (tgt := 13) C dX1_must_1 (by decide) (fun b1 => ?_) (fun b1 => ?_)
  · skip
    have b1 := bI_n.mp b1
    refine r_vret (pc := 13) C E (by omega) (by omega) dX1_must_13 ?_
    exact ⟨‹p›, rfl⟩
  · skip
    have b1 := bI_0.mp b1
    refine r_new (pc := 4) C (0) (Nat.zero_le _) nl_X1_10 NF9 (by omega) (by omega) dX1_must_4 ?_
    refine r_dup (pc := 7) C dX1_must_7 rfl ?_
    refine r_iload_1 (pc := 8) C dX1_must_8 ?_
    refine r_I1vo (pc := 9) C (e_unable (show ((A.mk 9 0 0).G A.z).1 = 9 by rw [mk_G, if_pos rfl])) il_X1_12 (by decide) (Nat.le_refl _) (Nat.le_refl _) (Nat.le_of_ble_eq_true rfl) rfl dX1_must_9 (fun u1 A1 hc1 => ?_)
    obtain ⟨ρ9, eA1⟩ := hc1
    refine r_eqA eA1 ?_
    clear eA1 A1 u1
    refine r_athrow (pc := 12) C dX1_must_12 ?_
    refine r_out C E (by rw [hx]; exact fun x h => nomatch h) (En := RX9) ((congrArg fw_ex (ux_mk (X := Non)).1).trans rfl) (by omega) (by omega) (⟨‹¬ p›, ux_mk⟩)
set_option maxHeartbeats 4000000 in
theorem l_mustNo {g : GZ} {A : HA} {r : Nat} : Ct g wV yX1_must (.code yX1_must cX1_must 2 (Option.none : Option Jvm.ClassFile.FieldType)) 5 1 7 [.int (nI (0)), .int (nI (r))] (A) (fun u A' => False) (fun q A' => UX A A' Non q (nI r)) := by
  refine Ct.of [some (.int (nI (0))), some (.int (nI (r)))] (by decide) rfl rfl fun z C hx hnm E => ?_
  refine r_iload_0 (pc := 0) C dX1_must_0 ?_
  refine r_if_ne (pc := 1) (tgt := 13) C dX1_must_1 (by decide) (fun b1 => ?_) (fun b1 => ?_)
  · exact absurd b1 (by decide +kernel)
  · skip
    refine r_new (pc := 4) C (0) (Nat.zero_le _) nl_X1_10 NF9 (by omega) (by omega) dX1_must_4 ?_
    refine r_dup (pc := 7) C dX1_must_7 rfl ?_
    refine r_iload_1 (pc := 8) C dX1_must_8 ?_
    refine r_I1vo (pc := 9) C (e_unable (show ((A.mk 9 0 0).G A.z).1 = 9 by rw [mk_G, if_pos rfl])) il_X1_12 (by decide) (Nat.le_refl _) (Nat.le_refl _) (Nat.le_of_ble_eq_true rfl) rfl dX1_must_9 (fun u1 A1 hc1 => ?_)
    obtain ⟨ρ9, eA1⟩ := hc1
    refine r_eqA eA1 ?_
    clear eA1 A1 u1
    refine r_athrow (pc := 12) C dX1_must_12 ?_
    refine r_out C E (by rw [hx]; exact fun x h => nomatch h) (En := RX9) ((congrArg fw_ex (ux_mk (X := Non)).1).trans rfl) (by omega) (by omega) (ux_mk)
set_option maxHeartbeats 4000000 in
theorem l_mustYes {g : GZ} {A : HA} {r : Nat} : Ct g wV yX1_must (.code yX1_must cX1_must 2 (Option.none : Option Jvm.ClassFile.FieldType)) 5 0 0 [.int (nI (1)), .int (nI (r))] (A) (fun u A' => A' = A) fw_no := by
  refine Ct.of [some (.int (nI (1))), some (.int (nI (r)))] (by decide) rfl rfl fun z C hx hnm E => ?_
  refine r_iload_0 (pc := 0) C dX1_must_0 ?_
  refine r_if_ne (pc := 1) (tgt := 13) C dX1_must_1 (by decide) (fun b1 => ?_) (fun b1 => ?_)
  · skip
    refine r_vret (pc := 13) C E (Nat.le_refl _) (Nat.le_refl _) dX1_must_13 ?_
    exact rfl
  · exact absurd b1 (by decide +kernel)
set_option maxHeartbeats 4000000 in
theorem l_opened {g : GZ} {A : HA} {a : Nat} {d : Nat → Nat} {σ : Rw} (hL : Ly A a d σ) (hv : Lv A.I a d σ) (hJ : RowJ σ) {c : Nat} (hc : c < rC σ) : Ct g wI yX2_opened (.code yX2_opened cX2_opened 2 (Option.some Jvm.ClassFile.FieldType.int)) 6 1 7 [.ref a, .int (nI (c))] (A) (fun u A' => Nx A A' a d (openC σ c).2 ∧ u = (openC σ c).1 ∧ 0 ≤ (openC σ c).1) (fun q A' => XX A a (openC σ c) σ q A') := by
  refine Ct.of [some (.ref a), some (.int (nI (c)))] (by decide) rfl rfl fun z C hx hnm E => ?_
  have hW := hJ.w
  have hS := hW.s
  have hw3 := hS.w3
  have hw10 := hS.w10
  have hh8 := hS.h8
  have hc80 := hS.c80
  have k6 := hW.k6
  have g6 := hW.g6
  have hN := Nx.rf hL hv
  have hC : ∀ c, c < 80 → CelF σ c := fun c hc => (hJ.c hc).fe
  have h10 := hW.f10
  refine r_aload_0 (pc := 0) C dX2_opened_0 ?_
  refine r_getR (pc := 1) C fl_X2_59_2 (ly_g hL) rfl (ly_rf hL 10 (by decide)) dX2_opened_1 ?_
  refine r_iload_1 (pc := 4) C dX2_opened_4 ?_
  refine r_zald (pc := 5) C (ly_gf hL 10 (by decide)) rfl rfl (lt_eq (by omega) (ly_nf hL 10 (by decide) (by decide))) (by omega) dX2_opened_5 ?_
  refine r_top ((hv.fence hc).trans (fen_bI (hC c (by omega)))) ?_
  refine r_iconst (pc := 6) C dX2_opened_6 ci_3 ?_
  refine r_SN2vx (pc := 7) C (l_must (r := 3)) snl_X2_204 (by decide) (by omega) (by omega) (Nat.le_of_ble_eq_true rfl) rfl dX2_opened_7 (fun q A9 hp hE => r_out C E (by rw [hx]; exact fun x h => nomatch h) hE.choose_spec (by omega) (by omega) (XX.of hN hp.2 (by decide) (by decide) (by rw [openC, if_neg hp.1]; rfl))) (fun u1 A1 hc1 => ?_)
  obtain ⟨hp1, eA1⟩ := hc1
  refine r_eqA eA1 ?_
  clear eA1 A1 u1
  have hf9 := hp1
  refine r_aload_0 (pc := 10) C dX2_opened_10 ?_
  refine r_getR (pc := 11) C fl_X2_59_2 (ly_g hL) rfl (ly_rf hL 10 (by decide)) dX2_opened_11 ?_
  refine r_iload_1 (pc := 14) C dX2_opened_14 ?_
  refine r_iconst (pc := 15) C dX2_opened_15 ci_0 ?_
  refine r_zast (pc := 16) C (ly_gf hL 10 (by decide)) rfl rfl (lt_eq (by omega) (ly_nf hL 10 (by decide) (by decide))) (by omega) nar_0 dX2_opened_16 ?_
  refine r_wr hN (by omega) (j := 153 + 5 * c + 2) (w := nI 0) (dm_cell (by omega) (by omega)) (adj_c (by omega) _) (sA_cell (a := a) (d := d) (c := c) (v := 2) (by omega)).1.symm (sA_cell (a := a) (d := d) (c := c) (v := 2) (by omega)).2.symm fun B1 hN1 hs1 hq1 => ?_
  have hN1 : Nx A B1 a d (ope1 σ c) := hN1
  obtain ⟨eC1, eK1, eG1⟩ : rC (ope1 σ c) = rC (σ) ∧ rK (ope1 σ c) = rK (σ) ∧ rG (ope1 σ c) = rG (σ) := hq1
  have hN1 := nx_at2 (v := ope1 σ c 2 - nI 1) hN1
  have hN1 : Nx A B1 a d (ope2 σ c) := hN1
  have eC2 : rC (ope2 σ c) = rC (ope1 σ c) := by unfold rC rW rH ope2; rw [pk_un (by omega), pk_un (by omega)]
  have eG2 : rG (ope2 σ c) = rG (ope1 σ c) := by unfold rG ope2; rw [pk_un (by omega)]
  refine r_aload_0 (pc := 17) C dX2_opened_17 ?_
  refine r_getR (pc := 18) C fl_X2_63_2 (ly_g hN1.1) rfl (ly_rf hN1.1 9 (by decide)) dX2_opened_18 ?_
  refine r_bipush (pc := 21) C dX2_opened_21 cb_10 ?_
  refine r_dup2 (pc := 23) C dX2_opened_23 rfl rfl ?_
  refine r_iald (pc := 24) C (ly_gf hN1.1 9 (by decide)) rfl rfl (lt_eq (by omega) (ly_n9 hN1.1)) (by omega) dX2_opened_24 ?_
  refine r_top (hN1.2.1.acc (by omega)) ?_
  refine r_iconst (pc := 25) C dX2_opened_25 ci_1 ?_
  refine r_iadd (pc := 26) C dX2_opened_26 ?_
  refine r_iast (pc := 27) C (ly_gf hN1.1 9 (by decide)) rfl rfl (lt_eq (by omega) (ly_n9 hN1.1)) (by omega) dX2_opened_27 ?_
  refine r_wr hN1 (by omega) (j := 9 + 10) (w := ope2 σ c (9 + 10) + nI 1) (dm_acc (by omega)) (adj_a (by omega) _) (sA_acc (a := a) (d := d) (i := 10) (by omega)).1.symm (sA_acc (a := a) (d := d) (i := 10) (by omega)).2.symm fun B2 hN2 hs2 hq2 => ?_
  have hN2 : Nx A B2 a d (openS σ c) := hN2
  obtain ⟨eC2, eK2, eG2⟩ : rC (openS σ c) = rC (ope2 σ c) ∧ rK (openS σ c) = rK (ope2 σ c) ∧ rG (openS σ c) = rG (ope2 σ c) := hq2
  have hJ2 := openS_J hJ hc hf9
  refine r_aload_0 (pc := 28) C dX2_opened_28 ?_
  refine r_V0io (pc := 29) C (l_fencesAll hN2.1 hN2.2.1 hJ2.w (fun c hc => (hJ2.c hc).fe)) vl_X2_212 (ly_g hN2.1) (by decide) (by omega) (by omega) (Nat.le_of_ble_eq_true rfl) rfl dX2_opened_29 (fun u2 A2 hc2 => ?_)
  refine r_top hc2.1 ?_
  refine r_eqA hc2.2 ?_
  clear hc2 A2 u2
  refine r_iret (pc := 32) C E rfl (by omega) (by omega) dX2_opened_32 ?_
  refine ⟨by rw [openC, if_pos hf9]; exact hN2, ?_, ?_⟩
  · rw [openC, if_pos hf9]
    exact (hJ2.w.f.trans (congrArg nI hJ2.i.f)).symm
  · rw [openC, if_pos hf9]
    show 0 ≤ openS σ c 2
    rw [openS_2 hW (rF_pos hJ hc hf9)]
    exact nI_0le (by omega)
set_option maxHeartbeats 4000000 in
theorem l_fenced {g : GZ} {A : HA} {a : Nat} {d : Nat → Nat} {σ : Rw} (hL : Ly A a d σ) (hv : Lv A.I a d σ) (hJ : RowJ σ) (hG : GdK g) {c : Nat} (hc : c < rC σ) : Ct g wI yX2_fenced (.code yX2_fenced cX2_fenced 2 (Option.some Jvm.ClassFile.FieldType.int)) 9 4 28 [.ref a, .int (nI (c))] (A) (fun u A' => Nx A A' a d (fenceC σ c).2 ∧ u = (fenceC σ c).1 ∧ 0 ≤ (fenceC σ c).1) (fun q A' => XX A a (fenceC σ c) σ q A') := by
  refine Ct.of [some (.ref a), some (.int (nI (c)))] (by decide) rfl rfl fun z C hx hnm E => ?_
  have hW := hJ.w
  have hS := hW.s
  have hw3 := hS.w3
  have hw10 := hS.w10
  have hh8 := hS.h8
  have hc80 := hS.c80
  have k6 := hW.k6
  have g6 := hW.g6
  have hN := Nx.rf hL hv
  have hC : ∀ c, c < 80 → CelF σ c := fun c hc => (hJ.c hc).fe
  have h10 := hW.f10
  have hfc9 : fcnt σ ≤ 10 := by have := hJ.i.f; omega
  refine r_aload_0 (pc := 0) C dX2_fenced_0 ?_
  refine r_iload_1 (pc := 1) C dX2_fenced_1 ?_
  refine r_V1io (pc := 2) C (l_isGrass hL hv hW hc) vl_X2_123 (ly_g hL) (by decide) (by omega) (by omega) (Nat.le_of_ble_eq_true rfl) rfl dX2_fenced_2 (fun u1 A1 hc1 => ?_)
  refine r_top hc1.1 ?_
  refine r_eqA hc1.2 ?_
  clear hc1 A1 u1
  refine r_iconst (pc := 5) C dX2_fenced_5 ci_1 ?_
  refine r_SN2vx (pc := 6) C (l_must (r := 1)) snl_X2_204 (by decide) (by omega) (by omega) (Nat.le_of_ble_eq_true rfl) rfl dX2_fenced_6 (fun q A9 hp hE => r_out C E (by rw [hx]; exact fun x h => nomatch h) hE.choose_spec (by omega) (by omega) (XX.of hN hp.2 (by decide) (by decide) (by rw [fenceC, whyF_k hp.1]; rfl))) (fun u2 A2 hc2 => ?_)
  obtain ⟨hp2, eA2⟩ := hc2
  refine r_eqA eA2 ?_
  clear eA2 A2 u2
  have hk9 := hp2
  refine r_aload_0 (pc := 9) C dX2_fenced_9 ?_
  refine r_getR (pc := 10) C fl_X2_59_2 (ly_g hL) rfl (ly_rf hL 10 (by decide)) dX2_fenced_10 ?_
  refine r_iload_1 (pc := 13) C dX2_fenced_13 ?_
  refine r_zald (pc := 14) C (ly_gf hL 10 (by decide)) rfl rfl (lt_eq (by omega) (ly_nf hL 10 (by decide) (by decide))) (by omega) dX2_fenced_14 ?_
  refine r_top ((hv.fence hc).trans (fen_bI (hC c (by omega)))) ?_
  refine r_if_ne (pc := 15) (tgt := 22) C dX2_fenced_15 (by decide) (fun b15 => ?_) (fun b15 => ?_)
  · skip
    have b15 := bI_n.mp b15
    refine r_iconst (pc := 22) C dX2_fenced_22 ci_0 ?_
    refine r_iconst (pc := 23) C dX2_fenced_23 ci_2 ?_
    refine r_SN2vx (pc := 24) C (l_mustNo (r := 2)) snl_X2_204 (by decide) (by omega) (by omega) (Nat.le_of_ble_eq_true rfl) rfl dX2_fenced_24 (fun q A9 hp hE => r_out C E (by rw [hx]; exact fun x h => nomatch h) hE.choose_spec (by omega) (by omega) (XX.of hN hp (by decide) (by decide) (by rw [fenceC, whyF_f hk9 b15]; rfl))) (fun u3 A3 hc3 => ?_)
    exact hc3.elim
  · skip
    have b15 := bI_0.mp b15
    refine r_iconst (pc := 18) C dX2_fenced_18 ci_1 ?_
    refine r_goto (pc := 19) (tgt := 23) C dX2_fenced_19 (by decide) ?_
    refine r_iconst (pc := 23) C dX2_fenced_23 ci_2 ?_
    refine r_SN2vo (pc := 24) C (l_mustYes (r := 2)) snl_X2_204 (by decide) (by omega) (by omega) (Nat.le_of_ble_eq_true rfl) rfl dX2_fenced_24 (fun u4 A4 hc4 => ?_)
    refine r_eqA hc4 ?_
    clear hc4 A4 u4
    refine r_aload_0 (pc := 27) C dX2_fenced_27 ?_
    refine r_V0io (pc := 28) C (l_fencesAll hL hv hW hC) vl_X2_212 (ly_g hL) (by decide) (by omega) (by omega) (Nat.le_of_ble_eq_true rfl) rfl dX2_fenced_28 (fun u5 A5 hc5 => ?_)
    refine r_top hc5.1 ?_
    refine r_eqA hc5.2 ?_
    clear hc5 A5 u5
    refine r_bipush (pc := 31) C dX2_fenced_31 cb_10 ?_
    refine r_icmp_ge (pc := 33) (tgt := 40) C dX2_fenced_33 (by decide) (fun b33 => ?_) (fun b33 => ?_)
    · skip
      have b33 := (nI_le2 (by omega) (by omega)).mp b33
      refine r_iconst (pc := 40) C dX2_fenced_40 ci_0 ?_
      refine r_iconst (pc := 41) C dX2_fenced_41 ci_4 ?_
      refine r_SN2vx (pc := 42) C (l_mustNo (r := 4)) snl_X2_204 (by decide) (by omega) (by omega) (Nat.le_of_ble_eq_true rfl) rfl dX2_fenced_42 (fun q A9 hp hE => r_out C E (by rw [hx]; exact fun x h => nomatch h) hE.choose_spec (by omega) (by omega) (XX.of hN hp (by decide) (by decide) (by rw [fenceC, whyF_m hk9 b15 (by have := hJ.i.f; omega)]; rfl))) (fun u6 A6 hc6 => ?_)
      exact hc6.elim
    · skip
      have b33 := (not_congr (nI_le2 (by omega) (by omega))).mp b33
      refine r_iconst (pc := 36) C dX2_fenced_36 ci_1 ?_
      refine r_goto (pc := 37) (tgt := 41) C dX2_fenced_37 (by decide) ?_
      refine r_iconst (pc := 41) C dX2_fenced_41 ci_4 ?_
      refine r_SN2vo (pc := 42) C (l_mustYes (r := 4)) snl_X2_204 (by decide) (by omega) (by omega) (Nat.le_of_ble_eq_true rfl) rfl dX2_fenced_42 (fun u7 A7 hc7 => ?_)
      refine r_eqA hc7 ?_
      clear hc7 A7 u7
      refine r_aload_0 (pc := 45) C dX2_fenced_45 ?_
      refine r_getR (pc := 46) C fl_X2_59_2 (ly_g hL) rfl (ly_rf hL 10 (by decide)) dX2_fenced_46 ?_
      refine r_iload_1 (pc := 49) C dX2_fenced_49 ?_
      refine r_iconst (pc := 50) C dX2_fenced_50 ci_1 ?_
      refine r_zast (pc := 51) C (ly_gf hL 10 (by decide)) rfl rfl (lt_eq (by omega) (ly_nf hL 10 (by decide) (by decide))) (by omega) nar_1 dX2_fenced_51 ?_
      refine r_wr hN (by omega) (j := 153 + 5 * c + 2) (w := nI 1) (dm_cell (by omega) (by omega)) (adj_c (by omega) _) (sA_cell (a := a) (d := d) (c := c) (v := 2) (by omega)).1.symm (sA_cell (a := a) (d := d) (c := c) (v := 2) (by omega)).2.symm fun B1 hN1 hs1 hq1 => ?_
      have hN1 : Nx A B1 a d (fenceOn σ c) := hN1
      obtain ⟨eC1, eK1, eG1⟩ : rC (fenceOn σ c) = rC (σ) ∧ rK (fenceOn σ c) = rK (σ) ∧ rG (fenceOn σ c) = rG (σ) := hq1
      have hF1 := fon_F hC hk9
      have hK1 := fon_K (c := c) hW hJ.g
      have hW1 := hW.fenceOn (c := c)
      refine r_aload_0 (pc := 52) C dX2_fenced_52 ?_
      refine r_V0io (pc := 53) C (l_hasWays hN1.1 hN1.2.1 hW1 hF1 hK1 hG) vl_X2_215 (ly_g hN1.1) (by decide) (by omega) (by omega) (Nat.le_of_ble_eq_true rfl) rfl dX2_fenced_53 (fun u8 A8 hc8 => ?_)
      obtain ⟨⟨κL8, μL8, eA8⟩, eu8⟩ := hc8
      refine r_top eu8 ?_
      refine r_eqA eA8 ?_
      have hN2 := hN1.sc (sm_FH (κ := κL8) (μ := μL8))
      clear eu8 eA8 A8 u8
      generalize FH B1 d κL8 μL8 = B2 at hN2 ⊢
      refine r_iconst (pc := 56) C dX2_fenced_56 ci_5 ?_
      refine r_SN2vx (pc := 57) C (l_must (r := 5)) snl_X2_204 (by decide) (by omega) (by omega) (Nat.le_of_ble_eq_true rfl) rfl dX2_fenced_57 (fun q A9 hp hE => r_out C E (by rw [hx]; exact fun x h => nomatch h) hE.choose_spec (by omega) (by omega) (XX.of hN2 hp.2 (by decide) (by decide) (by rw [fenceC, whyF_w hk9 b15 (by have := hJ.i.f; omega) hp.1]; rfl))) (fun u9 A9 hc9 => ?_)
      obtain ⟨hp9, eA9⟩ := hc9
      refine r_eqA eA9 ?_
      clear eA9 A9 u9
      have hy9 : ways (fenceOn σ c) := by assumption
      have hN3 := nx_at2 (v := fenceOn σ c 2 + nI 1) hN2
      have hN3 : Nx A _ a d (fen2 σ c) := hN3
      have eC2 : rC (fen2 σ c) = rC (fenceOn σ c) := by unfold rC rW rH fen2; rw [pk_un (by omega), pk_un (by omega)]
      have eG2 : rG (fen2 σ c) = rG (fenceOn σ c) := by unfold rG fen2; rw [pk_un (by omega)]
      refine r_aload_0 (pc := 60) C dX2_fenced_60 ?_
      refine r_getR (pc := 61) C fl_X2_63_2 (ly_g hN3.1) rfl (ly_rf hN3.1 9 (by decide)) dX2_fenced_61 ?_
      refine r_bipush (pc := 64) C dX2_fenced_64 cb_9 ?_
      refine r_dup2 (pc := 66) C dX2_fenced_66 rfl rfl ?_
      refine r_iald (pc := 67) C (ly_gf hN3.1 9 (by decide)) rfl rfl (lt_eq (by omega) (ly_n9 hN3.1)) (by omega) dX2_fenced_67 ?_
      refine r_top (hN3.2.1.acc (by omega)) ?_
      refine r_iconst (pc := 68) C dX2_fenced_68 ci_1 ?_
      refine r_iadd (pc := 69) C dX2_fenced_69 ?_
      refine r_iast (pc := 70) C (ly_gf hN3.1 9 (by decide)) rfl rfl (lt_eq (by omega) (ly_n9 hN3.1)) (by omega) dX2_fenced_70 ?_
      refine r_wr hN3 (by omega) (j := 9 + 9) (w := fen2 σ c (9 + 9) + nI 1) (dm_acc (by omega)) (adj_a (by omega) _) (sA_acc (a := a) (d := d) (i := 9) (by omega)).1.symm (sA_acc (a := a) (d := d) (i := 9) (by omega)).2.symm fun B4 hN4 hs4 hq4 => ?_
      have hN4 : Nx A B4 a d (fenceS σ c) := hN4
      obtain ⟨eC4, eK4, eG4⟩ : rC (fenceS σ c) = rC (fen2 σ c) ∧ rK (fenceS σ c) = rK (fen2 σ c) ∧ rG (fenceS σ c) = rG (fen2 σ c) := hq4
      have hJ2 := fenceS_J hJ hc hk9 b15 (by have := hJ.i.f; omega) hy9
      refine r_aload_0 (pc := 71) C dX2_fenced_71 ?_
      refine r_V0io (pc := 72) C (l_fencesAll hN4.1 hN4.2.1 hJ2.w (fun c hc => (hJ2.c hc).fe)) vl_X2_212 (ly_g hN4.1) (by decide) (by omega) (by omega) (Nat.le_of_ble_eq_true rfl) rfl dX2_fenced_72 (fun u10 A10 hc10 => ?_)
      refine r_top hc10.1 ?_
      refine r_eqA hc10.2 ?_
      clear hc10 A10 u10
      refine r_iret (pc := 75) C E rfl (by omega) (by omega) dX2_fenced_75 ?_
      have h0 := whyF_y hk9 b15 (by have := hJ.i.f; omega) hy9
      refine ⟨by rw [fenceC, if_pos h0]; exact hN4, ?_, ?_⟩
      · rw [fenceC, if_pos h0]
        exact (hJ2.w.f.trans (congrArg nI hJ2.i.f)).symm
      · rw [fenceC, if_pos h0]
        show 0 ≤ fenceS σ c 2
        rw [fenceS_2 hW]
        exact nI_0le (by omega)
set_option maxHeartbeats 4000000 in
theorem l_paves {g : GZ} {A : HA} {a : Nat} {d : Nat → Nat} {σ : Rw} (hL : Ly A a d σ) (hv : Lv A.I a d σ) (hJ : RowJ σ) {c : Nat} (hc : c < rC σ) : Ct g wI yX2_paves (.code yX2_paves cX2_paves 2 (Option.some Jvm.ClassFile.FieldType.int)) 6 2 14 [.ref a, .int (nI (c))] (A) (fun u A' => Nx A A' a d (paveC σ c).2 ∧ u = (paveC σ c).1 ∧ 0 ≤ (paveC σ c).1) (fun q A' => XX A a (paveC σ c) σ q A') := by
  refine Ct.of [some (.ref a), some (.int (nI (c)))] (by decide) rfl rfl fun z C hx hnm E => ?_
  have hW := hJ.w
  have hS := hW.s
  have hw3 := hS.w3
  have hw10 := hS.w10
  have hh8 := hS.h8
  have hc80 := hS.c80
  have k6 := hW.k6
  have g6 := hW.g6
  have hN := Nx.rf hL hv
  have hC : ∀ c, c < 80 → CelF σ c := fun c hc => (hJ.c hc).fe
  have h10 := hW.f10
  refine r_aload_0 (pc := 0) C dX2_paves_0 ?_
  refine r_iload_1 (pc := 1) C dX2_paves_1 ?_
  refine r_V1io (pc := 2) C (l_isGrass hL hv hW hc) vl_X2_123 (ly_g hL) (by decide) (by omega) (by omega) (Nat.le_of_ble_eq_true rfl) rfl dX2_paves_2 (fun u1 A1 hc1 => ?_)
  refine r_top hc1.1 ?_
  refine r_eqA hc1.2 ?_
  clear hc1 A1 u1
  refine r_iconst (pc := 5) C dX2_paves_5 ci_1 ?_
  refine r_SN2vx (pc := 6) C (l_must (r := 1)) snl_X2_204 (by decide) (by omega) (by omega) (Nat.le_of_ble_eq_true rfl) rfl dX2_paves_6 (fun q A9 hp hE => r_out C E (by rw [hx]; exact fun x h => nomatch h) hE.choose_spec (by omega) (by omega) (XX.of hN hp.2 (by decide) (by decide) (by rw [paveC, if_neg hp.1]; rfl))) (fun u2 A2 hc2 => ?_)
  obtain ⟨hp2, eA2⟩ := hc2
  refine r_eqA eA2 ?_
  clear eA2 A2 u2
  have hk9 := hp2
  refine r_aload_0 (pc := 9) C dX2_paves_9 ?_
  refine r_getR (pc := 10) C fl_X2_59_2 (ly_g hL) rfl (ly_rf hL 10 (by decide)) dX2_paves_10 ?_
  refine r_iload_1 (pc := 13) C dX2_paves_13 ?_
  refine r_zald (pc := 14) C (ly_gf hL 10 (by decide)) rfl rfl (lt_eq (by omega) (ly_nf hL 10 (by decide) (by decide))) (by omega) dX2_paves_14 ?_
  refine r_top ((hv.fence hc).trans (fen_bI (hC c (by omega)))) ?_
  refine r_if_ne (pc := 15) (tgt := 22) C dX2_paves_15 (by decide) (fun b15 => ?_) (fun b15 => ?_)
  · skip
    have b15 := bI_n.mp b15
    refine r_iconst (pc := 22) C dX2_paves_22 ci_0 ?_
    refine r_iconst (pc := 23) C dX2_paves_23 ci_2 ?_
    refine r_SN2vx (pc := 24) C (l_mustNo (r := 2)) snl_X2_204 (by decide) (by omega) (by omega) (Nat.le_of_ble_eq_true rfl) rfl dX2_paves_24 (fun q A9 hp hE => r_out C E (by rw [hx]; exact fun x h => nomatch h) hE.choose_spec (by omega) (by omega) (XX.of hN hp (by decide) (by decide) (by rw [paveC, if_pos hk9, if_pos b15]; rfl))) (fun u3 A3 hc3 => ?_)
    exact hc3.elim
  · skip
    have b15 := bI_0.mp b15
    refine r_iconst (pc := 18) C dX2_paves_18 ci_1 ?_
    refine r_goto (pc := 19) (tgt := 23) C dX2_paves_19 (by decide) ?_
    refine r_iconst (pc := 23) C dX2_paves_23 ci_2 ?_
    refine r_SN2vo (pc := 24) C (l_mustYes (r := 2)) snl_X2_204 (by decide) (by omega) (by omega) (Nat.le_of_ble_eq_true rfl) rfl dX2_paves_24 (fun u4 A4 hc4 => ?_)
    refine r_eqA hc4 ?_
    clear hc4 A4 u4
    refine r_aload_0 (pc := 27) C dX2_paves_27 ?_
    refine r_getR (pc := 28) C fl_X2_63_2 (ly_g hL) rfl (ly_rf hL 9 (by decide)) dX2_paves_28 ?_
    refine r_bipush (pc := 31) C dX2_paves_31 cb_7 ?_
    refine r_dup2 (pc := 33) C dX2_paves_33 rfl rfl ?_
    refine r_iald (pc := 34) C (ly_gf hL 9 (by decide)) rfl rfl (lt_eq (by omega) (ly_n9 hL)) (by omega) dX2_paves_34 ?_
    refine r_top (hv.acc (by omega)) ?_
    refine r_aload_0 (pc := 35) C dX2_paves_35 ?_
    refine r_getR (pc := 36) C fl_X2_18_2 (ly_g hL) rfl (ly_rf hL 6 (by decide)) dX2_paves_36 ?_
    refine r_iload_1 (pc := 39) C dX2_paves_39 ?_
    refine r_iald (pc := 40) C (ly_gf hL 6 (by decide)) rfl rfl (lt_eq (by omega) (ly_nf hL 6 (by decide) (by decide))) (by omega) dX2_paves_40 ?_
    refine r_top (hv.grass hc) ?_
    refine r_iadd (pc := 41) C dX2_paves_41 ?_
    refine r_iast (pc := 42) C (ly_gf hL 9 (by decide)) rfl rfl (lt_eq (by omega) (ly_n9 hL)) (by omega) dX2_paves_42 ?_
    refine r_wr hN (by omega) (j := 9 + 7) (w := σ (9 + 7) + σ (153 + 5 * c + 1)) (dm_acc (by omega)) (adj_a (by omega) _) (sA_acc (a := a) (d := d) (i := 7) (by omega)).1.symm (sA_acc (a := a) (d := d) (i := 7) (by omega)).2.symm fun B1 hN1 hs1 hq1 => ?_
    have hN1 : Nx A B1 a d (pav1 σ c) := hN1
    obtain ⟨eC1, eK1, eG1⟩ : rC (pav1 σ c) = rC (σ) ∧ rK (pav1 σ c) = rK (σ) ∧ rG (pav1 σ c) = rG (σ) := hq1
    refine r_aload_0 (pc := 43) C dX2_paves_43 ?_
    refine r_getR (pc := 44) C fl_X2_53_2 (ly_g hN1.1) rfl (ly_rf hN1.1 5 (by decide)) dX2_paves_44 ?_
    refine r_iload_1 (pc := 47) C dX2_paves_47 ?_
    refine r_iconst (pc := 48) C dX2_paves_48 ci_1 ?_
    refine r_iast (pc := 49) C (ly_gf hN1.1 5 (by decide)) rfl rfl (lt_eq (by omega) (ly_nf hN1.1 5 (by decide) (by decide))) (by omega) dX2_paves_49 ?_
    refine r_wr hN1 (by omega) (j := 153 + 5 * c + 0) (w := nI 1) (dm_cell (by omega) (by omega)) (adj_c (by omega) _) (sA_cell (a := a) (d := d) (c := c) (v := 0) (by omega)).1.symm (sA_cell (a := a) (d := d) (c := c) (v := 0) (by omega)).2.symm fun B2 hN2 hs2 hq2 => ?_
    have hN2 : Nx A B2 a d (upd (pav1 σ c) (153 + 5 * c + 0) (nI 1)) := hN2
    obtain ⟨eC2, eK2, eG2⟩ : rC (upd (pav1 σ c) (153 + 5 * c + 0) (nI 1)) = rC (pav1 σ c) ∧ rK (upd (pav1 σ c) (153 + 5 * c + 0) (nI 1)) = rK (pav1 σ c) ∧ rG (upd (pav1 σ c) (153 + 5 * c + 0) (nI 1)) = rG (pav1 σ c) := hq2
    refine r_aload_0 (pc := 50) C dX2_paves_50 ?_
    refine r_getR (pc := 51) C fl_X2_18_2 (ly_g hN2.1) rfl (ly_rf hN2.1 6 (by decide)) dX2_paves_51 ?_
    refine r_iload_1 (pc := 54) C dX2_paves_54 ?_
    refine r_iconst (pc := 55) C dX2_paves_55 ci_0 ?_
    refine r_iast (pc := 56) C (ly_gf hN2.1 6 (by decide)) rfl rfl (lt_eq (by omega) (ly_nf hN2.1 6 (by decide) (by decide))) (by omega) dX2_paves_56 ?_
    refine r_wr hN2 (by omega) (j := 153 + 5 * c + 1) (w := nI 0) (dm_cell (by omega) (by omega)) (adj_c (by omega) _) (sA_cell (a := a) (d := d) (c := c) (v := 1) (by omega)).1.symm (sA_cell (a := a) (d := d) (c := c) (v := 1) (by omega)).2.symm fun B3 hN3 hs3 hq3 => ?_
    have hN3 : Nx A B3 a d (paveS σ c) := hN3
    obtain ⟨eC3, eK3, eG3⟩ : rC (paveS σ c) = rC (upd (pav1 σ c) (153 + 5 * c + 0) (nI 1)) ∧ rK (paveS σ c) = rK (upd (pav1 σ c) (153 + 5 * c + 0) (nI 1)) ∧ rG (paveS σ c) = rG (upd (pav1 σ c) (153 + 5 * c + 0) (nI 1)) := hq3
    have hJ2 := paveS_J hJ hc hk9 b15
    refine r_aload_0 (pc := 57) C dX2_paves_57 ?_
    refine r_iconst (pc := 58) C dX2_paves_58 ci_1 ?_
    refine r_V1io (pc := 59) C (l_cellsOf hN3.1 hN3.2.1 hJ2.w (k := 1) (by omega)) vl_X2_219 (ly_g hN3.1) (by decide) (by omega) (by omega) (Nat.le_of_ble_eq_true rfl) rfl dX2_paves_59 (fun u5 A5 hc5 => ?_)
    refine r_top hc5.1 ?_
    refine r_eqA hc5.2 ?_
    clear hc5 A5 u5
    refine r_iret (pc := 62) C E rfl (by omega) (by omega) dX2_paves_62 ?_
    refine ⟨by rw [paveC, if_pos hk9, if_neg b15]; exact hN3, by rw [paveC, if_pos hk9, if_neg b15], ?_⟩
    rw [paveC, if_pos hk9, if_neg b15]
    have hml := smb_le (f := fun j => decide (paveS σ c (153 + 5 * j + 0) = nI 1)) (rC (paveS σ c))
    have hml : manyR (paveS σ c) 1 ≤ rC (paveS σ c) := hml
    have hp80 := hJ2.w.s.c80
    exact nI_0le (by omega)
set_option maxHeartbeats 4000000 in
theorem l_sows {g : GZ} {A : HA} {a : Nat} {d : Nat → Nat} {σ : Rw} (hL : Ly A a d σ) (hv : Lv A.I a d σ) (hJ : RowJ σ) {c : Nat} (hc : c < rC σ) : Ct g wI yX2_sows (.code yX2_sows cX2_sows 3 (Option.some Jvm.ClassFile.FieldType.int)) 6 2 14 [.ref a, .int (nI (c))] (A) (fun u A' => Nx A A' a d (sowC σ c).2 ∧ u = (sowC σ c).1 ∧ 0 ≤ (sowC σ c).1) (fun q A' => XX A a (sowC σ c) σ q A') := by
  refine Ct.of [some (.ref a), some (.int (nI (c))), none] (by decide) rfl rfl fun z C hx hnm E => ?_
  have hW := hJ.w
  have hS := hW.s
  have hw3 := hS.w3
  have hw10 := hS.w10
  have hh8 := hS.h8
  have hc80 := hS.c80
  have k6 := hW.k6
  have g6 := hW.g6
  have hN := Nx.rf hL hv
  have hC : ∀ c, c < 80 → CelF σ c := fun c hc => (hJ.c hc).fe
  have h10 := hW.f10
  have hcg := hW.c (show c < 80 by omega)
  have hcg9 := hW.c9 (show c < 80 by omega)
  refine r_aload_0 (pc := 0) C dX2_sows_0 ?_
  refine r_iload_1 (pc := 1) C dX2_sows_1 ?_
  refine r_V1io (pc := 2) C (l_isGrass hL hv hW hc) vl_X2_123 (ly_g hL) (by decide) (by omega) (by omega) (Nat.le_of_ble_eq_true rfl) rfl dX2_sows_2 (fun u1 A1 hc1 => ?_)
  refine r_top hc1.1 ?_
  refine r_eqA hc1.2 ?_
  clear hc1 A1 u1
  refine r_iconst (pc := 5) C dX2_sows_5 ci_1 ?_
  refine r_SN2vx (pc := 6) C (l_must (r := 1)) snl_X2_204 (by decide) (by omega) (by omega) (Nat.le_of_ble_eq_true rfl) rfl dX2_sows_6 (fun q A9 hp hE => r_out C E (by rw [hx]; exact fun x h => nomatch h) hE.choose_spec (by omega) (by omega) (XX.of hN hp.2 (by decide) (by decide) (by rw [sowC, if_neg hp.1]; rfl))) (fun u2 A2 hc2 => ?_)
  obtain ⟨hp2, eA2⟩ := hc2
  refine r_eqA eA2 ?_
  clear eA2 A2 u2
  have hk9 := hp2
  refine r_aload_0 (pc := 9) C dX2_sows_9 ?_
  refine r_getR (pc := 10) C fl_X2_18_2 (ly_g hL) rfl (ly_rf hL 6 (by decide)) dX2_sows_10 ?_
  refine r_iload_1 (pc := 13) C dX2_sows_13 ?_
  refine r_iald (pc := 14) C (ly_gf hL 6 (by decide)) rfl rfl (lt_eq (by omega) (ly_nf hL 6 (by decide) (by decide))) (by omega) dX2_sows_14 ?_
  refine r_top ((hv.grass hc).trans hcg) ?_
  refine r_istore_2 (pc := 15) C dX2_sows_15 rfl ?_
  refine r_iload_2 (pc := 16) C dX2_sows_16 ?_
  refine r_bipush (pc := 17) C dX2_sows_17 cb_9 ?_
  refine r_icmp_ge (pc := 19) (tgt := 26) C dX2_sows_19 (by decide) (fun b19 => ?_) (fun b19 => ?_)
  · skip
    have b19 := (nI_le2 (by omega) (by omega)).mp b19
    refine r_iconst (pc := 26) C dX2_sows_26 ci_0 ?_
    refine r_bipush (pc := 27) C dX2_sows_27 cb_6 ?_
    refine r_SN2vx (pc := 29) C (l_mustNo (r := 6)) snl_X2_204 (by decide) (by omega) (by omega) (Nat.le_of_ble_eq_true rfl) rfl dX2_sows_29 (fun q A9 hp hE => r_out C E (by rw [hx]; exact fun x h => nomatch h) hE.choose_spec (by omega) (by omega) (XX.of hN hp (by decide) (by decide) (by rw [sowC, if_pos hk9, if_pos (by rw [hcg]; exact congrArg nI (by omega))]; rfl))) (fun u3 A3 hc3 => ?_)
    exact hc3.elim
  · skip
    have b19 := (not_congr (nI_le2 (by omega) (by omega))).mp b19
    refine r_iconst (pc := 22) C dX2_sows_22 ci_1 ?_
    refine r_goto (pc := 23) (tgt := 27) C dX2_sows_23 (by decide) ?_
    refine r_bipush (pc := 27) C dX2_sows_27 cb_6 ?_
    refine r_SN2vo (pc := 29) C (l_mustYes (r := 6)) snl_X2_204 (by decide) (by omega) (by omega) (Nat.le_of_ble_eq_true rfl) rfl dX2_sows_29 (fun u4 A4 hc4 => ?_)
    refine r_eqA hc4 ?_
    clear hc4 A4 u4
    refine r_aload_0 (pc := 32) C dX2_sows_32 ?_
    refine r_getR (pc := 33) C fl_X2_63_2 (ly_g hL) rfl (ly_rf hL 9 (by decide)) dX2_sows_33 ?_
    refine r_bipush (pc := 36) C dX2_sows_36 cb_6 ?_
    refine r_dup2 (pc := 38) C dX2_sows_38 rfl rfl ?_
    refine r_iald (pc := 39) C (ly_gf hL 9 (by decide)) rfl rfl (lt_eq (by omega) (ly_n9 hL)) (by omega) dX2_sows_39 ?_
    refine r_top (hv.acc (by omega)) ?_
    refine r_bipush (pc := 40) C dX2_sows_40 cb_9 ?_
    refine r_iload_2 (pc := 42) C dX2_sows_42 ?_
    refine r_isub (pc := 43) C dX2_sows_43 ?_
    refine r_iadd (pc := 44) C dX2_sows_44 ?_
    refine r_iast (pc := 45) C (ly_gf hL 9 (by decide)) rfl rfl (lt_eq (by omega) (ly_n9 hL)) (by omega) dX2_sows_45 ?_
    refine r_wr hN (by omega) (j := 9 + 6) (w := σ (9 + 6) + (nI 9 - nI (cGr σ c))) (dm_acc (by omega)) (adj_a (by omega) _) (sA_acc (a := a) (d := d) (i := 6) (by omega)).1.symm (sA_acc (a := a) (d := d) (i := 6) (by omega)).2.symm fun B1 hN1 hs1 hq1 => ?_
    have hN1 : Nx A B1 a d (upd σ (9 + 6) (σ (9 + 6) + (nI 9 - nI (cGr σ c)))) := hN1
    obtain ⟨eC1, eK1, eG1⟩ : rC (upd σ (9 + 6) (σ (9 + 6) + (nI 9 - nI (cGr σ c)))) = rC (σ) ∧ rK (upd σ (9 + 6) (σ (9 + 6) + (nI 9 - nI (cGr σ c)))) = rK (σ) ∧ rG (upd σ (9 + 6) (σ (9 + 6) + (nI 9 - nI (cGr σ c)))) = rG (σ) := hq1
    refine r_aload_0 (pc := 46) C dX2_sows_46 ?_
    refine r_getR (pc := 47) C fl_X2_18_2 (ly_g hN1.1) rfl (ly_rf hN1.1 6 (by decide)) dX2_sows_47 ?_
    refine r_iload_1 (pc := 50) C dX2_sows_50 ?_
    refine r_bipush (pc := 51) C dX2_sows_51 cb_9 ?_
    refine r_iast (pc := 53) C (ly_gf hN1.1 6 (by decide)) rfl rfl (lt_eq (by omega) (ly_nf hN1.1 6 (by decide) (by decide))) (by omega) dX2_sows_53 ?_
    refine r_wr hN1 (by omega) (j := 153 + 5 * c + 1) (w := nI 9) (dm_cell (by omega) (by omega)) (adj_c (by omega) _) (sA_cell (a := a) (d := d) (c := c) (v := 1) (by omega)).1.symm (sA_cell (a := a) (d := d) (c := c) (v := 1) (by omega)).2.symm fun B2 hN2 hs2 hq2 => ?_
    have hN2 : Nx A B2 a d (upd (upd σ (9 + 6) (σ (9 + 6) + (nI 9 - nI (cGr σ c)))) (153 + 5 * c + 1) (nI 9)) := hN2
    obtain ⟨eC2, eK2, eG2⟩ : rC (upd (upd σ (9 + 6) (σ (9 + 6) + (nI 9 - nI (cGr σ c)))) (153 + 5 * c + 1) (nI 9)) = rC (upd σ (9 + 6) (σ (9 + 6) + (nI 9 - nI (cGr σ c)))) ∧ rK (upd (upd σ (9 + 6) (σ (9 + 6) + (nI 9 - nI (cGr σ c)))) (153 + 5 * c + 1) (nI 9)) = rK (upd σ (9 + 6) (σ (9 + 6) + (nI 9 - nI (cGr σ c)))) ∧ rG (upd (upd σ (9 + 6) (σ (9 + 6) + (nI 9 - nI (cGr σ c)))) (153 + 5 * c + 1) (nI 9)) = rG (upd σ (9 + 6) (σ (9 + 6) + (nI 9 - nI (cGr σ c)))) := hq2
    refine r_iload_2 (pc := 54) C dX2_sows_54 ?_
    refine r_iret (pc := 55) C E rfl (by omega) (by omega) dX2_sows_55 ?_
    have hn9 : ¬ σ (153 + 5 * c + 1) = nI 9 := fun q9 => by rw [hcg] at q9; have q9 := nI_inj (by omega) (by omega) q9; omega
    have e9 : sowS σ c = upd (upd σ (9 + 6) (σ (9 + 6) + (nI 9 - nI (cGr σ c)))) (153 + 5 * c + 1) (nI 9) := by
      unfold sowS sow1
      rw [pk_un (by omega), hcg, pk_uc (by omega)]
    refine ⟨by rw [sowC, if_pos hk9, if_neg hn9]; exact hN2.eq e9.symm, ?_, ?_⟩
    · rw [sowC, if_pos hk9, if_neg hn9]
      exact hcg.symm
    · rw [sowC, if_pos hk9, if_neg hn9]
      show 0 ≤ σ (153 + 5 * c + 1)
      rw [hcg]
      exact nI_0le (by omega)
