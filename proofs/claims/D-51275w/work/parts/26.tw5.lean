/-! THE REFERENCE, 5: ways, a day -/
set_option maxRecDepth 100000
theorem bx_upd (f : Nat → Int32) (k : Nat) (v w : Int32) : upd (upd f k v) k w = upd f k w := by
  funext j
  show (if j = k then w else if j = k then v else f j) = if j = k then w else f j
  by_cases q : j = k
  · rw [if_pos q, if_pos q]
  · rw [if_neg q, if_neg q, if_neg q]
theorem cby_ext {σ : Nat → Int32} {f h : Nat → Nat} {w m c s : Nat} (hW : RowW σ) (hc : c < rC σ) (hf : ∀ j, j < rC σ → f j = h j) : cby σ f w m c s = cby σ h w m c s := by
  have hw3 := hW.s.w3
  unfold cby
  cases h1 : nb (rW σ) (rH σ) c s with
  | none => rfl
  | some n =>
    have hn := nb_lt (show 0 < rW σ by omega) hc h1
    have := hf n hn
    simp only
    rw [this]
/-- a heap by the reference's row, costs, way, numbers; all else as in A -/
def S5 (A : HA) (t : Nat) (σ κ π τ : Nat → Int32) : HA := (((A.sI (t + 1) σ).sI (t + 6) κ).sI (t + 7) π).sI t τ
theorem S5_self (A : HA) (t : Nat) : S5 A t (A.I (t + 1)) (A.I (t + 6)) (A.I (t + 7)) (A.I t) = A := by
  unfold S5
  have h1 : A.sI (t + 1) (A.I (t + 1)) = A := sI_self A _
  rw [h1, sI_self, sI_self, sI_self]
section
variable (A : HA) (t : Nat) (σ κ π τ : Nat → Int32)
theorem S5_0 : (S5 A t σ κ π τ).I t = τ := sI_s _ _ _
theorem S5_7 : (S5 A t σ κ π τ).I (t + 7) = π := by unfold S5; rw [sI_o _ _ (by omega), sI_s]
theorem S5_6 : (S5 A t σ κ π τ).I (t + 6) = κ := by unfold S5; rw [sI_o _ _ (by omega), sI_o _ _ (by omega), sI_s]
theorem S5_1 : (S5 A t σ κ π τ).I (t + 1) = σ := by unfold S5; rw [sI_o _ _ (by omega), sI_o _ _ (by omega), sI_o _ _ (by omega), sI_s]
theorem S5_x {x : Nat} (h0 : x ≠ t) (h1 : x ≠ t + 1) (h6 : x ≠ t + 6) (h7 : x ≠ t + 7) : (S5 A t σ κ π τ).I x = A.I x := by unfold S5; rw [sI_o _ _ h0, sI_o _ _ h7, sI_o _ _ h6, sI_o _ _ h1]
theorem S5_w0 (f : Nat → Int32) : (S5 A t σ κ π τ).sI t f = S5 A t σ κ π f := by unfold S5; rw [sI_sI]
theorem S5_w7 (f : Nat → Int32) : (S5 A t σ κ π τ).sI (t + 7) f = S5 A t σ κ f τ := by unfold S5; rw [sI_comm _ _ _ (show t ≠ t + 7 by omega), sI_sI]
theorem S5_w6 (f : Nat → Int32) : (S5 A t σ κ π τ).sI (t + 6) f = S5 A t σ f π τ := by
  unfold S5; rw [sI_comm _ _ _ (show t ≠ t + 6 by omega), sI_comm _ _ _ (show t + 7 ≠ t + 6 by omega), sI_sI]
theorem S5_w1 (f : Nat → Int32) : (S5 A t σ κ π τ).sI (t + 1) f = S5 A t f κ π τ := by
  unfold S5; rw [sI_comm _ _ _ (show t ≠ t + 1 by omega), sI_comm _ _ _ (show t + 7 ≠ t + 1 by omega), sI_comm _ _ _ (show t + 6 ≠ t + 1 by omega), sI_sI]
theorem S5_u1 (j : Nat) (x : Int32) : (S5 A t σ κ π τ).sI (t + 1) (upd ((S5 A t σ κ π τ).I (t + 1)) j x) = S5 A t (upd σ j x) κ π τ := by rw [S5_1, S5_w1]
theorem S5_u6 (j : Nat) (x : Int32) : (S5 A t σ κ π τ).sI (t + 6) (upd ((S5 A t σ κ π τ).I (t + 6)) j x) = S5 A t σ (upd κ j x) π τ := by rw [S5_6, S5_w6]
theorem S5_u7 (j : Nat) (x : Int32) : (S5 A t σ κ π τ).sI (t + 7) (upd ((S5 A t σ κ π τ).I (t + 7)) j x) = S5 A t σ κ (upd π j x) τ := by rw [S5_7, S5_w7]
theorem S5_u0 (j : Nat) (x : Int32) : (S5 A t σ κ π τ).sI t (upd ((S5 A t σ κ π τ).I t) j x) = S5 A t σ κ π (upd τ j x) := by rw [S5_0, S5_w0]
end
set_option maxHeartbeats 4000000 in
theorem m_areWays {g : GZ} {A : HA} {t : Nat} {σ κ π τ : Nat → Int32} (hT : Tw A t) (hW : RowW σ) : Ct g wI yX6_areWays (.code yX6_areWays cX6_areWays 2 (Option.some Jvm.ClassFile.FieldType.boolean)) 6 0 0 [.ref t] (S5 A t σ κ π τ) (fun u A' => ∃ κ', A' = S5 A t σ κ' π τ ∧ u = bI (ways σ)) fw_no := by
  refine Ct.of [some (.ref t), none] (by decide) rfl rfl fun z C hx hnm E => ?_
  have k6 := hW.k6
  refine r_iconst (pc := 0) C dX6_areWays_0 ci_0 ?_
  refine r_istore_1 (pc := 1) C dX6_areWays_1 rfl ?_
  have lp2_1 : ∀ (fu : Nat) (k : Nat) (κ1 : Nat → Int32) (hk : k ≤ rK σ) (hd : ∀ j, j < k → dist σ j 0 (gC σ (wFr σ j)) < 1000000), rK σ - k < fu → wa g z 0 0 (S5 A t σ κ1 π τ) 2 [some (.ref t), some (.int (nI (k)))] [] := by
    intro fu
    induction fu with
    | zero => intro k  κ1  hk hd hm2; exact absurd hm2 (Nat.not_lt_zero _)
    | succ fu ih2 =>
      intro k  κ1  hk hd hm2
      refine r_iload_1 (pc := 2) C dX6_areWays_2 ?_
      refine r_aload_0 (pc := 3) C dX6_areWays_3 ?_
      refine r_getR (pc := 4) C fl_X6_7_6 (tw_g hT) rfl (tw_r1 hT) dX6_areWays_4 ?_
      refine r_iconst (pc := 7) C dX6_areWays_7 ci_1 ?_
      refine r_iald (pc := 8) C (tw_g1 hT) rfl rfl (lt_eq (by omega) (tw_n1 hT)) (by omega) dX6_areWays_8 ?_
      refine r_top (congrFun (S5_1 _ _ _ _ _ _) _) ?_
      refine r_top hW.k ?_
      refine r_icmp_ge (pc := 9) (tgt := 31) C dX6_areWays_9 (by decide) (fun b9 => ?_) (fun b9 => ?_)
      · skip
        have b9 := (nI_le2 (by omega) (by omega)).mp b9
        refine r_iconst (pc := 31) C dX6_areWays_31 ci_1 ?_
        refine r_iret (pc := 32) C E nar_1 (Nat.le_refl _) (Nat.le_refl _) dX6_areWays_32 ?_
        exact ⟨_, rfl, bI_1 (fun j hj => hd j (by omega))⟩
      · skip
        have b9 := (not_congr (nI_le2 (by omega) (by omega))).mp b9
        have hk : k < rK σ := by omega
        refine r_aload_0 (pc := 12) C dX6_areWays_12 ?_
        refine r_iload_1 (pc := 13) C dX6_areWays_13 ?_
        refine r_iconst (pc := 14) C dX6_areWays_14 ci_0 ?_
        refine r_V2io (pc := 15) C (m_laysCosts (by exact hT) (S5_1 _ _ _ _ _ _) hW hk (by omega)) vl_X6_124 (tw_g hT) (by decide) (Nat.le_refl _) (Nat.le_refl _) (Nat.le_of_ble_eq_true rfl) rfl dX6_areWays_15 (fun u2 A2 hc2 => ?_)
        obtain ⟨fL, κL, eA, hκ, hSol, eu⟩ := hc2
        refine r_top eu ?_
        refine r_eqA (eA.trans (S5_w6 _ _ _ _ _ _ _)) ?_
        have hdq := dist_eq hW hSol (gC_lt hW.s (hW.G (hW.K hk).1.2))
        have hdl := hSol.1 _ (Nat.lt_of_lt_of_le (gC_lt hW.s (hW.G (hW.K hk).1.2)) hW.s.c80)
        clear eu eA A2 u2
        refine r_ldc (pc := 18) (v := nI 1000000) C (by have h9 := q2423; rwa [show (1000000 : Int32) = nI 1000000 by decide +kernel] at h9) dX6_areWays_18 ?_
        refine r_icmp_lt (pc := 20) (tgt := 25) C dX6_areWays_20 (by decide) (fun b20 => ?_) (fun b20 => ?_)
        · skip
          have b20 := (nI_lt2 (by omega) (by omega)).mp b20
          refine r_iinc_1 (pc := 25) C dX6_areWays_25 (nI_inc _) rfl ?_
          refine r_goto (pc := 28) (tgt := 2) C dX6_areWays_28 (by decide) ?_
          exact ih2 (k + 1) _ (by omega) (fun j hj => if q : j = k then by rw [q]; omega else hd j (by omega)) (by omega)
        · skip
          have b20 := (not_congr (nI_lt2 (by omega) (by omega))).mp b20
          refine r_iconst (pc := 23) C dX6_areWays_23 ci_0 ?_
          refine r_iret (pc := 24) C E nar_0 (Nat.le_refl _) (Nat.le_refl _) dX6_areWays_24 ?_
          exact ⟨_, rfl, bI_00 (fun q => by have q := q k hk; omega)⟩
  exact lp2_1 _ 0 κ (by omega) (fun j hj => absurd hj (Nat.not_lt_zero _)) (Nat.lt_succ_self _)
set_option maxHeartbeats 4000000 in
theorem m_laysWay {g : GZ} {A : HA} {t : Nat} {σ κ π τ : Nat → Int32} (hT : Tw A t) {w : Nat} (hW : RowW σ) (hw : w < rK σ) (hy : dist σ w 0 (gC σ (wFr σ w)) < 1000000) : Ct g wI yX6_laysWay (.code yX6_laysWay cX6_laysWay 6 (Option.some Jvm.ClassFile.FieldType.int)) 6 0 0 [.ref t, .int (nI (w))] (S5 A t σ κ π τ) (fun u A' => ∃ κ' π', A' = S5 A t σ κ' π' (upd τ 10 (nI (wl σ w + 1))) ∧ (∀ i, i ≤ wl σ w → π' i = nI (wy σ w i)) ∧ u = nI (dist σ w 0 (gC σ (wFr σ w)))) fw_no := by
  refine Ct.of [some (.ref t), some (.int (nI (w))), none, none, none, none] (by decide) rfl rfl fun z C hx hnm E => ?_
  have k6 := hW.k6
  have g6 := hW.g6
  have hS := hW.s
  have hc80 := hS.c80
  have hto := (hW.K hw).2.1
  have hfr := (hW.K hw).1
  have hgt := hW.G hto.2
  have hgf := hW.G hfr.2
  have hct := gC_lt hS hgt
  have hcf := gC_lt hS hgf
  have hwf := wy_facts hW hw hy
  have hdl := dist_le hW hcf hy
  have hw0 : wy σ w 0 = gC σ (wFr σ w) := rfl
  refine r_aload_0 (pc := 0) C dX6_laysWay_0 ?_
  refine r_iload_1 (pc := 1) C dX6_laysWay_1 ?_
  refine r_iconst (pc := 2) C dX6_laysWay_2 ci_0 ?_
  refine r_V2io (pc := 3) C (m_laysCosts (by exact hT) (S5_1 _ _ _ _ _ _) hW hw (by omega)) vl_X6_124 (tw_g hT) (by decide) (Nat.le_refl _) (Nat.le_refl _) (Nat.le_of_ble_eq_true rfl) rfl dX6_laysWay_3 (fun u1 A1 hc1 => ?_)
  obtain ⟨fL, κL, eA, hκ, hSol, eu⟩ := hc1
  refine r_top eu ?_
  refine r_eqA (eA.trans (S5_w6 _ _ _ _ _ _ _)) ?_
  clear eu eA A1 u1
  have hq : ∀ c, c < rC σ → fL c = dist σ w 0 c := fun c hc => (dist_eq hW hSol hc).symm
  refine r_top (congrArg nI (hq _ hcf)) ?_
  refine r_istore_2 (pc := 6) C dX6_laysWay_6 rfl ?_
  refine r_aload_0 (pc := 7) C dX6_laysWay_7 ?_
  refine r_aload_0 (pc := 8) C dX6_laysWay_8 ?_
  refine r_iload_1 (pc := 9) C dX6_laysWay_9 ?_
  refine r_bipush (pc := 10) C dX6_laysWay_10 cb_7 ?_
  refine r_V2io (pc := 12) C (m_of (by exact hT) (S5_1 _ _ _ _ _ _)) vl_X6_103 (tw_g hT) (by decide) (Nat.le_refl _) (Nat.le_refl _) (Nat.le_of_ble_eq_true rfl) rfl dX6_laysWay_12 (fun u2 A2 hc2 => ?_)
  refine r_top hc2.1 ?_
  refine r_eqA hc2.2 ?_
  clear hc2 A2 u2
  refine r_top hfr.1 ?_
  refine r_V1io (pc := 15) C (m_gateCell (by exact hT) (S5_1 _ _ _ _ _ _) hS hgf) vl_X6_114 (tw_g hT) (by decide) (Nat.le_refl _) (Nat.le_refl _) (Nat.le_of_ble_eq_true rfl) rfl dX6_laysWay_15 (fun u3 A3 hc3 => ?_)
  refine r_top hc3.1 ?_
  refine r_eqA hc3.2 ?_
  clear hc3 A3 u3
  refine r_istore_3 (pc := 18) C dX6_laysWay_18 rfl ?_
  refine r_aload_0 (pc := 19) C dX6_laysWay_19 ?_
  refine r_aload_0 (pc := 20) C dX6_laysWay_20 ?_
  refine r_iload_1 (pc := 21) C dX6_laysWay_21 ?_
  refine r_bipush (pc := 22) C dX6_laysWay_22 cb_8 ?_
  refine r_V2io (pc := 24) C (m_of (by exact hT) (S5_1 _ _ _ _ _ _)) vl_X6_103 (tw_g hT) (by decide) (Nat.le_refl _) (Nat.le_refl _) (Nat.le_of_ble_eq_true rfl) rfl dX6_laysWay_24 (fun u4 A4 hc4 => ?_)
  refine r_top hc4.1 ?_
  refine r_eqA hc4.2 ?_
  clear hc4 A4 u4
  refine r_top hto.1 ?_
  refine r_V1io (pc := 27) C (m_gateCell (by exact hT) (S5_1 _ _ _ _ _ _) hS hgt) vl_X6_114 (tw_g hT) (by decide) (Nat.le_refl _) (Nat.le_refl _) (Nat.le_of_ble_eq_true rfl) rfl dX6_laysWay_27 (fun u5 A5 hc5 => ?_)
  refine r_top hc5.1 ?_
  refine r_eqA hc5.2 ?_
  clear hc5 A5 u5
  refine r_istore_4 (pc := 30) C dX6_laysWay_30 rfl ?_
  refine r_aload_0 (pc := 32) C dX6_laysWay_32 ?_
  refine r_getR (pc := 33) C fl_X6_28_6 (tw_g hT) rfl (tw_r7 hT) dX6_laysWay_33 ?_
  refine r_iconst (pc := 36) C dX6_laysWay_36 ci_0 ?_
  refine r_iload_3 (pc := 37) C dX6_laysWay_37 ?_
  refine r_iast (pc := 38) C (tw_g7 hT) rfl rfl (lt_eq (by omega) (tw_n7 hT)) (by omega) dX6_laysWay_38 ?_
  refine r_eqA (S5_u7 _ _ _ _ _ _ _ _) ?_
  refine r_aload_0 (pc := 39) C dX6_laysWay_39 ?_
  refine r_iconst (pc := 40) C dX6_laysWay_40 ci_1 ?_
  refine r_putI (pc := 41) C fl_X6_127_6 (tw_g hT) rfl (fun _ _ _ h => by cases h; exact Or.inl rfl) rfl rfl rfl dX6_laysWay_41 ?_
  refine r_eqA (S5_u0 _ _ _ _ _ _ _ _) ?_
  have lp44_6 : ∀ (fu : Nat) (i : Nat) (π1 τ1 : Nat → Int32) (hi : i ≤ wl σ w) (hπ : ∀ j, j ≤ i → π1 j = nI (wy σ w j)) (hτ1 : τ1 = upd τ 10 (nI (i + 1))), wl σ w - i < fu → wa g z 0 0 (S5 A t σ κL π1 τ1) 44 [some (.ref t), some (.int (nI (w))), some (.int (nI (dist σ w 0 (gC σ (wFr σ w))))), some (.int (nI (wy σ w i))), some (.int (nI (gC σ (wTo σ w)))), none] [] := by
    intro fu
    induction fu with
    | zero => intro i  π1 τ1  hi hπ hτ1 hm44; exact absurd hm44 (Nat.not_lt_zero _)
    | succ fu ih44 =>
      intro i  π1 τ1  hi hπ hτ1 hm44
      have hτ : τ1 10 = nI (i + 1) := by rw [hτ1, pk_us]
      have hcc := hwf.1 i hi
      have hccc : wy σ w i < 80 := by omega
      refine r_iload_3 (pc := 44) C dX6_laysWay_44 ?_
      refine r_iload_4 (pc := 45) C dX6_laysWay_45 ?_
      refine r_icmp_eq (pc := 47) (tgt := 114) C dX6_laysWay_47 (by decide) (fun b47 => ?_) (fun b47 => ?_)
      · skip
        have b47 := (nI_eqI (by omega) (by omega)).mp b47
        refine r_iload_2 (pc := 114) C dX6_laysWay_114 ?_
        refine r_iret (pc := 115) C E rfl (Nat.le_refl _) (Nat.le_refl _) dX6_laysWay_115 ?_
        have e9 : i = wl σ w := by
          rcases Nat.lt_or_ge i (wl σ w) with q | q
          · exact absurd b47 (hwf.2.2.1 i q)
          · omega
        subst hτ1
        subst e9
        exact ⟨κL, π1, rfl, hπ, rfl⟩
      · skip
        have b47 := (not_congr (nI_eqI (by omega) (by omega))).mp b47
        have hil : i < wl σ w := by
          rcases Nat.lt_or_ge i (wl σ w) with q | q
          · exact q
          · exact absurd (by rw [show i = wl σ w by omega]; exact hwf.2.1) b47
        have hdi := (wyF_spec hW hcf hy (n := wl σ w) hwf.2.2.1 i hi).2.1
        have hdi : dist σ w 0 (wy σ w i) + 10 * i ≤ dist σ w 0 (gC σ (wFr σ w)) := hdi
        have hdir := nxt_spec hW hcc (by omega) b47
        refine r_iload_2 (pc := 50) C dX6_laysWay_50 ?_
        refine r_ldc (pc := 51) (v := nI 1000000) C (by have h9 := q2423; rwa [show (1000000 : Int32) = nI 1000000 by decide +kernel] at h9) dX6_laysWay_51 ?_
        refine r_icmp_ge (pc := 53) (tgt := 114) C dX6_laysWay_53 (by decide) (fun b53 => ?_) (fun b53 => ?_)
        · skip
          have b53 := (nI_le2 (by omega) (by omega)).mp b53
          exfalso; omega
        · skip
          have b53 := (not_congr (nI_le2 (by omega) (by omega))).mp b53
          refine r_iconst (pc := 56) C dX6_laysWay_56 ci_0 ?_
          refine r_istore_5 (pc := 57) C dX6_laysWay_57 rfl ?_
          have lp59_7 : ∀ (fu : Nat) (s : Nat) (hs1 : s ≤ dirT σ w (wy σ w i)), dirT σ w (wy σ w i) - s < fu → wa g z 0 0 (S5 A t σ κL π1 τ1) 59 [some (.ref t), some (.int (nI (w))), some (.int (nI (dist σ w 0 (gC σ (wFr σ w))))), some (.int (nI (wy σ w i))), some (.int (nI (gC σ (wTo σ w)))), some (.int (nI (s)))] [] := by
            intro fu
            induction fu with
            | zero => intro s  hs1 hm59; exact absurd hm59 (Nat.not_lt_zero _)
            | succ fu ih59 =>
              intro s  hs1 hm59
              have hd4 := hdir.1
              have hsc := cby_le (f := fL) (w := w) (m := 0) (s := s) hW hcc
              have hcb : cby σ fL w 0 (wy σ w i) s = cby σ (dist σ w 0) w 0 (wy σ w i) s := cby_ext hW hcc hq
              have hd10 := (dist_S (w := w) (m := 0) hW).1 _ hccc
              refine r_aload_0 (pc := 59) C dX6_laysWay_59 ?_
              refine r_iload_1 (pc := 60) C dX6_laysWay_60 ?_
              refine r_iload_3 (pc := 61) C dX6_laysWay_61 ?_
              refine r_iload_5 (pc := 62) C dX6_laysWay_62 ?_
              refine r_iconst (pc := 64) C dX6_laysWay_64 ci_0 ?_
              refine r_V4io (pc := 65) C (m_costBy (by exact hT) (S5_1 _ _ _ _ _ _) hW hw hcc (by omega) (by omega) (f := fL) (fun j hj => by rw [S5_6]; exact hκ j hj)) vl_X6_120 (tw_g hT) (by decide) (Nat.le_refl _) (Nat.le_refl _) (Nat.le_of_ble_eq_true rfl) rfl dX6_laysWay_65 (fun u8 A8 hc8 => ?_)
              refine r_top hc8.1 ?_
              refine r_eqA hc8.2 ?_
              clear hc8 A8 u8
              refine r_aload_0 (pc := 68) C dX6_laysWay_68 ?_
              refine r_getR (pc := 69) C fl_X6_25_6 (tw_g hT) rfl (tw_r6 hT) dX6_laysWay_69 ?_
              refine r_iload_3 (pc := 72) C dX6_laysWay_72 ?_
              refine r_iald (pc := 73) C (tw_g6 hT) rfl rfl (lt_eq (by omega) (tw_n6 hT)) (by omega) dX6_laysWay_73 ?_
              refine r_top (congrFun (S5_6 _ _ _ _ _ _) _) ?_
              refine r_top (hκ _ (by omega)).1 ?_
              refine r_top (congrArg nI (hq _ hcc)) ?_
              refine r_icmp_eq (pc := 74) (tgt := 83) C dX6_laysWay_74 (by decide) (fun b74 => ?_) (fun b74 => ?_)
              · skip
                have b74 := (nI_eqI (by omega) (by omega)).mp b74
                have hs2 : s = dirT σ w (wy σ w i) := by
                  rcases Nat.lt_or_ge s (dirT σ w (wy σ w i)) with q | q
                  · exact absurd (by rw [← hcb]; exact b74) (hdir.2.1 s q)
                  · omega
                refine r_aload_0 (pc := 83) C dX6_laysWay_83 ?_
                refine r_iload_3 (pc := 84) C dX6_laysWay_84 ?_
                refine r_iload_5 (pc := 85) C dX6_laysWay_85 ?_
                refine r_V2io (pc := 87) C (m_nextTo (by exact hT) (S5_1 _ _ _ _ _ _) hS hcc (by omega)) vl_X6_106 (tw_g hT) (by decide) (Nat.le_refl _) (Nat.le_refl _) (Nat.le_of_ble_eq_true rfl) rfl dX6_laysWay_87 (fun u9 A9 hc9 => ?_)
                refine r_top hc9.1 ?_
                refine r_eqA hc9.2 ?_
                clear hc9 A9 u9
                refine r_top (by rw [hs2, hdir.2.2.2.1]) ?_
                refine r_istore_3 (pc := 90) C dX6_laysWay_90 rfl ?_
                refine r_aload_0 (pc := 91) C dX6_laysWay_91 ?_
                refine r_getR (pc := 92) C fl_X6_28_6 (tw_g hT) rfl (tw_r7 hT) dX6_laysWay_92 ?_
                refine r_aload_0 (pc := 95) C dX6_laysWay_95 ?_
                refine r_getI (pc := 96) C fl_X6_127_6 (tw_g hT) rfl dX6_laysWay_96 ?_
                refine r_top (congrFun (S5_0 _ _ _ _ _ _) _) ?_
                refine r_top hτ ?_
                refine r_iload_3 (pc := 99) C dX6_laysWay_99 ?_
                refine r_iast (pc := 100) C (tw_g7 hT) rfl rfl (lt_eq (by omega) (tw_n7 hT)) (by omega) dX6_laysWay_100 ?_
                refine r_eqA (S5_u7 _ _ _ _ _ _ _ _) ?_
                refine r_aload_0 (pc := 101) C dX6_laysWay_101 ?_
                refine r_dup (pc := 102) C dX6_laysWay_102 rfl ?_
                refine r_getI (pc := 103) C fl_X6_127_6 (tw_g hT) rfl dX6_laysWay_103 ?_
                refine r_top (congrFun (S5_0 _ _ _ _ _ _) _) ?_
                refine r_top hτ ?_
                refine r_iconst (pc := 106) C dX6_laysWay_106 ci_1 ?_
                refine r_iadd (pc := 107) C dX6_laysWay_107 ?_
                refine r_top (nI_add _ _) ?_
                refine r_putI (pc := 108) C fl_X6_127_6 (tw_g hT) rfl (fun _ _ _ h => by cases h; exact Or.inl rfl) rfl rfl rfl dX6_laysWay_108 ?_
                refine r_eqA (S5_u0 _ _ _ _ _ _ _ _) ?_
                refine r_goto (pc := 111) (tgt := 44) C dX6_laysWay_111 (by decide) ?_
                refine r_forget (lv' := [some _, some _, some _, some _, some _, none]) ⟨rfl, rfl, rfl, rfl, rfl, trivial⟩ ?_
                exact ih44 (i + 1) _ _ (by omega) (fun j hj => if q : j = i + 1 then by rw [q, pk_us]; rfl else by rw [pk_un q]; exact hπ j (by omega)) (by rw [hτ1, bx_upd]) (by omega)
              · skip
                have b74 := (not_congr (nI_eqI (by omega) (by omega))).mp b74
                refine r_iinc_5 (pc := 77) C dX6_laysWay_77 (nI_inc _) rfl ?_
                refine r_goto (pc := 80) (tgt := 59) C dX6_laysWay_80 (by decide) ?_
                have hs3 : s < dirT σ w (wy σ w i) := by
                  rcases Nat.lt_or_ge s (dirT σ w (wy σ w i)) with q | q
                  · exact q
                  · exact absurd (by rw [hcb, show s = dirT σ w (wy σ w i) by omega]; exact hdir.2.2.1) b74
                exact ih59 (s + 1) (by omega) (by omega)
          exact lp59_7 _ 0 (by omega) (Nat.lt_succ_self _)
  exact lp44_6 _ 0 _ _ (by omega) (fun j hj => by rw [show j = 0 by omega, pk_us]; rfl) rfl (Nat.lt_succ_self _)
