/-! THE COMPONENT, 9: what would be, 2 -/
set_option maxRecDepth 100000
theorem r_topO {g : GZ} {z : ZX} {k n pc : Nat} {A : HA} {lv : List (Option Value)} {st : List Value} {x y : Option Nat} (h : x = y) (kk : wa g z k n A pc lv (va_rf y :: st)) : wa g z k n A pc lv (va_rf x :: st) := h ▸ kk
/-- the component's parts at a heap -/
def CW (g : GZ) (A : HA) (c a : Nat) (d : Nat → Nat) (σ : Rw) : Prop := (A.G c).1 = 1 ∧ A.R c 0 = some a ∧ Ly A a d σ ∧ Lv A.I a d σ ∧ DeK g A ∧ ∀ k, k < rK σ → ∃ nm, A.R (d (30 + k)) 0 = some nm
theorem CW.gw {g : GZ} {A B : HA} {c a : Nat} {d : Nat → Nat} {σ : Rw} (h : CW g A c a d σ) (hz : Zk A) (hw : Gw A B Non) : CW g B c a d σ := by
  obtain ⟨h1, h2, h3, h4, h5, h6⟩ := h
  have hc := hz.lt h1 rfl
  refine ⟨by rw [(hw.2 c hc).1]; exact h1, by rw [((hw.2 c hc).2.2 (fun q => q)).2.2]; exact h2, ly_gw hz h3 hw (fun _ _ q => q), lv_gw hz h3 h4 hw (fun _ _ q => q), h5.gw hz hw, fun k hk => ?_⟩
  obtain ⟨nm, hn⟩ := h6 k hk
  exact ⟨nm, by rw [((hw.2 _ (fp_lt hz h3 (Or.inr (Or.inr (Or.inr (Or.inl ⟨k, hk, rfl⟩)))))).2.2 (fun q => q)).2.2]; exact hn⟩
theorem Gs.of {A B : HA} {d : Nat → Nat} (h : Gw A B Non) : Gs A B d := ⟨h.mono (fun _ _ q => q.elim), fun x hx => ((h.2 x hx).2.2 (fun q => q)).2.2⟩
theorem gsc_new {A D : HA} {q : Nat} {d2 : Nat → Nat} {τ : Rw} {κ μ : Nat → Int32} (hw : Gw A D Non) (hL : Ly D q d2 τ) (ho : ∀ y, y < A.z → ¬ Ow D.G q y) : Gw A (FH D d2 κ μ) Non := hw.tr2 sm_FH.gw (fun y hy z => ho y hy (ow_sc hL z))
theorem bare_i {σ : Rw} {c n : Nat} (h : daysR σ n (153 + 5 * c + 0) = 0) (h1 : daysR σ n (153 + 5 * c + 1) = 0) : (fun n => decide (bare (daysR σ n) c)) n = true := decide_eq_true ⟨h, h1⟩
theorem bare_o {σ : Rw} {c n : Nat} (h1 : ¬ daysR σ n (153 + 5 * c + 1) = 0) : ¬ (fun n => decide (bare (daysR σ n) c)) n = true := fun q => h1 (of_decide_eq_true q).2
theorem rK_fS {σ : Rw} {c : Nat} : rK (fenceS σ c) = rK σ := congrArg Int32.toNatClampNeg (fenceS_o (by omega))
theorem fenceS_d {σ : Rw} {c : Nat} : rD (fenceS σ c) = rD σ := congrArg Int32.toNatClampNeg (fenceS_o (by omega))
set_option maxHeartbeats 4000000 in
theorem c_grassIn {g : GZ} {A : HA} {c a : Nat} {d : Nat → Nat} {σ : Rw} (hc : (A.G c).1 = 1) (hn : A.R c 0 = some a) (hL : Ly A a d σ) (hv : Lv A.I a d σ) (hJ : RowJ σ) (hG : GdK g) (hDE : DeK g A) (hnam : ∀ k, k < rK σ → ∃ nm, A.R (d (30 + k)) 0 = some nm) (h999 : rD σ ≤ 999) {x y w : Int32} : Ct g wI yX1_grassIn (.code yX1_grassIn cX1_grassIn 6 (Option.some Jvm.ClassFile.FieldType.int)) 12 27 952 [.ref c, .int x, .int y, .int w] (A) (fun u A' => inC2 σ x y ∧ inZ w 0 60 ∧ u = cellA (daysR σ (nt w)) (cat σ x y) 1 ∧ Gw A A' Non) (fun q A' => T2 A A' (inC2 σ x y) (inZ w 0 60) q) := by
  refine Ct.of [some (.ref c), some (.int x), some (.int y), some (.int w), none, none] (by decide) rfl rfl fun z C hx hnm E => ?_
  have hW := hJ.w
  have hS := hW.s
  have hw3 := hS.w3
  have hw10 := hS.w10
  have hh8 := hS.h8
  have hc80 := hS.c80
  have k6 := hW.k6
  have g6 := hW.g6
  have hC : ∀ c, c < 80 → CelF σ c := fun c hc => (hJ.c hc).fe
  have d9 := hW.d9
  refine r_aload_0 (pc := 0) C dX1_grassIn_0 ?_
  refine r_iload_1 (pc := 1) C dX1_grassIn_1 ?_
  refine r_iload_2 (pc := 2) C dX1_grassIn_2 ?_
  refine r_V2ix (pc := 3) C (c_at hc hn hL hv hJ) vl_X1_283 (by exact hc) (by decide) (by omega) (by omega) (Nat.le_of_ble_eq_true rfl) rfl dX1_grassIn_3 (fun q A9 hp hE => r_out C E (by rw [hx]; exact fun x h => nomatch h) hE.choose_spec (by omega) (by omega) (Or.inl hp)) (fun u1 A1 hc1 => ?_)
  obtain ⟨hi1, eu1, eA1⟩ := hc1
  refine r_top eu1 ?_
  refine r_eqA eA1 ?_
  clear eu1 eA1 A1 u1
  have b98 : inC2 σ x y := by assumption
  have hcc : cat σ x y < rC σ := by obtain ⟨i, hi, rfl⟩ := inZ_of b98.1 (by omega); obtain ⟨j, hj, rfl⟩ := inZ_of b98.2 (by omega); rw [cat_n (by omega) (by omega)]; exact at_lt hS hi hj
  refine r_istore_4 (pc := 6) C dX1_grassIn_6 rfl ?_
  refine r_aload_0 (pc := 8) C dX1_grassIn_8 ?_
  refine r_iload_3 (pc := 9) C dX1_grassIn_9 ?_
  refine r_V1rx (pc := 10) C (c_behind hc hn hL hv hJ hG hDE hnam h999) vl_X1_434 (by exact hc) (by decide) (by omega) (by omega) (Nat.le_of_ble_eq_true rfl) rfl dX1_grassIn_10 (fun q A9 hp hE => r_out C E (by rw [hx]; exact fun x h => nomatch h) hE.choose_spec (by omega) (by omega) (Or.inr ⟨b98, hp.1, hp.2⟩)) (fun u2 A2 hc2 => ?_)
  obtain ⟨hi2, ⟨d2, hLq, hvq⟩, hGq⟩ := hc2
  generalize A2 = B at hLq hvq hGq ⊢
  generalize u2 = q at hLq hvq ⊢
  have b97 : inZ w 0 60 := by assumption
  have hnw : nt w ≤ 60 := by obtain ⟨k, hk, rfl⟩ := inZ_of2 (n := 60) rfl b97 (by omega); rw [nt_n (by omega)]; exact hk
  have hJd := (days_J hJ (nt w) (by omega)).1
  have hcq : cat σ x y < rC (daysR σ (nt w)) := by rw [(daysR_keep hW hJ.y (nt w) (by omega)).1.c]; exact hcc
  refine r_astore_5 (pc := 13) C dX1_grassIn_13 rfl ?_
  refine r_aload_5 (pc := 15) C dX1_grassIn_15 ?_
  refine r_iload_4 (pc := 17) C dX1_grassIn_17 ?_
  refine r_V1io (pc := 19) C (l_isGrass hLq hvq hJd.w hcq) vl_X1_290 (ly_g hLq) (by decide) (by omega) (by omega) (Nat.le_of_ble_eq_true rfl) rfl dX1_grassIn_19 (fun u3 A3 hc3 => ?_)
  refine r_top hc3.1 ?_
  refine r_eqA hc3.2 ?_
  clear hc3 A3 u3
  refine r_if_eq (pc := 22) (tgt := 36) C dX1_grassIn_22 (by decide) (fun b22 => ?_) (fun b22 => ?_)
  · skip
    have b22 := bI_0.mp b22
    refine r_iconst (pc := 36) C dX1_grassIn_36 ci_m1 ?_
    refine r_iret (pc := 37) C E rfl (by omega) (by omega) dX1_grassIn_37 ?_
    refine ⟨b98, b97, ?_, hGq⟩
    first
      | exact (if_pos (by assumption)).symm
      | exact (if_neg (by assumption)).symm
  · skip
    have b22 := bI_n.mp b22
    refine r_aload_5 (pc := 25) C dX1_grassIn_25 ?_
    refine r_ngetR (pc := 27) C fn_X1_293_2 (ly_g hLq) rfl (ly_rf hLq 6 (by decide)) dX1_grassIn_27 ?_
    refine r_iload_4 (pc := 30) C dX1_grassIn_30 ?_
    refine r_iald (pc := 32) C (ly_gf hLq 6 (by decide)) rfl rfl (lt_eq (by omega) (ly_nf hLq 6 (by decide) (by decide))) (by omega) dX1_grassIn_32 ?_
    refine r_top (hvq.grass hcq) ?_
    refine r_goto (pc := 33) (tgt := 37) C dX1_grassIn_33 (by decide) ?_
    refine r_iret (pc := 37) C E rfl (by omega) (by omega) dX1_grassIn_37 ?_
    refine ⟨b98, b97, ?_, hGq⟩
    first
      | exact (if_pos (by assumption)).symm
      | exact (if_neg (by assumption)).symm
set_option maxHeartbeats 4000000 in
theorem c_whenBare {g : GZ} {A : HA} {c a : Nat} {d : Nat → Nat} {σ : Rw} (hc : (A.G c).1 = 1) (hn : A.R c 0 = some a) (hL : Ly A a d σ) (hv : Lv A.I a d σ) (hJ : RowJ σ) (hG : GdK g) (hDE : DeK g A) (hnam : ∀ k, k < rK σ → ∃ nm, A.R (d (30 + k)) 0 = some nm) (h999 : rD σ ≤ 999) {x y : Int32} : Ct g wI yX1_whenBare (.code yX1_whenBare cX1_whenBare 6 (Option.some Jvm.ClassFile.FieldType.int)) 10 26 946 [.ref c, .int x, .int y] (A) (fun u A' => inC2 σ x y ∧ u = whenA σ (cat σ x y) ∧ Gw A A' Non) (fun q A' => ¬ inC2 σ x y ∧ TX A A' Non 20 q) := by
  refine Ct.of [some (.ref c), some (.int x), some (.int y), none, none, none] (by decide) rfl rfl fun z C hx hnm E => ?_
  have hW := hJ.w
  have hS := hW.s
  have hw3 := hS.w3
  have hw10 := hS.w10
  have hh8 := hS.h8
  have hc80 := hS.c80
  have k6 := hW.k6
  have g6 := hW.g6
  have hC : ∀ c, c < 80 → CelF σ c := fun c hc => (hJ.c hc).fe
  have d9 := hW.d9
  refine r_Zo fun hZo => ?_
  refine r_aload_0 (pc := 0) C dX1_whenBare_0 ?_
  refine r_iload_1 (pc := 1) C dX1_whenBare_1 ?_
  refine r_iload_2 (pc := 2) C dX1_whenBare_2 ?_
  refine r_V2ix (pc := 3) C (c_at hc hn hL hv hJ) vl_X1_283 (by exact hc) (by decide) (by omega) (by omega) (Nat.le_of_ble_eq_true rfl) rfl dX1_whenBare_3 (fun q A9 hp hE => r_out C E (by rw [hx]; exact fun x h => nomatch h) hE.choose_spec (by omega) (by omega) (hp)) (fun u1 A1 hc1 => ?_)
  obtain ⟨hi1, eu1, eA1⟩ := hc1
  refine r_top eu1 ?_
  refine r_eqA eA1 ?_
  clear eu1 eA1 A1 u1
  have b98 : inC2 σ x y := by assumption
  have hcc : cat σ x y < rC σ := by obtain ⟨i, hi, rfl⟩ := inZ_of b98.1 (by omega); obtain ⟨j, hj, rfl⟩ := inZ_of b98.2 (by omega); rw [cat_n (by omega) (by omega)]; exact at_lt hS hi hj
  refine r_istore_3 (pc := 6) C dX1_whenBare_6 rfl ?_
  refine r_aload_0 (pc := 7) C dX1_whenBare_7 ?_
  refine r_getR (pc := 8) C fl_X1_24_1 (by exact hc) rfl (by exact hn) dX1_whenBare_8 ?_
  refine r_iload_3 (pc := 11) C dX1_whenBare_11 ?_
  refine r_V1io (pc := 12) C (l_isGrass hL hv hW hcc) vl_X1_290 (ly_g hL) (by decide) (by omega) (by omega) (Nat.le_of_ble_eq_true rfl) rfl dX1_whenBare_12 (fun u2 A2 hc2 => ?_)
  refine r_top hc2.1 ?_
  refine r_eqA hc2.2 ?_
  clear hc2 A2 u2
  refine r_if_ne (pc := 15) (tgt := 20) C dX1_whenBare_15 (by decide) (fun b15 => ?_) (fun b15 => ?_)
  · skip
    have b15 := bI_n.mp b15
    have hk9 := b15
    refine r_aload_0 (pc := 20) C dX1_whenBare_20 ?_
    refine r_getR (pc := 21) C fl_X1_24_1 (by exact hc) rfl (by exact hn) dX1_whenBare_21 ?_
    refine r_V0r (pc := 24) C (l_copy hL hv hW hC hDE hnam) vl_X1_187 (ly_g hL) (by decide) (by omega) (by omega) (Nat.le_of_ble_eq_true rfl) rfl dX1_whenBare_24 (fun u3 A3 hc3 => ?_)
    obtain ⟨d2, hCp⟩ := hc3
    generalize A3 = B at hCp ⊢
    generalize u3 = q at hCp ⊢
    refine r_astore_4 (pc := 27) C dX1_whenBare_27 rfl ?_
    refine r_iconst (pc := 29) C dX1_whenBare_29 ci_0 ?_
    refine r_istore_5 (pc := 30) C dX1_whenBare_30 rfl ?_
    have lp32_4 : ∀ (fu : Nat) (i : Nat) (F : HA) (hi : i ≤ 101) (hNi : Nx B F q d2 (daysR σ i)) (hfb : firstB (fun n => decide (bare (daysR σ n) (cat σ x y))) i = none), 101 - i < fu → wa g z 26 946 (F) 32 [some (.ref c), some (.int x), some (.int y), some (.int (nI (cat σ x y))), some (.ref q), some (.int (nI (i)))] [] := by
      intro fu
      induction fu with
      | zero => intro i  F  hi hNi hfb hm32; exact absurd hm32 (Nat.not_lt_zero _)
      | succ fu ih32 =>
        intro i  F  hi hNi hfb hm32
        have hkp := daysR_keep hW hJ.y i (by omega)
        have hJi := (days_J hJ i (by omega)).1
        have hdi := (days_J hJ i (by omega)).2
        have hci : cat σ x y < rC (daysR σ i) := by rw [hkp.1.c]; exact hcc
        refine r_iload_5 (pc := 32) C dX1_whenBare_32 ?_
        refine r_bipush (pc := 34) C dX1_whenBare_34 cb_100 ?_
        refine r_icmp_gt (pc := 36) (tgt := 63) C dX1_whenBare_36 (by decide) (fun b36 => ?_) (fun b36 => ?_)
        · skip
          have b36 := (nI_lt2 (by omega) (by omega)).mp b36
          refine r_iconst (pc := 63) C dX1_whenBare_63 ci_m1 ?_
          refine r_iret (pc := 64) C E rfl (by omega) (by omega) dX1_whenBare_64 ?_
          refine ⟨b98, ?_, cp_gw hZo hCp hNi⟩
          unfold whenA
          have e9 : i = 101 := by omega
          subst e9
          rw [if_pos hk9, hfb]
          rfl
        · skip
          have b36 := (not_congr (nI_lt2 (by omega) (by omega))).mp b36
          refine r_aload_4 (pc := 39) C dX1_whenBare_39 ?_
          refine r_ngetR (pc := 41) C fn_X1_293_2 (ly_g hNi.1) rfl (ly_rf hNi.1 6 (by decide)) dX1_whenBare_41 ?_
          refine r_iload_3 (pc := 44) C dX1_whenBare_44 ?_
          refine r_iald (pc := 45) C (ly_gf hNi.1 6 (by decide)) rfl rfl (lt_eq (by omega) (ly_nf hNi.1 6 (by decide) (by decide))) (by omega) dX1_whenBare_45 ?_
          refine r_top (hNi.2.1.grass hci) ?_
          refine r_if_ne (pc := 46) (tgt := 52) C dX1_whenBare_46 (by decide) (fun b46 => ?_) (fun b46 => ?_)
          · skip
            refine r_aload_4 (pc := 52) C dX1_whenBare_52 ?_
            refine r_V0vo (pc := 54) C (l_passes hNi.1 hNi.2.1 hJi.w (fun c hc => hJi.c hc) hJi.g hG hJi.y (by omega)) vl_X1_435 (ly_g hNi.1) (by decide) (by omega) (by omega) (Nat.le_of_ble_eq_true rfl) rfl dX1_whenBare_54 (fun u5 A5 hc5 => ?_)
            have hNp5 := hc5
            refine r_iinc_5 (pc := 57) C dX1_whenBare_57 (nI_inc _) rfl ?_
            refine r_goto (pc := 60) (tgt := 32) C dX1_whenBare_60 (by decide) ?_
            exact ih32 (i + 1) _ (by omega) (hNi.tr (by assumption)) (firstB_none hfb (bare_o b46)) (by omega)
          · skip
            refine r_iload_5 (pc := 49) C dX1_whenBare_49 ?_
            refine r_iret (pc := 51) C E rfl (by omega) (by omega) dX1_whenBare_51 ?_
            refine ⟨b98, ?_, cp_gw hZo hCp hNi⟩
            unfold whenA
            rw [if_pos hk9, firstB_some hfb (bare_i ((hkp.1.kind _).trans hk9) b46) 101 (by omega)]
            rfl
    exact lp32_4 _ 0 B (Nat.zero_le _) (Nx.rf hCp.2.1 hCp.2.2.1) rfl (Nat.lt_succ_self _)
  · skip
    have b15 := bI_0.mp b15
    refine r_iconst (pc := 18) C dX1_whenBare_18 ci_m1 ?_
    refine r_iret (pc := 19) C E rfl (by omega) (by omega) dX1_whenBare_19 ?_
    exact ⟨b98, (if_neg b15).symm, Gw.rf⟩
set_option maxHeartbeats 4000000 in
theorem c_fencedAt {g : GZ} {A : HA} {c a : Nat} {d : Nat → Nat} {σ : Rw} (hc : (A.G c).1 = 1) (hn : A.R c 0 = some a) (hL : Ly A a d σ) (hv : Lv A.I a d σ) (hJ : RowJ σ) (hG : GdK g) (hDE : DeK g A) (hnam : ∀ k, k < rK σ → ∃ nm, A.R (d (30 + k)) 0 = some nm) (h999 : rD σ ≤ 999) {k : Nat} (hk : k < rC σ) : Ct g wN yX1_fencedAt (.codeWith yX1_fencedAt cX1_fencedAt 4 (Option.some (Jvm.ClassFile.FieldType.object "LawnPaths$Lawn")) [(8, 14, 17, 10)]) 10 29 968 [.ref c, .int (nI (k))] (A) (fun u A' => ((whyF σ k = nI 0 → ∃ q d2, u = some q ∧ Ly A' q d2 (fenceS σ k) ∧ Lv A'.I q d2 (fenceS σ k) ∧ ∀ y, y < A.z → ¬ Ow A'.G q y) ∧ (¬ whyF σ k = nI 0 → u = none)) ∧ Gw A A' Non) fw_no := by
  refine Ct.ofH [some (.ref c), some (.int (nI (k))), none, none] (by decide) rfl rfl fun z C hx hnm E => ?_
  have hW := hJ.w
  have hS := hW.s
  have hw3 := hS.w3
  have hw10 := hS.w10
  have hh8 := hS.h8
  have hc80 := hS.c80
  have k6 := hW.k6
  have g6 := hW.g6
  have hC : ∀ c, c < 80 → CelF σ c := fun c hc => (hJ.c hc).fe
  have d9 := hW.d9
  refine r_Zo fun hZo => ?_
  refine r_aload_0 (pc := 0) C dX1_fencedAt_0 ?_
  refine r_getR (pc := 1) C fl_X1_24_1 (by exact hc) rfl (by exact hn) dX1_fencedAt_1 ?_
  refine r_V0r (pc := 4) C (l_copy hL hv hW hC hDE hnam) vl_X1_187 (ly_g hL) (by decide) (by omega) (by omega) (Nat.le_of_ble_eq_true rfl) rfl dX1_fencedAt_4 (fun u1 A1 hc1 => ?_)
  obtain ⟨d2, hCp⟩ := hc1
  generalize A1 = B at hCp ⊢
  generalize u1 = q at hCp ⊢
  refine r_astore_2 (pc := 7) C dX1_fencedAt_7 rfl ?_
  refine r_aload_2 (pc := 8) C dX1_fencedAt_8 ?_
  refine r_iload_1 (pc := 9) C dX1_fencedAt_9 ?_
  refine r_V1ix (pc := 10) C (l_fenced hCp.2.1 hCp.2.2.1 hJ hG (c := k) (by omega)) vl_X1_438 (ly_g hCp.2.1) (by decide) (by omega) (by omega) (Nat.le_of_ble_eq_true rfl) rfl dX1_fencedAt_10 ?_ (fun u2 A2 hc2 => ?_)
  · intro q9 A9 hp9 hE9
    obtain ⟨r9, hr1, hr9, hC9, hU9⟩ := hp9
    refine r_catch C [] ⟨8, 14, 17, 10⟩ [] (hx.trans rfl) (fun _ h => nomatch h) (by decide) (by decide) q1750 q1752 ((congrArg fw_ex hU9.1).trans rfl) ?_
    refine r_astore_3 (pc := 17) C dX1_fencedAt_17 rfl ?_
    refine r_null (pc := 18) C dX1_fencedAt_18 ?_
    refine r_aretN (pc := 19) C E rfl (by omega) (by omega) dX1_fencedAt_19 ?_
    refine ⟨⟨fun h0 => absurd h0 (fenceC_no hW hr1 hr9 hC9), fun _ => rfl⟩, hCp.2.2.2.1.tr2 hU9.2.2 (fun y hy z => cp_old hZo hCp y hy z)⟩
  obtain ⟨hNf, eu2, hp0⟩ := hc2
  refine r_top eu2 ?_
  clear eu2 u2
  generalize A2 = D at hNf ⊢
  refine r_istore_3 (pc := 13) C dX1_fencedAt_13 rfl ?_
  refine r_goto (pc := 14) (tgt := 20) C dX1_fencedAt_14 (by decide) ?_
  refine r_aload_2 (pc := 20) C dX1_fencedAt_20 ?_
  refine r_aretS (pc := 21) C E rfl (by omega) (by omega) dX1_fencedAt_21 ?_
  have h0 := fenceC_yes hp0
  have e2 : (fenceC σ k).2 = fenceS σ k := by rw [fenceC, if_pos h0]
  rw [e2] at hNf
  exact ⟨⟨fun _ => ⟨q, d2, rfl, hNf.1, hNf.2.1, fun y hy z => cp_old hZo hCp y hy (by rw [hNf.2.2.1] at z; exact z)⟩, fun h => absurd h0 h⟩, cp_gw hZo hCp hNf⟩
set_option maxHeartbeats 4000000 in
theorem c_ifFence {g : GZ} {A : HA} {c a : Nat} {d : Nat → Nat} {σ : Rw} (hc : (A.G c).1 = 1) (hn : A.R c 0 = some a) (hL : Ly A a d σ) (hv : Lv A.I a d σ) (hJ : RowJ σ) (hG : GdK g) (hDE : DeK g A) (hnam : ∀ k, k < rK σ → ∃ nm, A.R (d (30 + k)) 0 = some nm) (h999 : rD σ ≤ 999) {x y w : Int32} : Ct g wI yX1_ifFence (.code yX1_ifFence cX1_ifFence 6 (Option.some Jvm.ClassFile.FieldType.int)) 11 31 980 [.ref c, .int x, .int y, .int w] (A) (fun u A' => (inW σ x ∧ inC2 σ y w) ∧ u = ifFA σ (nt x) (cat σ y w) ∧ Gs A A' d) (fun q A' => ¬ (inW σ x ∧ inC2 σ y w) ∧ TX A A' Non 20 q) := by
  refine Ct.of [some (.ref c), some (.int x), some (.int y), some (.int w), none, none] (by decide) rfl rfl fun z C hx hnm E => ?_
  have hW := hJ.w
  have hS := hW.s
  have hw3 := hS.w3
  have hw10 := hS.w10
  have hh8 := hS.h8
  have hc80 := hS.c80
  have k6 := hW.k6
  have g6 := hW.g6
  have hC : ∀ c, c < 80 → CelF σ c := fun c hc => (hJ.c hc).fe
  have d9 := hW.d9
  refine r_Z fun hZ => ?_
  refine r_aload_0 (pc := 0) C dX1_ifFence_0 ?_
  refine r_iload_1 (pc := 1) C dX1_ifFence_1 ?_
  refine r_V1rx (pc := 2) C (c_walkerAt hc hn hL hv hJ) vl_X1_330 (by exact hc) (by decide) (by omega) (by omega) (Nat.le_of_ble_eq_true rfl) rfl dX1_ifFence_2 (fun q A9 hp hE => r_out C E (by rw [hx]; exact fun x h => nomatch h) hE.choose_spec (by omega) (by omega) (⟨fun q => hp.1 q.1, hp.2⟩)) (fun u1 A1 hc1 => ?_)
  obtain ⟨hi1, eu1, eA1⟩ := hc1
  refine r_topR eu1 ?_
  refine r_eqA eA1 ?_
  clear eu1 eA1 A1 u1
  have b99 : inW σ x := by assumption
  have b97 := b99
  obtain ⟨k, hkx, rfl⟩ := inZ_of (n := rK σ) b97 (by omega)
  rw [show nt (nI k) = k from nt_n (by omega)]
  refine r_astore_4 (pc := 5) C dX1_ifFence_5 rfl ?_
  refine r_aload_0 (pc := 7) C dX1_ifFence_7 ?_
  refine r_aload_0 (pc := 8) C dX1_ifFence_8 ?_
  refine r_iload_2 (pc := 9) C dX1_ifFence_9 ?_
  refine r_iload_3 (pc := 10) C dX1_ifFence_10 ?_
  refine r_V2ix (pc := 11) C (c_at hc hn hL hv hJ) vl_X1_283 (by exact hc) (by decide) (by omega) (by omega) (Nat.le_of_ble_eq_true rfl) rfl dX1_ifFence_11 (fun q A9 hp hE => r_out C E (by rw [hx]; exact fun x h => nomatch h) hE.choose_spec (by omega) (by omega) (⟨fun q => hp.1 q.2, hp.2⟩)) (fun u2 A2 hc2 => ?_)
  obtain ⟨hi2, eu2, eA2⟩ := hc2
  refine r_top eu2 ?_
  refine r_eqA eA2 ?_
  clear eu2 eA2 A2 u2
  have b98 : inC2 σ y w := by assumption
  have hcc : cat σ y w < rC σ := by obtain ⟨i, hi, rfl⟩ := inZ_of b98.1 (by omega); obtain ⟨j, hj, rfl⟩ := inZ_of b98.2 (by omega); rw [cat_n (by omega) (by omega)]; exact at_lt hS hi hj
  refine r_VH1n (pc := 14) C (c_fencedAt hc hn hL hv hJ hG hDE hnam h999 (by omega)) vl_X1_441 (by exact hc) (by decide) (by omega) (by omega) (Nat.le_of_ble_eq_true rfl) rfl dX1_ifFence_14 (fun u3 A3 hc3 => ?_)
  obtain ⟨⟨hFy, hFn⟩, hGq⟩ := hc3
  generalize A3 = D at hFy hFn hGq ⊢
  generalize u3 = o9 at hFy hFn ⊢
  rcases Classical.em (whyF σ (cat σ y w) = nI 0) with h0 | h0
  · skip
    obtain ⟨q, d2, eu9, hLq, hvq, hoq⟩ := hFy h0
    refine r_topO eu9 ?_
    have hw9 := whyF_0 h0
    have hJq := fenceS_J hJ (by omega) hw9.1 hw9.2.1 hw9.2.2.1 hw9.2.2.2
    refine r_astore_5 (pc := 17) C dX1_ifFence_17 rfl ?_
    refine r_aload_5 (pc := 19) C dX1_ifFence_19 ?_
    refine r_ifnonnull (pc := 21) (tgt := 28) C dX1_ifFence_21 (by decide) ?_
    refine r_aload_5 (pc := 28) C dX1_ifFence_28 ?_
    refine r_aload_5 (pc := 30) C dX1_ifFence_30 ?_
    refine r_iload_1 (pc := 32) C dX1_ifFence_32 ?_
    refine r_V1ro (pc := 33) C (l_walker hLq hvq hJq.w (k := k) (by rw [rK_fS]; exact hkx)) vl_X1_271 (ly_g hLq) (by decide) (by omega) (by omega) (Nat.le_of_ble_eq_true rfl) rfl dX1_ifFence_33 (fun u4 A4 hc4 => ?_)
    refine r_topR hc4.1 ?_
    refine r_eqA hc4.2 ?_
    clear hc4 A4 u4
    refine r_getS (pc := 36) C (hG 0 (by omega)).1 q980 dX1_ifFence_36 ?_
    refine r_V2io (pc := 39) C (l_tellsFar hLq hvq hJq.w (fun c hc => (hJq.c hc).fe) hJq.g (by rw [rK_fS]; exact hkx) (by omega) (hG 0 (by omega)).2) vl_X1_381 (ly_g hLq) (by decide) (by omega) (by omega) (Nat.le_of_ble_eq_true rfl) rfl dX1_ifFence_39 (fun u5 A5 hc5 => ?_)
    obtain ⟨⟨f5, κ5, μ5, eA5, -, -, -⟩, eu5⟩ := hc5
    refine r_top eu5 ?_
    have hGD : Gw A A5 Non := by rw [eA5]; exact gsc_new hGq hLq hoq
    clear eu5 u5 eA5
    generalize A5 = E1 at hGD ⊢
    obtain ⟨hcE1, hnE1, hLE1, hvE1, hDEE1, hnamE1⟩ := CW.gw (show CW g A c a d σ from ⟨hc, hn, hL, hv, hDE, hnam⟩) hZ hGD
    refine r_aload_0 (pc := 42) C dX1_ifFence_42 ?_
    refine r_getR (pc := 43) C fl_X1_24_1 (by exact hcE1) rfl (by exact hnE1) dX1_ifFence_43 ?_
    refine r_aload_4 (pc := 46) C dX1_ifFence_46 ?_
    refine r_getS (pc := 48) C (hG 0 (by omega)).1 q980 dX1_ifFence_48 ?_
    refine r_V2io (pc := 51) C (l_tellsFar hLE1 hvE1 hW hC hJ.g hkx (by omega) (hG 0 (by omega)).2) vl_X1_381 (ly_g hLE1) (by decide) (by omega) (by omega) (Nat.le_of_ble_eq_true rfl) rfl dX1_ifFence_51 (fun u6 A6 hc6 => ?_)
    obtain ⟨⟨f6, κ6, μ6, eA6, -, -, -⟩, eu6⟩ := hc6
    refine r_top eu6 ?_
    have hGE : Gs A A6 d := (Gs.of hGD).tr (by rw [eA6]; exact Gs.FH)
    clear eu6 u6 eA6
    generalize A6 = E2 at hGE ⊢
    refine r_isub (pc := 54) C dX1_ifFence_54 ?_
    refine r_iret (pc := 55) C E rfl (by omega) (by omega) dX1_ifFence_55 ?_
    refine ⟨⟨b99, b98⟩, ?_, by first | exact hGE | exact Gs.of hGq⟩
    rw [show nt (nI k) = k from nt_n (by omega)]
    unfold ifFA
    first
      | (rw [if_pos h0, ← fenceS_M.cost]; done)
      | rw [if_neg h0]
  · skip
    refine r_topO (hFn h0) ?_
    refine r_nstore_5 (pc := 17) C dX1_ifFence_17 rfl ?_
    refine r_nload_5 (pc := 19) C dX1_ifFence_19 ?_
    refine r_ifnonnullN (pc := 21) C dX1_ifFence_21 ?_
    refine r_iconst (pc := 24) C dX1_ifFence_24 ci_m1 ?_
    refine r_goto (pc := 25) (tgt := 55) C dX1_ifFence_25 (by decide) ?_
    refine r_iret (pc := 55) C E rfl (by omega) (by omega) dX1_ifFence_55 ?_
    refine ⟨⟨b99, b98⟩, ?_, by first | exact hGE | exact Gs.of hGq⟩
    rw [show nt (nI k) = k from nt_n (by omega)]
    unfold ifFA
    first
      | (rw [if_pos h0, ← fenceS_M.cost]; done)
      | rw [if_neg h0]
set_option maxHeartbeats 4000000 in
theorem c_bestFence {g : GZ} {A : HA} {c a : Nat} {d : Nat → Nat} {σ : Rw} (hc : (A.G c).1 = 1) (hn : A.R c 0 = some a) (hL : Ly A a d σ) (hv : Lv A.I a d σ) (hJ : RowJ σ) (hG : GdK g) (hDE : DeK g A) (hnam : ∀ k, k < rK σ → ∃ nm, A.R (d (30 + k)) 0 = some nm) (h999 : rD σ ≤ 999) {w : Int32} : Ct g wI yX1_bestFence (.code yX1_bestFence cX1_bestFence 7 (Option.some Jvm.ClassFile.FieldType.int)) 11 2321 77446 [.ref c, .int w] (A) (fun u A' => inZ w 1 5 ∧ u = oB σ (bestS σ (nt w) (rC σ)) ∧ Gw A A' Non) (fun q A' => ¬ inZ w 1 5 ∧ TX A A' Non 19 q) := by
  refine Ct.of [some (.ref c), some (.int w), none, none, none, none, none] (by decide) rfl rfl fun z C hx hnm E => ?_
  have hW := hJ.w
  have hS := hW.s
  have hw3 := hS.w3
  have hw10 := hS.w10
  have hh8 := hS.h8
  have hc80 := hS.c80
  have k6 := hW.k6
  have g6 := hW.g6
  have hC : ∀ c, c < 80 → CelF σ c := fun c hc => (hJ.c hc).fe
  have d9 := hW.d9
  refine r_Z fun hZ => ?_
  refine r_iload_1 (pc := 0) C dX1_bestFence_0 ?_
  refine r_i2l (pc := 1) C dX1_bestFence_1 ?_
  refine r_lconst (pc := 2) (v := 1) C dX1_bestFence_2 (by decide) ?_
  refine r_ldc2 (pc := 3) C q2147 dX1_bestFence_3 ?_
  refine r_S3io (pc := 6) C (c_inZ (p := 1) (q := 5) (by decide) (by decide)) sl_X1_114 (by decide) (by omega) (by omega) (Nat.le_of_ble_eq_true rfl) rfl dX1_bestFence_6 (fun u1 A1 hc1 => ?_)
  refine r_top hc1.1 ?_
  refine r_eqA hc1.2 ?_
  clear hc1 A1 u1
  refine r_S1vx (pc := 9) C (c_argument) sl_X1_118 (by decide) (by omega) (by omega) (Nat.le_of_ble_eq_true rfl) rfl dX1_bestFence_9 (fun q A9 hp hE => r_out C E (by rw [hx]; exact fun x h => nomatch h) hE.choose_spec (by omega) (by omega) (hp)) (fun u2 A2 hc2 => ?_)
  obtain ⟨hp2, eA2⟩ := hc2
  refine r_eqA eA2 ?_
  clear eA2 A2 u2
  have b99 : inZ w 1 5 := by assumption
  obtain ⟨n, hn5, rfl⟩ := inZ_of2 (n := 5) rfl ⟨(by have := b99.1; omega), b99.2⟩ (by omega)
  refine r_iconst (pc := 12) C dX1_bestFence_12 ci_m1 ?_
  refine r_istore_2 (pc := 13) C dX1_bestFence_13 rfl ?_
  refine r_iconst (pc := 14) C dX1_bestFence_14 ci_m1 ?_
  refine r_istore_3 (pc := 15) C dX1_bestFence_15 rfl ?_
  refine r_iconst (pc := 16) C dX1_bestFence_16 ci_0 ?_
  refine r_istore_4 (pc := 17) C dX1_bestFence_17 rfl ?_
  have lp19_3 : ∀ (fu : Nat) (k : Nat) (F : HA) (hk : k ≤ rC σ) (hGF : Gw A F Non), rC σ - k < fu → wa g z (1 + 29 * k) (6 + 968 * k) (F) 19 [some (.ref c), some (.int (nI (n))), some (.int (oB σ (bestS σ n k))), some (.int (oM (bestS σ n k))), some (.int (nI (k))), none, none] [] := by
    intro fu
    induction fu with
    | zero => intro k  F  hk hGF hm19; exact absurd hm19 (Nat.not_lt_zero _)
    | succ fu ih19 =>
      intro k  F  hk hGF hm19
      obtain ⟨hcF, hnF, hLF, hvF, hDEF, hnamF⟩ := CW.gw (show CW g A c a d σ from ⟨hc, hn, hL, hv, hDE, hnam⟩) hZ hGF
      refine r_iload_4 (pc := 19) C dX1_bestFence_19 ?_
      refine r_aload_0 (pc := 21) C dX1_bestFence_21 ?_
      refine r_getR (pc := 22) C fl_X1_24_1 (by exact hcF) rfl (by exact hnF) dX1_bestFence_22 ?_
      refine r_ngetI (pc := 25) C fn_X1_446_2 (ly_g hLF) rfl dX1_bestFence_25 ?_
      refine r_top hvF.c ?_
      refine r_icmp_ge (pc := 28) (tgt := 83) C dX1_bestFence_28 (by decide) (fun b28 => ?_) (fun b28 => ?_)
      · skip
        have b28 := (nI_le2 (by omega) (by omega)).mp b28
        refine r_iload_2 (pc := 83) C dX1_bestFence_83 ?_
        refine r_iret (pc := 84) C E rfl (by omega) (by omega) dX1_bestFence_84 ?_
        have e9 : k = rC σ := by omega
        subst e9
        exact ⟨b99, by rw [nt_n (by omega)], hGF⟩
      · skip
        have b28 := (not_congr (nI_le2 (by omega) (by omega))).mp b28
        refine r_aload_0 (pc := 31) C dX1_bestFence_31 ?_
        refine r_iload_4 (pc := 32) C dX1_bestFence_32 ?_
        refine r_VH1n (pc := 34) C (c_fencedAt hcF hnF hLF hvF hJ hG hDEF hnamF h999 (k := k) (by omega)) vl_X1_441 (by exact hcF) (by decide) (by omega) (by omega) (Nat.le_of_ble_eq_true rfl) rfl dX1_bestFence_34 (fun u4 A4 hc4 => ?_)
        obtain ⟨⟨hFy, hFn⟩, hGq⟩ := hc4
        generalize A4 = D at hFy hFn hGq ⊢
        generalize u4 = o9 at hFy hFn ⊢
        rcases Classical.em (whyF σ k = nI 0) with h0 | h0
        · skip
          obtain ⟨q, d2, eu9, hLq, hvq, hoq⟩ := hFy h0
          refine r_topO eu9 ?_
          have hw9 := whyF_0 h0
          have hJq := fenceS_J hJ (by omega) hw9.1 hw9.2.1 hw9.2.2.1 hw9.2.2.2
          have hdq : rD (fenceS σ k) = rD σ := fenceS_d
          refine r_astore_5 (pc := 37) C dX1_bestFence_37 rfl ?_
          refine r_aload_5 (pc := 39) C dX1_bestFence_39 ?_
          refine r_ifnonnull (pc := 41) (tgt := 47) C dX1_bestFence_41 (by decide) ?_
          refine r_aload_5 (pc := 47) C dX1_bestFence_47 ?_
          refine r_iload_1 (pc := 49) C dX1_bestFence_49 ?_
          refine r_V1ro (pc := 50) C (l_behind hLq hvq hJq hG (n := n) (by omega)) vl_X1_430 (ly_g hLq) (by decide) (by omega) (by omega) (Nat.le_of_ble_eq_true rfl) rfl dX1_bestFence_50 (fun u5 A5 hc5 => ?_)
          obtain ⟨hNb, eu5⟩ := hc5
          refine r_topR eu5 ?_
          clear eu5 u5
          generalize A5 = E1 at hNb ⊢
          have hJd := (days_J hJq n (by omega)).1
          have hGE : Gw F E1 Non := hGq.tr2 hNb.2.2.gw (fun y hy z => hoq y hy z)
          refine r_V0io (pc := 53) C (l_grassAll hNb.1 hNb.2.1 hJd.w (fun c hc => (hJd.c hc).fe)) vl_X1_233 (ly_g hNb.1) (by decide) (by omega) (by omega) (Nat.le_of_ble_eq_true rfl) rfl dX1_bestFence_53 (fun u6 A6 hc6 => ?_)
          refine r_top (hc6.1.trans (congrArg nI (fenceS_M.days n).pal)) ?_
          refine r_eqA hc6.2 ?_
          have hgl : allG (daysR (fenceOn σ k) n) ≤ 720 := gb_le hW h999 hn5 h0
          clear hc6 A6 u6
          obtain ⟨hcE, hnE, hLE, hvE, hDEE, hnamE⟩ := CW.gw (show CW g A c a d σ from ⟨hc, hn, hL, hv, hDE, hnam⟩) hZ (hGF.tr hGE)
          refine r_istore_6 (pc := 56) C dX1_bestFence_56 rfl ?_
          rcases hb : bestS σ n k with _ | ⟨b0, m0⟩
          · skip
            refine r_eqL (lv' := [some (.ref c), some (.int (nI n)), some (.int (-1)), some (.int (-1)), some (.int (nI (k))), some (.ref q), some (.int (nI (allG (daysR (fenceOn σ k) n))))]) rfl ?_
            refine r_iload_6 (pc := 58) C dX1_bestFence_58 ?_
            refine r_iload_3 (pc := 60) C dX1_bestFence_60 ?_
            refine r_icmp_gt (pc := 61) (tgt := 67) C dX1_bestFence_61 (by decide) (fun b61 => ?_) (fun b61 => ?_)
            · skip
              refine r_aload_0 (pc := 67) C dX1_bestFence_67 ?_
              refine r_iload_4 (pc := 68) C dX1_bestFence_68 ?_
              refine r_V1io (pc := 70) C (c_told hcE hnE hLE hvE hJ (by omega)) vl_X1_389 (by exact hcE) (by decide) (by omega) (by omega) (Nat.le_of_ble_eq_true rfl) rfl dX1_bestFence_70 (fun u7 A7 hc7 => ?_)
              refine r_top hc7.1 ?_
              refine r_eqA hc7.2 ?_
              clear hc7 A7 u7
              refine r_istore_2 (pc := 73) C dX1_bestFence_73 rfl ?_
              refine r_iload_6 (pc := 74) C dX1_bestFence_74 ?_
              refine r_istore_3 (pc := 76) C dX1_bestFence_76 rfl ?_
              refine r_iinc_4 (pc := 77) C dX1_bestFence_77 (nI_inc _) rfl ?_
              refine r_goto (pc := 80) (tgt := 19) C dX1_bestFence_80 (by decide) ?_
              refine r_widen (k' := 1 + 29 * (k + 1)) (n' := 6 + 968 * (k + 1)) (by omega) (by omega) ?_
              first | (refine r_eqL (lv' := [some (.ref c), some (.int (nI n)), some (.int (oB σ (bestS σ n (k + 1)))), some (.int (oM (bestS σ n (k + 1)))), some (.int (nI (k + 1))), some .null, none]) (by rw [best_no h0]) ?_) | (refine r_eqL (lv' := [some (.ref c), some (.int (nI n)), some (.int (oB σ (bestS σ n (k + 1)))), some (.int (oM (bestS σ n (k + 1)))), some (.int (nI (k + 1))), some (.ref q), some (.int (nI (allG (daysR (fenceOn σ k) n))))]) (by first | (rw [best_0 h0 hb]; rfl) | (rw [best_1 h0 hb b61]; rfl) | (rw [best_2 h0 hb b61]; rfl)) ?_)
              refine r_forget (lv' := [some _, some _, some _, some _, some _, none, none]) ⟨rfl, rfl, rfl, rfl, rfl, trivial⟩ ?_
              exact ih19 (k + 1) _ (by omega) (by first | exact hGF.tr hGE | exact hGF.tr hGq) (by omega)
            · skip
              exact absurd (m1_lt (by omega)) b61
          · skip
            refine r_eqL (lv' := [some (.ref c), some (.int (nI n)), some (.int (oB σ (some (b0, m0)))), some (.int (nI m0)), some (.int (nI (k))), some (.ref q), some (.int (nI (allG (daysR (fenceOn σ k) n))))]) rfl ?_
            have hm0 := best_le hW h999 (show n ≤ 5 by omega) k hb
            refine r_iload_6 (pc := 58) C dX1_bestFence_58 ?_
            refine r_iload_3 (pc := 60) C dX1_bestFence_60 ?_
            refine r_icmp_gt (pc := 61) (tgt := 67) C dX1_bestFence_61 (by decide) (fun b61 => ?_) (fun b61 => ?_)
            · skip
              have b61 := (nI_lt2 (by omega) (by omega)).mp b61
              refine r_aload_0 (pc := 67) C dX1_bestFence_67 ?_
              refine r_iload_4 (pc := 68) C dX1_bestFence_68 ?_
              refine r_V1io (pc := 70) C (c_told hcE hnE hLE hvE hJ (by omega)) vl_X1_389 (by exact hcE) (by decide) (by omega) (by omega) (Nat.le_of_ble_eq_true rfl) rfl dX1_bestFence_70 (fun u8 A8 hc8 => ?_)
              refine r_top hc8.1 ?_
              refine r_eqA hc8.2 ?_
              clear hc8 A8 u8
              refine r_istore_2 (pc := 73) C dX1_bestFence_73 rfl ?_
              refine r_iload_6 (pc := 74) C dX1_bestFence_74 ?_
              refine r_istore_3 (pc := 76) C dX1_bestFence_76 rfl ?_
              refine r_iinc_4 (pc := 77) C dX1_bestFence_77 (nI_inc _) rfl ?_
              refine r_goto (pc := 80) (tgt := 19) C dX1_bestFence_80 (by decide) ?_
              refine r_widen (k' := 1 + 29 * (k + 1)) (n' := 6 + 968 * (k + 1)) (by omega) (by omega) ?_
              first | (refine r_eqL (lv' := [some (.ref c), some (.int (nI n)), some (.int (oB σ (bestS σ n (k + 1)))), some (.int (oM (bestS σ n (k + 1)))), some (.int (nI (k + 1))), some .null, none]) (by rw [best_no h0]) ?_) | (refine r_eqL (lv' := [some (.ref c), some (.int (nI n)), some (.int (oB σ (bestS σ n (k + 1)))), some (.int (oM (bestS σ n (k + 1)))), some (.int (nI (k + 1))), some (.ref q), some (.int (nI (allG (daysR (fenceOn σ k) n))))]) (by first | (rw [best_0 h0 hb]; rfl) | (rw [best_1 h0 hb b61]; rfl) | (rw [best_2 h0 hb b61]; rfl)) ?_)
              refine r_forget (lv' := [some _, some _, some _, some _, some _, none, none]) ⟨rfl, rfl, rfl, rfl, rfl, trivial⟩ ?_
              exact ih19 (k + 1) _ (by omega) (by first | exact hGF.tr hGE | exact hGF.tr hGq) (by omega)
            · skip
              have b61 := (not_congr (nI_lt2 (by omega) (by omega))).mp b61
              refine r_goto (pc := 64) (tgt := 77) C dX1_bestFence_64 (by decide) ?_
              refine r_iinc_4 (pc := 77) C dX1_bestFence_77 (nI_inc _) rfl ?_
              refine r_goto (pc := 80) (tgt := 19) C dX1_bestFence_80 (by decide) ?_
              refine r_widen (k' := 1 + 29 * (k + 1)) (n' := 6 + 968 * (k + 1)) (by omega) (by omega) ?_
              first | (refine r_eqL (lv' := [some (.ref c), some (.int (nI n)), some (.int (oB σ (bestS σ n (k + 1)))), some (.int (oM (bestS σ n (k + 1)))), some (.int (nI (k + 1))), some .null, none]) (by rw [best_no h0]) ?_) | (refine r_eqL (lv' := [some (.ref c), some (.int (nI n)), some (.int (oB σ (bestS σ n (k + 1)))), some (.int (oM (bestS σ n (k + 1)))), some (.int (nI (k + 1))), some (.ref q), some (.int (nI (allG (daysR (fenceOn σ k) n))))]) (by first | (rw [best_0 h0 hb]; rfl) | (rw [best_1 h0 hb b61]; rfl) | (rw [best_2 h0 hb b61]; rfl)) ?_)
              refine r_forget (lv' := [some _, some _, some _, some _, some _, none, none]) ⟨rfl, rfl, rfl, rfl, rfl, trivial⟩ ?_
              exact ih19 (k + 1) _ (by omega) (by first | exact hGF.tr hGE | exact hGF.tr hGq) (by omega)
        · skip
          refine r_topO (hFn h0) ?_
          refine r_nstore_5 (pc := 37) C dX1_bestFence_37 rfl ?_
          refine r_nload_5 (pc := 39) C dX1_bestFence_39 ?_
          refine r_ifnonnullN (pc := 41) C dX1_bestFence_41 ?_
          refine r_goto (pc := 44) (tgt := 77) C dX1_bestFence_44 (by decide) ?_
          refine r_iinc_4 (pc := 77) C dX1_bestFence_77 (nI_inc _) rfl ?_
          refine r_goto (pc := 80) (tgt := 19) C dX1_bestFence_80 (by decide) ?_
          refine r_widen (k' := 1 + 29 * (k + 1)) (n' := 6 + 968 * (k + 1)) (by omega) (by omega) ?_
          first | (refine r_eqL (lv' := [some (.ref c), some (.int (nI n)), some (.int (oB σ (bestS σ n (k + 1)))), some (.int (oM (bestS σ n (k + 1)))), some (.int (nI (k + 1))), some .null, none]) (by rw [best_no h0]) ?_) | (refine r_eqL (lv' := [some (.ref c), some (.int (nI n)), some (.int (oB σ (bestS σ n (k + 1)))), some (.int (oM (bestS σ n (k + 1)))), some (.int (nI (k + 1))), some (.ref q), some (.int (nI (allG (daysR (fenceOn σ k) n))))]) (by first | (rw [best_0 h0 hb]; rfl) | (rw [best_1 h0 hb b61]; rfl) | (rw [best_2 h0 hb b61]; rfl)) ?_)
          refine r_forget (lv' := [some _, some _, some _, some _, some _, none, none]) ⟨rfl, rfl, rfl, rfl, rfl, trivial⟩ ?_
          exact ih19 (k + 1) _ (by omega) (by first | exact hGF.tr hGE | exact hGF.tr hGq) (by omega)
  refine r_widen (k' := 1 + 29 * 0) (n' := 6 + 968 * 0) (by omega) (by omega) ?_
  exact lp19_3 _ 0 A (Nat.zero_le _) Gw.rf (Nat.lt_succ_self _)
set_option maxHeartbeats 4000000 in
theorem c_ifHaste {g : GZ} {A : HA} {c a : Nat} {d : Nat → Nat} {σ : Rw} (hc : (A.G c).1 = 1) (hn : A.R c 0 = some a) (hL : Ly A a d σ) (hv : Lv A.I a d σ) (hJ : RowJ σ) (hG : GdK g) (hDE : DeK g A) (hnam : ∀ k, k < rK σ → ∃ nm, A.R (d (30 + k)) 0 = some nm) (h999 : rD σ ≤ 999) {x y w : Int32} : Ct g wI yX1_ifHaste (.code yX1_ifHaste cX1_ifHaste 6 (Option.some Jvm.ClassFile.FieldType.int)) 12 52 1898 [.ref c, .int x, .int y, .int w] (A) (fun u A' => inW σ x ∧ (inZ y 0 9 ∧ inZ w 0 60) ∧ u = nI (allG (daysR (hasteS σ (nt x) (nt y)) (nt w))) - nI (allG (daysR σ (nt w))) ∧ Gw A A' Non) (fun q A' => T2 A A' (inW σ x) (inZ y 0 9 ∧ inZ w 0 60) q) := by
  refine Ct.of [some (.ref c), some (.int x), some (.int y), some (.int w), none, none] (by decide) rfl rfl fun z C hx hnm E => ?_
  have hW := hJ.w
  have hS := hW.s
  have hw3 := hS.w3
  have hw10 := hS.w10
  have hh8 := hS.h8
  have hc80 := hS.c80
  have k6 := hW.k6
  have g6 := hW.g6
  have hC : ∀ c, c < 80 → CelF σ c := fun c hc => (hJ.c hc).fe
  have d9 := hW.d9
  refine r_Z fun hZ => ?_
  refine r_Zo fun hZo => ?_
  refine r_aload_0 (pc := 0) C dX1_ifHaste_0 ?_
  refine r_iload_1 (pc := 1) C dX1_ifHaste_1 ?_
  refine r_V1rx (pc := 2) C (c_walkerAt hc hn hL hv hJ) vl_X1_330 (by exact hc) (by decide) (by omega) (by omega) (Nat.le_of_ble_eq_true rfl) rfl dX1_ifHaste_2 (fun q A9 hp hE => r_out C E (by rw [hx]; exact fun x h => nomatch h) hE.choose_spec (by omega) (by omega) (Or.inl hp)) (fun u1 A1 hc1 => ?_)
  obtain ⟨hi1, eu1, eA1⟩ := hc1
  refine r_topR eu1 ?_
  refine r_eqA eA1 ?_
  clear eu1 eA1 A1 u1
  have b98 : inW σ x := by assumption
  have hkx : nt x < rK σ := by obtain ⟨k, hk, rfl⟩ := inZ_of (n := rK σ) b98 (by omega); rw [nt_n (by omega)]; exact hk
  refine r_astore_4 (pc := 5) C dX1_ifHaste_5 rfl ?_
  refine r_iload_2 (pc := 7) C dX1_ifHaste_7 ?_
  refine r_i2l (pc := 8) C dX1_ifHaste_8 ?_
  refine r_lconst (pc := 9) (v := 0) C dX1_ifHaste_9 (by decide) ?_
  refine r_ldc2 (pc := 10) C q2155 dX1_ifHaste_10 ?_
  refine r_S3io (pc := 13) C (c_inZ (p := 0) (q := 9) (by decide) (by decide)) sl_X1_114 (by decide) (by omega) (by omega) (Nat.le_of_ble_eq_true rfl) rfl dX1_ifHaste_13 (fun u2 A2 hc2 => ?_)
  refine r_top hc2.1 ?_
  refine r_eqA hc2.2 ?_
  clear hc2 A2 u2
  refine r_if_eq (pc := 16) (tgt := 35) C dX1_ifHaste_16 (by decide) (fun b16 => ?_) (fun b16 => ?_)
  · skip
    have b16 := bI_0.mp b16
    refine r_iconst (pc := 35) C dX1_ifHaste_35 ci_0 ?_
    refine r_S1vx (pc := 36) C (c_argumentNo) sl_X1_118 (by decide) (by omega) (by omega) (Nat.le_of_ble_eq_true rfl) rfl dX1_ifHaste_36 (fun q A9 hp hE => r_out C E (by rw [hx]; exact fun x h => nomatch h) hE.choose_spec (by omega) (by omega) (Or.inr ⟨b98, fun q9 => by first | exact absurd q9.1 (by assumption) | exact absurd q9.2 (by assumption), hp⟩)) (fun u3 A3 hc3 => ?_)
    exact hc3.elim
  · skip
    have b16 := bI_n.mp b16
    refine r_iload_3 (pc := 19) C dX1_ifHaste_19 ?_
    refine r_i2l (pc := 20) C dX1_ifHaste_20 ?_
    refine r_lconst (pc := 21) (v := 0) C dX1_ifHaste_21 (by decide) ?_
    refine r_ldc2 (pc := 22) C q2104 dX1_ifHaste_22 ?_
    refine r_S3io (pc := 25) C (c_inZ (p := 0) (q := 60) (by decide) (by decide)) sl_X1_114 (by decide) (by omega) (by omega) (Nat.le_of_ble_eq_true rfl) rfl dX1_ifHaste_25 (fun u4 A4 hc4 => ?_)
    refine r_top hc4.1 ?_
    refine r_eqA hc4.2 ?_
    clear hc4 A4 u4
    refine r_if_eq (pc := 28) (tgt := 35) C dX1_ifHaste_28 (by decide) (fun b28 => ?_) (fun b28 => ?_)
    · skip
      have b28 := bI_0.mp b28
      refine r_iconst (pc := 35) C dX1_ifHaste_35 ci_0 ?_
      refine r_S1vx (pc := 36) C (c_argumentNo) sl_X1_118 (by decide) (by omega) (by omega) (Nat.le_of_ble_eq_true rfl) rfl dX1_ifHaste_36 (fun q A9 hp hE => r_out C E (by rw [hx]; exact fun x h => nomatch h) hE.choose_spec (by omega) (by omega) (Or.inr ⟨b98, fun q9 => by first | exact absurd q9.1 (by assumption) | exact absurd q9.2 (by assumption), hp⟩)) (fun u5 A5 hc5 => ?_)
      exact hc5.elim
    · skip
      have b28 := bI_n.mp b28
      refine r_iconst (pc := 31) C dX1_ifHaste_31 ci_1 ?_
      refine r_goto (pc := 32) (tgt := 36) C dX1_ifHaste_32 (by decide) ?_
      refine r_S1vo (pc := 36) C (c_argumentYes) sl_X1_118 (by decide) (by omega) (by omega) (Nat.le_of_ble_eq_true rfl) rfl dX1_ifHaste_36 (fun u6 A6 hc6 => ?_)
      refine r_eqA hc6 ?_
      clear hc6 A6 u6
      have b97 : inZ y 0 9 ∧ inZ w 0 60 := ⟨by assumption, by assumption⟩
      have b96 := b98
      obtain ⟨k, hk, rfl⟩ := inZ_of (n := rK σ) b96 (by omega)
      obtain ⟨i, hi9, rfl⟩ := inZ_of2 (n := 9) rfl b97.1 (by omega)
      obtain ⟨n, hn6, rfl⟩ := inZ_of2 (n := 60) rfl b97.2 (by omega)
      have hJh : RowJ (hasteS σ k i) := hasteS_J hJ (by omega) hi9
      have hdh : rD (hasteS σ k i) = rD σ := upd_rD (by omega)
      have hJp := (days_J hJ n (by omega)).1
      refine r_aload_0 (pc := 39) C dX1_ifHaste_39 ?_
      refine r_getR (pc := 40) C fl_X1_24_1 (by exact hc) rfl (by exact hn) dX1_ifHaste_40 ?_
      refine r_V0r (pc := 43) C (l_copy hL hv hW hC hDE hnam) vl_X1_187 (ly_g hL) (by decide) (by omega) (by omega) (Nat.le_of_ble_eq_true rfl) rfl dX1_ifHaste_43 (fun u7 A7 hc7 => ?_)
      obtain ⟨d2, hCp⟩ := hc7
      generalize A7 = B at hCp ⊢
      generalize u7 = q at hCp ⊢
      have hN := Nx.rf hCp.2.1 hCp.2.2.1
      refine r_astore_5 (pc := 46) C dX1_ifHaste_46 rfl ?_
      refine r_aload_5 (pc := 48) C dX1_ifHaste_48 ?_
      refine r_iload_1 (pc := 50) C dX1_ifHaste_50 ?_
      refine r_V1ro (pc := 51) C (l_walker hCp.2.1 hCp.2.2.1 hW (k := k) (by omega)) vl_X1_271 (ly_g hCp.2.1) (by decide) (by omega) (by omega) (Nat.le_of_ble_eq_true rfl) rfl dX1_ifHaste_51 (fun u8 A8 hc8 => ?_)
      refine r_topR hc8.1 ?_
      refine r_eqA hc8.2 ?_
      clear hc8 A8 u8
      refine r_iload_2 (pc := 54) C dX1_ifHaste_54 ?_
      refine r_nputI (pc := 55) C fn_X1_333_5 (ly_w hCp.2.1 hk).2 rfl (fun _ _ _ h => by cases h; rfl) rfl rfl rfl dX1_ifHaste_55 ?_
      refine r_wr hN (by omega) (j := 75 + 13 * k + 9) (w := nI i) (dm_wk (by omega) (by omega) (by omega) (by omega)) (adj_w (by omega) (by omega) _) (sA_wk (a := q) (d := d2) (k := k) (v := 9) (by omega) (by omega)).1.symm (sA_wk (a := q) (d := d2) (k := k) (v := 9) (by omega) (by omega)).2.symm fun B1 hN1 hs1 hq1 => ?_
      have hN1 : Nx B B1 q d2 (hasteS σ k i) := hN1
      refine r_aload_5 (pc := 58) C dX1_ifHaste_58 ?_
      refine r_iload_3 (pc := 60) C dX1_ifHaste_60 ?_
      refine r_V1ro (pc := 61) C (l_behind hN1.1 hN1.2.1 hJh hG (n := n) (by omega)) vl_X1_430 (ly_g hN1.1) (by decide) (by omega) (by omega) (Nat.le_of_ble_eq_true rfl) rfl dX1_ifHaste_61 (fun u9 A9 hc9 => ?_)
      obtain ⟨hNb, eu9⟩ := hc9
      refine r_topR eu9 ?_
      clear eu9 u9
      generalize A9 = D at hNb ⊢
      have hJd := (days_J hJh n (by omega)).1
      have hGD := cp_gw hZo hCp (hN1.tr hNb)
      obtain ⟨hcD, hnD, hLD, hvD, hDED, hnamD⟩ := CW.gw (show CW g A c a d σ from ⟨hc, hn, hL, hv, hDE, hnam⟩) hZ hGD
      refine r_V0io (pc := 64) C (l_grassAll hNb.1 hNb.2.1 hJd.w (fun c hc => (hJd.c hc).fe)) vl_X1_233 (ly_g hNb.1) (by decide) (by omega) (by omega) (Nat.le_of_ble_eq_true rfl) rfl dX1_ifHaste_64 (fun u10 A10 hc10 => ?_)
      refine r_top hc10.1 ?_
      refine r_eqA hc10.2 ?_
      clear hc10 A10 u10
      refine r_aload_0 (pc := 67) C dX1_ifHaste_67 ?_
      refine r_iload_3 (pc := 68) C dX1_ifHaste_68 ?_
      refine r_V1rx (pc := 69) C (c_behind hcD hnD hLD hvD hJ hG hDED hnamD h999) vl_X1_434 (by exact hcD) (by decide) (by omega) (by omega) (Nat.le_of_ble_eq_true rfl) rfl dX1_ifHaste_69 (fun q A9 hp hE => r_out C E (by rw [hx]; exact fun x h => nomatch h) hE.choose_spec (by omega) (by omega) (absurd b97.2 hp.1)) (fun u11 A11 hc11 => ?_)
      obtain ⟨hi11, ⟨d3, hLp, hvp⟩, hGp⟩ := hc11
      generalize A11 = E1 at hLp hvp hGp ⊢
      generalize u11 = p at hLp hvp ⊢
      rw [nt_n (by omega)] at hLp hvp
      refine r_V0io (pc := 72) C (l_grassAll hLp hvp hJp.w (fun c hc => (hJp.c hc).fe)) vl_X1_233 (ly_g hLp) (by decide) (by omega) (by omega) (Nat.le_of_ble_eq_true rfl) rfl dX1_ifHaste_72 (fun u12 A12 hc12 => ?_)
      refine r_top hc12.1 ?_
      refine r_eqA hc12.2 ?_
      clear hc12 A12 u12
      refine r_isub (pc := 75) C dX1_ifHaste_75 ?_
      refine r_iret (pc := 76) C E rfl (by omega) (by omega) dX1_ifHaste_76 ?_
      exact ⟨b98, b97, by rw [nt_n (show k < 2147483648 by omega), nt_n (show i < 2147483648 by omega), nt_n (show n < 2147483648 by omega)], hGD.tr hGp⟩
