/-! THE COMPONENT, 38: what a cell costs -/
set_option maxRecDepth 100000
set_option maxHeartbeats 4000000 in
theorem c_cost {g : GZ} {A : HA} {c a : Nat} {d : Nat → Nat} {σ : Rw} (hc : (A.G c).1 = 1) (hn : A.R c 0 = some a) (hL : Ly A a d σ) (hv : Lv A.I a d σ) (hJ : RowJ σ) {x y w : Int32} : Ct g wI yX1_cost (.code yX1_cost cX1_cost 6 (Option.some Jvm.ClassFile.FieldType.int)) 10 2 12 [.ref c, .int x, .int y, .int w] (A) (fun u A' => (inW σ x ∧ inC2 σ y w) ∧ u = oI (ecost σ (nt x) 0 (cat σ y w)) ∧ A' = A) (fun q A' => ¬ (inW σ x ∧ inC2 σ y w) ∧ TX A A' Non 20 q) := by
  refine Ct.of [some (.ref c), some (.int x), some (.int y), some (.int w), none, none] (by decide) rfl rfl fun z C hx hnm E => ?_
  have hW := hJ.w
  have hS := hW.s
  have hw3 := hS.w3
  have hw10 := hS.w10
  have hh8 := hS.h8
  have hc80 := hS.c80
  have k6 := hW.k6
  have g6 := hW.g6
  have hC : ∀ c, c < 80 → CelF σ c := fun c hc => (hJ.c hc).fe
  have d9 := hW.d9
  refine r_aload_0 (pc := 0) C dX1_cost_0 ?_
  refine r_iload_1 (pc := 1) C dX1_cost_1 ?_
  refine r_V1rx (pc := 2) C (c_walkerAt hc hn hL hv hJ) vl_X1_330 (by exact hc) (by decide) (by omega) (by omega) (Nat.le_of_ble_eq_true rfl) rfl dX1_cost_2 (fun q A9 hp hE => r_out C E (by rw [hx]; exact fun x h => nomatch h) hE.choose_spec (by omega) (by omega) (⟨fun q => hp.1 q.1, hp.2⟩)) (fun u1 A1 hc1 => ?_)
  obtain ⟨hi1, eu1, eA1⟩ := hc1
  refine r_topR eu1 ?_
  refine r_eqA eA1 ?_
  clear eu1 eA1 A1 u1
  have b99 : inW σ x := by assumption
  have b97 := b99
  obtain ⟨k, hkx, rfl⟩ := inZ_of (n := rK σ) b97 (by omega)
  rw [show nt (nI k) = k from nt_n (by omega)]
  refine r_astore_4 (pc := 5) C dX1_cost_5 rfl ?_
  refine r_aload_0 (pc := 7) C dX1_cost_7 ?_
  refine r_iload_2 (pc := 8) C dX1_cost_8 ?_
  refine r_iload_3 (pc := 9) C dX1_cost_9 ?_
  refine r_V2ix (pc := 10) C (c_at hc hn hL hv hJ) vl_X1_283 (by exact hc) (by decide) (by omega) (by omega) (Nat.le_of_ble_eq_true rfl) rfl dX1_cost_10 (fun q A9 hp hE => r_out C E (by rw [hx]; exact fun x h => nomatch h) hE.choose_spec (by omega) (by omega) (⟨fun q => hp.1 q.2, hp.2⟩)) (fun u2 A2 hc2 => ?_)
  obtain ⟨hi2, eu2, eA2⟩ := hc2
  refine r_top eu2 ?_
  refine r_eqA eA2 ?_
  clear eu2 eA2 A2 u2
  have b98 : inC2 σ y w := by assumption
  have hcc : cat σ y w < rC σ := by obtain ⟨i, hi, rfl⟩ := inZ_of b98.1 (by omega); obtain ⟨j, hj, rfl⟩ := inZ_of b98.2 (by omega); rw [cat_n (by omega) (by omega)]; exact at_lt hS hi hj
  refine r_istore_5 (pc := 13) C dX1_cost_13 rfl ?_
  refine r_aload_0 (pc := 15) C dX1_cost_15 ?_
  refine r_getR (pc := 16) C fl_X1_24_1 (by exact hc) rfl (by exact hn) dX1_cost_16 ?_
  refine r_ngetR (pc := 19) C fn_X1_296_2 (ly_g hL) rfl (ly_rf hL 10 (by decide)) dX1_cost_19 ?_
  refine r_iload_5 (pc := 22) C dX1_cost_22 ?_
  refine r_zald (pc := 24) C (ly_gf hL 10 (by decide)) rfl rfl (lt_eq (by omega) (ly_nf hL 10 (by decide) (by decide))) (by omega) dX1_cost_24 ?_
  refine r_top ((hv.fence hcc).trans (fen_bI (hC _ (by omega)))) ?_
  refine r_if_eq (pc := 25) (tgt := 32) C dX1_cost_25 (by decide) (fun b25 => ?_) (fun b25 => ?_)
  · skip
    have b25 := bI_0.mp b25
    refine r_aload_0 (pc := 32) C dX1_cost_32 ?_
    refine r_getR (pc := 33) C fl_X1_24_1 (by exact hc) rfl (by exact hn) dX1_cost_33 ?_
    refine r_aload_4 (pc := 36) C dX1_cost_36 ?_
    refine r_iload_5 (pc := 38) C dX1_cost_38 ?_
    refine r_V2io (pc := 40) C (l_costOf hL hv hW hkx hcc) vl_X1_371 (ly_g hL) (by decide) (by omega) (by omega) (Nat.le_of_ble_eq_true rfl) rfl dX1_cost_40 (fun u3 A3 hc3 => ?_)
    refine r_top hc3.1 ?_
    refine r_eqA hc3.2 ?_
    clear hc3 A3 u3
    refine r_iret (pc := 43) C E rfl (by omega) (by omega) dX1_cost_43 ?_
    refine ⟨⟨b99, b98⟩, ?_, rfl⟩
    rw [show nt (nI k) = k from nt_n (by omega), ec_opn (by omega) (cel_f (hC _ (by omega)))]
    first
      | (rw [if_pos (fc_opn b25)]; rfl)
      | (rw [if_neg (fc_cls b25)]; rfl)
  · skip
    have b25 := bI_n.mp b25
    refine r_iconst (pc := 28) C dX1_cost_28 ci_m1 ?_
    refine r_goto (pc := 29) (tgt := 43) C dX1_cost_29 (by decide) ?_
    refine r_iret (pc := 43) C E rfl (by omega) (by omega) dX1_cost_43 ?_
    refine ⟨⟨b99, b98⟩, ?_, rfl⟩
    rw [show nt (nI k) = k from nt_n (by omega), ec_opn (by omega) (cel_f (hC _ (by omega)))]
    first
      | (rw [if_pos (fc_opn b25)]; rfl)
      | (rw [if_neg (fc_cls b25)]; rfl)
