/-! THE COMPONENT, 25: the reader: a cell -/
set_option maxRecDepth 100000
set_option maxHeartbeats 4000000 in
theorem t_cell {g : GZ} {A : HA} {r c bf L : Nat} {B : Nat → Nat} {a : Nat} (hR : RdT g A r c bf L B a) (hT : TkC g) (ha : a ≤ L) (hz : zS g) {b : Nat} {db : Nat → Nat} {σ : Rw} (hL : Ly A b db σ) (hv2 : Lv A.I b db σ) (hW : RowW σ)  : Ct g wI yX7_cell (.code yX7_cell cX7_cell 3 (Option.some Jvm.ClassFile.FieldType.int)) 14 (30 * (nxE B L (nxE B L a) - nxE B L a) + 4) (120 * (nxE B L (nxE B L a) - nxE B L a) + 32) [.ref r, .ref b] (A) (fun u A' => ∃ x y a', numR B L a 0 (rW σ - 1) = .inr (x, nxE B L a) ∧ numR B L (nxE B L a) 0 (rH σ - 1) = .inr (y, a') ∧ a' = nxE B L (nxE B L a) ∧ x < rW σ ∧ y < rH σ ∧ u = nI (rW σ * y + x) ∧ RdT g A' r c bf L B (nxE B L a) ∧ Gw A A' (fun y => y = r)) (fun q A' => (∃ e p, numR B L a 0 (rW σ - 1) = .inl (e, p) ∧ UnX A A' (fun y => y = r) q (nI e) (nI p)) ∨ (∃ x e p, numR B L a 0 (rW σ - 1) = .inr (x, nxE B L a) ∧ numR B L (nxE B L a) 0 (rH σ - 1) = .inl (e, p) ∧ UnX A A' (fun y => y = r) q (nI e) (nI p))) := by
  refine Ct.of [some (.ref r), some (.ref b), none] (by decide) rfl rfl fun z C hx hnm E => ?_
  obtain ⟨v, w, hsR, hv, hw⟩ := id hR
  have h9 := hsR.l9
  have hp9 := skp_le (B := B) ha
  have hp8 := skp_ge (B := B) (L := L) (a := a)
  have he9 := tkE_le (B := B) hp9
  have hnx : nxE B L a = (tkE B L (skp B L a)) := rfl
  have hnx2 : nxE B L (nxE B L a) = tkE B L (skp B L (nxE B L a)) := rfl
  have hB : ∀ k, k < L → B k ≤ 255 := fun k hk => (hsR.2.2.1.2 k hk).2
  have hnn := nxE_le (B := B) (L := L) (a := nxE B L a) (by omega)
  have hw3 := hW.s.w3
  have hw10 := hW.s.w10
  have hh8 := hW.s.h8
  have hh3 := hW.s.h3
  refine r_Z fun hZ => ?_
  refine r_aload_0 (pc := 0) C dX7_cell_0 ?_
  refine r_iconst (pc := 1) C dX7_cell_1 ci_0 ?_
  refine r_aload_1 (pc := 2) C dX7_cell_2 ?_
  refine r_ngetI (pc := 3) C fn_X7_159_2 (ly_g hL) rfl dX7_cell_3 ?_
  refine r_top (hv2.w.trans hW.s.w) ?_
  refine r_iconst (pc := 6) C dX7_cell_6 ci_1 ?_
  refine r_isub (pc := 7) C dX7_cell_7 ?_
  refine r_top (pk_sub (by omega)) ?_
  refine r_V2ix (pc := 8) C (t_number hR hT ha hz (lo := 0) (hi := rW σ - 1) (by decide) (by omega)) vl_X7_134 hsR.1.1 (by decide) (by omega) (by omega) (Nat.le_of_ble_eq_true rfl) rfl dX7_cell_8 (fun q A9 hp hE => r_out C E (by rw [hx]; exact fun x h => nomatch h) hE.choose_spec (by omega) (by omega) (Or.inl (by obtain ⟨e, p, e1, e2⟩ := hp; exact ⟨e, p, e1, e2.mono (fun _ _ q => q.elim)⟩))) (fun u1 A1 hc1 => ?_)
  obtain ⟨x, a1, e1, e2, e3, e4, hRD, hGw⟩ := hc1
  refine r_top e3 ?_
  subst e2
  clear e3 u1
  generalize A1 = D at hRD hGw ⊢
  obtain ⟨v5, w5, hsD, -, -⟩ := id hRD
  have hfx : ∀ y, Fp b db (rK σ) (rG σ) y → ¬ y = r := fun y hy e => by have h3 := fp_k hL hy; rw [e, hsR.1.1] at h3; omega
  have hLD := ly_gw hZ hL hGw hfx
  have hvD := lv_gw hZ hL hv2 hGw hfx
  refine r_istore_2 (pc := 11) C dX7_cell_11 rfl ?_
  refine r_aload_1 (pc := 12) C dX7_cell_12 ?_
  refine r_ngetI (pc := 13) C fn_X7_159_2 (ly_g hLD) rfl dX7_cell_13 ?_
  refine r_top (hvD.w.trans hW.s.w) ?_
  refine r_aload_0 (pc := 16) C dX7_cell_16 ?_
  refine r_iconst (pc := 17) C dX7_cell_17 ci_0 ?_
  refine r_aload_1 (pc := 18) C dX7_cell_18 ?_
  refine r_ngetI (pc := 19) C fn_X7_162_2 (ly_g hLD) rfl dX7_cell_19 ?_
  refine r_top (hvD.h.trans hW.s.h) ?_
  refine r_iconst (pc := 22) C dX7_cell_22 ci_1 ?_
  refine r_isub (pc := 23) C dX7_cell_23 ?_
  refine r_top (pk_sub (by omega)) ?_
  refine r_V2ix (pc := 24) C (t_seen hRD hT (by omega) (lo := 0) (hi := rH σ - 1) (by decide) (by omega)) vl_X7_98 hsD.1.1 (by decide) (by omega) (by omega) (Nat.le_of_ble_eq_true rfl) rfl dX7_cell_24 (fun q A9 hp hE => r_out C E (by rw [hx]; exact fun x h => nomatch h) hE.choose_spec (by omega) (by omega) (Or.inr (by obtain ⟨e, p, q1, q2⟩ := hp; exact ⟨x, e, p, e1, q1, q2.of hGw (fun _ _ q => q.elim)⟩))) (fun u2 A2 hc2 => ?_)
  obtain ⟨y, a2, f1, f2, f3, f4, fA⟩ := hc2
  refine r_top f3 ?_
  refine r_eqA fA ?_
  clear f3 fA A2 u2
  refine r_imul (pc := 27) C dX7_cell_27 ?_
  refine r_top (pk_mul _ _) ?_
  refine r_iload_2 (pc := 28) C dX7_cell_28 ?_
  refine r_iadd (pc := 29) C dX7_cell_29 ?_
  refine r_top (nI_add _ _) ?_
  refine r_iret (pc := 30) C E rfl (by omega) (by omega) dX7_cell_30 ?_
  exact ⟨x, y, a2, e1, f1, f2, by omega, by omega, rfl, hRD, hGw⟩
