/-! THE LAWN, 5: days -/
set_option maxRecDepth 100000
def grM (σ : Rw) (c : Nat) : Nat := if cGr σ c < 9 then 1 else 0
def gr1 (σ : Rw) (c m : Nat) : Rw := upd σ (153 + 5 * c + 1) (nI (cGr σ c + m))
def gr2 (σ : Rw) (c ac m : Nat) : Rw := upd (gr1 σ c m) (9 + ac) (gr1 σ c m (9 + ac) + nI m)
theorem fen_b2 {x : Int32} (h : x = nI 0 ∨ x = nI 1) : x = bI (x = nI 1) := by
  rcases h with q | q
  · rw [q, bI_f (by decide +kernel)]; decide +kernel
  · rw [q, bI_t rfl]; decide +kernel
theorem gr_9 {σ : Rw} {c : Nat} (h : σ (153 + 5 * c + 1) = nI (cGr σ c)) (h9 : cGr σ c ≤ 9) : σ (153 + 5 * c + 1) = nI 9 ↔ ¬ cGr σ c < 9 := by
  rw [h]
  exact ⟨fun q => by have := (nI_eqI (by omega) (by omega)).mp q; omega, fun q => congrArg nI (by omega)⟩
theorem gr2_0 {σ : Rw} {c ac : Nat} (hc : c < 80) (ha : ac < 12) (h : σ (153 + 5 * c + 1) = nI (cGr σ c)) (h9 : ¬ cGr σ c < 9) : gr2 σ c ac (grM σ c) = σ := by
  have e0 : grM σ c = 0 := if_neg h9
  rw [e0]
  have e1 : gr1 σ c 0 = σ := by
    show upd σ (153 + 5 * c + 1) (nI (cGr σ c)) = σ
    rw [← h, upd_id]
  unfold gr2
  rw [e1, i_0, upd_id]
theorem gr2_1 {σ : Rw} {c ac : Nat} (h : σ (153 + 5 * c + 1) = nI (cGr σ c)) (h9 : cGr σ c < 9) : gr2 σ c ac (grM σ c) = upd (gw1 σ c) (9 + ac) (gw1 σ c (9 + ac) + nI 1) := by
  have e0 : grM σ c = 1 := if_pos h9
  have e1 : gr1 σ c 1 = gw1 σ c := by
    unfold gr1 gw1
    rw [h, nI_add]
  rw [e0]
  unfold gr2
  rw [e1]
theorem gr2_f {σ : Rw} {c : Nat} {b : Prop} [Decidable b] (hc : c < 80) (h : σ (153 + 5 * c + 1) = nI (cGr σ c)) (h9 : cGr σ c ≤ 9) (hf : fenced σ c) : gr2 σ c 5 (grM σ c) = growR σ c b := by
  unfold growR
  by_cases q : cGr σ c < 9
  · rw [gr2_1 h q, if_pos (show does σ c b from ⟨Or.inl hf, fun z => (gr_9 h h9).mp z q⟩), if_pos hf]
  · rw [gr2_0 hc (by omega) h q, if_neg (show ¬ does σ c b from fun z => z.2 ((gr_9 h h9).mpr q))]
theorem gr2_d {σ : Rw} {c : Nat} {b : Prop} [Decidable b] (hc : c < 80) (h : σ (153 + 5 * c + 1) = nI (cGr σ c)) (h9 : cGr σ c ≤ 9) (hf : ¬ fenced σ c) (hb : b) (ht : ¬ σ (153 + 5 * c + 4) = σ 3 + nI 1) : gr2 σ c 4 (grM σ c) = growR σ c b := by
  unfold growR
  by_cases q : cGr σ c < 9
  · rw [gr2_1 h q, if_pos (show does σ c b from ⟨Or.inr ⟨hb, ht⟩, fun z => (gr_9 h h9).mp z q⟩), if_neg hf]
  · rw [gr2_0 hc (by omega) h q, if_neg (show ¬ does σ c b from fun z => z.2 ((gr_9 h h9).mpr q))]
theorem gro_n {σ : Rw} {c : Nat} {b : Prop} [Decidable b] (hf : ¬ fenced σ c) (h : ¬ (b ∧ ¬ σ (153 + 5 * c + 4) = σ 3 + nI 1)) : growR σ c b = σ := if_neg (fun z => z.1.elim hf h)
theorem grK_y {b : Prop} [Decidable b] {σ : Rw} {k : Nat} (h : grK b σ k (153 + 5 * k + 0) = 0) : grK b σ (k + 1) = growR (grK b σ k) k b := if_pos h
theorem grK_no {b : Prop} [Decidable b] {σ : Rw} {k : Nat} (h : ¬ grK b σ k (153 + 5 * k + 0) = 0) : grK b σ (k + 1) = grK b σ k := if_neg h
theorem pk_uc {f : Nat → Int32} {a b : Nat} {x y : Int32} (h : a ≠ b) : upd (upd f a x) b y = upd (upd f b y) a x := by
  funext j
  by_cases q : j = b
  · rw [q, pk_us, pk_un (Ne.symm h), pk_us]
  · rw [pk_un q]
    by_cases q2 : j = a
    · rw [q2, pk_us, pk_us]
    · rw [pk_un q2, pk_un q2, pk_un q]
theorem gw1_17 {σ : Rw} {c : Nat} (v : Int32) : gw1 (upd σ 17 v) c = upd (gw1 σ c) 17 v := by
  unfold gw1
  rw [pk_un (by omega), pk_uc (by omega)]
theorem growR_17 {b : Prop} [Decidable b] {σ : Rw} {c : Nat} (v : Int32) : growR (upd σ 17 v) c b = upd (growR σ c b) 17 v ∧ growR σ c b 17 = σ 17 := by
  have e2 : upd σ 17 v (153 + 5 * c + 2) = σ (153 + 5 * c + 2) := pk_un (by omega)
  have e4 : upd σ 17 v (153 + 5 * c + 4) = σ (153 + 5 * c + 4) := pk_un (by omega)
  have e1 : upd σ 17 v (153 + 5 * c + 1) = σ (153 + 5 * c + 1) := pk_un (by omega)
  have e3 : upd σ 17 v 3 = σ 3 := pk_un (by omega)
  have ef : fenced (upd σ 17 v) c ↔ fenced σ c := by unfold fenced; rw [e2]
  have ed : does (upd σ 17 v) c b ↔ does σ c b := by unfold does; rw [ef, e4, e3, e1]
  unfold growR
  by_cases q : does σ c b
  · rw [if_pos (ed.mpr q), if_pos q]
    by_cases q2 : fenced σ c
    · rw [if_pos (ef.mpr q2), if_pos q2, gw1_17, pk_un (by omega), pk_uc (by omega), pk_un (by omega)]
      exact ⟨rfl, by unfold gw1; rw [pk_un (by omega)]⟩
    · rw [if_neg (fun z => q2 (ef.mp z)), if_neg q2, gw1_17, pk_un (by omega), pk_uc (by omega), pk_un (by omega)]
      exact ⟨rfl, by unfold gw1; rw [pk_un (by omega)]⟩
  · rw [if_neg (fun z => q (ed.mp z)), if_neg q]
    exact ⟨rfl, rfl⟩
theorem grK_17 {b : Prop} [Decidable b] {σ : Rw} (v : Int32) : ∀ k, grK b (upd σ 17 v) k = upd (grK b σ k) 17 v ∧ grK b σ k 17 = σ 17
  | 0 => ⟨rfl, rfl⟩
  | k + 1 => by
    obtain ⟨h1, h2⟩ := grK_17 (b := b) (σ := σ) v k
    have e0 : upd (grK b σ k) 17 v (153 + 5 * k + 0) = grK b σ k (153 + 5 * k + 0) := pk_un (by omega)
    by_cases q : grK b σ k (153 + 5 * k + 0) = 0
    · have g := growR_17 (b := b) (σ := grK b σ k) (c := k) v
      rw [grK_y q, grK_y (by rw [h1, e0]; exact q), h1]
      exact ⟨g.1, g.2.trans h2⟩
    · rw [grK_no q, grK_no (by rw [h1, e0]; exact q), h1]
      exact ⟨rfl, h2⟩
theorem wkK_y {σ : Rw} {k : Nat} (h : rD σ % wPd σ k = 0) : wkK σ (k + 1) = walkR (wkK σ k) k := if_pos h
theorem wkK_no {σ : Rw} {k : Nat} (h : ¬ rD σ % wPd σ k = 0) : wkK σ (k + 1) = wkK σ k := if_neg h
noncomputable def dq (σ : Rw) : Rw := upd (dy1 σ) (9 + 8) (dy1 σ (9 + 8) + bI (wetD σ (rD σ)))
theorem dq_dy3 (σ : Rw) : grK (isDay σ) (dq σ) (rC σ) = dy3 σ := by
  have h := grK_17 (b := isDay σ) (σ := dy1 σ) (dy1 σ 17 + bI (wetD σ (rD σ))) (rC σ)
  have e : grK (isDay σ) (dq σ) (rC σ) = upd (grK (isDay σ) (dy1 σ) (rC σ)) 17 (dy1 σ 17 + bI (wetD σ (rD σ))) := h.1
  rw [e]
  unfold dy3 dy2
  rw [h.2]
theorem GK.same {σ τ : Rw} (hW : RowW σ) (hs : Same σ τ) (h : GK σ) : GK τ := by
  intro r hr
  rw [hs.g] at hr
  have g6 := hW.g6
  rw [hs.gc (by omega), hs.kind]
  exact h r hr
/-- the wet days' account, and no other place -/
theorem dq_o {σ : Rw} {j : Nat} (h : j ≠ 17) : dq σ j = dy1 σ j := pk_un h
theorem dq_same {σ : Rw} : Same (dy1 σ) (dq σ) := fun j hj => dq_o (fun e => by rw [e] at hj; unfold Stat at hj; omega)
theorem dq_mov {σ : Rw} (h : Mov (dy1 σ)) : Mov (dq σ) := h.up (by omega) (by omega)
theorem td_eq {I J : Nat → Nat → Int32} {d : Nat → Nat} {σ τ : Rw} (h : Td I d σ) (e : J (d 18) = I (d 18)) (hc : rC τ = rC σ) (h3 : τ 3 = σ 3) (h4 : ∀ c, c < rC σ → τ (153 + 5 * c + 4) = σ (153 + 5 * c + 4)) : Td J d τ := by
  intro c hcc
  rw [hc] at hcc
  rw [e, h3, h4 c hcc]
  exact h c hcc
theorem sA_3 (a : Nat) (d : Nat → Nat) : sA a d 3 = a ∧ sI 3 = 13 := ⟨rfl, rfl⟩
set_option maxHeartbeats 4000000 in
theorem l_grows {g : GZ} {A : HA} {a : Nat} {d : Nat → Nat} {σ : Rw} (hL : Ly A a d σ) (hv : Lv A.I a d σ) (hW : RowW σ) {c ac : Nat} (hc : c < rC σ) (hac : ac < 12) : Ct g wV yX2_grows (.code yX2_grows cX2_grows 4 (Option.none : Option Jvm.ClassFile.FieldType)) 2 0 0 [.ref a, .int (nI (c)), .int (nI (ac))] (A) (fun u A' => Nx A A' a d (gr2 σ c ac (grM σ c)) ∧ A'.I (d 18) = A.I (d 18)) fw_no := by
  refine Ct.of [some (.ref a), some (.int (nI (c))), some (.int (nI (ac))), none] (by decide) rfl rfl fun z C hx hnm E => ?_
  have hS := hW.s
  have hw3 := hS.w3
  have hw10 := hS.w10
  have hh8 := hS.h8
  have hc80 := hS.c80
  have k6 := hW.k6
  have g6 := hW.g6
  have h9 := hW.c9 (show c < 80 by omega)
  have hN := Nx.rf hL hv
  refine r_aload_0 (pc := 0) C dX2_grows_0 ?_
  refine r_getR (pc := 1) C fl_X2_18_2 (ly_g hL) rfl (ly_rf hL 6 (by decide)) dX2_grows_1 ?_
  refine r_iload_1 (pc := 4) C dX2_grows_4 ?_
  refine r_iald (pc := 5) C (ly_gf hL 6 (by decide)) rfl rfl (lt_eq (by omega) (ly_nf hL 6 (by decide) (by decide))) (by omega) dX2_grows_5 ?_
  refine r_top ((hv.grass hc).trans (hW.c (by omega))) ?_
  refine r_bipush (pc := 6) C dX2_grows_6 cb_9 ?_
  refine r_icmp_ge (pc := 8) (tgt := 15) C dX2_grows_8 (by decide) (fun b8 => ?_) (fun b8 => ?_)
  · skip
    have b8 := (nI_le2 (by omega) (by omega)).mp b8
    refine r_iconst (pc := 15) C dX2_grows_15 ci_0 ?_
    refine r_SN1io (pc := 16) C (l_bitN (n := 0) (by decide)) snl_X2_119 (by decide) (Nat.le_refl _) (Nat.le_refl _) (Nat.le_of_ble_eq_true rfl) rfl dX2_grows_16 (fun u1 A1 hc1 => ?_)
    refine r_top hc1.1 ?_
    refine r_eqA hc1.2 ?_
    clear hc1 A1 u1
    refine r_top (congrArg nI (show _ = grM σ c by unfold grM; first | exact (if_pos (by omega)).symm | exact (if_neg (by omega)).symm)) ?_
    refine r_istore_3 (pc := 19) C dX2_grows_19 rfl ?_
    refine r_aload_0 (pc := 20) C dX2_grows_20 ?_
    refine r_getR (pc := 21) C fl_X2_18_2 (ly_g hL) rfl (ly_rf hL 6 (by decide)) dX2_grows_21 ?_
    refine r_iload_1 (pc := 24) C dX2_grows_24 ?_
    refine r_dup2 (pc := 25) C dX2_grows_25 rfl rfl ?_
    refine r_iald (pc := 26) C (ly_gf hL 6 (by decide)) rfl rfl (lt_eq (by omega) (ly_nf hL 6 (by decide) (by decide))) (by omega) dX2_grows_26 ?_
    refine r_top ((hv.grass hc).trans (hW.c (by omega))) ?_
    refine r_iload_3 (pc := 27) C dX2_grows_27 ?_
    refine r_iadd (pc := 28) C dX2_grows_28 ?_
    refine r_top (nI_add _ _) ?_
    refine r_iast (pc := 29) C (ly_gf hL 6 (by decide)) rfl rfl (lt_eq (by omega) (ly_nf hL 6 (by decide) (by decide))) (by omega) dX2_grows_29 ?_
    refine r_wr hN (by omega) (j := 153 + 5 * c + 1) (w := nI (cGr σ c + grM σ c)) (dm_cell (by omega) (by omega)) (adj_c (by omega) _) (sA_cell (a := a) (d := d) (c := c) (v := 1) (by omega)).1.symm (sA_cell (a := a) (d := d) (c := c) (v := 1) (by omega)).2.symm fun B1 hN1 hs1 hq1 => ?_
    have hN1 : Nx A B1 a d (gr1 σ c (grM σ c)) := hN1
    obtain ⟨eC1, eK1, eG1⟩ : rC (gr1 σ c (grM σ c)) = rC (σ) ∧ rK (gr1 σ c (grM σ c)) = rK (σ) ∧ rG (gr1 σ c (grM σ c)) = rG (σ) := hq1
    refine r_aload_0 (pc := 30) C dX2_grows_30 ?_
    refine r_getR (pc := 31) C fl_X2_63_2 (ly_g hN1.1) rfl (ly_rf hN1.1 9 (by decide)) dX2_grows_31 ?_
    refine r_iload_2 (pc := 34) C dX2_grows_34 ?_
    refine r_dup2 (pc := 35) C dX2_grows_35 rfl rfl ?_
    refine r_iald (pc := 36) C (ly_gf hN1.1 9 (by decide)) rfl rfl (lt_eq (by omega) (ly_n9 hN1.1)) (by omega) dX2_grows_36 ?_
    refine r_top (hN1.2.1.acc (by omega)) ?_
    refine r_iload_3 (pc := 37) C dX2_grows_37 ?_
    refine r_iadd (pc := 38) C dX2_grows_38 ?_
    refine r_iast (pc := 39) C (ly_gf hN1.1 9 (by decide)) rfl rfl (lt_eq (by omega) (ly_n9 hN1.1)) (by omega) dX2_grows_39 ?_
    refine r_wr hN1 (by omega) (j := 9 + ac) (w := gr1 σ c (grM σ c) (9 + ac) + nI (grM σ c)) (dm_acc (by omega)) (adj_a (by omega) _) (sA_acc (a := a) (d := d) (i := ac) (by omega)).1.symm (sA_acc (a := a) (d := d) (i := ac) (by omega)).2.symm fun B2 hN2 hs2 hq2 => ?_
    have hN2 : Nx A B2 a d (gr2 σ c ac (grM σ c)) := hN2
    obtain ⟨eC2, eK2, eG2⟩ : rC (gr2 σ c ac (grM σ c)) = rC (gr1 σ c (grM σ c)) ∧ rK (gr2 σ c ac (grM σ c)) = rK (gr1 σ c (grM σ c)) ∧ rG (gr2 σ c ac (grM σ c)) = rG (gr1 σ c (grM σ c)) := hq2
    refine r_vret (pc := 40) C E (Nat.le_refl _) (Nat.le_refl _) dX2_grows_40 ?_
    exact ⟨hN2, (hs2 _ (Or.inr (Or.inr (Or.inr rfl)))).trans (hs1 _ (Or.inr (Or.inr (Or.inr rfl))))⟩
  · skip
    have b8 := (not_congr (nI_le2 (by omega) (by omega))).mp b8
    refine r_iconst (pc := 11) C dX2_grows_11 ci_1 ?_
    refine r_goto (pc := 12) (tgt := 16) C dX2_grows_12 (by decide) ?_
    refine r_SN1io (pc := 16) C (l_bitN (n := 1) (by decide)) snl_X2_119 (by decide) (Nat.le_refl _) (Nat.le_refl _) (Nat.le_of_ble_eq_true rfl) rfl dX2_grows_16 (fun u2 A2 hc2 => ?_)
    refine r_top hc2.1 ?_
    refine r_eqA hc2.2 ?_
    clear hc2 A2 u2
    refine r_top (congrArg nI (show _ = grM σ c by unfold grM; first | exact (if_pos (by omega)).symm | exact (if_neg (by omega)).symm)) ?_
    refine r_istore_3 (pc := 19) C dX2_grows_19 rfl ?_
    refine r_aload_0 (pc := 20) C dX2_grows_20 ?_
    refine r_getR (pc := 21) C fl_X2_18_2 (ly_g hL) rfl (ly_rf hL 6 (by decide)) dX2_grows_21 ?_
    refine r_iload_1 (pc := 24) C dX2_grows_24 ?_
    refine r_dup2 (pc := 25) C dX2_grows_25 rfl rfl ?_
    refine r_iald (pc := 26) C (ly_gf hL 6 (by decide)) rfl rfl (lt_eq (by omega) (ly_nf hL 6 (by decide) (by decide))) (by omega) dX2_grows_26 ?_
    refine r_top ((hv.grass hc).trans (hW.c (by omega))) ?_
    refine r_iload_3 (pc := 27) C dX2_grows_27 ?_
    refine r_iadd (pc := 28) C dX2_grows_28 ?_
    refine r_top (nI_add _ _) ?_
    refine r_iast (pc := 29) C (ly_gf hL 6 (by decide)) rfl rfl (lt_eq (by omega) (ly_nf hL 6 (by decide) (by decide))) (by omega) dX2_grows_29 ?_
    refine r_wr hN (by omega) (j := 153 + 5 * c + 1) (w := nI (cGr σ c + grM σ c)) (dm_cell (by omega) (by omega)) (adj_c (by omega) _) (sA_cell (a := a) (d := d) (c := c) (v := 1) (by omega)).1.symm (sA_cell (a := a) (d := d) (c := c) (v := 1) (by omega)).2.symm fun B1 hN1 hs1 hq1 => ?_
    have hN1 : Nx A B1 a d (gr1 σ c (grM σ c)) := hN1
    obtain ⟨eC1, eK1, eG1⟩ : rC (gr1 σ c (grM σ c)) = rC (σ) ∧ rK (gr1 σ c (grM σ c)) = rK (σ) ∧ rG (gr1 σ c (grM σ c)) = rG (σ) := hq1
    refine r_aload_0 (pc := 30) C dX2_grows_30 ?_
    refine r_getR (pc := 31) C fl_X2_63_2 (ly_g hN1.1) rfl (ly_rf hN1.1 9 (by decide)) dX2_grows_31 ?_
    refine r_iload_2 (pc := 34) C dX2_grows_34 ?_
    refine r_dup2 (pc := 35) C dX2_grows_35 rfl rfl ?_
    refine r_iald (pc := 36) C (ly_gf hN1.1 9 (by decide)) rfl rfl (lt_eq (by omega) (ly_n9 hN1.1)) (by omega) dX2_grows_36 ?_
    refine r_top (hN1.2.1.acc (by omega)) ?_
    refine r_iload_3 (pc := 37) C dX2_grows_37 ?_
    refine r_iadd (pc := 38) C dX2_grows_38 ?_
    refine r_iast (pc := 39) C (ly_gf hN1.1 9 (by decide)) rfl rfl (lt_eq (by omega) (ly_n9 hN1.1)) (by omega) dX2_grows_39 ?_
    refine r_wr hN1 (by omega) (j := 9 + ac) (w := gr1 σ c (grM σ c) (9 + ac) + nI (grM σ c)) (dm_acc (by omega)) (adj_a (by omega) _) (sA_acc (a := a) (d := d) (i := ac) (by omega)).1.symm (sA_acc (a := a) (d := d) (i := ac) (by omega)).2.symm fun B2 hN2 hs2 hq2 => ?_
    have hN2 : Nx A B2 a d (gr2 σ c ac (grM σ c)) := hN2
    obtain ⟨eC2, eK2, eG2⟩ : rC (gr2 σ c ac (grM σ c)) = rC (gr1 σ c (grM σ c)) ∧ rK (gr2 σ c ac (grM σ c)) = rK (gr1 σ c (grM σ c)) ∧ rG (gr2 σ c ac (grM σ c)) = rG (gr1 σ c (grM σ c)) := hq2
    refine r_vret (pc := 40) C E (Nat.le_refl _) (Nat.le_refl _) dX2_grows_40 ?_
    exact ⟨hN2, (hs2 _ (Or.inr (Or.inr (Or.inr rfl)))).trans (hs1 _ (Or.inr (Or.inr (Or.inr rfl))))⟩
set_option maxHeartbeats 4000000 in
theorem l_passes {g : GZ} {A : HA} {a : Nat} {d : Nat → Nat} {σ : Rw} (hL : Ly A a d σ) (hv : Lv A.I a d σ) (hW : RowW σ) (hI : ∀ c, c < 80 → CelI σ c) (hK : GK σ) (hG : GdK g) (hy : ways σ) (hd : rD σ < 1200) : Ct g wV yX2_passes (.code yX2_passes cX2_passes 3 (Option.none : Option Jvm.ClassFile.FieldType)) 9 0 0 [.ref a] (A) (fun u A' => Nx A A' a d (dayR σ)) fw_no := by
  refine Ct.of [some (.ref a), none, none] (by decide) rfl rfl fun z C hx hnm E => ?_
  have hS := hW.s
  have hw3 := hS.w3
  have hw10 := hS.w10
  have hh8 := hS.h8
  have hc80 := hS.c80
  have k6 := hW.k6
  have g6 := hW.g6
  have hN := Nx.rf hL hv
  have gr1_ := hW.gr1
  have gr9_ := hW.gr9
  have hCd : ∀ c, c < 80 → CelD (rD σ + 1) 600000 σ c := fun c hc => (hI c hc).d.up (by omega) (by omega)
  refine r_iconst (pc := 0) C dX2_passes_0 ci_0 ?_
  refine r_istore_1 (pc := 1) C dX2_passes_1 rfl ?_
  have lp2_1 : ∀ (fu : Nat) (c : Nat) (B : HA) (hc : c ≤ rC σ) (hN0 : Nx A B a d σ) (hz : ∀ j, j < c → B.I (d 18) j = nI 0), rC σ - c < fu → wa g z 0 0 (B) 2 [some (.ref a), some (.int (nI (c))), none] [] := by
    intro fu
    induction fu with
    | zero => intro c  B  hc hN0 hz hm2; exact absurd hm2 (Nat.not_lt_zero _)
    | succ fu ih2 =>
      intro c  B  hc hN0 hz hm2
      refine r_iload_1 (pc := 2) C dX2_passes_2 ?_
      refine r_aload_0 (pc := 3) C dX2_passes_3 ?_
      refine r_getI (pc := 4) C fl_X2_14_2 (ly_g hN0.1) rfl dX2_passes_4 ?_
      refine r_top hN0.2.1.c ?_
      refine r_icmp_ge (pc := 7) (tgt := 23) C dX2_passes_7 (by decide) (fun b7 => ?_) (fun b7 => ?_)
      · skip
        have b7 := (nI_le2 (by omega) (by omega)).mp b7
        have hT0 : Td B.I d σ := fun j hj => by
          rw [hz j (by omega)]
          have hcl := (hI j (by omega)).2.2.2.1
          have hcl2 := hcl.2
          refine bI_00 (fun q9 => ?_)
          rw [hcl.1, hW.d, nI_add] at q9
          have q9 := (nI_eqI (by omega) (by omega)).mp q9
          omega
        refine r_iconst (pc := 23) C dX2_passes_23 ci_0 ?_
        refine r_istore_1 (pc := 24) C dX2_passes_24 rfl ?_
        have lp25_2 : ∀ (fu : Nat) (k : Nat) (B : HA) (hk : k ≤ rK σ) (hNk : Nx A B a d (wkK σ k)) (hTk : Td B.I d (wkK σ k)), rK σ - k < fu → wa g z 0 0 (B) 25 [some (.ref a), some (.int (nI (k))), none] [] := by
          intro fu
          induction fu with
          | zero => intro k  B  hk hNk hTk hm25; exact absurd hm25 (Nat.not_lt_zero _)
          | succ fu ih25 =>
            intro k  B  hk hNk hTk hm25
            have hkp := wkK_keep hW hy k hk
            have hSk := hkp.1
            have hWk := hW.same hkp.1 hkp.2.1
            have hck := wkK_cel hW hy hW.d (by omega) (by omega) hCd k hk
            have hdk := hck.1
            have hCk : ∀ c, c < 80 → CelF (wkK σ k) c := fun c hc => (hck.2 c hc).fe
            have hKk := hK.same hW hSk
            have eKk : rK (wkK σ k) = rK σ := hSk.k
            have eCk : rC (wkK σ k) = rC σ := hSk.c
            refine r_iload_1 (pc := 25) C dX2_passes_25 ?_
            refine r_aload_0 (pc := 26) C dX2_passes_26 ?_
            refine r_getR (pc := 27) C fl_X2_31_2 (ly_g hNk.1) rfl (ly_r12 hNk.1) dX2_passes_27 ?_
            refine r_V0io (pc := 30) C (j_X3_size (ly_g12 hNk.1) (ly_r20 hNk.1) (ly_g20 hNk.1) ((hNk.2.1.nk.trans hWk.k).trans (congrArg nI eKk))) vl_X2_85 (ly_g12 hNk.1) (by decide) (Nat.le_refl _) (Nat.le_refl _) (Nat.le_of_ble_eq_true rfl) rfl dX2_passes_30 (fun u3 A3 hc3 => ?_)
            refine r_top hc3.1 ?_
            refine r_eqA hc3.2 ?_
            clear hc3 A3 u3
            refine r_icmp_ge (pc := 33) (tgt := 66) C dX2_passes_33 (by decide) (fun b33 => ?_) (fun b33 => ?_)
            · skip
              have b33 := (nI_le2 (by omega) (by omega)).mp b33
              have e9 : k = rK σ := by omega
              subst e9
              have hN1 : Nx A B a d (dy1 σ) := hNk
              refine r_aload_0 (pc := 66) C dX2_passes_66 ?_
              refine r_getR (pc := 67) C fl_X2_63_2 (ly_g hNk.1) rfl (ly_rf hNk.1 9 (by decide)) dX2_passes_67 ?_
              have eCd : rC (dy1 σ) = rC σ := eCk
              have eKd : rK (dy1 σ) = rK σ := eKk
              have eGd : rG (dy1 σ) = rG σ := hSk.g
              refine r_bipush (pc := 70) C dX2_passes_70 cb_8 ?_
              refine r_dup2 (pc := 72) C dX2_passes_72 rfl rfl ?_
              refine r_iald (pc := 73) C (ly_gf hNk.1 9 (by decide)) rfl rfl (lt_eq (by omega) (ly_n9 hNk.1)) (by omega) dX2_passes_73 ?_
              refine r_top (hN1.2.1.acc (by omega)) ?_
              refine r_aload_0 (pc := 74) C dX2_passes_74 ?_
              refine r_aload_0 (pc := 75) C dX2_passes_75 ?_
              refine r_getI (pc := 76) C fl_X2_35_2 (ly_g hNk.1) rfl dX2_passes_76 ?_
              refine r_top (hNk.2.1.day.trans hdk) ?_
              refine r_V1io (pc := 79) C (l_isWet hN1.1 hN1.2.1 hWk (by omega)) vl_X2_130 (ly_g hNk.1) (by decide) (Nat.le_refl _) (Nat.le_refl _) (Nat.le_of_ble_eq_true rfl) rfl dX2_passes_79 (fun u4 A4 hc4 => ?_)
              refine r_top hc4.1 ?_
              refine r_eqA hc4.2 ?_
              clear hc4 A4 u4
              refine r_top (show bI (wetD (wkK σ (rK σ)) (rD σ)) = bI (wetD σ (rD σ)) by unfold wetD wetB; rw [hSk.wt]) ?_
              refine r_SN1io (pc := 82) C (l_bit) snl_X2_119 (by decide) (Nat.le_refl _) (Nat.le_refl _) (Nat.le_of_ble_eq_true rfl) rfl dX2_passes_82 (fun u5 A5 hc5 => ?_)
              refine r_top hc5.1 ?_
              refine r_eqA hc5.2 ?_
              clear hc5 A5 u5
              refine r_iadd (pc := 85) C dX2_passes_85 ?_
              refine r_iast (pc := 86) C (ly_gf hNk.1 9 (by decide)) rfl rfl (lt_eq (by omega) (ly_n9 hNk.1)) (by omega) dX2_passes_86 ?_
              refine r_wr hN1 (by omega) (j := 9 + 8) (w := dy1 σ (9 + 8) + bI (wetD σ (rD σ))) (dm_acc (by omega)) (adj_a (by omega) _) (sA_acc (a := a) (d := d) (i := 8) (by omega)).1.symm (sA_acc (a := a) (d := d) (i := 8) (by omega)).2.symm fun B1 hN1 hs1 hq1 => ?_
              have hN1 : Nx A B1 a d (dq σ) := hN1
              obtain ⟨eC1, eK1, eG1⟩ : rC (dq σ) = rC (dy1 σ) ∧ rK (dq σ) = rK (dy1 σ) ∧ rG (dq σ) = rG (dy1 σ) := hq1
              have hSq := hSk.tr (dq_same (σ := σ))
              have hMq := dq_mov (σ := σ) hkp.2.1
              have hWq := hW.same hSq hMq
              have hNq : Nx A B1 a d (dq σ) := hN1
              have hdq : dq σ 3 = nI (rD σ) := (dq_o (by omega)).trans hdk
              have hgrq : dq σ 6 = nI (rGr σ) := (hSq 6 (st_0 (by omega))).trans hW.gr
              have eCq : rC (dq σ) = rC σ := hSq.c
              have erDq : rD (dq σ) = rD σ := (congrArg Int32.toNatClampNeg hdq).trans (nI_nat (by omega))
              have hTq : Td B1.I d (dq σ) := td_eq hTk (hs1 _ (Or.inr (Or.inr (Or.inr rfl)))) (eCq.trans eCk.symm) (dq_o (by omega)) (fun j hj => dq_o (by omega))
              have hCq : ∀ c, c < 80 → CelF (dq σ) c := fun c hc => ((hck.2 c hc).cong (fun v hv9 => dq_o (by omega))).fe
              refine r_aload_0 (pc := 87) C dX2_passes_87 ?_
              refine r_getI (pc := 88) C fl_X2_35_2 (ly_g hNq.1) rfl dX2_passes_88 ?_
              refine r_top (hNq.2.1.day.trans hdq) ?_
              refine r_iconst (pc := 91) C dX2_passes_91 ci_1 ?_
              refine r_iadd (pc := 92) C dX2_passes_92 ?_
              refine r_top (nI_add _ _) ?_
              refine r_aload_0 (pc := 93) C dX2_passes_93 ?_
              refine r_getI (pc := 94) C fl_X2_44_2 (ly_g hNq.1) rfl dX2_passes_94 ?_
              refine r_top (hNq.2.1.gr.trans hgrq) ?_
              refine r_irem (pc := 97) C dX2_passes_97 (nI_nz (by omega) (by omega)) ?_
              refine r_top (nI_rem (by omega) (by omega) (by omega)) ?_
              have hmd := Nat.mod_lt (rD σ + 1) (show 0 < rGr σ by omega)
              refine r_if_ne (pc := 98) (tgt := 105) C dX2_passes_98 (by decide) (fun b98 => ?_) (fun b98 => ?_)
              · skip
                have b98 := (not_congr (nI_eq0 (by omega))).mp b98
                refine r_iconst (pc := 105) C dX2_passes_105 ci_0 ?_
                refine r_top (bI_00 (show ¬ isDay σ from b98)) ?_
                refine r_istore_1 (pc := 106) C dX2_passes_106 rfl ?_
                refine r_iconst (pc := 107) C dX2_passes_107 ci_0 ?_
                refine r_istore_2 (pc := 108) C dX2_passes_108 rfl ?_
                have lp109_6 : ∀ (fu : Nat) (c : Nat) (B : HA) (hc : c ≤ rC σ) (hNg : Nx A B a d (grK (isDay σ) (dq σ) c)) (hTg : Td B.I d (grK (isDay σ) (dq σ) c)), rC σ - c < fu → wa g z 0 0 (B) 109 [some (.ref a), some (.int (bI (isDay σ))), some (.int (nI (c)))] [] := by
                  intro fu
                  induction fu with
                  | zero => intro c  B  hc hNg hTg hm109; exact absurd hm109 (Nat.not_lt_zero _)
                  | succ fu ih109 =>
                    intro c  B  hc hNg hTg hm109
                    have hgp := grK_keep (b := isDay σ) hMq c (by omega)
                    have hWg := hWq.same hgp.1 hgp.2.1
                    have hdg : grK (isDay σ) (dq σ) c 3 = nI (rD σ) := hWg.d.trans (congrArg nI (hgp.2.2.trans erDq))
                    have eCg : rC (grK (isDay σ) (dq σ) c) = rC σ := hgp.1.c.trans eCq
                    have hfc : c < rC σ → grK (isDay σ) (dq σ) c (153 + 5 * c + 2) = nI 0 ∨ grK (isDay σ) (dq σ) c (153 + 5 * c + 2) = nI 1 := fun q => by rw [hgp.1.fence]; exact (hCq c (by omega)).2
                    refine r_iload_2 (pc := 109) C dX2_passes_109 ?_
                    refine r_aload_0 (pc := 110) C dX2_passes_110 ?_
                    refine r_getI (pc := 111) C fl_X2_14_2 (ly_g hNg.1) rfl dX2_passes_111 ?_
                    refine r_top (hNg.2.1.c.trans (congrArg nI eCg)) ?_
                    refine r_icmp_ge (pc := 114) (tgt := 171) C dX2_passes_114 (by decide) (fun b114 => ?_) (fun b114 => ?_)
                    · skip
                      have b114 := (nI_le2 (by omega) (by omega)).mp b114
                      have e9 : c = rC σ := by omega
                      subst e9
                      have hNd := hNg.eq (dq_dy3 σ)
                      have eCd3 : rC (dy3 σ) = rC σ := by rw [← dq_dy3 σ]; exact eCg
                      have eGd3 : rG (dy3 σ) = rG σ := by rw [← dq_dy3 σ]; exact hgp.1.g.trans hSq.g
                      refine r_aload_0 (pc := 171) C dX2_passes_171 ?_
                      refine r_dup (pc := 172) C dX2_passes_172 rfl ?_
                      refine r_getI (pc := 173) C fl_X2_35_2 (ly_g hNg.1) rfl dX2_passes_173 ?_
                      refine r_top (hNg.2.1.day.trans hdg) ?_
                      refine r_iconst (pc := 176) C dX2_passes_176 ci_1 ?_
                      refine r_iadd (pc := 177) C dX2_passes_177 ?_
                      refine r_top (nI_add _ _) ?_
                      refine r_putI (pc := 178) C fl_X2_35_2 (ly_g hNg.1) rfl (fun _ _ _ h => by cases h; exact Or.inl rfl) rfl rfl rfl dX2_passes_178 ?_
                      refine r_wr hNd (by omega) (j := 3) (w := nI (rD σ + 1)) (Or.inl rfl) (adj_3 _) (sA_3 a d).1.symm (sA_3 a d).2.symm fun B2 hN2 hs2 hq2 => ?_
                      have hN2 : Nx A B2 a d (dayR σ) := hN2
                      obtain ⟨eC2, eK2, eG2⟩ : rC (dayR σ) = rC (dy3 σ) ∧ rK (dayR σ) = rK (dy3 σ) ∧ rG (dayR σ) = rG (dy3 σ) := hq2
                      refine r_vret (pc := 181) C E (Nat.le_refl _) (Nat.le_refl _) dX2_passes_181 ?_
                      exact hN2
                    · skip
                      have b114 := (not_congr (nI_le2 (by omega) (by omega))).mp b114
                      refine r_aload_0 (pc := 117) C dX2_passes_117 ?_
                      refine r_iload_2 (pc := 118) C dX2_passes_118 ?_
                      refine r_V1io (pc := 119) C (l_isGrass hNg.1 hNg.2.1 hWg (by omega)) vl_X2_123 (ly_g hNg.1) (by decide) (Nat.le_refl _) (Nat.le_refl _) (Nat.le_of_ble_eq_true rfl) rfl dX2_passes_119 (fun u7 A7 hc7 => ?_)
                      refine r_top hc7.1 ?_
                      refine r_eqA hc7.2 ?_
                      clear hc7 A7 u7
                      refine r_if_ne (pc := 122) (tgt := 128) C dX2_passes_122 (by decide) (fun b122 => ?_) (fun b122 => ?_)
                      · skip
                        have b122 := bI_n.mp b122
                        refine r_aload_0 (pc := 128) C dX2_passes_128 ?_
                        refine r_getR (pc := 129) C fl_X2_59_2 (ly_g hNg.1) rfl (ly_rf hNg.1 10 (by decide)) dX2_passes_129 ?_
                        refine r_iload_2 (pc := 132) C dX2_passes_132 ?_
                        refine r_zald (pc := 133) C (ly_gf hNg.1 10 (by decide)) rfl rfl (lt_eq (by omega) (ly_nf hNg.1 10 (by decide) (by decide))) (by omega) dX2_passes_133 ?_
                        refine r_top ((hNg.2.1.fence (by omega)).trans (fen_b2 (hfc (by omega)))) ?_
                        refine r_if_eq (pc := 134) (tgt := 146) C dX2_passes_134 (by decide) (fun b134 => ?_) (fun b134 => ?_)
                        · skip
                          have b134 := bI_0.mp b134
                          refine r_iload_1 (pc := 146) C dX2_passes_146 ?_
                          refine r_if_eq (pc := 147) (tgt := 165) C dX2_passes_147 (by decide) (fun b147 => ?_) (fun b147 => ?_)
                          · skip
                            have b147 := bI_0.mp b147
                            refine r_iinc_2 (pc := 165) C dX2_passes_165 (nI_inc _) rfl ?_
                            refine r_goto (pc := 168) (tgt := 109) C dX2_passes_168 (by decide) ?_
                            have eg9 : growR (grK (isDay σ) (dq σ) c) c (isDay σ) = grK (isDay σ) (dq σ) c := gro_n b134 (fun q9 => b147 q9.1)
                            rw [← grK_y (b := isDay σ) b122] at eg9
                            have hNn := hNg.eq eg9.symm
                            have hTn := hTg
                            rw [← eg9] at hTn
                            exact ih109 (c + 1) _ (by omega) hNn hTn (by omega)
                          · skip
                            have b147 := bI_n.mp b147
                            refine r_aload_0 (pc := 150) C dX2_passes_150 ?_
                            refine r_getR (pc := 151) C fl_X2_75_2 (ly_g hNg.1) rfl (ly_rf hNg.1 18 (by decide)) dX2_passes_151 ?_
                            refine r_iload_2 (pc := 154) C dX2_passes_154 ?_
                            refine r_zald (pc := 155) C (ly_gf hNg.1 18 (by decide)) rfl rfl (lt_eq (by omega) (ly_nf hNg.1 18 (by decide) (by decide))) (by omega) dX2_passes_155 ?_
                            refine r_top (hTg c (by omega)) ?_
                            refine r_if_ne (pc := 156) (tgt := 165) C dX2_passes_156 (by decide) (fun b156 => ?_) (fun b156 => ?_)
                            · skip
                              have b156 := bI_n.mp b156
                              refine r_iinc_2 (pc := 165) C dX2_passes_165 (nI_inc _) rfl ?_
                              refine r_goto (pc := 168) (tgt := 109) C dX2_passes_168 (by decide) ?_
                              have eg9 : growR (grK (isDay σ) (dq σ) c) c (isDay σ) = grK (isDay σ) (dq σ) c := gro_n b134 (fun q9 => q9.2 b156)
                              rw [← grK_y (b := isDay σ) b122] at eg9
                              have hNn := hNg.eq eg9.symm
                              have hTn := hTg
                              rw [← eg9] at hTn
                              exact ih109 (c + 1) _ (by omega) hNn hTn (by omega)
                            · skip
                              have b156 := bI_0.mp b156
                              refine r_aload_0 (pc := 159) C dX2_passes_159 ?_
                              refine r_iload_2 (pc := 160) C dX2_passes_160 ?_
                              refine r_iconst (pc := 161) C dX2_passes_161 ci_4 ?_
                              refine r_V2vo (pc := 162) C (l_grows hNg.1 hNg.2.1 hWg (c := c) (ac := 4) (by omega) (by omega)) vl_X2_198 (ly_g hNg.1) (by decide) (Nat.le_refl _) (Nat.le_refl _) (Nat.le_of_ble_eq_true rfl) rfl dX2_passes_162 (fun u8 A8 hc8 => ?_)
                              obtain ⟨hNg8, hTg8⟩ := hc8
                              refine r_iinc_2 (pc := 165) C dX2_passes_165 (nI_inc _) rfl ?_
                              refine r_goto (pc := 168) (tgt := 109) C dX2_passes_168 (by decide) ?_
                              have eg9 := gr2_d (b := isDay σ) (σ := grK (isDay σ) (dq σ) c) (c := c) (by omega) (hWg.c (by omega)) (hWg.c9 (by omega)) b134 b147 b156
                              rw [← grK_y (b := isDay σ) b122] at eg9
                              have hNn := (hNg.tr ‹Nx B _ a d _›).eq eg9
                              have hTn : Td _ d (grK (isDay σ) (dq σ) (c + 1)) := td_eq hTg (by assumption) (by rw [grK_y b122]; exact ((growR_keep hgp.2.1 (by omega)).1.c)) (by rw [grK_y b122]; exact growR_o (by omega)) (fun j hj => by rw [grK_y b122]; exact growR_o (by omega))
                              exact ih109 (c + 1) _ (by omega) hNn hTn (by omega)
                        · skip
                          have b134 := bI_n.mp b134
                          refine r_aload_0 (pc := 137) C dX2_passes_137 ?_
                          refine r_iload_2 (pc := 138) C dX2_passes_138 ?_
                          refine r_iconst (pc := 139) C dX2_passes_139 ci_5 ?_
                          refine r_V2vo (pc := 140) C (l_grows hNg.1 hNg.2.1 hWg (c := c) (ac := 5) (by omega) (by omega)) vl_X2_198 (ly_g hNg.1) (by decide) (Nat.le_refl _) (Nat.le_refl _) (Nat.le_of_ble_eq_true rfl) rfl dX2_passes_140 (fun u9 A9 hc9 => ?_)
                          obtain ⟨hNg9, hTg9⟩ := hc9
                          refine r_goto (pc := 143) (tgt := 165) C dX2_passes_143 (by decide) ?_
                          refine r_iinc_2 (pc := 165) C dX2_passes_165 (nI_inc _) rfl ?_
                          refine r_goto (pc := 168) (tgt := 109) C dX2_passes_168 (by decide) ?_
                          have eg9 := gr2_f (b := isDay σ) (σ := grK (isDay σ) (dq σ) c) (c := c) (by omega) (hWg.c (by omega)) (hWg.c9 (by omega)) b134
                          rw [← grK_y (b := isDay σ) b122] at eg9
                          have hNn := (hNg.tr ‹Nx B _ a d _›).eq eg9
                          have hTn : Td _ d (grK (isDay σ) (dq σ) (c + 1)) := td_eq hTg (by assumption) (by rw [grK_y b122]; exact ((growR_keep hgp.2.1 (by omega)).1.c)) (by rw [grK_y b122]; exact growR_o (by omega)) (fun j hj => by rw [grK_y b122]; exact growR_o (by omega))
                          exact ih109 (c + 1) _ (by omega) hNn hTn (by omega)
                      · skip
                        have b122 := bI_0.mp b122
                        refine r_goto (pc := 125) (tgt := 165) C dX2_passes_125 (by decide) ?_
                        refine r_iinc_2 (pc := 165) C dX2_passes_165 (nI_inc _) rfl ?_
                        refine r_goto (pc := 168) (tgt := 109) C dX2_passes_168 (by decide) ?_
                        have hNn := hNg.eq (grK_no b122).symm
                        have hTn := hTg
                        rw [← grK_no b122] at hTn
                        exact ih109 (c + 1) _ (by omega) hNn hTn (by omega)
                exact lp109_6 _ 0 _ (Nat.zero_le _) hNq hTq (Nat.lt_succ_self _)
              · skip
                have b98 := (nI_eq0 (by omega)).mp b98
                refine r_iconst (pc := 101) C dX2_passes_101 ci_1 ?_
                refine r_top (bI_1 (show isDay σ from b98)) ?_
                refine r_goto (pc := 102) (tgt := 106) C dX2_passes_102 (by decide) ?_
                refine r_istore_1 (pc := 106) C dX2_passes_106 rfl ?_
                refine r_iconst (pc := 107) C dX2_passes_107 ci_0 ?_
                refine r_istore_2 (pc := 108) C dX2_passes_108 rfl ?_
                have lp109_10 : ∀ (fu : Nat) (c : Nat) (B : HA) (hc : c ≤ rC σ) (hNg : Nx A B a d (grK (isDay σ) (dq σ) c)) (hTg : Td B.I d (grK (isDay σ) (dq σ) c)), rC σ - c < fu → wa g z 0 0 (B) 109 [some (.ref a), some (.int (bI (isDay σ))), some (.int (nI (c)))] [] := by
                  intro fu
                  induction fu with
                  | zero => intro c  B  hc hNg hTg hm109; exact absurd hm109 (Nat.not_lt_zero _)
                  | succ fu ih109 =>
                    intro c  B  hc hNg hTg hm109
                    have hgp := grK_keep (b := isDay σ) hMq c (by omega)
                    have hWg := hWq.same hgp.1 hgp.2.1
                    have hdg : grK (isDay σ) (dq σ) c 3 = nI (rD σ) := hWg.d.trans (congrArg nI (hgp.2.2.trans erDq))
                    have eCg : rC (grK (isDay σ) (dq σ) c) = rC σ := hgp.1.c.trans eCq
                    have hfc : c < rC σ → grK (isDay σ) (dq σ) c (153 + 5 * c + 2) = nI 0 ∨ grK (isDay σ) (dq σ) c (153 + 5 * c + 2) = nI 1 := fun q => by rw [hgp.1.fence]; exact (hCq c (by omega)).2
                    refine r_iload_2 (pc := 109) C dX2_passes_109 ?_
                    refine r_aload_0 (pc := 110) C dX2_passes_110 ?_
                    refine r_getI (pc := 111) C fl_X2_14_2 (ly_g hNg.1) rfl dX2_passes_111 ?_
                    refine r_top (hNg.2.1.c.trans (congrArg nI eCg)) ?_
                    refine r_icmp_ge (pc := 114) (tgt := 171) C dX2_passes_114 (by decide) (fun b114 => ?_) (fun b114 => ?_)
                    · skip
                      have b114 := (nI_le2 (by omega) (by omega)).mp b114
                      have e9 : c = rC σ := by omega
                      subst e9
                      have hNd := hNg.eq (dq_dy3 σ)
                      have eCd3 : rC (dy3 σ) = rC σ := by rw [← dq_dy3 σ]; exact eCg
                      have eGd3 : rG (dy3 σ) = rG σ := by rw [← dq_dy3 σ]; exact hgp.1.g.trans hSq.g
                      refine r_aload_0 (pc := 171) C dX2_passes_171 ?_
                      refine r_dup (pc := 172) C dX2_passes_172 rfl ?_
                      refine r_getI (pc := 173) C fl_X2_35_2 (ly_g hNg.1) rfl dX2_passes_173 ?_
                      refine r_top (hNg.2.1.day.trans hdg) ?_
                      refine r_iconst (pc := 176) C dX2_passes_176 ci_1 ?_
                      refine r_iadd (pc := 177) C dX2_passes_177 ?_
                      refine r_top (nI_add _ _) ?_
                      refine r_putI (pc := 178) C fl_X2_35_2 (ly_g hNg.1) rfl (fun _ _ _ h => by cases h; exact Or.inl rfl) rfl rfl rfl dX2_passes_178 ?_
                      refine r_wr hNd (by omega) (j := 3) (w := nI (rD σ + 1)) (Or.inl rfl) (adj_3 _) (sA_3 a d).1.symm (sA_3 a d).2.symm fun B2 hN2 hs2 hq2 => ?_
                      have hN2 : Nx A B2 a d (dayR σ) := hN2
                      obtain ⟨eC2, eK2, eG2⟩ : rC (dayR σ) = rC (dy3 σ) ∧ rK (dayR σ) = rK (dy3 σ) ∧ rG (dayR σ) = rG (dy3 σ) := hq2
                      refine r_vret (pc := 181) C E (Nat.le_refl _) (Nat.le_refl _) dX2_passes_181 ?_
                      exact hN2
                    · skip
                      have b114 := (not_congr (nI_le2 (by omega) (by omega))).mp b114
                      refine r_aload_0 (pc := 117) C dX2_passes_117 ?_
                      refine r_iload_2 (pc := 118) C dX2_passes_118 ?_
                      refine r_V1io (pc := 119) C (l_isGrass hNg.1 hNg.2.1 hWg (by omega)) vl_X2_123 (ly_g hNg.1) (by decide) (Nat.le_refl _) (Nat.le_refl _) (Nat.le_of_ble_eq_true rfl) rfl dX2_passes_119 (fun u11 A11 hc11 => ?_)
                      refine r_top hc11.1 ?_
                      refine r_eqA hc11.2 ?_
                      clear hc11 A11 u11
                      refine r_if_ne (pc := 122) (tgt := 128) C dX2_passes_122 (by decide) (fun b122 => ?_) (fun b122 => ?_)
                      · skip
                        have b122 := bI_n.mp b122
                        refine r_aload_0 (pc := 128) C dX2_passes_128 ?_
                        refine r_getR (pc := 129) C fl_X2_59_2 (ly_g hNg.1) rfl (ly_rf hNg.1 10 (by decide)) dX2_passes_129 ?_
                        refine r_iload_2 (pc := 132) C dX2_passes_132 ?_
                        refine r_zald (pc := 133) C (ly_gf hNg.1 10 (by decide)) rfl rfl (lt_eq (by omega) (ly_nf hNg.1 10 (by decide) (by decide))) (by omega) dX2_passes_133 ?_
                        refine r_top ((hNg.2.1.fence (by omega)).trans (fen_b2 (hfc (by omega)))) ?_
                        refine r_if_eq (pc := 134) (tgt := 146) C dX2_passes_134 (by decide) (fun b134 => ?_) (fun b134 => ?_)
                        · skip
                          have b134 := bI_0.mp b134
                          refine r_iload_1 (pc := 146) C dX2_passes_146 ?_
                          refine r_if_eq (pc := 147) (tgt := 165) C dX2_passes_147 (by decide) (fun b147 => ?_) (fun b147 => ?_)
                          · skip
                            have b147 := bI_0.mp b147
                            refine r_iinc_2 (pc := 165) C dX2_passes_165 (nI_inc _) rfl ?_
                            refine r_goto (pc := 168) (tgt := 109) C dX2_passes_168 (by decide) ?_
                            have eg9 : growR (grK (isDay σ) (dq σ) c) c (isDay σ) = grK (isDay σ) (dq σ) c := gro_n b134 (fun q9 => b147 q9.1)
                            rw [← grK_y (b := isDay σ) b122] at eg9
                            have hNn := hNg.eq eg9.symm
                            have hTn := hTg
                            rw [← eg9] at hTn
                            exact ih109 (c + 1) _ (by omega) hNn hTn (by omega)
                          · skip
                            have b147 := bI_n.mp b147
                            refine r_aload_0 (pc := 150) C dX2_passes_150 ?_
                            refine r_getR (pc := 151) C fl_X2_75_2 (ly_g hNg.1) rfl (ly_rf hNg.1 18 (by decide)) dX2_passes_151 ?_
                            refine r_iload_2 (pc := 154) C dX2_passes_154 ?_
                            refine r_zald (pc := 155) C (ly_gf hNg.1 18 (by decide)) rfl rfl (lt_eq (by omega) (ly_nf hNg.1 18 (by decide) (by decide))) (by omega) dX2_passes_155 ?_
                            refine r_top (hTg c (by omega)) ?_
                            refine r_if_ne (pc := 156) (tgt := 165) C dX2_passes_156 (by decide) (fun b156 => ?_) (fun b156 => ?_)
                            · skip
                              have b156 := bI_n.mp b156
                              refine r_iinc_2 (pc := 165) C dX2_passes_165 (nI_inc _) rfl ?_
                              refine r_goto (pc := 168) (tgt := 109) C dX2_passes_168 (by decide) ?_
                              have eg9 : growR (grK (isDay σ) (dq σ) c) c (isDay σ) = grK (isDay σ) (dq σ) c := gro_n b134 (fun q9 => q9.2 b156)
                              rw [← grK_y (b := isDay σ) b122] at eg9
                              have hNn := hNg.eq eg9.symm
                              have hTn := hTg
                              rw [← eg9] at hTn
                              exact ih109 (c + 1) _ (by omega) hNn hTn (by omega)
                            · skip
                              have b156 := bI_0.mp b156
                              refine r_aload_0 (pc := 159) C dX2_passes_159 ?_
                              refine r_iload_2 (pc := 160) C dX2_passes_160 ?_
                              refine r_iconst (pc := 161) C dX2_passes_161 ci_4 ?_
                              refine r_V2vo (pc := 162) C (l_grows hNg.1 hNg.2.1 hWg (c := c) (ac := 4) (by omega) (by omega)) vl_X2_198 (ly_g hNg.1) (by decide) (Nat.le_refl _) (Nat.le_refl _) (Nat.le_of_ble_eq_true rfl) rfl dX2_passes_162 (fun u12 A12 hc12 => ?_)
                              obtain ⟨hNg12, hTg12⟩ := hc12
                              refine r_iinc_2 (pc := 165) C dX2_passes_165 (nI_inc _) rfl ?_
                              refine r_goto (pc := 168) (tgt := 109) C dX2_passes_168 (by decide) ?_
                              have eg9 := gr2_d (b := isDay σ) (σ := grK (isDay σ) (dq σ) c) (c := c) (by omega) (hWg.c (by omega)) (hWg.c9 (by omega)) b134 b147 b156
                              rw [← grK_y (b := isDay σ) b122] at eg9
                              have hNn := (hNg.tr ‹Nx B _ a d _›).eq eg9
                              have hTn : Td _ d (grK (isDay σ) (dq σ) (c + 1)) := td_eq hTg (by assumption) (by rw [grK_y b122]; exact ((growR_keep hgp.2.1 (by omega)).1.c)) (by rw [grK_y b122]; exact growR_o (by omega)) (fun j hj => by rw [grK_y b122]; exact growR_o (by omega))
                              exact ih109 (c + 1) _ (by omega) hNn hTn (by omega)
                        · skip
                          have b134 := bI_n.mp b134
                          refine r_aload_0 (pc := 137) C dX2_passes_137 ?_
                          refine r_iload_2 (pc := 138) C dX2_passes_138 ?_
                          refine r_iconst (pc := 139) C dX2_passes_139 ci_5 ?_
                          refine r_V2vo (pc := 140) C (l_grows hNg.1 hNg.2.1 hWg (c := c) (ac := 5) (by omega) (by omega)) vl_X2_198 (ly_g hNg.1) (by decide) (Nat.le_refl _) (Nat.le_refl _) (Nat.le_of_ble_eq_true rfl) rfl dX2_passes_140 (fun u13 A13 hc13 => ?_)
                          obtain ⟨hNg13, hTg13⟩ := hc13
                          refine r_goto (pc := 143) (tgt := 165) C dX2_passes_143 (by decide) ?_
                          refine r_iinc_2 (pc := 165) C dX2_passes_165 (nI_inc _) rfl ?_
                          refine r_goto (pc := 168) (tgt := 109) C dX2_passes_168 (by decide) ?_
                          have eg9 := gr2_f (b := isDay σ) (σ := grK (isDay σ) (dq σ) c) (c := c) (by omega) (hWg.c (by omega)) (hWg.c9 (by omega)) b134
                          rw [← grK_y (b := isDay σ) b122] at eg9
                          have hNn := (hNg.tr ‹Nx B _ a d _›).eq eg9
                          have hTn : Td _ d (grK (isDay σ) (dq σ) (c + 1)) := td_eq hTg (by assumption) (by rw [grK_y b122]; exact ((growR_keep hgp.2.1 (by omega)).1.c)) (by rw [grK_y b122]; exact growR_o (by omega)) (fun j hj => by rw [grK_y b122]; exact growR_o (by omega))
                          exact ih109 (c + 1) _ (by omega) hNn hTn (by omega)
                      · skip
                        have b122 := bI_0.mp b122
                        refine r_goto (pc := 125) (tgt := 165) C dX2_passes_125 (by decide) ?_
                        refine r_iinc_2 (pc := 165) C dX2_passes_165 (nI_inc _) rfl ?_
                        refine r_goto (pc := 168) (tgt := 109) C dX2_passes_168 (by decide) ?_
                        have hNn := hNg.eq (grK_no b122).symm
                        have hTn := hTg
                        rw [← grK_no b122] at hTn
                        exact ih109 (c + 1) _ (by omega) hNn hTn (by omega)
                exact lp109_10 _ 0 _ (Nat.zero_le _) hNq hTq (Nat.lt_succ_self _)
            · skip
              have b33 := (not_congr (nI_le2 (by omega) (by omega))).mp b33
              have hk2 : k < rK σ := by omega
              have hpd := (hWk.K (k := k) (by omega)).2.2.2
              have epd : wPd (wkK σ k) k = wPd σ k := hSk.pd (by omega)
              refine r_aload_0 (pc := 36) C dX2_passes_36 ?_
              refine r_iload_1 (pc := 37) C dX2_passes_37 ?_
              refine r_V1ro (pc := 38) C (l_walker hNk.1 hNk.2.1 hWk (k := k) (by omega)) vl_X2_89 (ly_g hNk.1) (by decide) (Nat.le_refl _) (Nat.le_refl _) (Nat.le_of_ble_eq_true rfl) rfl dX2_passes_38 (fun u14 A14 hc14 => ?_)
              refine r_topR hc14.1 ?_
              refine r_eqA hc14.2 ?_
              clear hc14 A14 u14
              refine r_aload_0 (pc := 41) C dX2_passes_41 ?_
              refine r_getI (pc := 42) C fl_X2_35_2 (ly_g hNk.1) rfl dX2_passes_42 ?_
              refine r_top (hNk.2.1.day.trans hdk) ?_
              refine r_V1io (pc := 45) C (j_X5_walksOn (p := wPd σ k) (ly_w hNk.1 (by omega)).2 (((hNk.2.1.wk (v := 10) (by omega) (by omega) (by omega) (by omega)).trans hpd.1).trans (congrArg nI epd)) (by omega) (by omega) (by omega)) vl_X2_192 (ly_w hNk.1 (by omega)).2 (by decide) (Nat.le_refl _) (Nat.le_refl _) (Nat.le_of_ble_eq_true rfl) rfl dX2_passes_45 (fun u15 A15 hc15 => ?_)
              refine r_top hc15.1 ?_
              refine r_eqA hc15.2 ?_
              clear hc15 A15 u15
              refine r_if_eq (pc := 48) (tgt := 60) C dX2_passes_48 (by decide) (fun b48 => ?_) (fun b48 => ?_)
              · skip
                have b48 := bI_0.mp b48
                refine r_iinc_1 (pc := 60) C dX2_passes_60 (nI_inc _) rfl ?_
                refine r_goto (pc := 63) (tgt := 25) C dX2_passes_63 (by decide) ?_
                exact ih25 (k + 1) _ (by omega) (by first | exact (hNk.tr (by assumption)).eq (wkK_y (by assumption)).symm | exact hNk.eq (wkK_no (by assumption)).symm) (by first | (rw [wkK_y (by assumption)]; assumption) | (rw [wkK_no (by assumption)]; exact hTk)) (by omega)
              · skip
                have b48 := bI_n.mp b48
                refine r_aload_0 (pc := 51) C dX2_passes_51 ?_
                refine r_aload_0 (pc := 52) C dX2_passes_52 ?_
                refine r_iload_1 (pc := 53) C dX2_passes_53 ?_
                refine r_V1ro (pc := 54) C (l_walker hNk.1 hNk.2.1 hWk (k := k) (by omega)) vl_X2_89 (ly_g hNk.1) (by decide) (Nat.le_refl _) (Nat.le_refl _) (Nat.le_of_ble_eq_true rfl) rfl dX2_passes_54 (fun u16 A16 hc16 => ?_)
                refine r_topR hc16.1 ?_
                refine r_eqA hc16.2 ?_
                clear hc16 A16 u16
                refine r_V1vo (pc := 57) C (l_walks hNk.1 hNk.2.1 hWk hCk hKk hG (k := k) (by omega) (ways_k hW hy hk2).2.2.2 hTk) vl_X2_195 (ly_g hNk.1) (by decide) (Nat.le_refl _) (Nat.le_refl _) (Nat.le_of_ble_eq_true rfl) rfl dX2_passes_57 (fun u17 A17 hc17 => ?_)
                obtain ⟨hNw17, hTw17⟩ := hc17
                refine r_iinc_1 (pc := 60) C dX2_passes_60 (nI_inc _) rfl ?_
                refine r_goto (pc := 63) (tgt := 25) C dX2_passes_63 (by decide) ?_
                exact ih25 (k + 1) _ (by omega) (by first | exact (hNk.tr (by assumption)).eq (wkK_y (by assumption)).symm | exact hNk.eq (wkK_no (by assumption)).symm) (by first | (rw [wkK_y (by assumption)]; assumption) | (rw [wkK_no (by assumption)]; exact hTk)) (by omega)
        exact lp25_2 _ 0 _ (Nat.zero_le _) hN0 hT0 (Nat.lt_succ_self _)
      · skip
        have b7 := (not_congr (nI_le2 (by omega) (by omega))).mp b7
        refine r_aload_0 (pc := 10) C dX2_passes_10 ?_
        refine r_getR (pc := 11) C fl_X2_75_2 (ly_g hN0.1) rfl (ly_rf hN0.1 18 (by decide)) dX2_passes_11 ?_
        refine r_iload_1 (pc := 14) C dX2_passes_14 ?_
        refine r_iconst (pc := 15) C dX2_passes_15 ci_0 ?_
        refine r_zast (pc := 16) C (ly_gf hN0.1 18 (by decide)) rfl rfl (lt_eq (by omega) (ly_nf hN0.1 18 (by decide) (by decide))) (by omega) nar_0 dX2_passes_16 ?_
        refine r_iinc_1 (pc := 17) C dX2_passes_17 (nI_inc _) rfl ?_
        refine r_goto (pc := 20) (tgt := 2) C dX2_passes_20 (by decide) ?_
        exact ih2 (c + 1) _ (by omega) (hN0.sc (sm_sc (Or.inr (Or.inr (Or.inr rfl))))) (fun j hj => by rw [sI_s]; exact if q9 : j = c then by rw [q9, pk_us] else by rw [pk_un q9]; exact hz j (by omega)) (by omega)
  exact lp2_1 _ 0 _ (Nat.zero_le _) hN (fun j hj => absurd hj (Nat.not_lt_zero _)) (Nat.lt_succ_self _)
