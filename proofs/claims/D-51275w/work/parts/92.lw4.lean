/-! THE LAWN, 4: writing; treads, walks -/
set_option maxRecDepth 100000
/-- a lawn's own cells -/
def Ow (G : Nat → Nat × Nat) (a x : Nat) : Prop := (G x).2 = a ∧ ((G x).1 = 2 ∨ (G x).1 = 5 ∨ (121 ≤ (G x).1 ∧ (G x).1 ≤ 127) ∨ (321 ≤ (G x).1 ∧ (G x).1 ≤ 323))
theorem ow_sA {G : Nat → Nat × Nat} {R : Nat → Nat → Option Nat} {n : Nat → Nat} {a : Nat} {d : Nat → Nat} {C K N j : Nat} (hL : Ly0 G R n a d C K N) (hj : Dm C K j) : Ow G a (sA a d j) := by
  have h6 : ∀ v, (121 ≤ lyK (fcL v) ∧ lyK (fcL v) ≤ 127) ∨ (321 ≤ lyK (fcL v) ∧ lyK (fcL v) ≤ 323) := fun v => by unfold fcL; split <;> decide
  unfold Ow
  rcases sA_g hL hj with ⟨-, -, g1⟩ | ⟨-, -, -, g1⟩ | ⟨-, -, -, g1⟩ | ⟨-, -, g1⟩ <;> rw [g1]
  · exact ⟨rfl, Or.inl rfl⟩
  · exact ⟨rfl, Or.inr (Or.inr (Or.inl ⟨Nat.le_of_ble_eq_true rfl, Nat.le_of_ble_eq_true rfl⟩))⟩
  · exact ⟨rfl, Or.inr (Or.inl rfl)⟩
  · exact ⟨rfl, Or.inr (Or.inr (h6 _))⟩
theorem ow_arr {G : Nat → Nat × Nat} {R : Nat → Nat → Option Nat} {n : Nat → Nat} {a : Nat} {d : Nat → Nat} {C K N f : Nat} (hL : Ly0 G R n a d C K N) (hf : arrF f) : Ow G a (d f) := by
  have h2 := (hL.2.1 f hf).2.1
  have h6 : (121 ≤ lyK f ∧ lyK f ≤ 127) ∨ (321 ≤ lyK f ∧ lyK f ≤ 323) := by unfold lyK; split <;> omega
  unfold Ow
  rw [h2]
  exact ⟨rfl, Or.inr (Or.inr h6)⟩
theorem ow_sc {G : Nat → Nat × Nat} {R : Nat → Nat → Option Nat} {n : Nat → Nat} {a : Nat} {d : Nat → Nat} {C K N x : Nat} (hL : Ly0 G R n a d C K N) (hx : Sc d x) : Ow G a x := by
  rcases hx with q | q | q | q <;> rw [q] <;> exact ow_arr hL (by decide)
/-- B is A but for the lawn at a, which is σ now -/
def Nx (A B : HA) (a : Nat) (d : Nat → Nat) (σ : Rw) : Prop := Ly B a d σ ∧ Lv B.I a d σ ∧ Sm A B (Ow A.G a)
theorem Nx.rf {A : HA} {a : Nat} {d : Nat → Nat} {σ : Rw} (hL : Ly A a d σ) (hv : Lv A.I a d σ) : Nx A A a d σ := ⟨hL, hv, Sm.rf⟩
theorem Nx.tr {A B D : HA} {a : Nat} {d : Nat → Nat} {σ τ : Rw} (h : Nx A B a d σ) (h2 : Nx B D a d τ) : Nx A D a d τ := ⟨h2.1, h2.2.1, h.2.2.tr (by have := h2.2.2; rw [h.2.2.1] at this; exact this)⟩
/-- the same row, told otherwise -/
theorem Nx.eq {A B : HA} {a : Nat} {d : Nat → Nat} {σ τ : Rw} (h : Nx A B a d σ) (e : σ = τ) : Nx A B a d τ := e ▸ h
/-- scratch alone is changed -/
theorem Nx.sc {A B D : HA} {a : Nat} {d : Nat → Nat} {σ : Rw} (h : Nx A B a d σ) (e : Sm B D (Sc d)) : Nx A D a d σ := by
  have hL : Ly D a d σ := by
    have := h.1
    unfold Ly at this ⊢
    rw [e.1, e.2.1, e.2.2.1]; exact this
  refine ⟨hL, h.2.1.sc h.1 e.2.2.2.2.2, h.2.2.tr (e.mono fun y hy => ?_)⟩
  have := ow_sc h.1 hy
  rw [h.2.2.1] at this
  exact this
section
variable {A : HA} {a : Nat} {d : Nat → Nat} {κ μ : Nat → Int32}
theorem sm_FH : Sm A (FH A d κ μ) (Sc d) := ⟨rfl, rfl, rfl, rfl, rfl, fun _ hy => FH_x (fun e => hy (Or.inl e)) (fun e => hy (Or.inr (Or.inr (Or.inl e))))⟩
theorem sm_sc {f : Nat} {h : Nat → Int32} (hf : Sc d (d f)) : Sm A (A.sI (d f) h) (Sc d) := Sm.sI hf
end
theorem dm_acc {C K i : Nat} (h : i < 12) : Dm C K (9 + i) := Or.inr (Or.inr (Or.inl (by omega)))
theorem adj_a {i : Nat} (h : i < 12) (x : Int32) : adj (9 + i) x = x := if_neg (by omega)
theorem adj_w {k v : Nat} (h : v < 13) (hk : k < 6) (x : Int32) : adj (75 + 13 * k + v) x = x := if_neg (by omega)
theorem adj_3 (x : Int32) : adj 3 x = x := if_neg (by omega)
theorem adj_8 (x : Int32) : adj 8 x = x := if_neg (by omega)
theorem i_1m (x : Int32) : x + nI 1 - 1 = x := by rw [nI1]; exact Int32.add_sub_cancel x 1
theorem adj_l {c : Nat} (x : Int32) : adj (153 + 5 * c + 4) (x + nI 1) = x := by
  unfold adj
  rw [if_pos (by omega), i_1m]
section
variable {g : GZ} {z : ZX} {k n pc : Nat} {A0 A : HA} {a : Nat} {d : Nat → Nat} {σ : Rw} {lv : List (Option Value)} {st : List Value}
/-- one place of the lawn is written -/
theorem r_wr (hN : Nx A0 A a d σ) (h6 : rG σ ≤ 6) {j x i : Nat} {v w : Int32} (hj : Dm (rC σ) (rK σ) j) (hvw : adj j w = v) (hx : x = sA a d j) (hi : i = sI j) (kk : ∀ B, Nx A0 B a d (upd σ j w) → (∀ y, Sc d y → B.I y = A.I y) → (rC (upd σ j w) = rC σ ∧ rK (upd σ j w) = rK σ ∧ rG (upd σ j w) = rG σ) → wa g z k n B pc lv st) : wa g z k n (A.sI x (upd (A.I x) i v)) pc lv st := by
  subst hx; subst hi
  have hjx : j ≠ 0 ∧ j ≠ 1 ∧ j ≠ 4 ∧ j ≠ 5 := by unfold Dm at hj; omega
  have eC : rC (upd σ j w) = rC σ := by unfold rC rW rH; rw [pk_un (by omega), pk_un (by omega)]
  have eK : rK (upd σ j w) = rK σ := by unfold rK; rw [pk_un (by omega)]
  have eG : rG (upd σ j w) = rG σ := by unfold rG; rw [pk_un (by omega)]
  have ho := ow_sA hN.1 hj
  refine kk _ ⟨?_, Lv.up hN.1 hN.2.1 h6 hj hvw, hN.2.2.tr (Sm.sI ?_)⟩ (fun y hy => sI_o A _ (fun e => ?_)) ⟨eC, eK, eG⟩
  · unfold Ly
    rw [eC, eK, eG]
    exact hN.1
  · rw [hN.2.2.1] at ho; exact ho
  · have h1 := hy.k hN.1
    have fk := lyK_sc ((j - 153) % 5)
    rw [e] at h1
    rcases sA_g hN.1 hj with ⟨-, -, g1⟩ | ⟨-, -, -, g1⟩ | ⟨-, -, -, g1⟩ | ⟨-, -, g1⟩ <;> rw [g1] at h1 <;> simp only at h1 <;> omega
end
theorem Nx.rC {A B : HA} {a : Nat} {d : Nat → Nat} {σ : Rw} (h : Nx A B a d σ) : Ly0 B.G B.R B.n a d (rC σ) (rK σ) (rG σ) := h.1
/-- the cells that were trodden on today are so marked -/
def Td (I : Nat → Nat → Int32) (d : Nat → Nat) (σ : Rw) : Prop := ∀ c, c < rC σ → I (d 18) c = bI (σ (153 + 5 * c + 4) = σ 3 + nI 1)
theorem tr_h (σ : Rw) (c : Nat) : rC (treadR σ c) = rC σ := by unfold rC rW rH; rw [treadR_o (by omega), treadR_o (by omega)]
theorem td_tread {I J : Nat → Nat → Int32} {d : Nat → Nat} {σ : Rw} {c : Nat} (h : Td I d σ) (e : J (d 18) = upd (I (d 18)) c (nI 1)) : Td J d (treadR σ c) := by
  intro j hj
  rw [tr_h] at hj
  rw [e, treadR_o (j := 3) (by omega)]
  by_cases q : j = c
  · rw [q, pk_us, treadR_4]; exact bI_1 rfl
  · rw [pk_un q, treadR_o (by omega)]; exact h j hj
theorem less_w {σ : Rw} {c : Nat} (h : wetD σ (rD σ)) : (if 2 < cGr σ c then 2 else cGr σ c) = lessN σ c := by unfold lessN; rw [if_pos h]
theorem less_d {σ : Rw} {c : Nat} (h : ¬ wetD σ (rD σ)) : (if 1 < cGr σ c then 1 else cGr σ c) = lessN σ c := by unfold lessN; rw [if_neg h]
theorem way_nf {σ : Rw} (hW : RowW σ) (hC : ∀ c, c < 80 → CelF σ c) (hK : GK σ) {w : Nat} (hw : w < rK σ) (hd : dist σ w 0 (gC σ (wFr σ w)) < 1000000) {i : Nat} (hi : i ≤ wl σ w) : ¬ fenced σ (wy σ w i) := by
  intro hf
  have hwf := wy_facts hW hw hd
  have hc80 := hW.s.c80
  cases i with
  | zero => exact absurd (gk_opn (m := 0) (by omega) hC hK hW (hW.K hw).1.2) (fc_cls hf)
  | succ i =>
    have h1 := hwf.1 i (by omega)
    have hcf := gC_lt hW.s (hW.G (hW.K hw).1.2)
    have h2 := (wyF_spec hW hcf hd (n := wl σ w) hwf.2.2.1 i (by omega)).2.1
    have h3 := nxt_spec (w := w) hW h1 (by have h2 : dist σ w 0 (wy σ w i) + 10 * i ≤ _ := h2; omega) (hwf.2.2.1 i (by omega))
    obtain ⟨-, -, -, -, -, e, h4, -⟩ := h3
    have h5 := hwf.1 (i + 1) (by omega)
    have h6 : ecost σ w 0 (wy σ w (i + 1)) = some e := h4
    rw [ec_opn (by omega) (cel_f (hC _ (by omega))), if_neg (fc_cls hf)] at h6
    cases h6
theorem wy_dist {σ : Rw} (hW : RowW σ) {w : Nat} (hw : w < rK σ) (hd : dist σ w 0 (gC σ (wFr σ w)) < 1000000) {i : Nat} (hi : i ≤ wl σ w) : dist σ w 0 (wy σ w i) < 1000000 := by
  have hwf := wy_facts hW hw hd
  have h2 := (wyF_spec hW (gC_lt hW.s (hW.G (hW.K hw).1.2)) hd (n := wl σ w) hwf.2.2.1 i hi).2.1
  have h2 : dist σ w 0 (wy σ w i) + 10 * i ≤ dist σ w 0 (gC σ (wFr σ w)) := h2
  omega
theorem wy_nb {σ : Rw} (hW : RowW σ) {w : Nat} (hw : w < rK σ) (hd : dist σ w 0 (gC σ (wFr σ w)) < 1000000) {i : Nat} (hi : i < wl σ w) : dirT σ w (wy σ w i) < 4 ∧ nb (rW σ) (rH σ) (wy σ w i) (dirT σ w (wy σ w i)) = some (wy σ w (i + 1)) := by
  have hwf := wy_facts hW hw hd
  have h3 := nxt_spec (w := w) hW (hwf.1 i (by omega)) (wy_dist hW hw hd (by omega)) (hwf.2.2.1 i hi)
  exact ⟨h3.1, h3.2.2.2.1⟩
theorem trK_1 {σ : Rw} (hK : GK σ) {w : Nat} (hr : wFr σ w < rG σ) : trK σ w 1 = σ := by
  have h2 := hK _ hr
  show (if σ (153 + 5 * gC σ (wFr σ w) + 0) = 0 then _ else σ) = σ
  rw [if_neg (by rw [h2]; decide +kernel)]
theorem trK_y {σ : Rw} {w k : Nat} (h : trK σ w k (153 + 5 * wy σ w k + 0) = 0) : trK σ w (k + 1) = treadR (trK σ w k) (wy σ w k) := if_pos h
theorem trK_no {σ : Rw} {w k : Nat} (h : ¬ trK σ w k (153 + 5 * wy σ w k + 0) = 0) : trK σ w (k + 1) = trK σ w k := if_neg h
theorem i_wl (x : Int32) (n : Nat) : x + nI (n + 1) - nI 1 = x + nI n := by
  rw [← nI_add, ← Int32.add_assoc]; exact Int32.add_sub_cancel _ _
theorem i_wl2 (n : Nat) : nI (n + 1) - nI 1 = nI n := by rw [← nI_add]; exact Int32.add_sub_cancel _ _
theorem i_0 (x : Int32) : x + nI 0 = x := by rw [nI0]; exact Int32.add_zero x
set_option maxHeartbeats 4000000 in
theorem l_treads {g : GZ} {A : HA} {a : Nat} {d : Nat → Nat} {σ : Rw} (hL : Ly A a d σ) (hv : Lv A.I a d σ) (hW : RowW σ) {c : Nat} (hT : Td A.I d σ) (hc : c < rC σ) : Ct g wV yX2_treads (.code yX2_treads cX2_treads 3 (Option.none : Option Jvm.ClassFile.FieldType)) 2 0 0 [.ref a, .int (nI (c))] (A) (fun u A' => Nx A A' a d (treadR σ c) ∧ Td A'.I d (treadR σ c) ∧ A'.I (d 16) = A.I (d 16)) fw_no := by
  refine Ct.of [some (.ref a), some (.int (nI (c))), none] (by decide) rfl rfl fun z C hx hnm E => ?_
  have hS := hW.s
  have hw3 := hS.w3
  have hw10 := hS.w10
  have hh8 := hS.h8
  have hc80 := hS.c80
  have k6 := hW.k6
  have g6 := hW.g6
  have d9 := hW.d9
  have hle := lessN_le σ c
  have h9 := hW.c9 (show c < 80 by omega)
  have hN := Nx.rf hL hv
  refine r_aload_0 (pc := 0) C dX2_treads_0 ?_
  refine r_getR (pc := 1) C fl_X2_75_2 (ly_g hL) rfl (ly_rf hL 18 (by decide)) dX2_treads_1 ?_
  refine r_iload_1 (pc := 4) C dX2_treads_4 ?_
  refine r_iconst (pc := 5) C dX2_treads_5 ci_1 ?_
  refine r_zast (pc := 6) C (ly_gf hL 18 (by decide)) rfl rfl (lt_eq (by omega) (ly_nf hL 18 (by decide) (by decide))) (by omega) nar_1 dX2_treads_6 ?_
  have hS0 : Sm A (A.sI (d 18) (upd (A.I (d 18)) c (nI 1))) (Sc d) := sm_sc (Or.inr (Or.inr (Or.inr rfl)))
  have hN0 := hN.sc hS0
  have e018 : (A.sI (d 18) (upd (A.I (d 18)) c (nI 1))).I (d 18) = upd (A.I (d 18)) c (nI 1) := sI_s _ _ _
  have e016 : (A.sI (d 18) (upd (A.I (d 18)) c (nI 1))).I (d 16) = A.I (d 16) := sI_o _ _ (ly_ne hL (by decide) (by decide) (by decide))
  clear hS0
  generalize A.sI (d 18) (upd (A.I (d 18)) c (nI 1)) = B0 at hN0 e018 e016 ⊢
  refine r_aload_0 (pc := 7) C dX2_treads_7 ?_
  refine r_getR (pc := 8) C fl_X2_18_2 (ly_g hN0.1) rfl (ly_rf hN0.1 6 (by decide)) dX2_treads_8 ?_
  refine r_iload_1 (pc := 11) C dX2_treads_11 ?_
  refine r_iald (pc := 12) C (ly_gf hN0.1 6 (by decide)) rfl rfl (lt_eq (by omega) (ly_nf hN0.1 6 (by decide) (by decide))) (by omega) dX2_treads_12 ?_
  refine r_top ((hN0.2.1.grass hc).trans (hW.c (by omega))) ?_
  refine r_aload_0 (pc := 13) C dX2_treads_13 ?_
  refine r_aload_0 (pc := 14) C dX2_treads_14 ?_
  refine r_getI (pc := 15) C fl_X2_35_2 (ly_g hN0.1) rfl dX2_treads_15 ?_
  refine r_top (hN0.2.1.day.trans hW.d) ?_
  refine r_V1io (pc := 18) C (l_isWet hN0.1 hN0.2.1 hW (by omega)) vl_X2_130 (ly_g hN0.1) (by decide) (Nat.le_refl _) (Nat.le_refl _) (Nat.le_of_ble_eq_true rfl) rfl dX2_treads_18 (fun u1 A1 hc1 => ?_)
  refine r_top hc1.1 ?_
  refine r_eqA hc1.2 ?_
  clear hc1 A1 u1
  refine r_if_eq (pc := 21) (tgt := 28) C dX2_treads_21 (by decide) (fun b21 => ?_) (fun b21 => ?_)
  · skip
    have b21 := bI_0.mp b21
    refine r_iconst (pc := 28) C dX2_treads_28 ci_1 ?_
    refine r_min (pc := 29) C q1027 rfl (Nat.le_of_ble_eq_true rfl) (by decide) (Nat.le_refl _) (Nat.le_refl _) dX2_treads_29 ?_
    refine r_top (nI_min (by omega) (by omega)) ?_
    first | refine r_top (congrArg nI (less_w (by assumption))) ?_ | refine r_top (congrArg nI (less_d (by assumption))) ?_
    refine r_istore_2 (pc := 32) C dX2_treads_32 rfl ?_
    refine r_aload_0 (pc := 33) C dX2_treads_33 ?_
    refine r_getR (pc := 34) C fl_X2_18_2 (ly_g hN0.1) rfl (ly_rf hN0.1 6 (by decide)) dX2_treads_34 ?_
    refine r_iload_1 (pc := 37) C dX2_treads_37 ?_
    refine r_dup2 (pc := 38) C dX2_treads_38 rfl rfl ?_
    refine r_iald (pc := 39) C (ly_gf hN0.1 6 (by decide)) rfl rfl (lt_eq (by omega) (ly_nf hN0.1 6 (by decide) (by decide))) (by omega) dX2_treads_39 ?_
    refine r_top ((hN0.2.1.grass hc).trans (hW.c (by omega))) ?_
    refine r_iload_2 (pc := 40) C dX2_treads_40 ?_
    refine r_isub (pc := 41) C dX2_treads_41 ?_
    refine r_top (pk_sub (by omega)) ?_
    refine r_iast (pc := 42) C (ly_gf hN0.1 6 (by decide)) rfl rfl (lt_eq (by omega) (ly_nf hN0.1 6 (by decide) (by decide))) (by omega) dX2_treads_42 ?_
    refine r_wr hN0 (by omega) (j := 153 + 5 * c + 1) (w := nI (cGr σ c - lessN σ c)) (dm_cell (by omega) (by omega)) (adj_c (by omega) _) (sA_cell (a := a) (d := d) (c := c) (v := 1) (by omega)).1.symm (sA_cell (a := a) (d := d) (c := c) (v := 1) (by omega)).2.symm fun B1 hN1 hs1 hq1 => ?_
    have hN1 : Nx A B1 a d (tr1 σ c) := hN1
    obtain ⟨eC1, eK1, eG1⟩ : rC (tr1 σ c) = rC (σ) ∧ rK (tr1 σ c) = rK (σ) ∧ rG (tr1 σ c) = rG (σ) := hq1
    refine r_aload_0 (pc := 43) C dX2_treads_43 ?_
    refine r_getR (pc := 44) C fl_X2_56_2 (ly_g hN1.1) rfl (ly_rf hN1.1 7 (by decide)) dX2_treads_44 ?_
    refine r_iload_1 (pc := 47) C dX2_treads_47 ?_
    refine r_dup2 (pc := 48) C dX2_treads_48 rfl rfl ?_
    refine r_iald (pc := 49) C (ly_gf hN1.1 7 (by decide)) rfl rfl (lt_eq (by omega) (ly_nf hN1.1 7 (by decide) (by decide))) (by omega) dX2_treads_49 ?_
    refine r_top (hN1.2.1.trod (by omega)) ?_
    refine r_iconst (pc := 50) C dX2_treads_50 ci_1 ?_
    refine r_iadd (pc := 51) C dX2_treads_51 ?_
    refine r_iast (pc := 52) C (ly_gf hN1.1 7 (by decide)) rfl rfl (lt_eq (by omega) (ly_nf hN1.1 7 (by decide) (by decide))) (by omega) dX2_treads_52 ?_
    refine r_wr hN1 (by omega) (j := 153 + 5 * c + 3) (w := tr1 σ c (153 + 5 * c + 3) + nI 1) (dm_cell (by omega) (by omega)) (adj_c (by omega) _) (sA_cell (a := a) (d := d) (c := c) (v := 3) (by omega)).1.symm (sA_cell (a := a) (d := d) (c := c) (v := 3) (by omega)).2.symm fun B2 hN2 hs2 hq2 => ?_
    have hN2 : Nx A B2 a d (tr2 σ c) := hN2
    obtain ⟨eC2, eK2, eG2⟩ : rC (tr2 σ c) = rC (tr1 σ c) ∧ rK (tr2 σ c) = rK (tr1 σ c) ∧ rG (tr2 σ c) = rG (tr1 σ c) := hq2
    refine r_aload_0 (pc := 53) C dX2_treads_53 ?_
    refine r_getR (pc := 54) C fl_X2_22_2 (ly_g hN2.1) rfl (ly_rf hN2.1 8 (by decide)) dX2_treads_54 ?_
    refine r_iload_1 (pc := 57) C dX2_treads_57 ?_
    refine r_aload_0 (pc := 58) C dX2_treads_58 ?_
    refine r_getI (pc := 59) C fl_X2_35_2 (ly_g hN2.1) rfl dX2_treads_59 ?_
    refine r_top hN2.2.1.day ?_
    refine r_iast (pc := 62) C (ly_gf hN2.1 8 (by decide)) rfl rfl (lt_eq (by omega) (ly_nf hN2.1 8 (by decide) (by decide))) (by omega) dX2_treads_62 ?_
    refine r_wr hN2 (by omega) (j := 153 + 5 * c + 4) (w := tr2 σ c 3 + nI 1) (dm_cell (by omega) (by omega)) (adj_l _) (sA_cell (a := a) (d := d) (c := c) (v := 4) (by omega)).1.symm (sA_cell (a := a) (d := d) (c := c) (v := 4) (by omega)).2.symm fun B3 hN3 hs3 hq3 => ?_
    have hN3 : Nx A B3 a d (tr3 σ c) := hN3
    obtain ⟨eC3, eK3, eG3⟩ : rC (tr3 σ c) = rC (tr2 σ c) ∧ rK (tr3 σ c) = rK (tr2 σ c) ∧ rG (tr3 σ c) = rG (tr2 σ c) := hq3
    refine r_aload_0 (pc := 63) C dX2_treads_63 ?_
    refine r_getR (pc := 64) C fl_X2_63_2 (ly_g hN3.1) rfl (ly_rf hN3.1 9 (by decide)) dX2_treads_64 ?_
    refine r_iconst (pc := 67) C dX2_treads_67 ci_2 ?_
    refine r_dup2 (pc := 68) C dX2_treads_68 rfl rfl ?_
    refine r_iald (pc := 69) C (ly_gf hN3.1 9 (by decide)) rfl rfl (lt_eq (by omega) (ly_n9 hN3.1)) (by omega) dX2_treads_69 ?_
    refine r_top (hN3.2.1.acc (by omega)) ?_
    refine r_iconst (pc := 70) C dX2_treads_70 ci_1 ?_
    refine r_iadd (pc := 71) C dX2_treads_71 ?_
    refine r_iast (pc := 72) C (ly_gf hN3.1 9 (by decide)) rfl rfl (lt_eq (by omega) (ly_n9 hN3.1)) (by omega) dX2_treads_72 ?_
    refine r_wr hN3 (by omega) (j := 9 + 2) (w := tr3 σ c (9 + 2) + nI 1) (dm_acc (by omega)) (adj_a (by omega) _) (sA_acc (a := a) (d := d) (i := 2) (by omega)).1.symm (sA_acc (a := a) (d := d) (i := 2) (by omega)).2.symm fun B4 hN4 hs4 hq4 => ?_
    have hN4 : Nx A B4 a d (tr4 σ c) := hN4
    obtain ⟨eC4, eK4, eG4⟩ : rC (tr4 σ c) = rC (tr3 σ c) ∧ rK (tr4 σ c) = rK (tr3 σ c) ∧ rG (tr4 σ c) = rG (tr3 σ c) := hq4
    refine r_aload_0 (pc := 73) C dX2_treads_73 ?_
    refine r_getR (pc := 74) C fl_X2_63_2 (ly_g hN4.1) rfl (ly_rf hN4.1 9 (by decide)) dX2_treads_74 ?_
    refine r_iconst (pc := 77) C dX2_treads_77 ci_3 ?_
    refine r_dup2 (pc := 78) C dX2_treads_78 rfl rfl ?_
    refine r_iald (pc := 79) C (ly_gf hN4.1 9 (by decide)) rfl rfl (lt_eq (by omega) (ly_n9 hN4.1)) (by omega) dX2_treads_79 ?_
    refine r_top (hN4.2.1.acc (by omega)) ?_
    refine r_iload_2 (pc := 80) C dX2_treads_80 ?_
    refine r_iadd (pc := 81) C dX2_treads_81 ?_
    refine r_iast (pc := 82) C (ly_gf hN4.1 9 (by decide)) rfl rfl (lt_eq (by omega) (ly_n9 hN4.1)) (by omega) dX2_treads_82 ?_
    refine r_wr hN4 (by omega) (j := 9 + 3) (w := tr4 σ c (9 + 3) + nI (lessN σ c)) (dm_acc (by omega)) (adj_a (by omega) _) (sA_acc (a := a) (d := d) (i := 3) (by omega)).1.symm (sA_acc (a := a) (d := d) (i := 3) (by omega)).2.symm fun B5 hN5 hs5 hq5 => ?_
    have hN5 : Nx A B5 a d (treadR σ c) := hN5
    obtain ⟨eC5, eK5, eG5⟩ : rC (treadR σ c) = rC (tr4 σ c) ∧ rK (treadR σ c) = rK (tr4 σ c) ∧ rG (treadR σ c) = rG (tr4 σ c) := hq5
    refine r_vret (pc := 83) C E (Nat.le_refl _) (Nat.le_refl _) dX2_treads_83 ?_
    have hx : ∀ y, Sc d y → B5.I y = B0.I y := fun y hy => (hs5 y hy).trans ((hs4 y hy).trans ((hs3 y hy).trans ((hs2 y hy).trans (hs1 y hy))))
    exact ⟨hN5, td_tread hT ((hx _ (Or.inr (Or.inr (Or.inr rfl)))).trans e018), (hx _ (Or.inr (Or.inl rfl))).trans e016⟩
  · skip
    have b21 := bI_n.mp b21
    refine r_iconst (pc := 24) C dX2_treads_24 ci_2 ?_
    refine r_goto (pc := 25) (tgt := 29) C dX2_treads_25 (by decide) ?_
    refine r_min (pc := 29) C q1027 rfl (Nat.le_of_ble_eq_true rfl) (by decide) (Nat.le_refl _) (Nat.le_refl _) dX2_treads_29 ?_
    refine r_top (nI_min (by omega) (by omega)) ?_
    first | refine r_top (congrArg nI (less_w (by assumption))) ?_ | refine r_top (congrArg nI (less_d (by assumption))) ?_
    refine r_istore_2 (pc := 32) C dX2_treads_32 rfl ?_
    refine r_aload_0 (pc := 33) C dX2_treads_33 ?_
    refine r_getR (pc := 34) C fl_X2_18_2 (ly_g hN0.1) rfl (ly_rf hN0.1 6 (by decide)) dX2_treads_34 ?_
    refine r_iload_1 (pc := 37) C dX2_treads_37 ?_
    refine r_dup2 (pc := 38) C dX2_treads_38 rfl rfl ?_
    refine r_iald (pc := 39) C (ly_gf hN0.1 6 (by decide)) rfl rfl (lt_eq (by omega) (ly_nf hN0.1 6 (by decide) (by decide))) (by omega) dX2_treads_39 ?_
    refine r_top ((hN0.2.1.grass hc).trans (hW.c (by omega))) ?_
    refine r_iload_2 (pc := 40) C dX2_treads_40 ?_
    refine r_isub (pc := 41) C dX2_treads_41 ?_
    refine r_top (pk_sub (by omega)) ?_
    refine r_iast (pc := 42) C (ly_gf hN0.1 6 (by decide)) rfl rfl (lt_eq (by omega) (ly_nf hN0.1 6 (by decide) (by decide))) (by omega) dX2_treads_42 ?_
    refine r_wr hN0 (by omega) (j := 153 + 5 * c + 1) (w := nI (cGr σ c - lessN σ c)) (dm_cell (by omega) (by omega)) (adj_c (by omega) _) (sA_cell (a := a) (d := d) (c := c) (v := 1) (by omega)).1.symm (sA_cell (a := a) (d := d) (c := c) (v := 1) (by omega)).2.symm fun B1 hN1 hs1 hq1 => ?_
    have hN1 : Nx A B1 a d (tr1 σ c) := hN1
    obtain ⟨eC1, eK1, eG1⟩ : rC (tr1 σ c) = rC (σ) ∧ rK (tr1 σ c) = rK (σ) ∧ rG (tr1 σ c) = rG (σ) := hq1
    refine r_aload_0 (pc := 43) C dX2_treads_43 ?_
    refine r_getR (pc := 44) C fl_X2_56_2 (ly_g hN1.1) rfl (ly_rf hN1.1 7 (by decide)) dX2_treads_44 ?_
    refine r_iload_1 (pc := 47) C dX2_treads_47 ?_
    refine r_dup2 (pc := 48) C dX2_treads_48 rfl rfl ?_
    refine r_iald (pc := 49) C (ly_gf hN1.1 7 (by decide)) rfl rfl (lt_eq (by omega) (ly_nf hN1.1 7 (by decide) (by decide))) (by omega) dX2_treads_49 ?_
    refine r_top (hN1.2.1.trod (by omega)) ?_
    refine r_iconst (pc := 50) C dX2_treads_50 ci_1 ?_
    refine r_iadd (pc := 51) C dX2_treads_51 ?_
    refine r_iast (pc := 52) C (ly_gf hN1.1 7 (by decide)) rfl rfl (lt_eq (by omega) (ly_nf hN1.1 7 (by decide) (by decide))) (by omega) dX2_treads_52 ?_
    refine r_wr hN1 (by omega) (j := 153 + 5 * c + 3) (w := tr1 σ c (153 + 5 * c + 3) + nI 1) (dm_cell (by omega) (by omega)) (adj_c (by omega) _) (sA_cell (a := a) (d := d) (c := c) (v := 3) (by omega)).1.symm (sA_cell (a := a) (d := d) (c := c) (v := 3) (by omega)).2.symm fun B2 hN2 hs2 hq2 => ?_
    have hN2 : Nx A B2 a d (tr2 σ c) := hN2
    obtain ⟨eC2, eK2, eG2⟩ : rC (tr2 σ c) = rC (tr1 σ c) ∧ rK (tr2 σ c) = rK (tr1 σ c) ∧ rG (tr2 σ c) = rG (tr1 σ c) := hq2
    refine r_aload_0 (pc := 53) C dX2_treads_53 ?_
    refine r_getR (pc := 54) C fl_X2_22_2 (ly_g hN2.1) rfl (ly_rf hN2.1 8 (by decide)) dX2_treads_54 ?_
    refine r_iload_1 (pc := 57) C dX2_treads_57 ?_
    refine r_aload_0 (pc := 58) C dX2_treads_58 ?_
    refine r_getI (pc := 59) C fl_X2_35_2 (ly_g hN2.1) rfl dX2_treads_59 ?_
    refine r_top hN2.2.1.day ?_
    refine r_iast (pc := 62) C (ly_gf hN2.1 8 (by decide)) rfl rfl (lt_eq (by omega) (ly_nf hN2.1 8 (by decide) (by decide))) (by omega) dX2_treads_62 ?_
    refine r_wr hN2 (by omega) (j := 153 + 5 * c + 4) (w := tr2 σ c 3 + nI 1) (dm_cell (by omega) (by omega)) (adj_l _) (sA_cell (a := a) (d := d) (c := c) (v := 4) (by omega)).1.symm (sA_cell (a := a) (d := d) (c := c) (v := 4) (by omega)).2.symm fun B3 hN3 hs3 hq3 => ?_
    have hN3 : Nx A B3 a d (tr3 σ c) := hN3
    obtain ⟨eC3, eK3, eG3⟩ : rC (tr3 σ c) = rC (tr2 σ c) ∧ rK (tr3 σ c) = rK (tr2 σ c) ∧ rG (tr3 σ c) = rG (tr2 σ c) := hq3
    refine r_aload_0 (pc := 63) C dX2_treads_63 ?_
    refine r_getR (pc := 64) C fl_X2_63_2 (ly_g hN3.1) rfl (ly_rf hN3.1 9 (by decide)) dX2_treads_64 ?_
    refine r_iconst (pc := 67) C dX2_treads_67 ci_2 ?_
    refine r_dup2 (pc := 68) C dX2_treads_68 rfl rfl ?_
    refine r_iald (pc := 69) C (ly_gf hN3.1 9 (by decide)) rfl rfl (lt_eq (by omega) (ly_n9 hN3.1)) (by omega) dX2_treads_69 ?_
    refine r_top (hN3.2.1.acc (by omega)) ?_
    refine r_iconst (pc := 70) C dX2_treads_70 ci_1 ?_
    refine r_iadd (pc := 71) C dX2_treads_71 ?_
    refine r_iast (pc := 72) C (ly_gf hN3.1 9 (by decide)) rfl rfl (lt_eq (by omega) (ly_n9 hN3.1)) (by omega) dX2_treads_72 ?_
    refine r_wr hN3 (by omega) (j := 9 + 2) (w := tr3 σ c (9 + 2) + nI 1) (dm_acc (by omega)) (adj_a (by omega) _) (sA_acc (a := a) (d := d) (i := 2) (by omega)).1.symm (sA_acc (a := a) (d := d) (i := 2) (by omega)).2.symm fun B4 hN4 hs4 hq4 => ?_
    have hN4 : Nx A B4 a d (tr4 σ c) := hN4
    obtain ⟨eC4, eK4, eG4⟩ : rC (tr4 σ c) = rC (tr3 σ c) ∧ rK (tr4 σ c) = rK (tr3 σ c) ∧ rG (tr4 σ c) = rG (tr3 σ c) := hq4
    refine r_aload_0 (pc := 73) C dX2_treads_73 ?_
    refine r_getR (pc := 74) C fl_X2_63_2 (ly_g hN4.1) rfl (ly_rf hN4.1 9 (by decide)) dX2_treads_74 ?_
    refine r_iconst (pc := 77) C dX2_treads_77 ci_3 ?_
    refine r_dup2 (pc := 78) C dX2_treads_78 rfl rfl ?_
    refine r_iald (pc := 79) C (ly_gf hN4.1 9 (by decide)) rfl rfl (lt_eq (by omega) (ly_n9 hN4.1)) (by omega) dX2_treads_79 ?_
    refine r_top (hN4.2.1.acc (by omega)) ?_
    refine r_iload_2 (pc := 80) C dX2_treads_80 ?_
    refine r_iadd (pc := 81) C dX2_treads_81 ?_
    refine r_iast (pc := 82) C (ly_gf hN4.1 9 (by decide)) rfl rfl (lt_eq (by omega) (ly_n9 hN4.1)) (by omega) dX2_treads_82 ?_
    refine r_wr hN4 (by omega) (j := 9 + 3) (w := tr4 σ c (9 + 3) + nI (lessN σ c)) (dm_acc (by omega)) (adj_a (by omega) _) (sA_acc (a := a) (d := d) (i := 3) (by omega)).1.symm (sA_acc (a := a) (d := d) (i := 3) (by omega)).2.symm fun B5 hN5 hs5 hq5 => ?_
    have hN5 : Nx A B5 a d (treadR σ c) := hN5
    obtain ⟨eC5, eK5, eG5⟩ : rC (treadR σ c) = rC (tr4 σ c) ∧ rK (treadR σ c) = rK (tr4 σ c) ∧ rG (treadR σ c) = rG (tr4 σ c) := hq5
    refine r_vret (pc := 83) C E (Nat.le_refl _) (Nat.le_refl _) dX2_treads_83 ?_
    have hx : ∀ y, Sc d y → B5.I y = B0.I y := fun y hy => (hs5 y hy).trans ((hs4 y hy).trans ((hs3 y hy).trans ((hs2 y hy).trans (hs1 y hy))))
    exact ⟨hN5, td_tread hT ((hx _ (Or.inr (Or.inr (Or.inr rfl)))).trans e018), (hx _ (Or.inr (Or.inl rfl))).trans e016⟩
set_option maxHeartbeats 4000000 in
theorem l_walks {g : GZ} {A : HA} {a : Nat} {d : Nat → Nat} {σ : Rw} (hL : Ly A a d σ) (hv : Lv A.I a d σ) (hW : RowW σ) (hC : ∀ c, c < 80 → CelF σ c) (hK : GK σ) (hG : GdK g) {k : Nat} (hk : k < rK σ) (hd : dist σ k 0 (gC σ (wFr σ k)) < 1000000) (hT : Td A.I d σ) : Ct g wV yX2_walks (.code yX2_walks cX2_walks 6 (Option.none : Option Jvm.ClassFile.FieldType)) 8 0 0 [.ref a, .ref (d (30 + k))] (A) (fun u A' => Nx A A' a d (walkR σ k) ∧ Td A'.I d (walkR σ k)) fw_no := by
  refine Ct.of [some (.ref a), some (.ref (d (30 + k))), none, none, none, none] (by decide) rfl rfl fun z C hx hnm E => ?_
  have hS := hW.s
  have hw3 := hS.w3
  have hw10 := hS.w10
  have hh8 := hS.h8
  have hc80 := hS.c80
  have k6 := hW.k6
  have g6 := hW.g6
  have hk6 := hW.K hk
  have hto := hk6.2.1
  have hfr := hk6.1
  have hwf := wy_facts hW hk hd
  have hgt := gC_lt hS (hW.G hto.2)
  have hgf := gC_lt hS (hW.G hfr.2)
  have hle := dist_le hW hgf hd
  have d9 := hW.d9
  have hvw : ∀ κ μ π, Lv ((FH A d κ μ).sI (d 16) π).I a d σ := fun κ μ π => ((Nx.rf hL hv).sc sm_FH).sc (sm_sc (Or.inr (Or.inl rfl))) |>.2.1
  have hw16 : ∀ κ μ π, ((FH A d κ μ).sI (d 16) π).I (d 16) = π := fun κ μ π => sI_s _ _ _
  have hw15 : ∀ κ μ π, ((FH A d κ μ).sI (d 16) π).I (d 15) = κ := fun κ μ π => (sI_o _ _ (ly_ne hL (by decide) (by decide) (by decide))).trans (FH_15 hL)
  have hw18 : ∀ κ μ π, ((FH A d κ μ).sI (d 16) π).I (d 18) = A.I (d 18) := fun κ μ π => (sI_o _ _ (ly_ne hL (by decide) (by decide) (by decide))).trans (FH_x (ly_ne hL (by decide) (by decide) (by decide)) (ly_ne hL (by decide) (by decide) (by decide)))
  refine r_aload_0 (pc := 0) C dX2_walks_0 ?_
  refine r_aload_1 (pc := 1) C dX2_walks_1 ?_
  refine r_getS (pc := 2) C (hG 0 (by omega)).1 q1033 dX2_walks_2 ?_
  refine r_V2io (pc := 5) C (l_tellsFar hL hv hW hC hK hk (by omega) (hG 0 (by omega)).2) vl_X2_170 (ly_g hL) (by decide) (Nat.le_refl _) (Nat.le_refl _) (Nat.le_of_ble_eq_true rfl) rfl dX2_walks_5 (fun u1 A1 hc1 => ?_)
  obtain ⟨⟨f, κ2, μ2, eA1, hκ, hfo, hfc⟩, eu1⟩ := hc1
  refine r_top eu1 ?_
  refine r_eqA (eA1.trans (sI_self _ (d 16)).symm) ?_
  clear eu1 eA1 A1 u1
  generalize (FH A d κ2 μ2).I (d 16) = π2
  refine r_istore_2 (pc := 8) C dX2_walks_8 rfl ?_
  refine r_iconst (pc := 9) C dX2_walks_9 ci_0 ?_
  refine r_istore_3 (pc := 10) C dX2_walks_10 rfl ?_
  refine r_aload_0 (pc := 11) C dX2_walks_11 ?_
  refine r_aload_1 (pc := 12) C dX2_walks_12 ?_
  refine r_ngetI (pc := 13) C fn_X2_134_5 (ly_w hL hk).2 rfl dX2_walks_13 ?_
  refine r_top (((hvw κ2 μ2 π2).wk (v := 8) (by omega) (by omega) hk (by omega)).trans (hW.K hk).2.1.1) ?_
  refine r_V1io (pc := 16) C (l_cellOf (by exact hL) (hvw κ2 μ2 π2) hW hto.2) vl_X2_137 (ly_g hL) (by decide) (Nat.le_refl _) (Nat.le_refl _) (Nat.le_of_ble_eq_true rfl) rfl dX2_walks_16 (fun u2 A2 hc2 => ?_)
  refine r_top hc2.1 ?_
  refine r_eqA hc2.2 ?_
  clear hc2 A2 u2
  refine r_istore_4 (pc := 19) C dX2_walks_19 rfl ?_
  refine r_aload_0 (pc := 21) C dX2_walks_21 ?_
  refine r_aload_1 (pc := 22) C dX2_walks_22 ?_
  refine r_ngetI (pc := 23) C fn_X2_163_5 (ly_w hL hk).2 rfl dX2_walks_23 ?_
  refine r_top (((hvw κ2 μ2 π2).wk (v := 7) (by omega) (by omega) hk (by omega)).trans (hW.K hk).1.1) ?_
  refine r_V1io (pc := 26) C (l_cellOf (by exact hL) (hvw κ2 μ2 π2) hW hfr.2) vl_X2_137 (ly_g hL) (by decide) (Nat.le_refl _) (Nat.le_refl _) (Nat.le_of_ble_eq_true rfl) rfl dX2_walks_26 (fun u3 A3 hc3 => ?_)
  refine r_top hc3.1 ?_
  refine r_eqA hc3.2 ?_
  clear hc3 A3 u3
  refine r_istore_5 (pc := 29) C dX2_walks_29 rfl ?_
  have lp31_4 : ∀ (fu : Nat) (i : Nat) (π2 : Nat → Int32) (hi : i ≤ wl σ k) (hπ : ∀ j, j < i → π2 j = nI (wy σ k (j + 1))), wl σ k - i < fu → wa g z 0 0 (((FH A d κ2 μ2).sI (d 16) π2)) 31 [some (.ref a), some (.ref (d (30 + k))), some (.int (nI (dist σ k 0 (gC σ (wFr σ k))))), some (.int (nI (i))), some (.int (nI (gC σ (wTo σ k)))), some (.int (nI (wy σ k i)))] [] := by
    intro fu
    induction fu with
    | zero => intro i  π2  hi hπ hm31; exact absurd hm31 (Nat.not_lt_zero _)
    | succ fu ih31 =>
      intro i  π2  hi hπ hm31
      have hwi := hwf.1 i hi
      refine r_iload_5 (pc := 31) C dX2_walks_31 ?_
      refine r_iload_4 (pc := 33) C dX2_walks_33 ?_
      refine r_icmp_eq (pc := 35) (tgt := 67) C dX2_walks_35 (by decide) (fun b35 => ?_) (fun b35 => ?_)
      · skip
        have b35 := (nI_eqI (by omega) (by omega)).mp b35
        have hil : i = wl σ k := by rcases Nat.lt_or_ge i (wl σ k) with q | q; exact absurd b35 (hwf.2.2.1 i q); omega
        subst hil
        refine r_iconst (pc := 67) C dX2_walks_67 ci_0 ?_
        refine r_istore_5 (pc := 68) C dX2_walks_68 rfl ?_
        have lp70_5 : ∀ (fu : Nat) (j : Nat) (B : HA) (hj : j ≤ wl σ k) (hNj : Nx A B a d (trK σ k (j + 1))) (hTj : Td B.I d (trK σ k (j + 1))) (hwj : ∀ i, i < wl σ k → B.I (d 16) i = nI (wy σ k (i + 1))), wl σ k - j < fu → wa g z 0 0 (B) 70 [some (.ref a), some (.ref (d (30 + k))), some (.int (nI (dist σ k 0 (gC σ (wFr σ k))))), some (.int (nI (wl σ k))), some (.int (nI (gC σ (wTo σ k)))), some (.int (nI (j)))] [] := by
          intro fu
          induction fu with
          | zero => intro j  B  hj hNj hTj hwj hm70; exact absurd hm70 (Nat.not_lt_zero _)
          | succ fu ih70 =>
            intro j  B  hj hNj hTj hwj hm70
            have hkp := trK_keep (w := k) hW (j + 1) (fun i hi => by have := hwf.1 i (by omega); omega)
            have hSj := hkp.1
            have hWj := hW.same hkp.1 hkp.2
            have eCj := hSj.c
            have hwj1 : j < wl σ k → wy σ k (j + 1) < rC σ := fun q => hwf.1 (j + 1) q
            refine r_iload_5 (pc := 70) C dX2_walks_70 ?_
            refine r_iload_3 (pc := 72) C dX2_walks_72 ?_
            refine r_icmp_ge (pc := 73) (tgt := 107) C dX2_walks_73 (by decide) (fun b73 => ?_) (fun b73 => ?_)
            · skip
              have b73 := (nI_le2 (by omega) (by omega)).mp b73
              have e9 : j = wl σ k := by omega
              subst e9
              have hNj : Nx A B a d (wk0 σ k) := hNj
              have hTj : Td B.I d (wk0 σ k) := hTj
              have eCj : rC (wk0 σ k) = rC σ := hSj.c
              have eKj : rK (wk0 σ k) = rK σ := hSj.k
              have eGj : rG (wk0 σ k) = rG σ := hSj.g
              refine r_aload_1 (pc := 107) C dX2_walks_107 ?_
              refine r_dup (pc := 108) C dX2_walks_108 rfl ?_
              refine r_ngetI (pc := 109) C fn_X2_186_5 (ly_w hNj.1 (by omega)).2 rfl dX2_walks_109 ?_
              refine r_top (hNj.2.1.wk (v := 11) (by omega) (by omega) (by omega) (by omega)) ?_
              refine r_iconst (pc := 112) C dX2_walks_112 ci_1 ?_
              refine r_iadd (pc := 113) C dX2_walks_113 ?_
              refine r_nputI (pc := 114) C fn_X2_186_5 (ly_w hNj.1 (by omega)).2 rfl (fun _ _ _ h => by cases h; rfl) rfl rfl rfl dX2_walks_114 ?_
              refine r_wr hNj (by omega) (j := 75 + 13 * k + 11) (w := wk0 σ k (75 + 13 * k + 11) + nI 1) (dm_wk (by omega) (by omega) (by omega) (by omega)) (adj_w (by omega) (by omega) _) (sA_wk (a := a) (d := d) (k := k) (v := 11) (by omega) (by omega)).1.symm (sA_wk (a := a) (d := d) (k := k) (v := 11) (by omega) (by omega)).2.symm fun B1 hN1 hs1 hq1 => ?_
              have hN1 : Nx A B1 a d (wk1 σ k) := hN1
              obtain ⟨eC1, eK1, eG1⟩ : rC (wk1 σ k) = rC (wk0 σ k) ∧ rK (wk1 σ k) = rK (wk0 σ k) ∧ rG (wk1 σ k) = rG (wk0 σ k) := hq1
              refine r_aload_1 (pc := 117) C dX2_walks_117 ?_
              refine r_dup (pc := 118) C dX2_walks_118 rfl ?_
              refine r_ngetI (pc := 119) C fn_X2_189_5 (ly_w hN1.1 (by omega)).2 rfl dX2_walks_119 ?_
              refine r_top (hN1.2.1.wk (v := 12) (by omega) (by omega) (by omega) (by omega)) ?_
              refine r_iload_3 (pc := 122) C dX2_walks_122 ?_
              refine r_iadd (pc := 123) C dX2_walks_123 ?_
              refine r_top (i_wl _ _).symm ?_
              refine r_nputI (pc := 124) C fn_X2_189_5 (ly_w hN1.1 (by omega)).2 rfl (fun _ _ _ h => by cases h; rfl) rfl rfl rfl dX2_walks_124 ?_
              refine r_wr hN1 (by omega) (j := 75 + 13 * k + 12) (w := wk1 σ k (75 + 13 * k + 12) + nI (wl σ k + 1) - nI 1) (dm_wk (by omega) (by omega) (by omega) (by omega)) (adj_w (by omega) (by omega) _) (sA_wk (a := a) (d := d) (k := k) (v := 12) (by omega) (by omega)).1.symm (sA_wk (a := a) (d := d) (k := k) (v := 12) (by omega) (by omega)).2.symm fun B2 hN2 hs2 hq2 => ?_
              have hN2 : Nx A B2 a d (wk2 σ k) := hN2
              obtain ⟨eC2, eK2, eG2⟩ : rC (wk2 σ k) = rC (wk1 σ k) ∧ rK (wk2 σ k) = rK (wk1 σ k) ∧ rG (wk2 σ k) = rG (wk1 σ k) := hq2
              refine r_aload_0 (pc := 127) C dX2_walks_127 ?_
              refine r_getR (pc := 128) C fl_X2_63_2 (ly_g hN2.1) rfl (ly_rf hN2.1 9 (by decide)) dX2_walks_128 ?_
              refine r_iconst (pc := 131) C dX2_walks_131 ci_0 ?_
              refine r_dup2 (pc := 132) C dX2_walks_132 rfl rfl ?_
              refine r_iald (pc := 133) C (ly_gf hN2.1 9 (by decide)) rfl rfl (lt_eq (by omega) (ly_n9 hN2.1)) (by omega) dX2_walks_133 ?_
              refine r_top (hN2.2.1.acc (by omega)) ?_
              refine r_iconst (pc := 134) C dX2_walks_134 ci_1 ?_
              refine r_iadd (pc := 135) C dX2_walks_135 ?_
              refine r_iast (pc := 136) C (ly_gf hN2.1 9 (by decide)) rfl rfl (lt_eq (by omega) (ly_n9 hN2.1)) (by omega) dX2_walks_136 ?_
              refine r_wr hN2 (by omega) (j := 9 + 0) (w := wk2 σ k (9 + 0) + nI 1) (dm_acc (by omega)) (adj_a (by omega) _) (sA_acc (a := a) (d := d) (i := 0) (by omega)).1.symm (sA_acc (a := a) (d := d) (i := 0) (by omega)).2.symm fun B3 hN3 hs3 hq3 => ?_
              have hN3 : Nx A B3 a d (wk3 σ k) := hN3
              obtain ⟨eC3, eK3, eG3⟩ : rC (wk3 σ k) = rC (wk2 σ k) ∧ rK (wk3 σ k) = rK (wk2 σ k) ∧ rG (wk3 σ k) = rG (wk2 σ k) := hq3
              refine r_aload_0 (pc := 137) C dX2_walks_137 ?_
              refine r_getR (pc := 138) C fl_X2_63_2 (ly_g hN3.1) rfl (ly_rf hN3.1 9 (by decide)) dX2_walks_138 ?_
              refine r_iconst (pc := 141) C dX2_walks_141 ci_1 ?_
              refine r_dup2 (pc := 142) C dX2_walks_142 rfl rfl ?_
              refine r_iald (pc := 143) C (ly_gf hN3.1 9 (by decide)) rfl rfl (lt_eq (by omega) (ly_n9 hN3.1)) (by omega) dX2_walks_143 ?_
              refine r_top (hN3.2.1.acc (by omega)) ?_
              refine r_iload_3 (pc := 144) C dX2_walks_144 ?_
              refine r_iadd (pc := 145) C dX2_walks_145 ?_
              refine r_top (congrArg (wk3 σ k (9 + 1) + ·) (i_wl2 (wl σ k)).symm) ?_
              refine r_iast (pc := 146) C (ly_gf hN3.1 9 (by decide)) rfl rfl (lt_eq (by omega) (ly_n9 hN3.1)) (by omega) dX2_walks_146 ?_
              refine r_wr hN3 (by omega) (j := 9 + 1) (w := wk3 σ k (9 + 1) + (nI (wl σ k + 1) - nI 1)) (dm_acc (by omega)) (adj_a (by omega) _) (sA_acc (a := a) (d := d) (i := 1) (by omega)).1.symm (sA_acc (a := a) (d := d) (i := 1) (by omega)).2.symm fun B4 hN4 hs4 hq4 => ?_
              have hN4 : Nx A B4 a d (wk4 σ k) := hN4
              obtain ⟨eC4, eK4, eG4⟩ : rC (wk4 σ k) = rC (wk3 σ k) ∧ rK (wk4 σ k) = rK (wk3 σ k) ∧ rG (wk4 σ k) = rG (wk3 σ k) := hq4
              refine r_aload_0 (pc := 147) C dX2_walks_147 ?_
              refine r_getR (pc := 148) C fl_X2_63_2 (ly_g hN4.1) rfl (ly_rf hN4.1 9 (by decide)) dX2_walks_148 ?_
              refine r_bipush (pc := 151) C dX2_walks_151 cb_11 ?_
              refine r_dup2 (pc := 153) C dX2_walks_153 rfl rfl ?_
              refine r_iald (pc := 154) C (ly_gf hN4.1 9 (by decide)) rfl rfl (lt_eq (by omega) (ly_n9 hN4.1)) (by omega) dX2_walks_154 ?_
              refine r_top (hN4.2.1.acc (by omega)) ?_
              refine r_iload_2 (pc := 155) C dX2_walks_155 ?_
              refine r_iadd (pc := 156) C dX2_walks_156 ?_
              refine r_iast (pc := 157) C (ly_gf hN4.1 9 (by decide)) rfl rfl (lt_eq (by omega) (ly_n9 hN4.1)) (by omega) dX2_walks_157 ?_
              refine r_wr hN4 (by omega) (j := 9 + 11) (w := wk4 σ k (9 + 11) + nI (dist σ k 0 (gC σ (wFr σ k)))) (dm_acc (by omega)) (adj_a (by omega) _) (sA_acc (a := a) (d := d) (i := 11) (by omega)).1.symm (sA_acc (a := a) (d := d) (i := 11) (by omega)).2.symm fun B5 hN5 hs5 hq5 => ?_
              have hN5 : Nx A B5 a d (walkR σ k) := hN5
              obtain ⟨eC5, eK5, eG5⟩ : rC (walkR σ k) = rC (wk4 σ k) ∧ rK (walkR σ k) = rK (wk4 σ k) ∧ rG (walkR σ k) = rG (wk4 σ k) := hq5
              refine r_vret (pc := 158) C E (Nat.le_refl _) (Nat.le_refl _) dX2_walks_158 ?_
              have hx : B5.I (d 18) = B.I (d 18) := (hs5 _ (Or.inr (Or.inr (Or.inr rfl)))).trans ((hs4 _ (Or.inr (Or.inr (Or.inr rfl)))).trans ((hs3 _ (Or.inr (Or.inr (Or.inr rfl)))).trans ((hs2 _ (Or.inr (Or.inr (Or.inr rfl)))).trans (hs1 _ (Or.inr (Or.inr (Or.inr rfl)))))))
              refine ⟨hN5, fun c hc => ?_⟩
              rw [hx, walkR_o (by omega) (Or.inr (by omega)), walkR_o (by omega) (Or.inl rfl)]
              exact hTj c (by omega)
            · skip
              have b73 := (not_congr (nI_le2 (by omega) (by omega))).mp b73
              have hwj1 := hwj1 (by omega)
              refine r_aload_0 (pc := 76) C dX2_walks_76 ?_
              refine r_aload_0 (pc := 77) C dX2_walks_77 ?_
              refine r_getR (pc := 78) C fl_X2_69_2 (ly_g hNj.1) rfl (ly_rf hNj.1 16 (by decide)) dX2_walks_78 ?_
              refine r_iload_5 (pc := 81) C dX2_walks_81 ?_
              refine r_iald (pc := 83) C (ly_gf hNj.1 16 (by decide)) rfl rfl (lt_eq (by omega) (ly_nf hNj.1 16 (by decide) (by decide))) (by omega) dX2_walks_83 ?_
              refine r_top (hwj j (by omega)) ?_
              refine r_V1io (pc := 84) C (l_isGrass hNj.1 hNj.2.1 hWj (c := wy σ k (j + 1)) (by rw [hSj.c]; exact hwf.1 _ (by omega))) vl_X2_123 (ly_g hNj.1) (by decide) (Nat.le_refl _) (Nat.le_refl _) (Nat.le_of_ble_eq_true rfl) rfl dX2_walks_84 (fun u6 A6 hc6 => ?_)
              refine r_top hc6.1 ?_
              refine r_eqA hc6.2 ?_
              clear hc6 A6 u6
              refine r_if_eq (pc := 87) (tgt := 101) C dX2_walks_87 (by decide) (fun b87 => ?_) (fun b87 => ?_)
              · skip
                have b87 := bI_0.mp b87
                refine r_iinc_5 (pc := 101) C dX2_walks_101 (nI_inc _) rfl ?_
                refine r_goto (pc := 104) (tgt := 70) C dX2_walks_104 (by decide) ?_
                exact ih70 (j + 1) _ (by omega) (by first | exact (hNj.tr ‹Nx B _ a d _›).eq (trK_y (by assumption)).symm | exact hNj.eq (trK_no (by assumption)).symm) (by first | (rw [trK_y (by assumption)]; assumption) | (rw [trK_no (by assumption)]; exact hTj)) (by first | exact hwj | exact fun i hi => (congrFun (by assumption) i).trans (hwj i hi)) (by omega)
              · skip
                have b87 := bI_n.mp b87
                refine r_aload_0 (pc := 90) C dX2_walks_90 ?_
                refine r_aload_0 (pc := 91) C dX2_walks_91 ?_
                refine r_getR (pc := 92) C fl_X2_69_2 (ly_g hNj.1) rfl (ly_rf hNj.1 16 (by decide)) dX2_walks_92 ?_
                refine r_iload_5 (pc := 95) C dX2_walks_95 ?_
                refine r_iald (pc := 97) C (ly_gf hNj.1 16 (by decide)) rfl rfl (lt_eq (by omega) (ly_nf hNj.1 16 (by decide) (by decide))) (by omega) dX2_walks_97 ?_
                refine r_top (hwj j (by omega)) ?_
                refine r_V1vo (pc := 98) C (l_treads hNj.1 hNj.2.1 hWj hTj (c := wy σ k (j + 1)) (by rw [hSj.c]; exact hwf.1 _ (by omega))) vl_X2_182 (ly_g hNj.1) (by decide) (Nat.le_refl _) (Nat.le_refl _) (Nat.le_of_ble_eq_true rfl) rfl dX2_walks_98 (fun u7 A7 hc7 => ?_)
                obtain ⟨hNt7, hTt7, hwt7⟩ := hc7
                refine r_iinc_5 (pc := 101) C dX2_walks_101 (nI_inc _) rfl ?_
                refine r_goto (pc := 104) (tgt := 70) C dX2_walks_104 (by decide) ?_
                exact ih70 (j + 1) _ (by omega) (by first | exact (hNj.tr ‹Nx B _ a d _›).eq (trK_y (by assumption)).symm | exact hNj.eq (trK_no (by assumption)).symm) (by first | (rw [trK_y (by assumption)]; assumption) | (rw [trK_no (by assumption)]; exact hTj)) (by first | exact hwj | exact fun i hi => (congrFun (by assumption) i).trans (hwj i hi)) (by omega)
        exact lp70_5 _ 0 _ (Nat.zero_le _) (((((Nx.rf hL hv).sc sm_FH).sc (sm_sc (Or.inr (Or.inl rfl)))).eq (trK_1 hK hfr.2).symm)) (by rw [trK_1 hK hfr.2]; exact fun c hc => (congrFun (hw18 _ _ _) c).trans (hT c hc)) (fun i hi => (congrFun (hw16 _ _ _) i).trans (hπ i hi)) (Nat.lt_succ_self _)
      · skip
        have b35 := (not_congr (nI_eqI (by omega) (by omega))).mp b35
        have hil : i < wl σ k := by rcases Nat.lt_or_ge i (wl σ k) with q | q; exact q; exact absurd (by rw [show i = wl σ k by omega]; exact hwf.2.1) b35
        have hnb := wy_nb hW hk hd hil
        refine r_aload_0 (pc := 38) C dX2_walks_38 ?_
        refine r_iload_5 (pc := 39) C dX2_walks_39 ?_
        refine r_aload_0 (pc := 41) C dX2_walks_41 ?_
        refine r_aload_1 (pc := 42) C dX2_walks_42 ?_
        refine r_iload_5 (pc := 43) C dX2_walks_43 ?_
        refine r_V2io (pc := 45) C (l_goesOn (by exact hL) (hvw κ2 μ2 π2) hW hC (f := f) hk (hwf.1 i (by omega)) (fun j hj => ⟨(congrFun (hw15 _ _ _) j).trans (hκ j hj).1, (hκ j hj).2⟩) hfo hfc (way_nf hW hC hK hk hd (by omega)) (wy_dist hW hk hd (by omega)) (hwf.2.2.1 i (by omega))) vl_X2_179 (ly_g hL) (by decide) (Nat.le_refl _) (Nat.le_refl _) (Nat.le_of_ble_eq_true rfl) rfl dX2_walks_45 (fun u8 A8 hc8 => ?_)
        refine r_top hc8.1 ?_
        refine r_eqA hc8.2 ?_
        clear hc8 A8 u8
        refine r_V2io (pc := 48) C (l_next (by exact hL) (hvw κ2 μ2 π2) hW (hwf.1 i (by omega)) hnb.1) vl_X2_148 (ly_g hL) (by decide) (Nat.le_refl _) (Nat.le_refl _) (Nat.le_of_ble_eq_true rfl) rfl dX2_walks_48 (fun u9 A9 hc9 => ?_)
        refine r_top hc9.1 ?_
        refine r_eqA hc9.2 ?_
        clear hc9 A9 u9
        refine r_top ((congrArg oI hnb.2).trans rfl) ?_
        refine r_istore_5 (pc := 51) C dX2_walks_51 rfl ?_
        refine r_aload_0 (pc := 53) C dX2_walks_53 ?_
        refine r_getR (pc := 54) C fl_X2_69_2 (ly_g hL) rfl (ly_rf hL 16 (by decide)) dX2_walks_54 ?_
        refine r_iload_3 (pc := 57) C dX2_walks_57 ?_
        refine r_iload_5 (pc := 58) C dX2_walks_58 ?_
        refine r_iast (pc := 60) C (ly_gf hL 16 (by decide)) rfl rfl (lt_eq (by omega) (ly_nf hL 16 (by decide) (by decide))) (by omega) dX2_walks_60 ?_
        refine r_eqA (A' := (FH A d κ2 μ2).sI (d 16) (upd π2 i (nI (wy σ k (i + 1))))) (by rw [hw16, sI_sI]; rfl) ?_
        refine r_iinc_3 (pc := 61) C dX2_walks_61 (nI_inc _) rfl ?_
        refine r_goto (pc := 64) (tgt := 31) C dX2_walks_64 (by decide) ?_
        exact ih31 (i + 1) _ (by omega) (fun j hj => if q9 : j = i then by rw [q9, pk_us] else by rw [pk_un q9]; exact hπ j (by omega)) (by omega)
  exact lp31_4 _ 0 _ (Nat.zero_le _) (fun j hj => absurd hj (Nat.not_lt_zero _)) (Nat.lt_succ_self _)
