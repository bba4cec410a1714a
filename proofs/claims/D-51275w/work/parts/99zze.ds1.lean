/-! A LAWN THAT IS BEING DESCRIBED: gates added -/
set_option maxRecDepth 100000
set_option maxHeartbeats 4000000 in
theorem l_hardE {g : GZ} {A : HA} {l : Nat} {d : Nat → Nat} {σ : Rw} (hL : Ly A l d σ) (h80 : rC σ ≤ 80) {c k : Nat} (hc : c < rC σ)  : Ct g wV yX2_hardens (.code yX2_hardens cX2_hardens 3 (Option.none : Option Jvm.ClassFile.FieldType)) 1 0 0 [.ref l, .int (nI (c)), .int (nI (k))] (A) (fun u A' => A' = hardH A l d c k) fw_no := by
  refine Ct.of [some (.ref l), some (.int (nI (c))), some (.int (nI (k)))] (by decide) rfl rfl fun z C hx hnm E => ?_
  refine r_aload_0 (pc := 0) C dX2_hardens_0 ?_
  refine r_getR (pc := 1) C fl_X2_53_2 (by exact ly_g hL) rfl (by exact ly_rf hL 5 (by decide)) dX2_hardens_1 ?_
  refine r_iload_1 (pc := 4) C dX2_hardens_4 ?_
  refine r_iload_2 (pc := 5) C dX2_hardens_5 ?_
  refine r_iast (pc := 6) C (by exact ly_gf hL 5 (by decide)) rfl rfl (lt_eq (by omega) (by exact ly_nf hL 5 (by decide) (by decide))) (by omega) dX2_hardens_6 ?_
  refine r_aload_0 (pc := 7) C dX2_hardens_7 ?_
  refine r_dup (pc := 8) C dX2_hardens_8 rfl ?_
  refine r_getI (pc := 9) C fl_X2_25_2 (by exact ly_g hL) rfl dX2_hardens_9 ?_
  refine r_aload_0 (pc := 12) C dX2_hardens_12 ?_
  refine r_getR (pc := 13) C fl_X2_18_2 (by exact ly_g hL) rfl (by exact ly_rf hL 6 (by decide)) dX2_hardens_13 ?_
  refine r_iload_1 (pc := 16) C dX2_hardens_16 ?_
  refine r_iald (pc := 17) C (by exact ly_gf hL 6 (by decide)) rfl rfl (lt_eq (by omega) (by exact ly_nf hL 6 (by decide) (by decide))) (by omega) dX2_hardens_17 ?_
  refine r_isub (pc := 18) C dX2_hardens_18 ?_
  refine r_putI (pc := 19) C fl_X2_25_2 (by exact ly_g hL) rfl (fun _ _ _ h => by cases h; exact Or.inl rfl) rfl rfl rfl dX2_hardens_19 ?_
  refine r_aload_0 (pc := 22) C dX2_hardens_22 ?_
  refine r_getR (pc := 23) C fl_X2_18_2 (by exact ly_g hL) rfl (by exact ly_rf hL 6 (by decide)) dX2_hardens_23 ?_
  refine r_iload_1 (pc := 26) C dX2_hardens_26 ?_
  refine r_iconst (pc := 27) C dX2_hardens_27 ci_0 ?_
  refine r_iast (pc := 28) C (by exact ly_gf hL 6 (by decide)) rfl rfl (lt_eq (by omega) (by exact ly_nf hL 6 (by decide) (by decide))) (by omega) dX2_hardens_28 ?_
  refine r_vret (pc := 29) C E (by omega) (by omega) dX2_hardens_29 ?_
  exact rfl
set_option maxHeartbeats 4000000 in
theorem j_J3_init {g : GZ} {A : HA} {t : Nat}  : Ct g wV yJ3_init (.code yJ3_init cJ3_init 1 (Option.none : Option Jvm.ClassFile.FieldType)) 2 0 0 [.ref t] (A) (fun u A' => A' = A) fw_no := by
  refine Ct.of [some (.ref t)] (by decide) rfl rfl fun z C hx hnm E => ?_
  refine r_aload_0 (pc := 0) C dJ3_init_0 ?_
  refine r_objInit (pc := 1) C q353 q199 q200 rfl (Nat.le_of_ble_eq_true rfl) (by decide) dJ3_init_1 ?_
  refine r_vret (pc := 4) C E (by omega) (by omega) dJ3_init_4 ?_
  exact rfl
set_option maxHeartbeats 4000000 in
theorem j_X4_init {g : GZ} {A : HA} {t nm : Nat} {c : Int32} (ht : (A.G t).1 = 4)  : Ct g wV yX4_init (.code yX4_init cX4_init 3 (Option.none : Option Jvm.ClassFile.FieldType)) 3 0 0 [.ref t, .ref nm, .int c] (A) (fun u A' => A' = OB A t (va_up (A.R t) 0 (some nm)) (upd (A.I t) 1 c)) fw_no := by
  refine Ct.of [some (.ref t), some (.ref nm), some (.int c)] (by decide) rfl rfl fun z C hx hnm E => ?_
  refine r_aload_0 (pc := 0) C dX4_init_0 ?_
  refine r_I0vo (pc := 1) C (j_J3_init) il_X4_1 (by decide) (by omega) (by omega) (Nat.le_of_ble_eq_true rfl) rfl dX4_init_1 (fun u1 A1 hc1 => ?_)
  refine r_eqA hc1 ?_
  clear hc1 A1 u1
  refine r_eqA (OB_self A t) ?_
  refine r_aload_0 (pc := 4) C dX4_init_4 ?_
  refine r_aload_1 (pc := 5) C dX4_init_5 ?_
  refine r_putR (pc := 6) C fl_X4_7_4 (by exact ht) rfl (fun _ _ _ h => by cases h; exact Or.inr ⟨rfl, hnm⟩) rfl dX4_init_6 ?_
  refine r_eqA (OB_R _ _ _ _ _ _) ?_
  refine r_aload_0 (pc := 9) C dX4_init_9 ?_
  refine r_iload_2 (pc := 10) C dX4_init_10 ?_
  refine r_putI (pc := 11) C fl_X4_13_4 (by exact ht) rfl (fun _ _ _ h => by cases h; exact Or.inr ⟨rfl, hnm⟩) rfl rfl rfl dX4_init_11 ?_
  refine r_eqA (OB_I _ _ _ _ _ _) ?_
  refine r_vret (pc := 14) C E (by omega) (by omega) dX4_init_14 ?_
  exact rfl
theorem nms_sp {A D : HA} {nm o : Nat} {σ : Rw} (hz : Zk A) (h : NmS A nm σ o) (hP : StP A D) (hG : ∀ y, y < A.z → D.G y = A.G y) : NmS D nm σ o := by
  obtain ⟨u, l, m, h1, h2, ⟨h3, h4, h5⟩, h6⟩ := h
  exact ⟨u, l, m, hP _ _ _ _ h1, h2, ⟨h3, h4, by rw [hG u (h1.zl hz).2]; exact h5⟩, h6⟩
theorem OkO4 : OkO 4 := ⟨_, _, _, rfl, rfl, q2974⟩
theorem gate_new {H : HA} {nm : Nat} {c : Int32} : Gw H (OB (H.mk 4 0 0) H.z (va_up ((H.mk 4 0 0).R H.z) 0 (some nm)) (upd ((H.mk 4 0 0).I H.z) 1 c)) Non ∧ (OB (H.mk 4 0 0) H.z (va_up ((H.mk 4 0 0).R H.z) 0 (some nm)) (upd ((H.mk 4 0 0).I H.z) 1 c)).G H.z = (4, 0) ∧ (OB (H.mk 4 0 0) H.z (va_up ((H.mk 4 0 0).R H.z) 0 (some nm)) (upd ((H.mk 4 0 0).I H.z) 1 c)).R H.z 0 = some nm ∧ (OB (H.mk 4 0 0) H.z (va_up ((H.mk 4 0 0).R H.z) 0 (some nm)) (upd ((H.mk 4 0 0).I H.z) 1 c)).I H.z 1 = c := by
  refine ⟨gw_mk.tr2 (gw_OB _ _ _ _ (X := fun y => y = H.z) (fun _ => rfl)) (fun y h1 h2 => absurd h2 (Nat.ne_of_lt h1)), if_pos rfl, ?_, ?_⟩
  · rw [OB_r, va_up_self]
  · rw [OB_i, pk_us]
set_option maxHeartbeats 4000000 in
theorem l_addsGate {g : GZ} {A : HA} {z0 l : Nat} {d : Nat → Nat} {σ τ : Rw} (hB : LwB g A z0 l d σ) (hW : RowW σ) (g6 : rG σ < 6) {c : Nat} (hc : c < rC σ) (h0 : σ (153 + 5 * c + 0) = 0) (hP : GateP σ τ c) {nm : Nat} (hN : NmS A nm τ (21 + 9 * rG σ))  : Ct g wV yX2_addsGate (.code yX2_addsGate cX2_addsGate 3 (Option.none : Option Jvm.ClassFile.FieldType)) 10 2 12 [.ref l, .ref nm, .int (nI (c))] (A) (fun u A' => ∃ d', LwB g A' z0 l d' τ ∧ Gw A A' (LX A l d σ) ∧ StP A A') fw_no := by
  refine Ct.of [some (.ref l), some (.ref nm), some (.int (nI (c)))] (by decide) rfl rfl fun z C hx hnm E => ?_
  refine r_Z fun hZ => ?_
  have h80 := hW.s.c80
  obtain ⟨hB1, hG1, hP1⟩ := hB.hard (k := 2) hZ hW hc h0 (Or.inr rfl)
  have eG : rG (hd σ c 2) = rG σ := congrArg Int32.toNatClampNeg (hd_x (by omega) (by omega))
  have hzl := hB.z0l
  have hlz := hZ.lt (ly_g hB.L) rfl
  refine r_aload_0 (pc := 0) C dX2_addsGate_0 ?_
  refine r_iload_2 (pc := 1) C dX2_addsGate_1 ?_
  refine r_iconst (pc := 2) C dX2_addsGate_2 ci_2 ?_
  refine r_V2vo (pc := 3) C (l_hardE (k := 2) hB.L h80 hc) vl_X2_112 (by exact ly_g hB.L) (by decide) (by omega) (by omega) (Nat.le_of_ble_eq_true rfl) rfl dX2_addsGate_3 (fun u1 A1 hc1 => ?_)
  refine r_eqA hc1 ?_
  clear hc1 A1 u1
  generalize hardH A l d c 2 = H at hB1 hG1 hP1 ⊢
  refine r_Z (A := H) fun hZH => ?_
  refine r_aload_0 (pc := 6) C dX2_addsGate_6 ?_
  refine r_getR (pc := 7) C fl_X2_50_2 (by exact ly_g hB1.L) rfl (by exact ly_r11 hB1.L) dX2_addsGate_7 ?_
  refine r_new (pc := 10) C (0) (Nat.zero_le _) nl_X2_107 NF4 (by omega) (by omega) dX2_addsGate_10 ?_
  refine r_dup (pc := 13) C dX2_addsGate_13 rfl ?_
  refine r_aload_1 (pc := 14) C dX2_addsGate_14 ?_
  refine r_iload_2 (pc := 15) C dX2_addsGate_15 ?_
  refine r_IN2vo (pc := 16) C (j_X4_init (show ((H.mk 4 0 0).G H.z).1 = 4 by rw [mk_G, if_pos rfl])) inl_X2_116 (by decide) (by omega) (by omega) (Nat.le_of_ble_eq_true rfl) rfl dX2_addsGate_16 (fun u2 A2 hc2 => ?_)
  refine r_eqA hc2 ?_
  clear hc2 A2 u2
  obtain ⟨hGn, hn1, hn2, hn3⟩ := gate_new (H := H) (nm := nm) (c := nI c)
  generalize (OB (H.mk 4 0 0) H.z (va_up ((H.mk 4 0 0).R H.z) 0 (some nm)) (upd ((H.mk 4 0 0).I H.z) 1 (nI c))) = G2 at hGn hn1 hn2 hn3 ⊢
  refine r_Z (A := G2) fun hZ2 => ?_
  have hS2 := StP.no hZH hGn
  have hB2 := hB1.mv hZH hGn (fun _ _ q => q) hS2
  have hN2 : NmS G2 nm τ (21 + 9 * rG σ) := nms_sp hZ hN (hP1.tr hS2) (fun y hy => ((hGn.2 y (Nat.lt_of_lt_of_le hy hG1.1)).1).trans (hG1.2 y hy).1)
  have hz3 : z0 ≤ H.z := by have := hG1.1; omega
  have hz4 := hGn.1
  have hLg := hB2.lg
  rw [eG] at hLg
  have hg22 := hLg.1
  have hde := hB2.de
  have d22 : LX A l d σ (d 22) := ⟨Or.inr (Or.inr (Or.inl (Or.inr (Or.inr (Or.inr (Or.inr (Or.inl rfl))))))), by rw [ly_g22 hB.L]; decide⟩
  by_cases hg0 : rG σ = 0
  · skip
    have he0 := hB2.g0 (by rw [eG]; exact hg0)
    rw [hg0, he0] at hLg
    refine r_V1v (pc := 19) C (j_X3_add0 (x := H.z) (ly_g11 hB2.L) (ly_r22 hB2.L) hLg hde (by rw [hn1]; exact OkO4)) vl_X2_99 (by exact ly_g11 hB2.L) (by decide) (by omega) (by omega) (Nat.le_of_ble_eq_true rfl) rfl dX2_addsGate_19 (fun u3 A3 hc3 => ?_)
    refine r_eqA hc3 ?_
    clear hc3 A3 u3
    refine r_vret (pc := 22) C E (by omega) (by omega) dX2_addsGate_22 ?_
    obtain ⟨f1, f2, f3⟩ := ll_add0 (x := H.z) hZ2 hLg
    have hT := (hG1.tr2 hGn (fun _ _ q => q.elim)).tr2 f2 (fun y hy q => by rw [q]; exact d22)
    exact ⟨_, hB2.gate (e := G2.z) (nm := nm) (o9 := 0) hZ2 hW g6 hc hP ⟨hn1, hn2, hn3, hz3⟩ hN2 (by rw [hg0]; exact f1.cong (fun k hk => by rw [show k = 0 by omega, lower_s])) (by omega) f2 (fun y q => Or.inl q) (StP.gw hZ2 f2 (fun y q => by rw [q, hg22]; exact ⟨by decide, by decide⟩)), hT, StP.lw hZ hB.L hT⟩
  · skip
    have hez9 := (hLg.2.2.2.1.resolve_left (fun q => hg0 q.1))
    have he5 : (G2.G (d 23)).1 = 501 := by rw [hez9.1]
    have m23 : Fp l d (rK σ) (rG σ) (d 23) := Or.inr (Or.inr (Or.inl (Or.inr (Or.inr (Or.inr (Or.inr (Or.inr rfl)))))))
    have hez : z0 ≤ d 23 := by rcases hB.2.2 (d 23) m23 with q | q; (exact q); (rw [q, hde.2.1] at he5; exact absurd he5 (by decide))
    have l23 := fp_lt hZ hB.L m23
    have d23 : LX A l d σ (d 23) := ⟨m23, by rw [← (hG1.2 _ l23).1, ← (hGn.2 _ (Nat.lt_of_lt_of_le l23 hG1.1)).1, he5]; decide⟩
    refine r_V1vo (pc := 19) C (j_X3_addS (x := H.z) (ly_g11 hB2.L) (ly_r22 hB2.L) hLg (by omega) (by omega) (by rw [hn1]; exact OkO4)) vl_X2_99 (by exact ly_g11 hB2.L) (by decide) (by omega) (by omega) (Nat.le_of_ble_eq_true rfl) rfl dX2_addsGate_19 (fun u4 A4 hc4 => ?_)
    refine r_eqA hc4 ?_
    clear hc4 A4 u4
    refine r_vret (pc := 22) C E (by omega) (by omega) dX2_addsGate_22 ?_
    obtain ⟨f1, f2⟩ := ll_addS (x := H.z) hLg (by omega) (by omega)
    have hT := (hG1.tr2 hGn (fun _ _ q => q.elim)).tr2 f2 (fun y hy q => q.elim (fun q => by rw [q]; exact d22) (fun q => by rw [q]; exact d23))
    exact ⟨_, hB2.gate (e := d 23) (nm := nm) (o9 := 0) hZ2 hW g6 hc hP ⟨hn1, hn2, hn3, hz3⟩ hN2 f1 hez f2 (fun y q => q.imp id (fun q => by rw [q]; exact hez9.1)) (StP.gw hZ2 f2 (fun y q => by rcases q with q | q; (rw [q, hg22]; exact ⟨by decide, by decide⟩); (rw [q, he5]; exact ⟨by decide, by decide⟩))), hT, StP.lw hZ hB.L hT⟩
