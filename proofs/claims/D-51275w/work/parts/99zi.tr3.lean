/-! THE COMPONENT, 19: the reader: words, names -/
set_option maxRecDepth 100000
/-- the empty text's constant -/
def RdK (g : GZ) (A : HA) : Prop := ∃ v, StrV A (g.c 67) v (fun _ => 0) 0
theorem WdS.str {g : GZ} {A : HA} {w : Nat} {B : Nat → Nat} {L p : Nat} (h : WdS g A w B L p) (hK : RdK g A) : ∃ v f, StrV A w v f (wln B L p) ∧ ∀ i, i < wln B L p → f i = B (p + i) := by
  rcases h with ⟨v, h1⟩ | ⟨h1, h2⟩
  · exact ⟨v, _, h1.1, fun _ _ => rfl⟩
  · obtain ⟨v, h3⟩ := hK
    rw [h2, h1]
    exact ⟨v, _, h3, fun i hi => absurd hi (Nat.not_lt_zero _)⟩
theorem here_off {σ : Rw} {B : Nat → Nat} {p w f : Nat} : nmB σ (fun i => B (p + i)) f 0 w = nmB σ B f p w := by
  unfold nmB
  simp only [Nat.zero_add]
set_option maxHeartbeats 4000000 in
theorem t_nameSeen {g : GZ} {A : HA} {r c bf L : Nat} {B : Nat → Nat} {a : Nat} (hR : RdT g A r c bf L B a) (hT : TkC g) (ha : a ≤ L) (hz : zS g)  : Ct g wR yX7_nameSeen (.code yX7_nameSeen cX7_nameSeen 1 (Option.some (Jvm.ClassFile.FieldType.object "java/lang/String"))) 8 1 8 [.ref r] (A) (fun u A' => ∃ v', namR B L a = .inr (skp B L a) ∧ (1 ≤ wln B L (skp B L a) ∧ wln B L (skp B L a) ≤ 6) ∧ WrS g A u v' (fun i => B ((skp B L a) + i)) (wln B L (skp B L a)) ∧ A' = A) (fun q A' => ∃ e p, namR B L a = .inl (e, p) ∧ UnX A A' Non q (nI e) (nI p)) := by
  refine Ct.of [some (.ref r)] (by decide) rfl rfl fun z C hx hnm E => ?_
  obtain ⟨v, w, hsR, hv, hw⟩ := id hR
  have h9 := hsR.l9
  have hp9 := skp_le (B := B) ha
  have hp8 := skp_ge (B := B) (L := L) (a := a)
  have he9 := tkE_le (B := B) hp9
  have hnx : nxE B L a = (tkE B L (skp B L a)) := rfl
  have hnx2 : nxE B L (nxE B L a) = tkE B L (skp B L (nxE B L a)) := rfl
  have hB : ∀ k, k < L → B k ≤ 255 := fun k hk => (hsR.2.2.1.2 k hk).2
  have hnn := nxE_le (B := B) (L := L) (a := nxE B L a) (by omega)
  refine r_aload_0 (pc := 0) C dX7_nameSeen_0 ?_
  refine r_aload_0 (pc := 1) C dX7_nameSeen_1 ?_
  refine r_getR (pc := 2) C fl_X7_35_7 hsR.1.1 rfl hsR.2.2.2.2.2 dX7_nameSeen_2 ?_
  refine r_getS (pc := 5) C (hT.1 1 (by decide)) q1481 dX7_nameSeen_5 ?_
  refine r_acmp_ne (pc := 8) (tgt := 27) C dX7_nameSeen_8 (by decide) (fun b8 => ?_) (fun b8 => ?_)
  · skip
    have hk1 : ¬ tkN B L (skp B L a) = 1 := fun q => b8 (by rw [q])
    have hw0 := tk_w.2 hk1
    refine r_iconst (pc := 27) C dX7_nameSeen_27 ci_0 ?_
    refine r_iconst (pc := 28) C dX7_nameSeen_28 ci_1 ?_
    refine r_V2vx (pc := 29) C (t_needNo hsR (e := 1)) vl_X7_94 hsR.1.1 (by decide) (by omega) (by omega) (Nat.le_of_ble_eq_true rfl) rfl dX7_nameSeen_29 (fun q A9 hp hE => r_out C E (by rw [hx]; exact fun x h => nomatch h) hE.choose_spec (by omega) (by omega) (⟨1, (skp B L a), nam_0 (fun q => by omega), hp⟩)) (fun u1 A1 hc1 => ?_)
    exact hc1.elim
  · skip
    have hk1 : tkN B L (skp B L a) = 1 := hT.2.1 _ _ tkN_lt (by decide) b8
    obtain ⟨hw1, hw2⟩ := tk_w.1 hk1
    obtain ⟨v3, hmk⟩ : ∃ v3, WrS g A w v3 (fun i => B (skp B L a + i)) (wln B L (skp B L a)) := hw.elim id (fun q => absurd q.1 (by omega))
    refine r_aload_0 (pc := 11) C dX7_nameSeen_11 ?_
    refine r_getR (pc := 12) C fl_X7_24_7 hsR.1.1 rfl hsR.2.2.2.2.1 dX7_nameSeen_12 ?_
    refine r_V0io (pc := 15) C (j_J10_length hz hmk.1) vl_X7_110 hmk.1.g (by decide) (by omega) (by omega) (Nat.le_of_ble_eq_true rfl) rfl dX7_nameSeen_15 (fun u2 A2 hc2 => ?_)
    refine r_top hc2.1 ?_
    refine r_eqA hc2.2 ?_
    clear hc2 A2 u2
    refine r_bipush (pc := 18) C dX7_nameSeen_18 cb_6 ?_
    refine r_icmp_gt (pc := 20) (tgt := 27) C dX7_nameSeen_20 (by decide) (fun b20 => ?_) (fun b20 => ?_)
    · skip
      have b20 := (nI_lt2 (by omega) (by omega)).mp b20
      refine r_iconst (pc := 27) C dX7_nameSeen_27 ci_0 ?_
      refine r_iconst (pc := 28) C dX7_nameSeen_28 ci_1 ?_
      refine r_V2vx (pc := 29) C (t_needNo hsR (e := 1)) vl_X7_94 hsR.1.1 (by decide) (by omega) (by omega) (Nat.le_of_ble_eq_true rfl) rfl dX7_nameSeen_29 (fun q A9 hp hE => r_out C E (by rw [hx]; exact fun x h => nomatch h) hE.choose_spec (by omega) (by omega) (⟨1, (skp B L a), nam_0 (fun q => by omega), hp⟩)) (fun u3 A3 hc3 => ?_)
      exact hc3.elim
    · skip
      have b20 := (not_congr (nI_lt2 (by omega) (by omega))).mp b20
      refine r_iconst (pc := 23) C dX7_nameSeen_23 ci_1 ?_
      refine r_goto (pc := 24) (tgt := 28) C dX7_nameSeen_24 (by decide) ?_
      refine r_iconst (pc := 28) C dX7_nameSeen_28 ci_1 ?_
      refine r_V2vo (pc := 29) C (t_needYes (r := r) (e := 1)) vl_X7_94 hsR.1.1 (by decide) (by omega) (by omega) (Nat.le_of_ble_eq_true rfl) rfl dX7_nameSeen_29 (fun u4 A4 hc4 => ?_)
      refine r_eqA hc4 ?_
      clear hc4 A4 u4
      refine r_aload_0 (pc := 32) C dX7_nameSeen_32 ?_
      refine r_getR (pc := 33) C fl_X7_24_7 hsR.1.1 rfl hsR.2.2.2.2.1 dX7_nameSeen_33 ?_
      refine r_aret (pc := 36) C E rfl (by omega) (by omega) dX7_nameSeen_36 ?_
      exact ⟨v3, nam_1 ⟨hw1, by omega⟩, ⟨hw1, by omega⟩, hmk, rfl⟩
set_option maxHeartbeats 4000000 in
theorem t_opens {g : GZ} {A : HA} {r c bf L : Nat} {B : Nat → Nat} {a : Nat} (hR : RdT g A r c bf L B a) (hT : TkC g) (ha : a ≤ L) (hz : zS g) {t tv tn : Nat} {tf : Nat → Nat} (hst : StrV A t tv tf tn) (hK : RdK g A) {m n : Nat} (hm : m ≤ 1000) (hn : n ≤ 1000) : Ct g wV yX7_opens (.code yX7_opens cX7_opens 4 (Option.none : Option Jvm.ClassFile.FieldType)) 12 (30 * (nxE B L (nxE B L a) - nxE B L a) + 2) (120 * (nxE B L (nxE B L a) - nxE B L a) + 16) [.ref r, .ref t, .int (nI (m)), .int (nI (n))] (A) (fun u A' => isWd B L (skp B L a) tf tn = true ∧ m < n ∧ RdT g A' r c bf L B (nxE B L a) ∧ Gw A A' (fun y => y = r)) (fun q A' => (¬ isWd B L (skp B L a) tf tn = true ∧ UnX A A' Non q (nI 1) (nI (skp B L a))) ∨ (isWd B L (skp B L a) tf tn = true ∧ ¬ m < n ∧ UnX A A' Non q (nI 4) (nI (skp B L a)))) := by
  refine Ct.of [some (.ref r), some (.ref t), some (.int (nI (m))), some (.int (nI (n)))] (by decide) rfl rfl fun z C hx hnm E => ?_
  obtain ⟨v, w, hsR, hv, hw⟩ := id hR
  have h9 := hsR.l9
  have hp9 := skp_le (B := B) ha
  have hp8 := skp_ge (B := B) (L := L) (a := a)
  have he9 := tkE_le (B := B) hp9
  have hnx : nxE B L a = (tkE B L (skp B L a)) := rfl
  have hnx2 : nxE B L (nxE B L a) = tkE B L (skp B L (nxE B L a)) := rfl
  have hB : ∀ k, k < L → B k ≤ 255 := fun k hk => (hsR.2.2.1.2 k hk).2
  have hnn := nxE_le (B := B) (L := L) (a := nxE B L a) (by omega)
  obtain ⟨v8, f8, hsv, hf8⟩ := hw.str hK
  refine r_aload_0 (pc := 0) C dX7_opens_0 ?_
  refine r_aload_0 (pc := 1) C dX7_opens_1 ?_
  refine r_getR (pc := 2) C fl_X7_24_7 hsR.1.1 rfl hsR.2.2.2.2.1 dX7_opens_2 ?_
  refine r_aload_1 (pc := 5) C dX7_opens_5 ?_
  refine r_V1io (pc := 6) C (j_J10_equals hz hsv hst) vl_X7_124 hsv.g (by decide) (by omega) (by omega) (Nat.le_of_ble_eq_true rfl) rfl dX7_opens_6 (fun u1 A1 hc1 => ?_)
  have hiw : EqT f8 (wln B L (skp B L a)) tf tn ↔ isWd B L (skp B L a) tf tn = true := by rw [isWd_iff]; unfold EqT; exact ⟨fun h => ⟨h.1, fun k hk => (hf8 k (by omega)).symm.trans (h.2 k (by omega))⟩, fun h => ⟨h.1, fun k hk => (hf8 k (by omega)).trans (h.2 k (by omega))⟩⟩
  refine r_top (hc1.1.trans (bI_iff hiw)) ?_
  refine r_eqA hc1.2 ?_
  clear hc1 A1 u1
  refine r_iconst (pc := 9) C dX7_opens_9 ci_1 ?_
  refine r_V2vx (pc := 10) C (t_need hsR (e := 1)) vl_X7_94 hsR.1.1 (by decide) (by omega) (by omega) (Nat.le_of_ble_eq_true rfl) rfl dX7_opens_10 (fun q A9 hp hE => r_out C E (by rw [hx]; exact fun x h => nomatch h) hE.choose_spec (by omega) (by omega) (Or.inl hp)) (fun u2 A2 hc2 => ?_)
  obtain ⟨hp2, eA2⟩ := hc2
  refine r_eqA eA2 ?_
  clear eA2 A2 u2
  have hp10 : isWd B L (skp B L a) tf tn = true := by assumption
  refine r_aload_0 (pc := 13) C dX7_opens_13 ?_
  refine r_iload_2 (pc := 14) C dX7_opens_14 ?_
  refine r_iload_3 (pc := 15) C dX7_opens_15 ?_
  refine r_icmp_ge (pc := 16) (tgt := 23) C dX7_opens_16 (by decide) (fun b16 => ?_) (fun b16 => ?_)
  · skip
    have b16 := (nI_le2 (by omega) (by omega)).mp b16
    refine r_iconst (pc := 23) C dX7_opens_23 ci_0 ?_
    refine r_iconst (pc := 24) C dX7_opens_24 ci_4 ?_
    refine r_V2vx (pc := 25) C (t_needNo hsR (e := 4)) vl_X7_94 hsR.1.1 (by decide) (by omega) (by omega) (Nat.le_of_ble_eq_true rfl) rfl dX7_opens_25 (fun q A9 hp hE => r_out C E (by rw [hx]; exact fun x h => nomatch h) hE.choose_spec (by omega) (by omega) (Or.inr ⟨hp10, by omega, hp⟩)) (fun u3 A3 hc3 => ?_)
    exact hc3.elim
  · skip
    have b16 := (not_congr (nI_le2 (by omega) (by omega))).mp b16
    refine r_iconst (pc := 19) C dX7_opens_19 ci_1 ?_
    refine r_goto (pc := 20) (tgt := 24) C dX7_opens_20 (by decide) ?_
    refine r_iconst (pc := 24) C dX7_opens_24 ci_4 ?_
    refine r_V2vo (pc := 25) C (t_needYes (r := r) (e := 4)) vl_X7_94 hsR.1.1 (by decide) (by omega) (by omega) (Nat.le_of_ble_eq_true rfl) rfl dX7_opens_25 (fun u4 A4 hc4 => ?_)
    refine r_eqA hc4 ?_
    clear hc4 A4 u4
    refine r_aload_0 (pc := 28) C dX7_opens_28 ?_
    refine r_V0v (pc := 29) C (t_next (a := nxE B L a) hsR hz hT (by omega)) vl_X7_28 hsR.1.1 (by decide) (by omega) (by omega) (Nat.le_of_ble_eq_true rfl) rfl dX7_opens_29 (fun u5 A5 hc5 => ?_)
    obtain ⟨hR2, hGw, hWn⟩ := hc5
    generalize A5 = D at hR2 hGw hWn ⊢
    refine r_vret (pc := 32) C E (by omega) (by omega) dX7_opens_32 ?_
    exact ⟨hp10, by omega, hR2, hGw⟩
set_option maxHeartbeats 4000000 in
theorem t_foundG {g : GZ} {A : HA} {r c bf L : Nat} {B : Nat → Nat} {a : Nat} (hR : RdT g A r c bf L B a) (hT : TkC g) (ha : a ≤ L) (hz : zS g) {b : Nat} {d : Nat → Nat} {σ : Rw} (hL : Ly A b d σ) (hv2 : Lv A.I b d σ) (hNI : NumI σ) (hNm : NmK A d σ) {but : Int32} : Ct g wI yX7_found (.code yX7_found cX7_found 4 (Option.some Jvm.ClassFile.FieldType.int)) 12 (30 * (nxE B L (nxE B L a) - nxE B L a) + 2) (120 * (nxE B L (nxE B L a) - nxE B L a) + 16) [.ref r, .ref (d 11), .int but] (A) (fun u A' => ∃ k a', fndR σ B L a True but = .inr (k, a') ∧ a' = nxE B L a ∧ u = nI k ∧ hereR σ B True (skp B L a) (wln B L (skp B L a)) = some k ∧ RdT g A' r c bf L B a' ∧ Gw A A' (fun y => y = r)) (fun q A' => ∃ e p, fndR σ B L a True but = .inl (e, p) ∧ UnX A A' Non q (nI e) (nI p)) := by
  refine Ct.of [some (.ref r), some (.ref (d 11)), some (.int but), none] (by decide) rfl rfl fun z C hx hnm E => ?_
  obtain ⟨v, w, hsR, hv, hw⟩ := id hR
  have h9 := hsR.l9
  have hp9 := skp_le (B := B) ha
  have hp8 := skp_ge (B := B) (L := L) (a := a)
  have he9 := tkE_le (B := B) hp9
  have hnx : nxE B L a = (tkE B L (skp B L a)) := rfl
  have hnx2 : nxE B L (nxE B L a) = tkE B L (skp B L (nxE B L a)) := rfl
  have hB : ∀ k, k < L → B k ≤ 255 := fun k hk => (hsR.2.2.1.2 k hk).2
  have hnn := nxE_le (B := B) (L := L) (a := nxE B L a) (by omega)
  refine r_aload_1 (pc := 0) C dX7_found_0 ?_
  refine r_aload_0 (pc := 1) C dX7_found_1 ?_
  refine r_V0rx (pc := 2) C (t_nameSeen hR hT ha hz) vl_X7_115 hsR.1.1 (by decide) (by omega) (by omega) (Nat.le_of_ble_eq_true rfl) rfl dX7_found_2 (fun q A9 hp hE => r_out C E (by rw [hx]; exact fun x h => nomatch h) hE.choose_spec (by omega) (by omega) (by obtain ⟨e, p, e1, e2⟩ := hp; exact ⟨e, p, by unfold fndR; rw [e1], e2⟩)) (fun u1 A1 hc1 => ?_)
  obtain ⟨v', en1, en2, hmk, eA⟩ := hc1
  refine r_eqA eA ?_
  clear eA A1
  generalize u1 = wn at hmk ⊢
  refine r_V1io (pc := 5) C (c_namedG hL hv2 hNI hz hNm hmk.1) vl_X7_118 (ly_g11 hL) (by decide) (by omega) (by omega) (Nat.le_of_ble_eq_true rfl) rfl dX7_found_5 (fun u2 A2 hc2 => ?_)
  have e9 : firstB (fun i => nmB σ (fun i => B ((skp B L a) + i)) (21 + 9 * i) 0 (wln B L (skp B L a))) (rG σ) = hereR σ B True (skp B L a) (wln B L (skp B L a)) := by
    show _ = hereG σ B (skp B L a) (wln B L (skp B L a))
    unfold hereG
    congr 1
    funext i
    exact here_off
  refine r_top (hc2.1.trans (congrArg oI e9)) ?_
  refine r_eqA hc2.2 ?_
  clear hc2 A2 u2
  refine r_istore_3 (pc := 8) C dX7_found_8 rfl ?_
  rcases hh : hereR σ B True (skp B L a) (wln B L (skp B L a)) with _ | k
  · skip
    refine r_eqL (lv' := [some (.ref r), some (.ref (d 11)), some (.int but), some (.int (-1))]) rfl ?_
    have hno : fndR σ B L a True but = .inl (3, (skp B L a)) := by unfold fndR; rw [en1]; dsimp only; rw [hh]
    refine r_aload_0 (pc := 9) C dX7_found_9 ?_
    refine r_iload_3 (pc := 10) C dX7_found_10 ?_
    refine r_iconst (pc := 11) C dX7_found_11 ci_m1 ?_
    refine r_icmp_eq (pc := 12) (tgt := 24) C dX7_found_12 (by decide) (fun b12 => ?_) (fun b12 => ?_)
    · skip
      refine r_iconst (pc := 24) C dX7_found_24 ci_0 ?_
      refine r_iconst (pc := 25) C dX7_found_25 ci_3 ?_
      refine r_V2vx (pc := 26) C (t_needNo hsR (e := 3)) vl_X7_94 hsR.1.1 (by decide) (by omega) (by omega) (Nat.le_of_ble_eq_true rfl) rfl dX7_found_26 (fun q A9 hp hE => r_out C E (by rw [hx]; exact fun x h => nomatch h) hE.choose_spec (by omega) (by omega) (⟨3, (skp B L a), hno, hp⟩)) (fun u3 A3 hc3 => ?_)
      exact hc3.elim
    · exact absurd b12 (by decide +kernel)
  · skip
    refine r_eqL (lv' := [some (.ref r), some (.ref (d 11)), some (.int but), some (.int (nI k))]) rfl ?_
    have hk9 := hereR_lt hNI hh
    refine r_aload_0 (pc := 9) C dX7_found_9 ?_
    refine r_iload_3 (pc := 10) C dX7_found_10 ?_
    refine r_iconst (pc := 11) C dX7_found_11 ci_m1 ?_
    refine r_icmp_eq (pc := 12) (tgt := 24) C dX7_found_12 (by decide) (fun b12 => ?_) (fun b12 => ?_)
    · skip
      exact absurd b12 (nI_m1 (by omega))
    · skip
      refine r_iload_3 (pc := 15) C dX7_found_15 ?_
      refine r_iload_2 (pc := 16) C dX7_found_16 ?_
      refine r_icmp_eq (pc := 17) (tgt := 24) C dX7_found_17 (by decide) (fun b17 => ?_) (fun b17 => ?_)
      · skip
        have hno : fndR σ B L a True but = .inl (3, (skp B L a)) := by unfold fndR; rw [en1]; dsimp only; rw [hh]; exact if_pos b17
        refine r_iconst (pc := 24) C dX7_found_24 ci_0 ?_
        refine r_iconst (pc := 25) C dX7_found_25 ci_3 ?_
        refine r_V2vx (pc := 26) C (t_needNo hsR (e := 3)) vl_X7_94 hsR.1.1 (by decide) (by omega) (by omega) (Nat.le_of_ble_eq_true rfl) rfl dX7_found_26 (fun q A9 hp hE => r_out C E (by rw [hx]; exact fun x h => nomatch h) hE.choose_spec (by omega) (by omega) (⟨3, (skp B L a), hno, hp⟩)) (fun u4 A4 hc4 => ?_)
        exact hc4.elim
      · skip
        refine r_iconst (pc := 20) C dX7_found_20 ci_1 ?_
        refine r_goto (pc := 21) (tgt := 25) C dX7_found_21 (by decide) ?_
        refine r_iconst (pc := 25) C dX7_found_25 ci_3 ?_
        refine r_V2vo (pc := 26) C (t_needYes (r := r) (e := 3)) vl_X7_94 hsR.1.1 (by decide) (by omega) (by omega) (Nat.le_of_ble_eq_true rfl) rfl dX7_found_26 (fun u5 A5 hc5 => ?_)
        refine r_eqA hc5 ?_
        clear hc5 A5 u5
        refine r_aload_0 (pc := 29) C dX7_found_29 ?_
        refine r_V0v (pc := 30) C (t_next (a := nxE B L a) hsR hz hT (by omega)) vl_X7_28 hsR.1.1 (by decide) (by omega) (by omega) (Nat.le_of_ble_eq_true rfl) rfl dX7_found_30 (fun u6 A6 hc6 => ?_)
        obtain ⟨hR2, hGw, hWn⟩ := hc6
        generalize A6 = D at hR2 hGw hWn ⊢
        refine r_iload_3 (pc := 33) C dX7_found_33 ?_
        refine r_iret (pc := 34) C E rfl (by omega) (by omega) dX7_found_34 ?_
        refine ⟨k, nxE B L a, ?_, rfl, rfl, hh, hR2, hGw⟩
        unfold fndR
        rw [en1]
        dsimp only
        rw [hh]
        dsimp only
        rw [if_neg b17]
        congr 1
        unfold nxE
        rw [(tk_w.1 (show tkN B L (skp B L a) = 1 from Classical.byContradiction fun q => by have := tk_w.2 q; omega)).2]
set_option maxHeartbeats 4000000 in
theorem t_newNameG {g : GZ} {A : HA} {r c bf L : Nat} {B : Nat → Nat} {a : Nat} (hR : RdT g A r c bf L B a) (hT : TkC g) (ha : a ≤ L) (hz : zS g) {b : Nat} {d : Nat → Nat} {σ : Rw} (hL : Ly A b d σ) (hv2 : Lv A.I b d σ) (hNI : NumI σ) (hNm : NmK A d σ)  : Ct g wR yX7_newName (.code yX7_newName cX7_newName 3 (Option.some (Jvm.ClassFile.FieldType.object "java/lang/String"))) 12 (30 * (nxE B L (nxE B L a) - nxE B L a) + 3) (120 * (nxE B L (nxE B L a) - nxE B L a) + 24) [.ref r, .ref (d 11)] (A) (fun u A' => ∃ v' a', newR σ B L a True = .inr a' ∧ a' = nxE B L a ∧ (1 ≤ wln B L (skp B L a) ∧ wln B L (skp B L a) ≤ 6) ∧ WrS g A' u v' (fun i => B ((skp B L a) + i)) (wln B L (skp B L a)) ∧ RdT g A' r c bf L B a' ∧ Gw A A' (fun y => y = r)) (fun q A' => ∃ e p, newR σ B L a True = .inl (e, p) ∧ UnX A A' Non q (nI e) (nI p)) := by
  refine Ct.of [some (.ref r), some (.ref (d 11)), none] (by decide) rfl rfl fun z C hx hnm E => ?_
  obtain ⟨v, w, hsR, hv, hw⟩ := id hR
  have h9 := hsR.l9
  have hp9 := skp_le (B := B) ha
  have hp8 := skp_ge (B := B) (L := L) (a := a)
  have he9 := tkE_le (B := B) hp9
  have hnx : nxE B L a = (tkE B L (skp B L a)) := rfl
  have hnx2 : nxE B L (nxE B L a) = tkE B L (skp B L (nxE B L a)) := rfl
  have hB : ∀ k, k < L → B k ≤ 255 := fun k hk => (hsR.2.2.1.2 k hk).2
  have hnn := nxE_le (B := B) (L := L) (a := nxE B L a) (by omega)
  refine r_Z fun hZ => ?_
  refine r_aload_0 (pc := 0) C dX7_newName_0 ?_
  refine r_V0rx (pc := 1) C (t_nameSeen hR hT ha hz) vl_X7_115 hsR.1.1 (by decide) (by omega) (by omega) (Nat.le_of_ble_eq_true rfl) rfl dX7_newName_1 (fun q A9 hp hE => r_out C E (by rw [hx]; exact fun x h => nomatch h) hE.choose_spec (by omega) (by omega) (by obtain ⟨e, p, e1, e2⟩ := hp; exact ⟨e, p, by unfold newR; rw [e1], e2⟩)) (fun u1 A1 hc1 => ?_)
  obtain ⟨v', en1, en2, hmk, eA⟩ := hc1
  refine r_eqA eA ?_
  clear eA A1
  generalize u1 = wn at hmk ⊢
  refine r_astore_2 (pc := 4) C dX7_newName_4 rfl ?_
  refine r_aload_0 (pc := 5) C dX7_newName_5 ?_
  refine r_aload_1 (pc := 6) C dX7_newName_6 ?_
  refine r_aload_2 (pc := 7) C dX7_newName_7 ?_
  refine r_V1io (pc := 8) C (c_namedG hL hv2 hNI hz hNm hmk.1) vl_X7_118 (ly_g11 hL) (by decide) (by omega) (by omega) (Nat.le_of_ble_eq_true rfl) rfl dX7_newName_8 (fun u2 A2 hc2 => ?_)
  have e9 : firstB (fun i => nmB σ (fun i => B ((skp B L a) + i)) (21 + 9 * i) 0 (wln B L (skp B L a))) (rG σ) = hereR σ B True (skp B L a) (wln B L (skp B L a)) := by
    show _ = hereG σ B (skp B L a) (wln B L (skp B L a))
    unfold hereG
    congr 1
    funext i
    exact here_off
  refine r_top (hc2.1.trans (congrArg oI e9)) ?_
  refine r_eqA hc2.2 ?_
  clear hc2 A2 u2
  rcases hh : hereR σ B True (skp B L a) (wln B L (skp B L a)) with _ | k
  · skip
    refine r_top (show _ = (-1 : Int32) from rfl) ?_
    refine r_iconst (pc := 11) C dX7_newName_11 ci_m1 ?_
    refine r_icmp_ne (pc := 12) (tgt := 19) C dX7_newName_12 (by decide) (fun b12 => ?_) (fun b12 => ?_)
    · exact absurd b12 (by decide +kernel)
    · skip
      refine r_iconst (pc := 15) C dX7_newName_15 ci_1 ?_
      refine r_goto (pc := 16) (tgt := 20) C dX7_newName_16 (by decide) ?_
      refine r_iconst (pc := 20) C dX7_newName_20 ci_3 ?_
      refine r_V2vo (pc := 21) C (t_needYes (r := r) (e := 3)) vl_X7_94 hsR.1.1 (by decide) (by omega) (by omega) (Nat.le_of_ble_eq_true rfl) rfl dX7_newName_21 (fun u3 A3 hc3 => ?_)
      refine r_eqA hc3 ?_
      clear hc3 A3 u3
      refine r_aload_0 (pc := 24) C dX7_newName_24 ?_
      refine r_V0v (pc := 25) C (t_next (a := nxE B L a) hsR hz hT (by omega)) vl_X7_28 hsR.1.1 (by decide) (by omega) (by omega) (Nat.le_of_ble_eq_true rfl) rfl dX7_newName_25 (fun u4 A4 hc4 => ?_)
      obtain ⟨hR2, hGw, hWn⟩ := hc4
      generalize A4 = D at hR2 hGw hWn ⊢
      refine r_aload_2 (pc := 28) C dX7_newName_28 ?_
      refine r_aret (pc := 29) C E rfl (by omega) (by omega) dX7_newName_29 ?_
      have n1 : wn ≠ r := fun e => by have h8 := hmk.1.g; rw [e, hsR.1.1] at h8; cases h8
      have n2 : v' ≠ r := fun e => by have h8 := hmk.2.2.1; rw [e, hsR.1.1] at h8; cases h8
      refine ⟨v', nxE B L a, ?_, rfl, en2, hmk.gw hZ hGw n1 n2, hR2, hGw⟩
      unfold newR
      rw [en1]
      dsimp only
      rw [hh]
      dsimp only
      congr 1
      unfold nxE
      rw [(tk_w.1 (show tkN B L (skp B L a) = 1 from Classical.byContradiction fun q => by have := tk_w.2 q; omega)).2]
  · skip
    refine r_top (show _ = nI k from rfl) ?_
    have hk9 := hereR_lt hNI hh
    have hno : newR σ B L a True = .inl (3, (skp B L a)) := by unfold newR; rw [en1]; dsimp only; rw [hh]
    refine r_iconst (pc := 11) C dX7_newName_11 ci_m1 ?_
    refine r_icmp_ne (pc := 12) (tgt := 19) C dX7_newName_12 (by decide) (fun b12 => ?_) (fun b12 => ?_)
    · skip
      refine r_iconst (pc := 19) C dX7_newName_19 ci_0 ?_
      refine r_iconst (pc := 20) C dX7_newName_20 ci_3 ?_
      refine r_V2vx (pc := 21) C (t_needNo hsR (e := 3)) vl_X7_94 hsR.1.1 (by decide) (by omega) (by omega) (Nat.le_of_ble_eq_true rfl) rfl dX7_newName_21 (fun q A9 hp hE => r_out C E (by rw [hx]; exact fun x h => nomatch h) hE.choose_spec (by omega) (by omega) (⟨3, (skp B L a), hno, hp⟩)) (fun u5 A5 hc5 => ?_)
      exact hc5.elim
    · skip
      exact absurd b12.symm (fun q => nI_m1 (by omega) q.symm)
set_option maxHeartbeats 4000000 in
theorem t_foundW {g : GZ} {A : HA} {r c bf L : Nat} {B : Nat → Nat} {a : Nat} (hR : RdT g A r c bf L B a) (hT : TkC g) (ha : a ≤ L) (hz : zS g) {b : Nat} {d : Nat → Nat} {σ : Rw} (hL : Ly A b d σ) (hv2 : Lv A.I b d σ) (hNI : NumI σ) (hNm : NmK A d σ) {but : Int32} : Ct g wI yX7_found (.code yX7_found cX7_found 4 (Option.some Jvm.ClassFile.FieldType.int)) 12 (30 * (nxE B L (nxE B L a) - nxE B L a) + 2) (120 * (nxE B L (nxE B L a) - nxE B L a) + 16) [.ref r, .ref (d 12), .int but] (A) (fun u A' => ∃ k a', fndR σ B L a False but = .inr (k, a') ∧ a' = nxE B L a ∧ u = nI k ∧ hereR σ B False (skp B L a) (wln B L (skp B L a)) = some k ∧ RdT g A' r c bf L B a' ∧ Gw A A' (fun y => y = r)) (fun q A' => ∃ e p, fndR σ B L a False but = .inl (e, p) ∧ UnX A A' Non q (nI e) (nI p)) := by
  refine Ct.of [some (.ref r), some (.ref (d 12)), some (.int but), none] (by decide) rfl rfl fun z C hx hnm E => ?_
  obtain ⟨v, w, hsR, hv, hw⟩ := id hR
  have h9 := hsR.l9
  have hp9 := skp_le (B := B) ha
  have hp8 := skp_ge (B := B) (L := L) (a := a)
  have he9 := tkE_le (B := B) hp9
  have hnx : nxE B L a = (tkE B L (skp B L a)) := rfl
  have hnx2 : nxE B L (nxE B L a) = tkE B L (skp B L (nxE B L a)) := rfl
  have hB : ∀ k, k < L → B k ≤ 255 := fun k hk => (hsR.2.2.1.2 k hk).2
  have hnn := nxE_le (B := B) (L := L) (a := nxE B L a) (by omega)
  refine r_aload_1 (pc := 0) C dX7_found_0 ?_
  refine r_aload_0 (pc := 1) C dX7_found_1 ?_
  refine r_V0rx (pc := 2) C (t_nameSeen hR hT ha hz) vl_X7_115 hsR.1.1 (by decide) (by omega) (by omega) (Nat.le_of_ble_eq_true rfl) rfl dX7_found_2 (fun q A9 hp hE => r_out C E (by rw [hx]; exact fun x h => nomatch h) hE.choose_spec (by omega) (by omega) (by obtain ⟨e, p, e1, e2⟩ := hp; exact ⟨e, p, by unfold fndR; rw [e1], e2⟩)) (fun u1 A1 hc1 => ?_)
  obtain ⟨v', en1, en2, hmk, eA⟩ := hc1
  refine r_eqA eA ?_
  clear eA A1
  generalize u1 = wn at hmk ⊢
  refine r_V1io (pc := 5) C (c_namedW hL hv2 hNI hz hNm hmk.1) vl_X7_118 (ly_g12 hL) (by decide) (by omega) (by omega) (Nat.le_of_ble_eq_true rfl) rfl dX7_found_5 (fun u2 A2 hc2 => ?_)
  have e9 : firstB (fun i => nmB σ (fun i => B ((skp B L a) + i)) (75 + 13 * i) 0 (wln B L (skp B L a))) (rK σ) = hereR σ B False (skp B L a) (wln B L (skp B L a)) := by
    show _ = hereW σ B (skp B L a) (wln B L (skp B L a))
    unfold hereW
    congr 1
    funext i
    exact here_off
  refine r_top (hc2.1.trans (congrArg oI e9)) ?_
  refine r_eqA hc2.2 ?_
  clear hc2 A2 u2
  refine r_istore_3 (pc := 8) C dX7_found_8 rfl ?_
  rcases hh : hereR σ B False (skp B L a) (wln B L (skp B L a)) with _ | k
  · skip
    refine r_eqL (lv' := [some (.ref r), some (.ref (d 12)), some (.int but), some (.int (-1))]) rfl ?_
    have hno : fndR σ B L a False but = .inl (3, (skp B L a)) := by unfold fndR; rw [en1]; dsimp only; rw [hh]
    refine r_aload_0 (pc := 9) C dX7_found_9 ?_
    refine r_iload_3 (pc := 10) C dX7_found_10 ?_
    refine r_iconst (pc := 11) C dX7_found_11 ci_m1 ?_
    refine r_icmp_eq (pc := 12) (tgt := 24) C dX7_found_12 (by decide) (fun b12 => ?_) (fun b12 => ?_)
    · skip
      refine r_iconst (pc := 24) C dX7_found_24 ci_0 ?_
      refine r_iconst (pc := 25) C dX7_found_25 ci_3 ?_
      refine r_V2vx (pc := 26) C (t_needNo hsR (e := 3)) vl_X7_94 hsR.1.1 (by decide) (by omega) (by omega) (Nat.le_of_ble_eq_true rfl) rfl dX7_found_26 (fun q A9 hp hE => r_out C E (by rw [hx]; exact fun x h => nomatch h) hE.choose_spec (by omega) (by omega) (⟨3, (skp B L a), hno, hp⟩)) (fun u3 A3 hc3 => ?_)
      exact hc3.elim
    · exact absurd b12 (by decide +kernel)
  · skip
    refine r_eqL (lv' := [some (.ref r), some (.ref (d 12)), some (.int but), some (.int (nI k))]) rfl ?_
    have hk9 := hereR_lt hNI hh
    refine r_aload_0 (pc := 9) C dX7_found_9 ?_
    refine r_iload_3 (pc := 10) C dX7_found_10 ?_
    refine r_iconst (pc := 11) C dX7_found_11 ci_m1 ?_
    refine r_icmp_eq (pc := 12) (tgt := 24) C dX7_found_12 (by decide) (fun b12 => ?_) (fun b12 => ?_)
    · skip
      exact absurd b12 (nI_m1 (by omega))
    · skip
      refine r_iload_3 (pc := 15) C dX7_found_15 ?_
      refine r_iload_2 (pc := 16) C dX7_found_16 ?_
      refine r_icmp_eq (pc := 17) (tgt := 24) C dX7_found_17 (by decide) (fun b17 => ?_) (fun b17 => ?_)
      · skip
        have hno : fndR σ B L a False but = .inl (3, (skp B L a)) := by unfold fndR; rw [en1]; dsimp only; rw [hh]; exact if_pos b17
        refine r_iconst (pc := 24) C dX7_found_24 ci_0 ?_
        refine r_iconst (pc := 25) C dX7_found_25 ci_3 ?_
        refine r_V2vx (pc := 26) C (t_needNo hsR (e := 3)) vl_X7_94 hsR.1.1 (by decide) (by omega) (by omega) (Nat.le_of_ble_eq_true rfl) rfl dX7_found_26 (fun q A9 hp hE => r_out C E (by rw [hx]; exact fun x h => nomatch h) hE.choose_spec (by omega) (by omega) (⟨3, (skp B L a), hno, hp⟩)) (fun u4 A4 hc4 => ?_)
        exact hc4.elim
      · skip
        refine r_iconst (pc := 20) C dX7_found_20 ci_1 ?_
        refine r_goto (pc := 21) (tgt := 25) C dX7_found_21 (by decide) ?_
        refine r_iconst (pc := 25) C dX7_found_25 ci_3 ?_
        refine r_V2vo (pc := 26) C (t_needYes (r := r) (e := 3)) vl_X7_94 hsR.1.1 (by decide) (by omega) (by omega) (Nat.le_of_ble_eq_true rfl) rfl dX7_found_26 (fun u5 A5 hc5 => ?_)
        refine r_eqA hc5 ?_
        clear hc5 A5 u5
        refine r_aload_0 (pc := 29) C dX7_found_29 ?_
        refine r_V0v (pc := 30) C (t_next (a := nxE B L a) hsR hz hT (by omega)) vl_X7_28 hsR.1.1 (by decide) (by omega) (by omega) (Nat.le_of_ble_eq_true rfl) rfl dX7_found_30 (fun u6 A6 hc6 => ?_)
        obtain ⟨hR2, hGw, hWn⟩ := hc6
        generalize A6 = D at hR2 hGw hWn ⊢
        refine r_iload_3 (pc := 33) C dX7_found_33 ?_
        refine r_iret (pc := 34) C E rfl (by omega) (by omega) dX7_found_34 ?_
        refine ⟨k, nxE B L a, ?_, rfl, rfl, hh, hR2, hGw⟩
        unfold fndR
        rw [en1]
        dsimp only
        rw [hh]
        dsimp only
        rw [if_neg b17]
        congr 1
        unfold nxE
        rw [(tk_w.1 (show tkN B L (skp B L a) = 1 from Classical.byContradiction fun q => by have := tk_w.2 q; omega)).2]
set_option maxHeartbeats 4000000 in
theorem t_newNameW {g : GZ} {A : HA} {r c bf L : Nat} {B : Nat → Nat} {a : Nat} (hR : RdT g A r c bf L B a) (hT : TkC g) (ha : a ≤ L) (hz : zS g) {b : Nat} {d : Nat → Nat} {σ : Rw} (hL : Ly A b d σ) (hv2 : Lv A.I b d σ) (hNI : NumI σ) (hNm : NmK A d σ)  : Ct g wR yX7_newName (.code yX7_newName cX7_newName 3 (Option.some (Jvm.ClassFile.FieldType.object "java/lang/String"))) 12 (30 * (nxE B L (nxE B L a) - nxE B L a) + 3) (120 * (nxE B L (nxE B L a) - nxE B L a) + 24) [.ref r, .ref (d 12)] (A) (fun u A' => ∃ v' a', newR σ B L a False = .inr a' ∧ a' = nxE B L a ∧ (1 ≤ wln B L (skp B L a) ∧ wln B L (skp B L a) ≤ 6) ∧ WrS g A' u v' (fun i => B ((skp B L a) + i)) (wln B L (skp B L a)) ∧ RdT g A' r c bf L B a' ∧ Gw A A' (fun y => y = r)) (fun q A' => ∃ e p, newR σ B L a False = .inl (e, p) ∧ UnX A A' Non q (nI e) (nI p)) := by
  refine Ct.of [some (.ref r), some (.ref (d 12)), none] (by decide) rfl rfl fun z C hx hnm E => ?_
  obtain ⟨v, w, hsR, hv, hw⟩ := id hR
  have h9 := hsR.l9
  have hp9 := skp_le (B := B) ha
  have hp8 := skp_ge (B := B) (L := L) (a := a)
  have he9 := tkE_le (B := B) hp9
  have hnx : nxE B L a = (tkE B L (skp B L a)) := rfl
  have hnx2 : nxE B L (nxE B L a) = tkE B L (skp B L (nxE B L a)) := rfl
  have hB : ∀ k, k < L → B k ≤ 255 := fun k hk => (hsR.2.2.1.2 k hk).2
  have hnn := nxE_le (B := B) (L := L) (a := nxE B L a) (by omega)
  refine r_Z fun hZ => ?_
  refine r_aload_0 (pc := 0) C dX7_newName_0 ?_
  refine r_V0rx (pc := 1) C (t_nameSeen hR hT ha hz) vl_X7_115 hsR.1.1 (by decide) (by omega) (by omega) (Nat.le_of_ble_eq_true rfl) rfl dX7_newName_1 (fun q A9 hp hE => r_out C E (by rw [hx]; exact fun x h => nomatch h) hE.choose_spec (by omega) (by omega) (by obtain ⟨e, p, e1, e2⟩ := hp; exact ⟨e, p, by unfold newR; rw [e1], e2⟩)) (fun u1 A1 hc1 => ?_)
  obtain ⟨v', en1, en2, hmk, eA⟩ := hc1
  refine r_eqA eA ?_
  clear eA A1
  generalize u1 = wn at hmk ⊢
  refine r_astore_2 (pc := 4) C dX7_newName_4 rfl ?_
  refine r_aload_0 (pc := 5) C dX7_newName_5 ?_
  refine r_aload_1 (pc := 6) C dX7_newName_6 ?_
  refine r_aload_2 (pc := 7) C dX7_newName_7 ?_
  refine r_V1io (pc := 8) C (c_namedW hL hv2 hNI hz hNm hmk.1) vl_X7_118 (ly_g12 hL) (by decide) (by omega) (by omega) (Nat.le_of_ble_eq_true rfl) rfl dX7_newName_8 (fun u2 A2 hc2 => ?_)
  have e9 : firstB (fun i => nmB σ (fun i => B ((skp B L a) + i)) (75 + 13 * i) 0 (wln B L (skp B L a))) (rK σ) = hereR σ B False (skp B L a) (wln B L (skp B L a)) := by
    show _ = hereW σ B (skp B L a) (wln B L (skp B L a))
    unfold hereW
    congr 1
    funext i
    exact here_off
  refine r_top (hc2.1.trans (congrArg oI e9)) ?_
  refine r_eqA hc2.2 ?_
  clear hc2 A2 u2
  rcases hh : hereR σ B False (skp B L a) (wln B L (skp B L a)) with _ | k
  · skip
    refine r_top (show _ = (-1 : Int32) from rfl) ?_
    refine r_iconst (pc := 11) C dX7_newName_11 ci_m1 ?_
    refine r_icmp_ne (pc := 12) (tgt := 19) C dX7_newName_12 (by decide) (fun b12 => ?_) (fun b12 => ?_)
    · exact absurd b12 (by decide +kernel)
    · skip
      refine r_iconst (pc := 15) C dX7_newName_15 ci_1 ?_
      refine r_goto (pc := 16) (tgt := 20) C dX7_newName_16 (by decide) ?_
      refine r_iconst (pc := 20) C dX7_newName_20 ci_3 ?_
      refine r_V2vo (pc := 21) C (t_needYes (r := r) (e := 3)) vl_X7_94 hsR.1.1 (by decide) (by omega) (by omega) (Nat.le_of_ble_eq_true rfl) rfl dX7_newName_21 (fun u3 A3 hc3 => ?_)
      refine r_eqA hc3 ?_
      clear hc3 A3 u3
      refine r_aload_0 (pc := 24) C dX7_newName_24 ?_
      refine r_V0v (pc := 25) C (t_next (a := nxE B L a) hsR hz hT (by omega)) vl_X7_28 hsR.1.1 (by decide) (by omega) (by omega) (Nat.le_of_ble_eq_true rfl) rfl dX7_newName_25 (fun u4 A4 hc4 => ?_)
      obtain ⟨hR2, hGw, hWn⟩ := hc4
      generalize A4 = D at hR2 hGw hWn ⊢
      refine r_aload_2 (pc := 28) C dX7_newName_28 ?_
      refine r_aret (pc := 29) C E rfl (by omega) (by omega) dX7_newName_29 ?_
      have n1 : wn ≠ r := fun e => by have h8 := hmk.1.g; rw [e, hsR.1.1] at h8; cases h8
      have n2 : v' ≠ r := fun e => by have h8 := hmk.2.2.1; rw [e, hsR.1.1] at h8; cases h8
      refine ⟨v', nxE B L a, ?_, rfl, en2, hmk.gw hZ hGw n1 n2, hR2, hGw⟩
      unfold newR
      rw [en1]
      dsimp only
      rw [hh]
      dsimp only
      congr 1
      unfold nxE
      rw [(tk_w.1 (show tkN B L (skp B L a) = 1 from Classical.byContradiction fun q => by have := tk_w.2 q; omega)).2]
  · skip
    refine r_top (show _ = nI k from rfl) ?_
    have hk9 := hereR_lt hNI hh
    have hno : newR σ B L a False = .inl (3, (skp B L a)) := by unfold newR; rw [en1]; dsimp only; rw [hh]
    refine r_iconst (pc := 11) C dX7_newName_11 ci_m1 ?_
    refine r_icmp_ne (pc := 12) (tgt := 19) C dX7_newName_12 (by decide) (fun b12 => ?_) (fun b12 => ?_)
    · skip
      refine r_iconst (pc := 19) C dX7_newName_19 ci_0 ?_
      refine r_iconst (pc := 20) C dX7_newName_20 ci_3 ?_
      refine r_V2vx (pc := 21) C (t_needNo hsR (e := 3)) vl_X7_94 hsR.1.1 (by decide) (by omega) (by omega) (Nat.le_of_ble_eq_true rfl) rfl dX7_newName_21 (fun q A9 hp hE => r_out C E (by rw [hx]; exact fun x h => nomatch h) hE.choose_spec (by omega) (by omega) (⟨3, (skp B L a), hno, hp⟩)) (fun u5 A5 hc5 => ?_)
      exact hc5.elim
    · skip
      exact absurd b12.symm (fun q => nI_m1 (by omega) q.symm)
