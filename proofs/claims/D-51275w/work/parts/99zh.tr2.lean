/-! THE COMPONENT, 18: the reader: numbers, signs, names -/
set_option maxRecDepth 100000
/-- thrown: Unreadable, code e at p -/
def UnX (A A' : HA) (X : Nat → Prop) (q : Nat) (e p : Int32) : Prop := (A'.G q).1 = 8 ∧ A'.I q 6 = e ∧ A'.I q 7 = p ∧ Gw A A' X
theorem un_mk {A : HA} {ρ : Nat → Option Nat} {f : Nat → Int32} {e p : Int32} {X : Nat → Prop} : UnX A (((A.mk 8 0 0).sR A.z ρ).sI A.z (upd (upd f 6 e) 7 p)) X A.z e p := by
  refine ⟨?_, ?_, ?_, ?_⟩
  · show ((A.mk 8 0 0).G A.z).1 = 8
    rw [mk_G, if_pos rfl]
  · rw [sI_s, pk_un (by decide), pk_us]
  · rw [sI_s, pk_us]
  · exact ((gw_mk (X := X)).tr2 (gw_sR (X := fun y => y = A.z) (fun _ => rfl)) (fun y hy q => absurd q (by omega))).tr2 (gw_sI (X := fun y => y = A.z) (fun _ => rfl)) (fun y hy q => absurd q (by omega))
theorem UnX.mono {A D : HA} {X Y : Nat → Prop} {q : Nat} {e p : Int32} (h : UnX A D X q e p) (hX : ∀ y, y < A.z → X y → Y y) : UnX A D Y q e p := ⟨h.1, h.2.1, h.2.2.1, (Gw.rf (A := A) (X := Y)).tr2 h.2.2.2 hX⟩
theorem UnX.of {A B D : HA} {X Y : Nat → Prop} {q : Nat} {e p : Int32} (h : UnX B D Y q e p) (h0 : Gw A B X) (hY : ∀ y, y < A.z → Y y → X y) : UnX A D X q e p := ⟨h.1, h.2.1, h.2.2.1, h0.tr2 h.2.2.2 hY⟩
theorem tkN_lt {B : Nat → Nat} {L p : Nat} : tkN B L p < 4 := by
  unfold tkN
  split
  · split
    · omega
    · split <;> omega
  · omega
theorem le_ndi {b : Nat} (h : isLe b = true) : ¬ isDi b = true := fun q => by
  have h1 := of_decide_eq_true h
  have h2 := of_decide_eq_true q
  omega
theorem tk_n {B : Nat → Nat} {L p : Nat} : (tkN B L p = 2 → 1 ≤ dln B L p ∧ tkE B L p = p + dln B L p) ∧ (¬ tkN B L p = 2 → dln B L p = 0) := by
  by_cases h : p < L
  · by_cases h1 : isLe (B p) = true
    · obtain ⟨q1, q2, q3⟩ := tk1 h h1
      exact ⟨fun e => absurd e (by omega), fun _ => run_0 (Or.inr (le_ndi h1))⟩
    · by_cases h2 : isDi (B p) = true
      · obtain ⟨q1, q2, q3, q4⟩ := tk2 h h1 h2
        exact ⟨fun _ => ⟨q3, q2⟩, fun e => absurd q1 e⟩
      · obtain ⟨q1, q2, q3, q4⟩ := tk3 h h1 h2
        exact ⟨fun e => absurd e (by omega), fun _ => q4⟩
  · obtain ⟨q1, q2, q3, q4⟩ := tk0 (B := B) h
    exact ⟨fun e => absurd e (by omega), fun _ => q4⟩
theorem tk_w {B : Nat → Nat} {L p : Nat} : (tkN B L p = 1 → 1 ≤ wln B L p ∧ tkE B L p = p + wln B L p) ∧ (¬ tkN B L p = 1 → wln B L p = 0) := by
  by_cases h : p < L
  · by_cases h1 : isLe (B p) = true
    · obtain ⟨q1, q2, q3⟩ := tk1 h h1
      exact ⟨fun _ => ⟨q3, q2⟩, fun e => absurd q1 e⟩
    · by_cases h2 : isDi (B p) = true
      · obtain ⟨q1, q2, q3, q4⟩ := tk2 h h1 h2
        exact ⟨fun e => absurd e (by omega), fun _ => q4⟩
      · obtain ⟨q1, q2, q3, q4⟩ := tk3 h h1 h2
        exact ⟨fun e => absurd e (by omega), fun _ => q3⟩
  · obtain ⟨q1, q2, q3, q4⟩ := tk0 (B := B) h
    exact ⟨fun e => absurd e (by omega), fun _ => q3⟩
theorem tk_s {B : Nat → Nat} {L p c : Nat} (hc : isLe c ≠ true) (hd : isDi c ≠ true) : (btO B L p = some c ↔ tkN B L p = 3 ∧ p < L ∧ B p = c) ∧ (btO B L p = some c → tkE B L p = p + 1) := by
  have key : btO B L p = some c ↔ p < L ∧ B p = c := by
    unfold btO
    split
    · rename_i h
      exact ⟨fun e => ⟨h, Option.some.inj e⟩, fun e => by rw [e.2]⟩
    · rename_i h
      exact ⟨fun e => (nomatch e), fun e => absurd e.1 h⟩
  refine ⟨⟨fun e => ?_, fun e => key.mpr e.2⟩, fun e => ?_⟩
  · obtain ⟨h, e2⟩ := key.mp e
    exact ⟨(tk3 h (by rw [e2]; exact hc) (by rw [e2]; exact hd)).1, h, e2⟩
  · obtain ⟨h, e2⟩ := key.mp e
    exact (tk3 h (by rw [e2]; exact hc) (by rw [e2]; exact hd)).2.1
/-- where the token behind a ends -/
def nxE (B : Nat → Nat) (L a : Nat) : Nat := tkE B L (skp B L a)
theorem nxE_le {B : Nat → Nat} {L a : Nat} (h : a ≤ L) : a ≤ nxE B L a ∧ nxE B L a ≤ L := by
  have h1 := skp_le (B := B) h
  have h2 := tkE_le (B := B) h1
  have h3 := skp_ge (B := B) (L := L) (a := a)
  exact ⟨by unfold nxE; omega, h2.2⟩
theorem numR_no {B : Nat → Nat} {L a lo hi : Nat} (h : ¬ (tkN B L (skp B L a) = 2 ∧ dln B L (skp B L a) ≤ 3)) : numR B L a lo hi = .inl (1, skp B L a) := by
  unfold numR
  rw [if_pos]
  by_cases c : tkN B L (skp B L a) = 2
  · exact Or.inr (by omega)
  · exact Or.inl (tk_n.2 c)
theorem numR_out {B : Nat → Nat} {L a lo hi : Nat} (h : tkN B L (skp B L a) = 2 ∧ dln B L (skp B L a) ≤ 3) (h2 : ¬ (lo ≤ valF B (skp B L a) (dln B L (skp B L a)) ∧ valF B (skp B L a) (dln B L (skp B L a)) ≤ hi)) : numR B L a lo hi = .inl (2, skp B L a) := by
  have := (tk_n.1 h.1).1
  unfold numR
  rw [if_neg (by omega), if_neg h2]
theorem numR_yes {B : Nat → Nat} {L a lo hi : Nat} (h : tkN B L (skp B L a) = 2 ∧ dln B L (skp B L a) ≤ 3) (h2 : lo ≤ valF B (skp B L a) (dln B L (skp B L a)) ∧ valF B (skp B L a) (dln B L (skp B L a)) ≤ hi) : numR B L a lo hi = .inr (valF B (skp B L a) (dln B L (skp B L a)), nxE B L a) := by
  have := tk_n.1 h.1
  unfold numR
  rw [if_neg (by omega), if_pos h2, ← this.2]
  rfl
theorem dln_di {B : Nat → Nat} {L p : Nat} : ∀ i, i < dln B L p → isDi (B (p + i)) = true := fun i hi => runF_in _ _ _ hi
set_option maxHeartbeats 4000000 in
theorem t_need {g : GZ} {A : HA} {r c bf L : Nat} {B : Nat → Nat} {f fr v : Int32} {wd tk : Option Nat} (hs : RdS A r c bf L B f fr v wd tk) {p : Prop} [Decidable p] {e : Nat} : Ct g wV yX7_need (.code yX7_need cX7_need 3 (Option.none : Option Jvm.ClassFile.FieldType)) 5 1 8 [.ref r, .int (bI p), .int (nI (e))] (A) (fun u A' => p ∧ A' = A) (fun q A' => ¬ p ∧ UnX A A' Non q (nI e) fr) := by
  refine Ct.of [some (.ref r), some (.int (bI p)), some (.int (nI (e)))] (by decide) rfl rfl fun z C hx hnm E => ?_
  refine r_Z fun hZ => ?_
  refine r_iload_1 (pc := 0) C dX7_need_0 ?_
  refine r_if_ne (pc := 1) (tgt := 17) C dX7_need_1 (by decide) (fun b1 => ?_) (fun b1 => ?_)
  · skip
    have b1 := bI_n.mp b1
    refine r_vret (pc := 17) C E (by omega) (by omega) dX7_need_17 ?_
    exact ⟨‹p›, rfl⟩
  · skip
    have b1 := bI_0.mp b1
    refine r_new (pc := 4) C (0) (Nat.zero_le _) nl_X7_89 NF8 (by omega) (by omega) dX7_need_4 ?_
    have hs8 := hs.gw hZ (gw_mk (k := 8) (o := 0) (len := 0) (X := Non)) (fun q => q) (fun q => q) (fun q => q)
    refine r_dup (pc := 7) C dX7_need_7 rfl ?_
    refine r_iload_2 (pc := 8) C dX7_need_8 ?_
    refine r_aload_0 (pc := 9) C dX7_need_9 ?_
    refine r_getI (pc := 10) C fl_X7_44_7 hs8.1.1 rfl dX7_need_10 ?_
    refine r_top hs8.2.2.2.1.2.1 ?_
    refine r_I2vo (pc := 13) C (e_unread (show ((A.mk 8 0 0).G A.z).1 = 8 by rw [mk_G, if_pos rfl])) il_X7_91 (by decide) (by omega) (by omega) (Nat.le_of_ble_eq_true rfl) rfl dX7_need_13 (fun u1 A1 hc1 => ?_)
    obtain ⟨ρ9, eA1⟩ := hc1
    refine r_eqA eA1 ?_
    clear eA1 A1 u1
    refine r_athrow (pc := 16) C dX7_need_16 ?_
    refine r_out C E (by rw [hx]; exact fun x h => nomatch h) (En := RX8) ((congrArg fw_ex (un_mk (X := Non) (e := nI e) (p := fr)).1).trans rfl) (by omega) (by omega) (⟨‹¬ p›, un_mk⟩)
set_option maxHeartbeats 4000000 in
theorem t_needNo {g : GZ} {A : HA} {r c bf L : Nat} {B : Nat → Nat} {f fr v : Int32} {wd tk : Option Nat} (hs : RdS A r c bf L B f fr v wd tk) {e : Nat} : Ct g wV yX7_need (.code yX7_need cX7_need 3 (Option.none : Option Jvm.ClassFile.FieldType)) 5 1 8 [.ref r, .int (nI (0)), .int (nI (e))] (A) (fun u A' => False) (fun q A' => UnX A A' Non q (nI e) fr) := by
  refine Ct.of [some (.ref r), some (.int (nI (0))), some (.int (nI (e)))] (by decide) rfl rfl fun z C hx hnm E => ?_
  refine r_Z fun hZ => ?_
  refine r_iload_1 (pc := 0) C dX7_need_0 ?_
  refine r_if_ne (pc := 1) (tgt := 17) C dX7_need_1 (by decide) (fun b1 => ?_) (fun b1 => ?_)
  · exact absurd b1 (by decide +kernel)
  · skip
    refine r_new (pc := 4) C (0) (Nat.zero_le _) nl_X7_89 NF8 (by omega) (by omega) dX7_need_4 ?_
    have hs8 := hs.gw hZ (gw_mk (k := 8) (o := 0) (len := 0) (X := Non)) (fun q => q) (fun q => q) (fun q => q)
    refine r_dup (pc := 7) C dX7_need_7 rfl ?_
    refine r_iload_2 (pc := 8) C dX7_need_8 ?_
    refine r_aload_0 (pc := 9) C dX7_need_9 ?_
    refine r_getI (pc := 10) C fl_X7_44_7 hs8.1.1 rfl dX7_need_10 ?_
    refine r_top hs8.2.2.2.1.2.1 ?_
    refine r_I2vo (pc := 13) C (e_unread (show ((A.mk 8 0 0).G A.z).1 = 8 by rw [mk_G, if_pos rfl])) il_X7_91 (by decide) (by omega) (by omega) (Nat.le_of_ble_eq_true rfl) rfl dX7_need_13 (fun u1 A1 hc1 => ?_)
    obtain ⟨ρ9, eA1⟩ := hc1
    refine r_eqA eA1 ?_
    clear eA1 A1 u1
    refine r_athrow (pc := 16) C dX7_need_16 ?_
    refine r_out C E (by rw [hx]; exact fun x h => nomatch h) (En := RX8) ((congrArg fw_ex (un_mk (X := Non) (e := nI e) (p := fr)).1).trans rfl) (by omega) (by omega) (un_mk)
set_option maxHeartbeats 4000000 in
theorem t_needYes {g : GZ} {A : HA} {r e : Nat} : Ct g wV yX7_need (.code yX7_need cX7_need 3 (Option.none : Option Jvm.ClassFile.FieldType)) 5 0 0 [.ref r, .int (nI (1)), .int (nI (e))] (A) (fun u A' => A' = A) fw_no := by
  refine Ct.of [some (.ref r), some (.int (nI (1))), some (.int (nI (e)))] (by decide) rfl rfl fun z C hx hnm E => ?_
  refine r_iload_1 (pc := 0) C dX7_need_0 ?_
  refine r_if_ne (pc := 1) (tgt := 17) C dX7_need_1 (by decide) (fun b1 => ?_) (fun b1 => ?_)
  · skip
    refine r_vret (pc := 17) C E (Nat.le_refl _) (Nat.le_refl _) dX7_need_17 ?_
    exact rfl
  · exact absurd b1 (by decide +kernel)
set_option maxHeartbeats 4000000 in
theorem t_seen {g : GZ} {A : HA} {r c bf L : Nat} {B : Nat → Nat} {a : Nat} (hR : RdT g A r c bf L B a) (hT : TkC g) (ha : a ≤ L) {lo hi : Nat} (hlo : lo ≤ 999) (hhi : hi ≤ 999) : Ct g wI yX7_seen (.code yX7_seen cX7_seen 3 (Option.some Jvm.ClassFile.FieldType.int)) 6 2 16 [.ref r, .int (nI (lo)), .int (nI (hi))] (A) (fun u A' => ∃ v' a', numR B L a lo hi = .inr (v', a') ∧ a' = nxE B L a ∧ u = nI v' ∧ v' ≤ hi ∧ A' = A) (fun q A' => ∃ e p, numR B L a lo hi = .inl (e, p) ∧ UnX A A' Non q (nI e) (nI p)) := by
  refine Ct.of [some (.ref r), some (.int (nI (lo))), some (.int (nI (hi)))] (by decide) rfl rfl fun z C hx hnm E => ?_
  obtain ⟨v, w, hsR, hv, hw⟩ := id hR
  have h9 := hsR.l9
  have hp9 := skp_le (B := B) ha
  have he9 := tkE_le (B := B) hp9
  have hB : ∀ k, k < L → B k ≤ 255 := fun k hk => (hsR.2.2.1.2 k hk).2
  refine r_aload_0 (pc := 0) C dX7_seen_0 ?_
  refine r_aload_0 (pc := 1) C dX7_seen_1 ?_
  refine r_getR (pc := 2) C fl_X7_35_7 hsR.1.1 rfl hsR.2.2.2.2.2 dX7_seen_2 ?_
  refine r_getS (pc := 5) C (hT.1 2 (by decide)) q1489 dX7_seen_5 ?_
  refine r_acmp_ne (pc := 8) (tgt := 28) C dX7_seen_8 (by decide) (fun b8 => ?_) (fun b8 => ?_)
  · skip
    have hk2 : ¬ tkN B L (skp B L a) = 2 := fun q => b8 (by rw [q])
    refine r_iconst (pc := 28) C dX7_seen_28 ci_0 ?_
    refine r_iconst (pc := 29) C dX7_seen_29 ci_1 ?_
    refine r_V2vx (pc := 30) C (t_needNo hsR (e := 1)) vl_X7_94 hsR.1.1 (by decide) (by omega) (by omega) (Nat.le_of_ble_eq_true rfl) rfl dX7_seen_30 (fun q A9 hp hE => r_out C E (by rw [hx]; exact fun x h => nomatch h) hE.choose_spec (by omega) (by omega) (⟨1, (skp B L a), numR_no (fun q => by have e9 := (tk_n.1 q.1).2; omega), hp⟩)) (fun u1 A1 hc1 => ?_)
    exact hc1.elim
  · skip
    have hk2 : tkN B L (skp B L a) = 2 := hT.2.1 _ _ tkN_lt (by decide) b8
    refine r_aload_0 (pc := 11) C dX7_seen_11 ?_
    refine r_getI (pc := 12) C fl_X7_51_7 hsR.1.1 rfl dX7_seen_12 ?_
    refine r_top hsR.2.2.2.1.1 ?_
    refine r_aload_0 (pc := 15) C dX7_seen_15 ?_
    refine r_getI (pc := 16) C fl_X7_44_7 hsR.1.1 rfl dX7_seen_16 ?_
    refine r_top hsR.2.2.2.1.2.1 ?_
    refine r_isub (pc := 19) C dX7_seen_19 ?_
    refine r_top (pk_sub (by omega)) ?_
    refine r_iconst (pc := 20) C dX7_seen_20 ci_3 ?_
    refine r_icmp_gt (pc := 21) (tgt := 28) C dX7_seen_21 (by decide) (fun b21 => ?_) (fun b21 => ?_)
    · skip
      have b21 := (nI_lt2 (by omega) (by omega)).mp b21
      refine r_iconst (pc := 28) C dX7_seen_28 ci_0 ?_
      refine r_iconst (pc := 29) C dX7_seen_29 ci_1 ?_
      refine r_V2vx (pc := 30) C (t_needNo hsR (e := 1)) vl_X7_94 hsR.1.1 (by decide) (by omega) (by omega) (Nat.le_of_ble_eq_true rfl) rfl dX7_seen_30 (fun q A9 hp hE => r_out C E (by rw [hx]; exact fun x h => nomatch h) hE.choose_spec (by omega) (by omega) (⟨1, (skp B L a), numR_no (fun q => by have e9 := (tk_n.1 q.1).2; omega), hp⟩)) (fun u2 A2 hc2 => ?_)
      exact hc2.elim
    · skip
      have b21 := (not_congr (nI_lt2 (by omega) (by omega))).mp b21
      refine r_iconst (pc := 24) C dX7_seen_24 ci_1 ?_
      refine r_goto (pc := 25) (tgt := 29) C dX7_seen_25 (by decide) ?_
      refine r_iconst (pc := 29) C dX7_seen_29 ci_1 ?_
      refine r_V2vo (pc := 30) C (t_needYes (r := r) (e := 1)) vl_X7_94 hsR.1.1 (by decide) (by omega) (by omega) (Nat.le_of_ble_eq_true rfl) rfl dX7_seen_30 (fun u3 A3 hc3 => ?_)
      refine r_eqA hc3 ?_
      clear hc3 A3 u3
      have h3 : tkN B L (skp B L a) = 2 ∧ dln B L (skp B L a) ≤ 3 := ⟨hk2, by have e9 := (tk_n.1 hk2).2; omega⟩
      have hv2 := hv hk2
      subst hv2
      have hv3 : (valF B (skp B L a) (dln B L (skp B L a))) < 1000 := valF_1000 dln_di
      refine r_aload_0 (pc := 33) C dX7_seen_33 ?_
      refine r_aload_0 (pc := 34) C dX7_seen_34 ?_
      refine r_getI (pc := 35) C fl_X7_86_7 hsR.1.1 rfl dX7_seen_35 ?_
      refine r_top hsR.2.2.2.1.2.2 ?_
      refine r_i2l (pc := 38) C dX7_seen_38 ?_
      refine r_iload_1 (pc := 39) C dX7_seen_39 ?_
      refine r_i2l (pc := 40) C dX7_seen_40 ?_
      refine r_iload_2 (pc := 41) C dX7_seen_41 ?_
      refine r_i2l (pc := 42) C dX7_seen_42 ?_
      refine r_SN3io (pc := 43) C (c_inZ (p := (lo : Int)) (q := (hi : Int)) (t_long (by omega)) (t_long (by omega))) snl_X7_61 (by decide) (by omega) (by omega) (Nat.le_of_ble_eq_true rfl) rfl dX7_seen_43 (fun u4 A4 hc4 => ?_)
      refine r_top hc4.1 ?_
      refine r_eqA hc4.2 ?_
      clear hc4 A4 u4
      refine r_iconst (pc := 46) C dX7_seen_46 ci_2 ?_
      refine r_V2vx (pc := 47) C (t_need hsR (e := 2)) vl_X7_94 hsR.1.1 (by decide) (by omega) (by omega) (Nat.le_of_ble_eq_true rfl) rfl dX7_seen_47 (fun q A9 hp hE => r_out C E (by rw [hx]; exact fun x h => nomatch h) hE.choose_spec (by omega) (by omega) (⟨2, (skp B L a), numR_out h3 (fun q => hp.1 ⟨by rw [t_nI (by omega)]; omega, by rw [t_nI (by omega)]; omega⟩), hp.2⟩)) (fun u5 A5 hc5 => ?_)
      obtain ⟨hp5, eA5⟩ := hc5
      refine r_eqA eA5 ?_
      clear eA5 A5 u5
      refine r_aload_0 (pc := 50) C dX7_seen_50 ?_
      refine r_getI (pc := 51) C fl_X7_86_7 hsR.1.1 rfl dX7_seen_51 ?_
      refine r_top hsR.2.2.2.1.2.2 ?_
      refine r_iret (pc := 54) C E rfl (by omega) (by omega) dX7_seen_54 ?_
      refine ⟨(valF B (skp B L a) (dln B L (skp B L a))), _, numR_yes h3 ?_, rfl, rfl, ?_, rfl⟩
      · have h8 : inZ (nI (valF B (skp B L a) (dln B L (skp B L a)))) lo hi := by assumption
        unfold inZ at h8
        rw [t_nI (by omega)] at h8
        omega
      · have h8 : inZ (nI (valF B (skp B L a) (dln B L (skp B L a)))) lo hi := by assumption
        unfold inZ at h8
        rw [t_nI (by omega)] at h8
        omega
set_option maxHeartbeats 4000000 in
theorem t_number {g : GZ} {A : HA} {r c bf L : Nat} {B : Nat → Nat} {a : Nat} (hR : RdT g A r c bf L B a) (hT : TkC g) (ha : a ≤ L) (hz : zS g) {lo hi : Nat} (hlo : lo ≤ 999) (hhi : hi ≤ 999) : Ct g wI yX7_number (.code yX7_number cX7_number 4 (Option.some Jvm.ClassFile.FieldType.int)) 12 (30 * (nxE B L (nxE B L a) - nxE B L a) + 2) (120 * (nxE B L (nxE B L a) - nxE B L a) + 16) [.ref r, .int (nI (lo)), .int (nI (hi))] (A) (fun u A' => ∃ v' a', numR B L a lo hi = .inr (v', a') ∧ a' = nxE B L a ∧ u = nI v' ∧ v' ≤ hi ∧ RdT g A' r c bf L B a' ∧ Gw A A' (fun y => y = r)) (fun q A' => ∃ e p, numR B L a lo hi = .inl (e, p) ∧ UnX A A' Non q (nI e) (nI p)) := by
  refine Ct.of [some (.ref r), some (.int (nI (lo))), some (.int (nI (hi))), none] (by decide) rfl rfl fun z C hx hnm E => ?_
  obtain ⟨v, w, hsR, hv, hw⟩ := id hR
  have h9 := hsR.l9
  have hp9 := skp_le (B := B) ha
  have hp8 := skp_ge (B := B) (L := L) (a := a)
  have he9 := tkE_le (B := B) hp9
  have hnx : nxE B L a = (tkE B L (skp B L a)) := rfl
  have hnx2 : nxE B L (nxE B L a) = tkE B L (skp B L (nxE B L a)) := rfl
  have hB : ∀ k, k < L → B k ≤ 255 := fun k hk => (hsR.2.2.1.2 k hk).2
  have hnn := nxE_le (B := B) (L := L) (a := nxE B L a) (by omega)
  refine r_aload_0 (pc := 0) C dX7_number_0 ?_
  refine r_iload_1 (pc := 1) C dX7_number_1 ?_
  refine r_iload_2 (pc := 2) C dX7_number_2 ?_
  refine r_V2ix (pc := 3) C (t_seen hR hT ha hlo hhi) vl_X7_98 hsR.1.1 (by decide) (by omega) (by omega) (Nat.le_of_ble_eq_true rfl) rfl dX7_number_3 (fun q A9 hp hE => r_out C E (by rw [hx]; exact fun x h => nomatch h) hE.choose_spec (by omega) (by omega) (hp)) (fun u1 A1 hc1 => ?_)
  obtain ⟨v', a', e1, e2, e3, e4, eA⟩ := hc1
  refine r_top e3 ?_
  refine r_eqA eA ?_
  clear e3 eA A1 u1
  refine r_istore_3 (pc := 6) C dX7_number_6 rfl ?_
  refine r_aload_0 (pc := 7) C dX7_number_7 ?_
  refine r_V0v (pc := 8) C (t_next (a := nxE B L a) hsR hz hT (by omega)) vl_X7_28 hsR.1.1 (by decide) (by omega) (by omega) (Nat.le_of_ble_eq_true rfl) rfl dX7_number_8 (fun u2 A2 hc2 => ?_)
  obtain ⟨hR2, hGw, hWn⟩ := hc2
  generalize A2 = D at hR2 hGw hWn ⊢
  refine r_iload_3 (pc := 11) C dX7_number_11 ?_
  refine r_iret (pc := 12) C E rfl (by omega) (by omega) dX7_number_12 ?_
  exact ⟨v', a', e1, e2, rfl, e4, by rw [e2]; exact hR2, hGw⟩
set_option maxHeartbeats 4000000 in
theorem t_isSign {g : GZ} {A : HA} {r c bf L : Nat} {B : Nat → Nat} {a : Nat} (hR : RdT g A r c bf L B a) (hT : TkC g) (ha : a ≤ L) {b : Nat} (hb : b ≤ 127) (hbl : isLe b ≠ true) (hbd : isDi b ≠ true) : Ct g wI yX7_isSign (.code yX7_isSign cX7_isSign 2 (Option.some Jvm.ClassFile.FieldType.boolean)) 2 0 0 [.ref r, .int (nI (b))] (A) (fun u A' => u = bI (btO B L (skp B L a) = some b) ∧ A' = A) fw_no := by
  refine Ct.of [some (.ref r), some (.int (nI (b)))] (by decide) rfl rfl fun z C hx hnm E => ?_
  obtain ⟨v, w, hsR, hv, hw⟩ := id hR
  have h9 := hsR.l9
  have hp9 := skp_le (B := B) ha
  have hp8 := skp_ge (B := B) (L := L) (a := a)
  have he9 := tkE_le (B := B) hp9
  have hnx : nxE B L a = (tkE B L (skp B L a)) := rfl
  have hnx2 : nxE B L (nxE B L a) = tkE B L (skp B L (nxE B L a)) := rfl
  have hB : ∀ k, k < L → B k ≤ 255 := fun k hk => (hsR.2.2.1.2 k hk).2
  have hnn := nxE_le (B := B) (L := L) (a := nxE B L a) (by omega)
  refine r_aload_0 (pc := 0) C dX7_isSign_0 ?_
  refine r_getR (pc := 1) C fl_X7_35_7 hsR.1.1 rfl hsR.2.2.2.2.2 dX7_isSign_1 ?_
  refine r_getS (pc := 4) C (hT.1 3 (by decide)) q1491 dX7_isSign_4 ?_
  refine r_acmp_ne (pc := 7) (tgt := 26) C dX7_isSign_7 (by decide) (fun b7 => ?_) (fun b7 => ?_)
  · skip
    have hk3 : ¬ tkN B L (skp B L a) = 3 := fun q => b7 (by rw [q])
    refine r_iconst (pc := 26) C dX7_isSign_26 ci_0 ?_
    refine r_iret (pc := 27) C E nar_0 (Nat.le_refl _) (Nat.le_refl _) dX7_isSign_27 ?_
    refine ⟨?_, rfl⟩
    first
      | exact (bI_1 ((tk_s hbl hbd).1.mpr ⟨hk3, (seeI_eq hB (by omega)).mp (by assumption)⟩))
      | exact (bI_00 (fun q => hk3 ((tk_s hbl hbd).1.mp q).1))
      | exact (bI_00 (fun q => absurd ((seeI_eq hB (by omega)).mpr ((tk_s hbl hbd).1.mp q).2) (by assumption)))
  · skip
    have hk3 : tkN B L (skp B L a) = 3 := hT.2.1 _ _ tkN_lt (by decide) b7
    refine r_aload_0 (pc := 10) C dX7_isSign_10 ?_
    refine r_aload_0 (pc := 11) C dX7_isSign_11 ?_
    refine r_getI (pc := 12) C fl_X7_44_7 hsR.1.1 rfl dX7_isSign_12 ?_
    refine r_top hsR.2.2.2.1.2.1 ?_
    refine r_V1io (pc := 15) C (t_see hsR (k := (skp B L a)) (by omega)) vl_X7_47 hsR.1.1 (by decide) (by omega) (by omega) (Nat.le_of_ble_eq_true rfl) rfl dX7_isSign_15 (fun u1 A1 hc1 => ?_)
    refine r_top hc1.1 ?_
    refine r_eqA hc1.2 ?_
    clear hc1 A1 u1
    refine r_iload_1 (pc := 18) C dX7_isSign_18 ?_
    refine r_icmp_ne (pc := 19) (tgt := 26) C dX7_isSign_19 (by decide) (fun b19 => ?_) (fun b19 => ?_)
    · skip
      refine r_iconst (pc := 26) C dX7_isSign_26 ci_0 ?_
      refine r_iret (pc := 27) C E nar_0 (Nat.le_refl _) (Nat.le_refl _) dX7_isSign_27 ?_
      refine ⟨?_, rfl⟩
      first
        | exact (bI_1 ((tk_s hbl hbd).1.mpr ⟨hk3, (seeI_eq hB (by omega)).mp (by assumption)⟩))
        | exact (bI_00 (fun q => hk3 ((tk_s hbl hbd).1.mp q).1))
        | exact (bI_00 (fun q => absurd ((seeI_eq hB (by omega)).mpr ((tk_s hbl hbd).1.mp q).2) (by assumption)))
    · skip
      refine r_iconst (pc := 22) C dX7_isSign_22 ci_1 ?_
      refine r_goto (pc := 23) (tgt := 27) C dX7_isSign_23 (by decide) ?_
      refine r_iret (pc := 27) C E nar_1 (Nat.le_refl _) (Nat.le_refl _) dX7_isSign_27 ?_
      refine ⟨?_, rfl⟩
      first
        | exact (bI_1 ((tk_s hbl hbd).1.mpr ⟨hk3, (seeI_eq hB (by omega)).mp (by assumption)⟩))
        | exact (bI_00 (fun q => hk3 ((tk_s hbl hbd).1.mp q).1))
        | exact (bI_00 (fun q => absurd ((seeI_eq hB (by omega)).mpr ((tk_s hbl hbd).1.mp q).2) (by assumption)))
set_option maxHeartbeats 4000000 in
theorem t_goesOn {g : GZ} {A : HA} {r c bf L : Nat} {B : Nat → Nat} {a : Nat} (hR : RdT g A r c bf L B a) (hT : TkC g) (ha : a ≤ L) (hz : zS g) : Ct g wI yX7_goesOn (.code yX7_goesOn cX7_goesOn 2 (Option.some Jvm.ClassFile.FieldType.boolean)) 12 (30 * (nxE B L (nxE B L a) - nxE B L a) + 0) (120 * (nxE B L (nxE B L a) - nxE B L a) + 0) [.ref r] (A) (fun u A' => u = bI (btO B L (skp B L a) = some 59) ∧ (btO B L (skp B L a) = some 59 → RdT g A' r c bf L B (nxE B L a) ∧ WdN g A A' r) ∧ (¬ btO B L (skp B L a) = some 59 → A' = A) ∧ Gw A A' (fun y => y = r)) fw_no := by
  refine Ct.of [some (.ref r), none] (by decide) rfl rfl fun z C hx hnm E => ?_
  obtain ⟨v, w, hsR, hv, hw⟩ := id hR
  have h9 := hsR.l9
  have hp9 := skp_le (B := B) ha
  have hp8 := skp_ge (B := B) (L := L) (a := a)
  have he9 := tkE_le (B := B) hp9
  have hnx : nxE B L a = (tkE B L (skp B L a)) := rfl
  have hnx2 : nxE B L (nxE B L a) = tkE B L (skp B L (nxE B L a)) := rfl
  have hB : ∀ k, k < L → B k ≤ 255 := fun k hk => (hsR.2.2.1.2 k hk).2
  have hnn := nxE_le (B := B) (L := L) (a := nxE B L a) (by omega)
  refine r_aload_0 (pc := 0) C dX7_goesOn_0 ?_
  refine r_bipush (pc := 1) C dX7_goesOn_1 cb_59 ?_
  refine r_V1io (pc := 3) C (t_isSign hR hT ha (b := 59) (by decide) (by decide) (by decide)) vl_X7_102 hsR.1.1 (by decide) (by omega) (by omega) (Nat.le_of_ble_eq_true rfl) rfl dX7_goesOn_3 (fun u1 A1 hc1 => ?_)
  refine r_top hc1.1 ?_
  refine r_eqA hc1.2 ?_
  clear hc1 A1 u1
  refine r_istore_1 (pc := 6) C dX7_goesOn_6 rfl ?_
  refine r_iload_1 (pc := 7) C dX7_goesOn_7 ?_
  refine r_if_eq (pc := 8) (tgt := 15) C dX7_goesOn_8 (by decide) (fun b8 => ?_) (fun b8 => ?_)
  · skip
    have b8 := bI_0.mp b8
    refine r_iload_1 (pc := 15) C dX7_goesOn_15 ?_
    refine r_iret (pc := 16) C E (nar_b _) (by omega) (by omega) dX7_goesOn_16 ?_
    first
      | exact ⟨rfl, fun _ => ⟨hR2, hWn⟩, fun q => absurd (by assumption) q, hGw⟩
      | exact ⟨rfl, fun q => absurd q (by assumption), fun _ => rfl, Gw.rf⟩
  · skip
    have b8 := bI_n.mp b8
    refine r_aload_0 (pc := 11) C dX7_goesOn_11 ?_
    refine r_V0v (pc := 12) C (t_next (a := nxE B L a) hsR hz hT (by omega)) vl_X7_28 hsR.1.1 (by decide) (by omega) (by omega) (Nat.le_of_ble_eq_true rfl) rfl dX7_goesOn_12 (fun u2 A2 hc2 => ?_)
    obtain ⟨hR2, hGw, hWn⟩ := hc2
    generalize A2 = D at hR2 hGw hWn ⊢
    refine r_iload_1 (pc := 15) C dX7_goesOn_15 ?_
    refine r_iret (pc := 16) C E (nar_b _) (by omega) (by omega) dX7_goesOn_16 ?_
    first
      | exact ⟨rfl, fun _ => ⟨hR2, hWn⟩, fun q => absurd (by assumption) q, hGw⟩
      | exact ⟨rfl, fun q => absurd q (by assumption), fun _ => rfl, Gw.rf⟩
set_option maxHeartbeats 4000000 in
theorem t_sign {g : GZ} {A : HA} {r c bf L : Nat} {B : Nat → Nat} {a : Nat} (hR : RdT g A r c bf L B a) (hT : TkC g) (ha : a ≤ L) (hz : zS g) : Ct g wV yX7_sign (.code yX7_sign cX7_sign 1 (Option.none : Option Jvm.ClassFile.FieldType)) 13 (30 * (nxE B L (nxE B L a) - nxE B L a) + 1) (120 * (nxE B L (nxE B L a) - nxE B L a) + 8) [.ref r] (A) (fun u A' => ∃ a', sgnR B L a 59 = .inr a' ∧ a' = nxE B L a ∧ RdT g A' r c bf L B a' ∧ Gw A A' (fun y => y = r) ∧ WdN g A A' r) (fun q A' => ∃ e p, sgnR B L a 59 = .inl (e, p) ∧ UnX A A' Non q (nI e) (nI p)) := by
  refine Ct.of [some (.ref r)] (by decide) rfl rfl fun z C hx hnm E => ?_
  obtain ⟨v, w, hsR, hv, hw⟩ := id hR
  have h9 := hsR.l9
  have hp9 := skp_le (B := B) ha
  have hp8 := skp_ge (B := B) (L := L) (a := a)
  have he9 := tkE_le (B := B) hp9
  have hnx : nxE B L a = (tkE B L (skp B L a)) := rfl
  have hnx2 : nxE B L (nxE B L a) = tkE B L (skp B L (nxE B L a)) := rfl
  have hB : ∀ k, k < L → B k ≤ 255 := fun k hk => (hsR.2.2.1.2 k hk).2
  have hnn := nxE_le (B := B) (L := L) (a := nxE B L a) (by omega)
  refine r_aload_0 (pc := 0) C dX7_sign_0 ?_
  refine r_aload_0 (pc := 1) C dX7_sign_1 ?_
  refine r_V0i (pc := 2) C (t_goesOn hR hT ha hz) vl_X7_106 hsR.1.1 (by decide) (by omega) (by omega) (Nat.le_of_ble_eq_true rfl) rfl dX7_sign_2 (fun u1 A1 hc1 => ?_)
  obtain ⟨e1, e2, e3, hGw⟩ := hc1
  refine r_top e1 ?_
  clear e1 u1
  generalize A1 = D at e2 e3 hGw ⊢
  rcases Classical.em (btO B L (skp B L a) = some 59) with hs9 | hs9
  · skip
    obtain ⟨hR2, hWn⟩ := e2 hs9
    obtain ⟨v2, w2, hsR2, -, -⟩ := id hR2
    refine r_top (bI_1 hs9).symm ?_
    refine r_iconst (pc := 5) C dX7_sign_5 ci_1 ?_
    refine r_V2vo (pc := 6) C (t_needYes (r := r) (e := 1)) vl_X7_94 hsR2.1.1 (by decide) (by omega) (by omega) (Nat.le_of_ble_eq_true rfl) rfl dX7_sign_6 (fun u2 A2 hc2 => ?_)
    refine r_eqA hc2 ?_
    clear hc2 A2 u2
    refine r_vret (pc := 9) C E (by omega) (by omega) dX7_sign_9 ?_
    refine ⟨_, (if_pos hs9).trans (congrArg Sum.inr ?_), rfl, hR2, hGw, hWn⟩
    unfold nxE
    exact ((tk_s (by decide) (by decide)).2 hs9).symm
  · skip
    refine r_eqA (e3 hs9) ?_
    refine r_top (bI_00 hs9).symm ?_
    refine r_iconst (pc := 5) C dX7_sign_5 ci_1 ?_
    refine r_V2vx (pc := 6) C (t_needNo hsR (e := 1)) vl_X7_94 hsR.1.1 (by decide) (by omega) (by omega) (Nat.le_of_ble_eq_true rfl) rfl dX7_sign_6 (fun q A9 hp hE => r_out C E (by rw [hx]; exact fun x h => nomatch h) hE.choose_spec (by omega) (by omega) (⟨1, (skp B L a), if_neg hs9, hp⟩)) (fun u3 A3 hc3 => ?_)
    exact hc3.elim
