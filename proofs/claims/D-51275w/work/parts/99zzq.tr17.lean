/-! THE COMPONENT, 35: the reader: a description -/
set_option maxRecDepth 100000
set_option maxHeartbeats 4000000 in
theorem t_description {g : GZ} {A : HA} {r c bf L : Nat} {B : Nat → Nat} {s0 : TS} (h00 : s0.e = 0) (hR : RdT g A r c bf L B s0.a) (hT : TkC g) (ha : s0.a ≤ L) (hz : zS g) (hDs : DsC g) (hDE : DeK g A) {σ0 : Rw} (hzr : Zr σ0) {fu0 : Nat} (hfu : L - s0.a + 2 ≤ fu0)  : Ct g wR yX7_description (.code yX7_description cX7_description 6 (Option.some (Jvm.ClassFile.FieldType.object "LawnPaths$Lawn"))) 24 (38 * (L - nxE B L s0.a) + 130) (170 * (L - nxE B L s0.a) + 1600) [.ref r] (A) (fun u A' => (rdL B L fu0 (lawnW σ0 B L s0) (lawnS B L s0) true).2.e = 0 ∧ (∃ d', LwB g A' A.z u d' (rdL B L fu0 (lawnW σ0 B L s0) (lawnS B L s0) true).1) ∧ Dj (rdL B L fu0 (lawnW σ0 B L s0) (lawnS B L s0) true).1 ∧ A.z ≤ u ∧ Gw A A' (fun y => y = r)) (fun q A' => ¬ (rdL B L fu0 (lawnW σ0 B L s0) (lawnS B L s0) true).2.e = 0 ∧ UnX A A' (fun y => y = r) q (nI (rdL B L fu0 (lawnW σ0 B L s0) (lawnS B L s0) true).2.e) (rdL B L fu0 (lawnW σ0 B L s0) (lawnS B L s0) true).2.p) := by
  refine Ct.of [some (.ref r), none, none, none, none, none] (by decide) rfl rfl fun z C hx hnm E => ?_
  refine r_Z fun hZ => ?_
  refine r_old fun hoA => ?_
  obtain ⟨v0, w0, hsR, hv0, hw0⟩ := id hR
  have h9 := hsR.l9
  have hn0 := nxE_le (B := B) ha
  have hn1 := nxE_le (B := B) (L := L) (a := (nxE B L s0.a)) (by omega)
  have hn2 := nxE_le (B := B) (L := L) (a := (nxE B L (nxE B L s0.a))) (by omega)
  have hn3 := nxE_le (B := B) (L := L) (a := (nxE B L (nxE B L (nxE B L s0.a)))) (by omega)
  have hn4 := nxE_le (B := B) (L := L) (a := (nxE B L (nxE B L (nxE B L (nxE B L s0.a))))) (by omega)
  have hn5 := nxE_le (B := B) (L := L) (a := (nxE B L (nxE B L (nxE B L (nxE B L (nxE B L s0.a)))))) (by omega)
  have hn6 := nxE_le (B := B) (L := L) (a := (nxE B L (nxE B L (nxE B L (nxE B L (nxE B L (nxE B L s0.a))))))) (by omega)
  have hn7 := nxE_le (B := B) (L := L) (a := (nxE B L (nxE B L (nxE B L (nxE B L (nxE B L (nxE B L (nxE B L s0.a)))))))) (by omega)
  obtain ⟨ql, vl, zl, tl, ll1, ll2⟩ := hDs.2.1
  obtain ⟨qg, vg, zg, tg, lg1, lg2⟩ := id hDs.2.2.1
  obtain ⟨qw, vw, zw, tw, lw1, lw2⟩ := id hDs.2.2.2.1
  refine r_aload_0 (pc := 0) C dX7_description_0 ?_
  refine r_ldcS (pc := 1) C zl dX7_description_1 ?_
  refine r_iconst (pc := 3) C dX7_description_3 ci_0 ?_
  refine r_iconst (pc := 4) C dX7_description_4 ci_1 ?_
  refine r_V3vx (pc := 5) C (t_opens hR hT ha hz (tl.old ll1 ll2 hoA) (hDs.1.1.rd hoA) (m := 0) (n := 1) (by omega) (by omega)) vl_X7_130 hR.r7 (by decide) (by omega) (by omega) (Nat.le_of_ble_eq_true rfl) rfl dX7_description_5 (fun q A9 hp hE => r_out C E (by rw [hx]; exact fun x h => nomatch h) hE.choose_spec (by omega) (by omega) (by rcases hp with ⟨q1, q2⟩ | ⟨q1, q2, q3⟩; (obtain ⟨l1_, l2_, l3_⟩ := lawn_x0 h00 (fun w => q1 w.2); rw [rb_e (by rw [l1_]; exact l3_), l1_, l2_]; exact ⟨l3_, q2.of Gw.rf (fun _ _ q => q.elim)⟩); (exact absurd q2 (by omega)))) (fun u1 A1 hc1 => ?_)
  obtain ⟨hiw, -, hR1, hG1⟩ := hc1
  generalize A1 = D at hR1 hG1 ⊢
  have hsl : seesW B L wLawn s0 := ⟨h00, hiw⟩
  have hG19 : Gw A D (fun y => y = r) := hG1
  refine r_aload_0 (pc := 8) C dX7_description_8 ?_
  refine r_iconst (pc := 9) C dX7_description_9 ci_3 ?_
  refine r_bipush (pc := 10) C dX7_description_10 cb_10 ?_
  refine r_V2ix (pc := 12) C (t_number hR1 hT (by omega) hz (lo := 3) (hi := 10) (by decide) (by decide)) vl_X7_134 hR1.r7 (by decide) (by omega) (by omega) (Nat.le_of_ble_eq_true rfl) rfl dX7_description_12 (fun q A9 hp hE => r_out C E (by rw [hx]; exact fun x h => nomatch h) hE.choose_spec (by omega) (by omega) (by obtain ⟨e, p, q1, q2⟩ := hp; have hl := lawn_x (w := 0) (h := 0) (gr := 0) (p1 := 0) (p2 := 0) (p3 := 0) h00 hsl (Or.inl q1); obtain ⟨l1_, l2_, l3_⟩ := hl; rw [rb_e (by rw [l1_]; exact l3_), l1_, l2_]; exact ⟨l3_, q2.of hG19 (fun _ _ q => q.elim)⟩)) (fun u2 A2 hc2 => ?_)
  obtain ⟨w, aw, ex1, e2, e3, ex14, hR2, hG2⟩ := hc2
  refine r_top e3 ?_
  subst e2
  clear e3 u2
  generalize A2 = F at hR2 hG2 ⊢
  have hG29 : Gw A F (fun y => y = r) := hG19.tr hG2
  refine r_istore_1 (pc := 15) C dX7_description_15 rfl ?_
  refine r_aload_0 (pc := 16) C dX7_description_16 ?_
  refine r_iconst (pc := 17) C dX7_description_17 ci_3 ?_
  refine r_bipush (pc := 18) C dX7_description_18 cb_8 ?_
  refine r_V2ix (pc := 20) C (t_number hR2 hT (by omega) hz (lo := 3) (hi := 8) (by decide) (by decide)) vl_X7_134 hR2.r7 (by decide) (by omega) (by omega) (Nat.le_of_ble_eq_true rfl) rfl dX7_description_20 (fun q A9 hp hE => r_out C E (by rw [hx]; exact fun x h => nomatch h) hE.choose_spec (by omega) (by omega) (by obtain ⟨e, p, q1, q2⟩ := hp; have hl := lawn_x (h := 0) (gr := 0) (p2 := 0) (p3 := 0) h00 hsl (Or.inr ⟨ex1, Or.inl q1⟩); obtain ⟨l1_, l2_, l3_⟩ := hl; rw [rb_e (by rw [l1_]; exact l3_), l1_, l2_]; exact ⟨l3_, q2.of hG29 (fun _ _ q => q.elim)⟩)) (fun u3 A3 hc3 => ?_)
  obtain ⟨h, ah, ex2, e2, e3, ex24, hR3, hG3⟩ := hc3
  refine r_top e3 ?_
  subst e2
  clear e3 u3
  generalize A3 = Q at hR3 hG3 ⊢
  have hG39 : Gw A Q (fun y => y = r) := hG29.tr hG3
  refine r_istore_2 (pc := 23) C dX7_description_23 rfl ?_
  refine r_aload_0 (pc := 24) C dX7_description_24 ?_
  refine r_iconst (pc := 25) C dX7_description_25 ci_1 ?_
  refine r_bipush (pc := 26) C dX7_description_26 cb_9 ?_
  refine r_V2ix (pc := 28) C (t_number hR3 hT (by omega) hz (lo := 1) (hi := 9) (by decide) (by decide)) vl_X7_134 hR3.r7 (by decide) (by omega) (by omega) (Nat.le_of_ble_eq_true rfl) rfl dX7_description_28 (fun q A9 hp hE => r_out C E (by rw [hx]; exact fun x h => nomatch h) hE.choose_spec (by omega) (by omega) (by obtain ⟨e, p, q1, q2⟩ := hp; have hl := lawn_x (gr := 0) (p3 := 0) h00 hsl (Or.inr ⟨ex1, Or.inr ⟨ex2, Or.inl q1⟩⟩); obtain ⟨l1_, l2_, l3_⟩ := hl; rw [rb_e (by rw [l1_]; exact l3_), l1_, l2_]; exact ⟨l3_, q2.of hG39 (fun _ _ q => q.elim)⟩)) (fun u4 A4 hc4 => ?_)
  obtain ⟨gr, agr, ex3, e2, e3, ex34, hR4, hG4⟩ := hc4
  refine r_top e3 ?_
  subst e2
  clear e3 u4
  generalize A4 = U at hR4 hG4 ⊢
  have hG49 : Gw A U (fun y => y = r) := hG39.tr hG4
  refine r_Z (A := U) fun hZU => ?_
  have hAU := hG49.1
  have hG59 : Gw A (U.mk 2 U.z 0) (fun y => y = r) := hG49.tr2 (gw_mk (X := Non)) (fun _ _ q => q.elim)
  have hR5 := hR4.gw hZU (gw_mk (A := U) (k := 2) (o := U.z) (len := 0) (X := Non)) (fun q => q) (fun q => q) (fun q => q) (fun _ _ q => q.elim)
  refine r_istore_3 (pc := 31) C dX7_description_31 rfl ?_
  refine r_new (pc := 32) C (U.z) (Nat.le_refl _) nl_X7_137 NF2 (by omega) (by omega) dX7_description_32 ?_
  refine r_dup (pc := 35) C dX7_description_35 rfl ?_
  refine r_iload_1 (pc := 36) C dX7_description_36 ?_
  refine r_iload_2 (pc := 37) C dX7_description_37 ?_
  refine r_iload_3 (pc := 38) C dX7_description_38 ?_
  refine r_aload_0 (pc := 39) C dX7_description_39 ?_
  refine r_iconst (pc := 40) C dX7_description_40 ci_0 ?_
  refine r_bipush (pc := 41) C dX7_description_41 cb_9 ?_
  refine r_V2ix (pc := 43) C (t_number hR5 hT (by omega) hz (lo := 0) (hi := 9) (by decide) (by decide)) vl_X7_134 hR5.r7 (by decide) (by omega) (by omega) (Nat.le_of_ble_eq_true rfl) rfl dX7_description_43 (fun q A9 hp hE => r_out C E (by rw [hx]; exact fun x h => nomatch h) hE.choose_spec (by omega) (by omega) (by obtain ⟨e, p, q1, q2⟩ := hp; have hl := lawn_x  h00 hsl (Or.inr ⟨ex1, Or.inr ⟨ex2, Or.inr ⟨ex3, q1⟩⟩⟩); obtain ⟨l1_, l2_, l3_⟩ := hl; rw [rb_e (by rw [l1_]; exact l3_), l1_, l2_]; exact ⟨l3_, q2.of hG59 (fun _ _ q => q.elim)⟩)) (fun u5 A5 hc5 => ?_)
  obtain ⟨wt, awt, ex4, e2, e3, ex44, hR6, hG6⟩ := hc5
  refine r_top e3 ?_
  subst e2
  clear e3 u5
  generalize A5 = V at hR6 hG6 ⊢
  have hG69 : Gw A V (fun y => y = r) := hG59.tr hG6
  have hzU : U.z < (U.mk 2 U.z 0).z := by rw [mk_z]; omega
  have hVz := hG6.1
  have hVq : V.G U.z = (2, U.z) := by rw [(hG6.2 _ hzU).1, mk_G, if_pos rfl]
  refine r_Z (A := V) fun hZV => ?_
  obtain ⟨hl1, hl2, hnew⟩ := lawn_ok (σ := σ0) h00 hsl ex1 ex2 ex3 ex4
  refine r_I4v (pc := 46) C (l_init1 (gr := nI gr) (wt := nI wt) (z0 := A.z) hVq (hDE.gw hZ hG69) ex14 ex24 (hnew (hzr) ex14 ex24) ⟨by omega, by omega⟩) il_X7_139 (by decide) (by omega) (by omega) (Nat.le_of_ble_eq_true rfl) rfl dX7_description_46 (fun u6 A6 hc6 => ?_)
  obtain ⟨hB7, hG7⟩ := hc6
  generalize A6 = Y at hB7 hG7 ⊢
  refine r_Z (A := Y) fun hZY => ?_
  have hR7 := hR6.gw hZV hG7 (fun e => by have h8 := hR6.r7; rw [e, hVq] at h8; cases h8) (fun e => by obtain ⟨x1, x2, x3, -, -⟩ := id hR6; have h8 := x3.2.1.1; rw [e, hVq] at h8; cases h8) (fun e => by obtain ⟨x1, x2, x3, -, -⟩ := id hR6; have h8 := x3.2.1.2.2.1; rw [e, hVq] at h8; cases h8) (fun y _ q => by rw [q, hVq]; exact ⟨(show (2 : Nat) ≠ 16 by decide), (show (2 : Nat) ≠ 231 by decide)⟩)
  have hG79 : Gw A Y (fun y => y = r) := hG69.tr2 hG7 (fun y hy e => by omega)
  obtain ⟨d0, hd0⟩ : ∃ d0, d0 = iniD V.z (g.c 70) := ⟨_, rfl⟩
  rw [← hd0] at hB7
  generalize hl0 : U.z = l0 at hB7 ⊢
  obtain ⟨hlD, hlN, hl9, hlG, hlK⟩ := lawn_D hzr hl1
  refine r_astore_4 (pc := 49) C dX7_description_49 rfl ?_
  refine r_aload_0 (pc := 51) C dX7_description_51 ?_
  refine r_V0vx (pc := 52) C (t_sign hR7 hT (by omega) hz) vl_X7_142 hR7.r7 (by decide) (by omega) (by omega) (Nat.le_of_ble_eq_true rfl) rfl dX7_description_52 (fun q A9 hp hE => r_out C E (by rw [hx]; exact fun x h => nomatch h) hE.choose_spec (by omega) (by omega) (by have hx9 := sgn_x (S := signS B L 59 (lawnS B L s0)) (c := 59) hl1 (fun _ => rfl) (by rw [hl2]; exact hp) hG79; have hx8 : (rdL B L fu0 (lawnW σ0 B L s0) (lawnS B L s0) true).2 = signS B L 59 (lawnS B L s0) := (by rw [show fu0 = fu0 - 1 + 1 by omega]; exact rb_x (Or.inl hlK) hx9.1); rw [hx8]; exact hx9)) (fun u7 A7 hc7 => ?_)
  obtain ⟨a8, y1, y2, hR8, hG8, -⟩ := hc7
  generalize A7 = Y8 at hR8 hG8 ⊢
  obtain ⟨z1, z2⟩ := sgnS_r (c := 59) hl1 (by rw [hl2]; exact y1)
  have hB8 := hB7.mv hZY hG8 (fun y hy e => by have h3 := fp_k hB7.L hy; rw [e, hR7.r7] at h3; omega) (StP.rd hZY hR7.r7 hG8)
  have ha8 : (signS B L 59 (lawnS B L s0)).a ≤ L := by rw [z2, y2]; omega
  have hI0 : DsI g A Y8 r c bf L B l0 (lawnW σ0 B L s0) (signS B L 59 (lawnS B L s0)) d0 := ⟨⟨by rw [z2]; exact hR8, z1, ha8⟩, hB8, hlD, hG79.tr hG8, hR.r7⟩
  have hRS0 : RS B L (fu0 - 1) (lawnW σ0 B L s0) (signS B L 59 (lawnS B L s0)) true = (rdL B L fu0 (lawnW σ0 B L s0) (lawnS B L s0) true) := by have hq := rb_more (mb := true) (n := fu0 - 1) hl1 (Or.inl hlK) z1; rw [show fu0 - 1 + 1 = fu0 by omega] at hq; exact hq.symm
  have e8 := congrArg (nxE B L) (z2.trans y2)
  have hnf := hlN
  have hk2 := hl9
  have hk0 := hlK
  have hsa : (signS B L 59 (lawnS B L s0)).a = (nxE B L (nxE B L (nxE B L (nxE B L (nxE B L (nxE B L s0.a)))))) := z2.trans y2
  have hfn0 : L - (signS B L 59 (lawnS B L s0)).a + 1 ≤ fu0 - 1 := by omega
  have hle0 : nxE B L s0.a ≤ nxE B L (signS B L 59 (lawnS B L s0)).a := by omega
  refine r_widen (k' := 38 * (nxE B L (signS B L 59 (lawnS B L s0)).a - nxE B L s0.a) + 60) (n' := 170 * (nxE B L (signS B L 59 (lawnS B L s0)).a - nxE B L s0.a) + 1200) (by omega) (by omega) ?_
  have hg01 : rG (lawnW σ0 B L s0) = 0 := hlG
  clear hlD hlN hl9 hlG hlK hB7 hB8 hnew
  obtain ⟨n1, hn1⟩ : ∃ n1, n1 = fu0 - 1 := ⟨_, rfl⟩
  rw [← hn1] at hRS0 hfn0
  obtain ⟨σ1, hσ1⟩ : ∃ σ1, σ1 = lawnW σ0 B L s0 := ⟨_, rfl⟩
  obtain ⟨s1, hs1⟩ : ∃ s1, s1 = signS B L 59 (lawnS B L s0) := ⟨_, rfl⟩
  rw [← hσ1, ← hs1] at hI0
  have hRS0 : RS B L n1 σ1 s1 true = (rdL B L fu0 (lawnW σ0 B L s0) (lawnS B L s0) true) := by rw [hσ1, hs1]; exact hRS0
  rw [← hs1] at hfn0 hle0 ⊢
  rw [← hσ1] at hnf hk2 hk0 hg01
  clear hn1 hn2 hn3 hn4 hn5 hn6 hn7 e8 hsa ha8 ex14 ex24 ex34 ex44 hVz hzU hAU
  have hm0 := nxE_le (B := B) hI0.al
  have hm1 := nxE_le (B := B) (L := L) (a := (nxE B L s1.a)) (by omega)
  have hm2 := nxE_le (B := B) (L := L) (a := (nxE B L (nxE B L s1.a))) (by omega)
  have hm3 := nxE_le (B := B) (L := L) (a := (nxE B L (nxE B L (nxE B L s1.a)))) (by omega)
  have hm4 := nxE_le (B := B) (L := L) (a := (nxE B L (nxE B L (nxE B L (nxE B L s1.a))))) (by omega)
  have hm5 := nxE_le (B := B) (L := L) (a := (nxE B L (nxE B L (nxE B L (nxE B L (nxE B L s1.a)))))) (by omega)
  have hm6 := nxE_le (B := B) (L := L) (a := (nxE B L (nxE B L (nxE B L (nxE B L (nxE B L (nxE B L s1.a))))))) (by omega)
  have hm7 := nxE_le (B := B) (L := L) (a := (nxE B L (nxE B L (nxE B L (nxE B L (nxE B L (nxE B L (nxE B L s1.a)))))))) (by omega)
  have hm8 := nxE_le (B := B) (L := L) (a := (nxE B L (nxE B L (nxE B L (nxE B L (nxE B L (nxE B L (nxE B L (nxE B L s1.a))))))))) (by omega)
  have lp123_8 : ∀ (fu : Nat) (b n : Nat) (σ : Rw) (s : TS) (mb : Bool) (d : Nat → Nat) (F : HA) (hb : b ≤ 1) (hI : DsI g A F r c bf L B l0 σ s d) (hW : DwI B L b n σ s mb (rdL B L fu0 (lawnW σ0 B L s0) (lawnS B L s0) true)) (hk1 : 0 < rK σ) (hmb : b = 1 → ¬ (1 < rG σ ∧ mb = true ∧ seesW B L wWalker s)) (hle : nxE B L s0.a ≤ nxE B L s.a), L + 2 - s.a < fu → wa g z (38 * (kE B L b s - nxE B L s0.a) + 60 + 30 * (1 - b)) (170 * (kE B L b s - nxE B L s0.a) + 1200 + 140 * (1 - b)) (F) 123 [some (.ref r), some (.int (nI (w))), some (.int (nI (h))), some (.int (nI (gr))), some (.ref l0), some (.int (nI (b)))] [] := by
    intro fu
    induction fu with
    | zero => intro b n  σ  s  mb  d  F  hb hI hW hk1 hmb hle hm123; exact absurd hm123 (Nat.not_lt_zero _)
    | succ fu ih123 =>
      intro b n  σ  s  mb  d  F  hb hI hW hk1 hmb hle hm123
      have hal := hI.al
      have hm0 := nxE_le (B := B) hI.al
      have hth9 := thE_le (B := B) (L := L) (s := s) hI.al
      have hm9 := nxE_le (B := B) (L := L) (a := thE B L s) hth9.2
      have hm10 := nxE_le (B := B) (L := L) (a := nxE B L (thE B L s)) hm9.2
      refine r_iload_5 (pc := 123) C dX7_description_123 ?_
      rcases (show b = 1 ∨ b = 0 by omega) with hb1 | hb1
      · skip
        subst hb1
        have hkE : kE B L 1 s = nxE B L s.a := if_pos rfl
        obtain ⟨hRS, hfn9⟩ := hW.one
        refine r_if_eq (pc := 125) (tgt := 143) C dX7_description_125 (by decide) (fun b125 => ?_) (fun b125 => ?_)
        · exact absurd b125 (by decide +kernel)
        · skip
          refine r_aload_0 (pc := 128) C dX7_description_128 ?_
          refine r_aload_4 (pc := 129) C dX7_description_129 ?_
          refine r_V1vx (pc := 131) C (t_newThing hI.e0 hI.rd hT hI.al hz hI.lb hI.dj hDs.1.1 hDs.1.2 hDs.2.2.2.2.1 hDs.2.2.2.2.2.1 hDs.2.2.2.2.2.2) vl_X7_156 hI.rd.r7 (by decide) (by omega) (by omega) (Nat.le_of_ble_eq_true rfl) rfl dX7_description_131 (fun q A9 hp hE => r_out C E (by rw [hx]; exact fun x h => nomatch h) hE.choose_spec (by omega) (by omega) (by rcases hp with ⟨q1, q2⟩ | ⟨q1, q2, q3⟩; (have hx9 := rs_err (σ := σ) (n := n) (mb := mb) hI.e0 (fun q => by have := q.1; omega) (hmb rfl) (fun q => q1 q.2); rw [hRS] at hx9; rw [hx9.1, hx9.2]; exact ⟨by decide, hI.un q2⟩); (have hx9 := rs_e (rs_grnd (n := n) hk1 (hmb rfl) q1) q2; rw [hRS] at hx9; rw [hx9]; exact ⟨q2, hI.un q3⟩))) (fun u9 A9 hc9 => ?_)
          obtain ⟨y1, y2, y3, y4, y5, ⟨d2, y6⟩, y7⟩ := hc9
          generalize A9 = H8 at y3 y6 y7 ⊢
          obtain ⟨k1, k3, k4⟩ := grnd_D hI.dj y2 hI.e0 ((isGr_4 hI.e0).mp y1)
          have hRB2 : rdL B L n (grndW σ B L (nextS B L s)) (grndS σ B L (nextS B L s)) false = (rdL B L fu0 (lawnW σ0 B L s0) (lawnS B L s0) true) := by rw [← hRS]; exact (rs_grnd hk1 (hmb rfl) y1).symm
          have ha6 : (grndS σ B L (nextS B L s)).a ≤ L := by rw [y4]; omega
          have hI2 := hI.st y3 y2 ha6 y6 k1 y7
          refine r_Z (A := H8) fun hZ8 => ?_
          have e6 := congrArg (nxE B L) y4
          have e7 := congrArg (nxE B L) e6
          refine r_aload_0 (pc := 134) C dX7_description_134 ?_
          refine r_V0i (pc := 135) C (t_goesOn hI2.rd hT hI2.al hz) vl_X7_106 hI2.rd.r7 (by decide) (by omega) (by omega) (Nat.le_of_ble_eq_true rfl) rfl dX7_description_135 (fun u10 A10 hc10 => ?_)
          obtain ⟨eu, ey, en, hGg⟩ := hc10
          generalize A10 = H5 at ey en hGg ⊢
          generalize u10 = u5 at eu ⊢
          rcases Classical.em (btO B L (skp B L (grndS σ B L (nextS B L s)).a) = some 59) with h59 | h59
          · skip
            refine r_top (eu.trans (bI_1 h59).symm) ?_
            have hsg1 := sg_nx (B := B) (L := L) h59
            have hI3 := hI2.go hZ8 hGg (ey h59).1 h59
            have hkq : kE B L 1 (signS B L 59 (grndS σ B L (nextS B L s))) = nxE B L (nxE B L (grndS σ B L (nextS B L s)).a) := by unfold kE; rw [if_pos rfl, (goes_sg hI2.e0 h59).2]
            refine r_istore_5 (pc := 138) C dX7_description_138 rfl ?_
            refine r_goto (pc := 140) (tgt := 123) C dX7_description_140 (by decide) ?_
            refine r_widen (k' := 38 * (kE B L 1 (signS B L 59 (grndS σ B L (nextS B L s))) - nxE B L s0.a) + 60 + 30 * (1 - 1)) (n' := 170 * (kE B L 1 (signS B L 59 (grndS σ B L (nextS B L s))) - nxE B L s0.a) + 1200 + 140 * (1 - 1)) (by omega) (by omega) ?_
            exact ih123 1 _ _ _ false _ _ (by omega) hI3 (DwI.mk1 (S := (grndS σ B L (nextS B L s))) hI2.e0 hRB2 (by omega) h59) (by omega) (fun _ q => nomatch q.2.1) (by rw [(goes_sg hI2.e0 h59).2]; omega) (by rw [(goes_sg hI2.e0 h59).2]; omega)
          · skip
            refine r_top (eu.trans (bI_00 h59).symm) ?_
            refine r_eqA (en h59) ?_
            have hI3 := hI2
            have hkq : kE B L 0 (grndS σ B L (nextS B L s)) = L := if_neg (by decide)
            refine r_istore_5 (pc := 138) C dX7_description_138 rfl ?_
            refine r_goto (pc := 140) (tgt := 123) C dX7_description_140 (by decide) ?_
            refine r_widen (k' := 38 * (kE B L 0 (grndS σ B L (nextS B L s)) - nxE B L s0.a) + 60 + 30 * (1 - 0)) (n' := 170 * (kE B L 0 (grndS σ B L (nextS B L s)) - nxE B L s0.a) + 1200 + 140 * (1 - 0)) (by omega) (by omega) ?_
            exact ih123 0 _ _ _ false _ _ (by omega) hI3 (DwI.mk0 (S := (grndS σ B L (nextS B L s))) hI2.e0 hRB2 (by omega) h59) (by omega) (fun _ q => nomatch q.2.1) (by omega) (by omega)
      · skip
        subst hb1
        have hkE : kE B L 0 s = L := if_neg (by decide)
        refine r_if_eq (pc := 125) (tgt := 143) C dX7_description_125 (by decide) (fun b125 => ?_) (fun b125 => ?_)
        · skip
          obtain ⟨v9, w9, hsR9, -, -⟩ := id hI.rd
          refine r_aload_0 (pc := 143) C dX7_description_143 ?_
          refine r_aload_0 (pc := 144) C dX7_description_144 ?_
          refine r_getR (pc := 145) C fl_X7_35_7 hI.rd.r7 rfl hsR9.2.2.2.2.2 dX7_description_145 ?_
          refine r_getS (pc := 148) C (hT.1 0 (by decide)) q1476 dX7_description_148 ?_
          refine r_acmp_ne (pc := 151) (tgt := 158) C dX7_description_151 (by decide) (fun b151 => ?_) (fun b151 => ?_)
          · skip
            have hk09 : ¬ tkN B L (skp B L s.a) = 0 := fun q => b151 (by rw [q])
            refine r_iconst (pc := 158) C dX7_description_158 ci_0 ?_
            refine r_iconst (pc := 159) C dX7_description_159 ci_1 ?_
            refine r_V2vx (pc := 160) C (t_needNo hsR9 (e := 1)) vl_X7_94 hI.rd.r7 (by decide) (by omega) (by omega) (Nat.le_of_ble_eq_true rfl) rfl dX7_description_160 (fun q A9 hp hE => r_out C E (by rw [hx]; exact fun x h => nomatch h) hE.choose_spec (by omega) (by omega) (by obtain ⟨q1, q2⟩ := hW.end_x hI.e0 (fun q => hk09 (tkN_0.mpr q)); rw [q1, q2]; exact ⟨by decide, hp.of hI.gw (fun _ _ q => q.elim)⟩)) (fun u11 A11 hc11 => ?_)
            exact hc11.elim
          · skip
            have hk09 : tkN B L (skp B L s.a) = 0 := hT.2.1 _ _ tkN_lt (by decide) b151
            refine r_iconst (pc := 154) C dX7_description_154 ci_1 ?_
            refine r_goto (pc := 155) (tgt := 159) C dX7_description_155 (by decide) ?_
            refine r_iconst (pc := 159) C dX7_description_159 ci_1 ?_
            refine r_V2vo (pc := 160) C (t_needYes (r := r) (e := 1)) vl_X7_94 hI.rd.r7 (by decide) (by omega) (by omega) (Nat.le_of_ble_eq_true rfl) rfl dX7_description_160 (fun u12 A12 hc12 => ?_)
            refine r_eqA hc12 ?_
            clear hc12 A12 u12
            refine r_aload_4 (pc := 163) C dX7_description_163 ?_
            refine r_aret (pc := 165) C E rfl (by omega) (by omega) dX7_description_165 ?_
            have hF9 := hW.end_ok hI.e0 hk1 (tkN_0.mp hk09)
            rw [hF9]
            exact ⟨hI.e0, ⟨d, hI.lb⟩, hI.dj, hI.lb.z0l, hI.gw⟩
        · exact absurd b125 (by decide +kernel)
  have lp91_13 : ∀ (fu : Nat) (b n : Nat) (σ : Rw) (s : TS) (d : Nat → Nat) (F : HA) (hb : b ≤ 1) (hI : DsI g A F r c bf L B l0 σ s d) (hW : DwI B L b n σ s true (rdL B L fu0 (lawnW σ0 B L s0) (lawnS B L s0) true)) (hnf : NF σ) (hk1 : 0 < rK σ) (hg2 : 1 < rG σ) (hle : nxE B L s0.a ≤ nxE B L s.a), 8 - rK σ < fu → wa g z (38 * (kE B L b s - nxE B L s0.a) + 60 + 30 * (1 - b)) (170 * (kE B L b s - nxE B L s0.a) + 1200 + 140 * (1 - b)) (F) 91 [some (.ref r), some (.int (nI (w))), some (.int (nI (h))), some (.int (nI (gr))), some (.ref l0), some (.int (nI (b)))] [] := by
    intro fu
    induction fu with
    | zero => intro b n  σ  s  d  F  hb hI hW hnf hk1 hg2 hle hm91; exact absurd hm91 (Nat.not_lt_zero _)
    | succ fu ih91 =>
      intro b n  σ  s  d  F  hb hI hW hnf hk1 hg2 hle hm91
      have hal := hI.al
      have hk6 := hI.dj.1.w.k6
      have hm0 := nxE_le (B := B) hI.al
      have hm1 := nxE_le (B := B) (L := L) (a := (nxE B L s.a)) (by omega)
      have hm2 := nxE_le (B := B) (L := L) (a := (nxE B L (nxE B L s.a))) (by omega)
      have hm3 := nxE_le (B := B) (L := L) (a := (nxE B L (nxE B L (nxE B L s.a)))) (by omega)
      have hm4 := nxE_le (B := B) (L := L) (a := (nxE B L (nxE B L (nxE B L (nxE B L s.a))))) (by omega)
      have hm5 := nxE_le (B := B) (L := L) (a := (nxE B L (nxE B L (nxE B L (nxE B L (nxE B L s.a)))))) (by omega)
      have hm6 := nxE_le (B := B) (L := L) (a := (nxE B L (nxE B L (nxE B L (nxE B L (nxE B L (nxE B L s.a))))))) (by omega)
      have hm7 := nxE_le (B := B) (L := L) (a := (nxE B L (nxE B L (nxE B L (nxE B L (nxE B L (nxE B L (nxE B L s.a)))))))) (by omega)
      have hm8 := nxE_le (B := B) (L := L) (a := (nxE B L (nxE B L (nxE B L (nxE B L (nxE B L (nxE B L (nxE B L (nxE B L s.a))))))))) (by omega)
      refine r_iload_5 (pc := 91) C dX7_description_91 ?_
      rcases (show b = 1 ∨ b = 0 by omega) with hb1 | hb1
      · skip
        subst hb1
        have hkE : kE B L 1 s = nxE B L s.a := if_pos rfl
        obtain ⟨hRS, hfn9⟩ := hW.one
        refine r_if_eq (pc := 93) (tgt := 123) C dX7_description_93 (by decide) (fun b93 => ?_) (fun b93 => ?_)
        · exact absurd b93 (by decide +kernel)
        · skip
          refine r_Z (A := F) fun hZF => ?_
          refine r_old fun hoF => ?_
          obtain ⟨w1, x1, f1, hR4w, hsw, hfw1, -, -⟩ := hI.rd.wd hDs.1.1 hoF
          refine r_aload_0 (pc := 96) C dX7_description_96 ?_
          refine r_getR (pc := 97) C fl_X7_24_7 hI.rd.r7 rfl hR4w dX7_description_97 ?_
          refine r_ldcS (pc := 100) C zw dX7_description_100 ?_
          refine r_V1io (pc := 102) C (j_J10_equals hz hsw (tw.old lw1 lw2 hoF)) vl_X7_124 hsw.g (by decide) (by omega) (by omega) (Nat.le_of_ble_eq_true rfl) rfl dX7_description_102 (fun u14 A14 hc14 => ?_)
          refine r_top (hc14.1.trans (bI_iff (eqw hfw1))) ?_
          refine r_eqA hc14.2 ?_
          clear hc14 A14 u14
          refine r_if_eq (pc := 105) (tgt := 123) C dX7_description_105 (by decide) (fun b105 => ?_) (fun b105 => ?_)
          · skip
            have b105 := bI_0.mp b105
            exact lp123_8 _ 1 _ _ _ true _ _ (by omega) hI hW hk1 (fun _ q => b105 q.2.2.2) hle (Nat.lt_succ_self _)
          · skip
            have b105 := bI_n.mp b105
            refine r_aload_0 (pc := 108) C dX7_description_108 ?_
            refine r_aload_4 (pc := 109) C dX7_description_109 ?_
            refine r_V1vx (pc := 111) C (t_newWalker hI.e0 hI.rd hT hI.al hz hI.lb hI.dj hDs.1.1 hDs.2.2.2.1) vl_X7_151 hI.rd.r7 (by decide) (by omega) (by omega) (Nat.le_of_ble_eq_true rfl) rfl dX7_description_111 (fun q A9 hp hE => r_out C E (by rw [hx]; exact fun x h => nomatch h) hE.choose_spec (by omega) (by omega) (by rcases hp with ⟨q1, q2⟩ | ⟨q1, q2, q3⟩; (exact absurd ⟨hI.e0, b105⟩ q1); (have hx9 := rs_e (rs_walk (n := n) (fun q => by have := q.1; omega) (by omega) q1) q2; rw [hRS] at hx9; rw [hx9]; exact ⟨q2, hI.un q3⟩))) (fun u15 A15 hc15 => ?_)
            obtain ⟨y1, y2, y3, y4, y5, ⟨d2, y6⟩, y7⟩ := hc15
            generalize A15 = H8 at y3 y6 y7 ⊢
            obtain ⟨k1, k2, k3, k4, k5⟩ := walk_D hI.dj hnf (by omega) y2
            have hRB2 : rdL B L n (walkW σ B L (nextS B L s)) (walkS σ B L (nextS B L s)) true = (rdL B L fu0 (lawnW σ0 B L s0) (lawnS B L s0) true) := by rw [← hRS]; exact (rs_walk (fun q => by have := q.1; omega) (by omega) y1).symm
            have ha6 : (walkS σ B L (nextS B L s)).a ≤ L := by rw [y4]; omega
            have hI2 := hI.st y3 y2 ha6 y6 k1 y7
            refine r_Z (A := H8) fun hZ8 => ?_
            have e6 := congrArg (nxE B L) y4
            have e7 := congrArg (nxE B L) e6
            have kr6 := k1.1.w.k6
            refine r_aload_0 (pc := 114) C dX7_description_114 ?_
            refine r_V0i (pc := 115) C (t_goesOn hI2.rd hT hI2.al hz) vl_X7_106 hI2.rd.r7 (by decide) (by omega) (by omega) (Nat.le_of_ble_eq_true rfl) rfl dX7_description_115 (fun u16 A16 hc16 => ?_)
            obtain ⟨eu, ey, en, hGg⟩ := hc16
            generalize A16 = H5 at ey en hGg ⊢
            generalize u16 = u5 at eu ⊢
            rcases Classical.em (btO B L (skp B L (walkS σ B L (nextS B L s)).a) = some 59) with h59 | h59
            · skip
              refine r_top (eu.trans (bI_1 h59).symm) ?_
              have hsg1 := sg_nx (B := B) (L := L) h59
              have hI3 := hI2.go hZ8 hGg (ey h59).1 h59
              have hkq : kE B L 1 (signS B L 59 (walkS σ B L (nextS B L s))) = nxE B L (nxE B L (walkS σ B L (nextS B L s)).a) := by unfold kE; rw [if_pos rfl, (goes_sg hI2.e0 h59).2]
              refine r_istore_5 (pc := 118) C dX7_description_118 rfl ?_
              refine r_goto (pc := 120) (tgt := 91) C dX7_description_120 (by decide) ?_
              refine r_widen (k' := 38 * (kE B L 1 (signS B L 59 (walkS σ B L (nextS B L s))) - nxE B L s0.a) + 60 + 30 * (1 - 1)) (n' := 170 * (kE B L 1 (signS B L 59 (walkS σ B L (nextS B L s))) - nxE B L s0.a) + 1200 + 140 * (1 - 1)) (by omega) (by omega) ?_
              exact ih91 1 _ _ _ _ _ (by omega) hI3 (DwI.mk1 (S := (walkS σ B L (nextS B L s))) hI2.e0 hRB2 (by omega) h59) k2 (by omega) (by omega) (by rw [(goes_sg hI2.e0 h59).2]; omega) (by omega)
            · skip
              refine r_top (eu.trans (bI_00 h59).symm) ?_
              refine r_eqA (en h59) ?_
              have hI3 := hI2
              have hkq : kE B L 0 (walkS σ B L (nextS B L s)) = L := if_neg (by decide)
              refine r_istore_5 (pc := 118) C dX7_description_118 rfl ?_
              refine r_goto (pc := 120) (tgt := 91) C dX7_description_120 (by decide) ?_
              refine r_widen (k' := 38 * (kE B L 0 (walkS σ B L (nextS B L s)) - nxE B L s0.a) + 60 + 30 * (1 - 0)) (n' := 170 * (kE B L 0 (walkS σ B L (nextS B L s)) - nxE B L s0.a) + 1200 + 140 * (1 - 0)) (by omega) (by omega) ?_
              exact ih91 0 _ _ _ _ _ (by omega) hI3 (DwI.mk0 (S := (walkS σ B L (nextS B L s))) hI2.e0 hRB2 (by omega) h59) k2 (by omega) (by omega) (by omega) (by omega)
      · skip
        subst hb1
        have hkE : kE B L 0 s = L := if_neg (by decide)
        refine r_if_eq (pc := 93) (tgt := 123) C dX7_description_93 (by decide) (fun b93 => ?_) (fun b93 => ?_)
        · skip
          exact lp123_8 _ 0 _ _ _ true _ _ (by omega) hI hW hk1 (fun q => nomatch q) hle (Nat.lt_succ_self _)
        · exact absurd b93 (by decide +kernel)
  refine r_aload_0 (pc := 55) C dX7_description_55 ?_
  refine r_aload_4 (pc := 56) C dX7_description_56 ?_
  refine r_V1vx (pc := 58) C (t_newGate hI0.e0 hI0.rd hT hI0.al hz hI0.lb hI0.dj hDs.1.1 hk2 hDs.2.2.1) vl_X7_145 hI0.rd.r7 (by decide) (by omega) (by omega) (Nat.le_of_ble_eq_true rfl) rfl dX7_description_58 (fun q A9 hp hE => r_out C E (by rw [hx]; exact fun x h => nomatch h) hE.choose_spec (by omega) (by omega) (by rcases hp with ⟨q1, q2⟩ | ⟨q1, q2, q3⟩; (have hx9 := rs_err (σ := σ1) (n := n1) (mb := true) hI0.e0 (fun q => q1 q.2) (fun q => by have := q.1; omega) (fun q => by have := q.1; omega); rw [hRS0] at hx9; rw [hx9.1, hx9.2]; exact ⟨by decide, hI0.un q2⟩); (have hx9 : (rdL B L (n1 - 1 + 1) (gateW σ1 B L (nextS B L s1)) (gateS σ1 B L (nextS B L s1)) true).2 = (signS B L 59 (gateS σ1 B L (nextS B L s1))) := rb_x (Or.inl (gate_k hk0)) q2; rw [show n1 - 1 + 1 = n1 by omega, ← rs_gate hk0 q1, hRS0] at hx9; rw [hx9]; exact ⟨q2, hI0.un q3⟩))) (fun u17 A17 hc17 => ?_)
  obtain ⟨g1, g2, g3, g4, g5, g6, ⟨d1, g7⟩, g8⟩ := hc17
  generalize A17 = H9 at g3 g7 g8 ⊢
  obtain ⟨j1, j2, j3, j4, j5⟩ := gate_D hI0.dj hnf hk2 g6
  have hr6 := j1.1.w.g6
  have hRB : rdL B L (n1 - 1 + 1) (gateW σ1 B L (nextS B L s1)) (gateS σ1 B L (nextS B L s1)) true = (rdL B L fu0 (lawnW σ0 B L s0) (lawnS B L s0) true) := by rw [show n1 - 1 + 1 = n1 by omega, ← hRS0]; exact (rs_gate hk0 g1).symm
  have hRS1 := (rb_more (mb := true) (n := n1 - 1) g6 (Or.inl (j5.trans hk0)) g2).symm.trans hRB
  have ha5 : (signS B L 59 (gateS σ1 B L (nextS B L s1))).a ≤ L := by rw [g4]; omega
  have hI1 := hI0.st g3 g2 ha5 g7 j1 g8
  have e5 := congrArg (nxE B L) g4
  have lp61_18 : ∀ (fu : Nat) (n : Nat) (σ : Rw) (s : TS) (d : Nat → Nat) (F : HA) (hI : DsI g A F r c bf L B l0 σ s d) (hRS : RS B L n σ s true = (rdL B L fu0 (lawnW σ0 B L s0) (lawnS B L s0) true)) (hfn9 : L - s.a + 1 ≤ n) (hnf : NF σ) (hk2 : K02 σ) (hk0 : rK σ = 0) (hg1 : 1 ≤ rG σ) (hg2 : rG σ = 1 ∨ seesW B L wGate s) (hle : nxE B L s0.a ≤ nxE B L s.a), 8 - rG σ < fu → wa g z (38 * (nxE B L s.a - nxE B L s0.a) + 60) (170 * (nxE B L s.a - nxE B L s0.a) + 1200) (F) 61 [some (.ref r), some (.int (nI (w))), some (.int (nI (h))), some (.int (nI (gr))), some (.ref l0), none] [] := by
    intro fu
    induction fu with
    | zero => intro n  σ  s  d  F  hI hRS hfn9 hnf hk2 hk0 hg1 hg2 hle hm61; exact absurd hm61 (Nat.not_lt_zero _)
    | succ fu ih61 =>
      intro n  σ  s  d  F  hI hRS hfn9 hnf hk2 hk0 hg1 hg2 hle hm61
      have hal := hI.al
      have hg6 := hI.dj.1.w.g6
      have hm0 := nxE_le (B := B) hI.al
      have hm1 := nxE_le (B := B) (L := L) (a := (nxE B L s.a)) (by omega)
      have hm2 := nxE_le (B := B) (L := L) (a := (nxE B L (nxE B L s.a))) (by omega)
      have hm3 := nxE_le (B := B) (L := L) (a := (nxE B L (nxE B L (nxE B L s.a)))) (by omega)
      have hm4 := nxE_le (B := B) (L := L) (a := (nxE B L (nxE B L (nxE B L (nxE B L s.a))))) (by omega)
      have hm5 := nxE_le (B := B) (L := L) (a := (nxE B L (nxE B L (nxE B L (nxE B L (nxE B L s.a)))))) (by omega)
      have hm6 := nxE_le (B := B) (L := L) (a := (nxE B L (nxE B L (nxE B L (nxE B L (nxE B L (nxE B L s.a))))))) (by omega)
      have hm7 := nxE_le (B := B) (L := L) (a := (nxE B L (nxE B L (nxE B L (nxE B L (nxE B L (nxE B L (nxE B L s.a)))))))) (by omega)
      have hm8 := nxE_le (B := B) (L := L) (a := (nxE B L (nxE B L (nxE B L (nxE B L (nxE B L (nxE B L (nxE B L (nxE B L s.a))))))))) (by omega)
      refine r_aload_0 (pc := 61) C dX7_description_61 ?_
      refine r_aload_4 (pc := 62) C dX7_description_62 ?_
      refine r_V1vx (pc := 64) C (t_newGate hI.e0 hI.rd hT hI.al hz hI.lb hI.dj hDs.1.1 hk2 hDs.2.2.1) vl_X7_145 hI.rd.r7 (by decide) (by omega) (by omega) (Nat.le_of_ble_eq_true rfl) rfl dX7_description_64 (fun q A9 hp hE => r_out C E (by rw [hx]; exact fun x h => nomatch h) hE.choose_spec (by omega) (by omega) (by rcases hp with ⟨q1, q2⟩ | ⟨q1, q2, q3⟩; (have hx9 := rs_err (σ := σ) (n := n) (mb := true) hI.e0 (fun q => q1 q.2) (fun q => by rcases hg2 with w | w; (have := q.1; omega); (exact q1 w)) (fun q => by have := q.1; omega); rw [hRS] at hx9; rw [hx9.1, hx9.2]; exact ⟨by decide, hI.un q2⟩); (have hx9 : (rdL B L (n - 1 + 1) (gateW σ B L (nextS B L s)) (gateS σ B L (nextS B L s)) true).2 = (signS B L 59 (gateS σ B L (nextS B L s))) := rb_x (Or.inl (gate_k hk0)) q2; rw [show n - 1 + 1 = n by omega, ← rs_gate hk0 q1, hRS] at hx9; rw [hx9]; exact ⟨q2, hI.un q3⟩))) (fun u19 A19 hc19 => ?_)
      obtain ⟨g1, g2, g3, g4, g5, g6, ⟨d1, g7⟩, g8⟩ := hc19
      generalize A19 = H9 at g3 g7 g8 ⊢
      obtain ⟨j1, j2, j3, j4, j5⟩ := gate_D hI.dj hnf hk2 g6
      have hr6 := j1.1.w.g6
      have hRB : rdL B L (n - 1 + 1) (gateW σ B L (nextS B L s)) (gateS σ B L (nextS B L s)) true = (rdL B L fu0 (lawnW σ0 B L s0) (lawnS B L s0) true) := by rw [show n - 1 + 1 = n by omega, ← hRS]; exact (rs_gate hk0 g1).symm
      have hRS1 := (rb_more (mb := true) (n := n - 1) g6 (Or.inl (j5.trans hk0)) g2).symm.trans hRB
      have ha5 : (signS B L 59 (gateS σ B L (nextS B L s))).a ≤ L := by rw [g4]; omega
      have hI1 := hI.st g3 g2 ha5 g7 j1 g8
      have e5 := congrArg (nxE B L) g4
      refine r_Z (A := H9) fun hZH9 => ?_
      refine r_old fun ho9 => ?_
      obtain ⟨w1, x1, f1, hR4w, hsw, hfw1, -, -⟩ := hI1.rd.wd hDs.1.1 ho9
      refine r_aload_0 (pc := 67) C dX7_description_67 ?_
      refine r_getR (pc := 68) C fl_X7_24_7 hI1.rd.r7 rfl hR4w dX7_description_68 ?_
      refine r_ldcS (pc := 71) C zg dX7_description_71 ?_
      refine r_V1io (pc := 73) C (j_J10_equals hz hsw (tg.old lg1 lg2 ho9)) vl_X7_124 hsw.g (by decide) (by omega) (by omega) (Nat.le_of_ble_eq_true rfl) rfl dX7_description_73 (fun u20 A20 hc20 => ?_)
      refine r_top (hc20.1.trans (bI_iff (eqw hfw1))) ?_
      refine r_eqA hc20.2 ?_
      clear hc20 A20 u20
      refine r_if_ne (pc := 76) (tgt := 61) C dX7_description_76 (by decide) (fun b76 => ?_) (fun b76 => ?_)
      · skip
        have b76 := bI_n.mp b76
        refine r_widen (k' := 38 * (nxE B L (signS B L 59 (gateS σ B L (nextS B L s))).a - nxE B L s0.a) + 60) (n' := 170 * (nxE B L (signS B L 59 (gateS σ B L (nextS B L s))).a - nxE B L s0.a) + 1200) (by omega) (by omega) ?_
        exact ih61 (n - 1) _ _ _ _ hI1 hRS1 (by omega) j2 j3 (j5.trans hk0) (by omega) (Or.inr ⟨g2, b76⟩) (by omega) (by omega)
      · skip
        have b76 := bI_0.mp b76
        have hr2 : 2 ≤ rG (gateW σ B L (nextS B L s)) := by omega
        have hk20 : rK (gateW σ B L (nextS B L s)) = 0 := j5.trans hk0
        have hfn2 : L - (signS B L 59 (gateS σ B L (nextS B L s))).a + 1 ≤ n - 1 := by omega
        have hle2 : nxE B L s0.a ≤ nxE B L (signS B L 59 (gateS σ B L (nextS B L s))).a := by omega
        refine r_widen (k' := 38 * (nxE B L (signS B L 59 (gateS σ B L (nextS B L s))).a - nxE B L s0.a) + 60) (n' := 170 * (nxE B L (signS B L 59 (gateS σ B L (nextS B L s))).a - nxE B L s0.a) + 1200) (by omega) (by omega) ?_
        clear hRB j3 j4 j5 g1 g6 hr6 e5 ha5 g4 g5 g8
        generalize (gateW σ B L (nextS B L s)) = σ2 at hI1 hRS1 j1 j2 hr2 hk20 g7
        generalize (signS B L 59 (gateS σ B L (nextS B L s))) = s2 at hI1 hRS1 b76 hsw hfw1 hfn2 hle2 g2 g3 ⊢
        have hm0 := nxE_le (B := B) hI1.al
        have hm1 := nxE_le (B := B) (L := L) (a := (nxE B L s2.a)) (by omega)
        have hm2 := nxE_le (B := B) (L := L) (a := (nxE B L (nxE B L s2.a))) (by omega)
        have hm3 := nxE_le (B := B) (L := L) (a := (nxE B L (nxE B L (nxE B L s2.a)))) (by omega)
        have hm4 := nxE_le (B := B) (L := L) (a := (nxE B L (nxE B L (nxE B L (nxE B L s2.a))))) (by omega)
        have hm5 := nxE_le (B := B) (L := L) (a := (nxE B L (nxE B L (nxE B L (nxE B L (nxE B L s2.a)))))) (by omega)
        have hm6 := nxE_le (B := B) (L := L) (a := (nxE B L (nxE B L (nxE B L (nxE B L (nxE B L (nxE B L s2.a))))))) (by omega)
        have hm7 := nxE_le (B := B) (L := L) (a := (nxE B L (nxE B L (nxE B L (nxE B L (nxE B L (nxE B L (nxE B L s2.a)))))))) (by omega)
        have hm8 := nxE_le (B := B) (L := L) (a := (nxE B L (nxE B L (nxE B L (nxE B L (nxE B L (nxE B L (nxE B L (nxE B L s2.a))))))))) (by omega)
        refine r_aload_0 (pc := 79) C dX7_description_79 ?_
        refine r_aload_4 (pc := 80) C dX7_description_80 ?_
        refine r_V1vx (pc := 82) C (t_newWalker hI1.e0 hI1.rd hT hI1.al hz hI1.lb hI1.dj hDs.1.1 hDs.2.2.2.1) vl_X7_151 hI1.rd.r7 (by decide) (by omega) (by omega) (Nat.le_of_ble_eq_true rfl) rfl dX7_description_82 (fun q A9 hp hE => r_out C E (by rw [hx]; exact fun x h => nomatch h) hE.choose_spec (by omega) (by omega) (by rcases hp with ⟨q1, q2⟩ | ⟨q1, q2, q3⟩; (have hx9 := rs_err (σ := σ2) (n := n - 1) (mb := true) hI1.e0 (fun q => b76 q.2.2) (fun q => q1 q.2.2) (fun q => by have := q.1; omega); rw [hRS1] at hx9; rw [hx9.1, hx9.2]; exact ⟨by decide, hI1.un q2⟩); (have hx9 := rs_e (rs_walk (n := (n - 1)) (fun q => b76 q.2.2) (by omega) q1) q2; rw [hRS1] at hx9; rw [hx9]; exact ⟨q2, hI1.un q3⟩))) (fun u21 A21 hc21 => ?_)
        obtain ⟨y1, y2, y3, y4, y5, ⟨d2, y6⟩, y7⟩ := hc21
        generalize A21 = H8 at y3 y6 y7 ⊢
        obtain ⟨k1, k2, k3, k4, k5⟩ := walk_D hI1.dj j2 (by omega) y2
        have hRB2 : rdL B L (n - 1) (walkW σ2 B L (nextS B L s2)) (walkS σ2 B L (nextS B L s2)) true = (rdL B L fu0 (lawnW σ0 B L s0) (lawnS B L s0) true) := by rw [← hRS1]; exact (rs_walk (fun q => b76 q.2.2) (by omega) y1).symm
        have ha6 : (walkS σ2 B L (nextS B L s2)).a ≤ L := by rw [y4]; omega
        have hI2 := hI1.st y3 y2 ha6 y6 k1 y7
        refine r_Z (A := H8) fun hZ8 => ?_
        have e6 := congrArg (nxE B L) y4
        have e7 := congrArg (nxE B L) e6
        have kr6 := k1.1.w.k6
        refine r_aload_0 (pc := 85) C dX7_description_85 ?_
        refine r_V0i (pc := 86) C (t_goesOn hI2.rd hT hI2.al hz) vl_X7_106 hI2.rd.r7 (by decide) (by omega) (by omega) (Nat.le_of_ble_eq_true rfl) rfl dX7_description_86 (fun u22 A22 hc22 => ?_)
        obtain ⟨eu, ey, en, hGg⟩ := hc22
        generalize A22 = H5 at ey en hGg ⊢
        generalize u22 = u5 at eu ⊢
        rcases Classical.em (btO B L (skp B L (walkS σ2 B L (nextS B L s2)).a) = some 59) with h59 | h59
        · skip
          refine r_top (eu.trans (bI_1 h59).symm) ?_
          have hsg1 := sg_nx (B := B) (L := L) h59
          have hI3 := hI2.go hZ8 hGg (ey h59).1 h59
          have hkq : kE B L 1 (signS B L 59 (walkS σ2 B L (nextS B L s2))) = nxE B L (nxE B L (walkS σ2 B L (nextS B L s2)).a) := by unfold kE; rw [if_pos rfl, (goes_sg hI2.e0 h59).2]
          refine r_istore_5 (pc := 89) C dX7_description_89 rfl ?_
          refine r_widen (k' := 38 * (kE B L 1 (signS B L 59 (walkS σ2 B L (nextS B L s2))) - nxE B L s0.a) + 60 + 30 * (1 - 1)) (n' := 170 * (kE B L 1 (signS B L 59 (walkS σ2 B L (nextS B L s2))) - nxE B L s0.a) + 1200 + 140 * (1 - 1)) (by omega) (by omega) ?_
          exact lp91_13 _ 1 _ _ _ _ _ (by omega) hI3 (DwI.mk1 (S := (walkS σ2 B L (nextS B L s2))) hI2.e0 hRB2 (by omega) h59) k2 (by omega) (by omega) (by rw [(goes_sg hI2.e0 h59).2]; omega) (Nat.lt_succ_self _)
        · skip
          refine r_top (eu.trans (bI_00 h59).symm) ?_
          refine r_eqA (en h59) ?_
          have hI3 := hI2
          have hkq : kE B L 0 (walkS σ2 B L (nextS B L s2)) = L := if_neg (by decide)
          refine r_istore_5 (pc := 89) C dX7_description_89 rfl ?_
          refine r_widen (k' := 38 * (kE B L 0 (walkS σ2 B L (nextS B L s2)) - nxE B L s0.a) + 60 + 30 * (1 - 0)) (n' := 170 * (kE B L 0 (walkS σ2 B L (nextS B L s2)) - nxE B L s0.a) + 1200 + 140 * (1 - 0)) (by omega) (by omega) ?_
          exact lp91_13 _ 0 _ _ _ _ _ (by omega) hI3 (DwI.mk0 (S := (walkS σ2 B L (nextS B L s2))) hI2.e0 hRB2 (by omega) h59) k2 (by omega) (by omega) (by omega) (Nat.lt_succ_self _)
  refine r_widen (k' := 38 * (nxE B L (signS B L 59 (gateS σ1 B L (nextS B L s1))).a - nxE B L s0.a) + 60) (n' := 170 * (nxE B L (signS B L 59 (gateS σ1 B L (nextS B L s1))).a - nxE B L s0.a) + 1200) (by omega) (by omega) ?_
  exact lp61_18 _ (n1 - 1) _ _ _ _ hI1 hRS1 (by omega) j2 j3 (j5.trans hk0) (by omega) (Or.inl (by omega)) (by omega) (Nat.lt_succ_self _)
