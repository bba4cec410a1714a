/-! THE COMPONENT, 29: the reader: an order -/
set_option maxRecDepth 100000
set_option maxHeartbeats 4000000 in
theorem t_change {g : GZ} {A : HA} {r c bf L : Nat} {B : Nat → Nat} {a : Nat} (hR : RdT g A r c bf L B a) (hT : TkC g) (ha : a ≤ L) (hz : zS g) {aL : Nat} {d : Nat → Nat} {σ : Rw} (hn : A.R c 0 = some aL) (hL : Ly A aL d σ) (hv2 : Lv A.I aL d σ) (hW : RowW σ) (hNm : NmK A d σ) (hC : RdC g) (hK : LamK g) (h83 : (g.A.G (g.c 83)).1 = 83 ∧ g.A.n (g.c 83) = 0 ∧ g.c 83 < g.b) {t : Nat} (ht : WdO (fun i => B ((skp B L a) + i)) (wln B L (skp B L a)) t) {s : TS} (hs0 : s.e = 0) (hsa : s.a = nxE B L a)  : Ct g wR yX7_change (.code yX7_change cX7_change 4 (Option.some (Jvm.ClassFile.FieldType.object "LawnPaths$Change"))) 62 (30 * (nxE B L (chE B L (nxE B L a) t) - (nxE B L a)) + 8) (120 * (nxE B L (chE B L (nxE B L a) t) - (nxE B L a)) + 50) [.ref r] (A) (fun u A' => (prtS σ B L t s).e = 0 ∧ RdT g A' r c bf L B (prtS σ B L t s).a ∧ (prtS σ B L t s).a = chE B L (nxE B L a) t ∧ LamIs A' u (chgO σ t (prtA σ B L t s) (prtB σ B L t s)) ∧ (chgO σ t (prtA σ B L t s) (prtB σ B L t s)).ok σ ∧ Gw A A' (GoX A r) ∧ StP A A') (fun q A' => ¬ (prtS σ B L t s).e = 0 ∧ UnX A A' (GoX A r) q (nI (prtS σ B L t s).e) (prtS σ B L t s).p) := by
  refine Ct.of [some (.ref r), none, none, none] (by decide) rfl rfl fun z C hx hnm E => ?_
  obtain ⟨v, w, hsR, hv, hw⟩ := id hR
  have h9 := hsR.l9
  have hp9 := skp_le (B := B) ha
  have hp8 := skp_ge (B := B) (L := L) (a := a)
  have he9 := tkE_le (B := B) hp9
  have hnx : nxE B L a = (tkE B L (skp B L a)) := rfl
  have hnx2 : nxE B L (nxE B L a) = tkE B L (skp B L (nxE B L a)) := rfl
  have hB : ∀ k, k < L → B k ≤ 255 := fun k hk => (hsR.2.2.1.2 k hk).2
  have hnn := nxE_le (B := B) (L := L) (a := nxE B L a) (by omega)
  refine r_Z fun hZ => ?_
  have hw1 := ht.one
  obtain ⟨v3, hwr⟩ : ∃ v3, WrS g A w v3 (fun i => B ((skp B L a) + i)) (wln B L (skp B L a)) := hw.elim id (fun q => absurd q.1 (by omega))
  have hbw := hwr.2.1
  have nwr : ¬ w = r := fun e => by have h8 := hwr.1.g; rw [e, hsR.1.1] at h8; cases h8
  have nvr : ¬ v3 = r := fun e => by have h8 := hwr.2.2.1; rw [e, hsR.1.1] at h8; cases h8
  have hn3 := nxE_le (B := B) (L := L) (a := (nxE B L (nxE B L a))) (by omega)
  have hn4 := nxE_le (B := B) (L := L) (a := (nxE B L (nxE B L (nxE B L a)))) (by omega)
  have hc3 := chE_le (B := B) (L := L) (a := (nxE B L a)) (t := t) (by omega)
  have hc4 := nxE_le (B := B) (L := L) (a := chE B L (nxE B L a) t) hc3.2
  have hcm := chE_nx (B := B) (L := L) (a := (nxE B L a)) (t := t) (by omega)
  refine r_aload_0 (pc := 0) C dX7_change_0 ?_
  refine r_getR (pc := 1) C fl_X7_24_7 hsR.1.1 rfl hsR.2.2.2.2.1 dX7_change_1 ?_
  refine r_astore_1 (pc := 4) C dX7_change_4 rfl ?_
  refine r_aload_0 (pc := 5) C dX7_change_5 ?_
  refine r_V0v (pc := 6) C (t_next (a := nxE B L a) hsR hz hT (by omega)) vl_X7_28 hsR.1.1 (by decide) (by omega) (by omega) (Nat.le_of_ble_eq_true rfl) rfl dX7_change_6 (fun u1 A1 hc1 => ?_)
  obtain ⟨hR2, hGw, hWn⟩ := hc1
  generalize A1 = D at hR2 hGw hWn ⊢
  refine r_Z (A := D) fun hZD => ?_
  obtain ⟨v2, w2, hsR2, -, -⟩ := id hR2
  have hwD := hwr.gw hZ hGw nwr nvr
  have hfx : ∀ y, Fp aL d (rK σ) (rG σ) y → ¬ y = r := fun y hy e => by have h3 := fp_k hL hy; rw [e, hsR.1.1] at h3; omega
  have hLD := ly_gw hZ hL hGw hfx
  have hvD := lv_gw hZ hL hv2 hGw hfx
  have hNmD := hNm.gw hZ hL hGw (fun y hy e => by rw [e, hsR.1.1]; decide) (fun y hy => ((hGw.2 y (fp_lt hZ hL hy)).2.2 (hfx y hy)).2.2)
  have hnD : D.R c 0 = some aL := by rw [((hGw.2 c (hZ.lt hsR.2.1.1 rfl)).2.2 hsR.rc).2.2]; exact hn
  refine r_aload_1 (pc := 9) C dX7_change_9 ?_
  refine r_astore_2 (pc := 10) C dX7_change_10 rfl ?_
  refine r_iconst (pc := 11) C dX7_change_11 ci_m1 ?_
  refine r_istore_3 (pc := 12) C dX7_change_12 rfl ?_
  refine r_aload_2 (pc := 13) C dX7_change_13 ?_
  refine r_V0io (pc := 14) C (h_hash hwD.1 hz hwD.2.2.2) vl_X7_237 hwD.1.g (by decide) (by omega) (by omega) (Nat.le_of_ble_eq_true rfl) rfl dX7_change_14 (fun u2 A2 hc2 => ?_)
  obtain ⟨eu2, hsF, hhF, hGF⟩ := hc2
  refine r_top eu2 ?_
  clear eu2 u2
  generalize A2 = F at hsF hhF hGF ⊢
  refine r_Z fun hZF => ?_
  refine r_old fun hoF => ?_
  have hR3 := hR2.hs hZD hwD.1 hsF hhF hGF
  obtain ⟨v4, w4, hsR3, -, -⟩ := id hR3
  have hgw := hwD.1.g
  have hfw : ∀ y, Fp aL d (rK σ) (rG σ) y → ¬ y = w := fun y hy e => by have h3 := fp_k hLD hy; rw [e, hgw] at h3; omega
  have hLF := ly_gw hZD hLD hGF hfw
  have hvF := lv_gw hZD hLD hvD hGF hfw
  have hNmF := hNmD.hs hwD.1 hsF hGF hZD hLD
  have ncw : ¬ c = w := fun e => by have h1 := hsR2.2.1.1; rw [e, hgw] at h1; cases h1
  have hnF : F.R c 0 = some aL := by rw [((hGF.2 c (hZD.lt hsR2.2.1.1 rfl)).2.2 ncw).2.2]; exact hnD
  have hwR : A.R r 4 = some w := hsR.2.2.2.2.1
  have hGF9 : Gw A F (GoX A r) := ((Gw.rf (A := A) (X := GoX A r)).tr2 hGw (fun y _ e => Or.inl e)).tr2 hGF (fun y _ e => Or.inr (by rw [e]; exact hwR))
  have kw := hC.2.2
  have hPF : StP A F := (StP.rd hZ hR.r7 hGw).tr (fun _ _ _ _ h => hwD.1.hs hsF hGF hZD h)
  rcases ht with ⟨rfl, e⟩ | ⟨rfl, e⟩ | ⟨rfl, e⟩ | ht4
  · skip
    have e9 := (eqt_h e).trans hsh_run
    obtain ⟨q0, v0, z0, t0, n0⟩ := kw.1.n hoF hbw
    have s0 := t0
    refine r_lookup (pc := 17) (tgt := 52) (off := 35) C dX7_change_17 (by decide +kernel) (by rw [e9]; decide +kernel) (by decide) ?_
    refine r_aload_2 (pc := 52) C dX7_change_52 ?_
    refine r_ldcS (pc := 53) C z0 dX7_change_53 ?_
    refine r_V1io (pc := 55) C (j_J10_equals hz hsF s0) vl_X7_124 hsF.g (by decide) (by omega) (by omega) (Nat.le_of_ble_eq_true rfl) rfl dX7_change_55 (fun u3 A3 hc3 => ?_)
    refine r_top hc3.1 ?_
    refine r_eqA hc3.2 ?_
    clear hc3 A3 u3
    refine r_if_eq (pc := 58) (tgt := 91) C dX7_change_58 (by decide) (fun b58 => ?_) (fun b58 => ?_)
    · skip
      have b58 := bI_0.mp b58
      exact absurd e b58
    · skip
      have b58 := bI_n.mp b58
      refine r_iconst (pc := 61) C dX7_change_61 ci_0 ?_
      refine r_istore_3 (pc := 62) C dX7_change_62 rfl ?_
      refine r_goto (pc := 63) (tgt := 91) C dX7_change_63 (by decide) ?_
      refine r_iload_3 (pc := 91) C dX7_change_91 ?_
      refine r_tableIn (pc := 92) (tgt := 120) (off := 28) C dX7_change_92 (by decide +kernel) (by decide +kernel) (by decide +kernel) (by decide) ?_
      have hch : chE B L (nxE B L a) 0 = (nxE B L (nxE B L a)) := if_pos (Or.inl rfl)
      have hce := congrArg (nxE B L) hch
      refine r_aload_0 (pc := 120) C dX7_change_120 ?_
      refine r_aload_0 (pc := 121) C dX7_change_121 ?_
      refine r_iconst (pc := 122) C dX7_change_122 ci_1 ?_
      refine r_bipush (pc := 123) C dX7_change_123 cb_60 ?_
      refine r_V2ix (pc := 125) C (t_number hR3 hT (by omega) hz (lo := 1) (hi := 60) (by decide) (by decide)) vl_X7_134 hsR3.1.1 (by decide) (by omega) (by omega) (Nat.le_of_ble_eq_true rfl) rfl dX7_change_125 (fun q A9 hp hE => r_out C E (by rw [hx]; exact fun x h => nomatch h) hE.choose_spec (by omega) (by omega) (num_x (s := s) hs0 (fun _ => prtS_0) (by rw [hsa]; exact hp) hGF9)) (fun u4 A4 hc4 => ?_)
      obtain ⟨x, ax, e1, e2, e3, e14, hR4, hGn⟩ := hc4
      refine r_top e3 ?_
      subst e2
      clear e3 u4
      generalize A4 = Q at hR4 hGn ⊢
      refine r_Z (A := Q) fun hZQ => ?_
      have hPQ := hPF.tr (StP.rd hZF hR3.r7 hGn)
      have hGQ9 : Gw A Q (GoX A r) := hGF9.tr2 hGn (fun y _ e => Or.inl e)
      refine r_V1r (pc := 128) C (t_running hK (k := x)) vl_X7_246 hR4.r7 (by decide) (by omega) (by omega) (Nat.le_of_ble_eq_true rfl) rfl dX7_change_128 (fun u5 A5 hc5 => ?_)
      obtain ⟨-, hIo, hGo⟩ := hc5
      generalize u5 = o at hIo ⊢
      generalize A5 = V at hIo hGo ⊢
      refine r_goto (pc := 131) (tgt := 197) C dX7_change_131 (by decide) ?_
      refine r_aret (pc := 197) C E rfl (by omega) (by omega) dX7_change_197 ?_
      obtain ⟨j1, j2, j3⟩ := numS_r (B := B) (L := L) (lo := 1) (hi := 60) hs0 (by rw [hsa]; exact e1)
      refine ⟨by rw [prtS_0]; exact j1, ?_, by rw [prtS_0, j2, hch], ?_, ?_, hGQ9.tr2 hGo (fun _ _ q => q.elim), hPQ.tr (StP.no hZQ hGo)⟩
      · rw [prtS_0, j2]; exact RdT.gw hR4 hZQ hGo (fun q => q) (fun q => q) (fun q => q) (fun _ _ q => q.elim)
      · rw [chgO_0, prtA_0, j3]; exact hIo
      · rw [chgO_0, prtA_0, j3]; exact Nat.le_trans e14 (by decide)
  · skip
    have e9 := (eqt_h e).trans hsh_haste
    obtain ⟨q1, v1, z1, t1, n1⟩ := kw.2.1.n hoF hbw
    have s1 := t1
    refine r_lookup (pc := 17) (tgt := 66) (off := 49) C dX7_change_17 (by decide +kernel) (by rw [e9]; decide +kernel) (by decide) ?_
    refine r_aload_2 (pc := 66) C dX7_change_66 ?_
    refine r_ldcS (pc := 67) C z1 dX7_change_67 ?_
    refine r_V1io (pc := 69) C (j_J10_equals hz hsF s1) vl_X7_124 hsF.g (by decide) (by omega) (by omega) (Nat.le_of_ble_eq_true rfl) rfl dX7_change_69 (fun u6 A6 hc6 => ?_)
    refine r_top hc6.1 ?_
    refine r_eqA hc6.2 ?_
    clear hc6 A6 u6
    refine r_if_eq (pc := 72) (tgt := 91) C dX7_change_72 (by decide) (fun b72 => ?_) (fun b72 => ?_)
    · skip
      have b72 := bI_0.mp b72
      exact absurd e b72
    · skip
      have b72 := bI_n.mp b72
      refine r_iconst (pc := 75) C dX7_change_75 ci_1 ?_
      refine r_istore_3 (pc := 76) C dX7_change_76 rfl ?_
      refine r_goto (pc := 77) (tgt := 91) C dX7_change_77 (by decide) ?_
      refine r_iload_3 (pc := 91) C dX7_change_91 ?_
      refine r_tableIn (pc := 92) (tgt := 134) (off := 42) C dX7_change_92 (by decide +kernel) (by decide +kernel) (by decide +kernel) (by decide) ?_
      have hch : chE B L (nxE B L a) 5 = (nxE B L (nxE B L (nxE B L a))) := if_neg (by decide)
      have hce := congrArg (nxE B L) hch
      refine r_aload_0 (pc := 134) C dX7_change_134 ?_
      refine r_aload_0 (pc := 135) C dX7_change_135 ?_
      refine r_aload_0 (pc := 136) C dX7_change_136 ?_
      refine r_getR (pc := 137) C fl_X7_3_7 hsR3.1.1 rfl hsR3.1.2.1 dX7_change_137 ?_
      refine r_ngetR (pc := 140) C fn_X7_250_1 hsR3.2.1.1 rfl hnF dX7_change_140 ?_
      refine r_ngetR (pc := 143) C fn_X7_186_2 (ly_g hLF) rfl (ly_r12 hLF) dX7_change_143 ?_
      refine r_iconst (pc := 146) C dX7_change_146 ci_m1 ?_
      refine r_V2ix (pc := 147) C (t_foundW hR3 hT (by omega) hz hLF hvF hW.num hNmF (but := -1)) vl_X7_189 hsR3.1.1 (by decide) (by omega) (by omega) (Nat.le_of_ble_eq_true rfl) rfl dX7_change_147 (fun q A9 hp hE => r_out C E (by rw [hx]; exact fun x h => nomatch h) hE.choose_spec (by omega) (by omega) (fnd_x (q := False) (s := s) hs0 (fun h => by rw [prtS_5]; exact numS_k h) (by rw [hsa]; exact hp) hGF9)) (fun u7 A7 hc7 => ?_)
      obtain ⟨k, ak, fe, e2, e3, fh, hR4, hGn⟩ := hc7
      refine r_top e3 ?_
      subst e2
      clear e3 u7
      generalize A7 = Q at hR4 hGn ⊢
      have hk9 : k < rK σ := here_k fh
      refine r_Z (A := Q) fun hZQ => ?_
      have hPQ := hPF.tr (StP.rd hZF hR3.r7 hGn)
      have hGQ9 : Gw A Q (GoX A r) := hGF9.tr2 hGn (fun y _ e => Or.inl e)
      refine r_V1rx (pc := 150) C (t_hastening hR4 hT (by omega) hz hK (k := k)) vl_X7_254 hR4.r7 (by decide) (by omega) (by omega) (Nat.le_of_ble_eq_true rfl) rfl dX7_change_150 (fun q A9 hp hE => r_out C E (by rw [hx]; exact fun x h => nomatch h) hE.choose_spec (by omega) (by omega) (by obtain ⟨j1, j2, j3⟩ := fndS_r (q := False) hs0 (by rw [hsa]; exact fe); exact num_x j1 (fun _ => prtS_5) (by rw [j2]; exact hp) hGQ9)) (fun u8 A8 hc8 => ?_)
      obtain ⟨n9, a9, g1, e2, g4, hIo, -, hR5, hGo⟩ := hc8
      subst e2
      generalize u8 = o at hIo ⊢
      generalize A8 = V at hIo hR5 hGo ⊢
      refine r_goto (pc := 153) (tgt := 197) C dX7_change_153 (by decide) ?_
      refine r_aret (pc := 197) C E rfl (by omega) (by omega) dX7_change_197 ?_
      obtain ⟨j1, j2, j3⟩ := fndS_r (q := False) hs0 (by rw [hsa]; exact fe)
      obtain ⟨i1, i2, i3⟩ := numS_r (B := B) (L := L) (lo := 0) (hi := 9) j1 (by rw [j2]; exact g1)
      refine ⟨by rw [prtS_5]; exact i1, ?_, by rw [prtS_5, i2, hch], ?_, ?_, hGQ9.tr2 hGo (fun _ _ q => Or.inl q), hPQ.tr (StP.rd hZQ hR4.r7 hGo)⟩
      · rw [prtS_5, i2]; exact hR5
      · rw [chgO_5, prtA_5, prtB_5, j3, i3]; exact hIo
      · rw [chgO_5, prtA_5, prtB_5, j3, i3]; exact ⟨hk9, g4⟩
  · skip
    have e9 := (eqt_h e).trans hsh_turn
    obtain ⟨q2, v2, z2, t2, n2⟩ := kw.2.2.1.n hoF hbw
    have s2 := t2
    refine r_lookup (pc := 17) (tgt := 80) (off := 63) C dX7_change_17 (by decide +kernel) (by rw [e9]; decide +kernel) (by decide) ?_
    refine r_aload_2 (pc := 80) C dX7_change_80 ?_
    refine r_ldcS (pc := 81) C z2 dX7_change_81 ?_
    refine r_V1io (pc := 83) C (j_J10_equals hz hsF s2) vl_X7_124 hsF.g (by decide) (by omega) (by omega) (Nat.le_of_ble_eq_true rfl) rfl dX7_change_83 (fun u9 A9 hc9 => ?_)
    refine r_top hc9.1 ?_
    refine r_eqA hc9.2 ?_
    clear hc9 A9 u9
    refine r_if_eq (pc := 86) (tgt := 91) C dX7_change_86 (by decide) (fun b86 => ?_) (fun b86 => ?_)
    · skip
      have b86 := bI_0.mp b86
      exact absurd e b86
    · skip
      have b86 := bI_n.mp b86
      refine r_iconst (pc := 89) C dX7_change_89 ci_2 ?_
      refine r_istore_3 (pc := 90) C dX7_change_90 rfl ?_
      refine r_iload_3 (pc := 91) C dX7_change_91 ?_
      refine r_tableIn (pc := 92) (tgt := 156) (off := 64) C dX7_change_92 (by decide +kernel) (by decide +kernel) (by decide +kernel) (by decide) ?_
      have hch : chE B L (nxE B L a) 6 = (nxE B L (nxE B L a)) := if_pos (Or.inr rfl)
      have hce := congrArg (nxE B L) hch
      refine r_aload_0 (pc := 156) C dX7_change_156 ?_
      refine r_aload_0 (pc := 157) C dX7_change_157 ?_
      refine r_aload_0 (pc := 158) C dX7_change_158 ?_
      refine r_getR (pc := 159) C fl_X7_3_7 hsR3.1.1 rfl hsR3.1.2.1 dX7_change_159 ?_
      refine r_ngetR (pc := 162) C fn_X7_250_1 hsR3.2.1.1 rfl hnF dX7_change_162 ?_
      refine r_ngetR (pc := 165) C fn_X7_186_2 (ly_g hLF) rfl (ly_r12 hLF) dX7_change_165 ?_
      refine r_iconst (pc := 168) C dX7_change_168 ci_m1 ?_
      refine r_V2ix (pc := 169) C (t_foundW hR3 hT (by omega) hz hLF hvF hW.num hNmF (but := -1)) vl_X7_189 hsR3.1.1 (by decide) (by omega) (by omega) (Nat.le_of_ble_eq_true rfl) rfl dX7_change_169 (fun q A9 hp hE => r_out C E (by rw [hx]; exact fun x h => nomatch h) hE.choose_spec (by omega) (by omega) (fnd_x (q := False) (s := s) hs0 (fun _ => prtS_6) (by rw [hsa]; exact hp) hGF9)) (fun u10 A10 hc10 => ?_)
      obtain ⟨k, ak, fe, e2, e3, fh, hR4, hGn⟩ := hc10
      refine r_top e3 ?_
      subst e2
      clear e3 u10
      generalize A10 = Q at hR4 hGn ⊢
      have hk9 : k < rK σ := here_k fh
      refine r_Z (A := Q) fun hZQ => ?_
      have hPQ := hPF.tr (StP.rd hZF hR3.r7 hGn)
      have hGQ9 : Gw A Q (GoX A r) := hGF9.tr2 hGn (fun y _ e => Or.inl e)
      refine r_V1r (pc := 172) C (t_turning hK (k := k)) vl_X7_257 hR4.r7 (by decide) (by omega) (by omega) (Nat.le_of_ble_eq_true rfl) rfl dX7_change_172 (fun u11 A11 hc11 => ?_)
      obtain ⟨-, hIo, hGo⟩ := hc11
      generalize u11 = o at hIo ⊢
      generalize A11 = V at hIo hGo ⊢
      refine r_goto (pc := 175) (tgt := 197) C dX7_change_175 (by decide) ?_
      refine r_aret (pc := 197) C E rfl (by omega) (by omega) dX7_change_197 ?_
      obtain ⟨j1, j2, j3⟩ := fndS_r (q := False) hs0 (by rw [hsa]; exact fe)
      refine ⟨by rw [prtS_6]; exact j1, ?_, by rw [prtS_6, j2, hch], ?_, ?_, hGQ9.tr2 hGo (fun _ _ q => q.elim), hPQ.tr (StP.no hZQ hGo)⟩
      · rw [prtS_6, j2]; exact RdT.gw hR4 hZQ hGo (fun q => q) (fun q => q) (fun q => q) (fun _ _ q => q.elim)
      · rw [chgO_6, prtA_6, j3]; exact hIo
      · rw [chgO_6, prtA_6, j3]; exact hk9
  · skip
    have ht9 := ht4.le
    refine r_lookup (pc := 17) (tgt := 91) (off := 74) C dX7_change_17 (by decide +kernel) ?_ (by decide) ?_
    · rcases ht4 with ⟨-, e⟩ | ⟨-, e⟩ | ⟨-, e⟩ | ⟨-, e⟩
      · rw [(eqt_h e).trans hsh_fence]; decide +kernel
      · rw [(eqt_h e).trans hsh_open]; decide +kernel
      · rw [(eqt_h e).trans hsh_pave]; decide +kernel
      · rw [(eqt_h e).trans hsh_sow]; decide +kernel
    · skip
      refine r_iload_3 (pc := 91) C dX7_change_91 ?_
      refine r_tableOut (pc := 92) (tgt := 178) C dX7_change_92 (by decide +kernel) (by decide) ?_
      have hch : chE B L (nxE B L a) t = (nxE B L (nxE B L (nxE B L a))) := if_neg (by omega)
      have hce := congrArg (nxE B L) hch
      refine r_aload_0 (pc := 178) C dX7_change_178 ?_
      refine r_aload_1 (pc := 179) C dX7_change_179 ?_
      refine r_aload_0 (pc := 180) C dX7_change_180 ?_
      refine r_iconst (pc := 181) C dX7_change_181 ci_0 ?_
      refine r_bipush (pc := 182) C dX7_change_182 cb_9 ?_
      refine r_V2ix (pc := 184) C (t_number hR3 hT (by omega) hz (lo := 0) (hi := 9) (by decide) (by decide)) vl_X7_134 hsR3.1.1 (by decide) (by omega) (by omega) (Nat.le_of_ble_eq_true rfl) rfl dX7_change_184 (fun q A9 hp hE => r_out C E (by rw [hx]; exact fun x h => nomatch h) hE.choose_spec (by omega) (by omega) (num_x (s := s) hs0 (fun h => by rw [prtS_c ht9]; exact numS_k h) (by rw [hsa]; exact hp) hGF9)) (fun u12 A12 hc12 => ?_)
      obtain ⟨x, ax, e1, e2, e3, e14, hR4, hGn⟩ := hc12
      refine r_top e3 ?_
      subst e2
      clear e3 u12
      generalize A12 = Q at hR4 hGn ⊢
      refine r_Z (A := Q) fun hZQ => ?_
      have hPQ := hPF.tr (StP.rd hZF hR3.r7 hGn)
      have hGQ9 : Gw A Q (GoX A r) := hGF9.tr2 hGn (fun y _ e => Or.inl e)
      obtain ⟨v5, w5, hsR4, -, -⟩ := id hR4
      have hwF2 := WrS.hs hwD.1 hsF hhF hGF hZD hwD
      have hfrQ : ∀ y, Fp aL d (rK σ) (rG σ) y → ¬ y = r := fun y hy e => by have h3 := fp_k hLF hy; rw [e, hsR3.1.1] at h3; omega
      have hLQ := ly_gw hZF hLF hGn hfrQ
      have hvQ := lv_gw hZF hLF hvF hGn hfrQ
      have hwQ := hwF2.gw hZF hGn nwr nvr
      have hnQ : Q.R c 0 = some aL := by rw [((hGn.2 c (hZF.lt hsR3.2.1.1 rfl)).2.2 hsR3.rc).2.2]; exact hnF
      refine r_aload_0 (pc := 187) C dX7_change_187 ?_
      refine r_iconst (pc := 188) C dX7_change_188 ci_0 ?_
      refine r_bipush (pc := 189) C dX7_change_189 cb_7 ?_
      refine r_V2ix (pc := 191) C (t_number hR4 hT (by omega) hz (lo := 0) (hi := 7) (by decide) (by decide)) vl_X7_134 hsR4.1.1 (by decide) (by omega) (by omega) (Nat.le_of_ble_eq_true rfl) rfl dX7_change_191 (fun q A9 hp hE => r_out C E (by rw [hx]; exact fun x h => nomatch h) hE.choose_spec (by omega) (by omega) (by obtain ⟨j1, j2, j3⟩ := numS_r (B := B) (L := L) (lo := 0) (hi := 9) hs0 (by rw [hsa]; exact e1); exact num_x j1 (fun _ => prtS_c ht9) (by rw [j2]; exact hp) hGQ9)) (fun u13 A13 hc13 => ?_)
      obtain ⟨y, ay, g1, e2, e3, g14, hR5, hGm⟩ := hc13
      refine r_top e3 ?_
      subst e2
      clear e3 u13
      generalize A13 = U at hR5 hGm ⊢
      refine r_Z (A := U) fun hZU => ?_
      have hPU := hPQ.tr (StP.rd hZQ hR4.r7 hGm)
      have hGU9 : Gw A U (GoX A r) := hGQ9.tr2 hGm (fun y _ e => Or.inl e)
      obtain ⟨v6, w6, hsR5, -, -⟩ := id hR5
      refine r_old fun hoU => ?_
      have hfrU : ∀ y, Fp aL d (rK σ) (rG σ) y → ¬ y = r := fun y hy e => by have h3 := fp_k hLQ hy; rw [e, hsR4.1.1] at h3; omega
      have hLU := ly_gw hZQ hLQ hGm hfrU
      have hvU := lv_gw hZQ hLQ hvQ hGm hfrU
      have hwU := hwQ.gw hZQ hGm nwr nvr
      have hnU : U.R c 0 = some aL := by rw [((hGm.2 c (hZQ.lt hsR4.2.1.1 rfl)).2.2 hsR4.rc).2.2]; exact hnQ
      have h83U : (U.G (g.c 83)).1 = 83 ∧ U.n (g.c 83) = 0 := by obtain ⟨o1, o2, o3, o4, o5⟩ := hoU _ h83.2.2; rw [o1, o5]; exact ⟨h83.1, h83.2.1⟩
      refine r_V3r (pc := 194) C (t_atCell hsR5.1.1 hsR5.1.2.1 hsR5.2.1.1 hnU hLU hvU hW hwU.1 hz hwU.2.2.2 hK h83U (kw.2.2.2.1.n hoU hbw) (kw.2.2.2.2.1.n hoU hbw) (kw.2.2.2.2.2.n hoU hbw) ht4 (x := x) (y := y) (by omega) (by omega)) vl_X7_260 hsR5.1.1 (by decide) (by omega) (by omega) (Nat.le_of_ble_eq_true rfl) rfl dX7_change_194 (fun u14 A14 hc14 => ?_)
      obtain ⟨hI1, hI2, hsV, hhV, hGo⟩ := hc14
      have hIo := And.intro hI1 hI2
      generalize u14 = o at hIo ⊢
      generalize A14 = V at hIo hsV hhV hGo ⊢
      refine r_aret (pc := 197) C E rfl (by omega) (by omega) dX7_change_197 ?_
      obtain ⟨j1, j2, j3⟩ := numS_r (B := B) (L := L) (lo := 0) (hi := 9) hs0 (by rw [hsa]; exact e1)
      obtain ⟨i1, i2, i3⟩ := numS_r (B := B) (L := L) (lo := 0) (hi := 7) j1 (by rw [j2]; exact g1)
      refine ⟨by rw [prtS_c ht9]; exact i1, ?_, by rw [prtS_c ht9, i2, hch], ?_, ?_, hGU9.tr2 hGo (fun y _ e => Or.inr (by rw [e]; exact hwR)), hPU.tr (fun _ _ _ _ h => hwU.1.hs hsV hGo hZU h)⟩
      · rw [prtS_c ht9, i2]; exact hR5.hs hZU hwU.1 hsV hhV hGo
      · rw [chgO_c ht9, prtA_c ht9, prtB_c ht9, j3, i3]
        by_cases hxy : x < rW σ ∧ y < rH σ
        · rw [if_pos hxy]; exact hIo.1 hxy
        · rw [if_neg hxy]; exact hIo.2 hxy
      · rw [chgO_c ht9, prtA_c ht9, prtB_c ht9, j3, i3]
        by_cases hxy : x < rW σ ∧ y < rH σ
        · rw [if_pos hxy]; exact ok_cell ht9 (by have h8 := at_lt hW.s hxy.1 hxy.2; rw [Nat.mul_comm]; exact h8)
        · rw [if_neg hxy]; exact trivial
