/-! THE REFERENCE, 39: a description, read -/
set_option maxRecDepth 100000
theorem StrV.sI3 {A : HA} {t a v n : Nat} {f : Nat → Nat} (hT : Tw A t) (h : StrV A a v f n) {k : Nat} (hk : (A.G k).1 = 103 ∨ (A.G k).1 = 110 ∨ (A.G k).1 = 105 ∨ (A.G k).1 = 109) (x : Rw) : StrV (A.sI k x) a v f n := by
  have k1 := h.g
  have k2 := h.k
  rw [Bool.and_eq_true, decide_eq_true_iff, decide_eq_true_iff] at k2
  have d1 : a ≠ k := fun e => by rw [← e, k1] at hk; omega
  have d2 : v ≠ k := fun e => by rw [← e] at hk; omega
  have e1 : (A.sI k x).I a = A.I a := sI_o _ _ d1
  have e2 : (A.sI k x).I v = A.I v := sI_o _ _ d2
  exact ⟨h.1, h.2.1, h.2.2.1, h.2.2.2.1, h.2.2.2.2.1, by rw [e2]; exact h.2.2.2.2.2.1, by rw [e1]; exact h.2.2.2.2.2.2⟩
theorem wkE.sI3 {g : GZ} {A : HA} {own : String} {ix : Nat} {tx : String} {l : List Nat} {t : Nat} (hT : Tw A t) (h : wkE g A own ix tx l) {k : Nat} (hk : (A.G k).1 = 103 ∨ (A.G k).1 = 110 ∨ (A.G k).1 = 105 ∨ (A.G k).1 = 109) (x : Rw) : wkE g (A.sI k x) own ix tx l := by
  obtain ⟨q, v, h1, h2⟩ := h
  exact ⟨q, v, h1, h2.sI3 hT hk x⟩
theorem TwK.sI3 {g : GZ} {A : HA} {t : Nat} (hT : Tw A t) (h : TwK g A) {k : Nat} (hk : (A.G k).1 = 103 ∨ (A.G k).1 = 110 ∨ (A.G k).1 = 105 ∨ (A.G k).1 = 109) (x : Rw) : TwK g (A.sI k x) := by
  obtain ⟨h0, h1, h2, h3, h4, h5, h6, h7, h8, h9, h10, h11, h12⟩ := h
  exact ⟨h0, h1.sI3 hT hk x, h2.sI3 hT hk x, h3.sI3 hT hk x, h4.sI3 hT hk x, h5.sI3 hT hk x, h6.sI3 hT hk x, h7.sI3 hT hk x, h8.sI3 hT hk x, h9.sI3 hT hk x, h10.sI3 hT hk x, h11.sI3 hT hk x, h12.sI3 hT hk x⟩
theorem rd_e0 {B : Nat → Nat} {L n : Nat} {σ : Rw} {s : TS} {mb : Bool} (h : ¬ s.e = 0) : rdL B L n σ s mb = (σ, s) := by
  cases n with
  | zero => rfl
  | succ n => exact rd_e h
theorem btO_le {f : Rw} {B : Nat → Nat} {L k v : Nat} (hB : BufI f B L) (h : btO B L k = some v) : v ≤ 255 := by
  by_cases q : k < L
  · rw [btO_lt q] at h
    cases h
    exact (hB.2 k q).2
  · rw [btO_ge q] at h
    cases h
/-- a description's reading, from a row of zeros on -/
noncomputable def rdT (σ : Rw) (B : Nat → Nat) (L w : Nat) : Rw × TS := rdL B L (L + 2) (lawnW (zeR σ 553) B L (0, 0, w, 0, -1)) (lawnS B L (0, 0, w, 0, -1)) true
/-- what the reading of a text told, in the twin's numbers -/
def tolT (τ : Rw) (s : TS) : Rw := upd (upd (upd (upd τ 12 (nI 0)) 18 (nI s.e)) 19 s.p) 6 (bI (¬ s.e = 0))
theorem rdT_row {σ : Rw} {B : Nat → Nat} {L w : Nat} : (lawnS B L (0, 0, w, 0, -1)).e = 0 → RowW (lawnW (zeR σ 553) B L (0, 0, w, 0, -1)) := lawnW_w (zeR_z σ)
set_option maxHeartbeats 4000000 in
theorem m_readText {g : GZ} {A : HA} {t : Nat} {σ κ π τ : Nat → Int32} (hT : Tw A t) {a gb w e : Nat} {ep : Int32} {B : Nat → Nat} {L : Nat} (hB : BufI (A.I (t + 8)) B L) (hτL : τ 12 = nI L) (hK : TwK g A) : Ct g wI yX6_readText (.code yX6_readText cX6_readText 2 (Option.some Jvm.ClassFile.FieldType.int)) 10 0 0 [.ref t] (S5 A t σ κ π (stT τ a gb w e ep)) (fun u A' => ∃ κ' m, ((rdT σ B L w).2.e = 0 → RowW (rdT σ B L w).1 ∧ u = (rdT σ B L w).1 1 ∧ A' = S5 (A.sI (t + 3) (va_cpy σ (A.I (t + 3)) 0 0 553)) t (upd (rdT σ B L w).1 8 (nI (allG (rdT σ B L w).1))) κ' π (stS (upd (tolT (upd τ 20 m) (rdT σ B L w).2) 5 (nI 0)) (rdT σ B L w).2)) ∧ (¬ (rdT σ B L w).2.e = 0 → u = nI 0 ∧ A' = S5 (A.sI (t + 3) (va_cpy σ (A.I (t + 3)) 0 0 553)) t (va_cpy (va_cpy σ (A.I (t + 3)) 0 0 553) (rdT σ B L w).1 0 0 553) κ' π (stS (tolT (upd τ 20 m) (rdT σ B L w).2) (rdT σ B L w).2))) fw_no := by
  refine Ct.of [some (.ref t), none] (by decide) rfl rfl fun z C hx hnm E => ?_
  have hBl := hB.l
  refine r_aload_0 (pc := 0) C dX6_readText_0 ?_
  refine r_getR (pc := 1) C fl_X6_7_6 (tw_g hT) rfl (tw_r1 hT) dX6_readText_1 ?_
  refine r_iconst (pc := 4) C dX6_readText_4 ci_0 ?_
  refine r_aload_0 (pc := 5) C dX6_readText_5 ?_
  refine r_getR (pc := 6) C fl_X6_16_6 (tw_g hT) rfl (tw_r3 hT) dX6_readText_6 ?_
  refine r_iconst (pc := 9) C dX6_readText_9 ci_0 ?_
  refine r_S4vo (pc := 10) C (m_copies (tw_g1 (by exact hT)) (tw_g3 (by exact hT)) rfl rfl (by omega) (by have := tw_n1 (by exact hT); show _ ≤ A.n (t + 1); omega) (by have := tw_n3 (by exact hT); show _ ≤ A.n (t + 3); omega) (by omega) (by omega)) sl_X6_64 (by decide) (Nat.le_refl _) (Nat.le_refl _) (Nat.le_of_ble_eq_true rfl) rfl dX6_readText_10 (fun u1 A1 hc1 => ?_)
  refine r_eqA (hc1.trans (by rw [S5_1, S5_x _ _ _ _ _ _ (by omega) (by omega) (by omega) (by omega), S5_sx _ _ _ _ _ _ _ (by omega) (by omega) (by omega) (by omega)])) ?_
  clear hc1 A1 u1
  obtain ⟨A1, hA1⟩ : ∃ A1, A1 = A.sI (t + 3) (va_cpy σ (A.I (t + 3)) 0 0 553) := ⟨_, rfl⟩
  rw [← hA1]
  have h3 : A1.I (t + 3) = va_cpy σ (A.I (t + 3)) 0 0 553 := by rw [hA1, sI_s]
  have hK : TwK g A1 := by rw [hA1]; exact hK.sI3 hT (Or.inl (tw_g3 hT)) _
  have hB : BufI (A1.I (t + 8)) B L := by rw [hA1, sI_o _ _ (by omega)]; exact hB
  have hT : Tw A1 t := by rw [hA1]; exact hT
  refine r_iconst (pc := 13) C dX6_readText_13 ci_0 ?_
  refine r_istore_1 (pc := 14) C dX6_readText_14 rfl ?_
  have lp15_2 : ∀ (fu : Nat) (k : Nat) (hk : k ≤ 553), 553 - k < fu → wa g z 0 0 (S5 A1 t (zeR σ k) κ π (stT τ a gb w e ep)) 15 [some (.ref t), some (.int (nI (k)))] [] := by
    intro fu
    induction fu with
    | zero => intro k  hk hm15; exact absurd hm15 (Nat.not_lt_zero _)
    | succ fu ih15 =>
      intro k  hk hm15
      refine r_iload_1 (pc := 15) C dX6_readText_15 ?_
      refine r_sipush (pc := 16) C dX6_readText_16 cs_553 ?_
      refine r_icmp_ge (pc := 19) (tgt := 35) C dX6_readText_19 (by decide) (fun b19 => ?_) (fun b19 => ?_)
      · skip
        have b19 := (nI_le2 (by omega) (by omega)).mp b19
        refine r_aload_0 (pc := 35) C dX6_readText_35 ?_
        have e9 : k = 553 := by omega
        subst e9
        refine r_V0vo (pc := 36) C (m_startsText (by exact hT)) vl_X6_302 (tw_g hT) (by decide) (Nat.le_refl _) (Nat.le_refl _) (Nat.le_of_ble_eq_true rfl) rfl dX6_readText_36 (fun u3 A3 hc3 => ?_)
        refine r_eqA hc3 ?_
        clear hc3 A3 u3
        refine r_aload_0 (pc := 39) C dX6_readText_39 ?_
        refine r_iconst (pc := 40) C dX6_readText_40 ci_1 ?_
        refine r_putI (pc := 41) C fl_X6_270_6 (tw_g hT) rfl (fun _ _ _ h => by cases h; exact Or.inl rfl) rfl nar_1 fit_1 dX6_readText_41 ?_
        refine r_eqA (S5_u0 _ _ _ _ _ _ _ _) ?_
        refine r_eqA (congrArg (S5 _ t _ _ _) (st_ux _ _ _ _ _ _ (by decide))) ?_
        refine r_aload_0 (pc := 44) C dX6_readText_44 ?_
        refine r_eqA (A' := S5 A1 t (zeR σ 553) κ π (stS (upd τ 20 (nI 1)) ((0, 0, w, 0, -1) : TS))) rfl ?_
        have hτ2 : upd τ 20 (nI 1) 12 = nI L := (pk_un (by omega)).trans hτL
        refine r_V0vo (pc := 45) C (m_lawnLine (by exact hT) (s := ((0, 0, w, 0, -1) : TS)) hB hτ2 (Nat.zero_le _) (Nat.zero_le _) hK) vl_X6_305 (tw_g hT) (by decide) (Nat.le_refl _) (Nat.le_refl _) (Nat.le_of_ble_eq_true rfl) rfl dX6_readText_45 (fun u4 A4 hc4 => ?_)
        refine r_eqA hc4 ?_
        clear hc4 A4 u4
        obtain ⟨σL, hσL⟩ : ∃ x, x = lawnW (zeR σ 553) B L ((0, 0, w, 0, -1) : TS) := ⟨_, rfl⟩
        obtain ⟨sL, hsL⟩ : ∃ x, x = lawnS B L ((0, 0, w, 0, -1) : TS) := ⟨_, rfl⟩
        have hRT : rdT σ B L w = rdL B L (L + 2) σL sL true := by rw [hσL, hsL]; rfl
        have htL : TOk L sL := by rw [hsL]; exact lawnS_ok (nextS_ok0 (Nat.zero_le _) (Nat.zero_le _))
        have hWL : sL.e = 0 → RowW σL := by rw [hsL, hσL]; exact rdT_row
        rw [← hσL, ← hsL]
        clear hσL hsL
        refine r_eqA (A' := S5 A1 t σL κ π (stS (upd τ 20 (bI (true = true))) sL)) (by rw [bI_t rfl, nI1]) ?_
        have lp48_5 : ∀ (fu : Nat) (n : Nat) (σ1 κ1 : Rw) (s1 : TS) (mb : Bool) (ht : TOk L s1) (hW : s1.e = 0 → RowW σ1) (hn : s1.e = 0 → L - s1.a < n) (hR : rdT σ B L w = rdL B L n σ1 s1 mb), n < fu → wa g z 0 0 (S5 A1 t σ1 κ1 π (stS (upd τ 20 (bI (mb = true))) (s1))) 48 [some (.ref t), none] [] := by
          intro fu
          induction fu with
          | zero => intro n  σ1 κ1  s1  mb  ht hW hn hR hm48; exact absurd hm48 (Nat.not_lt_zero _)
          | succ fu ih48 =>
            intro n  σ1 κ1  s1  mb  ht hW hn hR hm48
            have he := ht.e
            have ha := ht.a
            have hτm : (upd τ 20 (bI (mb = true))) 12 = nI L := (pk_un (by omega)).trans hτL
            have hmb : (upd τ 20 (bI (mb = true))) 20 = bI (mb = true) := pk_us
            refine r_aload_0 (pc := 48) C dX6_readText_48 ?_
            refine r_getI (pc := 49) C fl_X6_208_6 (tw_g hT) rfl dX6_readText_49 ?_
            refine r_top (congrFun (S5_0 _ _ _ _ _ _) _) ?_
            refine r_top (st_16 _ _ _ _ _ _) ?_
            refine r_if_ne (pc := 52) (tgt := 92) C dX6_readText_52 (by decide) (fun b52 => ?_) (fun b52 => ?_)
            · skip
              have b52 := (not_congr (nI_eq0 (by omega))).mp b52
              refine r_aload_0 (pc := 92) C dX6_readText_92 ?_
              refine r_aload_0 (pc := 93) C dX6_readText_93 ?_
              refine r_V0io (pc := 94) C (m_endsText (by exact hT) (by first | exact he | exact (nextS_ok ht).e)) vl_X6_315 (tw_g hT) (by decide) (Nat.le_refl _) (Nat.le_refl _) (Nat.le_of_ble_eq_true rfl) rfl dX6_readText_94 (fun u6 A6 hc6 => ?_)
              refine r_top hc6.1 ?_
              refine r_eqA hc6.2 ?_
              clear hc6 A6 u6
              refine r_V1io (pc := 97) C (m_passes (by exact hT)) vl_X6_186 (tw_g hT) (by decide) (Nat.le_refl _) (Nat.le_refl _) (Nat.le_of_ble_eq_true rfl) rfl dX6_readText_97 (fun u7 A7 hc7 => ?_)
              refine r_top hc7.1 ?_
              refine r_eqA (hc7.2.trans (by rw [S5_0, S5_w0])) ?_
              clear hc7 A7 u7
              refine r_eqA (congrArg (S5 _ t _ _ _) (st_ux _ _ _ _ _ _ (by decide))) ?_
              refine r_if_ne (pc := 100) (tgt := 118) C dX6_readText_100 (by decide) (fun b100 => ?_) (fun b100 => ?_)
              · skip
                have b100 := bI_n.mp b100
                exact absurd b100 b52
              · skip
                have b100 := bI_0.mp b100
                refine r_aload_0 (pc := 103) C dX6_readText_103 ?_
                refine r_getR (pc := 104) C fl_X6_16_6 (tw_g hT) rfl (tw_r3 hT) dX6_readText_104 ?_
                refine r_iconst (pc := 107) C dX6_readText_107 ci_0 ?_
                refine r_aload_0 (pc := 108) C dX6_readText_108 ?_
                refine r_getR (pc := 109) C fl_X6_7_6 (tw_g hT) rfl (tw_r1 hT) dX6_readText_109 ?_
                refine r_iconst (pc := 112) C dX6_readText_112 ci_0 ?_
                refine r_S4vo (pc := 113) C (m_copies (tw_g3 (by exact hT)) (tw_g1 (by exact hT)) rfl rfl (by omega) (by have := tw_n3 (by exact hT); show _ ≤ A1.n (t + 3); omega) (by have := tw_n1 (by exact hT); show _ ≤ A1.n (t + 1); omega) (by omega) (by omega)) sl_X6_64 (by decide) (Nat.le_refl _) (Nat.le_refl _) (Nat.le_of_ble_eq_true rfl) rfl dX6_readText_113 (fun u8 A8 hc8 => ?_)
                refine r_eqA (hc8.trans (by rw [S5_x _ _ _ _ _ _ (by omega) (by omega) (by omega) (by omega), S5_1, S5_w1, h3])) ?_
                clear hc8 A8 u8
                refine r_iconst (pc := 116) C dX6_readText_116 ci_0 ?_
                refine r_iret (pc := 117) C E rfl (Nat.le_refl _) (Nat.le_refl _) dX6_readText_117 ?_
                first
                  | exact absurd h0 b100
                  | (have hF := hR.trans (rd_e0 b52); rw [hF]; exact ⟨κ1, bI (mb = true), fun q => absurd q b52, fun _ => ⟨rfl, by subst hA1; rfl⟩⟩)
            · skip
              have b52 := (nI_eq0 (by omega)).mp b52
              have h0 : s1.e = 0 := b52
              obtain ⟨n, rfl⟩ : ∃ j, n = j + 1 := ⟨n - 1, by have := hn h0; omega⟩
              refine r_aload_0 (pc := 55) C dX6_readText_55 ?_
              refine r_getR (pc := 56) C fl_X6_7_6 (tw_g hT) rfl (tw_r1 hT) dX6_readText_56 ?_
              refine r_iconst (pc := 59) C dX6_readText_59 ci_1 ?_
              refine r_iald (pc := 60) C (tw_g1 hT) rfl rfl (lt_eq (by omega) (tw_n1 hT)) (by omega) dX6_readText_60 ?_
              refine r_top (congrFun (S5_1 _ _ _ _ _ _) _) ?_
              refine r_top (hW h0).k ?_
              have hk6 := (hW h0).k6
              refine r_if_eq (pc := 61) (tgt := 72) C dX6_readText_61 (by decide) (fun b61 => ?_) (fun b61 => ?_)
              · skip
                have b61 := (nI_eq0 (by omega)).mp b61
                have h2 : rK σ1 = 0 ∨ btO B L (skp B L s1.a) ≠ none := Or.inl b61
                refine r_aload_0 (pc := 72) C dX6_readText_72 ?_
                refine r_bipush (pc := 73) C dX6_readText_73 cb_59 ?_
                refine r_V1vo (pc := 75) C (s_sign (by exact hT) hB hτm (by first | exact ht | exact nextS_ok ht) (by omega)) vl_X6_308 (tw_g hT) (by decide) (Nat.le_refl _) (Nat.le_refl _) (Nat.le_of_ble_eq_true rfl) rfl dX6_readText_75 (fun u9 A9 hc9 => ?_)
                refine r_eqA (A' := S5 A1 t σ1 κ1 π (stS (upd τ 20 (bI (mb = true))) (signS B L 59 s1))) (hc9.trans (by first | rw [sign_next h0] | rfl)) ?_
                clear hc9 A9 u9
                have ht3 : TOk L (signS B L 59 s1) := signS_ok ht
                have he3 := ht3.e
                refine r_aload_0 (pc := 78) C dX6_readText_78 ?_
                refine r_getI (pc := 79) C fl_X6_208_6 (tw_g hT) rfl dX6_readText_79 ?_
                refine r_top (congrFun (S5_0 _ _ _ _ _ _) _) ?_
                refine r_top (st_16 _ _ _ _ _ _) ?_
                refine r_if_ne (pc := 82) (tgt := 48) C dX6_readText_82 (by decide) (fun b82 => ?_) (fun b82 => ?_)
                · skip
                  have b82 := (not_congr (nI_eq0 (by omega))).mp b82
                  exact ih48 n σ1 κ1 (signS B L 59 s1) mb ht3 (fun q => absurd q b82) (fun q => absurd q b82) (hR.trans ((rd_sg h0 h2 b82).trans (rd_e0 b82).symm))  (by omega)
                · skip
                  have b82 := (nI_eq0 (by omega)).mp b82
                  have h3 : (signS B L 59 s1).e = 0 := b82
                  refine r_aload_0 (pc := 85) C dX6_readText_85 ?_
                  refine r_V0vo (pc := 86) C (m_statement (by exact hT) hB hτm ht3 hK (hW h0).s (hW h0).num (fun _ => hW h0) hmb h3) vl_X6_312 (tw_g hT) (by decide) (Nat.le_refl _) (Nat.le_refl _) (Nat.le_of_ble_eq_true rfl) rfl dX6_readText_86 (fun u10 A10 hc10 => ?_)
                  obtain ⟨κ2, eA⟩ := hc10
                  refine r_eqA (A' := S5 A1 t (stmW σ1 B L (mb = true) (signS B L 59 s1)) κ2 π (stS (upd τ 20 (bI ((mb && decide (stmM σ1 B L (mb = true) (signS B L 59 s1))) = true))) (stmS σ1 B L (mb = true) (signS B L 59 s1)))) (eA.trans (by rw [stmT_eq])) ?_
                  clear eA A10 u10
                  refine r_goto (pc := 89) (tgt := 48) C dX6_readText_89 (by decide) ?_
                  exact ih48 n _ κ2 _ _ (stmS_ok ht3) (fun _ => stm_w (hW h0)) (fun q => by have q1 := (stmS_ok (mb := mb = true) (σ := σ1) ht3).al q; have q2 := sgn_a (B := B) (L := L) (c := 59) h0; have q3 := stmS_a (σ := σ1) (B := B) (L := L) (mb := mb = true) (s := signS B L 59 s1); have q4 := hn h0; omega) (hR.trans (rd_st h0 h2 b82))  (by omega)
              · skip
                have b61 := (not_congr (nI_eq0 (by omega))).mp b61
                refine r_aload_0 (pc := 64) C dX6_readText_64 ?_
                refine r_V0io (pc := 65) C (s_next (by exact hT) hB hτm ht) vl_X6_214 (tw_g hT) (by decide) (Nat.le_refl _) (Nat.le_refl _) (Nat.le_of_ble_eq_true rfl) rfl dX6_readText_65 (fun u11 A11 hc11 => ?_)
                refine r_top hc11.1 ?_
                refine r_eqA hc11.2 ?_
                clear hc11 A11 u11
                refine r_iconst (pc := 68) C dX6_readText_68 ci_m1 ?_
                refine r_icmp_eq (pc := 69) (tgt := 92) C dX6_readText_69 (by decide) (fun b69 => ?_) (fun b69 => ?_)
                · skip
                  have h4 : btO B L (skp B L s1.a) = none := by
                    cases hq : btO B L (skp B L s1.a) with
                    | none => rfl
                    | some v => rw [hq] at b69; exact absurd b69 (nI_m1 (by have := btO_le hB hq; omega))
                  refine r_aload_0 (pc := 92) C dX6_readText_92 ?_
                  refine r_aload_0 (pc := 93) C dX6_readText_93 ?_
                  refine r_V0io (pc := 94) C (m_endsText (by exact hT) (by first | exact he | exact (nextS_ok ht).e)) vl_X6_315 (tw_g hT) (by decide) (Nat.le_refl _) (Nat.le_refl _) (Nat.le_of_ble_eq_true rfl) rfl dX6_readText_94 (fun u12 A12 hc12 => ?_)
                  refine r_top hc12.1 ?_
                  refine r_eqA hc12.2 ?_
                  clear hc12 A12 u12
                  refine r_V1io (pc := 97) C (m_passes (by exact hT)) vl_X6_186 (tw_g hT) (by decide) (Nat.le_refl _) (Nat.le_refl _) (Nat.le_of_ble_eq_true rfl) rfl dX6_readText_97 (fun u13 A13 hc13 => ?_)
                  refine r_top hc13.1 ?_
                  refine r_eqA (hc13.2.trans (by rw [S5_0, S5_w0])) ?_
                  clear hc13 A13 u13
                  refine r_eqA (congrArg (S5 _ t _ _ _) (st_ux _ _ _ _ _ _ (by decide))) ?_
                  refine r_if_ne (pc := 100) (tgt := 118) C dX6_readText_100 (by decide) (fun b100 => ?_) (fun b100 => ?_)
                  · skip
                    have b100 := bI_n.mp b100
                    refine r_aload_0 (pc := 118) C dX6_readText_118 ?_
                    refine r_getR (pc := 119) C fl_X6_7_6 (tw_g hT) rfl (tw_r1 hT) dX6_readText_119 ?_
                    refine r_bipush (pc := 122) C dX6_readText_122 cb_8 ?_
                    refine r_aload_0 (pc := 124) C dX6_readText_124 ?_
                    refine r_V0io (pc := 125) C (m_allGrass (by exact hT) (hW h0)) vl_X6_318 (tw_g hT) (by decide) (Nat.le_refl _) (Nat.le_refl _) (Nat.le_of_ble_eq_true rfl) rfl dX6_readText_125 (fun u14 A14 hc14 => ?_)
                    refine r_top hc14.1 ?_
                    refine r_eqA hc14.2 ?_
                    clear hc14 A14 u14
                    refine r_iast (pc := 128) C (tw_g1 hT) rfl rfl (lt_eq (by omega) (tw_n1 hT)) (by omega) dX6_readText_128 ?_
                    refine r_eqA (S5_u1 _ _ _ _ _ _ _ _) ?_
                    refine r_aload_0 (pc := 129) C dX6_readText_129 ?_
                    refine r_iconst (pc := 130) C dX6_readText_130 ci_0 ?_
                    refine r_putI (pc := 131) C fl_X6_321_6 (tw_g hT) rfl (fun _ _ _ h => by cases h; exact Or.inl rfl) rfl rfl rfl dX6_readText_131 ?_
                    refine r_eqA (S5_u0 _ _ _ _ _ _ _ _) ?_
                    refine r_eqA (congrArg (S5 _ t _ _ _) (st_ux _ _ _ _ _ _ (by decide))) ?_
                    refine r_aload_0 (pc := 134) C dX6_readText_134 ?_
                    refine r_getR (pc := 135) C fl_X6_7_6 (tw_g hT) rfl (tw_r1 hT) dX6_readText_135 ?_
                    refine r_iconst (pc := 138) C dX6_readText_138 ci_1 ?_
                    refine r_iald (pc := 139) C (tw_g1 hT) rfl rfl (lt_eq (by omega) (tw_n1 hT)) (by omega) dX6_readText_139 ?_
                    refine r_top (congrFun (S5_1 _ _ _ _ _ _) _) ?_
                    refine r_top (pk_un (by omega)) ?_
                    refine r_iret (pc := 140) C E rfl (Nat.le_refl _) (Nat.le_refl _) dX6_readText_140 ?_
                    first
                      | exact absurd b100 b52
                      | (have hF := hR.trans (rd_end h0 (fun q => q.elim b61 (fun q => q h4))); rw [hF]; exact ⟨κ1, bI (mb = true), fun _ => ⟨hW h0, rfl, by subst hA1; rfl⟩, fun q => absurd h0 q⟩)
                  · skip
                    have b100 := bI_0.mp b100
                    exact absurd h0 b100
                · skip
                  have h2 : rK σ1 = 0 ∨ btO B L (skp B L s1.a) ≠ none := Or.inr (fun q => b69 (by rw [q]; rfl))
                  refine r_aload_0 (pc := 72) C dX6_readText_72 ?_
                  refine r_bipush (pc := 73) C dX6_readText_73 cb_59 ?_
                  refine r_V1vo (pc := 75) C (s_sign (by exact hT) hB hτm (by first | exact ht | exact nextS_ok ht) (by omega)) vl_X6_308 (tw_g hT) (by decide) (Nat.le_refl _) (Nat.le_refl _) (Nat.le_of_ble_eq_true rfl) rfl dX6_readText_75 (fun u15 A15 hc15 => ?_)
                  refine r_eqA (A' := S5 A1 t σ1 κ1 π (stS (upd τ 20 (bI (mb = true))) (signS B L 59 s1))) (hc15.trans (by first | rw [sign_next h0] | rfl)) ?_
                  clear hc15 A15 u15
                  have ht3 : TOk L (signS B L 59 s1) := signS_ok ht
                  have he3 := ht3.e
                  refine r_aload_0 (pc := 78) C dX6_readText_78 ?_
                  refine r_getI (pc := 79) C fl_X6_208_6 (tw_g hT) rfl dX6_readText_79 ?_
                  refine r_top (congrFun (S5_0 _ _ _ _ _ _) _) ?_
                  refine r_top (st_16 _ _ _ _ _ _) ?_
                  refine r_if_ne (pc := 82) (tgt := 48) C dX6_readText_82 (by decide) (fun b82 => ?_) (fun b82 => ?_)
                  · skip
                    have b82 := (not_congr (nI_eq0 (by omega))).mp b82
                    exact ih48 n σ1 κ1 (signS B L 59 s1) mb ht3 (fun q => absurd q b82) (fun q => absurd q b82) (hR.trans ((rd_sg h0 h2 b82).trans (rd_e0 b82).symm))  (by omega)
                  · skip
                    have b82 := (nI_eq0 (by omega)).mp b82
                    have h3 : (signS B L 59 s1).e = 0 := b82
                    refine r_aload_0 (pc := 85) C dX6_readText_85 ?_
                    refine r_V0vo (pc := 86) C (m_statement (by exact hT) hB hτm ht3 hK (hW h0).s (hW h0).num (fun _ => hW h0) hmb h3) vl_X6_312 (tw_g hT) (by decide) (Nat.le_refl _) (Nat.le_refl _) (Nat.le_of_ble_eq_true rfl) rfl dX6_readText_86 (fun u16 A16 hc16 => ?_)
                    obtain ⟨κ2, eA⟩ := hc16
                    refine r_eqA (A' := S5 A1 t (stmW σ1 B L (mb = true) (signS B L 59 s1)) κ2 π (stS (upd τ 20 (bI ((mb && decide (stmM σ1 B L (mb = true) (signS B L 59 s1))) = true))) (stmS σ1 B L (mb = true) (signS B L 59 s1)))) (eA.trans (by rw [stmT_eq])) ?_
                    clear eA A16 u16
                    refine r_goto (pc := 89) (tgt := 48) C dX6_readText_89 (by decide) ?_
                    exact ih48 n _ κ2 _ _ (stmS_ok ht3) (fun _ => stm_w (hW h0)) (fun q => by have q1 := (stmS_ok (mb := mb = true) (σ := σ1) ht3).al q; have q2 := sgn_a (B := B) (L := L) (c := 59) h0; have q3 := stmS_a (σ := σ1) (B := B) (L := L) (mb := mb = true) (s := signS B L 59 s1); have q4 := hn h0; omega) (hR.trans (rd_st h0 h2 b82))  (by omega)
        refine r_forget (lv' := [some _, none]) ⟨rfl, trivial⟩ ?_
        exact lp48_5 _ (L + 2) σL κ sL true htL hWL (fun _ => by omega) hRT (Nat.lt_succ_self _)
      · skip
        have b19 := (not_congr (nI_le2 (by omega) (by omega))).mp b19
        refine r_aload_0 (pc := 22) C dX6_readText_22 ?_
        refine r_getR (pc := 23) C fl_X6_7_6 (tw_g hT) rfl (tw_r1 hT) dX6_readText_23 ?_
        refine r_iload_1 (pc := 26) C dX6_readText_26 ?_
        refine r_iconst (pc := 27) C dX6_readText_27 ci_0 ?_
        refine r_iast (pc := 28) C (tw_g1 hT) rfl rfl (lt_eq (by omega) (tw_n1 hT)) (by omega) dX6_readText_28 ?_
        refine r_eqA (S5_u1 _ _ _ _ _ _ _ _) ?_
        refine r_iinc_1 (pc := 29) C dX6_readText_29 (nI_inc _) rfl ?_
        refine r_goto (pc := 32) (tgt := 15) C dX6_readText_32 (by decide) ?_
        exact ih15 (k + 1) (by omega) (by omega)
  exact lp15_2 _ 0 (by omega) (Nat.lt_succ_self _)
