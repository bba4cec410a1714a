/-! THE REFERENCE, 43: made -/
set_option maxRecDepth 100000
def twF (i : Nat) : Nat := match i with | 0 => 0 | 1 => 1 | 2 => 2 | 3 => 3 | 4 => 4 | 5 => 8 | 6 => 9 | 7 => 11 | 8 => 21 | _ => 23
def twN (i : Nat) : Nat := match i with | 0 => 553 | 1 => 553 | 2 => 553 | 3 => 553 | 4 => 4424 | 5 => 80 | 6 => 80 | 7 => 900 | 8 => 90 | _ => 120
theorem twF_i : ∀ i, i < 10 → ∀ j, j < 10 → twF i = twF j → i = j := by decide
/-- the reference's arrays, m of them made -/
def TI (A F : HA) (t m : Nat) (τ : Rw) : Prop := F.z = t + 1 + m ∧ (F.G t).1 = 6 ∧ F.I t = τ ∧ Gw A F (fun y => y = t) ∧ ∀ i, i < m → F.R t (twF i) = some (t + 1 + i) ∧ (F.G (t + 1 + i)).1 = 101 + i ∧ F.n (t + 1 + i) = twN i ∧ F.I (t + 1 + i) = pZ
theorem TI.step {A F : HA} {t m k len f : Nat} {τ : Rw} (h : TI A F t m τ) (hm : m < 10) (ek : k = 101 + m) (el : len = twN m) (ef : f = twF m) : TI A ((F.mk k 0 len).sR t (va_up ((F.mk k 0 len).R t) f (some F.z))) t (m + 1) τ := by
  obtain ⟨hz, hg, hI, hG, hA⟩ := h
  have nt : t ≠ F.z := by omega
  refine ⟨by show (F.mk k 0 len).z = _; rw [mk_z, hz]; omega, by show ((F.mk k 0 len).G t).1 = 6; rw [mk_G, if_neg nt]; exact hg, by show (F.mk k 0 len).I t = τ; rw [mk_I, if_neg nt]; exact hI, ?_, fun i hi => ?_⟩
  · exact (hG.tr2 (gw_mk (A := F) (k := k) (o := 0) (len := len) (X := Non)) (fun _ _ q => q.elim)).tr (gw_sR (fun _ => rfl))
  · by_cases q : i = m
    · subst q
      have e : t + 1 + i = F.z := hz.symm
      refine ⟨?_, ?_, ?_, ?_⟩
      · rw [sR_s, ← ef, e]; exact va_up_self _ _ _
      · show ((F.mk k 0 len).G _).1 = _; rw [mk_G, if_pos e]; exact ek
      · show (F.mk k 0 len).n _ = _; rw [mk_n, if_pos e]; exact el
      · show (F.mk k 0 len).I _ = _; rw [mk_I, if_pos e]; rfl
    · obtain ⟨a1, a2, a3, a4⟩ := hA i (by omega)
      have e : t + 1 + i ≠ F.z := by omega
      refine ⟨?_, ?_, ?_, ?_⟩
      · rw [sR_s, mk_R, if_neg nt, ef]
        have hne : twF i ≠ twF m := fun w => q (twF_i i (by omega) m hm w)
        show (if twF i = twF m then _ else _) = _
        rw [if_neg hne]; exact a1
      · show ((F.mk k 0 len).G _).1 = _; rw [mk_G, if_neg e]; exact a2
      · show (F.mk k 0 len).n _ = _; rw [mk_n, if_neg e]; exact a3
      · show (F.mk k 0 len).I _ = _; rw [mk_I, if_neg e]; exact a4
theorem TI.sI {A F : HA} {t m : Nat} {τ f : Rw} (h : TI A F t m τ) : TI A (F.sI t f) t m f := by
  obtain ⟨hz, hg, hI, hG, hA⟩ := h
  refine ⟨hz, hg, sI_s _ _ _, hG.tr (gw_sI (fun _ => rfl)), fun i hi => ?_⟩
  obtain ⟨a1, a2, a3, a4⟩ := hA i hi
  exact ⟨a1, a2, a3, by rw [sI_o _ _ (by omega)]; exact a4⟩
theorem TI.tw {A F : HA} {t : Nat} {τ : Rw} (h : TI A F t 10 τ) : Tw F t := by
  obtain ⟨hz, hg, hI, hG, hA⟩ := h
  have p : ∀ i, i < 10 → F.R t (twF i) = some (t + 1 + i) ∧ (F.G (t + 1 + i)).1 = 101 + i ∧ F.n (t + 1 + i) = twN i := fun i hi => ⟨(hA i hi).1, (hA i hi).2.1, (hA i hi).2.2.1⟩
  exact ⟨hg, p 0 (by decide), p 1 (by decide), p 2 (by decide), p 3 (by decide), p 4 (by decide), p 5 (by decide), p 6 (by decide), p 7 (by decide), p 8 (by decide), p 9 (by decide)⟩
/-- the heap of the reference, its buffer φ and its numbers τ -/
theorem tw_S5 {A F : HA} {t : Nat} {τ φ τ' : Rw} (h : TI A F t 10 τ) (e : ∀ j, 13 ≤ j → j ≤ 16 → τ' j = nI 0) : ((F.sI (t + 8) φ).sI t τ') = S5 (F.sI (t + 8) φ) t pZ pZ pZ (stT τ' 0 0 0 0 (τ' 17)) := by
  have q : ∀ i, i < 10 → i ≠ 7 → (F.sI (t + 8) φ).I (t + 1 + i) = pZ := fun i hi hn => by rw [sI_o _ _ (by omega)]; exact (h.2.2.2.2 i hi).2.2.2
  have e1 : (F.sI (t + 8) φ).sI (t + 1) pZ = F.sI (t + 8) φ := by rw [← q 0 (by decide) (by decide)]; exact sI_self _ _
  have e6 : (F.sI (t + 8) φ).sI (t + 6) pZ = F.sI (t + 8) φ := by rw [← q 5 (by decide) (by decide)]; exact sI_self _ _
  have e7 : (F.sI (t + 8) φ).sI (t + 7) pZ = F.sI (t + 8) φ := by rw [← q 6 (by decide) (by decide)]; exact sI_self _ _
  unfold S5
  rw [e1, e6, e7]
  congr 1
  funext j
  unfold stT
  split
  · rename_i w; rw [w]; exact e 13 (by decide) (by decide)
  · split
    · rename_i w; rw [w]; exact e 14 (by decide) (by decide)
    · split
      · rename_i w; rw [w]; exact e 15 (by decide) (by decide)
      · split
        · rename_i w; rw [w]; exact e 16 (by decide) (by decide)
        · split
          · rename_i w; rw [w]
          · rfl
theorem pl_len : plainT.length = 154 := by decide
theorem pl_255 : ∀ k, k < 154 → plB k ≤ 255 := by decide
def plS : String := "lawn 5 4 3 2;gate west 0 1;gate east 4 1;gate pond 2 3;walker ada west east 5 1;walker ben east pond 0 2;stone 1 1;stone 1 0;stone 2 0;stone 3 0;stone 4 0"
set_option maxHeartbeats 4000000 in
theorem m_init {g : GZ} {A : HA} {t : Nat} {τ0 τ1 : Rw} (hg : (A.G t).1 = 6) (hz1 : A.z = t + 1) (hI0 : A.I t = τ0) (hτ1 : τ1 = upd τ0 19 (-1)) (h00 : ∀ j, 13 ≤ j → j ≤ 16 → τ0 j = nI 0) (hz : zS g) (hK : ∀ D, fw_old g D → TwK g D) {q9 v9 : Nat} (hq0 : SK g "LawnPathsModel" 44 plS q9) (hq1 : StrV g.A q9 v9 (chs plainT) 154) (hq2 : q9 < g.b) (hq3 : v9 < g.b)  : Ct g wV yX6_init (.code yX6_init cX6_init 3 (Option.none : Option Jvm.ClassFile.FieldType)) 14 10 8000 [.ref t] (A) (fun u A' => ∃ F φ κ' m τ, TI A F t 10 τ1 ∧ (∀ k, k < 154 → φ k = nI (plB k)) ∧ τ = upd τ1 12 (nI 154) ∧ A' = S5 ((F.sI (t + 8) φ).sI (t + 3) (va_cpy pZ ((F.sI (t + 8) φ).I (t + 3)) 0 0 553)) t (bs pW10) κ' pZ (stS (upd (tolT (upd τ 20 m) (nextS plB 154 pS10)) 5 (nI 0)) (nextS plB 154 pS10))) fw_no := by
  refine Ct.of [some (.ref t), none, none] (by decide) rfl rfl fun z C hx hnm E => ?_
  refine r_genA fun F0 hF => ?_
  have hT0 : TI A F0 t 0 τ0 := by rw [hF]; exact ⟨hz1, hg, hI0, Gw.rf, fun i hi => absurd hi (Nat.not_lt_zero _)⟩
  clear hF
  refine r_aload_0 (pc := 0) C dX6_init_0 ?_
  refine r_objInit (pc := 1) C q2250 q199 q200 rfl (Nat.le_of_ble_eq_true rfl) (by decide) dX6_init_1 ?_
  refine r_aload_0 (pc := 4) C dX6_init_4 ?_
  refine r_sipush (pc := 5) C dX6_init_5 cs_553 ?_
  refine r_newI (pc := 8) C 101 (0) (Nat.zero_le _) rfl q334 rfl (by omega) (by omega) (by omega) dX6_init_8 ?_
  have hg0 : ((F0.mk 101 0 553).G t).1 = 6 := by rw [mk_G, if_neg (by have := hT0.1; omega)]; exact hT0.2.1
  refine r_putR (pc := 10) C fl_X6_7_6 (by exact hg0) rfl (fun _ _ _ h => by cases h; exact Or.inr ⟨rfl, hnm⟩) rfl dX6_init_10 ?_
  refine r_genA fun F1 hF => ?_
  have hT1 : TI A F1 t 1 τ0 := by rw [hF]; exact hT0.step (by decide) rfl rfl rfl
  clear hF
  refine r_aload_0 (pc := 13) C dX6_init_13 ?_
  refine r_sipush (pc := 14) C dX6_init_14 cs_553 ?_
  refine r_newI (pc := 17) C 102 (0) (Nat.zero_le _) rfl q334 rfl (by omega) (by omega) (by omega) dX6_init_17 ?_
  have hg1 : ((F1.mk 102 0 553).G t).1 = 6 := by rw [mk_G, if_neg (by have := hT1.1; omega)]; exact hT1.2.1
  refine r_putR (pc := 19) C fl_X6_13_6 (by exact hg1) rfl (fun _ _ _ h => by cases h; exact Or.inr ⟨rfl, hnm⟩) rfl dX6_init_19 ?_
  refine r_genA fun F2 hF => ?_
  have hT2 : TI A F2 t 2 τ0 := by rw [hF]; exact hT1.step (by decide) rfl rfl rfl
  clear hF
  refine r_aload_0 (pc := 22) C dX6_init_22 ?_
  refine r_sipush (pc := 23) C dX6_init_23 cs_553 ?_
  refine r_newI (pc := 26) C 103 (0) (Nat.zero_le _) rfl q334 rfl (by omega) (by omega) (by omega) dX6_init_26 ?_
  have hg2 : ((F2.mk 103 0 553).G t).1 = 6 := by rw [mk_G, if_neg (by have := hT2.1; omega)]; exact hT2.2.1
  refine r_putR (pc := 28) C fl_X6_16_6 (by exact hg2) rfl (fun _ _ _ h => by cases h; exact Or.inr ⟨rfl, hnm⟩) rfl dX6_init_28 ?_
  refine r_genA fun F3 hF => ?_
  have hT3 : TI A F3 t 3 τ0 := by rw [hF]; exact hT2.step (by decide) rfl rfl rfl
  clear hF
  refine r_aload_0 (pc := 31) C dX6_init_31 ?_
  refine r_sipush (pc := 32) C dX6_init_32 cs_553 ?_
  refine r_newI (pc := 35) C 104 (0) (Nat.zero_le _) rfl q334 rfl (by omega) (by omega) (by omega) dX6_init_35 ?_
  have hg3 : ((F3.mk 104 0 553).G t).1 = 6 := by rw [mk_G, if_neg (by have := hT3.1; omega)]; exact hT3.2.1
  refine r_putR (pc := 37) C fl_X6_19_6 (by exact hg3) rfl (fun _ _ _ h => by cases h; exact Or.inr ⟨rfl, hnm⟩) rfl dX6_init_37 ?_
  refine r_genA fun F4 hF => ?_
  have hT4 : TI A F4 t 4 τ0 := by rw [hF]; exact hT3.step (by decide) rfl rfl rfl
  clear hF
  refine r_aload_0 (pc := 40) C dX6_init_40 ?_
  refine r_sipush (pc := 41) C dX6_init_41 cs_4424 ?_
  refine r_newI (pc := 44) C 105 (0) (Nat.zero_le _) rfl q334 rfl (by omega) (by omega) (by omega) dX6_init_44 ?_
  have hg4 : ((F4.mk 105 0 4424).G t).1 = 6 := by rw [mk_G, if_neg (by have := hT4.1; omega)]; exact hT4.2.1
  refine r_putR (pc := 46) C fl_X6_22_6 (by exact hg4) rfl (fun _ _ _ h => by cases h; exact Or.inr ⟨rfl, hnm⟩) rfl dX6_init_46 ?_
  refine r_genA fun F5 hF => ?_
  have hT5 : TI A F5 t 5 τ0 := by rw [hF]; exact hT4.step (by decide) rfl rfl rfl
  clear hF
  refine r_aload_0 (pc := 49) C dX6_init_49 ?_
  refine r_bipush (pc := 50) C dX6_init_50 cb_80 ?_
  refine r_newI (pc := 52) C 106 (0) (Nat.zero_le _) rfl q334 rfl (by omega) (by omega) (by omega) dX6_init_52 ?_
  have hg5 : ((F5.mk 106 0 80).G t).1 = 6 := by rw [mk_G, if_neg (by have := hT5.1; omega)]; exact hT5.2.1
  refine r_putR (pc := 54) C fl_X6_25_6 (by exact hg5) rfl (fun _ _ _ h => by cases h; exact Or.inr ⟨rfl, hnm⟩) rfl dX6_init_54 ?_
  refine r_genA fun F6 hF => ?_
  have hT6 : TI A F6 t 6 τ0 := by rw [hF]; exact hT5.step (by decide) rfl rfl rfl
  clear hF
  refine r_aload_0 (pc := 57) C dX6_init_57 ?_
  refine r_bipush (pc := 58) C dX6_init_58 cb_80 ?_
  refine r_newI (pc := 60) C 107 (0) (Nat.zero_le _) rfl q334 rfl (by omega) (by omega) (by omega) dX6_init_60 ?_
  have hg6 : ((F6.mk 107 0 80).G t).1 = 6 := by rw [mk_G, if_neg (by have := hT6.1; omega)]; exact hT6.2.1
  refine r_putR (pc := 62) C fl_X6_28_6 (by exact hg6) rfl (fun _ _ _ h => by cases h; exact Or.inr ⟨rfl, hnm⟩) rfl dX6_init_62 ?_
  refine r_genA fun F7 hF => ?_
  have hT7 : TI A F7 t 7 τ0 := by rw [hF]; exact hT6.step (by decide) rfl rfl rfl
  clear hF
  refine r_aload_0 (pc := 65) C dX6_init_65 ?_
  refine r_sipush (pc := 66) C dX6_init_66 cs_900 ?_
  refine r_newI (pc := 69) C 108 (0) (Nat.zero_le _) rfl q334 rfl (by omega) (by omega) (by omega) dX6_init_69 ?_
  have hg7 : ((F7.mk 108 0 900).G t).1 = 6 := by rw [mk_G, if_neg (by have := hT7.1; omega)]; exact hT7.2.1
  refine r_putR (pc := 71) C fl_X6_31_6 (by exact hg7) rfl (fun _ _ _ h => by cases h; exact Or.inr ⟨rfl, hnm⟩) rfl dX6_init_71 ?_
  refine r_genA fun F8a hF => ?_
  have hT8a : TI A F8a t 8 τ0 := by rw [hF]; exact hT7.step (by decide) rfl rfl rfl
  clear hF
  refine r_aload_0 (pc := 74) C dX6_init_74 ?_
  refine r_iconst (pc := 75) C dX6_init_75 ci_m1 ?_
  refine r_putI (pc := 76) C fl_X6_34_6 (by exact hT8a.2.1) rfl (fun _ _ _ h => by cases h; exact Or.inl rfl) rfl rfl rfl dX6_init_76 ?_
  refine r_genA fun F8 hF => ?_
  have hT8 : TI A F8 t 8 τ1 := by rw [hτ1, hF, hT8a.2.2.1]; exact hT8a.sI
  clear hF
  refine r_aload_0 (pc := 79) C dX6_init_79 ?_
  refine r_bipush (pc := 80) C dX6_init_80 cb_90 ?_
  refine r_newI (pc := 82) C 109 (0) (Nat.zero_le _) rfl q334 rfl (by omega) (by omega) (by omega) dX6_init_82 ?_
  have hg8 : ((F8.mk 109 0 90).G t).1 = 6 := by rw [mk_G, if_neg (by have := hT8.1; omega)]; exact hT8.2.1
  refine r_putR (pc := 84) C fl_X6_38_6 (by exact hg8) rfl (fun _ _ _ h => by cases h; exact Or.inr ⟨rfl, hnm⟩) rfl dX6_init_84 ?_
  refine r_genA fun F9 hF => ?_
  have hT9 : TI A F9 t 9 τ1 := by rw [hF]; exact hT8.step (by decide) rfl rfl rfl
  clear hF
  refine r_aload_0 (pc := 87) C dX6_init_87 ?_
  refine r_bipush (pc := 88) C dX6_init_88 cb_120 ?_
  refine r_newI (pc := 90) C 110 (0) (Nat.zero_le _) rfl q334 rfl (by omega) (by omega) (by omega) dX6_init_90 ?_
  have hg9 : ((F9.mk 110 0 120).G t).1 = 6 := by rw [mk_G, if_neg (by have := hT9.1; omega)]; exact hT9.2.1
  refine r_putR (pc := 92) C fl_X6_41_6 (by exact hg9) rfl (fun _ _ _ h => by cases h; exact Or.inr ⟨rfl, hnm⟩) rfl dX6_init_92 ?_
  refine r_genA fun F10 hF => ?_
  have hT10 : TI A F10 t 10 τ1 := by rw [hF]; exact hT9.step (by decide) rfl rfl rfl
  clear hF
  have hTw := hT10.tw
  refine r_ldcS (pc := 95) C hq0 dX6_init_95 ?_
  refine r_astore_1 (pc := 97) C dX6_init_97 rfl ?_
  refine r_iconst (pc := 98) C dX6_init_98 ci_0 ?_
  refine r_istore_2 (pc := 99) C dX6_init_99 rfl ?_
  have lp100_1 : ∀ (fu : Nat) (i : Nat) (φ : Rw) (hi : i ≤ 154) (hφ : ∀ k, k < i → φ k = nI (plB k)), 154 - i < fu → wa g z 10 8000 ((F10.sI (t + 8) φ)) 100 [some (.ref t), some (.ref q9), some (.int (nI (i)))] [] := by
    intro fu
    induction fu with
    | zero => intro i  φ  hi hφ hm100; exact absurd hm100 (Nat.not_lt_zero _)
    | succ fu ih100 =>
      intro i  φ  hi hφ hm100
      refine r_old (A := (F10.sI (t + 8) φ)) fun hoi => ?_
      have hS := hq1.old hq2 hq3 hoi
      refine r_iload_2 (pc := 100) C dX6_init_100 ?_
      refine r_aload_1 (pc := 101) C dX6_init_101 ?_
      refine r_V0io (pc := 102) C (j_J10_length hz hS) vl_X6_46 hS.g (by decide) (by omega) (by omega) (Nat.le_of_ble_eq_true rfl) rfl dX6_init_102 (fun u2 A2 hc2 => ?_)
      refine r_top hc2.1 ?_
      refine r_eqA hc2.2 ?_
      clear hc2 A2 u2
      refine r_icmp_ge (pc := 105) (tgt := 125) C dX6_init_105 (by decide) (fun b105 => ?_) (fun b105 => ?_)
      · skip
        have b105 := (nI_le2 (by omega) (by omega)).mp b105
        refine r_aload_0 (pc := 125) C dX6_init_125 ?_
        refine r_aload_1 (pc := 126) C dX6_init_126 ?_
        refine r_V0io (pc := 127) C (j_J10_length hz hS) vl_X6_46 hS.g (by decide) (by omega) (by omega) (Nat.le_of_ble_eq_true rfl) rfl dX6_init_127 (fun u3 A3 hc3 => ?_)
        refine r_top hc3.1 ?_
        refine r_eqA hc3.2 ?_
        clear hc3 A3 u3
        refine r_putI (pc := 130) C fl_X6_56_6 (by exact hT10.2.1) rfl (fun _ _ _ h => by cases h; exact Or.inl rfl) rfl rfl rfl dX6_init_130 ?_
        have hi9 : i = 154 := by omega
        subst hi9
        have hH : ((F10.sI (t + 8) φ).sI t (upd ((F10.sI (t + 8) φ).I t) 12 (nI 154))) = S5 (F10.sI (t + 8) φ) t pZ pZ pZ (stT (upd τ1 12 (nI 154)) 0 0 0 0 (upd τ1 12 (nI 154) 17)) := by rw [sI_o _ _ (by omega), hT10.2.2.1]; exact tw_S5 hT10 (fun j h1 h2 => by rw [pk_un (by omega), hτ1, pk_un (by omega)]; exact h00 j h1 h2)
        refine r_eqA hH ?_
        refine r_old fun hoH => ?_
        refine r_aload_0 (pc := 133) C dX6_init_133 ?_
        refine r_V0io (pc := 134) C (m_readText (A := F10.sI (t + 8) φ) (by exact hTw) (B := plB) (L := 154) ⟨by decide, fun k hk => by rw [sI_s]; exact ⟨hφ k hk, pl_255 k hk⟩⟩ (by exact pk_us) (hK _ hoi)) vl_X6_58 (by exact tw_g hTw) (by decide) (by omega) (by omega) (Nat.le_of_ble_eq_true rfl) rfl dX6_init_134 (fun u4 A4 hc4 => ?_)
        obtain ⟨κ2, m2, hE, -⟩ := hc4
        rw [p_rd] at hE
        obtain ⟨-, -, hA9⟩ := hE pS_e10
        refine r_istore_2 (pc := 137) C dX6_init_137 rfl ?_
        refine r_vret (pc := 138) C E (by omega) (by omega) dX6_init_138 ?_
        exact ⟨F10, φ, κ2, m2, _, hT10, hφ, rfl, hA9⟩
      · skip
        have b105 := (not_congr (nI_le2 (by omega) (by omega))).mp b105
        refine r_aload_0 (pc := 108) C dX6_init_108 ?_
        refine r_getR (pc := 109) C fl_X6_31_6 (by exact hT10.2.1) rfl (by exact tw_r8 hTw) dX6_init_109 ?_
        refine r_iload_2 (pc := 112) C dX6_init_112 ?_
        refine r_aload_1 (pc := 113) C dX6_init_113 ?_
        refine r_iload_2 (pc := 114) C dX6_init_114 ?_
        refine r_V1io (pc := 115) C (j_J10_charAt hz hS (k := i) (by omega)) vl_X6_52 hS.g (by decide) (by omega) (by omega) (Nat.le_of_ble_eq_true rfl) rfl dX6_init_115 (fun u5 A5 hc5 => ?_)
        refine r_top hc5.1 ?_
        refine r_eqA hc5.2 ?_
        clear hc5 A5 u5
        refine r_iast (pc := 118) C (by exact tw_g8 hTw) rfl rfl (lt_eq (by omega) (show _ = 900 from tw_n8 hTw)) (by omega) dX6_init_118 ?_
        refine r_eqA (by rw [sI_s, sI_sI]) ?_
        refine r_iinc_2 (pc := 119) C dX6_init_119 (nI_inc _) rfl ?_
        refine r_goto (pc := 122) (tgt := 100) C dX6_init_122 (by decide) ?_
        exact ih100 (i + 1) (upd φ i (nI (plB i))) (by omega) (fun k hk => by by_cases w : k = i; (rw [w, pk_us]); (rw [pk_un w]; exact hφ k (by omega))) (by omega)
  refine r_widen (k' := 10) (n' := 8000) (by omega) (by omega) ?_
  refine r_eqA (show F10 = F10.sI (t + 8) (F10.I (t + 8)) by rw [sI_self]) ?_
  exact lp100_1 _ 0 (F10.I (t + 8)) (Nat.zero_le _) (fun k hk => absurd hk (Nat.not_lt_zero _)) (Nat.lt_succ_self _)
