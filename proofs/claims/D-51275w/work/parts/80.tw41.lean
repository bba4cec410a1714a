/-! THE REFERENCE, 41: orders, done -/
set_option maxRecDepth 100000
/-- an order as it was told -/
abbrev told3 (f : Rw) (o k a b : Nat) : Prop := f o = nI k ∧ f (o + 1) = nI a ∧ (k ≠ 0 → k ≠ 6 → f (o + 2) = nI b)
theorem fndN_lt6 {σ : Rw} {B : Nat → Nat} {L : Nat} {but : Int32} {s : TS} (hN : NumI σ) : fndN σ B L False but s < 6 := by
  unfold fndN
  split
  · unfold fndR
    cases namR B L s.a with
    | inl e => show 0 < 6; omega
    | inr p =>
      simp only
      cases hh : hereR σ B False p (wln B L p) with
      | none => show 0 < 6; omega
      | some k =>
        have := hereR_lt hN hh
        simp only
        split
        · show 0 < 6; omega
        · show k < 6; omega
  · omega
def TOKS (f : Rw) (m : Nat) : Prop := ∀ d, d < m → ∃ k a b, told3 f (3 * d) k a b ∧ OrdV k a b
theorem TOKS.step {σ : Rw} {B : Nat → Nat} {L m : Nat} {f : Rw} {s : TS} (hN : NumI σ) (h : TOKS f m) : TOKS (ordF σ B L m f s) (ordM B L m s) := by
  unfold ordF ordM
  by_cases q : (or1 B L m s).e = 0
  · rw [if_pos q, if_pos q]
    obtain ⟨h30, ⟨k, hk, hk7⟩, h0⟩ := or1_e q
    rw [hk]
    show TOKS (prtF σ B L k (upd f (3 * m) (nI k)) (3 * m + 1) (goesS (or1 B L m s))) (m + 1)
    have hx : ∀ j, j < 3 * m → prtF σ B L k (upd f (3 * m) (nI k)) (3 * m + 1) (goesS (or1 B L m s)) j = f j := fun j hj => by
      unfold prtF
      split
      · rw [pk_un (by omega), pk_un (by omega)]
      · split
        · rw [pk_un (by omega), pk_un (by omega), pk_un (by omega)]
        · split
          · rw [pk_un (by omega), pk_un (by omega)]
          · rw [pk_un (by omega), pk_un (by omega), pk_un (by omega)]
    intro d hd
    by_cases e : d = m
    · subst e
      have n1 := numN_in (B := B) (L := L) (lo := 1) (hi := 60) (s := goesS (or1 B L d s)) (by omega)
      have n2 := fndN_lt6 (B := B) (L := L) (but := -1) (s := goesS (or1 B L d s)) hN
      have n3 := numN_in (B := B) (L := L) (lo := 0) (hi := 9) (s := fndS σ B L False (-1) (goesS (or1 B L d s))) (by omega)
      have n4 := numN_in (B := B) (L := L) (lo := 0) (hi := 9) (s := goesS (or1 B L d s)) (by omega)
      have n5 := numN_in (B := B) (L := L) (lo := 0) (hi := 7) (s := numS B L 0 9 (goesS (or1 B L d s))) (by omega)
      unfold prtF
      by_cases k0 : k = 0
      · rw [if_pos k0]
        exact ⟨k, _, 0, ⟨(pk_un (by omega)).trans pk_us, pk_us, fun z => absurd k0 z⟩, hk7, fun _ => n1.2, fun z => by omega, fun z => by omega, fun z => by omega⟩
      · rw [if_neg k0]
        by_cases k5 : k = 5
        · rw [if_pos k5]
          exact ⟨k, _, _, ⟨(pk_un (by omega)).trans ((pk_un (by omega)).trans pk_us), (pk_un (by omega)).trans pk_us, fun _ _ => pk_us⟩, hk7, fun z => by omega, fun z => by omega, fun _ => ⟨n2, n3.2⟩, fun z => by omega⟩
        · rw [if_neg k5]
          by_cases k6 : k = 6
          · rw [if_pos k6]
            exact ⟨k, _, 0, ⟨(pk_un (by omega)).trans pk_us, pk_us, fun _ z => absurd k6 z⟩, hk7, fun z => by omega, fun z => by omega, fun z => by omega, fun _ => n2⟩
          · rw [if_neg k6]
            exact ⟨k, _, _, ⟨(pk_un (by omega)).trans ((pk_un (by omega)).trans pk_us), (pk_un (by omega)).trans pk_us, fun _ _ => pk_us⟩, hk7, fun z => by omega, fun _ _ => ⟨by omega, by omega⟩, fun z => by omega, fun z => by omega⟩
    · obtain ⟨k', a, b, ⟨t1, t2, t3⟩, hv⟩ := h d (by omega)
      exact ⟨k', a, b, ⟨(hx _ (by omega)).trans t1, (hx _ (by omega)).trans t2, fun z1 z2 => (hx _ (by omega)).trans (t3 z1 z2)⟩, hv⟩
  · rw [if_neg q, if_neg q]; exact h
theorem ordM_le {B : Nat → Nat} {L m : Nat} {s : TS} (h : m ≤ 30) : ordM B L m s ≤ 30 := by
  unfold ordM
  split
  · rename_i q; have := (or1_e q).1; omega
  · exact h
/-- an order, out of what was told -/
noncomputable def ordX (f : Rw) (d : Nat) (σ : Rw) : Int32 × Rw := ordD σ (f (3 * d)).toNatClampNeg (f (3 * d + 1)).toNatClampNeg (f (3 * d + 2)).toNatClampNeg
/-- orders, done one after the other until one is refused: d are done so far -/
noncomputable def doO (f : Rw) : Nat → Nat → Rw → Nat × Rw
  | 0, d, σ => (d, σ)
  | n + 1, d, σ => if (ordX f d σ).1 < 0 then (d, (ordX f d σ).2) else doO f n (d + 1) (ordX f d σ).2
theorem ordX_eq {f : Rw} {d : Nat} {σ : Rw} {k a b : Nat} (h : told3 f (3 * d) k a b) (hv : OrdV k a b) : ordX f d σ = ordD σ k a b := by
  obtain ⟨h1, h2, h3⟩ := h
  obtain ⟨h7, v0, v1, v5, v6⟩ := hv
  unfold ordX
  have hk : (f (3 * d)).toNatClampNeg = k := by rw [h1]; exact nI_nat (by omega)
  have ha : (f (3 * d + 1)).toNatClampNeg = a := by
    rw [h2]
    refine nI_nat ?_
    rcases (show k = 0 ∨ (1 ≤ k ∧ k ≤ 4) ∨ k = 5 ∨ k = 6 by omega) with e | e | e | e
    · have := v0 e; omega
    · have := (v1 e.1 e.2).1; omega
    · have := (v5 e).1; omega
    · have := v6 e; omega
  rw [hk, ha]
  by_cases k0 : k = 0
  · unfold ordD; rw [if_pos k0, if_pos k0]
  · by_cases k6 : k = 6
    · have e6 : ∀ x, ordD σ k a x = turnC σ a := fun x => by unfold ordD; rw [if_neg (by omega), if_neg (by omega), if_neg (by omega), if_neg (by omega), if_neg (by omega), if_neg (by omega)]
      rw [e6, e6]
    · have hb : (f (3 * d + 2)).toNatClampNeg = b := by
        rw [h3 k0 k6]
        refine nI_nat ?_
        rcases (show (1 ≤ k ∧ k ≤ 4) ∨ k = 5 by omega) with e | e
        · have := (v1 e.1 e.2).2; omega
        · have := (v5 e).2; omega
      rw [hb]
theorem ordK_n {B : Nat → Nat} {L : Nat} {s : TS} : ordK B L (nextS B L s) = ordK B L s := by
  unfold ordK
  simp only [sees_next]
theorem or1_n {B : Nat → Nat} {L m : Nat} {s : TS} : or1 B L m (nextS B L s) = or1 B L m s := by
  unfold or1
  rw [ordK_n, next_next]
theorem ord_nF {σ : Rw} {B : Nat → Nat} {L m : Nat} {f : Rw} {s : TS} : ordF σ B L m f (nextS B L s) = ordF σ B L m f s := by
  unfold ordF
  rw [ordK_n, or1_n]
theorem ord_nS {σ : Rw} {B : Nat → Nat} {L m : Nat} {s : TS} : ordS σ B L m (nextS B L s) = ordS σ B L m s := by
  unfold ordS
  rw [ordK_n, or1_n]
theorem ord_nM {B : Nat → Nat} {L m : Nat} {s : TS} : ordM B L m (nextS B L s) = ordM B L m s := by
  unfold ordM
  rw [or1_n]
/-- the twin's numbers but the way's length -/
abbrev no10 (τ τ' : Rw) : Prop := ∀ j, j ≠ 10 → τ' j = τ j
set_option maxHeartbeats 4000000 in
theorem m_doesOne {g : GZ} {A : HA} {t : Nat} {σ κ π τ : Nat → Int32} (hT : Tw A t) {f : Rw} {k a b o : Nat} (hf : A.I (t + 9) = f) (h3 : told3 f o k a b) (hv : OrdV k a b) (ho : o < 88) (hR : RowN σ) : Ct g wI yX6_doesOne (.code yX6_doesOne cX6_doesOne 4 (Option.some Jvm.ClassFile.FieldType.int)) 11 0 0 [.ref t, .int (nI (o))] (S5 A t σ κ π τ) (fun u A' => (∃ κ' π' τ', A' = S5 A t (ordD σ k a b).2 κ' π' τ' ∧ no10 τ τ') ∧ u = (ordD σ k a b).1) fw_no := by
  refine Ct.of [some (.ref t), some (.int (nI (o))), none, none] (by decide) rfl rfl fun z C hx hnm E => ?_
  have hW := hR.1.w
  have hy := hR.1.y
  have hCc := hR.1.1.2.2.1
  obtain ⟨t1, t2, t3⟩ := h3
  obtain ⟨h7, v0, v1, v5, v6⟩ := hv
  refine r_aload_0 (pc := 0) C dX6_doesOne_0 ?_
  refine r_getR (pc := 1) C fl_X6_38_6 (tw_g hT) rfl (tw_r9 hT) dX6_doesOne_1 ?_
  refine r_iload_1 (pc := 4) C dX6_doesOne_4 ?_
  refine r_iconst (pc := 5) C dX6_doesOne_5 ci_1 ?_
  refine r_iadd (pc := 6) C dX6_doesOne_6 ?_
  refine r_top (nI_add _ _) ?_
  refine r_iald (pc := 7) C (tw_g9 hT) rfl rfl (lt_eq (by omega) (tw_n9 hT)) (by omega) dX6_doesOne_7 ?_
  refine r_top (congrFun (S5_x _ _ _ _ _ _ (by omega) (by omega) (by omega) (by omega)) _) ?_
  refine r_top ((congrFun hf _).trans t2) ?_
  refine r_istore_2 (pc := 8) C dX6_doesOne_8 rfl ?_
  refine r_aload_0 (pc := 9) C dX6_doesOne_9 ?_
  refine r_getR (pc := 10) C fl_X6_38_6 (tw_g hT) rfl (tw_r9 hT) dX6_doesOne_10 ?_
  refine r_iload_1 (pc := 13) C dX6_doesOne_13 ?_
  refine r_iconst (pc := 14) C dX6_doesOne_14 ci_2 ?_
  refine r_iadd (pc := 15) C dX6_doesOne_15 ?_
  refine r_top (nI_add _ _) ?_
  refine r_iald (pc := 16) C (tw_g9 hT) rfl rfl (lt_eq (by omega) (tw_n9 hT)) (by omega) dX6_doesOne_16 ?_
  refine r_top (congrFun (S5_x _ _ _ _ _ _ (by omega) (by omega) (by omega) (by omega)) _) ?_
  refine r_top (congrFun hf _) ?_
  refine r_istore_3 (pc := 17) C dX6_doesOne_17 rfl ?_
  refine r_aload_0 (pc := 18) C dX6_doesOne_18 ?_
  refine r_getR (pc := 19) C fl_X6_38_6 (tw_g hT) rfl (tw_r9 hT) dX6_doesOne_19 ?_
  refine r_iload_1 (pc := 22) C dX6_doesOne_22 ?_
  refine r_iald (pc := 23) C (tw_g9 hT) rfl rfl (lt_eq (by omega) (tw_n9 hT)) (by omega) dX6_doesOne_23 ?_
  refine r_top (congrFun (S5_x _ _ _ _ _ _ (by omega) (by omega) (by omega) (by omega)) _) ?_
  refine r_top ((congrFun hf _).trans t1) ?_
  by_cases w24_0 : k = 0
  · skip
    subst w24_0
    refine r_tableIn (pc := 24) (tgt := 64) (off := 40) C dX6_doesOne_24 (by decide +kernel) (by decide +kernel) (by decide +kernel) (by decide) ?_
    refine r_aload_0 (pc := 64) C dX6_doesOne_64 ?_
    refine r_iload_2 (pc := 65) C dX6_doesOne_65 ?_
    refine r_V1io (pc := 66) C (m_runNow (by exact hT) hW hy (v0 rfl) hR.2) vl_X6_348 (tw_g hT) (by decide) (Nat.le_refl _) (Nat.le_refl _) (Nat.le_of_ble_eq_true rfl) rfl dX6_doesOne_66 (fun u1 A1 hc1 => ?_)
    obtain ⟨⟨κL, πL, m9, eA⟩, eu⟩ := hc1
    refine r_top eu ?_
    refine r_eqA eA ?_
    clear eA eu A1 u1
    refine r_iret (pc := 69) C E rfl (Nat.le_refl _) (Nat.le_refl _) dX6_doesOne_69 ?_
    exact ⟨⟨_, _, _, rfl, fun j hj => pk_un hj⟩, rfl⟩
  by_cases w24_1 : k = 1
  · skip
    subst w24_1
    refine r_tableIn (pc := 24) (tgt := 70) (off := 46) C dX6_doesOne_24 (by decide +kernel) (by decide +kernel) (by decide +kernel) (by decide) ?_
    refine r_eqL (lv' := [some (.ref t), some (.int (nI o)), some (.int (nI a)), some (.int (nI b))]) (by rw [t3 (by omega) (by omega)]) ?_
    refine r_aload_0 (pc := 70) C dX6_doesOne_70 ?_
    refine r_iload_2 (pc := 71) C dX6_doesOne_71 ?_
    refine r_iload_3 (pc := 72) C dX6_doesOne_72 ?_
    refine r_V2io (pc := 73) C (m_fenceNow (by exact hT) hW hCc (by have := (v1 (by omega) (by omega)).1; omega) (by have := (v1 (by omega) (by omega)).2; omega)) vl_X6_351 (tw_g hT) (by decide) (Nat.le_refl _) (Nat.le_refl _) (Nat.le_of_ble_eq_true rfl) rfl dX6_doesOne_73 (fun u2 A2 hc2 => ?_)
    obtain ⟨⟨κL, eA⟩, eu⟩ := hc2
    refine r_top eu ?_
    refine r_eqA eA ?_
    clear eA eu A2 u2
    refine r_iret (pc := 76) C E rfl (Nat.le_refl _) (Nat.le_refl _) dX6_doesOne_76 ?_
    exact ⟨⟨_, _, _, rfl, fun j hj => rfl⟩, rfl⟩
  by_cases w24_2 : k = 2
  · skip
    subst w24_2
    refine r_tableIn (pc := 24) (tgt := 77) (off := 53) C dX6_doesOne_24 (by decide +kernel) (by decide +kernel) (by decide +kernel) (by decide) ?_
    refine r_eqL (lv' := [some (.ref t), some (.int (nI o)), some (.int (nI a)), some (.int (nI b))]) (by rw [t3 (by omega) (by omega)]) ?_
    refine r_aload_0 (pc := 77) C dX6_doesOne_77 ?_
    refine r_iload_2 (pc := 78) C dX6_doesOne_78 ?_
    refine r_iload_3 (pc := 79) C dX6_doesOne_79 ?_
    refine r_V2io (pc := 80) C (m_openNow (by exact hT) hW (by have := (v1 (by omega) (by omega)).1; omega) (by have := (v1 (by omega) (by omega)).2; omega)) vl_X6_354 (tw_g hT) (by decide) (Nat.le_refl _) (Nat.le_refl _) (Nat.le_of_ble_eq_true rfl) rfl dX6_doesOne_80 (fun u3 A3 hc3 => ?_)
    refine r_top hc3.1 ?_
    refine r_eqA hc3.2 ?_
    clear hc3 A3 u3
    refine r_iret (pc := 83) C E rfl (Nat.le_refl _) (Nat.le_refl _) dX6_doesOne_83 ?_
    exact ⟨⟨_, _, _, rfl, fun j hj => rfl⟩, rfl⟩
  by_cases w24_3 : k = 3
  · skip
    subst w24_3
    refine r_tableIn (pc := 24) (tgt := 84) (off := 60) C dX6_doesOne_24 (by decide +kernel) (by decide +kernel) (by decide +kernel) (by decide) ?_
    refine r_eqL (lv' := [some (.ref t), some (.int (nI o)), some (.int (nI a)), some (.int (nI b))]) (by rw [t3 (by omega) (by omega)]) ?_
    refine r_aload_0 (pc := 84) C dX6_doesOne_84 ?_
    refine r_iload_2 (pc := 85) C dX6_doesOne_85 ?_
    refine r_iload_3 (pc := 86) C dX6_doesOne_86 ?_
    refine r_V2io (pc := 87) C (m_paveNow (by exact hT) hW (by have := (v1 (by omega) (by omega)).1; omega) (by have := (v1 (by omega) (by omega)).2; omega)) vl_X6_357 (tw_g hT) (by decide) (Nat.le_refl _) (Nat.le_refl _) (Nat.le_of_ble_eq_true rfl) rfl dX6_doesOne_87 (fun u4 A4 hc4 => ?_)
    refine r_top hc4.1 ?_
    refine r_eqA hc4.2 ?_
    clear hc4 A4 u4
    refine r_iret (pc := 90) C E rfl (Nat.le_refl _) (Nat.le_refl _) dX6_doesOne_90 ?_
    exact ⟨⟨_, _, _, rfl, fun j hj => rfl⟩, rfl⟩
  by_cases w24_4 : k = 4
  · skip
    subst w24_4
    refine r_tableIn (pc := 24) (tgt := 91) (off := 67) C dX6_doesOne_24 (by decide +kernel) (by decide +kernel) (by decide +kernel) (by decide) ?_
    refine r_eqL (lv' := [some (.ref t), some (.int (nI o)), some (.int (nI a)), some (.int (nI b))]) (by rw [t3 (by omega) (by omega)]) ?_
    refine r_aload_0 (pc := 91) C dX6_doesOne_91 ?_
    refine r_iload_2 (pc := 92) C dX6_doesOne_92 ?_
    refine r_iload_3 (pc := 93) C dX6_doesOne_93 ?_
    refine r_V2io (pc := 94) C (m_sowNow (by exact hT) hW (by have := (v1 (by omega) (by omega)).1; omega) (by have := (v1 (by omega) (by omega)).2; omega)) vl_X6_360 (tw_g hT) (by decide) (Nat.le_refl _) (Nat.le_refl _) (Nat.le_of_ble_eq_true rfl) rfl dX6_doesOne_94 (fun u5 A5 hc5 => ?_)
    refine r_top hc5.1 ?_
    refine r_eqA hc5.2 ?_
    clear hc5 A5 u5
    refine r_iret (pc := 97) C E rfl (Nat.le_refl _) (Nat.le_refl _) dX6_doesOne_97 ?_
    exact ⟨⟨_, _, _, rfl, fun j hj => rfl⟩, rfl⟩
  by_cases w24_5 : k = 5
  · skip
    subst w24_5
    refine r_tableIn (pc := 24) (tgt := 98) (off := 74) C dX6_doesOne_24 (by decide +kernel) (by decide +kernel) (by decide +kernel) (by decide) ?_
    refine r_eqL (lv' := [some (.ref t), some (.int (nI o)), some (.int (nI a)), some (.int (nI b))]) (by rw [t3 (by omega) (by omega)]) ?_
    refine r_aload_0 (pc := 98) C dX6_doesOne_98 ?_
    refine r_iload_2 (pc := 99) C dX6_doesOne_99 ?_
    refine r_iload_3 (pc := 100) C dX6_doesOne_100 ?_
    refine r_V2io (pc := 101) C (m_hasteNow (by exact hT) (v5 rfl).1) vl_X6_363 (tw_g hT) (by decide) (Nat.le_refl _) (Nat.le_refl _) (Nat.le_of_ble_eq_true rfl) rfl dX6_doesOne_101 (fun u6 A6 hc6 => ?_)
    refine r_top hc6.1 ?_
    refine r_eqA hc6.2 ?_
    clear hc6 A6 u6
    refine r_iret (pc := 104) C E rfl (Nat.le_refl _) (Nat.le_refl _) dX6_doesOne_104 ?_
    exact ⟨⟨_, _, _, rfl, fun j hj => rfl⟩, rfl⟩
  refine r_tableOut (pc := 24) (tgt := 105) C dX6_doesOne_24 (by rw [t_nI (by omega)]; omega) (by decide) ?_
  refine r_aload_0 (pc := 105) C dX6_doesOne_105 ?_
  refine r_iload_2 (pc := 106) C dX6_doesOne_106 ?_
  refine r_V1io (pc := 107) C (m_turnNow (by exact hT) (v6 (by omega))) vl_X6_366 (tw_g hT) (by decide) (Nat.le_refl _) (Nat.le_refl _) (Nat.le_of_ble_eq_true rfl) rfl dX6_doesOne_107 (fun u7 A7 hc7 => ?_)
  refine r_top hc7.1 ?_
  refine r_eqA hc7.2 ?_
  clear hc7 A7 u7
  refine r_iret (pc := 110) C E rfl (Nat.le_refl _) (Nat.le_refl _) dX6_doesOne_110 ?_
  have e6 : k = 6 := by omega
  subst e6
  exact ⟨⟨_, _, _, rfl, fun j hj => rfl⟩, rfl⟩
set_option maxHeartbeats 4000000 in
theorem m_runOrders {g : GZ} {A : HA} {t : Nat} {σ κ π τ : Nat → Int32} (hT : Tw A t) {a gb w e : Nat} {ep : Int32} {B : Nat → Nat} {L : Nat} (hB : BufI (A.I (t + 8)) B L) (hτL : τ 12 = nI L) {p : Nat} (hp : τ 5 = nI p) (h8 : p ≤ 8) (hR : RowN σ) (hK : TwK g A) : Ct g wI yX6_runOrders (.code yX6_runOrders cX6_runOrders 2 (Option.some Jvm.ClassFile.FieldType.int)) 12 0 0 [.ref t] (S5 A t σ κ π (stT τ a gb w e ep)) (fun u A' => ((rdO σ B L (L + 2) (A.I (t + 9)) 0 (0, 0, w, 0, -1)).2.2.e = 0 → ∃ κ' π' τ', u = nI (doO (rdO σ B L (L + 2) (A.I (t + 9)) 0 (0, 0, w, 0, -1)).1 (rdO σ B L (L + 2) (A.I (t + 9)) 0 (0, 0, w, 0, -1)).2.1 0 σ).1 ∧ A' = S5 ((A.sI (t + 9) (rdO σ B L (L + 2) (A.I (t + 9)) 0 (0, 0, w, 0, -1)).1).sI (t + 5) (pastR (A.I (t + 5)) p σ)) t (doO (rdO σ B L (L + 2) (A.I (t + 9)) 0 (0, 0, w, 0, -1)).1 (rdO σ B L (L + 2) (A.I (t + 9)) 0 (0, 0, w, 0, -1)).2.1 0 σ).2 κ' π' τ' ∧ no10 (stS (upd (tolT (upd τ 22 (nI (rdO σ B L (L + 2) (A.I (t + 9)) 0 (0, 0, w, 0, -1)).2.1)) (rdO σ B L (L + 2) (A.I (t + 9)) 0 (0, 0, w, 0, -1)).2.2) 5 (nI (pastM p))) (rdO σ B L (L + 2) (A.I (t + 9)) 0 (0, 0, w, 0, -1)).2.2) τ' ∧ RowN (doO (rdO σ B L (L + 2) (A.I (t + 9)) 0 (0, 0, w, 0, -1)).1 (rdO σ B L (L + 2) (A.I (t + 9)) 0 (0, 0, w, 0, -1)).2.1 0 σ).2 ∧ TOKS (rdO σ B L (L + 2) (A.I (t + 9)) 0 (0, 0, w, 0, -1)).1 (rdO σ B L (L + 2) (A.I (t + 9)) 0 (0, 0, w, 0, -1)).2.1 ∧ (rdO σ B L (L + 2) (A.I (t + 9)) 0 (0, 0, w, 0, -1)).2.1 ≤ 30) ∧ (¬ (rdO σ B L (L + 2) (A.I (t + 9)) 0 (0, 0, w, 0, -1)).2.2.e = 0 → u = nI 0 ∧ A' = S5 (A.sI (t + 9) (rdO σ B L (L + 2) (A.I (t + 9)) 0 (0, 0, w, 0, -1)).1) t σ κ π (stS (tolT (upd τ 22 (nI (rdO σ B L (L + 2) (A.I (t + 9)) 0 (0, 0, w, 0, -1)).2.1)) (rdO σ B L (L + 2) (A.I (t + 9)) 0 (0, 0, w, 0, -1)).2.2) (rdO σ B L (L + 2) (A.I (t + 9)) 0 (0, 0, w, 0, -1)).2.2))) fw_no := by
  refine Ct.of [some (.ref t), none] (by decide) rfl rfl fun z C hx hnm E => ?_
  have hBl := hB.l
  have hN : NumI σ := hR.1.w.num
  have hB8 : ∀ f2 : Rw, BufI ((A.sI (t + 9) f2).I (t + 8)) B L := fun f2 => by rw [sI_o _ _ (by omega)]; exact hB
  have hK9 : ∀ f2 : Rw, TwK g (A.sI (t + 9) f2) := fun f2 => hK.sI3 hT (Or.inr (Or.inr (Or.inr (tw_g9 hT)))) _
  refine r_aload_0 (pc := 0) C dX6_runOrders_0 ?_
  refine r_V0vo (pc := 1) C (m_startsText (by exact hT)) vl_X6_302 (tw_g hT) (by decide) (Nat.le_refl _) (Nat.le_refl _) (Nat.le_of_ble_eq_true rfl) rfl dX6_runOrders_1 (fun u1 A1 hc1 => ?_)
  refine r_eqA hc1 ?_
  clear hc1 A1 u1
  refine r_aload_0 (pc := 4) C dX6_runOrders_4 ?_
  refine r_iconst (pc := 5) C dX6_runOrders_5 ci_0 ?_
  refine r_putI (pc := 6) C fl_X6_342_6 (tw_g hT) rfl (fun _ _ _ h => by cases h; exact Or.inl rfl) rfl rfl rfl dX6_runOrders_6 ?_
  refine r_eqA (S5_u0 _ _ _ _ _ _ _ _) ?_
  refine r_eqA (congrArg (S5 _ t _ _ _) (st_ux _ _ _ _ _ _ (by decide))) ?_
  refine r_eqA (A' := S5 (A.sI (t + 9) ((A.I (t + 9)))) t σ κ π (stS (upd τ 22 (nI 0)) ((0, 0, w, 0, -1)))) (by rw [sI_self]; rfl) ?_
  have lp9_2 : ∀ (fu : Nat) (n m1 : Nat) (f1 : Rw) (s1 : TS) (hal : s1.e = 0 → s1.a ≤ L) (he : s1.e ≤ 4) (hm3 : m1 ≤ 30) (hTk : TOKS f1 m1) (hn : s1.e = 0 → L - s1.a < n) (hRR : rdO σ B L (L + 2) (A.I (t + 9)) 0 (0, 0, w, 0, -1) = rdO σ B L n f1 m1 s1), n < fu → wa g z 0 0 (S5 (A.sI (t + 9) (f1)) t σ κ π (stS (upd τ 22 (nI m1)) (s1))) 9 [some (.ref t), none] [] := by
    intro fu
    induction fu with
    | zero => intro n m1  f1  s1  hal he hm3 hTk hn hRR hm9; exact absurd hm9 (Nat.not_lt_zero _)
    | succ fu ih9 =>
      intro n m1  f1  s1  hal he hm3 hTk hn hRR hm9
      have hτm : (upd τ 22 (nI m1)) 12 = nI L := (pk_un (by omega)).trans hτL
      refine r_aload_0 (pc := 9) C dX6_runOrders_9 ?_
      refine r_getI (pc := 10) C fl_X6_208_6 (tw_g hT) rfl dX6_runOrders_10 ?_
      refine r_top (congrFun (S5_0 _ _ _ _ _ _) _) ?_
      refine r_top (st_16 _ _ _ _ _ _) ?_
      refine r_if_ne (pc := 13) (tgt := 31) C dX6_runOrders_13 (by decide) (fun b13 => ?_) (fun b13 => ?_)
      · skip
        have b13 := (not_congr (nI_eq0 (by omega))).mp b13
        refine r_aload_0 (pc := 31) C dX6_runOrders_31 ?_
        refine r_aload_0 (pc := 32) C dX6_runOrders_32 ?_
        refine r_V0io (pc := 33) C (m_endsText (by exact hT) (by first | exact he | exact ht1.e)) vl_X6_315 (tw_g hT) (by decide) (Nat.le_refl _) (Nat.le_refl _) (Nat.le_of_ble_eq_true rfl) rfl dX6_runOrders_33 (fun u3 A3 hc3 => ?_)
        refine r_top hc3.1 ?_
        refine r_eqA hc3.2 ?_
        clear hc3 A3 u3
        refine r_V1io (pc := 36) C (m_passes (by exact hT)) vl_X6_186 (tw_g hT) (by decide) (Nat.le_refl _) (Nat.le_refl _) (Nat.le_of_ble_eq_true rfl) rfl dX6_runOrders_36 (fun u4 A4 hc4 => ?_)
        refine r_top hc4.1 ?_
        refine r_eqA (hc4.2.trans (by rw [S5_0, S5_w0])) ?_
        clear hc4 A4 u4
        refine r_eqA (congrArg (S5 _ t _ _ _) (st_ux _ _ _ _ _ _ (by decide))) ?_
        refine r_if_ne (pc := 39) (tgt := 44) C dX6_runOrders_39 (by decide) (fun b39 => ?_) (fun b39 => ?_)
        · skip
          have b39 := bI_n.mp b39
          exact absurd b39 b13
        · skip
          have b39 := bI_0.mp b39
          refine r_iconst (pc := 42) C dX6_runOrders_42 ci_0 ?_
          refine r_iret (pc := 43) C E rfl (Nat.le_refl _) (Nat.le_refl _) dX6_runOrders_43 ?_
          have hF := hRR.trans (ro_e b13)
          rw [hF]
          exact ⟨fun q => absurd q b13, fun _ => ⟨rfl, rfl⟩⟩
      · skip
        have b13 := (nI_eq0 (by omega)).mp b13
        have h0 : s1.e = 0 := b13
        have ht1 : TOk L (nextS B L s1) := nextS_ok0 (hal h0) he
        have hto2 : TOk L (ordS σ B L m1 s1) := by rw [← ord_nS]; exact ordS_ok ht1
        obtain ⟨n, rfl⟩ : ∃ j, n = j + 1 := ⟨n - 1, by have := hn h0; omega⟩
        refine r_aload_0 (pc := 16) C dX6_runOrders_16 ?_
        refine r_V0io (pc := 17) C (m_next (by exact hT) (hB8 _) hτm (by have := hal h0; omega)) vl_X6_214 (tw_g hT) (by decide) (Nat.le_refl _) (Nat.le_refl _) (Nat.le_of_ble_eq_true rfl) rfl dX6_runOrders_17 (fun u5 A5 hc5 => ?_)
        refine r_top hc5.1 ?_
        refine r_eqA (A' := S5 (A.sI (t + 9) (f1)) t σ κ π (stS (upd τ 22 (nI m1)) (nextS B L s1))) hc5.2 ?_
        clear hc5 A5 u5
        refine r_iconst (pc := 20) C dX6_runOrders_20 ci_m1 ?_
        refine r_icmp_eq (pc := 21) (tgt := 31) C dX6_runOrders_21 (by decide) (fun b21 => ?_) (fun b21 => ?_)
        · skip
          have h4 : btO B L (skp B L s1.a) = none := by
            cases hq : btO B L (skp B L s1.a) with
            | none => rfl
            | some v => rw [hq] at b21; exact absurd b21 (nI_m1 (by have := btO_le hB hq; omega))
          refine r_aload_0 (pc := 31) C dX6_runOrders_31 ?_
          refine r_aload_0 (pc := 32) C dX6_runOrders_32 ?_
          refine r_V0io (pc := 33) C (m_endsText (by exact hT) (by first | exact he | exact ht1.e)) vl_X6_315 (tw_g hT) (by decide) (Nat.le_refl _) (Nat.le_refl _) (Nat.le_of_ble_eq_true rfl) rfl dX6_runOrders_33 (fun u6 A6 hc6 => ?_)
          refine r_top hc6.1 ?_
          refine r_eqA hc6.2 ?_
          clear hc6 A6 u6
          refine r_V1io (pc := 36) C (m_passes (by exact hT)) vl_X6_186 (tw_g hT) (by decide) (Nat.le_refl _) (Nat.le_refl _) (Nat.le_of_ble_eq_true rfl) rfl dX6_runOrders_36 (fun u7 A7 hc7 => ?_)
          refine r_top hc7.1 ?_
          refine r_eqA (hc7.2.trans (by rw [S5_0, S5_w0])) ?_
          clear hc7 A7 u7
          refine r_eqA (congrArg (S5 _ t _ _ _) (st_ux _ _ _ _ _ _ (by decide))) ?_
          refine r_if_ne (pc := 39) (tgt := 44) C dX6_runOrders_39 (by decide) (fun b39 => ?_) (fun b39 => ?_)
          · skip
            have b39 := bI_n.mp b39
            have hp5 : stS (tolT (upd τ 22 (nI m1)) (nextS B L s1)) (nextS B L s1) 5 = nI p := (st_x _ _ _ _ _ _ (by omega)).trans ((pk_un (by omega)).trans ((pk_un (by omega)).trans ((pk_un (by omega)).trans ((pk_un (by omega)).trans ((pk_un (by omega)).trans hp)))))
            refine r_aload_0 (pc := 44) C dX6_runOrders_44 ?_
            refine r_aload_0 (pc := 45) C dX6_runOrders_45 ?_
            refine r_getR (pc := 46) C fl_X6_7_6 (tw_g hT) rfl (tw_r1 hT) dX6_runOrders_46 ?_
            refine r_V1vo (pc := 49) C (m_keeps1 (by exact hT) hp5 h8) vl_X6_372 (tw_g hT) (by decide) (Nat.le_refl _) (Nat.le_refl _) (Nat.le_of_ble_eq_true rfl) rfl dX6_runOrders_49 (fun u8 A8 hc8 => ?_)
            refine r_eqA (A' := S5 ((A.sI (t + 9) f1).sI (t + 5) (pastR (A.I (t + 5)) p σ)) t σ κ π (stS (upd (tolT (upd τ 22 (nI m1)) (nextS B L s1)) 5 (nI (pastM p))) (nextS B L s1))) (hc8.trans (by rw [sI_o _ _ (show t + 5 ≠ t + 9 by omega)]; exact congrArg (S5 _ t _ _ _) (st_ux _ _ _ _ _ _ (by decide)))) ?_
            clear hc8 A8 u8
            refine r_iconst (pc := 52) C dX6_runOrders_52 ci_0 ?_
            refine r_istore_1 (pc := 53) C dX6_runOrders_53 rfl ?_
            have lp54_9 : ∀ (fu : Nat) (d n : Nat) (σ1 κ1 π1 τ1 : Rw) (hdm : d + n = m1) (hRd : RowN σ1) (hτd : no10 (stS (upd (tolT (upd τ 22 (nI m1)) (nextS B L s1)) 5 (nI (pastM p))) (nextS B L s1)) τ1) (hDD : doO f1 m1 0 σ = doO f1 n d σ1), n < fu → wa g z 0 0 (S5 ((A.sI (t + 9) f1).sI (t + 5) (pastR (A.I (t + 5)) p σ)) t σ1 κ1 π1 τ1) 54 [some (.ref t), some (.int (nI (d)))] [] := by
              intro fu
              induction fu with
              | zero => intro d n  σ1 κ1 π1 τ1  hdm hRd hτd hDD hm54; exact absurd hm54 (Nat.not_lt_zero _)
              | succ fu ih54 =>
                intro d n  σ1 κ1 π1 τ1  hdm hRd hτd hDD hm54
                have hm22 : stS (upd (tolT (upd τ 22 (nI m1)) (nextS B L s1)) 5 (nI (pastM p))) (nextS B L s1) 22 = nI m1 := (st_x _ _ _ _ _ _ (by omega)).trans ((pk_un (by omega)).trans ((pk_un (by omega)).trans ((pk_un (by omega)).trans ((pk_un (by omega)).trans ((pk_un (by omega)).trans pk_us)))))
                refine r_iload_1 (pc := 54) C dX6_runOrders_54 ?_
                refine r_aload_0 (pc := 55) C dX6_runOrders_55 ?_
                refine r_getI (pc := 56) C fl_X6_342_6 (tw_g hT) rfl dX6_runOrders_56 ?_
                refine r_top (congrFun (S5_0 _ _ _ _ _ _) _) ?_
                refine r_top ((hτd 22 (by omega)).trans hm22) ?_
                refine r_icmp_ge (pc := 59) (tgt := 78) C dX6_runOrders_59 (by decide) (fun b59 => ?_) (fun b59 => ?_)
                · skip
                  have b59 := (nI_le2 (by omega) (by omega)).mp b59
                  refine r_iload_1 (pc := 78) C dX6_runOrders_78 ?_
                  refine r_iret (pc := 79) C E rfl (Nat.le_refl _) (Nat.le_refl _) dX6_runOrders_79 ?_
                  have hF := hRR.trans (ro_end h0 h4)
                  rw [hF]
                  refine ⟨fun _ => ?_, fun q => absurd h0 q⟩
                  dsimp only
                  first
                    | (obtain rfl : n = 0 := (by omega); have hD : doO f1 m1 0 σ = (d, σ1) := hDD; rw [hD]; exact ⟨κ1, π1, τ1, rfl, rfl, hτd, hRd, hTk, hm3⟩)
                    | (have hD : doO f1 m1 0 σ = (d, (ordX f1 d σ1).2) := hDD.trans (if_pos b69); rw [hD]; exact ⟨κ3, π3, τ3, rfl, rfl, fun j hj => (hτ3 j hj).trans (hτd j hj), by rw [hX]; exact ordD_N hRd hvd, hTk, hm3⟩)
                · skip
                  have b59 := (not_congr (nI_le2 (by omega) (by omega))).mp b59
                  obtain ⟨n, rfl⟩ : ∃ j, n = j + 1 := ⟨n - 1, by omega⟩
                  obtain ⟨k9, a9, b9, h3d, hvd⟩ := hTk d (by omega)
                  have hX : ordX f1 d σ1 = ordD σ1 k9 a9 b9 := ordX_eq h3d hvd
                  have hf9 : ((A.sI (t + 9) f1).sI (t + 5) (pastR (A.I (t + 5)) p σ)).I (t + 9) = f1 := by rw [sI_o _ _ (by omega), sI_s]
                  refine r_aload_0 (pc := 62) C dX6_runOrders_62 ?_
                  refine r_iconst (pc := 63) C dX6_runOrders_63 ci_3 ?_
                  refine r_iload_1 (pc := 64) C dX6_runOrders_64 ?_
                  refine r_imul (pc := 65) C dX6_runOrders_65 ?_
                  refine r_top (pk_mul _ _) ?_
                  refine r_V1io (pc := 66) C (m_doesOne (by exact hT) hf9 h3d hvd (by omega) hRd) vl_X6_376 (tw_g hT) (by decide) (Nat.le_refl _) (Nat.le_refl _) (Nat.le_of_ble_eq_true rfl) rfl dX6_runOrders_66 (fun u10 A10 hc10 => ?_)
                  obtain ⟨⟨κ3, π3, τ3, eA, hτ3⟩, eu⟩ := hc10
                  refine r_top (eu.trans (congrArg Prod.fst hX).symm) ?_
                  refine r_eqA (A' := S5 ((A.sI (t + 9) f1).sI (t + 5) (pastR (A.I (t + 5)) p σ)) t (ordX f1 d σ1).2 κ3 π3 τ3) (eA.trans (by rw [hX])) ?_
                  clear eu eA A10 u10
                  refine r_if_lt (pc := 69) (tgt := 78) C dX6_runOrders_69 (by decide) (fun b69 => ?_) (fun b69 => ?_)
                  · skip
                    refine r_iload_1 (pc := 78) C dX6_runOrders_78 ?_
                    refine r_iret (pc := 79) C E rfl (Nat.le_refl _) (Nat.le_refl _) dX6_runOrders_79 ?_
                    have hF := hRR.trans (ro_end h0 h4)
                    rw [hF]
                    refine ⟨fun _ => ?_, fun q => absurd h0 q⟩
                    dsimp only
                    first
                      | (obtain rfl : n = 0 := (by omega); have hD : doO f1 m1 0 σ = (d, σ1) := hDD; rw [hD]; exact ⟨κ1, π1, τ1, rfl, rfl, hτd, hRd, hTk, hm3⟩)
                      | (have hD : doO f1 m1 0 σ = (d, (ordX f1 d σ1).2) := hDD.trans (if_pos b69); rw [hD]; exact ⟨κ3, π3, τ3, rfl, rfl, fun j hj => (hτ3 j hj).trans (hτd j hj), by rw [hX]; exact ordD_N hRd hvd, hTk, hm3⟩)
                  · skip
                    refine r_iinc_1 (pc := 72) C dX6_runOrders_72 (nI_inc _) rfl ?_
                    refine r_goto (pc := 75) (tgt := 54) C dX6_runOrders_75 (by decide) ?_
                    exact ih54 (d + 1) n _ κ3 π3 τ3 (by omega) (by rw [hX]; exact ordD_N hRd hvd) (fun j hj => (hτ3 j hj).trans (hτd j hj)) (hDD.trans (if_neg b69))  (by omega)
            exact lp54_9 _ 0 m1 σ κ π _ (Nat.zero_add _) hR (fun _ _ => rfl) rfl  (Nat.lt_succ_self _)
          · skip
            have b39 := bI_0.mp b39
            exact absurd h0 b39
        · skip
          have h2 : btO B L (skp B L s1.a) ≠ none := (fun q => b21 (by rw [q]; rfl))
          refine r_aload_0 (pc := 24) C dX6_runOrders_24 ?_
          refine r_V0vo (pc := 25) C (m_readsOne (by exact hT) hB hτm ht1 pk_us hm3 hN hK) vl_X6_369 (tw_g hT) (by decide) (Nat.le_refl _) (Nat.le_refl _) (Nat.le_of_ble_eq_true rfl) rfl dX6_runOrders_25 (fun u11 A11 hc11 => ?_)
          refine r_eqA (A' := S5 (A.sI (t + 9) (ordF σ B L m1 f1 s1)) t σ κ π (stS (upd τ 22 (nI (ordM B L m1 s1))) (ordS σ B L m1 s1))) (hc11.trans (by rw [ord_nF, ord_nS, ord_nM, bx_upd])) ?_
          clear hc11 A11 u11
          refine r_goto (pc := 28) (tgt := 9) C dX6_runOrders_28 (by decide) ?_
          exact ih9 n _ _ _ (fun q => hto2.al q) hto2.e (ordM_le hm3) (hTk.step hN) (fun q => by have q1 := hto2.al q; have q2 := ordS_a q; have q4 := hn h0; omega) (hRR.trans (ro_st h0 h2))  (by omega)
  exact lp9_2 _ (L + 2) 0 _ ((0, 0, w, 0, -1) : TS) (fun _ => Nat.zero_le _) (Nat.zero_le _) (Nat.zero_le _) (fun d hd => absurd hd (Nat.not_lt_zero _)) (fun _ => by show L - 0 < L + 2; omega) rfl  (Nat.lt_succ_self _)
