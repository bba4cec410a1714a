/-! THE REFERENCE, 40: orders, read -/
set_option maxRecDepth 100000
/-- which order stands here -/
noncomputable def ordK (B : Nat → Nat) (L : Nat) (s : TS) : Option Nat := if seesW B L wRun s then some 0 else if seesW B L wHaste s then some 5 else if seesW B L wTurn s then some 6 else
  if seesW B L wFence s then some 1 else if seesW B L wOpen s then some 2 else if seesW B L wPave s then some 3 else if seesW B L wSow s then some 4 else none
noncomputable def ordC4 (B : Nat → Nat) (L : Nat) (s : TS) : Option Nat := if seesW B L wFence s then some 1 else if seesW B L wOpen s then some 2 else if seesW B L wPave s then some 3 else if seesW B L wSow s then some 4 else none
theorem ordC4_le {B : Nat → Nat} {L : Nat} {s : TS} {k : Nat} (h : ordC4 B L s = some k) : k < 7 := by
  unfold ordC4 at h
  repeat' split at h
  all_goals first | (cases h; done) | (cases h; omega)
theorem ordK_le {B : Nat → Nat} {L : Nat} {s : TS} {k : Nat} (h : ordK B L s = some k) : k < 7 := by
  unfold ordK at h
  repeat' split at h
  all_goals first | (cases h; done) | (cases h; omega)
/-- an order's numbers -/
def prtS (σ : Rw) (B : Nat → Nat) (L k : Nat) (s : TS) : TS := if k = 0 then numS B L 1 60 s else if k = 5 then numS B L 0 9 (fndS σ B L False (-1) s) else if k = 6 then fndS σ B L False (-1) s else numS B L 0 7 (numS B L 0 9 s)
def prtF (σ : Rw) (B : Nat → Nat) (L k : Nat) (f : Rw) (o : Nat) (s : TS) : Rw := if k = 0 then upd f o (nI (numN B L 1 60 s)) else if k = 5 then upd (upd f o (nI (fndN σ B L False (-1) s))) (o + 1) (nI (numN B L 0 9 (fndS σ B L False (-1) s))) else if k = 6 then upd f o (nI (fndN σ B L False (-1) s)) else upd (upd f o (nI (numN B L 0 9 s))) (o + 1) (nI (numN B L 0 7 (numS B L 0 9 s)))
theorem prtS_ok {σ : Rw} {B : Nat → Nat} {L k : Nat} {s : TS} (h : TOk L s) : TOk L (prtS σ B L k s) := by
  unfold prtS
  split
  · exact numS_ok h
  · split
    · exact numS_ok (fndS_ok h)
    · split
      · exact fndS_ok h
      · exact numS_ok (numS_ok h)
theorem prtS_a {σ : Rw} {B : Nat → Nat} {L k : Nat} {s : TS} : s.a ≤ (prtS σ B L k s).a := by
  unfold prtS
  split
  · exact numS_a
  · split
    · exact Nat.le_trans fndS_a numS_a
    · split
      · exact fndS_a
      · exact Nat.le_trans numS_a numS_a
/-- an order: behind its first word; the numbers; the sign -/
noncomputable def or1 (B : Nat → Nat) (L m : Nat) (s : TS) : TS := mustS (m < 30) 4 (mustS (ordK B L s ≠ none) 1 (nextS B L s))
noncomputable def ordS (σ : Rw) (B : Nat → Nat) (L m : Nat) (s : TS) : TS := if (or1 B L m s).e = 0 then signS B L 59 (prtS σ B L ((ordK B L s).getD 0) (goesS (or1 B L m s))) else or1 B L m s
noncomputable def ordF (σ : Rw) (B : Nat → Nat) (L m : Nat) (f : Rw) (s : TS) : Rw := if (or1 B L m s).e = 0 then prtF σ B L ((ordK B L s).getD 0) (upd f (3 * m) (nI ((ordK B L s).getD 0))) (3 * m + 1) (goesS (or1 B L m s)) else f
noncomputable def ordM (B : Nat → Nat) (L m : Nat) (s : TS) : Nat := if (or1 B L m s).e = 0 then m + 1 else m
theorem or1_ok {B : Nat → Nat} {L m : Nat} {s : TS} (h : TOk L s) : TOk L (or1 B L m s) := mustS_ok (mustS_ok (nextS_ok h) (by omega) (by omega)) (by omega) (by omega)
theorem ordS_ok {σ : Rw} {B : Nat → Nat} {L m : Nat} {s : TS} (h : TOk L s) : TOk L (ordS σ B L m s) := by
  unfold ordS
  split
  · exact signS_ok (prtS_ok (goesS_ok (or1_ok h)))
  · exact or1_ok h
theorem must_e {p : Prop} [Decidable p] {c : Nat} {s : TS} (hc : 1 ≤ c) (h : (mustS p c s).e = 0) : p ∧ s.e = 0 := by
  unfold mustS at h
  by_cases q : p ∨ ¬ s.e = 0
  · rw [if_pos q] at h
    exact ⟨q.resolve_right (fun z => z h), h⟩
  · rw [if_neg q] at h
    have : c = 0 := h
    omega
theorem or1_e {B : Nat → Nat} {L m : Nat} {s : TS} (h : (or1 B L m s).e = 0) : m < 30 ∧ (∃ k, ordK B L s = some k ∧ k < 7) ∧ s.e = 0 := by
  obtain ⟨h1, h2⟩ := must_e (by omega) h
  obtain ⟨h3, h4⟩ := must_e (by omega) h2
  refine ⟨h1, ?_, h4⟩
  cases hk : ordK B L s with
  | none => exact absurd hk h3
  | some k => exact ⟨k, rfl, ordK_le hk⟩
theorem ordS_a {σ : Rw} {B : Nat → Nat} {L m : Nat} {s : TS} (h : (ordS σ B L m s).e = 0) : s.a < (ordS σ B L m s).a := by
  unfold ordS at h ⊢
  obtain ⟨h1, h2⟩ := next_a (B := B) (L := L) (s := s)
  obtain ⟨h3, h4⟩ := must_ag (p := ordK B L s ≠ none) (c := 1) h2
  obtain ⟨h5, h6⟩ := must_ag (p := m < 30) (c := 4) h4
  by_cases q : (or1 B L m s).e = 0
  · rw [if_pos q] at h ⊢
    have h7 := goesS_a h6
    have h8 := prtS_a (σ := σ) (B := B) (L := L) (k := (ordK B L s).getD 0) (s := goesS (or1 B L m s))
    have he : (prtS σ B L ((ordK B L s).getD 0) (goesS (or1 B L m s))).e = 0 := Classical.byContradiction fun z => by
      unfold signS at h
      rw [if_neg z] at h
      exact z h
    have h9 := sgn_a (B := B) (L := L) (c := 59) he
    have h7 : (or1 B L m s).a ≤ (goesS (or1 B L m s)).a := h7
    have h5 : (mustS (ordK B L s ≠ none) 1 (nextS B L s)).a ≤ (or1 B L m s).a := h5
    omega
  · rw [if_neg q] at h; exact absurd h q
/-- orders one after the other -/
noncomputable def rdO (σ : Rw) (B : Nat → Nat) (L : Nat) : Nat → Rw → Nat → TS → Rw × Nat × TS
  | 0, f, m, s => (f, m, s)
  | n + 1, f, m, s => if s.e = 0 then (if btO B L (skp B L s.a) ≠ none then rdO σ B L n (ordF σ B L m f s) (ordM B L m s) (ordS σ B L m s) else (f, m, nextS B L s)) else (f, m, s)
theorem ro_e {σ : Rw} {B : Nat → Nat} {L n m : Nat} {f : Rw} {s : TS} (h : ¬ s.e = 0) : rdO σ B L n f m s = (f, m, s) := by
  cases n with
  | zero => rfl
  | succ n => exact if_neg h
theorem ro_end {σ : Rw} {B : Nat → Nat} {L n m : Nat} {f : Rw} {s : TS} (h : s.e = 0) (h2 : btO B L (skp B L s.a) = none) : rdO σ B L (n + 1) f m s = (f, m, nextS B L s) := by
  show (if _ then (if _ then _ else _) else _) = _
  rw [if_pos h, if_neg (fun q => q h2)]
theorem ro_st {σ : Rw} {B : Nat → Nat} {L n m : Nat} {f : Rw} {s : TS} (h : s.e = 0) (h2 : btO B L (skp B L s.a) ≠ none) : rdO σ B L (n + 1) f m s = rdO σ B L n (ordF σ B L m f s) (ordM B L m s) (ordS σ B L m s) := by
  show (if _ then (if _ then _ else _) else _) = _
  rw [if_pos h, if_pos h2]
theorem S5_x9 {A : HA} {t : Nat} {σ κ π τ f h : Rw} : (S5 (A.sI (t + 9) f) t σ κ π τ).sI (t + 9) h = S5 (A.sI (t + 9) h) t σ κ π τ := by
  rw [S5_sx _ _ _ _ _ _ _ (by omega) (by omega) (by omega) (by omega), sI_sI]
theorem S5_i9 {A : HA} {t : Nat} {σ κ π τ f : Rw} : (S5 (A.sI (t + 9) f) t σ κ π τ).I (t + 9) = f := by
  rw [S5_x _ _ _ _ _ _ (by omega) (by omega) (by omega) (by omega), sI_s]
set_option maxHeartbeats 4000000 in
theorem m_cellOrder {g : GZ} {A : HA} {t : Nat} {σ κ π τ : Nat → Int32} (hT : Tw A t) {s : TS} {B : Nat → Nat} {L : Nat} (hB : BufI (A.I (t + 8)) B L) (hτL : τ 12 = nI L) (ht1 : TOk L (nextS B L s)) (hK : TwK g A) : Ct g wI yX6_cellOrder (.code yX6_cellOrder cX6_cellOrder 1 (Option.some Jvm.ClassFile.FieldType.int)) 7 0 0 [.ref t] (S5 A t σ κ π (stS τ (nextS B L s))) (fun u A' => u = oI (ordC4 B L s) ∧ A' = S5 A t σ κ π (stS τ (nextS B L s))) fw_no := by
  refine Ct.of [some (.ref t)] (by decide) rfl rfl fun z C hx hnm E => ?_
  obtain ⟨q297, v297, k297, s297⟩ := hK.2.2.2.2.2.2.1
  obtain ⟨q324, v324, k324, s324⟩ := hK.2.2.2.2.2.2.2.2.2.2.1
  obtain ⟨q326, v326, k326, s326⟩ := hK.2.2.2.2.2.2.2.2.2.2.2.1
  obtain ⟨q328, v328, k328, s328⟩ := hK.2.2.2.2.2.2.2.2.2.2.2.2
  refine r_aload_0 (pc := 0) C dX6_cellOrder_0 ?_
  refine r_ldcwS (pc := 1) C k297 dX6_cellOrder_1 ?_
  refine r_V1io (pc := 4) C (s_sees (by exact hT) hB hτL ht1 hK.1 s297) vl_X6_250 (tw_g hT) (by decide) (Nat.le_refl _) (Nat.le_refl _) (Nat.le_of_ble_eq_true rfl) rfl dX6_cellOrder_4 (fun u1 A1 hc1 => ?_)
  refine r_top (hc1.1.trans (bI_iff (sees_next (l := wFence)))) ?_
  refine r_eqA (hc1.2.trans (by rw [next_next])) ?_
  clear hc1 A1 u1
  refine r_if_eq (pc := 7) (tgt := 12) C dX6_cellOrder_7 (by decide) (fun b7 => ?_) (fun b7 => ?_)
  · skip
    have b7 := bI_0.mp b7
    refine r_aload_0 (pc := 12) C dX6_cellOrder_12 ?_
    refine r_ldcwS (pc := 13) C k324 dX6_cellOrder_13 ?_
    refine r_V1io (pc := 16) C (s_sees (by exact hT) hB hτL ht1 hK.1 s324) vl_X6_250 (tw_g hT) (by decide) (Nat.le_refl _) (Nat.le_refl _) (Nat.le_of_ble_eq_true rfl) rfl dX6_cellOrder_16 (fun u2 A2 hc2 => ?_)
    refine r_top (hc2.1.trans (bI_iff (sees_next (l := wOpen)))) ?_
    refine r_eqA (hc2.2.trans (by rw [next_next])) ?_
    clear hc2 A2 u2
    refine r_if_eq (pc := 19) (tgt := 24) C dX6_cellOrder_19 (by decide) (fun b19 => ?_) (fun b19 => ?_)
    · skip
      have b19 := bI_0.mp b19
      refine r_aload_0 (pc := 24) C dX6_cellOrder_24 ?_
      refine r_ldcwS (pc := 25) C k326 dX6_cellOrder_25 ?_
      refine r_V1io (pc := 28) C (s_sees (by exact hT) hB hτL ht1 hK.1 s326) vl_X6_250 (tw_g hT) (by decide) (Nat.le_refl _) (Nat.le_refl _) (Nat.le_of_ble_eq_true rfl) rfl dX6_cellOrder_28 (fun u3 A3 hc3 => ?_)
      refine r_top (hc3.1.trans (bI_iff (sees_next (l := wPave)))) ?_
      refine r_eqA (hc3.2.trans (by rw [next_next])) ?_
      clear hc3 A3 u3
      refine r_if_eq (pc := 31) (tgt := 36) C dX6_cellOrder_31 (by decide) (fun b31 => ?_) (fun b31 => ?_)
      · skip
        have b31 := bI_0.mp b31
        refine r_aload_0 (pc := 36) C dX6_cellOrder_36 ?_
        refine r_ldcwS (pc := 37) C k328 dX6_cellOrder_37 ?_
        refine r_V1io (pc := 40) C (s_sees (by exact hT) hB hτL ht1 hK.1 s328) vl_X6_250 (tw_g hT) (by decide) (Nat.le_refl _) (Nat.le_refl _) (Nat.le_of_ble_eq_true rfl) rfl dX6_cellOrder_40 (fun u4 A4 hc4 => ?_)
        refine r_top (hc4.1.trans (bI_iff (sees_next (l := wSow)))) ?_
        refine r_eqA (hc4.2.trans (by rw [next_next])) ?_
        clear hc4 A4 u4
        refine r_if_eq (pc := 43) (tgt := 50) C dX6_cellOrder_43 (by decide) (fun b43 => ?_) (fun b43 => ?_)
        · skip
          have b43 := bI_0.mp b43
          refine r_iconst (pc := 50) C dX6_cellOrder_50 ci_m1 ?_
          refine r_iret (pc := 51) C E rfl (Nat.le_refl _) (Nat.le_refl _) dX6_cellOrder_51 ?_
          unfold ordC4
          first
            | (rw [if_pos b7]; exact ⟨rfl, rfl⟩)
            | (rw [if_neg b7, if_pos b19]; exact ⟨rfl, rfl⟩)
            | (rw [if_neg b7, if_neg b19, if_pos b31]; exact ⟨rfl, rfl⟩)
            | (rw [if_neg b7, if_neg b19, if_neg b31, if_pos b43]; exact ⟨rfl, rfl⟩)
            | (rw [if_neg b7, if_neg b19, if_neg b31, if_neg b43]; exact ⟨rfl, rfl⟩)
        · skip
          have b43 := bI_n.mp b43
          refine r_iconst (pc := 46) C dX6_cellOrder_46 ci_4 ?_
          refine r_goto (pc := 47) (tgt := 51) C dX6_cellOrder_47 (by decide) ?_
          refine r_iret (pc := 51) C E rfl (Nat.le_refl _) (Nat.le_refl _) dX6_cellOrder_51 ?_
          unfold ordC4
          first
            | (rw [if_pos b7]; exact ⟨rfl, rfl⟩)
            | (rw [if_neg b7, if_pos b19]; exact ⟨rfl, rfl⟩)
            | (rw [if_neg b7, if_neg b19, if_pos b31]; exact ⟨rfl, rfl⟩)
            | (rw [if_neg b7, if_neg b19, if_neg b31, if_pos b43]; exact ⟨rfl, rfl⟩)
            | (rw [if_neg b7, if_neg b19, if_neg b31, if_neg b43]; exact ⟨rfl, rfl⟩)
      · skip
        have b31 := bI_n.mp b31
        refine r_iconst (pc := 34) C dX6_cellOrder_34 ci_3 ?_
        refine r_iret (pc := 35) C E rfl (Nat.le_refl _) (Nat.le_refl _) dX6_cellOrder_35 ?_
        unfold ordC4
        first
          | (rw [if_pos b7]; exact ⟨rfl, rfl⟩)
          | (rw [if_neg b7, if_pos b19]; exact ⟨rfl, rfl⟩)
          | (rw [if_neg b7, if_neg b19, if_pos b31]; exact ⟨rfl, rfl⟩)
          | (rw [if_neg b7, if_neg b19, if_neg b31, if_pos b43]; exact ⟨rfl, rfl⟩)
          | (rw [if_neg b7, if_neg b19, if_neg b31, if_neg b43]; exact ⟨rfl, rfl⟩)
    · skip
      have b19 := bI_n.mp b19
      refine r_iconst (pc := 22) C dX6_cellOrder_22 ci_2 ?_
      refine r_iret (pc := 23) C E rfl (Nat.le_refl _) (Nat.le_refl _) dX6_cellOrder_23 ?_
      unfold ordC4
      first
        | (rw [if_pos b7]; exact ⟨rfl, rfl⟩)
        | (rw [if_neg b7, if_pos b19]; exact ⟨rfl, rfl⟩)
        | (rw [if_neg b7, if_neg b19, if_pos b31]; exact ⟨rfl, rfl⟩)
        | (rw [if_neg b7, if_neg b19, if_neg b31, if_pos b43]; exact ⟨rfl, rfl⟩)
        | (rw [if_neg b7, if_neg b19, if_neg b31, if_neg b43]; exact ⟨rfl, rfl⟩)
  · skip
    have b7 := bI_n.mp b7
    refine r_iconst (pc := 10) C dX6_cellOrder_10 ci_1 ?_
    refine r_iret (pc := 11) C E rfl (Nat.le_refl _) (Nat.le_refl _) dX6_cellOrder_11 ?_
    unfold ordC4
    first
      | (rw [if_pos b7]; exact ⟨rfl, rfl⟩)
      | (rw [if_neg b7, if_pos b19]; exact ⟨rfl, rfl⟩)
      | (rw [if_neg b7, if_neg b19, if_pos b31]; exact ⟨rfl, rfl⟩)
      | (rw [if_neg b7, if_neg b19, if_neg b31, if_pos b43]; exact ⟨rfl, rfl⟩)
      | (rw [if_neg b7, if_neg b19, if_neg b31, if_neg b43]; exact ⟨rfl, rfl⟩)
set_option maxHeartbeats 4000000 in
theorem m_orderHere {g : GZ} {A : HA} {t : Nat} {σ κ π τ : Nat → Int32} (hT : Tw A t) {s : TS} {B : Nat → Nat} {L : Nat} (hB : BufI (A.I (t + 8)) B L) (hτL : τ 12 = nI L) (ht : TOk L s) (hK : TwK g A) : Ct g wI yX6_orderHere (.code yX6_orderHere cX6_orderHere 1 (Option.some Jvm.ClassFile.FieldType.int)) 8 0 0 [.ref t] (S5 A t σ κ π (stS τ s)) (fun u A' => u = oI (ordK B L s) ∧ A' = S5 A t σ κ π (stS τ (nextS B L s))) fw_no := by
  refine Ct.of [some (.ref t)] (by decide) rfl rfl fun z C hx hnm E => ?_
  have hBl := hB.l
  have ha := ht.a
  have he := ht.e
  obtain ⟨q330, v330, k330, s330⟩ := hK.2.2.2.2.2.2.2.1
  obtain ⟨q332, v332, k332, s332⟩ := hK.2.2.2.2.2.2.2.2.1
  obtain ⟨q334, v334, k334, s334⟩ := hK.2.2.2.2.2.2.2.2.2.1
  have ht1 : TOk L (nextS B L s) := nextS_ok ht
  refine r_aload_0 (pc := 0) C dX6_orderHere_0 ?_
  refine r_ldcwS (pc := 1) C k330 dX6_orderHere_1 ?_
  refine r_V1io (pc := 4) C (s_sees (by exact hT) hB hτL ht hK.1 s330) vl_X6_250 (tw_g hT) (by decide) (Nat.le_refl _) (Nat.le_refl _) (Nat.le_of_ble_eq_true rfl) rfl dX6_orderHere_4 (fun u1 A1 hc1 => ?_)
  refine r_top hc1.1 ?_
  refine r_eqA hc1.2 ?_
  clear hc1 A1 u1
  refine r_if_eq (pc := 7) (tgt := 12) C dX6_orderHere_7 (by decide) (fun b7 => ?_) (fun b7 => ?_)
  · skip
    have b7 := bI_0.mp b7
    refine r_aload_0 (pc := 12) C dX6_orderHere_12 ?_
    refine r_ldcwS (pc := 13) C k332 dX6_orderHere_13 ?_
    refine r_V1io (pc := 16) C (s_sees (by exact hT) hB hτL ht1 hK.1 s332) vl_X6_250 (tw_g hT) (by decide) (Nat.le_refl _) (Nat.le_refl _) (Nat.le_of_ble_eq_true rfl) rfl dX6_orderHere_16 (fun u2 A2 hc2 => ?_)
    refine r_top (hc2.1.trans (bI_iff (sees_next (l := wHaste)))) ?_
    refine r_eqA (hc2.2.trans (by rw [next_next])) ?_
    clear hc2 A2 u2
    refine r_if_eq (pc := 19) (tgt := 24) C dX6_orderHere_19 (by decide) (fun b19 => ?_) (fun b19 => ?_)
    · skip
      have b19 := bI_0.mp b19
      refine r_aload_0 (pc := 24) C dX6_orderHere_24 ?_
      refine r_ldcwS (pc := 25) C k334 dX6_orderHere_25 ?_
      refine r_V1io (pc := 28) C (s_sees (by exact hT) hB hτL ht1 hK.1 s334) vl_X6_250 (tw_g hT) (by decide) (Nat.le_refl _) (Nat.le_refl _) (Nat.le_of_ble_eq_true rfl) rfl dX6_orderHere_28 (fun u3 A3 hc3 => ?_)
      refine r_top (hc3.1.trans (bI_iff (sees_next (l := wTurn)))) ?_
      refine r_eqA (hc3.2.trans (by rw [next_next])) ?_
      clear hc3 A3 u3
      refine r_if_eq (pc := 31) (tgt := 39) C dX6_orderHere_31 (by decide) (fun b31 => ?_) (fun b31 => ?_)
      · skip
        have b31 := bI_0.mp b31
        refine r_aload_0 (pc := 39) C dX6_orderHere_39 ?_
        refine r_V0io (pc := 40) C (m_cellOrder (by exact hT) hB hτL ht1 hK) vl_X6_336 (tw_g hT) (by decide) (Nat.le_refl _) (Nat.le_refl _) (Nat.le_of_ble_eq_true rfl) rfl dX6_orderHere_40 (fun u4 A4 hc4 => ?_)
        refine r_top hc4.1 ?_
        refine r_eqA hc4.2 ?_
        clear hc4 A4 u4
        refine r_iret (pc := 43) C E rfl (Nat.le_refl _) (Nat.le_refl _) dX6_orderHere_43 ?_
        first
          | (unfold ordK; rw [if_pos b7]; exact ⟨rfl, rfl⟩)
          | (unfold ordK; rw [if_neg b7, if_pos b19]; exact ⟨rfl, rfl⟩)
          | (unfold ordK; rw [if_neg b7, if_neg b19, if_pos b31]; exact ⟨rfl, rfl⟩)
          | (refine ⟨?_, rfl⟩; unfold ordK; rw [if_neg b7, if_neg b19, if_neg b31]; rfl)
      · skip
        have b31 := bI_n.mp b31
        refine r_bipush (pc := 34) C dX6_orderHere_34 cb_6 ?_
        refine r_goto (pc := 36) (tgt := 43) C dX6_orderHere_36 (by decide) ?_
        refine r_iret (pc := 43) C E rfl (Nat.le_refl _) (Nat.le_refl _) dX6_orderHere_43 ?_
        first
          | (unfold ordK; rw [if_pos b7]; exact ⟨rfl, rfl⟩)
          | (unfold ordK; rw [if_neg b7, if_pos b19]; exact ⟨rfl, rfl⟩)
          | (unfold ordK; rw [if_neg b7, if_neg b19, if_pos b31]; exact ⟨rfl, rfl⟩)
          | (refine ⟨?_, rfl⟩; unfold ordK; rw [if_neg b7, if_neg b19, if_neg b31]; rfl)
    · skip
      have b19 := bI_n.mp b19
      refine r_iconst (pc := 22) C dX6_orderHere_22 ci_5 ?_
      refine r_iret (pc := 23) C E rfl (Nat.le_refl _) (Nat.le_refl _) dX6_orderHere_23 ?_
      first
        | (unfold ordK; rw [if_pos b7]; exact ⟨rfl, rfl⟩)
        | (unfold ordK; rw [if_neg b7, if_pos b19]; exact ⟨rfl, rfl⟩)
        | (unfold ordK; rw [if_neg b7, if_neg b19, if_pos b31]; exact ⟨rfl, rfl⟩)
        | (refine ⟨?_, rfl⟩; unfold ordK; rw [if_neg b7, if_neg b19, if_neg b31]; rfl)
  · skip
    have b7 := bI_n.mp b7
    refine r_iconst (pc := 10) C dX6_orderHere_10 ci_0 ?_
    refine r_iret (pc := 11) C E rfl (Nat.le_refl _) (Nat.le_refl _) dX6_orderHere_11 ?_
    first
      | (unfold ordK; rw [if_pos b7]; exact ⟨rfl, rfl⟩)
      | (unfold ordK; rw [if_neg b7, if_pos b19]; exact ⟨rfl, rfl⟩)
      | (unfold ordK; rw [if_neg b7, if_neg b19, if_pos b31]; exact ⟨rfl, rfl⟩)
      | (refine ⟨?_, rfl⟩; unfold ordK; rw [if_neg b7, if_neg b19, if_neg b31]; rfl)
set_option maxHeartbeats 4000000 in
theorem m_partsOf {g : GZ} {A : HA} {t : Nat} {σ κ π τ : Nat → Int32} (hT : Tw A t) {s : TS} {B : Nat → Nat} {L : Nat} (hB : BufI (A.I (t + 8)) B L) (hτL : τ 12 = nI L) (ht : TOk L s) {f : Rw} {k o : Nat} (hk : k < 7) (ho : o < 89) (hN : NumI σ) : Ct g wV yX6_partsOf (.code yX6_partsOf cX6_partsOf 3 (Option.none : Option Jvm.ClassFile.FieldType)) 6 0 0 [.ref t, .int (nI (k)), .int (nI (o))] (S5 (A.sI (t + 9) f) t σ κ π (stS τ s)) (fun u A' => A' = S5 (A.sI (t + 9) (prtF σ B L k f o s)) t (σ) κ π (stS (τ) (prtS σ B L k s))) fw_no := by
  refine Ct.of [some (.ref t), some (.int (nI (k))), some (.int (nI (o)))] (by decide) rfl rfl fun z C hx hnm E => ?_
  have he := ht.e
  have hB9 : BufI ((A.sI (t + 9) f).I (t + 8)) B L := by rw [sI_o _ _ (by omega)]; exact hB
  have hB8 : ∀ f2 : Rw, BufI ((A.sI (t + 9) f2).I (t + 8)) B L := fun f2 => by rw [sI_o _ _ (by omega)]; exact hB
  refine r_iload_1 (pc := 0) C dX6_partsOf_0 ?_
  by_cases w1_0 : k = 0
  · skip
    subst w1_0
    refine r_lookup (pc := 1) (tgt := 36) (off := 35) C dX6_partsOf_1 (by decide +kernel) (by decide +kernel) (by decide) ?_
    refine r_aload_0 (pc := 36) C dX6_partsOf_36 ?_
    refine r_getR (pc := 37) C fl_X6_38_6 (tw_g hT) rfl (tw_r9 hT) dX6_partsOf_37 ?_
    refine r_iload_2 (pc := 40) C dX6_partsOf_40 ?_
    refine r_aload_0 (pc := 41) C dX6_partsOf_41 ?_
    refine r_iconst (pc := 42) C dX6_partsOf_42 ci_1 ?_
    refine r_bipush (pc := 43) C dX6_partsOf_43 cb_60 ?_
    refine r_V2io (pc := 45) C (s_number (by exact hT) (hB8 _) hτL ht (lo := 1) (hi := 60) (by omega) (by omega)) vl_X6_254 (tw_g hT) (by decide) (Nat.le_refl _) (Nat.le_refl _) (Nat.le_of_ble_eq_true rfl) rfl dX6_partsOf_45 (fun u1 A1 hc1 => ?_)
    refine r_top hc1.1 ?_
    refine r_eqA hc1.2 ?_
    clear hc1 A1 u1
    refine r_iast (pc := 48) C (tw_g9 hT) rfl rfl (lt_eq (by omega) (tw_n9 hT)) (by omega) dX6_partsOf_48 ?_
    refine r_eqA (show _ = _ by rw [S5_i9, S5_x9]) ?_
    refine r_vret (pc := 49) C E (Nat.le_refl _) (Nat.le_refl _) dX6_partsOf_49 ?_
    unfold prtF prtS
    rw [if_pos rfl, if_pos rfl]
  by_cases w1_5 : k = 5
  · skip
    subst w1_5
    refine r_lookup (pc := 1) (tgt := 50) (off := 49) C dX6_partsOf_1 (by decide +kernel) (by decide +kernel) (by decide) ?_
    refine r_aload_0 (pc := 50) C dX6_partsOf_50 ?_
    refine r_getR (pc := 51) C fl_X6_38_6 (tw_g hT) rfl (tw_r9 hT) dX6_partsOf_51 ?_
    refine r_iload_2 (pc := 54) C dX6_partsOf_54 ?_
    refine r_aload_0 (pc := 55) C dX6_partsOf_55 ?_
    refine r_iconst (pc := 56) C dX6_partsOf_56 ci_0 ?_
    refine r_iconst (pc := 57) C dX6_partsOf_57 ci_m1 ?_
    refine r_V2io (pc := 58) C (s_mustBe0 (by exact hT) (hB8 _) hτL ht hN) vl_X6_263 (tw_g hT) (by decide) (Nat.le_refl _) (Nat.le_refl _) (Nat.le_of_ble_eq_true rfl) rfl dX6_partsOf_58 (fun u2 A2 hc2 => ?_)
    refine r_top hc2.1 ?_
    refine r_eqA hc2.2 ?_
    clear hc2 A2 u2
    refine r_iast (pc := 61) C (tw_g9 hT) rfl rfl (lt_eq (by omega) (tw_n9 hT)) (by omega) dX6_partsOf_61 ?_
    refine r_eqA (show _ = _ by rw [S5_i9, S5_x9]) ?_
    refine r_aload_0 (pc := 62) C dX6_partsOf_62 ?_
    refine r_getR (pc := 63) C fl_X6_38_6 (tw_g hT) rfl (tw_r9 hT) dX6_partsOf_63 ?_
    refine r_iload_2 (pc := 66) C dX6_partsOf_66 ?_
    refine r_iconst (pc := 67) C dX6_partsOf_67 ci_1 ?_
    refine r_iadd (pc := 68) C dX6_partsOf_68 ?_
    refine r_top (nI_add _ _) ?_
    refine r_aload_0 (pc := 69) C dX6_partsOf_69 ?_
    refine r_iconst (pc := 70) C dX6_partsOf_70 ci_0 ?_
    refine r_bipush (pc := 71) C dX6_partsOf_71 cb_9 ?_
    refine r_V2io (pc := 73) C (s_number (by exact hT) (hB8 _) hτL (fndS_ok ht) (lo := 0) (hi := 9) (by omega) (by omega)) vl_X6_254 (tw_g hT) (by decide) (Nat.le_refl _) (Nat.le_refl _) (Nat.le_of_ble_eq_true rfl) rfl dX6_partsOf_73 (fun u3 A3 hc3 => ?_)
    refine r_top hc3.1 ?_
    refine r_eqA hc3.2 ?_
    clear hc3 A3 u3
    refine r_iast (pc := 76) C (tw_g9 hT) rfl rfl (lt_eq (by omega) (tw_n9 hT)) (by omega) dX6_partsOf_76 ?_
    refine r_eqA (show _ = _ by rw [S5_i9, S5_x9]) ?_
    refine r_vret (pc := 77) C E (Nat.le_refl _) (Nat.le_refl _) dX6_partsOf_77 ?_
    unfold prtF prtS
    rw [if_neg (by omega), if_pos rfl, if_neg (by omega), if_pos rfl]
  by_cases w1_6 : k = 6
  · skip
    subst w1_6
    refine r_lookup (pc := 1) (tgt := 78) (off := 77) C dX6_partsOf_1 (by decide +kernel) (by decide +kernel) (by decide) ?_
    refine r_aload_0 (pc := 78) C dX6_partsOf_78 ?_
    refine r_getR (pc := 79) C fl_X6_38_6 (tw_g hT) rfl (tw_r9 hT) dX6_partsOf_79 ?_
    refine r_iload_2 (pc := 82) C dX6_partsOf_82 ?_
    refine r_aload_0 (pc := 83) C dX6_partsOf_83 ?_
    refine r_iconst (pc := 84) C dX6_partsOf_84 ci_0 ?_
    refine r_iconst (pc := 85) C dX6_partsOf_85 ci_m1 ?_
    refine r_V2io (pc := 86) C (s_mustBe0 (by exact hT) (hB8 _) hτL ht hN) vl_X6_263 (tw_g hT) (by decide) (Nat.le_refl _) (Nat.le_refl _) (Nat.le_of_ble_eq_true rfl) rfl dX6_partsOf_86 (fun u4 A4 hc4 => ?_)
    refine r_top hc4.1 ?_
    refine r_eqA hc4.2 ?_
    clear hc4 A4 u4
    refine r_iast (pc := 89) C (tw_g9 hT) rfl rfl (lt_eq (by omega) (tw_n9 hT)) (by omega) dX6_partsOf_89 ?_
    refine r_eqA (show _ = _ by rw [S5_i9, S5_x9]) ?_
    refine r_vret (pc := 90) C E (Nat.le_refl _) (Nat.le_refl _) dX6_partsOf_90 ?_
    unfold prtF prtS
    rw [if_neg (by omega), if_neg (by omega), if_pos rfl, if_neg (by omega), if_neg (by omega), if_pos rfl]
  refine r_lookup (pc := 1) (tgt := 91) (off := 90) C dX6_partsOf_1 (by decide +kernel) (by rcases (show k = 1 ∨ k = 2 ∨ k = 3 ∨ k = 4 by omega) with e | e | e | e <;> subst e <;> decide +kernel) (by decide) ?_
  refine r_aload_0 (pc := 91) C dX6_partsOf_91 ?_
  refine r_getR (pc := 92) C fl_X6_38_6 (tw_g hT) rfl (tw_r9 hT) dX6_partsOf_92 ?_
  refine r_iload_2 (pc := 95) C dX6_partsOf_95 ?_
  refine r_aload_0 (pc := 96) C dX6_partsOf_96 ?_
  refine r_iconst (pc := 97) C dX6_partsOf_97 ci_0 ?_
  refine r_bipush (pc := 98) C dX6_partsOf_98 cb_9 ?_
  refine r_V2io (pc := 100) C (s_number (by exact hT) (hB8 _) hτL ht (lo := 0) (hi := 9) (by omega) (by omega)) vl_X6_254 (tw_g hT) (by decide) (Nat.le_refl _) (Nat.le_refl _) (Nat.le_of_ble_eq_true rfl) rfl dX6_partsOf_100 (fun u5 A5 hc5 => ?_)
  refine r_top hc5.1 ?_
  refine r_eqA hc5.2 ?_
  clear hc5 A5 u5
  refine r_iast (pc := 103) C (tw_g9 hT) rfl rfl (lt_eq (by omega) (tw_n9 hT)) (by omega) dX6_partsOf_103 ?_
  refine r_eqA (show _ = _ by rw [S5_i9, S5_x9]) ?_
  refine r_aload_0 (pc := 104) C dX6_partsOf_104 ?_
  refine r_getR (pc := 105) C fl_X6_38_6 (tw_g hT) rfl (tw_r9 hT) dX6_partsOf_105 ?_
  refine r_iload_2 (pc := 108) C dX6_partsOf_108 ?_
  refine r_iconst (pc := 109) C dX6_partsOf_109 ci_1 ?_
  refine r_iadd (pc := 110) C dX6_partsOf_110 ?_
  refine r_top (nI_add _ _) ?_
  refine r_aload_0 (pc := 111) C dX6_partsOf_111 ?_
  refine r_iconst (pc := 112) C dX6_partsOf_112 ci_0 ?_
  refine r_bipush (pc := 113) C dX6_partsOf_113 cb_7 ?_
  refine r_V2io (pc := 115) C (s_number (by exact hT) (hB8 _) hτL (numS_ok ht) (lo := 0) (hi := 7) (by omega) (by omega)) vl_X6_254 (tw_g hT) (by decide) (Nat.le_refl _) (Nat.le_refl _) (Nat.le_of_ble_eq_true rfl) rfl dX6_partsOf_115 (fun u6 A6 hc6 => ?_)
  refine r_top hc6.1 ?_
  refine r_eqA hc6.2 ?_
  clear hc6 A6 u6
  refine r_iast (pc := 118) C (tw_g9 hT) rfl rfl (lt_eq (by omega) (tw_n9 hT)) (by omega) dX6_partsOf_118 ?_
  refine r_eqA (show _ = _ by rw [S5_i9, S5_x9]) ?_
  refine r_vret (pc := 119) C E (Nat.le_refl _) (Nat.le_refl _) dX6_partsOf_119 ?_
  unfold prtF prtS
  rw [if_neg w1_0, if_neg w1_5, if_neg w1_6, if_neg w1_0, if_neg w1_5, if_neg w1_6]
set_option maxHeartbeats 4000000 in
theorem m_readsOne {g : GZ} {A : HA} {t : Nat} {σ κ π τ : Nat → Int32} (hT : Tw A t) {s : TS} {B : Nat → Nat} {L : Nat} (hB : BufI (A.I (t + 8)) B L) (hτL : τ 12 = nI L) (ht : TOk L s) {f : Rw} {m : Nat} (hm : τ 22 = nI m) (hm3 : m ≤ 30) (hN : NumI σ) (hK : TwK g A) : Ct g wV yX6_readsOne (.code yX6_readsOne cX6_readsOne 2 (Option.none : Option Jvm.ClassFile.FieldType)) 9 0 0 [.ref t] (S5 (A.sI (t + 9) f) t σ κ π (stS τ s)) (fun u A' => A' = S5 (A.sI (t + 9) (ordF σ B L m f s)) t (σ) κ π (stS (upd τ 22 (nI (ordM B L m s))) (ordS σ B L m s))) fw_no := by
  refine Ct.of [some (.ref t), none] (by decide) rfl rfl fun z C hx hnm E => ?_
  have he := ht.e
  have hB9 : BufI ((A.sI (t + 9) f).I (t + 8)) B L := by rw [sI_o _ _ (by omega)]; exact hB
  have hB8 : ∀ f2 : Rw, BufI ((A.sI (t + 9) f2).I (t + 8)) B L := fun f2 => by rw [sI_o _ _ (by omega)]; exact hB
  have hK9 : TwK g (A.sI (t + 9) f) := hK.sI3 hT (Or.inr (Or.inr (Or.inr (tw_g9 hT)))) _
  have ht1 : TOk L (nextS B L s) := nextS_ok ht
  have htm : TOk L (mustS (ordK B L s ≠ none) 1 (nextS B L s)) := mustS_ok ht1 (by omega) (by omega)
  have hto : TOk L (or1 B L m s) := or1_ok ht
  have heo := hto.e
  have hτ2 : upd τ 22 (nI (m + 1)) 12 = nI L := (pk_un (by omega)).trans hτL
  refine r_aload_0 (pc := 0) C dX6_readsOne_0 ?_
  refine r_V0io (pc := 1) C (m_orderHere (by exact hT) hB9 hτL ht hK9) vl_X6_339 (tw_g hT) (by decide) (Nat.le_refl _) (Nat.le_refl _) (Nat.le_of_ble_eq_true rfl) rfl dX6_readsOne_1 (fun u1 A1 hc1 => ?_)
  refine r_top hc1.1 ?_
  refine r_eqA hc1.2 ?_
  clear hc1 A1 u1
  rcases hk0 : ordK B L s with _ | k
  · skip
    refine r_top (rfl : oI none = -1) ?_
    refine r_istore_1 (pc := 4) C dX6_readsOne_4 rfl ?_
    refine r_aload_0 (pc := 5) C dX6_readsOne_5 ?_
    refine r_iload_1 (pc := 6) C dX6_readsOne_6 ?_
    refine r_iconst (pc := 7) C dX6_readsOne_7 ci_m1 ?_
    refine r_icmp_eq (pc := 8) (tgt := 15) C dX6_readsOne_8 (by decide) (fun b8 => ?_) (fun b8 => ?_)
    · skip
      refine r_iconst (pc := 15) C dX6_readsOne_15 ci_0 ?_
      refine r_iconst (pc := 16) C dX6_readsOne_16 ci_1 ?_
      refine r_V2vo (pc := 17) C (s_must0 (by exact hT) (hB8 _) hτL ht1 (ordK B L s ≠ none) (fun q => q hk0)) vl_X6_217 (tw_g hT) (by decide) (Nat.le_refl _) (Nat.le_refl _) (Nat.le_of_ble_eq_true rfl) rfl dX6_readsOne_17 (fun u2 A2 hc2 => ?_)
      refine r_eqA hc2 ?_
      clear hc2 A2 u2
      refine r_aload_0 (pc := 20) C dX6_readsOne_20 ?_
      refine r_aload_0 (pc := 21) C dX6_readsOne_21 ?_
      refine r_getI (pc := 22) C fl_X6_342_6 (tw_g hT) rfl dX6_readsOne_22 ?_
      refine r_top (congrFun (S5_0 _ _ _ _ _ _) _) ?_
      refine r_top ((st_x _ _ _ _ _ _ (by omega)).trans hm) ?_
      refine r_bipush (pc := 25) C dX6_readsOne_25 cb_30 ?_
      refine r_icmp_ge (pc := 27) (tgt := 34) C dX6_readsOne_27 (by decide) (fun b27 => ?_) (fun b27 => ?_)
      · skip
        have b27 := (nI_le2 (by omega) (by omega)).mp b27
        refine r_iconst (pc := 34) C dX6_readsOne_34 ci_0 ?_
        refine r_iconst (pc := 35) C dX6_readsOne_35 ci_4 ?_
        refine r_V2vo (pc := 36) C (s_must0 (by exact hT) (hB8 _) hτL htm (m < 30) (by omega)) vl_X6_217 (tw_g hT) (by decide) (Nat.le_refl _) (Nat.le_refl _) (Nat.le_of_ble_eq_true rfl) rfl dX6_readsOne_36 (fun u3 A3 hc3 => ?_)
        refine r_eqA (A' := S5 (A.sI (t + 9) (f)) t (σ) κ π (stS (τ) (or1 B L m s))) hc3 ?_
        clear hc3 A3 u3
        refine r_aload_0 (pc := 39) C dX6_readsOne_39 ?_
        refine r_getI (pc := 40) C fl_X6_208_6 (tw_g hT) rfl dX6_readsOne_40 ?_
        refine r_top (congrFun (S5_0 _ _ _ _ _ _) _) ?_
        refine r_top (st_16 _ _ _ _ _ _) ?_
        refine r_if_eq (pc := 43) (tgt := 47) C dX6_readsOne_43 (by decide) (fun b43 => ?_) (fun b43 => ?_)
        · skip
          have b43 := (nI_eq0 (by omega)).mp b43
          exact absurd hk0 (by obtain ⟨k9, hk9, -⟩ := (or1_e b43).2.1; rw [hk9]; exact (fun q => by cases q))
        · skip
          have b43 := (not_congr (nI_eq0 (by omega))).mp b43
          refine r_vret (pc := 46) C E (Nat.le_refl _) (Nat.le_refl _) dX6_readsOne_46 ?_
          unfold ordF ordS ordM
          rw [if_neg b43, if_neg b43, if_neg b43]
          have e9 : upd τ 22 (nI m) = τ := by rw [← hm]; exact upd_id _ _
          rw [e9]
      · skip
        have b27 := (not_congr (nI_le2 (by omega) (by omega))).mp b27
        refine r_iconst (pc := 30) C dX6_readsOne_30 ci_1 ?_
        refine r_goto (pc := 31) (tgt := 35) C dX6_readsOne_31 (by decide) ?_
        refine r_iconst (pc := 35) C dX6_readsOne_35 ci_4 ?_
        refine r_V2vo (pc := 36) C (s_must1 (by exact hT) (hB8 _) hτL htm (m < 30) (by omega)) vl_X6_217 (tw_g hT) (by decide) (Nat.le_refl _) (Nat.le_refl _) (Nat.le_of_ble_eq_true rfl) rfl dX6_readsOne_36 (fun u4 A4 hc4 => ?_)
        refine r_eqA (A' := S5 (A.sI (t + 9) (f)) t (σ) κ π (stS (τ) (or1 B L m s))) hc4 ?_
        clear hc4 A4 u4
        refine r_aload_0 (pc := 39) C dX6_readsOne_39 ?_
        refine r_getI (pc := 40) C fl_X6_208_6 (tw_g hT) rfl dX6_readsOne_40 ?_
        refine r_top (congrFun (S5_0 _ _ _ _ _ _) _) ?_
        refine r_top (st_16 _ _ _ _ _ _) ?_
        refine r_if_eq (pc := 43) (tgt := 47) C dX6_readsOne_43 (by decide) (fun b43 => ?_) (fun b43 => ?_)
        · skip
          have b43 := (nI_eq0 (by omega)).mp b43
          exact absurd hk0 (by obtain ⟨k9, hk9, -⟩ := (or1_e b43).2.1; rw [hk9]; exact (fun q => by cases q))
        · skip
          have b43 := (not_congr (nI_eq0 (by omega))).mp b43
          refine r_vret (pc := 46) C E (Nat.le_refl _) (Nat.le_refl _) dX6_readsOne_46 ?_
          unfold ordF ordS ordM
          rw [if_neg b43, if_neg b43, if_neg b43]
          have e9 : upd τ 22 (nI m) = τ := by rw [← hm]; exact upd_id _ _
          rw [e9]
    · exact absurd b8 (by decide +kernel)
  · skip
    refine r_top (rfl : oI (some k) = nI k) ?_
    have hk7 := ordK_le hk0
    have hk1 : ordK B L s ≠ none := (fun q => by rw [hk0] at q; cases q)
    refine r_istore_1 (pc := 4) C dX6_readsOne_4 rfl ?_
    refine r_aload_0 (pc := 5) C dX6_readsOne_5 ?_
    refine r_iload_1 (pc := 6) C dX6_readsOne_6 ?_
    refine r_iconst (pc := 7) C dX6_readsOne_7 ci_m1 ?_
    refine r_icmp_eq (pc := 8) (tgt := 15) C dX6_readsOne_8 (by decide) (fun b8 => ?_) (fun b8 => ?_)
    · skip
      exact absurd b8 (nI_m1 (by omega))
    · skip
      refine r_iconst (pc := 11) C dX6_readsOne_11 ci_1 ?_
      refine r_goto (pc := 12) (tgt := 16) C dX6_readsOne_12 (by decide) ?_
      refine r_iconst (pc := 16) C dX6_readsOne_16 ci_1 ?_
      refine r_V2vo (pc := 17) C (s_must1 (by exact hT) (hB8 _) hτL ht1 (ordK B L s ≠ none) hk1) vl_X6_217 (tw_g hT) (by decide) (Nat.le_refl _) (Nat.le_refl _) (Nat.le_of_ble_eq_true rfl) rfl dX6_readsOne_17 (fun u5 A5 hc5 => ?_)
      refine r_eqA hc5 ?_
      clear hc5 A5 u5
      refine r_aload_0 (pc := 20) C dX6_readsOne_20 ?_
      refine r_aload_0 (pc := 21) C dX6_readsOne_21 ?_
      refine r_getI (pc := 22) C fl_X6_342_6 (tw_g hT) rfl dX6_readsOne_22 ?_
      refine r_top (congrFun (S5_0 _ _ _ _ _ _) _) ?_
      refine r_top ((st_x _ _ _ _ _ _ (by omega)).trans hm) ?_
      refine r_bipush (pc := 25) C dX6_readsOne_25 cb_30 ?_
      refine r_icmp_ge (pc := 27) (tgt := 34) C dX6_readsOne_27 (by decide) (fun b27 => ?_) (fun b27 => ?_)
      · skip
        have b27 := (nI_le2 (by omega) (by omega)).mp b27
        refine r_iconst (pc := 34) C dX6_readsOne_34 ci_0 ?_
        refine r_iconst (pc := 35) C dX6_readsOne_35 ci_4 ?_
        refine r_V2vo (pc := 36) C (s_must0 (by exact hT) (hB8 _) hτL htm (m < 30) (by omega)) vl_X6_217 (tw_g hT) (by decide) (Nat.le_refl _) (Nat.le_refl _) (Nat.le_of_ble_eq_true rfl) rfl dX6_readsOne_36 (fun u6 A6 hc6 => ?_)
        refine r_eqA (A' := S5 (A.sI (t + 9) (f)) t (σ) κ π (stS (τ) (or1 B L m s))) hc6 ?_
        clear hc6 A6 u6
        refine r_aload_0 (pc := 39) C dX6_readsOne_39 ?_
        refine r_getI (pc := 40) C fl_X6_208_6 (tw_g hT) rfl dX6_readsOne_40 ?_
        refine r_top (congrFun (S5_0 _ _ _ _ _ _) _) ?_
        refine r_top (st_16 _ _ _ _ _ _) ?_
        refine r_if_eq (pc := 43) (tgt := 47) C dX6_readsOne_43 (by decide) (fun b43 => ?_) (fun b43 => ?_)
        · skip
          have b43 := (nI_eq0 (by omega)).mp b43
          have hm30 := (or1_e b43).1
          refine r_aload_0 (pc := 47) C dX6_readsOne_47 ?_
          refine r_V0vo (pc := 48) C (s_goes (by exact hT) (hB8 _) hτL hto) vl_X6_242 (tw_g hT) (by decide) (Nat.le_refl _) (Nat.le_refl _) (Nat.le_of_ble_eq_true rfl) rfl dX6_readsOne_48 (fun u7 A7 hc7 => ?_)
          refine r_eqA hc7 ?_
          clear hc7 A7 u7
          refine r_aload_0 (pc := 51) C dX6_readsOne_51 ?_
          refine r_getR (pc := 52) C fl_X6_38_6 (tw_g hT) rfl (tw_r9 hT) dX6_readsOne_52 ?_
          refine r_iconst (pc := 55) C dX6_readsOne_55 ci_3 ?_
          refine r_aload_0 (pc := 56) C dX6_readsOne_56 ?_
          refine r_getI (pc := 57) C fl_X6_342_6 (tw_g hT) rfl dX6_readsOne_57 ?_
          refine r_top (congrFun (S5_0 _ _ _ _ _ _) _) ?_
          refine r_top ((st_x _ _ _ _ _ _ (by omega)).trans hm) ?_
          refine r_imul (pc := 60) C dX6_readsOne_60 ?_
          refine r_top (pk_mul _ _) ?_
          refine r_iload_1 (pc := 61) C dX6_readsOne_61 ?_
          refine r_iast (pc := 62) C (tw_g9 hT) rfl rfl (lt_eq (by omega) (tw_n9 hT)) (by omega) dX6_readsOne_62 ?_
          refine r_eqA (show _ = _ by rw [S5_i9, S5_x9]) ?_
          refine r_aload_0 (pc := 63) C dX6_readsOne_63 ?_
          refine r_iload_1 (pc := 64) C dX6_readsOne_64 ?_
          refine r_iconst (pc := 65) C dX6_readsOne_65 ci_3 ?_
          refine r_aload_0 (pc := 66) C dX6_readsOne_66 ?_
          refine r_getI (pc := 67) C fl_X6_342_6 (tw_g hT) rfl dX6_readsOne_67 ?_
          refine r_top (congrFun (S5_0 _ _ _ _ _ _) _) ?_
          refine r_top ((st_x _ _ _ _ _ _ (by omega)).trans hm) ?_
          refine r_imul (pc := 70) C dX6_readsOne_70 ?_
          refine r_top (pk_mul _ _) ?_
          refine r_iconst (pc := 71) C dX6_readsOne_71 ci_1 ?_
          refine r_iadd (pc := 72) C dX6_readsOne_72 ?_
          refine r_top (nI_add _ _) ?_
          refine r_V2vo (pc := 73) C (m_partsOf (by exact hT) hB hτL (goesS_ok hto) hk7 (by omega) hN) vl_X6_345 (tw_g hT) (by decide) (Nat.le_refl _) (Nat.le_refl _) (Nat.le_of_ble_eq_true rfl) rfl dX6_readsOne_73 (fun u8 A8 hc8 => ?_)
          refine r_eqA hc8 ?_
          clear hc8 A8 u8
          refine r_aload_0 (pc := 76) C dX6_readsOne_76 ?_
          refine r_dup (pc := 77) C dX6_readsOne_77 rfl ?_
          refine r_getI (pc := 78) C fl_X6_342_6 (tw_g hT) rfl dX6_readsOne_78 ?_
          refine r_top (congrFun (S5_0 _ _ _ _ _ _) _) ?_
          refine r_top ((st_x _ _ _ _ _ _ (by omega)).trans hm) ?_
          refine r_iconst (pc := 81) C dX6_readsOne_81 ci_1 ?_
          refine r_iadd (pc := 82) C dX6_readsOne_82 ?_
          refine r_top (nI_add _ _) ?_
          refine r_putI (pc := 83) C fl_X6_342_6 (tw_g hT) rfl (fun _ _ _ h => by cases h; exact Or.inl rfl) rfl rfl rfl dX6_readsOne_83 ?_
          refine r_eqA (S5_u0 _ _ _ _ _ _ _ _) ?_
          refine r_eqA (congrArg (S5 _ t _ _ _) (stS_ux (by decide))) ?_
          refine r_aload_0 (pc := 86) C dX6_readsOne_86 ?_
          refine r_bipush (pc := 87) C dX6_readsOne_87 cb_59 ?_
          refine r_V1vo (pc := 89) C (s_sign (by exact hT) (hB8 _) hτ2 (prtS_ok (goesS_ok hto)) (by omega)) vl_X6_308 (tw_g hT) (by decide) (Nat.le_refl _) (Nat.le_refl _) (Nat.le_of_ble_eq_true rfl) rfl dX6_readsOne_89 (fun u9 A9 hc9 => ?_)
          refine r_eqA hc9 ?_
          clear hc9 A9 u9
          refine r_vret (pc := 92) C E (Nat.le_refl _) (Nat.le_refl _) dX6_readsOne_92 ?_
          unfold ordF ordS ordM
          rw [if_pos b43, if_pos b43, if_pos b43, hk0]
          first | done | rfl
        · skip
          have b43 := (not_congr (nI_eq0 (by omega))).mp b43
          refine r_vret (pc := 46) C E (Nat.le_refl _) (Nat.le_refl _) dX6_readsOne_46 ?_
          unfold ordF ordS ordM
          rw [if_neg b43, if_neg b43, if_neg b43]
          have e9 : upd τ 22 (nI m) = τ := by rw [← hm]; exact upd_id _ _
          rw [e9]
      · skip
        have b27 := (not_congr (nI_le2 (by omega) (by omega))).mp b27
        refine r_iconst (pc := 30) C dX6_readsOne_30 ci_1 ?_
        refine r_goto (pc := 31) (tgt := 35) C dX6_readsOne_31 (by decide) ?_
        refine r_iconst (pc := 35) C dX6_readsOne_35 ci_4 ?_
        refine r_V2vo (pc := 36) C (s_must1 (by exact hT) (hB8 _) hτL htm (m < 30) (by omega)) vl_X6_217 (tw_g hT) (by decide) (Nat.le_refl _) (Nat.le_refl _) (Nat.le_of_ble_eq_true rfl) rfl dX6_readsOne_36 (fun u10 A10 hc10 => ?_)
        refine r_eqA (A' := S5 (A.sI (t + 9) (f)) t (σ) κ π (stS (τ) (or1 B L m s))) hc10 ?_
        clear hc10 A10 u10
        refine r_aload_0 (pc := 39) C dX6_readsOne_39 ?_
        refine r_getI (pc := 40) C fl_X6_208_6 (tw_g hT) rfl dX6_readsOne_40 ?_
        refine r_top (congrFun (S5_0 _ _ _ _ _ _) _) ?_
        refine r_top (st_16 _ _ _ _ _ _) ?_
        refine r_if_eq (pc := 43) (tgt := 47) C dX6_readsOne_43 (by decide) (fun b43 => ?_) (fun b43 => ?_)
        · skip
          have b43 := (nI_eq0 (by omega)).mp b43
          have hm30 := (or1_e b43).1
          refine r_aload_0 (pc := 47) C dX6_readsOne_47 ?_
          refine r_V0vo (pc := 48) C (s_goes (by exact hT) (hB8 _) hτL hto) vl_X6_242 (tw_g hT) (by decide) (Nat.le_refl _) (Nat.le_refl _) (Nat.le_of_ble_eq_true rfl) rfl dX6_readsOne_48 (fun u11 A11 hc11 => ?_)
          refine r_eqA hc11 ?_
          clear hc11 A11 u11
          refine r_aload_0 (pc := 51) C dX6_readsOne_51 ?_
          refine r_getR (pc := 52) C fl_X6_38_6 (tw_g hT) rfl (tw_r9 hT) dX6_readsOne_52 ?_
          refine r_iconst (pc := 55) C dX6_readsOne_55 ci_3 ?_
          refine r_aload_0 (pc := 56) C dX6_readsOne_56 ?_
          refine r_getI (pc := 57) C fl_X6_342_6 (tw_g hT) rfl dX6_readsOne_57 ?_
          refine r_top (congrFun (S5_0 _ _ _ _ _ _) _) ?_
          refine r_top ((st_x _ _ _ _ _ _ (by omega)).trans hm) ?_
          refine r_imul (pc := 60) C dX6_readsOne_60 ?_
          refine r_top (pk_mul _ _) ?_
          refine r_iload_1 (pc := 61) C dX6_readsOne_61 ?_
          refine r_iast (pc := 62) C (tw_g9 hT) rfl rfl (lt_eq (by omega) (tw_n9 hT)) (by omega) dX6_readsOne_62 ?_
          refine r_eqA (show _ = _ by rw [S5_i9, S5_x9]) ?_
          refine r_aload_0 (pc := 63) C dX6_readsOne_63 ?_
          refine r_iload_1 (pc := 64) C dX6_readsOne_64 ?_
          refine r_iconst (pc := 65) C dX6_readsOne_65 ci_3 ?_
          refine r_aload_0 (pc := 66) C dX6_readsOne_66 ?_
          refine r_getI (pc := 67) C fl_X6_342_6 (tw_g hT) rfl dX6_readsOne_67 ?_
          refine r_top (congrFun (S5_0 _ _ _ _ _ _) _) ?_
          refine r_top ((st_x _ _ _ _ _ _ (by omega)).trans hm) ?_
          refine r_imul (pc := 70) C dX6_readsOne_70 ?_
          refine r_top (pk_mul _ _) ?_
          refine r_iconst (pc := 71) C dX6_readsOne_71 ci_1 ?_
          refine r_iadd (pc := 72) C dX6_readsOne_72 ?_
          refine r_top (nI_add _ _) ?_
          refine r_V2vo (pc := 73) C (m_partsOf (by exact hT) hB hτL (goesS_ok hto) hk7 (by omega) hN) vl_X6_345 (tw_g hT) (by decide) (Nat.le_refl _) (Nat.le_refl _) (Nat.le_of_ble_eq_true rfl) rfl dX6_readsOne_73 (fun u12 A12 hc12 => ?_)
          refine r_eqA hc12 ?_
          clear hc12 A12 u12
          refine r_aload_0 (pc := 76) C dX6_readsOne_76 ?_
          refine r_dup (pc := 77) C dX6_readsOne_77 rfl ?_
          refine r_getI (pc := 78) C fl_X6_342_6 (tw_g hT) rfl dX6_readsOne_78 ?_
          refine r_top (congrFun (S5_0 _ _ _ _ _ _) _) ?_
          refine r_top ((st_x _ _ _ _ _ _ (by omega)).trans hm) ?_
          refine r_iconst (pc := 81) C dX6_readsOne_81 ci_1 ?_
          refine r_iadd (pc := 82) C dX6_readsOne_82 ?_
          refine r_top (nI_add _ _) ?_
          refine r_putI (pc := 83) C fl_X6_342_6 (tw_g hT) rfl (fun _ _ _ h => by cases h; exact Or.inl rfl) rfl rfl rfl dX6_readsOne_83 ?_
          refine r_eqA (S5_u0 _ _ _ _ _ _ _ _) ?_
          refine r_eqA (congrArg (S5 _ t _ _ _) (stS_ux (by decide))) ?_
          refine r_aload_0 (pc := 86) C dX6_readsOne_86 ?_
          refine r_bipush (pc := 87) C dX6_readsOne_87 cb_59 ?_
          refine r_V1vo (pc := 89) C (s_sign (by exact hT) (hB8 _) hτ2 (prtS_ok (goesS_ok hto)) (by omega)) vl_X6_308 (tw_g hT) (by decide) (Nat.le_refl _) (Nat.le_refl _) (Nat.le_of_ble_eq_true rfl) rfl dX6_readsOne_89 (fun u13 A13 hc13 => ?_)
          refine r_eqA hc13 ?_
          clear hc13 A13 u13
          refine r_vret (pc := 92) C E (Nat.le_refl _) (Nat.le_refl _) dX6_readsOne_92 ?_
          unfold ordF ordS ordM
          rw [if_pos b43, if_pos b43, if_pos b43, hk0]
          first | done | rfl
        · skip
          have b43 := (not_congr (nI_eq0 (by omega))).mp b43
          refine r_vret (pc := 46) C E (Nat.le_refl _) (Nat.le_refl _) dX6_readsOne_46 ?_
          unfold ordF ordS ordM
          rw [if_neg b43, if_neg b43, if_neg b43]
          have e9 : upd τ 22 (nI m) = τ := by rw [← hm]; exact upd_id _ _
          rw [e9]
