/-! THE REFERENCE, 34: a gate's line -/
set_option maxRecDepth 100000
theorem s_newName1 {g : GZ} {A : HA} {t : Nat} {σ κ π τ : Rw} (hT : Tw A t) {s : TS} {B : Nat → Nat} {L : Nat} (hB : BufI (A.I (t + 8)) B L) (hτL : τ 12 = nI L) (ht : TOk L s) {f : Nat} (hN : NumI σ) (hf : f < 500) : Ct g wV yX6_newName (.code yX6_newName cX6_newName 4 (Option.none : Option Jvm.ClassFile.FieldType)) 5 0 0 [.ref t, .int (nI f), .int (nI 1)] (S5 A t σ κ π (stS τ s)) (fun u A' => A' = S5 A t (newW σ B L True f s) κ π (stS τ (newS σ B L True s))) fw_no := by
  have h := s_newName (g := g) (κ := κ) (π := π) hT hB hτL ht (q := True) (f := f) hN hf
  rw [bI_t trivial, ← nI1] at h
  exact h
theorem s_mustBe1 {g : GZ} {A : HA} {t : Nat} {σ κ π τ : Rw} (hT : Tw A t) {s : TS} {B : Nat → Nat} {L : Nat} (hB : BufI (A.I (t + 8)) B L) (hτL : τ 12 = nI L) (ht : TOk L s) {but : Int32} (hN : NumI σ) : Ct g wI yX6_mustBe (.code yX6_mustBe cX6_mustBe 4 (Option.some Jvm.ClassFile.FieldType.int)) 5 0 0 [.ref t, .int (nI 1), .int but] (S5 A t σ κ π (stS τ s)) (fun u A' => u = nI (fndN σ B L True but s) ∧ A' = S5 A t σ κ π (stS τ (fndS σ B L True but s))) fw_no := by
  have h := s_mustBe (g := g) (κ := κ) (π := π) hT hB hτL ht (q := True) (but := but) hN
  rw [bI_t trivial, ← nI1] at h
  exact h
theorem s_newName0 {g : GZ} {A : HA} {t : Nat} {σ κ π τ : Rw} (hT : Tw A t) {s : TS} {B : Nat → Nat} {L : Nat} (hB : BufI (A.I (t + 8)) B L) (hτL : τ 12 = nI L) (ht : TOk L s) {f : Nat} (hN : NumI σ) (hf : f < 500) : Ct g wV yX6_newName (.code yX6_newName cX6_newName 4 (Option.none : Option Jvm.ClassFile.FieldType)) 5 0 0 [.ref t, .int (nI f), .int (nI 0)] (S5 A t σ κ π (stS τ s)) (fun u A' => A' = S5 A t (newW σ B L False f s) κ π (stS τ (newS σ B L False s))) fw_no := by
  have h := s_newName (g := g) (κ := κ) (π := π) hT hB hτL ht (q := False) (f := f) hN hf
  rw [bI_f id, ← nI0] at h
  exact h
theorem s_mustBe0 {g : GZ} {A : HA} {t : Nat} {σ κ π τ : Rw} (hT : Tw A t) {s : TS} {B : Nat → Nat} {L : Nat} (hB : BufI (A.I (t + 8)) B L) (hτL : τ 12 = nI L) (ht : TOk L s) {but : Int32} (hN : NumI σ) : Ct g wI yX6_mustBe (.code yX6_mustBe cX6_mustBe 4 (Option.some Jvm.ClassFile.FieldType.int)) 5 0 0 [.ref t, .int (nI 0), .int but] (S5 A t σ κ π (stS τ s)) (fun u A' => u = nI (fndN σ B L False but s) ∧ A' = S5 A t σ κ π (stS τ (fndS σ B L False but s))) fw_no := by
  have h := s_mustBe (g := g) (κ := κ) (π := π) hT hB hτL ht (q := False) (but := but) hN
  rw [bI_f id, ← nI0] at h
  exact h
theorem nmPut_x {σ : Rw} {B : Nat → Nat} {f p w j : Nat} : ∀ k, (j < f ∨ f + k < j) → nmPut σ B f p w k j = σ j
  | 0, h => pk_un (by omega)
  | k + 1, h => (pk_un (by omega)).trans (nmPut_x k (by omega))
theorem newR_w {σ : Rw} {B : Nat → Nat} {L a : Nat} {q : Prop} [Decidable q] (h : isR (newR σ B L a q) = true) : 1 ≤ wln B L (skp B L a) ∧ wln B L (skp B L a) ≤ 6 := by
  by_cases c : 1 ≤ wln B L (skp B L a) ∧ wln B L (skp B L a) ≤ 6
  · exact c
  · rw [new_0 c] at h; cases h
/-- a new name touches its own places alone -/
theorem newW_x {σ : Rw} {B : Nat → Nat} {L f j : Nat} {q : Prop} [Decidable q] {s : TS} (h : j < f ∨ f + 6 < j) : newW σ B L q f s j = σ j := by
  unfold newW
  split
  · split
    · rename_i h2
      have := newR_w h2
      exact nmPut_x _ (by omega)
    · rfl
  · rfl
theorem fndS_ok {σ : Rw} {B : Nat → Nat} {L : Nat} {q : Prop} [Decidable q] {but : Int32} {s : TS} (h : TOk L s) : TOk L (fndS σ B L q but s) := by
  unfold fndS
  by_cases h0 : s.e = 0
  · rw [if_pos h0]
    have hl := h.al h0
    have h1 := skp_le (B := B) hl
    have h3 := @wln_le B L (skp B L s.a)
    have hc : errC (fndR σ B L s.a q but) ≤ 4 := by
      unfold fndR namR
      split
      · rename_i hx
        split at hx
        · cases hx
        · cases hx; show 1 ≤ 4; omega
      · split
        · show 3 ≤ 4; omega
        · split
          · show 3 ≤ 4; omega
          · show 0 ≤ 4; omega
    have hA : (if 1 ≤ wln B L (skp B L s.a) ∧ wln B L (skp B L s.a) ≤ 6 then skp B L s.a + wln B L (skp B L s.a) else skp B L s.a) ≤ L := by split <;> omega
    refine ⟨?_, ?_, ?_, hc, fun _ => ?_, ?_⟩
    · exact Nat.le_succ_of_le hA
    · show skp B L s.a ≤ L + 1; omega
    · show wln B L (skp B L s.a) ≤ L; omega
    · exact ⟨hA, show skp B L s.a + wln B L (skp B L s.a) ≤ L by omega⟩
    · show skp B L s.a + wln B L (skp B L s.a) ≤ L + 1; omega
  · rw [if_neg h0]; exact h
theorem newS_ok {σ : Rw} {B : Nat → Nat} {L : Nat} {q : Prop} [Decidable q] {s : TS} (h : TOk L s) : TOk L (newS σ B L q s) := by
  unfold newS
  by_cases h0 : s.e = 0
  · rw [if_pos h0]
    have hl := h.al h0
    have h1 := skp_le (B := B) hl
    have h3 := @wln_le B L (skp B L s.a)
    have hc : errC (newR σ B L s.a q) ≤ 4 := by
      unfold newR namR
      split
      · rename_i hx
        split at hx
        · cases hx
        · cases hx; show 1 ≤ 4; omega
      · split
        · show 0 ≤ 4; omega
        · show 3 ≤ 4; omega
    have hA : (if isR (newR σ B L s.a q) then skp B L s.a + wln B L (skp B L s.a) else skp B L s.a) ≤ L := by split <;> omega
    refine ⟨?_, ?_, ?_, hc, fun _ => ?_, ?_⟩
    · exact Nat.le_succ_of_le hA
    · show skp B L s.a ≤ L + 1; omega
    · show wln B L (skp B L s.a) ≤ L; omega
    · exact ⟨hA, show skp B L s.a + wln B L (skp B L s.a) ≤ L by omega⟩
    · show skp B L s.a + wln B L (skp B L s.a) ≤ L + 1; omega
  · rw [if_neg h0]; exact h
theorem RowS.cong {σ τ : Rw} (h : RowS σ) (e4 : τ 4 = σ 4) (e5 : τ 5 = σ 5) : RowS τ := by
  have e1 : rW τ = rW σ := congrArg Int32.toNatClampNeg e4
  have e2 : rH τ = rH σ := congrArg Int32.toNatClampNeg e5
  unfold RowS
  rw [e1, e2, e4, e5]
  exact h
def g0 (σ : Rw) (s : TS) : TS := mustS (rG σ < 6) 4 s
def gS1 (σ : Rw) (s : TS) : TS := goesS (g0 σ s)
def gW1 (σ : Rw) (B : Nat → Nat) (L : Nat) (s : TS) : Rw := newW σ B L True (21 + 9 * rG σ) (gS1 σ s)
def gS2 (σ : Rw) (B : Nat → Nat) (L : Nat) (s : TS) : TS := newS σ B L True (gS1 σ s)
def gCe (σ : Rw) (B : Nat → Nat) (L : Nat) (s : TS) : Nat := cellN (gW1 σ B L s) B L (gS2 σ B L s)
def gS3 (σ : Rw) (B : Nat → Nat) (L : Nat) (s : TS) : TS := mustS (¬ gW1 σ B L s (153 + 5 * gCe σ B L s + 0) = nI 2) 3 (cellS (gW1 σ B L s) B L (gS2 σ B L s))
def gW2 (σ : Rw) (B : Nat → Nat) (L : Nat) (s : TS) : Rw := upd (gW1 σ B L s) (21 + 9 * rG σ + 7) (nI (gCe σ B L s % rW (gW1 σ B L s)))
def gW3 (σ : Rw) (B : Nat → Nat) (L : Nat) (s : TS) : Rw := upd (gW2 σ B L s) (21 + 9 * rG σ + 8) (nI (gCe σ B L s / rW (gW2 σ B L s)))
def gW4 (σ : Rw) (B : Nat → Nat) (L : Nat) (s : TS) : Rw := upd (gW3 σ B L s) (153 + 5 * gCe σ B L s + 0) (nI 2)
def gW5 (σ : Rw) (B : Nat → Nat) (L : Nat) (s : TS) : Rw := upd (gW4 σ B L s) (153 + 5 * gCe σ B L s + 1) (nI 0)
def gW6 (σ : Rw) (B : Nat → Nat) (L : Nat) (s : TS) : Rw := upd (gW5 σ B L s) 0 (nI (rG σ + 1))
def gateW (σ : Rw) (B : Nat → Nat) (L : Nat) (s : TS) : Rw := if (g0 σ s).e = 0 then gW6 σ B L s else σ
def gateS (σ : Rw) (B : Nat → Nat) (L : Nat) (s : TS) : TS := if (g0 σ s).e = 0 then gS3 σ B L s else g0 σ s
theorem g0_lt {σ : Rw} {s : TS} (h : (g0 σ s).e = 0) : rG σ < 6 := by
  unfold g0 mustS at h
  split at h
  · rename_i q
    exact q.elim id (fun q => absurd h q)
  · cases h
theorem gW1_x {σ : Rw} {B : Nat → Nat} {L : Nat} {s : TS} {j : Nat} (h : j < 21) : gW1 σ B L s j = σ j := newW_x (by omega)
theorem gW2_x {σ : Rw} {B : Nat → Nat} {L : Nat} {s : TS} {j : Nat} (h : j < 21) : gW2 σ B L s j = σ j := (pk_un (by omega)).trans (gW1_x h)
theorem gW5_x {σ : Rw} {B : Nat → Nat} {L : Nat} {s : TS} {j : Nat} (h : j < 21) : gW5 σ B L s j = σ j := (pk_un (by omega)).trans ((pk_un (by omega)).trans ((pk_un (by omega)).trans (gW2_x h)))
theorem gW1_s {σ : Rw} {B : Nat → Nat} {L : Nat} {s : TS} (h : RowS σ) : RowS (gW1 σ B L s) := h.cong (gW1_x (by omega)) (gW1_x (by omega))
theorem gW2_s {σ : Rw} {B : Nat → Nat} {L : Nat} {s : TS} (h : RowS σ) : RowS (gW2 σ B L s) := h.cong (gW2_x (by omega)) (gW2_x (by omega))
set_option maxHeartbeats 4000000 in
theorem m_gateLine {g : GZ} {A : HA} {t : Nat} {σ κ π τ : Nat → Int32} (hT : Tw A t) {s : TS} {B : Nat → Nat} {L : Nat} (hB : BufI (A.I (t + 8)) B L) (hτL : τ 12 = nI L) (ht : TOk L s) (hS : RowS σ) (hN : NumI σ) : Ct g wV yX6_gateLine (.code yX6_gateLine cX6_gateLine 3 (Option.none : Option Jvm.ClassFile.FieldType)) 6 0 0 [.ref t] (S5 A t σ κ π (stS τ s)) (fun u A' => A' = S5 A t (gateW σ B L s) κ π (stS τ (gateS σ B L s))) fw_no := by
  refine Ct.of [some (.ref t), none, none] (by decide) rfl rfl fun z C hx hnm E => ?_
  have hBl := hB.l
  have ha := ht.a
  have he := ht.e
  have hG := hN.1.1
  have hG6 := hN.1.2
  have ht0 : TOk L (g0 σ s) := mustS_ok ht (by omega) (by omega)
  have he0 := ht0.e
  have ht1 : TOk L (gS1 σ s) := goesS_ok ht0
  have ht2 : TOk L (gS2 σ B L s) := newS_ok ht1
  have hS1 : RowS (gW1 σ B L s) := gW1_s hS
  have hS2 : RowS (gW2 σ B L s) := gW2_s hS
  have hcl : gCe σ B L s < rC (gW1 σ B L s) := cellN_lt hS1
  have hc80 := hS1.c80
  have hw1 := hS1.w3
  have hw2 := hS2.w3
  have ht3 : TOk L (cellS (gW1 σ B L s) B L (gS2 σ B L s)) := cellS_ok ht2
  have hm1 := Nat.mod_le (gCe σ B L s) (rW (gW1 σ B L s))
  have hm2 := Nat.div_le_self (gCe σ B L s) (rW (gW2 σ B L s))
  refine r_aload_0 (pc := 0) C dX6_gateLine_0 ?_
  refine r_aload_0 (pc := 1) C dX6_gateLine_1 ?_
  refine r_getR (pc := 2) C fl_X6_7_6 (tw_g hT) rfl (tw_r1 hT) dX6_gateLine_2 ?_
  refine r_iconst (pc := 5) C dX6_gateLine_5 ci_0 ?_
  refine r_iald (pc := 6) C (tw_g1 hT) rfl rfl (lt_eq (by omega) (tw_n1 hT)) (by omega) dX6_gateLine_6 ?_
  refine r_top (congrFun (S5_1 _ _ _ _ _ _) _) ?_
  refine r_top hG ?_
  refine r_bipush (pc := 7) C dX6_gateLine_7 cb_6 ?_
  refine r_icmp_ge (pc := 9) (tgt := 16) C dX6_gateLine_9 (by decide) (fun b9 => ?_) (fun b9 => ?_)
  · skip
    have b9 := (nI_le2 (by omega) (by omega)).mp b9
    refine r_iconst (pc := 16) C dX6_gateLine_16 ci_0 ?_
    refine r_iconst (pc := 17) C dX6_gateLine_17 ci_4 ?_
    refine r_V2vo (pc := 18) C (s_must0 (by exact hT) hB hτL ht (rG σ < 6) (by omega)) vl_X6_217 (tw_g hT) (by decide) (Nat.le_refl _) (Nat.le_refl _) (Nat.le_of_ble_eq_true rfl) rfl dX6_gateLine_18 (fun u1 A1 hc1 => ?_)
    refine r_eqA (A' := S5 A t σ κ π (stS τ (g0 σ s))) hc1 ?_
    clear hc1 A1 u1
    refine r_aload_0 (pc := 21) C dX6_gateLine_21 ?_
    refine r_getI (pc := 22) C fl_X6_208_6 (tw_g hT) rfl dX6_gateLine_22 ?_
    refine r_top (congrFun (S5_0 _ _ _ _ _ _) _) ?_
    refine r_top (st_16 _ _ _ _ _ _) ?_
    refine r_top (rfl : nI _ = nI (g0 σ s).e) ?_
    refine r_if_eq (pc := 25) (tgt := 29) C dX6_gateLine_25 (by decide) (fun b25 => ?_) (fun b25 => ?_)
    · skip
      have b25 := (nI_eq0 (by omega)).mp b25
      have hg6 := g0_lt b25
      refine r_aload_0 (pc := 29) C dX6_gateLine_29 ?_
      refine r_V0vo (pc := 30) C (s_goes (by exact hT) hB hτL ht0) vl_X6_242 (tw_g hT) (by decide) (Nat.le_refl _) (Nat.le_refl _) (Nat.le_of_ble_eq_true rfl) rfl dX6_gateLine_30 (fun u2 A2 hc2 => ?_)
      refine r_eqA (A' := S5 A t σ κ π (stS τ (gS1 σ s))) hc2 ?_
      clear hc2 A2 u2
      refine r_bipush (pc := 33) C dX6_gateLine_33 cb_21 ?_
      refine r_bipush (pc := 35) C dX6_gateLine_35 cb_9 ?_
      refine r_aload_0 (pc := 37) C dX6_gateLine_37 ?_
      refine r_getR (pc := 38) C fl_X6_7_6 (tw_g hT) rfl (tw_r1 hT) dX6_gateLine_38 ?_
      refine r_iconst (pc := 41) C dX6_gateLine_41 ci_0 ?_
      refine r_iald (pc := 42) C (tw_g1 hT) rfl rfl (lt_eq (by omega) (tw_n1 hT)) (by omega) dX6_gateLine_42 ?_
      refine r_top (congrFun (S5_1 _ _ _ _ _ _) _) ?_
      refine r_top hG ?_
      refine r_imul (pc := 43) C dX6_gateLine_43 ?_
      refine r_top (pk_mul _ _) ?_
      refine r_iadd (pc := 44) C dX6_gateLine_44 ?_
      refine r_top (nI_add _ _) ?_
      refine r_istore_1 (pc := 45) C dX6_gateLine_45 rfl ?_
      refine r_aload_0 (pc := 46) C dX6_gateLine_46 ?_
      refine r_iload_1 (pc := 47) C dX6_gateLine_47 ?_
      refine r_iconst (pc := 48) C dX6_gateLine_48 ci_1 ?_
      refine r_V2vo (pc := 49) C (s_newName1 (by exact hT) hB hτL ht1 hN (by omega)) vl_X6_257 (tw_g hT) (by decide) (Nat.le_refl _) (Nat.le_refl _) (Nat.le_of_ble_eq_true rfl) rfl dX6_gateLine_49 (fun u3 A3 hc3 => ?_)
      refine r_eqA (A' := S5 A t (gW1 σ B L s) κ π (stS τ (gS2 σ B L s))) hc3 ?_
      clear hc3 A3 u3
      refine r_aload_0 (pc := 52) C dX6_gateLine_52 ?_
      refine r_V0io (pc := 53) C (m_cellHere (by exact hT) hB hτL ht2 hS1) vl_X6_260 (tw_g hT) (by decide) (Nat.le_refl _) (Nat.le_refl _) (Nat.le_of_ble_eq_true rfl) rfl dX6_gateLine_53 (fun u4 A4 hc4 => ?_)
      refine r_top (hc4.1.trans (rfl : _ = nI (gCe σ B L s))) ?_
      refine r_eqA hc4.2 ?_
      clear hc4 A4 u4
      refine r_istore_2 (pc := 56) C dX6_gateLine_56 rfl ?_
      refine r_aload_0 (pc := 57) C dX6_gateLine_57 ?_
      refine r_aload_0 (pc := 58) C dX6_gateLine_58 ?_
      refine r_iload_2 (pc := 59) C dX6_gateLine_59 ?_
      refine r_iconst (pc := 60) C dX6_gateLine_60 ci_0 ?_
      refine r_V2io (pc := 61) C (m_ofCell (by exact hT) (S5_1 _ _ _ _ _ _)) vl_X6_86 (tw_g hT) (by decide) (Nat.le_refl _) (Nat.le_refl _) (Nat.le_of_ble_eq_true rfl) rfl dX6_gateLine_61 (fun u5 A5 hc5 => ?_)
      refine r_top hc5.1 ?_
      refine r_eqA hc5.2 ?_
      clear hc5 A5 u5
      refine r_iconst (pc := 64) C dX6_gateLine_64 ci_2 ?_
      refine r_icmp_eq (pc := 65) (tgt := 72) C dX6_gateLine_65 (by decide) (fun b65 => ?_) (fun b65 => ?_)
      · skip
        refine r_iconst (pc := 72) C dX6_gateLine_72 ci_0 ?_
        refine r_iconst (pc := 73) C dX6_gateLine_73 ci_3 ?_
        refine r_V2vo (pc := 74) C (s_must0 (by exact hT) hB hτL ht3 (¬ gW1 σ B L s (153 + 5 * gCe σ B L s + 0) = nI 2) (fun q => q (by assumption))) vl_X6_217 (tw_g hT) (by decide) (Nat.le_refl _) (Nat.le_refl _) (Nat.le_of_ble_eq_true rfl) rfl dX6_gateLine_74 (fun u6 A6 hc6 => ?_)
        refine r_eqA (A' := S5 A t (gW1 σ B L s) κ π (stS τ (gS3 σ B L s))) hc6 ?_
        clear hc6 A6 u6
        refine r_aload_0 (pc := 77) C dX6_gateLine_77 ?_
        refine r_getR (pc := 78) C fl_X6_7_6 (tw_g hT) rfl (tw_r1 hT) dX6_gateLine_78 ?_
        refine r_iload_1 (pc := 81) C dX6_gateLine_81 ?_
        refine r_bipush (pc := 82) C dX6_gateLine_82 cb_7 ?_
        refine r_iadd (pc := 84) C dX6_gateLine_84 ?_
        refine r_top (nI_add _ _) ?_
        refine r_aload_0 (pc := 85) C dX6_gateLine_85 ?_
        refine r_iload_2 (pc := 86) C dX6_gateLine_86 ?_
        refine r_V1io (pc := 87) C (m_xOf (by exact hT) (S5_1 _ _ _ _ _ _) hS1 (by omega)) vl_X6_76 (tw_g hT) (by decide) (Nat.le_refl _) (Nat.le_refl _) (Nat.le_of_ble_eq_true rfl) rfl dX6_gateLine_87 (fun u7 A7 hc7 => ?_)
        refine r_top hc7.1 ?_
        refine r_eqA hc7.2 ?_
        clear hc7 A7 u7
        refine r_iast (pc := 90) C (tw_g1 hT) rfl rfl (lt_eq (by omega) (tw_n1 hT)) (by omega) dX6_gateLine_90 ?_
        refine r_eqA (S5_u1 _ _ _ _ _ _ _ _) ?_
        refine r_aload_0 (pc := 91) C dX6_gateLine_91 ?_
        refine r_getR (pc := 92) C fl_X6_7_6 (tw_g hT) rfl (tw_r1 hT) dX6_gateLine_92 ?_
        refine r_iload_1 (pc := 95) C dX6_gateLine_95 ?_
        refine r_bipush (pc := 96) C dX6_gateLine_96 cb_8 ?_
        refine r_iadd (pc := 98) C dX6_gateLine_98 ?_
        refine r_top (nI_add _ _) ?_
        refine r_aload_0 (pc := 99) C dX6_gateLine_99 ?_
        refine r_iload_2 (pc := 100) C dX6_gateLine_100 ?_
        refine r_V1io (pc := 101) C (m_yOf (σ := gW2 σ B L s) (by exact hT) (S5_1 _ _ _ _ _ _) hS2 (by omega)) vl_X6_72 (tw_g hT) (by decide) (Nat.le_refl _) (Nat.le_refl _) (Nat.le_of_ble_eq_true rfl) rfl dX6_gateLine_101 (fun u8 A8 hc8 => ?_)
        refine r_top hc8.1 ?_
        refine r_eqA hc8.2 ?_
        clear hc8 A8 u8
        refine r_iast (pc := 104) C (tw_g1 hT) rfl rfl (lt_eq (by omega) (tw_n1 hT)) (by omega) dX6_gateLine_104 ?_
        refine r_eqA (S5_u1 _ _ _ _ _ _ _ _) ?_
        refine r_aload_0 (pc := 105) C dX6_gateLine_105 ?_
        refine r_iload_2 (pc := 106) C dX6_gateLine_106 ?_
        refine r_iconst (pc := 107) C dX6_gateLine_107 ci_0 ?_
        refine r_iconst (pc := 108) C dX6_gateLine_108 ci_2 ?_
        refine r_V3vo (pc := 109) C (m_putsCell (by exact hT) (S5_1 _ _ _ _ _ _)) vl_X6_139 (tw_g hT) (by decide) (Nat.le_refl _) (Nat.le_refl _) (Nat.le_of_ble_eq_true rfl) rfl dX6_gateLine_109 (fun u9 A9 hc9 => ?_)
        refine r_eqA hc9 ?_
        clear hc9 A9 u9
        refine r_eqA (S5_w1 _ _ _ _ _ _ _) ?_
        refine r_aload_0 (pc := 112) C dX6_gateLine_112 ?_
        refine r_iload_2 (pc := 113) C dX6_gateLine_113 ?_
        refine r_iconst (pc := 114) C dX6_gateLine_114 ci_1 ?_
        refine r_iconst (pc := 115) C dX6_gateLine_115 ci_0 ?_
        refine r_V3vo (pc := 116) C (m_putsCell (by exact hT) (S5_1 _ _ _ _ _ _)) vl_X6_139 (tw_g hT) (by decide) (Nat.le_refl _) (Nat.le_refl _) (Nat.le_of_ble_eq_true rfl) rfl dX6_gateLine_116 (fun u10 A10 hc10 => ?_)
        refine r_eqA hc10 ?_
        clear hc10 A10 u10
        refine r_eqA (S5_w1 _ _ _ _ _ _ _) ?_
        refine r_aload_0 (pc := 119) C dX6_gateLine_119 ?_
        refine r_getR (pc := 120) C fl_X6_7_6 (tw_g hT) rfl (tw_r1 hT) dX6_gateLine_120 ?_
        refine r_iconst (pc := 123) C dX6_gateLine_123 ci_0 ?_
        refine r_dup2 (pc := 124) C dX6_gateLine_124 rfl rfl ?_
        refine r_iald (pc := 125) C (tw_g1 hT) rfl rfl (lt_eq (by omega) (tw_n1 hT)) (by omega) dX6_gateLine_125 ?_
        refine r_top (congrFun (S5_1 _ _ _ _ _ _) _) ?_
        refine r_top ((gW5_x (σ := σ) (B := B) (L := L) (s := s) (j := 0) (by omega)).trans hG) ?_
        refine r_iconst (pc := 126) C dX6_gateLine_126 ci_1 ?_
        refine r_iadd (pc := 127) C dX6_gateLine_127 ?_
        refine r_top (nI_add _ _) ?_
        refine r_iast (pc := 128) C (tw_g1 hT) rfl rfl (lt_eq (by omega) (tw_n1 hT)) (by omega) dX6_gateLine_128 ?_
        refine r_eqA (S5_u1 _ _ _ _ _ _ _ _) ?_
        refine r_vret (pc := 129) C E (Nat.le_refl _) (Nat.le_refl _) dX6_gateLine_129 ?_
        unfold gateW gateS
        rw [if_pos b25, if_pos b25]
        rfl
      · skip
        refine r_iconst (pc := 68) C dX6_gateLine_68 ci_1 ?_
        refine r_goto (pc := 69) (tgt := 73) C dX6_gateLine_69 (by decide) ?_
        refine r_iconst (pc := 73) C dX6_gateLine_73 ci_3 ?_
        refine r_V2vo (pc := 74) C (s_must1 (by exact hT) hB hτL ht3 (¬ gW1 σ B L s (153 + 5 * gCe σ B L s + 0) = nI 2) (by assumption)) vl_X6_217 (tw_g hT) (by decide) (Nat.le_refl _) (Nat.le_refl _) (Nat.le_of_ble_eq_true rfl) rfl dX6_gateLine_74 (fun u11 A11 hc11 => ?_)
        refine r_eqA (A' := S5 A t (gW1 σ B L s) κ π (stS τ (gS3 σ B L s))) hc11 ?_
        clear hc11 A11 u11
        refine r_aload_0 (pc := 77) C dX6_gateLine_77 ?_
        refine r_getR (pc := 78) C fl_X6_7_6 (tw_g hT) rfl (tw_r1 hT) dX6_gateLine_78 ?_
        refine r_iload_1 (pc := 81) C dX6_gateLine_81 ?_
        refine r_bipush (pc := 82) C dX6_gateLine_82 cb_7 ?_
        refine r_iadd (pc := 84) C dX6_gateLine_84 ?_
        refine r_top (nI_add _ _) ?_
        refine r_aload_0 (pc := 85) C dX6_gateLine_85 ?_
        refine r_iload_2 (pc := 86) C dX6_gateLine_86 ?_
        refine r_V1io (pc := 87) C (m_xOf (by exact hT) (S5_1 _ _ _ _ _ _) hS1 (by omega)) vl_X6_76 (tw_g hT) (by decide) (Nat.le_refl _) (Nat.le_refl _) (Nat.le_of_ble_eq_true rfl) rfl dX6_gateLine_87 (fun u12 A12 hc12 => ?_)
        refine r_top hc12.1 ?_
        refine r_eqA hc12.2 ?_
        clear hc12 A12 u12
        refine r_iast (pc := 90) C (tw_g1 hT) rfl rfl (lt_eq (by omega) (tw_n1 hT)) (by omega) dX6_gateLine_90 ?_
        refine r_eqA (S5_u1 _ _ _ _ _ _ _ _) ?_
        refine r_aload_0 (pc := 91) C dX6_gateLine_91 ?_
        refine r_getR (pc := 92) C fl_X6_7_6 (tw_g hT) rfl (tw_r1 hT) dX6_gateLine_92 ?_
        refine r_iload_1 (pc := 95) C dX6_gateLine_95 ?_
        refine r_bipush (pc := 96) C dX6_gateLine_96 cb_8 ?_
        refine r_iadd (pc := 98) C dX6_gateLine_98 ?_
        refine r_top (nI_add _ _) ?_
        refine r_aload_0 (pc := 99) C dX6_gateLine_99 ?_
        refine r_iload_2 (pc := 100) C dX6_gateLine_100 ?_
        refine r_V1io (pc := 101) C (m_yOf (σ := gW2 σ B L s) (by exact hT) (S5_1 _ _ _ _ _ _) hS2 (by omega)) vl_X6_72 (tw_g hT) (by decide) (Nat.le_refl _) (Nat.le_refl _) (Nat.le_of_ble_eq_true rfl) rfl dX6_gateLine_101 (fun u13 A13 hc13 => ?_)
        refine r_top hc13.1 ?_
        refine r_eqA hc13.2 ?_
        clear hc13 A13 u13
        refine r_iast (pc := 104) C (tw_g1 hT) rfl rfl (lt_eq (by omega) (tw_n1 hT)) (by omega) dX6_gateLine_104 ?_
        refine r_eqA (S5_u1 _ _ _ _ _ _ _ _) ?_
        refine r_aload_0 (pc := 105) C dX6_gateLine_105 ?_
        refine r_iload_2 (pc := 106) C dX6_gateLine_106 ?_
        refine r_iconst (pc := 107) C dX6_gateLine_107 ci_0 ?_
        refine r_iconst (pc := 108) C dX6_gateLine_108 ci_2 ?_
        refine r_V3vo (pc := 109) C (m_putsCell (by exact hT) (S5_1 _ _ _ _ _ _)) vl_X6_139 (tw_g hT) (by decide) (Nat.le_refl _) (Nat.le_refl _) (Nat.le_of_ble_eq_true rfl) rfl dX6_gateLine_109 (fun u14 A14 hc14 => ?_)
        refine r_eqA hc14 ?_
        clear hc14 A14 u14
        refine r_eqA (S5_w1 _ _ _ _ _ _ _) ?_
        refine r_aload_0 (pc := 112) C dX6_gateLine_112 ?_
        refine r_iload_2 (pc := 113) C dX6_gateLine_113 ?_
        refine r_iconst (pc := 114) C dX6_gateLine_114 ci_1 ?_
        refine r_iconst (pc := 115) C dX6_gateLine_115 ci_0 ?_
        refine r_V3vo (pc := 116) C (m_putsCell (by exact hT) (S5_1 _ _ _ _ _ _)) vl_X6_139 (tw_g hT) (by decide) (Nat.le_refl _) (Nat.le_refl _) (Nat.le_of_ble_eq_true rfl) rfl dX6_gateLine_116 (fun u15 A15 hc15 => ?_)
        refine r_eqA hc15 ?_
        clear hc15 A15 u15
        refine r_eqA (S5_w1 _ _ _ _ _ _ _) ?_
        refine r_aload_0 (pc := 119) C dX6_gateLine_119 ?_
        refine r_getR (pc := 120) C fl_X6_7_6 (tw_g hT) rfl (tw_r1 hT) dX6_gateLine_120 ?_
        refine r_iconst (pc := 123) C dX6_gateLine_123 ci_0 ?_
        refine r_dup2 (pc := 124) C dX6_gateLine_124 rfl rfl ?_
        refine r_iald (pc := 125) C (tw_g1 hT) rfl rfl (lt_eq (by omega) (tw_n1 hT)) (by omega) dX6_gateLine_125 ?_
        refine r_top (congrFun (S5_1 _ _ _ _ _ _) _) ?_
        refine r_top ((gW5_x (σ := σ) (B := B) (L := L) (s := s) (j := 0) (by omega)).trans hG) ?_
        refine r_iconst (pc := 126) C dX6_gateLine_126 ci_1 ?_
        refine r_iadd (pc := 127) C dX6_gateLine_127 ?_
        refine r_top (nI_add _ _) ?_
        refine r_iast (pc := 128) C (tw_g1 hT) rfl rfl (lt_eq (by omega) (tw_n1 hT)) (by omega) dX6_gateLine_128 ?_
        refine r_eqA (S5_u1 _ _ _ _ _ _ _ _) ?_
        refine r_vret (pc := 129) C E (Nat.le_refl _) (Nat.le_refl _) dX6_gateLine_129 ?_
        unfold gateW gateS
        rw [if_pos b25, if_pos b25]
        rfl
    · skip
      have b25 := (not_congr (nI_eq0 (by omega))).mp b25
      refine r_vret (pc := 28) C E (Nat.le_refl _) (Nat.le_refl _) dX6_gateLine_28 ?_
      unfold gateW gateS
      rw [if_neg b25, if_neg b25]
  · skip
    have b9 := (not_congr (nI_le2 (by omega) (by omega))).mp b9
    refine r_iconst (pc := 12) C dX6_gateLine_12 ci_1 ?_
    refine r_goto (pc := 13) (tgt := 17) C dX6_gateLine_13 (by decide) ?_
    refine r_iconst (pc := 17) C dX6_gateLine_17 ci_4 ?_
    refine r_V2vo (pc := 18) C (s_must1 (by exact hT) hB hτL ht (rG σ < 6) (by omega)) vl_X6_217 (tw_g hT) (by decide) (Nat.le_refl _) (Nat.le_refl _) (Nat.le_of_ble_eq_true rfl) rfl dX6_gateLine_18 (fun u16 A16 hc16 => ?_)
    refine r_eqA (A' := S5 A t σ κ π (stS τ (g0 σ s))) hc16 ?_
    clear hc16 A16 u16
    refine r_aload_0 (pc := 21) C dX6_gateLine_21 ?_
    refine r_getI (pc := 22) C fl_X6_208_6 (tw_g hT) rfl dX6_gateLine_22 ?_
    refine r_top (congrFun (S5_0 _ _ _ _ _ _) _) ?_
    refine r_top (st_16 _ _ _ _ _ _) ?_
    refine r_top (rfl : nI _ = nI (g0 σ s).e) ?_
    refine r_if_eq (pc := 25) (tgt := 29) C dX6_gateLine_25 (by decide) (fun b25 => ?_) (fun b25 => ?_)
    · skip
      have b25 := (nI_eq0 (by omega)).mp b25
      have hg6 := g0_lt b25
      refine r_aload_0 (pc := 29) C dX6_gateLine_29 ?_
      refine r_V0vo (pc := 30) C (s_goes (by exact hT) hB hτL ht0) vl_X6_242 (tw_g hT) (by decide) (Nat.le_refl _) (Nat.le_refl _) (Nat.le_of_ble_eq_true rfl) rfl dX6_gateLine_30 (fun u17 A17 hc17 => ?_)
      refine r_eqA (A' := S5 A t σ κ π (stS τ (gS1 σ s))) hc17 ?_
      clear hc17 A17 u17
      refine r_bipush (pc := 33) C dX6_gateLine_33 cb_21 ?_
      refine r_bipush (pc := 35) C dX6_gateLine_35 cb_9 ?_
      refine r_aload_0 (pc := 37) C dX6_gateLine_37 ?_
      refine r_getR (pc := 38) C fl_X6_7_6 (tw_g hT) rfl (tw_r1 hT) dX6_gateLine_38 ?_
      refine r_iconst (pc := 41) C dX6_gateLine_41 ci_0 ?_
      refine r_iald (pc := 42) C (tw_g1 hT) rfl rfl (lt_eq (by omega) (tw_n1 hT)) (by omega) dX6_gateLine_42 ?_
      refine r_top (congrFun (S5_1 _ _ _ _ _ _) _) ?_
      refine r_top hG ?_
      refine r_imul (pc := 43) C dX6_gateLine_43 ?_
      refine r_top (pk_mul _ _) ?_
      refine r_iadd (pc := 44) C dX6_gateLine_44 ?_
      refine r_top (nI_add _ _) ?_
      refine r_istore_1 (pc := 45) C dX6_gateLine_45 rfl ?_
      refine r_aload_0 (pc := 46) C dX6_gateLine_46 ?_
      refine r_iload_1 (pc := 47) C dX6_gateLine_47 ?_
      refine r_iconst (pc := 48) C dX6_gateLine_48 ci_1 ?_
      refine r_V2vo (pc := 49) C (s_newName1 (by exact hT) hB hτL ht1 hN (by omega)) vl_X6_257 (tw_g hT) (by decide) (Nat.le_refl _) (Nat.le_refl _) (Nat.le_of_ble_eq_true rfl) rfl dX6_gateLine_49 (fun u18 A18 hc18 => ?_)
      refine r_eqA (A' := S5 A t (gW1 σ B L s) κ π (stS τ (gS2 σ B L s))) hc18 ?_
      clear hc18 A18 u18
      refine r_aload_0 (pc := 52) C dX6_gateLine_52 ?_
      refine r_V0io (pc := 53) C (m_cellHere (by exact hT) hB hτL ht2 hS1) vl_X6_260 (tw_g hT) (by decide) (Nat.le_refl _) (Nat.le_refl _) (Nat.le_of_ble_eq_true rfl) rfl dX6_gateLine_53 (fun u19 A19 hc19 => ?_)
      refine r_top (hc19.1.trans (rfl : _ = nI (gCe σ B L s))) ?_
      refine r_eqA hc19.2 ?_
      clear hc19 A19 u19
      refine r_istore_2 (pc := 56) C dX6_gateLine_56 rfl ?_
      refine r_aload_0 (pc := 57) C dX6_gateLine_57 ?_
      refine r_aload_0 (pc := 58) C dX6_gateLine_58 ?_
      refine r_iload_2 (pc := 59) C dX6_gateLine_59 ?_
      refine r_iconst (pc := 60) C dX6_gateLine_60 ci_0 ?_
      refine r_V2io (pc := 61) C (m_ofCell (by exact hT) (S5_1 _ _ _ _ _ _)) vl_X6_86 (tw_g hT) (by decide) (Nat.le_refl _) (Nat.le_refl _) (Nat.le_of_ble_eq_true rfl) rfl dX6_gateLine_61 (fun u20 A20 hc20 => ?_)
      refine r_top hc20.1 ?_
      refine r_eqA hc20.2 ?_
      clear hc20 A20 u20
      refine r_iconst (pc := 64) C dX6_gateLine_64 ci_2 ?_
      refine r_icmp_eq (pc := 65) (tgt := 72) C dX6_gateLine_65 (by decide) (fun b65 => ?_) (fun b65 => ?_)
      · skip
        refine r_iconst (pc := 72) C dX6_gateLine_72 ci_0 ?_
        refine r_iconst (pc := 73) C dX6_gateLine_73 ci_3 ?_
        refine r_V2vo (pc := 74) C (s_must0 (by exact hT) hB hτL ht3 (¬ gW1 σ B L s (153 + 5 * gCe σ B L s + 0) = nI 2) (fun q => q (by assumption))) vl_X6_217 (tw_g hT) (by decide) (Nat.le_refl _) (Nat.le_refl _) (Nat.le_of_ble_eq_true rfl) rfl dX6_gateLine_74 (fun u21 A21 hc21 => ?_)
        refine r_eqA (A' := S5 A t (gW1 σ B L s) κ π (stS τ (gS3 σ B L s))) hc21 ?_
        clear hc21 A21 u21
        refine r_aload_0 (pc := 77) C dX6_gateLine_77 ?_
        refine r_getR (pc := 78) C fl_X6_7_6 (tw_g hT) rfl (tw_r1 hT) dX6_gateLine_78 ?_
        refine r_iload_1 (pc := 81) C dX6_gateLine_81 ?_
        refine r_bipush (pc := 82) C dX6_gateLine_82 cb_7 ?_
        refine r_iadd (pc := 84) C dX6_gateLine_84 ?_
        refine r_top (nI_add _ _) ?_
        refine r_aload_0 (pc := 85) C dX6_gateLine_85 ?_
        refine r_iload_2 (pc := 86) C dX6_gateLine_86 ?_
        refine r_V1io (pc := 87) C (m_xOf (by exact hT) (S5_1 _ _ _ _ _ _) hS1 (by omega)) vl_X6_76 (tw_g hT) (by decide) (Nat.le_refl _) (Nat.le_refl _) (Nat.le_of_ble_eq_true rfl) rfl dX6_gateLine_87 (fun u22 A22 hc22 => ?_)
        refine r_top hc22.1 ?_
        refine r_eqA hc22.2 ?_
        clear hc22 A22 u22
        refine r_iast (pc := 90) C (tw_g1 hT) rfl rfl (lt_eq (by omega) (tw_n1 hT)) (by omega) dX6_gateLine_90 ?_
        refine r_eqA (S5_u1 _ _ _ _ _ _ _ _) ?_
        refine r_aload_0 (pc := 91) C dX6_gateLine_91 ?_
        refine r_getR (pc := 92) C fl_X6_7_6 (tw_g hT) rfl (tw_r1 hT) dX6_gateLine_92 ?_
        refine r_iload_1 (pc := 95) C dX6_gateLine_95 ?_
        refine r_bipush (pc := 96) C dX6_gateLine_96 cb_8 ?_
        refine r_iadd (pc := 98) C dX6_gateLine_98 ?_
        refine r_top (nI_add _ _) ?_
        refine r_aload_0 (pc := 99) C dX6_gateLine_99 ?_
        refine r_iload_2 (pc := 100) C dX6_gateLine_100 ?_
        refine r_V1io (pc := 101) C (m_yOf (σ := gW2 σ B L s) (by exact hT) (S5_1 _ _ _ _ _ _) hS2 (by omega)) vl_X6_72 (tw_g hT) (by decide) (Nat.le_refl _) (Nat.le_refl _) (Nat.le_of_ble_eq_true rfl) rfl dX6_gateLine_101 (fun u23 A23 hc23 => ?_)
        refine r_top hc23.1 ?_
        refine r_eqA hc23.2 ?_
        clear hc23 A23 u23
        refine r_iast (pc := 104) C (tw_g1 hT) rfl rfl (lt_eq (by omega) (tw_n1 hT)) (by omega) dX6_gateLine_104 ?_
        refine r_eqA (S5_u1 _ _ _ _ _ _ _ _) ?_
        refine r_aload_0 (pc := 105) C dX6_gateLine_105 ?_
        refine r_iload_2 (pc := 106) C dX6_gateLine_106 ?_
        refine r_iconst (pc := 107) C dX6_gateLine_107 ci_0 ?_
        refine r_iconst (pc := 108) C dX6_gateLine_108 ci_2 ?_
        refine r_V3vo (pc := 109) C (m_putsCell (by exact hT) (S5_1 _ _ _ _ _ _)) vl_X6_139 (tw_g hT) (by decide) (Nat.le_refl _) (Nat.le_refl _) (Nat.le_of_ble_eq_true rfl) rfl dX6_gateLine_109 (fun u24 A24 hc24 => ?_)
        refine r_eqA hc24 ?_
        clear hc24 A24 u24
        refine r_eqA (S5_w1 _ _ _ _ _ _ _) ?_
        refine r_aload_0 (pc := 112) C dX6_gateLine_112 ?_
        refine r_iload_2 (pc := 113) C dX6_gateLine_113 ?_
        refine r_iconst (pc := 114) C dX6_gateLine_114 ci_1 ?_
        refine r_iconst (pc := 115) C dX6_gateLine_115 ci_0 ?_
        refine r_V3vo (pc := 116) C (m_putsCell (by exact hT) (S5_1 _ _ _ _ _ _)) vl_X6_139 (tw_g hT) (by decide) (Nat.le_refl _) (Nat.le_refl _) (Nat.le_of_ble_eq_true rfl) rfl dX6_gateLine_116 (fun u25 A25 hc25 => ?_)
        refine r_eqA hc25 ?_
        clear hc25 A25 u25
        refine r_eqA (S5_w1 _ _ _ _ _ _ _) ?_
        refine r_aload_0 (pc := 119) C dX6_gateLine_119 ?_
        refine r_getR (pc := 120) C fl_X6_7_6 (tw_g hT) rfl (tw_r1 hT) dX6_gateLine_120 ?_
        refine r_iconst (pc := 123) C dX6_gateLine_123 ci_0 ?_
        refine r_dup2 (pc := 124) C dX6_gateLine_124 rfl rfl ?_
        refine r_iald (pc := 125) C (tw_g1 hT) rfl rfl (lt_eq (by omega) (tw_n1 hT)) (by omega) dX6_gateLine_125 ?_
        refine r_top (congrFun (S5_1 _ _ _ _ _ _) _) ?_
        refine r_top ((gW5_x (σ := σ) (B := B) (L := L) (s := s) (j := 0) (by omega)).trans hG) ?_
        refine r_iconst (pc := 126) C dX6_gateLine_126 ci_1 ?_
        refine r_iadd (pc := 127) C dX6_gateLine_127 ?_
        refine r_top (nI_add _ _) ?_
        refine r_iast (pc := 128) C (tw_g1 hT) rfl rfl (lt_eq (by omega) (tw_n1 hT)) (by omega) dX6_gateLine_128 ?_
        refine r_eqA (S5_u1 _ _ _ _ _ _ _ _) ?_
        refine r_vret (pc := 129) C E (Nat.le_refl _) (Nat.le_refl _) dX6_gateLine_129 ?_
        unfold gateW gateS
        rw [if_pos b25, if_pos b25]
        rfl
      · skip
        refine r_iconst (pc := 68) C dX6_gateLine_68 ci_1 ?_
        refine r_goto (pc := 69) (tgt := 73) C dX6_gateLine_69 (by decide) ?_
        refine r_iconst (pc := 73) C dX6_gateLine_73 ci_3 ?_
        refine r_V2vo (pc := 74) C (s_must1 (by exact hT) hB hτL ht3 (¬ gW1 σ B L s (153 + 5 * gCe σ B L s + 0) = nI 2) (by assumption)) vl_X6_217 (tw_g hT) (by decide) (Nat.le_refl _) (Nat.le_refl _) (Nat.le_of_ble_eq_true rfl) rfl dX6_gateLine_74 (fun u26 A26 hc26 => ?_)
        refine r_eqA (A' := S5 A t (gW1 σ B L s) κ π (stS τ (gS3 σ B L s))) hc26 ?_
        clear hc26 A26 u26
        refine r_aload_0 (pc := 77) C dX6_gateLine_77 ?_
        refine r_getR (pc := 78) C fl_X6_7_6 (tw_g hT) rfl (tw_r1 hT) dX6_gateLine_78 ?_
        refine r_iload_1 (pc := 81) C dX6_gateLine_81 ?_
        refine r_bipush (pc := 82) C dX6_gateLine_82 cb_7 ?_
        refine r_iadd (pc := 84) C dX6_gateLine_84 ?_
        refine r_top (nI_add _ _) ?_
        refine r_aload_0 (pc := 85) C dX6_gateLine_85 ?_
        refine r_iload_2 (pc := 86) C dX6_gateLine_86 ?_
        refine r_V1io (pc := 87) C (m_xOf (by exact hT) (S5_1 _ _ _ _ _ _) hS1 (by omega)) vl_X6_76 (tw_g hT) (by decide) (Nat.le_refl _) (Nat.le_refl _) (Nat.le_of_ble_eq_true rfl) rfl dX6_gateLine_87 (fun u27 A27 hc27 => ?_)
        refine r_top hc27.1 ?_
        refine r_eqA hc27.2 ?_
        clear hc27 A27 u27
        refine r_iast (pc := 90) C (tw_g1 hT) rfl rfl (lt_eq (by omega) (tw_n1 hT)) (by omega) dX6_gateLine_90 ?_
        refine r_eqA (S5_u1 _ _ _ _ _ _ _ _) ?_
        refine r_aload_0 (pc := 91) C dX6_gateLine_91 ?_
        refine r_getR (pc := 92) C fl_X6_7_6 (tw_g hT) rfl (tw_r1 hT) dX6_gateLine_92 ?_
        refine r_iload_1 (pc := 95) C dX6_gateLine_95 ?_
        refine r_bipush (pc := 96) C dX6_gateLine_96 cb_8 ?_
        refine r_iadd (pc := 98) C dX6_gateLine_98 ?_
        refine r_top (nI_add _ _) ?_
        refine r_aload_0 (pc := 99) C dX6_gateLine_99 ?_
        refine r_iload_2 (pc := 100) C dX6_gateLine_100 ?_
        refine r_V1io (pc := 101) C (m_yOf (σ := gW2 σ B L s) (by exact hT) (S5_1 _ _ _ _ _ _) hS2 (by omega)) vl_X6_72 (tw_g hT) (by decide) (Nat.le_refl _) (Nat.le_refl _) (Nat.le_of_ble_eq_true rfl) rfl dX6_gateLine_101 (fun u28 A28 hc28 => ?_)
        refine r_top hc28.1 ?_
        refine r_eqA hc28.2 ?_
        clear hc28 A28 u28
        refine r_iast (pc := 104) C (tw_g1 hT) rfl rfl (lt_eq (by omega) (tw_n1 hT)) (by omega) dX6_gateLine_104 ?_
        refine r_eqA (S5_u1 _ _ _ _ _ _ _ _) ?_
        refine r_aload_0 (pc := 105) C dX6_gateLine_105 ?_
        refine r_iload_2 (pc := 106) C dX6_gateLine_106 ?_
        refine r_iconst (pc := 107) C dX6_gateLine_107 ci_0 ?_
        refine r_iconst (pc := 108) C dX6_gateLine_108 ci_2 ?_
        refine r_V3vo (pc := 109) C (m_putsCell (by exact hT) (S5_1 _ _ _ _ _ _)) vl_X6_139 (tw_g hT) (by decide) (Nat.le_refl _) (Nat.le_refl _) (Nat.le_of_ble_eq_true rfl) rfl dX6_gateLine_109 (fun u29 A29 hc29 => ?_)
        refine r_eqA hc29 ?_
        clear hc29 A29 u29
        refine r_eqA (S5_w1 _ _ _ _ _ _ _) ?_
        refine r_aload_0 (pc := 112) C dX6_gateLine_112 ?_
        refine r_iload_2 (pc := 113) C dX6_gateLine_113 ?_
        refine r_iconst (pc := 114) C dX6_gateLine_114 ci_1 ?_
        refine r_iconst (pc := 115) C dX6_gateLine_115 ci_0 ?_
        refine r_V3vo (pc := 116) C (m_putsCell (by exact hT) (S5_1 _ _ _ _ _ _)) vl_X6_139 (tw_g hT) (by decide) (Nat.le_refl _) (Nat.le_refl _) (Nat.le_of_ble_eq_true rfl) rfl dX6_gateLine_116 (fun u30 A30 hc30 => ?_)
        refine r_eqA hc30 ?_
        clear hc30 A30 u30
        refine r_eqA (S5_w1 _ _ _ _ _ _ _) ?_
        refine r_aload_0 (pc := 119) C dX6_gateLine_119 ?_
        refine r_getR (pc := 120) C fl_X6_7_6 (tw_g hT) rfl (tw_r1 hT) dX6_gateLine_120 ?_
        refine r_iconst (pc := 123) C dX6_gateLine_123 ci_0 ?_
        refine r_dup2 (pc := 124) C dX6_gateLine_124 rfl rfl ?_
        refine r_iald (pc := 125) C (tw_g1 hT) rfl rfl (lt_eq (by omega) (tw_n1 hT)) (by omega) dX6_gateLine_125 ?_
        refine r_top (congrFun (S5_1 _ _ _ _ _ _) _) ?_
        refine r_top ((gW5_x (σ := σ) (B := B) (L := L) (s := s) (j := 0) (by omega)).trans hG) ?_
        refine r_iconst (pc := 126) C dX6_gateLine_126 ci_1 ?_
        refine r_iadd (pc := 127) C dX6_gateLine_127 ?_
        refine r_top (nI_add _ _) ?_
        refine r_iast (pc := 128) C (tw_g1 hT) rfl rfl (lt_eq (by omega) (tw_n1 hT)) (by omega) dX6_gateLine_128 ?_
        refine r_eqA (S5_u1 _ _ _ _ _ _ _ _) ?_
        refine r_vret (pc := 129) C E (Nat.le_refl _) (Nat.le_refl _) dX6_gateLine_129 ?_
        unfold gateW gateS
        rw [if_pos b25, if_pos b25]
        rfl
    · skip
      have b25 := (not_congr (nI_eq0 (by omega))).mp b25
      refine r_vret (pc := 28) C E (Nat.le_refl _) (Nat.le_refl _) dX6_gateLine_28 ?_
      unfold gateW gateS
      rw [if_neg b25, if_neg b25]
