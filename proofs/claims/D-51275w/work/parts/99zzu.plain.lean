/-! PURE: the plain text, read -/
set_option maxRecDepth 100000
def plainT : List Nat := [108, 97, 119, 110, 32, 53, 32, 52, 32, 51, 32, 50, 59, 103, 97, 116, 101, 32, 119, 101, 115, 116, 32, 48, 32, 49, 59, 103, 97, 116, 101, 32, 101, 97, 115, 116, 32, 52, 32, 49, 59, 103, 97, 116, 101, 32, 112, 111, 110, 100, 32, 50, 32, 51, 59, 119, 97, 108, 107, 101, 114, 32, 97, 100, 97, 32, 119, 101, 115, 116, 32, 101, 97, 115, 116, 32, 53, 32, 49, 59, 119, 97, 108, 107, 101, 114, 32, 98, 101, 110, 32, 101, 97, 115, 116, 32, 112, 111, 110, 100, 32, 48, 32, 50, 59, 115, 116, 111, 110, 101, 32, 49, 32, 49, 59, 115, 116, 111, 110, 101, 32, 49, 32, 48, 59, 115, 116, 111, 110, 101, 32, 50, 32, 48, 59, 115, 116, 111, 110, 101, 32, 51, 32, 48, 59, 115, 116, 111, 110, 101, 32, 52, 32, 48]
def plB : Nat → Nat := chs plainT
def pZ : Rw := fun _ => 0
def p0 : TS := (0, 0, 0, 0, -1)
def pW0 : Rw := lawnW (zeR pZ 553) plB 154 p0
def pS0 : TS := lawnS plB 154 p0
def pA0 : TS := signS plB 154 59 pS0
def pW1 : Rw := gateW pW0 plB 154 (nextS plB 154 pA0)
def pS1 : TS := gateS pW0 plB 154 (nextS plB 154 pA0)
def pA1 : TS := signS plB 154 59 pS1
def pW2 : Rw := gateW pW1 plB 154 (nextS plB 154 pA1)
def pS2 : TS := gateS pW1 plB 154 (nextS plB 154 pA1)
def pA2 : TS := signS plB 154 59 pS2
def pW3 : Rw := gateW pW2 plB 154 (nextS plB 154 pA2)
def pS3 : TS := gateS pW2 plB 154 (nextS plB 154 pA2)
def pA3 : TS := signS plB 154 59 pS3
def pW4 : Rw := walkW pW3 plB 154 (nextS plB 154 pA3)
def pS4 : TS := walkS pW3 plB 154 (nextS plB 154 pA3)
def pA4 : TS := signS plB 154 59 pS4
def pW5 : Rw := walkW pW4 plB 154 (nextS plB 154 pA4)
def pS5 : TS := walkS pW4 plB 154 (nextS plB 154 pA4)
def pA5 : TS := signS plB 154 59 pS5
noncomputable def pW6 : Rw := grndW pW5 plB 154 (nextS plB 154 pA5)
noncomputable def pS6 : TS := grndS pW5 plB 154 (nextS plB 154 pA5)
noncomputable def pA6 : TS := signS plB 154 59 pS6
noncomputable def pW7 : Rw := grndW pW6 plB 154 (nextS plB 154 pA6)
noncomputable def pS7 : TS := grndS pW6 plB 154 (nextS plB 154 pA6)
noncomputable def pA7 : TS := signS plB 154 59 pS7
noncomputable def pW8 : Rw := grndW pW7 plB 154 (nextS plB 154 pA7)
noncomputable def pS8 : TS := grndS pW7 plB 154 (nextS plB 154 pA7)
noncomputable def pA8 : TS := signS plB 154 59 pS8
noncomputable def pW9 : Rw := grndW pW8 plB 154 (nextS plB 154 pA8)
noncomputable def pS9 : TS := grndS pW8 plB 154 (nextS plB 154 pA8)
noncomputable def pA9 : TS := signS plB 154 59 pS9
noncomputable def pW10 : Rw := grndW pW9 plB 154 (nextS plB 154 pA9)
noncomputable def pS10 : TS := grndS pW9 plB 154 (nextS plB 154 pA9)
noncomputable def pA10 : TS := signS plB 154 59 pS10
theorem pS_e0 : pS0.e = 0 := by decide +kernel
theorem pS_e1 : pS1.e = 0 := by decide +kernel
theorem pS_e2 : pS2.e = 0 := by decide +kernel
theorem pS_e3 : pS3.e = 0 := by decide +kernel
theorem pS_e4 : pS4.e = 0 := by decide +kernel
theorem pS_e5 : pS5.e = 0 := by decide +kernel
theorem pS_e6 : pS6.e = 0 := by decide +kernel
theorem pS_e7 : pS7.e = 0 := by decide +kernel
theorem pS_e8 : pS8.e = 0 := by decide +kernel
theorem pS_e9 : pS9.e = 0 := by decide +kernel
theorem pS_e10 : pS10.e = 0 := by decide +kernel
theorem pA_e0 : pA0.e = 0 := by decide +kernel
theorem pA_e1 : pA1.e = 0 := by decide +kernel
theorem pA_e2 : pA2.e = 0 := by decide +kernel
theorem pA_e3 : pA3.e = 0 := by decide +kernel
theorem pA_e4 : pA4.e = 0 := by decide +kernel
theorem pA_e5 : pA5.e = 0 := by decide +kernel
theorem pA_e6 : pA6.e = 0 := by decide +kernel
theorem pA_e7 : pA7.e = 0 := by decide +kernel
theorem pA_e8 : pA8.e = 0 := by decide +kernel
theorem pA_e9 : pA9.e = 0 := by decide +kernel
theorem pg_s0 : seesW plB 154 wGate pA0 := by decide +kernel
theorem pg_c0 : gCe pW0 plB 154 (nextS plB 154 pA0) = 5 := by decide +kernel
theorem pg_n0 : pW1 (21 + 9 * 0) = nI 4 ∧ ∀ j, j < 4 → pW1 (21 + 9 * 0 + 1 + j) = nI (chs [119, 101, 115, 116] j) ∧ 97 ≤ chs [119, 101, 115, 116] j ∧ chs [119, 101, 115, 116] j ≤ 122 := by decide +kernel
theorem pg_s1 : seesW plB 154 wGate pA1 := by decide +kernel
theorem pg_c1 : gCe pW1 plB 154 (nextS plB 154 pA1) = 9 := by decide +kernel
theorem pg_n1 : pW2 (21 + 9 * 1) = nI 4 ∧ ∀ j, j < 4 → pW2 (21 + 9 * 1 + 1 + j) = nI (chs [101, 97, 115, 116] j) ∧ 97 ≤ chs [101, 97, 115, 116] j ∧ chs [101, 97, 115, 116] j ≤ 122 := by decide +kernel
theorem pg_s2 : seesW plB 154 wGate pA2 := by decide +kernel
theorem pg_c2 : gCe pW2 plB 154 (nextS plB 154 pA2) = 17 := by decide +kernel
theorem pg_n2 : pW3 (21 + 9 * 2) = nI 4 ∧ ∀ j, j < 4 → pW3 (21 + 9 * 2 + 1 + j) = nI (chs [112, 111, 110, 100] j) ∧ 97 ≤ chs [112, 111, 110, 100] j ∧ chs [112, 111, 110, 100] j ≤ 122 := by decide +kernel
theorem pk_s0 : seesW plB 154 wWalker pA3 := by decide +kernel
theorem pk_w0 : ¬ seesW plB 154 wGate pA3 := by decide +kernel
theorem pk_c0 : kFr pW3 plB 154 (nextS plB 154 pA3) = 0 ∧ kTo pW3 plB 154 (nextS plB 154 pA3) = 1 ∧ numN plB 154 0 9 (kS4 pW3 plB 154 (nextS plB 154 pA3)) = 5 ∧ numN plB 154 1 9 (kS5 pW3 plB 154 (nextS plB 154 pA3)) = 1 := by decide +kernel
theorem pk_n0 : pW4 (75 + 13 * 0) = nI 3 ∧ ∀ j, j < 3 → pW4 (75 + 13 * 0 + 1 + j) = nI (chs [97, 100, 97] j) ∧ 97 ≤ chs [97, 100, 97] j ∧ chs [97, 100, 97] j ≤ 122 := by decide +kernel
theorem pk_s1 : seesW plB 154 wWalker pA4 := by decide +kernel
theorem pk_w1 : ¬ seesW plB 154 wGate pA4 := by decide +kernel
theorem pk_c1 : kFr pW4 plB 154 (nextS plB 154 pA4) = 1 ∧ kTo pW4 plB 154 (nextS plB 154 pA4) = 2 ∧ numN plB 154 0 9 (kS4 pW4 plB 154 (nextS plB 154 pA4)) = 0 ∧ numN plB 154 1 9 (kS5 pW4 plB 154 (nextS plB 154 pA4)) = 2 := by decide +kernel
theorem pk_n1 : pW5 (75 + 13 * 1) = nI 3 ∧ ∀ j, j < 3 → pW5 (75 + 13 * 1 + 1 + j) = nI (chs [98, 101, 110] j) ∧ 97 ≤ chs [98, 101, 110] j ∧ chs [98, 101, 110] j ≤ 122 := by decide +kernel
theorem ps_w0 : WdT plB 154 pA5 wStone := by decide +kernel
theorem ps_k0 : ¬ seesW plB 154 wWalker pA5 := by decide +kernel
theorem ps_f0 : (freeS pW5 plB 154 (goesS (nextS plB 154 pA5))).e = 0 := by decide +kernel
theorem ps_c0 : cellN pW5 plB 154 (goesS (nextS plB 154 pA5)) = 6 := by decide +kernel
theorem ps_h0 : pW5 (153 + 5 * 6 + 0) = 0 := by decide +kernel
theorem ps_w1 : WdT plB 154 pA6 wStone := by decide +kernel
theorem ps_k1 : ¬ seesW plB 154 wWalker pA6 := by decide +kernel
theorem ps_f1 : (freeS pW6 plB 154 (goesS (nextS plB 154 pA6))).e = 0 := by decide +kernel
theorem ps_c1 : cellN pW6 plB 154 (goesS (nextS plB 154 pA6)) = 1 := by decide +kernel
theorem ps_h1 : pW6 (153 + 5 * 1 + 0) = 0 := by decide +kernel
theorem ps_w2 : WdT plB 154 pA7 wStone := by decide +kernel
theorem ps_k2 : ¬ seesW plB 154 wWalker pA7 := by decide +kernel
theorem ps_f2 : (freeS pW7 plB 154 (goesS (nextS plB 154 pA7))).e = 0 := by decide +kernel
theorem ps_c2 : cellN pW7 plB 154 (goesS (nextS plB 154 pA7)) = 2 := by decide +kernel
theorem ps_h2 : pW7 (153 + 5 * 2 + 0) = 0 := by decide +kernel
theorem ps_w3 : WdT plB 154 pA8 wStone := by decide +kernel
theorem ps_k3 : ¬ seesW plB 154 wWalker pA8 := by decide +kernel
theorem ps_f3 : (freeS pW8 plB 154 (goesS (nextS plB 154 pA8))).e = 0 := by decide +kernel
theorem ps_c3 : cellN pW8 plB 154 (goesS (nextS plB 154 pA8)) = 3 := by decide +kernel
theorem ps_h3 : pW8 (153 + 5 * 3 + 0) = 0 := by decide +kernel
theorem ps_w4 : WdT plB 154 pA9 wStone := by decide +kernel
theorem ps_k4 : ¬ seesW plB 154 wWalker pA9 := by decide +kernel
theorem ps_f4 : (freeS pW9 plB 154 (goesS (nextS plB 154 pA9))).e = 0 := by decide +kernel
theorem ps_c4 : cellN pW9 plB 154 (goesS (nextS plB 154 pA9)) = 4 := by decide +kernel
theorem ps_h4 : pW9 (153 + 5 * 4 + 0) = 0 := by decide +kernel
theorem p_end : btO plB 154 (skp plB 154 pS10.a) = none := by decide +kernel
theorem pb_5 : ¬ btO plB 154 (skp plB 154 pS5.a) = none := by decide +kernel
theorem pb_6 : ¬ btO plB 154 (skp plB 154 pS6.a) = none := by decide +kernel
theorem pb_7 : ¬ btO plB 154 (skp plB 154 pS7.a) = none := by decide +kernel
theorem pb_8 : ¬ btO plB 154 (skp plB 154 pS8.a) = none := by decide +kernel
theorem pb_9 : ¬ btO plB 154 (skp plB 154 pS9.a) = none := by decide +kernel
theorem pb_4 : ¬ btO plB 154 (skp plB 154 pS4.a) = none := by decide +kernel
theorem pc_20 : rC pW0 = 20 := by decide +kernel
theorem pD0 : Dj pW0 ∧ NF pW0 ∧ K02 pW0 ∧ rG pW0 = 0 ∧ rK pW0 = 0 := lawn_D (zeR_z pZ) pS_e0
theorem pN0 : NewR pW0 5 4 (nI 3) (nI 2) := lawn_new (by decide) (by decide) (by decide +kernel) (by decide +kernel) (by decide +kernel) (by decide +kernel) (zeR_z pZ) (by decide +kernel)
theorem pD1 : Dj pW1 ∧ NF pW1 ∧ K02 pW1 ∧ rG pW1 = 1 ∧ rK pW1 = 0 := by
  obtain ⟨h1, h2, h3, h4, h5⟩ := gate_D (B := plB) (L := 154) (s := pA0) pD0.1 pD0.2.1 pD0.2.2.1 pS_e1
  exact ⟨h1, h2, h3, h4.trans (by rw [pD0.2.2.2.1]), h5.trans pD0.2.2.2.2⟩
theorem pD2 : Dj pW2 ∧ NF pW2 ∧ K02 pW2 ∧ rG pW2 = 2 ∧ rK pW2 = 0 := by
  obtain ⟨h1, h2, h3, h4, h5⟩ := gate_D (B := plB) (L := 154) (s := pA1) pD1.1 pD1.2.1 pD1.2.2.1 pS_e2
  exact ⟨h1, h2, h3, h4.trans (by rw [pD1.2.2.2.1]), h5.trans pD1.2.2.2.2⟩
theorem pD3 : Dj pW3 ∧ NF pW3 ∧ K02 pW3 ∧ rG pW3 = 3 ∧ rK pW3 = 0 := by
  obtain ⟨h1, h2, h3, h4, h5⟩ := gate_D (B := plB) (L := 154) (s := pA2) pD2.1 pD2.2.1 pD2.2.2.1 pS_e3
  exact ⟨h1, h2, h3, h4.trans (by rw [pD2.2.2.2.1]), h5.trans pD2.2.2.2.2⟩
theorem pD4 : Dj pW4 ∧ NF pW4 ∧ rG pW4 = 3 ∧ rK pW4 = 1 := by
  obtain ⟨h1, h2, h3, h4, h5⟩ := walk_D (B := plB) (L := 154) (s := pA3) pD3.1 pD3.2.1 (by rw [pD3.2.2.2.1]; decide) pS_e4
  exact ⟨h1, h2, h3.trans pD3.2.2.2.1, h4.trans (by rw [pD3.2.2.2.2])⟩
theorem pD5 : Dj pW5 ∧ NF pW5 ∧ rG pW5 = 3 ∧ rK pW5 = 2 := by
  obtain ⟨h1, h2, h3, h4, h5⟩ := walk_D (B := plB) (L := 154) (s := pA4) pD4.1 pD4.2.1 (by rw [pD4.2.2.1]; decide) pS_e5
  exact ⟨h1, h2, h3.trans pD4.2.2.1, h4.trans (by rw [pD4.2.2.2])⟩
theorem pD6 : Dj pW6 ∧ rG pW6 = 3 ∧ rK pW6 = 2 := by
  obtain ⟨h1, h2, h3⟩ := grnd_D (B := plB) (L := 154) (s := pA5) pD5.1 pS_e6 pA_e5 (Or.inr (Or.inl ps_w0))
  exact ⟨h1, h2.trans pD5.2.2.1, h3.trans pD5.2.2.2⟩
theorem pH6 : pW6 = hd pW5 6 1 := (ston_done pA_e5 ps_w0 ps_f0 ps_c0).2
theorem pD7 : Dj pW7 ∧ rG pW7 = 3 ∧ rK pW7 = 2 := by
  obtain ⟨h1, h2, h3⟩ := grnd_D (B := plB) (L := 154) (s := pA6) pD6.1 pS_e7 pA_e6 (Or.inr (Or.inl ps_w1))
  exact ⟨h1, h2.trans pD6.2.1, h3.trans pD6.2.2⟩
theorem pH7 : pW7 = hd pW6 1 1 := (ston_done pA_e6 ps_w1 ps_f1 ps_c1).2
theorem pD8 : Dj pW8 ∧ rG pW8 = 3 ∧ rK pW8 = 2 := by
  obtain ⟨h1, h2, h3⟩ := grnd_D (B := plB) (L := 154) (s := pA7) pD7.1 pS_e8 pA_e7 (Or.inr (Or.inl ps_w2))
  exact ⟨h1, h2.trans pD7.2.1, h3.trans pD7.2.2⟩
theorem pH8 : pW8 = hd pW7 2 1 := (ston_done pA_e7 ps_w2 ps_f2 ps_c2).2
theorem pD9 : Dj pW9 ∧ rG pW9 = 3 ∧ rK pW9 = 2 := by
  obtain ⟨h1, h2, h3⟩ := grnd_D (B := plB) (L := 154) (s := pA8) pD8.1 pS_e9 pA_e8 (Or.inr (Or.inl ps_w3))
  exact ⟨h1, h2.trans pD8.2.1, h3.trans pD8.2.2⟩
theorem pH9 : pW9 = hd pW8 3 1 := (ston_done pA_e8 ps_w3 ps_f3 ps_c3).2
theorem pD10 : Dj pW10 ∧ rG pW10 = 3 ∧ rK pW10 = 2 := by
  obtain ⟨h1, h2, h3⟩ := grnd_D (B := plB) (L := 154) (s := pA9) pD9.1 pS_e10 pA_e9 (Or.inr (Or.inl ps_w4))
  exact ⟨h1, h2.trans pD9.2.1, h3.trans pD9.2.2⟩
theorem pH10 : pW10 = hd pW9 4 1 := (ston_done pA_e9 ps_w4 ps_f4 ps_c4).2
theorem pP0 : GateP pW0 pW1 5 := by
  have e : pW1 = gW6 pW0 plB 154 (nextS plB 154 pA0) := by unfold pW1 gateW; exact if_pos (by decide +kernel)
  rw [e]
  exact gate_P (by rw [pD0.2.2.2.1]; decide) pg_c0
theorem pP1 : GateP pW1 pW2 9 := by
  have e : pW2 = gW6 pW1 plB 154 (nextS plB 154 pA1) := by unfold pW2 gateW; exact if_pos (by decide +kernel)
  rw [e]
  exact gate_P (by rw [pD1.2.2.2.1]; decide) pg_c1
theorem pP2 : GateP pW2 pW3 17 := by
  have e : pW3 = gW6 pW2 plB 154 (nextS plB 154 pA2) := by unfold pW3 gateW; exact if_pos (by decide +kernel)
  rw [e]
  exact gate_P (by rw [pD2.2.2.2.1]; decide) pg_c2
theorem pQ0 : WalkP pW3 pW4 0 1 5 1 := by
  have e : pW4 = kW6 pW3 plB 154 (nextS plB 154 pA3) := by unfold pW4 walkW; exact if_pos (by decide +kernel)
  have h := kW6_P (σ := pW3) (B := plB) (L := 154) (s := nextS plB 154 pA3)
  rw [pk_c0.1, pk_c0.2.1, pk_c0.2.2.1, pk_c0.2.2.2, ← e] at h
  exact h
theorem pQ1 : WalkP pW4 pW5 1 2 0 2 := by
  have e : pW5 = kW6 pW4 plB 154 (nextS plB 154 pA4) := by unfold pW5 walkW; exact if_pos (by decide +kernel)
  have h := kW6_P (σ := pW4) (B := plB) (L := 154) (s := nextS plB 154 pA4)
  rw [pk_c1.1, pk_c1.2.1, pk_c1.2.2.1, pk_c1.2.2.2, ← e] at h
  exact h
theorem p_rd : rdT pZ plB 154 0 = (pW10, nextS plB 154 pS10) := by
  show rdL plB 154 156 pW0 pS0 true = _
  have e0 : rdL plB 154 156 pW0 pS0 true = rdL plB 154 155 pW1 pS1 true := (rb_more (n := 155) pS_e0 (Or.inl pD0.2.2.2.2) pA_e0).trans (rs_gate (s := pA0) (n := 155) pD0.2.2.2.2 pg_s0)
  have e1 : rdL plB 154 155 pW1 pS1 true = rdL plB 154 154 pW2 pS2 true := (rb_more (n := 154) pS_e1 (Or.inl pD1.2.2.2.2) pA_e1).trans (rs_gate (s := pA1) (n := 154) pD1.2.2.2.2 pg_s1)
  have e2 : rdL plB 154 154 pW2 pS2 true = rdL plB 154 153 pW3 pS3 true := (rb_more (n := 153) pS_e2 (Or.inl pD2.2.2.2.2) pA_e2).trans (rs_gate (s := pA2) (n := 153) pD2.2.2.2.2 pg_s2)
  have e3 : rdL plB 154 153 pW3 pS3 true = rdL plB 154 152 pW4 pS4 true := (rb_more (n := 152) pS_e3 (Or.inl pD3.2.2.2.2) pA_e3).trans (rs_walk (s := pA3) (n := 152) (fun q => pk_w0 q.2) (by rw [pD3.2.2.2.1]; decide) pk_s0)
  have e4 : rdL plB 154 152 pW4 pS4 true = rdL plB 154 151 pW5 pS5 true := (rb_more (n := 151) pS_e4 (Or.inr pb_4) pA_e4).trans (rs_walk (s := pA4) (n := 151) (fun q => pk_w1 q.2) (by rw [pD4.2.2.1]; decide) pk_s1)
  have e5 : rdL plB 154 151 pW5 pS5 true = rdL plB 154 150 pW6 pS6 false := (rb_more (n := 150) pS_e5 (Or.inr pb_5) pA_e5).trans (rs_grnd (s := pA5) (n := 150) (by rw [pD5.2.2.2]; decide) (fun q => ps_k0 q.2.2) (Or.inl ⟨pA_e5, ps_w0⟩))
  have e6 : rdL plB 154 150 pW6 pS6 false = rdL plB 154 149 pW7 pS7 false := (rb_more (n := 149) pS_e6 (Or.inr pb_6) pA_e6).trans (rs_grnd (s := pA6) (n := 149) (by rw [pD6.2.2]; decide) (fun q => ps_k1 q.2.2) (Or.inl ⟨pA_e6, ps_w1⟩))
  have e7 : rdL plB 154 149 pW7 pS7 false = rdL plB 154 148 pW8 pS8 false := (rb_more (n := 148) pS_e7 (Or.inr pb_7) pA_e7).trans (rs_grnd (s := pA7) (n := 148) (by rw [pD7.2.2]; decide) (fun q => ps_k2 q.2.2) (Or.inl ⟨pA_e7, ps_w2⟩))
  have e8 : rdL plB 154 148 pW8 pS8 false = rdL plB 154 147 pW9 pS9 false := (rb_more (n := 147) pS_e8 (Or.inr pb_8) pA_e8).trans (rs_grnd (s := pA8) (n := 147) (by rw [pD8.2.2]; decide) (fun q => ps_k3 q.2.2) (Or.inl ⟨pA_e8, ps_w3⟩))
  have e9 : rdL plB 154 147 pW9 pS9 false = rdL plB 154 146 pW10 pS10 false := (rb_more (n := 146) pS_e9 (Or.inr pb_9) pA_e9).trans (rs_grnd (s := pA9) (n := 146) (by rw [pD9.2.2]; decide) (fun q => ps_k4 q.2.2) (Or.inl ⟨pA_e9, ps_w4⟩))
  rw [e0, e1, e2, e3, e4, e5, e6, e7, e8, e9]
  exact rd_end pS_e10 (fun q => q.elim (fun q => by rw [pD10.2.2] at q; cases q) (fun q => q p_end))
