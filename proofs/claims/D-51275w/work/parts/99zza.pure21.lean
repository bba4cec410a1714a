/-! PURE: the row of a lawn that is being described -/
set_option maxRecDepth 100000
/-- all grass told at the row's place 8 -/
def bs (σ : Rw) : Rw := upd σ 8 (nI (allG σ))
section
variable {σ τ : Rw} {B : Nat → Nat} {L : Nat}
theorem bs_x {j : Nat} (h : j ≠ 8) : bs σ j = σ j := pk_un h
theorem bs_8 : bs σ 8 = nI (allG σ) := pk_us
theorem bs_W : rW (bs σ) = rW σ := congrArg Int32.toNatClampNeg (bs_x (by decide))
theorem bs_H : rH (bs σ) = rH σ := congrArg Int32.toNatClampNeg (bs_x (by decide))
theorem bs_C : rC (bs σ) = rC σ := by unfold rC; rw [bs_W, bs_H]
theorem bs_K : rK (bs σ) = rK σ := congrArg Int32.toNatClampNeg (bs_x (by decide))
theorem bs_G : rG (bs σ) = rG σ := congrArg Int32.toNatClampNeg (bs_x (by decide))
theorem bs_F : rF (bs σ) = rF σ := congrArg Int32.toNatClampNeg (bs_x (by decide))
theorem bs_D : rD (bs σ) = rD σ := congrArg Int32.toNatClampNeg (bs_x (by decide))
theorem bs_gC {r : Nat} : gC (bs σ) r = gC σ r := by
  have e1 : gX (bs σ) r = gX σ r := congrArg Int32.toNatClampNeg (bs_x (by omega))
  have e2 : gY (bs σ) r = gY σ r := congrArg Int32.toNatClampNeg (bs_x (by omega))
  unfold gC
  rw [e1, e2, bs_W]
theorem nmB_bs {f p w : Nat} (h : 8 < f) : nmB (bs σ) B f p w = nmB σ B f p w := by
  have e : (fun k => decide (bs σ (f + 1 + k) = nI (B (p + k)))) = fun k => decide (σ (f + 1 + k) = nI (B (p + k))) := funext fun k => by rw [bs_x (by omega)]
  unfold nmB
  rw [bs_x (show f ≠ 8 by omega), e]
theorem hereR_bs {q : Prop} [Decidable q] {p w : Nat} : hereR (bs σ) B q p w = hereR σ B q p w := by
  have e1 : (fun r => nmB (bs σ) B (21 + 9 * r) p w) = fun r => nmB σ B (21 + 9 * r) p w := funext fun r => nmB_bs (by omega)
  have e2 : (fun r => nmB (bs σ) B (75 + 13 * r) p w) = fun r => nmB σ B (75 + 13 * r) p w := funext fun r => nmB_bs (by omega)
  unfold hereR hereG hereW
  rw [e1, e2, bs_G, bs_K]
theorem newR_bs {q : Prop} [Decidable q] {a : Nat} : newR (bs σ) B L a q = newR σ B L a q := by
  unfold newR
  simp only [hereR_bs]
theorem fndR_bs {q : Prop} [Decidable q] {a : Nat} {but : Int32} : fndR (bs σ) B L a q but = fndR σ B L a q but := by
  unfold fndR
  simp only [hereR_bs]
/-- rows that agree but for place 8 and the accounts -/
theorem row8_J (h : RowJ σ) (e : ∀ j, j < 8 ∨ 21 ≤ j → τ j = σ j) : RowJ τ := by
  have hV : RowW τ := h.w.plc (fun j hj => e j (by unfold Plc at hj; omega))
  have hG : SameG σ τ := fun j hj => e j (by unfold Geo at hj; omega)
  have eD : rD τ = rD σ := congrArg Int32.toNatClampNeg (e 3 (by omega))
  have eF : rF τ = rF σ := congrArg Int32.toNatClampNeg (e 2 (by omega))
  have hc : ∀ c v, τ (153 + 5 * c + v) = σ (153 + 5 * c + v) := fun c v => e _ (by omega)
  have hf : ∀ c, fenced τ c ↔ fenced σ c := fun c => by unfold fenced; rw [hc]
  refine ⟨⟨hV, ways_geo h.w hV hG (fun c _ q => ⟨by rw [← hc]; exact q.1, (hf c).mp q.2⟩) h.y, fun c h80 => (h.c h80).cong (fun v _ => hc c v) eD, ?_⟩, h.g.geo h.w hG (fun c _ q => by rw [hc]; exact q)⟩
  rw [eF, fcnt_c hG.c (fun c _ => hf c)]
  exact h.1.f
theorem bs_J (h : RowJ σ) : RowJ (bs σ) := row8_J h (fun _ hj => bs_x (by omega))
end
/-- a cell that is hard from now on -/
def hd (σ : Rw) (c k : Nat) : Rw := upd (upd σ (153 + 5 * c + 0) (nI k)) (153 + 5 * c + 1) (nI 0)
section
variable {σ τ : Rw} {c k : Nat}
theorem hd_x {j : Nat} (h0 : j ≠ 153 + 5 * c + 0) (h1 : j ≠ 153 + 5 * c + 1) : hd σ c k j = σ j := (pk_un h1).trans (pk_un h0)
theorem hd_0 : hd σ c k (153 + 5 * c + 0) = nI k := (pk_un (by omega)).trans pk_us
theorem hd_1 : hd σ c k (153 + 5 * c + 1) = nI 0 := pk_us
theorem hd_C : rC (hd σ c k) = rC σ := by
  have e1 : rW (hd σ c k) = rW σ := congrArg Int32.toNatClampNeg (hd_x (by omega) (by omega))
  have e2 : rH (hd σ c k) = rH σ := congrArg Int32.toNatClampNeg (hd_x (by omega) (by omega))
  unfold rC
  rw [e1, e2]
theorem allG_up (eC : rC τ = rC σ) (hc : c < rC σ) (e : ∀ j, j ≠ c → τ (153 + 5 * j + 0) = σ (153 + 5 * j + 0) ∧ τ (153 + 5 * j + 1) = σ (153 + 5 * j + 1)) : allG τ + grassF σ c = allG σ + grassF τ c := by
  unfold allG
  rw [eC]
  refine smN_up (f := grassF σ) (h := grassF τ) (fun j hj => ?_) _ hc
  unfold grassF cGr
  rw [(e j hj).1, (e j hj).2]
theorem hd_allG (hc : c < rC σ) (h0 : σ (153 + 5 * c + 0) = 0) (hk : k = 1 ∨ k = 2) : allG (hd σ c k) + cGr σ c = allG σ := by
  have h1 := allG_up (σ := σ) (τ := hd σ c k) hd_C hc (fun j hj => ⟨hd_x (by omega) (by omega), hd_x (by omega) (by omega)⟩)
  have e1 : grassF σ c = cGr σ c := if_pos h0
  have e2 : grassF (hd σ c k) c = 0 := if_neg (by rw [hd_0]; rcases hk with q | q <;> subst q <;> decide)
  rw [e1, e2] at h1
  exact h1
theorem hard_bs (hW : RowW σ) (hc : c < rC σ) (h0 : σ (153 + 5 * c + 0) = 0) (hk : k = 1 ∨ k = 2) : hardR (bs σ) c k = bs (hd σ c k) := by
  have h8 := hW.s.c80
  have hg := hW.c (c := c) (by omega)
  have ha := hd_allG hc h0 hk
  funext j
  unfold hardR
  by_cases q1 : j = 153 + 5 * c + 1
  · subst q1
    rw [pk_us, bs_x (by omega), hd_1]
  · rw [pk_un q1]
    by_cases q2 : j = 8
    · subst q2
      rw [pk_us, pk_un (by omega), pk_un (by omega), bs_8, bs_x (by omega), hg, pk_sub (by omega), bs_8]
      congr 1
      omega
    · rw [pk_un q2, bs_x q2]
      by_cases q3 : j = 153 + 5 * c + 0
      · subst q3
        rw [pk_us, hd_0]
      · rw [pk_un q3, bs_x q2, hd_x q3 q1]
end
/-- a gate's line: what it makes of the row -/
def GateP (σ τ : Rw) (c : Nat) : Prop := (τ 0 = nI (rG σ + 1) ∧ τ (153 + 5 * c + 0) = nI 2 ∧ τ (153 + 5 * c + 1) = nI 0) ∧ (τ (21 + 9 * rG σ + 7) = nI (c % rW σ) ∧ τ (21 + 9 * rG σ + 8) = nI (c / rW σ)) ∧ ∀ j, j ≠ 0 → j ≠ 153 + 5 * c + 0 → j ≠ 153 + 5 * c + 1 → (j < 21 + 9 * rG σ ∨ 21 + 9 * rG σ + 8 < j) → τ j = σ j
/-- a walker's line -/
def WalkP (σ τ : Rw) (fr to hs pd : Nat) : Prop := τ 1 = nI (rK σ + 1) ∧ (τ (75 + 13 * rK σ + 7) = nI fr ∧ τ (75 + 13 * rK σ + 8) = nI to ∧ τ (75 + 13 * rK σ + 9) = nI hs ∧ τ (75 + 13 * rK σ + 10) = nI pd) ∧ ∀ j, j ≠ 1 → (j < 75 + 13 * rK σ ∨ 75 + 13 * rK σ + 10 < j) → τ j = σ j
/-- no fences -/
def NF (σ : Rw) : Prop := ∀ c, c < 80 → ¬ fenced σ c
/-- walkers that aren't there have walked nowhere -/
def ZK (σ : Rw) : Prop := ∀ k, rK σ ≤ k → k < 6 → σ (75 + 13 * k + 11) = nI 0 ∧ σ (75 + 13 * k + 12) = nI 0
/-- a row while it is described -/
def Dj (σ : Rw) : Prop := RowJ σ ∧ rD σ = 0 ∧ ZK σ ∧ ∀ j, 9 ≤ j → j < 21 → σ j = nI 0
section
variable {σ τ : Rw} {c : Nat}
theorem GateP.cell (h : GateP σ τ c) {j v : Nat} (hj : j ≠ c) (hv : v < 5) (g6 : rG σ < 6) : τ (153 + 5 * j + v) = σ (153 + 5 * j + v) := h.2.2 _ (by omega) (by omega) (by omega) (by omega)
theorem GateP.c2 (h : GateP σ τ c) {v : Nat} (h1 : 2 ≤ v) (hv : v < 5) (g6 : rG σ < 6) : τ (153 + 5 * c + v) = σ (153 + 5 * c + v) := h.2.2 _ (by omega) (by omega) (by omega) (by omega)
theorem GateP.lo (h : GateP σ τ c) {j : Nat} (h0 : j ≠ 0) (hj : j < 21) : τ j = σ j := h.2.2 _ h0 (by omega) (by omega) (by omega)
theorem GateP.W (h : GateP σ τ c) : rW τ = rW σ := congrArg Int32.toNatClampNeg (h.lo (by decide) (by decide))
theorem GateP.H (h : GateP σ τ c) : rH τ = rH σ := congrArg Int32.toNatClampNeg (h.lo (by decide) (by decide))
theorem GateP.C (h : GateP σ τ c) : rC τ = rC σ := by unfold rC; rw [h.W, h.H]
theorem GateP.K (h : GateP σ τ c) : rK τ = rK σ := congrArg Int32.toNatClampNeg (h.lo (by decide) (by decide))
theorem GateP.D (h : GateP σ τ c) : rD τ = rD σ := congrArg Int32.toNatClampNeg (h.lo (by decide) (by decide))
theorem GateP.F (h : GateP σ τ c) : rF τ = rF σ := congrArg Int32.toNatClampNeg (h.lo (by decide) (by decide))
theorem GateP.G (h : GateP σ τ c) (g6 : rG σ < 6) : rG τ = rG σ + 1 := by
  unfold rG at g6 ⊢
  rw [h.1.1]
  exact nI_nat (by unfold rG; omega)
theorem GateP.gCo (h : GateP σ τ c) {r : Nat} (hr : r < rG σ) (g6 : rG σ < 6) : gC τ r = gC σ r := by
  have e1 : gX τ r = gX σ r := congrArg Int32.toNatClampNeg (h.2.2 _ (by omega) (by omega) (by omega) (by omega))
  have e2 : gY τ r = gY σ r := congrArg Int32.toNatClampNeg (h.2.2 _ (by omega) (by omega) (by omega) (by omega))
  unfold gC
  rw [e1, e2, h.W]
theorem GateP.gCn (h : GateP σ τ c) (hs : RowS σ) (hc : c < rC σ) : gC τ (rG σ) = c := by
  have h80 := hs.c80
  have w3 := hs.w3
  have hm := Nat.mod_lt c (show 0 < rW σ by omega)
  have hd : c / rW σ ≤ c := Nat.div_le_self _ _
  have w10 := hs.w10
  have e1 : gX τ (rG σ) = c % rW σ := (congrArg Int32.toNatClampNeg h.2.1.1).trans (nI_nat (by omega))
  have e2 : gY τ (rG σ) = c / rW σ := (congrArg Int32.toNatClampNeg h.2.1.2).trans (nI_nat (by omega))
  unfold gC
  rw [e1, e2, h.W]
  have := Nat.div_add_mod c (rW σ)
  rw [Nat.mul_comm] at this
  exact this
theorem gate_allG (h : GateP σ τ c) (g6 : rG σ < 6) : allG τ = allG (hd σ c 2) := by
  unfold allG
  rw [h.C, hd_C]
  refine smN_c _ (fun j _ => ?_)
  have e0 : τ (153 + 5 * j + 0) = hd σ c 2 (153 + 5 * j + 0) := by
    by_cases q : j = c
    · rw [q, hd_0]; exact h.1.2.1
    · rw [hd_x (by omega) (by omega)]; exact h.cell q (by omega) g6
  have e1 : τ (153 + 5 * j + 1) = hd σ c 2 (153 + 5 * j + 1) := by
    by_cases q : j = c
    · rw [q, hd_1]; exact h.1.2.2
    · rw [hd_x (by omega) (by omega)]; exact h.cell q (by omega) g6
  unfold grassF cGr
  rw [e0, e1]
theorem gate_J (hD : Dj σ) (hV : RowW τ) (hN : NF σ) (g6 : rG σ < 6) (hc : c < rC σ) (h : GateP σ τ c) : Dj τ ∧ NF τ := by
  have hs := hD.1.w.s
  have h80 := hs.c80
  have hf : ∀ j, τ (153 + 5 * j + 2) = σ (153 + 5 * j + 2) := fun j => h.2.2 _ (by omega) (by omega) (by omega) (by omega)
  have hff : ∀ j, fenced τ j ↔ fenced σ j := fun j => by unfold fenced; rw [hf]
  have hNF : NF τ := fun j hj q => hN j hj ((hff j).mp q)
  have hcel : ∀ j, j < 80 → CelI τ j := fun j hj => by
    have hC := hD.1.c hj
    have e3 : τ (153 + 5 * j + 3) = σ (153 + 5 * j + 3) := h.2.2 _ (by omega) (by omega) (by omega) (by omega)
    have e4 : τ (153 + 5 * j + 4) = σ (153 + 5 * j + 4) := h.2.2 _ (by omega) (by omega) (by omega) (by omega)
    have tr : cTr τ j = cTr σ j := congrArg Int32.toNatClampNeg e3
    have lt : cLt τ j = cLt σ j := congrArg Int32.toNatClampNeg e4
    unfold CelI at hC ⊢
    rw [hf, e3, e4, tr, lt, h.D]
    refine ⟨?_, hC.2⟩
    by_cases q : j = c
    · rw [q] at hC ⊢
      exact Or.inr ⟨Or.inr h.1.2.1, hC.2.1.resolve_right (by rw [← q]; rw [q]; exact hN c (by omega)), by unfold cGr; rw [h.1.2.2]; decide +kernel⟩
    · have e0 := h.cell q (v := 0) (by omega) g6
      have e1 : cGr τ j = cGr σ j := congrArg Int32.toNatClampNeg (h.cell q (v := 1) (by omega) g6)
      rw [e0, e1]
      exact hC.1
  refine ⟨⟨⟨⟨hV, free_ways hV hNF, hcel, ?_⟩, fun r hr => ?_⟩, h.D.trans hD.2.1, fun k hk h6 => ?_, fun j h1 h2 => (h.lo (by omega) h2).trans (hD.2.2.2 j h1 h2)⟩, hNF⟩
  · rw [h.F, fcnt_c h.C (fun j _ => hff j)]
    exact hD.1.1.f
  · rw [h.G g6] at hr
    by_cases q : r = rG σ
    · rw [q, h.gCn hs hc]
      exact h.1.2.1
    · have hr : r < rG σ := by omega
      rw [h.gCo hr g6]
      by_cases q2 : gC σ r = c
      · rw [q2]; exact h.1.2.1
      · rw [h.cell q2 (v := 0) (by omega) g6]
        exact hD.1.g r hr
  · rw [h.K] at hk
    obtain ⟨z1, z2⟩ := hD.2.2.1 k hk h6
    exact ⟨(h.2.2 _ (by omega) (by omega) (by omega) (by omega)).trans z1, (h.2.2 _ (by omega) (by omega) (by omega) (by omega)).trans z2⟩
theorem walk_J {fr to hs pd : Nat} (hD : Dj σ) (hV : RowW τ) (hN : NF σ) (k6 : rK σ < 6) (h : WalkP σ τ fr to hs pd) : Dj τ ∧ NF τ := by
  have lo : ∀ j, j ≠ 1 → j < 75 → τ j = σ j := fun j h1 h2 => h.2.2 j h1 (by omega)
  have hc : ∀ j v, τ (153 + 5 * j + v) = σ (153 + 5 * j + v) := fun j v => h.2.2 _ (by omega) (by omega)
  have hff : ∀ j, fenced τ j ↔ fenced σ j := fun j => by unfold fenced; rw [hc]
  have hNF : NF τ := fun j hj q => hN j hj ((hff j).mp q)
  have eD : rD τ = rD σ := congrArg Int32.toNatClampNeg (lo 3 (by decide) (by decide))
  have eW : rW τ = rW σ := congrArg Int32.toNatClampNeg (lo 4 (by decide) (by decide))
  have eH : rH τ = rH σ := congrArg Int32.toNatClampNeg (lo 5 (by decide) (by decide))
  have eF : rF τ = rF σ := congrArg Int32.toNatClampNeg (lo 2 (by decide) (by decide))
  have eG : rG τ = rG σ := congrArg Int32.toNatClampNeg (lo 0 (by decide) (by decide))
  have eC : rC τ = rC σ := by unfold rC; rw [eW, eH]
  have eK : rK τ = rK σ + 1 := (congrArg Int32.toNatClampNeg h.1).trans (nI_nat (by omega))
  have g6 := hD.1.w.g6
  refine ⟨⟨⟨⟨hV, free_ways hV hNF, fun j hj => (hD.1.c hj).cong (fun v _ => hc j v) eD, ?_⟩, fun r hr => ?_⟩, eD.trans hD.2.1, fun k hk h6 => ?_, fun j h1 h2 => (lo j (by omega) (by omega)).trans (hD.2.2.2 j h1 h2)⟩, hNF⟩
  · rw [eF, fcnt_c eC (fun j _ => hff j)]
    exact hD.1.1.f
  · rw [eG] at hr
    have e1 : gC τ r = gC σ r := by
      unfold gC gX gY
      rw [lo _ (by omega) (by omega), lo _ (by omega) (by omega), eW]
    rw [e1, hc]
    exact hD.1.g r hr
  · rw [eK] at hk
    obtain ⟨z1, z2⟩ := hD.2.2.1 k (by omega) h6
    exact ⟨(h.2.2 _ (by omega) (by omega)).trans z1, (h.2.2 _ (by omega) (by omega)).trans z2⟩
theorem stone_D (hD : Dj σ) (hc : c < rC σ) (hk : σ (153 + 5 * c + 0) = 0) (hf : ¬ fenced σ c) : Dj (stoneR σ c) := by
  have ex : ∀ j, j ≠ 153 + 5 * c + 0 → j ≠ 153 + 5 * c + 1 → stoneR σ c j = σ j := fun j h1 h2 => (pk_un h2).trans (pk_un h1)
  have e1 : stoneR σ c (153 + 5 * c + 1) = nI 0 := pk_us
  have e0 : stoneR σ c (153 + 5 * c + 0) = nI 1 := (pk_un (by omega)).trans pk_us
  have g : cGr (stoneR σ c) c = 0 := by unfold cGr; rw [e1]; decide +kernel
  have eK : rK (stoneR σ c) = rK σ := congrArg Int32.toNatClampNeg (ex 1 (by omega) (by omega))
  refine ⟨cell_J hD.1 hc (fun j h1 h2 h3 => ex j h1 h2) (by rw [g]; exact ⟨e1, by omega⟩) (Or.inr ⟨e0, g, hf, hk⟩), (congrArg Int32.toNatClampNeg (ex 3 (by omega) (by omega))).trans hD.2.1, fun k h1 h6 => ?_, fun j h1 h2 => (ex j (by omega) (by omega)).trans (hD.2.2.2 j h1 h2)⟩
  rw [eK] at h1
  obtain ⟨z1, z2⟩ := hD.2.2.1 k h1 h6
  exact ⟨(ex _ (by omega) (by omega)).trans z1, (ex _ (by omega) (by omega)).trans z2⟩
theorem grass_D {v : Nat} (hD : Dj σ) (hc : c < rC σ) (hk : σ (153 + 5 * c + 0) = 0) (hv : v ≤ 9) : Dj (upd σ (153 + 5 * c + 1) (nI v)) := by
  have ex : ∀ j, j ≠ 153 + 5 * c + 1 → upd σ (153 + 5 * c + 1) (nI v) j = σ j := fun j h2 => pk_un h2
  have g : cGr (upd σ (153 + 5 * c + 1) (nI v)) c = v := (congrArg Int32.toNatClampNeg pk_us).trans (nI_nat (by omega))
  have eK : rK (upd σ (153 + 5 * c + 1) (nI v)) = rK σ := congrArg Int32.toNatClampNeg (ex 1 (by omega))
  refine ⟨cell_J hD.1 hc (fun j h1 h2 h3 => ex j h2) (by rw [g]; exact ⟨pk_us, hv⟩) (Or.inl ⟨ex _ (by omega), hk⟩), (congrArg Int32.toNatClampNeg (ex 3 (by omega))).trans hD.2.1, fun k h1 h6 => ?_, fun j h1 h2 => (ex j (by omega)).trans (hD.2.2.2 j h1 h2)⟩
  rw [eK] at h1
  obtain ⟨z1, z2⟩ := hD.2.2.1 k h1 h6
  exact ⟨(ex _ (by omega)).trans z1, (ex _ (by omega)).trans z2⟩
theorem fence_D (hD : Dj σ) (hc : c < rC σ) (hk : σ (153 + 5 * c + 0) = 0) (hf : ¬ fenced σ c) (h10 : rF σ < 10) (hy : ways (fen2 σ c)) : Dj (fen2 σ c) := by
  have ex : ∀ j, j ≠ 153 + 5 * c + 2 → j ≠ 2 → fen2 σ c j = σ j := fun j h1 h2 => (pk_un h2).trans (fenceOn_o h1)
  have eK : rK (fen2 σ c) = rK σ := congrArg Int32.toNatClampNeg (ex 1 (by omega) (by omega))
  have em : EqM (fen2 σ c) (fenceOn σ c) := fun j h1 _ => (pk_un h1).symm
  have hy2 : ways (fenceOn σ c) := fun k hk => by
    rw [em.k] at hk
    have h1 := hy k hk
    rw [em.fr, em.gc, em.di]
    exact h1
  have hJ : RowJ (fen2 σ c) := row8_J (fenceS_J hD.1 hc hk hf (by omega) hy2) (fun j hj => (pk_un (by omega)).symm)
  refine ⟨hJ, (congrArg Int32.toNatClampNeg (ex 3 (by omega) (by omega))).trans hD.2.1, fun k h1 h6 => ?_, fun j h1 h2 => (ex j (by omega) (by omega)).trans (hD.2.2.2 j h1 h2)⟩
  rw [eK] at h1
  obtain ⟨z1, z2⟩ := hD.2.2.1 k h1 h6
  exact ⟨(ex _ (by omega) (by omega)).trans z1, (ex _ (by omega) (by omega)).trans z2⟩
end
