/-! PURE: changes of the row -/
set_option maxRecDepth 100000
abbrev Rw := Nat → Int32
def fenceOn (σ : Rw) (c : Nat) : Rw := upd σ (153 + 5 * c + 2) (nI 1)
/-- why no fence may be set: 0 if it may -/
noncomputable def whyF (σ : Rw) (c : Nat) : Int32 :=
  if σ (153 + 5 * c + 0) = 0 then (if fenced σ c then -2 else if rF σ = 10 then -4 else if ways (fenceOn σ c) then nI 0 else -5) else -1
def fen2 (σ : Rw) (c : Nat) : Rw := upd (fenceOn σ c) 2 (fenceOn σ c 2 + nI 1)
def fenceS (σ : Rw) (c : Nat) : Rw := upd (fen2 σ c) (9 + 9) (fen2 σ c (9 + 9) + nI 1)
noncomputable def fenceC (σ : Rw) (c : Nat) : Int32 × Rw := if whyF σ c = nI 0 then (fenceS σ c 2, fenceS σ c) else (whyF σ c, σ)
def ope1 (σ : Rw) (c : Nat) : Rw := upd σ (153 + 5 * c + 2) (nI 0)
def ope2 (σ : Rw) (c : Nat) : Rw := upd (ope1 σ c) 2 (ope1 σ c 2 - nI 1)
def openS (σ : Rw) (c : Nat) : Rw := upd (ope2 σ c) (9 + 10) (ope2 σ c (9 + 10) + nI 1)
def openC (σ : Rw) (c : Nat) : Int32 × Rw := if fenced σ c then (openS σ c 2, openS σ c) else (-3, σ)
def manyR (σ : Rw) (k : Nat) : Nat := smN (fun c => b01 (decide (σ (153 + 5 * c + 0) = nI k))) (rC σ)
def pav1 (σ : Rw) (c : Nat) : Rw := upd σ (9 + 7) (σ (9 + 7) + σ (153 + 5 * c + 1))
def stoneR (σ : Rw) (c : Nat) : Rw := upd (upd σ (153 + 5 * c + 0) (nI 1)) (153 + 5 * c + 1) (nI 0)
def paveS (σ : Rw) (c : Nat) : Rw := stoneR (pav1 σ c) c
def paveC (σ : Rw) (c : Nat) : Int32 × Rw := if σ (153 + 5 * c + 0) = 0 then (if fenced σ c then (-2, σ) else (nI (manyR (paveS σ c) 1), paveS σ c)) else (-1, σ)
def sow1 (σ : Rw) (c : Nat) : Rw := upd σ (153 + 5 * c + 1) (nI 9)
def sowS (σ : Rw) (c : Nat) : Rw := upd (sow1 σ c) (9 + 6) (sow1 σ c (9 + 6) + (nI 9 - σ (153 + 5 * c + 1)))
def sowC (σ : Rw) (c : Nat) : Int32 × Rw := if σ (153 + 5 * c + 0) = 0 then (if σ (153 + 5 * c + 1) = nI 9 then (-6, σ) else (σ (153 + 5 * c + 1), sowS σ c)) else (-1, σ)
def hasteC (σ : Rw) (w n : Nat) : Int32 × Rw := if σ (75 + 13 * w + 9) = nI n then (-6, σ) else (σ (75 + 13 * w + 9), upd σ (75 + 13 * w + 9) (nI n))
def turnS (σ : Rw) (w : Nat) : Rw := upd (upd σ (75 + 13 * w + 7) (σ (75 + 13 * w + 8))) (75 + 13 * w + 8) (σ (75 + 13 * w + 7))
def turnC (σ : Rw) (w : Nat) : Int32 × Rw := (turnS σ w (75 + 13 * w + 7), turnS σ w)
noncomputable def runC (σ : Rw) (n : Nat) : Int32 × Rw := if rD σ + n ≤ 999 then (daysR σ n 9 - σ 9, daysR σ n) else (-7, σ)
/-- at a cell by X and Y, or none -/
def inC (σ : Rw) (a b : Nat) (f : Nat → Int32 × Rw) : Int32 × Rw := if a < rW σ ∧ b < rH σ then f (b * rW σ + a) else (-8, σ)
def cTr (σ : Rw) (c : Nat) : Nat := (σ (153 + 5 * c + 3)).toNatClampNeg
def cLt (σ : Rw) (c : Nat) : Nat := (σ (153 + 5 * c + 4)).toNatClampNeg
/-- a cell as it must be -/
def CelI (σ : Rw) (c : Nat) : Prop := (σ (153 + 5 * c + 0) = 0 ∨ ((σ (153 + 5 * c + 0) = nI 1 ∨ σ (153 + 5 * c + 0) = nI 2) ∧ σ (153 + 5 * c + 2) = nI 0 ∧ cGr σ c = 0)) ∧ (σ (153 + 5 * c + 2) = nI 0 ∨ σ (153 + 5 * c + 2) = nI 1) ∧
  (σ (153 + 5 * c + 3) = nI (cTr σ c) ∧ cTr σ c ≤ 480 * rD σ) ∧ (σ (153 + 5 * c + 4) = nI (cLt σ c) ∧ cLt σ c ≤ rD σ) ∧ (cTr σ c = 0 ↔ cLt σ c = 0)
def fcnt (σ : Rw) : Nat := smN (fun c => b01 (decide (fenced σ c))) (rC σ)
/-- a row as it must be -/
def RowI (σ : Rw) : Prop := RowW σ ∧ ways σ ∧ (∀ c, c < 80 → CelI σ c) ∧ rF σ = fcnt σ
theorem RowI.w {σ : Rw} (h : RowI σ) : RowW σ := h.1
theorem RowI.y {σ : Rw} (h : RowI σ) : ways σ := h.2.1
theorem RowI.c {σ : Rw} (h : RowI σ) {c : Nat} (hc : c < 80) : CelI σ c := h.2.2.1 c hc
theorem RowI.f {σ : Rw} (h : RowI σ) : rF σ = fcnt σ := h.2.2.2
/-- places of the row that RowW looks at -/
def Plc (j : Nat) : Prop := j < 8 ∨ (21 ≤ j ∧ j < 75) ∨ (75 ≤ j ∧ j < 153 ∧ (j - 75) % 13 < 11) ∨ (153 ≤ j ∧ j < 553 ∧ (j - 153) % 5 = 1)
theorem RowW.plc {σ τ : Rw} (h : RowW σ) (e : ∀ j, Plc j → τ j = σ j) : RowW τ := by
  have g6 := h.g6
  have k6 := h.k6
  have e0 : ∀ j, j < 8 → τ j = σ j := fun j hj => e j (Or.inl hj)
  have eg : ∀ r v, r < 6 → v < 9 → τ (21 + 9 * r + v) = σ (21 + 9 * r + v) := fun r v h1 h2 => e _ (by unfold Plc; omega)
  have ew : ∀ r v, r < 6 → v < 11 → τ (75 + 13 * r + v) = σ (75 + 13 * r + v) := fun r v h1 h2 => e _ (by unfold Plc; omega)
  have ec : ∀ c, c < 80 → τ (153 + 5 * c + 1) = σ (153 + 5 * c + 1) := fun c hc => e _ (by unfold Plc; omega)
  have w1 : rW τ = rW σ := congrArg Int32.toNatClampNeg (e0 4 (by omega))
  have w2 : rH τ = rH σ := congrArg Int32.toNatClampNeg (e0 5 (by omega))
  have w3 : rG τ = rG σ := congrArg Int32.toNatClampNeg (e0 0 (by omega))
  have w4 : rK τ = rK σ := congrArg Int32.toNatClampNeg (e0 1 (by omega))
  have w5 : rD τ = rD σ := congrArg Int32.toNatClampNeg (e0 3 (by omega))
  have w6 : rGr τ = rGr σ := congrArg Int32.toNatClampNeg (e0 6 (by omega))
  have w7 : rWt τ = rWt σ := congrArg Int32.toNatClampNeg (e0 7 (by omega))
  have w8 : rF τ = rF σ := congrArg Int32.toNatClampNeg (e0 2 (by omega))
  refine ⟨⟨by rw [w1, e0 4 (by omega)]; exact h.1.1, by rw [w2, e0 5 (by omega)]; exact h.1.2⟩, by rw [w3, e0 0 (by omega)]; exact h.2.1, by rw [w4, e0 1 (by omega)]; exact h.2.2.1, by rw [w5, e0 3 (by omega)]; exact h.2.2.2.1, by rw [w6, e0 6 (by omega)]; exact h.2.2.2.2.1,
    by rw [w7, e0 7 (by omega)]; exact h.2.2.2.2.2.1, by rw [w8, e0 2 (by omega)]; exact h.2.2.2.2.2.2.1, fun r hr => ?_, fun k hk => ?_, fun c hc => ?_⟩
  · rw [w3] at hr
    have h1 := h.G hr
    have x1 : gX τ r = gX σ r := congrArg Int32.toNatClampNeg (eg r 7 (by omega) (by omega))
    have x2 : gY τ r = gY σ r := congrArg Int32.toNatClampNeg (eg r 8 (by omega) (by omega))
    unfold RowG
    rw [x1, x2, w1, w2, eg r 7 (by omega) (by omega), eg r 8 (by omega) (by omega)]
    exact h1
  · rw [w4] at hk
    have h1 := h.K hk
    have x1 : wFr τ k = wFr σ k := congrArg Int32.toNatClampNeg (ew k 7 (by omega) (by omega))
    have x2 : wTo τ k = wTo σ k := congrArg Int32.toNatClampNeg (ew k 8 (by omega) (by omega))
    have x3 : wHs τ k = wHs σ k := congrArg Int32.toNatClampNeg (ew k 9 (by omega) (by omega))
    have x4 : wPd τ k = wPd σ k := congrArg Int32.toNatClampNeg (ew k 10 (by omega) (by omega))
    unfold RowK
    rw [x1, x2, x3, x4, w3, ew k 7 (by omega) (by omega), ew k 8 (by omega) (by omega), ew k 9 (by omega) (by omega), ew k 10 (by omega) (by omega)]
    exact h1
  · have x1 : cGr τ c = cGr σ c := congrArg Int32.toNatClampNeg (ec c hc)
    rw [x1, ec c hc]
    exact ⟨h.c hc, h.c9 hc⟩
theorem RowW.up {σ : Rw} (h : RowW σ) {k : Nat} {v : Int32} (hk : ¬ Plc k) : RowW (upd σ k v) := h.plc fun j hj => pk_un (fun e => hk (by rw [← e]; exact hj))
theorem np_c {c v : Nat} (hv : v = 0 ∨ v = 2 ∨ v = 3 ∨ v = 4) : ¬ Plc (153 + 5 * c + v) := by unfold Plc; omega
theorem fence_w {σ : Rw} (h : RowW σ) {c : Nat} {v : Int32} : RowW (upd σ (153 + 5 * c + 2) v) := h.up (np_c (by omega))
theorem RowW.fenceOn {σ : Rw} (h : RowW σ) {c : Nat} : RowW (fenceOn σ c) := fence_w h
