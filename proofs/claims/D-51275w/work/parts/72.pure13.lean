/-! PURE: the lawn's line gives a row of the form -/
set_option maxRecDepth 100000
theorem nine_c1 {σ : Rw} {c : Nat} : ∀ k, nineR σ k (153 + 5 * c + 1) = if c < k then nI 9 else σ (153 + 5 * c + 1)
  | 0 => (if_neg (Nat.not_lt_zero _)).symm
  | k + 1 => by
    show upd (nineR σ k) (153 + 5 * k + 1) (nI 9) (153 + 5 * c + 1) = _
    by_cases q : c = k
    · subst q
      rw [pk_us, if_pos (by omega)]
    · rw [pk_un (by omega), nine_c1 k]
      by_cases q2 : c < k
      · rw [if_pos q2, if_pos (by omega)]
      · rw [if_neg q2, if_neg (by omega)]
theorem nine_x {σ : Rw} {j : Nat} (h : (j - 153) % 5 ≠ 1 ∨ j < 153) : ∀ k, nineR σ k j = σ j
  | 0 => rfl
  | k + 1 => (pk_un (by omega)).trans (nine_x h k)
/-- an empty row -/
def Zr (σ : Rw) : Prop := ∀ j, j < 553 → σ j = nI 0
theorem lw4_x {σ : Rw} {B : Nat → Nat} {L : Nat} {s : TS} {j : Nat} (h : j < 4 ∨ 7 < j) : lw4 σ B L s j = σ j := (pk_un (by omega)).trans ((pk_un (by omega)).trans ((pk_un (by omega)).trans (pk_un (by omega))))
theorem lawn_w {σ : Rw} (hz : Zr σ) {B : Nat → Nat} {L : Nat} {s : TS} (k : Nat) : RowW (nineR (lw4 σ B L s) k) := by
  have hS := nine_s (lw4_s (σ := σ) (B := B) (L := L) (s := s)) k
  have h6 := numN_in (B := B) (L := L) (lo := 1) (hi := 9) (s := l4 B L s) (by omega)
  have h7 := numN_in (B := B) (L := L) (lo := 0) (hi := 9) (s := l5 B L s) (by omega)
  have e : ∀ j, j < 153 → nineR (lw4 σ B L s) k j = lw4 σ B L s j := fun j hj => nine_x (Or.inr hj) k
  have z : ∀ j, j < 4 → nineR (lw4 σ B L s) k j = nI 0 := fun j hj => (e j (by omega)).trans ((lw4_x (by omega)).trans (hz j (by omega)))
  have nz : (nI 0).toNatClampNeg = 0 := nI_nat (by omega)
  have e6 : nineR (lw4 σ B L s) k 6 = nI (numN B L 1 9 (l4 B L s)) := (e 6 (by omega)).trans ((pk_un (by omega)).trans pk_us)
  have e7 : nineR (lw4 σ B L s) k 7 = nI (numN B L 0 9 (l5 B L s)) := (e 7 (by omega)).trans pk_us
  have g0 : rG (nineR (lw4 σ B L s) k) = 0 := (congrArg Int32.toNatClampNeg (z 0 (by omega))).trans nz
  have k0 : rK (nineR (lw4 σ B L s) k) = 0 := (congrArg Int32.toNatClampNeg (z 1 (by omega))).trans nz
  have f0 : rF (nineR (lw4 σ B L s) k) = 0 := (congrArg Int32.toNatClampNeg (z 2 (by omega))).trans nz
  have d0 : rD (nineR (lw4 σ B L s) k) = 0 := (congrArg Int32.toNatClampNeg (z 3 (by omega))).trans nz
  have r6 : rGr (nineR (lw4 σ B L s) k) = numN B L 1 9 (l4 B L s) := (congrArg Int32.toNatClampNeg e6).trans (nI_nat (by omega))
  have r7 : rWt (nineR (lw4 σ B L s) k) = numN B L 0 9 (l5 B L s) := (congrArg Int32.toNatClampNeg e7).trans (nI_nat (by omega))
  refine ⟨hS, by rw [g0, z 0 (by omega)]; exact ⟨rfl, by omega⟩, by rw [k0, z 1 (by omega)]; exact ⟨rfl, by omega⟩, by rw [d0, z 3 (by omega)]; exact ⟨rfl, by omega⟩, by rw [r6, e6]; exact ⟨rfl, h6⟩, by rw [r7, e7]; exact ⟨rfl, h7.2⟩, by rw [f0, z 2 (by omega)]; exact ⟨rfl, by omega⟩,
    fun r hr => by rw [g0] at hr; omega, fun r hr => by rw [k0] at hr; omega, fun c hc => ?_⟩
  by_cases q : c < k
  · exact cel_n (v := 9) (by rw [nine_c1, if_pos q]) (by omega)
  · exact cel_n (v := 0) (by rw [nine_c1, if_neg q]; exact (lw4_x (by omega)).trans (hz _ (by omega))) (by omega)
theorem lawnW_w {σ : Rw} (hz : Zr σ) {B : Nat → Nat} {L : Nat} {s : TS} (h : (lawnS B L s).e = 0) : RowW (lawnW σ B L s) := by
  unfold lawnW
  unfold lawnS at h
  by_cases q : (l1 B L s).e = 0
  · rw [if_pos q]; exact lawn_w hz _
  · rw [if_neg q] at h; exact absurd h q
theorem stmS_ok {σ : Rw} {B : Nat → Nat} {L : Nat} {mb : Prop} [Decidable mb] {s : TS} (ht : TOk L s) : TOk L (stmS σ B L mb s) := by
  have h1 : TOk L (nextS B L s) := nextS_ok ht
  unfold stmS
  split
  · unfold gateS
    have h0 : TOk L (g0 σ (nextS B L s)) := mustS_ok h1 (by omega) (by omega)
    split
    · exact mustS_ok (cellS_ok (newS_ok (goesS_ok h0))) (by omega) (by omega)
    · exact h0
  · split
    · unfold walkS
      have h0 : TOk L (k0 σ (nextS B L s)) := mustS_ok h1 (by omega) (by omega)
      split
      · exact numS_ok (numS_ok (fndS_ok (fndS_ok (newS_ok (goesS_ok h0)))))
      · exact h0
    · split
      · unfold grndS
        split
        · exact freeS_ok (goesS_ok (nextS_ok h1))
        · split
          · exact numS_ok (freeS_ok (goesS_ok (nextS_ok h1)))
          · unfold fenS
            have h0 : TOk L (fen0 σ (nextS B L (nextS B L s))) := mustS_ok (nextS_ok h1) (by omega) (by omega)
            split
            · split
              · exact mustS_ok (freeS_ok (goesS_ok h0)) (by omega) (by omega)
              · exact freeS_ok (goesS_ok h0)
            · exact h0
      · exact mustS_ok h1 (by omega) (by omega)
theorem lawnS_ok {B : Nat → Nat} {L : Nat} {s : TS} (h1 : TOk L (nextS B L s)) : TOk L (lawnS B L s) := by
  have h2 : TOk L (l1 B L s) := mustS_ok h1 (by omega) (by omega)
  unfold lawnS
  split
  · exact numS_ok (numS_ok (numS_ok (numS_ok (goesS_ok h2))))
  · exact h2
