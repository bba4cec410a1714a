/-! A DESCRIPTION: steps between its statements, 2 -/
set_option maxRecDepth 100000
def kE (B : Nat → Nat) (L b : Nat) (s : TS) : Nat := if b = 1 then nxE B L s.a else L
theorem DwI.one {B : Nat → Nat} {L n : Nat} {σ : Rw} {s : TS} {mb : Bool} {R : Rw × TS} (h : DwI B L 1 n σ s mb R) : RS B L n σ s mb = R ∧ L - s.a + 1 ≤ n := by
  rcases h with ⟨-, h⟩ | ⟨h, -⟩
  · exact h
  · cases h
/-- behind a statement that was read -/
theorem DwI.mk {B : Nat → Nat} {L n b : Nat} {σ : Rw} {S : TS} {mb : Bool} {R : Rw × TS} (h0 : S.e = 0) (hR : rdL B L n σ S mb = R) (hn : L - S.a + 3 ≤ n) (hb : (b = 1 ∧ btO B L (skp B L S.a) = some 59) ∨ (b = 0 ∧ ¬ btO B L (skp B L S.a) = some 59)) : DwI B L b (n - 1) σ (if b = 1 then signS B L 59 S else S) mb R := by
  rcases hb with ⟨rfl, h⟩ | ⟨rfl, h⟩
  · rw [if_pos rfl]
    obtain ⟨h1, h2⟩ := goes_sg h0 h
    have h3 : S.a ≤ nxE B L S.a := by
      rcases Nat.lt_or_ge L S.a with q | q
      · unfold nxE
        have e1 := @skp_ge B L S.a
        rw [(tk0 (B := B) (show ¬ skp B L S.a < L by omega)).2.1]
        exact e1
      · exact (nxE_le q).1
    refine Or.inl ⟨rfl, ?_, by rw [h2]; omega⟩
    rw [← hR, show n = (n - 1) + 1 by omega]
    exact (rb_more h0 (Or.inr (by rw [h]; exact fun e => nomatch e)) h1).symm
  · rw [if_neg (by decide)]
    refine Or.inr ⟨rfl, h, ?_⟩
    rw [show n - 1 + 1 = n by omega]
    exact hR
theorem gate_k {σ : Rw} {B : Nat → Nat} {L : Nat} {s : TS} (h : rK σ = 0) : rK (gateW σ B L s) = 0 := by
  unfold gateW
  split
  · rename_i q
    have := gW6_P (B := B) (L := L) (s := s) (g0_lt q)
    rw [this.K]
    exact h
  · exact h
theorem thE_le {B : Nat → Nat} {L : Nat} {s : TS} (h : s.a ≤ L) : nxE B L s.a ≤ thE B L s ∧ thE B L s ≤ L := by
  have h0 := nxE_le (B := B) h
  have h1 := nxE_le (B := B) h0.2
  have h2 := nxE_le (B := B) h1.2
  have h3 := nxE_le (B := B) h2.2
  unfold thE
  split <;> omega
theorem DwI.mk1 {B : Nat → Nat} {L n : Nat} {σ : Rw} {S : TS} {mb : Bool} {R : Rw × TS} (h0 : S.e = 0) (hR : rdL B L n σ S mb = R) (hn : L - S.a + 3 ≤ n) (h : btO B L (skp B L S.a) = some 59) : DwI B L 1 (n - 1) σ (signS B L 59 S) mb R := DwI.mk (b := 1) h0 hR hn (Or.inl ⟨rfl, h⟩)
theorem DwI.mk0 {B : Nat → Nat} {L n : Nat} {σ : Rw} {S : TS} {mb : Bool} {R : Rw × TS} (h0 : S.e = 0) (hR : rdL B L n σ S mb = R) (hn : L - S.a + 3 ≤ n) (h : ¬ btO B L (skp B L S.a) = some 59) : DwI B L 0 (n - 1) σ S mb R := DwI.mk (b := 0) h0 hR hn (Or.inr ⟨rfl, h⟩)
theorem sg_nx {B : Nat → Nat} {L a : Nat} (h : btO B L (skp B L a) = some 59) : a + 1 ≤ nxE B L a := by
  have h1 := (tk_s (B := B) (L := L) (p := skp B L a) (c := 59) (by decide) (by decide)).2 h
  have h2 := @skp_ge B L a
  unfold nxE
  omega
