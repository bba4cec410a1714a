/-! PURE: the reference's reading, as a function of the text state (at, begin, wordLong, error, errorAt) -/
set_option maxRecDepth 100000
abbrev TS := Nat × Nat × Nat × Nat × Int32
def TS.a (s : TS) : Nat := s.1
def TS.g (s : TS) : Nat := s.2.1
def TS.w (s : TS) : Nat := s.2.2.1
def TS.e (s : TS) : Nat := s.2.2.2.1
def TS.p (s : TS) : Int32 := s.2.2.2.2
def stS (τ : Rw) (s : TS) : Rw := stT τ s.a s.g s.w s.e s.p
theorem stS_mk {τ : Rw} {a g w e : Nat} {p : Int32} : stS τ (a, g, w, e, p) = stT τ a g w e p := rfl
/-- what holds of a text state while a text of L bytes is read -/
def TOk (L : Nat) (s : TS) : Prop := s.a ≤ L + 1 ∧ s.g ≤ L + 1 ∧ s.w ≤ L ∧ s.e ≤ 4 ∧ (s.e = 0 → s.a ≤ L ∧ s.g + s.w ≤ L) ∧ s.g + s.w ≤ L + 1
theorem TOk.a {L : Nat} {s : TS} (h : TOk L s) : s.a ≤ L + 1 := h.1
theorem TOk.g {L : Nat} {s : TS} (h : TOk L s) : s.g ≤ L + 1 := h.2.1
theorem TOk.w {L : Nat} {s : TS} (h : TOk L s) : s.w ≤ L := h.2.2.1
theorem TOk.e {L : Nat} {s : TS} (h : TOk L s) : s.e ≤ 4 := h.2.2.2.1
theorem TOk.al {L : Nat} {s : TS} (h : TOk L s) (h0 : s.e = 0) : s.a ≤ L := (h.2.2.2.2.1 h0).1
theorem TOk.gl {L : Nat} {s : TS} (h : TOk L s) (h0 : s.e = 0) : s.g + s.w ≤ L := (h.2.2.2.2.1 h0).2
theorem TOk.gw {L : Nat} {s : TS} (h : TOk L s) : s.g + s.w ≤ L + 1 := h.2.2.2.2.2
def mustS (p : Prop) [Decidable p] (c : Nat) (s : TS) : TS := if p ∨ ¬ s.e = 0 then s else (s.a, s.g, s.w, c, nI s.g)
def nextS (B : Nat → Nat) (L : Nat) (s : TS) : TS := (skp B L s.a, skp B L s.a, wln B L (skp B L s.a), s.e, s.p)
def goesS (s : TS) : TS := (s.g + s.w, s.g, s.w, s.e, s.p)
def numS (B : Nat → Nat) (L lo hi : Nat) (s : TS) : TS := if s.e = 0 then (skp B L s.a + dln B L (skp B L s.a), skp B L s.a, wln B L (skp B L s.a), errC (numR B L s.a lo hi), errP (numR B L s.a lo hi) s.p) else s
def numN (B : Nat → Nat) (L lo hi : Nat) (s : TS) : Nat := if s.e = 0 then numV (numR B L s.a lo hi) lo else lo
def signS (B : Nat → Nat) (L c : Nat) (s : TS) : TS := if s.e = 0 then (skp B L s.a + 1, skp B L s.a, wln B L (skp B L s.a), errC (sgnR B L s.a c), errP (sgnR B L s.a c) s.p) else s
/-- the place behind a name that must be one of these, or new -/
def afterN {α : Type} (B : Nat → Nat) (L a : Nat) (_r : RdE ⊕ α) : Nat := if 1 ≤ wln B L (skp B L a) ∧ wln B L (skp B L a) ≤ 6 then skp B L a + wln B L (skp B L a) else skp B L a
theorem mustS_ok {L : Nat} {p : Prop} [Decidable p] {c : Nat} {s : TS} (h : TOk L s) (hc : c ≤ 4) (h1 : 1 ≤ c) : TOk L (mustS p c s) := by
  unfold mustS
  split
  · exact h
  · exact ⟨h.a, h.g, h.w, hc, fun q => by have q : c = 0 := q; omega, h.gw⟩
theorem nextS_ok {B : Nat → Nat} {L : Nat} {s : TS} (h : TOk L s) : TOk L (nextS B L s) := by
  have h1 := @runF_le B isSp (L - s.a) s.a
  have h2 := @wln_le B L (skp B L s.a)
  have h3 := h.a
  have e : skp B L s.a = s.a + runF B isSp (L - s.a) s.a := rfl
  refine ⟨?_, ?_, ?_, h.e, fun q => ?_, ?_⟩
  · show skp B L s.a ≤ L + 1; omega
  · show skp B L s.a ≤ L + 1; omega
  · show wln B L (skp B L s.a) ≤ L; omega
  · have := h.al q; have := skp_le (B := B) (h.al q); show skp B L s.a ≤ L ∧ skp B L s.a + wln B L (skp B L s.a) ≤ L; omega
  · show skp B L s.a + wln B L (skp B L s.a) ≤ L + 1; omega
theorem numR_c {B : Nat → Nat} {L a lo hi : Nat} : errC (numR B L a lo hi) ≤ 4 := by
  unfold numR
  split
  · show 1 ≤ 4; omega
  · split
    · show 0 ≤ 4; omega
    · show 2 ≤ 4; omega
theorem numS_ok {B : Nat → Nat} {L lo hi : Nat} {s : TS} (h : TOk L s) : TOk L (numS B L lo hi s) := by
  unfold numS
  by_cases h0 : s.e = 0
  · rw [if_pos h0]
    have hl := h.al h0
    have h1 := skp_le (B := B) hl
    have h2 := @dln_le B L (skp B L s.a)
    have h3 := @wln_le B L (skp B L s.a)
    refine ⟨?_, ?_, ?_, numR_c, fun _ => ?_, ?_⟩
    · show skp B L s.a + dln B L (skp B L s.a) ≤ L + 1; omega
    · show skp B L s.a ≤ L + 1; omega
    · show wln B L (skp B L s.a) ≤ L; omega
    · show skp B L s.a + dln B L (skp B L s.a) ≤ L ∧ skp B L s.a + wln B L (skp B L s.a) ≤ L; omega
    · show skp B L s.a + wln B L (skp B L s.a) ≤ L + 1; omega
  · rw [if_neg h0]; exact h
theorem numN_in {B : Nat → Nat} {L lo hi : Nat} {s : TS} (h : lo ≤ hi) : lo ≤ numN B L lo hi s ∧ numN B L lo hi s ≤ hi := by
  unfold numN
  split
  · unfold numR
    split
    · exact ⟨Nat.le_refl _, h⟩
    · split
      · rename_i q; exact q
      · exact ⟨Nat.le_refl _, h⟩
  · exact ⟨Nat.le_refl _, h⟩
theorem goesS_ok {L : Nat} {s : TS} (h : TOk L s) : TOk L (goesS s) := ⟨h.gw, h.g, h.w, h.e, fun q => ⟨h.gl q, h.gl q⟩, h.gw⟩
theorem sgnR_c {B : Nat → Nat} {L a c : Nat} : errC (sgnR B L a c) ≤ 4 := by
  unfold sgnR
  split
  · show 0 ≤ 4; omega
  · show 1 ≤ 4; omega
theorem signS_ok {B : Nat → Nat} {L c : Nat} {s : TS} (h : TOk L s) : TOk L (signS B L c s) := by
  unfold signS
  by_cases h0 : s.e = 0
  · rw [if_pos h0]
    have hl := h.al h0
    have h1 := skp_le (B := B) hl
    have h3 := @wln_le B L (skp B L s.a)
    refine ⟨?_, ?_, ?_, sgnR_c, fun q => ?_, ?_⟩
    · show skp B L s.a + 1 ≤ L + 1; omega
    · show skp B L s.a ≤ L + 1; omega
    · show wln B L (skp B L s.a) ≤ L; omega
    · have q : errC (sgnR B L s.a c) = 0 := q
      have hin : skp B L s.a < L := by
        rcases Nat.lt_or_ge (skp B L s.a) L with c1 | c1
        · exact c1
        · unfold sgnR at q
          rw [btO_ge (by omega), if_neg (by intro w; cases w)] at q
          cases q
      show skp B L s.a + 1 ≤ L ∧ skp B L s.a + wln B L (skp B L s.a) ≤ L; omega
    · show skp B L s.a + wln B L (skp B L s.a) ≤ L + 1; omega
  · rw [if_neg h0]; exact h
theorem nextS_ok0 {B : Nat → Nat} {L : Nat} {s : TS} (h : s.a ≤ L) (he : s.e ≤ 4) : TOk L (nextS B L s) := by
  have h1 := skp_le (B := B) h
  have h2 := @wln_le B L (skp B L s.a)
  refine ⟨?_, ?_, ?_, he, fun q => ?_, ?_⟩
  · show skp B L s.a ≤ L + 1; omega
  · show skp B L s.a ≤ L + 1; omega
  · show wln B L (skp B L s.a) ≤ L; omega
  · show skp B L s.a ≤ L ∧ skp B L s.a + wln B L (skp B L s.a) ≤ L; omega
  · show skp B L s.a + wln B L (skp B L s.a) ≤ L + 1; omega
