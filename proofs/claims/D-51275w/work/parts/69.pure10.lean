/-! PURE: a description, whole -/
set_option maxRecDepth 100000
/-- statements one after the other: behind at most n of them -/
noncomputable def rdL (B : Nat → Nat) (L : Nat) : Nat → Rw → TS → Bool → Rw × TS
  | 0, σ, s, _ => (σ, s)
  | n + 1, σ, s, mb =>
    if s.e = 0 then
      (if rK σ = 0 ∨ btO B L (skp B L s.a) ≠ none then
        (if (signS B L 59 s).e = 0 then rdL B L n (stmW σ B L (mb = true) (signS B L 59 s)) (stmS σ B L (mb = true) (signS B L 59 s)) (mb && decide (stmM σ B L (mb = true) (signS B L 59 s))) else (σ, signS B L 59 s))
      else (σ, nextS B L s))
    else (σ, s)
theorem sign_next {B : Nat → Nat} {L c : Nat} {s : TS} (h : s.e = 0) : signS B L c (nextS B L s) = signS B L c s := by
  have e : (nextS B L s).a = skp B L s.a := rfl
  have e2 : (nextS B L s).e = s.e := rfl
  have e3 : (nextS B L s).p = s.p := rfl
  unfold signS
  rw [e2, if_pos h, if_pos h, e, e3, skp_skp]
  have : sgnR B L (skp B L s.a) c = sgnR B L s.a c := by unfold sgnR; rw [skp_skp]
  rw [this]
theorem rd_e {B : Nat → Nat} {L n : Nat} {σ : Rw} {s : TS} {mb : Bool} (h : ¬ s.e = 0) : rdL B L (n + 1) σ s mb = (σ, s) := if_neg h
theorem rd_end {B : Nat → Nat} {L n : Nat} {σ : Rw} {s : TS} {mb : Bool} (h : s.e = 0) (h2 : ¬ (rK σ = 0 ∨ btO B L (skp B L s.a) ≠ none)) : rdL B L (n + 1) σ s mb = (σ, nextS B L s) := by
  show (if s.e = 0 then _ else _) = _
  rw [if_pos h, if_neg h2]
theorem rd_sg {B : Nat → Nat} {L n : Nat} {σ : Rw} {s : TS} {mb : Bool} (h : s.e = 0) (h2 : rK σ = 0 ∨ btO B L (skp B L s.a) ≠ none) (h3 : ¬ (signS B L 59 s).e = 0) : rdL B L (n + 1) σ s mb = (σ, signS B L 59 s) := by
  show (if s.e = 0 then _ else _) = _
  rw [if_pos h, if_pos h2, if_neg h3]
theorem rd_st {B : Nat → Nat} {L n : Nat} {σ : Rw} {s : TS} {mb : Bool} (h : s.e = 0) (h2 : rK σ = 0 ∨ btO B L (skp B L s.a) ≠ none) (h3 : (signS B L 59 s).e = 0) : rdL B L (n + 1) σ s mb = rdL B L n (stmW σ B L (mb = true) (signS B L 59 s)) (stmS σ B L (mb = true) (signS B L 59 s)) (mb && decide (stmM σ B L (mb = true) (signS B L 59 s))) := by
  show (if s.e = 0 then _ else _) = _
  rw [if_pos h, if_pos h2, if_pos h3]
