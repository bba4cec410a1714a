/-! PURE: where no error is, its place is -1 -/
set_option maxRecDepth 100000
def EP (s : TS) : Prop := s.e = 0 → s.p = -1
def RK {α : Type} (r : RdE ⊕ α) : Prop := ∀ x, r = .inl x → x.1 ≠ 0
theorem rk_p {α : Type} {r : RdE ⊕ α} {p : Int32} (h : RK r) (hp : p = -1) (h0 : errC r = 0) : errP r p = -1 := by
  cases r with
  | inl x => exact absurd h0 (h x rfl)
  | inr y => exact hp
theorem num_rk {B : Nat → Nat} {L a lo hi : Nat} : RK (numR B L a lo hi) := by
  intro x h
  unfold numR at h
  split at h
  · cases h; exact (by decide : (1 : Nat) ≠ 0)
  · split at h
    · cases h
    · cases h; exact (by decide : (2 : Nat) ≠ 0)
theorem sgn_rk {B : Nat → Nat} {L a c : Nat} : RK (sgnR B L a c) := by
  intro x h
  unfold sgnR at h
  split at h
  · cases h
  · cases h; exact (by decide : (1 : Nat) ≠ 0)
theorem nam_rk {B : Nat → Nat} {L a : Nat} : RK (namR B L a) := by
  intro x h
  unfold namR at h
  split at h
  · cases h
  · cases h; exact (by decide : (1 : Nat) ≠ 0)
theorem fnd_rk {σ : Rw} {B : Nat → Nat} {L a : Nat} {q : Prop} [Decidable q] {but : Int32} : RK (fndR σ B L a q but) := by
  intro x h
  unfold fndR at h
  split at h
  · rename_i y hy
    cases h
    exact nam_rk _ hy
  · split at h
    · cases h; exact (by decide : (3 : Nat) ≠ 0)
    · split at h
      · cases h; exact (by decide : (3 : Nat) ≠ 0)
      · cases h
theorem new_rk {σ : Rw} {B : Nat → Nat} {L a : Nat} {q : Prop} [Decidable q] : RK (newR σ B L a q) := by
  intro x h
  unfold newR at h
  split at h
  · rename_i y hy
    cases h
    exact nam_rk _ hy
  · split at h
    · cases h
    · cases h; exact (by decide : (3 : Nat) ≠ 0)
section
variable {σ : Rw} {B : Nat → Nat} {L : Nat} {s : TS}
theorem must_p {p : Prop} [Decidable p] {c : Nat} (h : EP s) (hc : c ≠ 0) : EP (mustS p c s) := by
  unfold mustS
  split
  · exact h
  · intro q
    have q : c = 0 := q
    exact absurd q hc
theorem next_p (h : EP s) : EP (nextS B L s) := fun q => h q
theorem goes_p (h : EP s) : EP (goesS s) := fun q => h q
theorem ep_num {lo hi : Nat} (h : EP s) : EP (numS B L lo hi s) := by
  unfold numS
  split
  · rename_i h0
    intro q
    exact rk_p num_rk (h h0) q
  · exact h
theorem sign_p {c : Nat} (h : EP s) : EP (signS B L c s) := by
  unfold signS
  split
  · rename_i h0
    intro q
    exact rk_p sgn_rk (h h0) q
  · exact h
theorem ep_fnd {q : Prop} [Decidable q] {but : Int32} (h : EP s) : EP (fndS σ B L q but s) := by
  unfold fndS
  split
  · rename_i h0
    intro z
    exact rk_p fnd_rk (h h0) z
  · exact h
theorem ep_new {q : Prop} [Decidable q] (h : EP s) : EP (newS σ B L q s) := by
  unfold newS
  split
  · rename_i h0
    intro z
    exact rk_p new_rk (h h0) z
  · exact h
theorem cell_p (h : EP s) : EP (cellS σ B L s) := ep_num (ep_num h)
theorem free_p (h : EP s) : EP (freeS σ B L s) := must_p (cell_p h) (by decide)
theorem gate_p (h : EP s) : EP (gateS σ B L s) := by
  have h0 : EP (g0 σ s) := must_p h (by decide)
  unfold gateS
  split
  · exact must_p (cell_p (ep_new (goes_p h0))) (by decide)
  · exact h0
theorem walk_p (h : EP s) : EP (walkS σ B L s) := by
  have h0 : EP (k0 σ s) := must_p h (by decide)
  unfold walkS
  split
  · exact ep_num (ep_num (ep_fnd (ep_fnd (ep_new (goes_p h0)))))
  · exact h0
theorem fen_p (h : EP s) : EP (fenS σ B L s) := by
  have h0 : EP (fen0 σ s) := must_p h (by decide)
  have h1 : EP (fenT σ B L s) := free_p (goes_p h0)
  unfold fenS
  split
  · split
    · exact must_p h1 (by decide)
    · exact h1
  · exact h0
theorem grnd_p (h : EP s) : EP (grndS σ B L s) := by
  unfold grndS
  split
  · exact free_p (goes_p (next_p h))
  · split
    · exact ep_num (free_p (goes_p (next_p h)))
    · exact fen_p (next_p h)
theorem stm_p {mb : Prop} [Decidable mb] (h : EP s) : EP (stmS σ B L mb s) := by
  unfold stmS
  split
  · exact gate_p (next_p h)
  · split
    · exact walk_p (next_p h)
    · split
      · exact grnd_p (next_p h)
      · exact must_p (next_p h) (by decide)
theorem lawn_p (h : EP s) : EP (lawnS B L s) := by
  have h1 : EP (l1 B L s) := must_p (next_p h) (by decide)
  unfold lawnS
  split
  · exact ep_num (ep_num (ep_num (ep_num (goes_p h1))))
  · exact h1
end
theorem rdL_p {B : Nat → Nat} {L : Nat} : ∀ (n : Nat) (σ : Rw) (s : TS) (mb : Bool), EP s → EP (rdL B L n σ s mb).2
  | 0, _, _, _, h => h
  | n + 1, σ, s, mb, h => by
    unfold rdL
    split
    · split
      · split
        · exact rdL_p n _ _ _ (stm_p (sign_p h))
        · exact sign_p h
      · exact next_p h
    · exact h
theorem rdT_p {σ : Rw} {B : Nat → Nat} {L w : Nat} : EP (rdT σ B L w).2 := rdL_p _ _ _ _ (lawn_p (fun _ => rfl))
theorem prt_p {σ : Rw} {B : Nat → Nat} {L k : Nat} {s : TS} (h : EP s) : EP (prtS σ B L k s) := by
  unfold prtS
  split
  · exact ep_num h
  · split
    · exact ep_num (ep_fnd h)
    · split
      · exact ep_fnd h
      · exact ep_num (ep_num h)
theorem ord_p {σ : Rw} {B : Nat → Nat} {L m : Nat} {s : TS} (h : EP s) : EP (ordS σ B L m s) := by
  have h1 : EP (or1 B L m s) := must_p (must_p (next_p h) (by decide)) (by decide)
  unfold ordS
  split
  · exact sign_p (prt_p (goes_p h1))
  · exact h1
theorem rdO_p {σ : Rw} {B : Nat → Nat} {L : Nat} : ∀ (n : Nat) (f : Rw) (m : Nat) (s : TS), EP s → EP (rdO σ B L n f m s).2.2
  | 0, _, _, _, h => h
  | n + 1, f, m, s, h => by
    unfold rdO
    split
    · split
      · exact rdO_p n _ _ _ (ord_p h)
      · exact next_p h
    · exact h
