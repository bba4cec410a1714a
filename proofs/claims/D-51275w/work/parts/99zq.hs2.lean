/-! HASHES of the words of orders -/
set_option maxRecDepth 100000
theorem hsh_cong {f l : Nat → Nat} : ∀ {n : Nat}, (∀ i, i < n → f i = l i) → hshF f n = hshF l n
  | 0, _ => rfl
  | n + 1, h => by
    show nI 31 * hshF f n + nI (f n) = nI 31 * hshF l n + nI (l n)
    rw [hsh_cong (fun i hi => h i (by omega)), h n (by omega)]
/-- the words that begin an order, with their hashes -/
theorem hsh_run : hshF (chs wRun) wRun.length = 113291 := by decide +kernel
theorem hsh_haste : hshF (chs wHaste) wHaste.length = 99050123 := by decide +kernel
theorem hsh_turn : hshF (chs wTurn) wTurn.length = 3571837 := by decide +kernel
theorem hsh_fence : hshF (chs wFence) wFence.length = 97316913 := by decide +kernel
theorem hsh_open : hshF (chs wOpen) wOpen.length = 3417674 := by decide +kernel
theorem hsh_pave : hshF (chs wPave) wPave.length = 3433568 := by decide +kernel
theorem hsh_sow : hshF (chs wSow) wSow.length = 114075 := by decide +kernel
theorem hsh_wd {B : Nat → Nat} {L p n : Nat} {l : Nat → Nat} (h : isWd B L p l n = true) : hshF (fun i => B (p + i)) (wln B L p) = hshF l n := by
  obtain ⟨h1, h2⟩ := isWd_iff.mp h
  rw [h1]
  exact hsh_cong h2
/-- a switch on a number that is none of its keys -/
theorem lkp_none {x df : Int} : ∀ {ps : List (Int × Int)}, (∀ q ∈ ps, ¬ q.1 = x) → Op.lookupswitch.offset ps df x = df
  | [], _ => rfl
  | q :: ps, h => by
    have h1 := h q List.mem_cons_self
    have h2 := lkp_none (x := x) (df := df) (ps := ps) (fun q hq => h q (List.mem_cons_of_mem _ hq))
    simp [Op.lookupswitch.offset, h1] at h2 ⊢
    exact h2
