/-! PURE: orders read, step by step; orders done -/
set_option maxRecDepth 100000
section
variable {B : Nat → Nat} {L n k v : Nat} {s : TS} {σ f : Rw}
theorem ord_e1 (h0 : s.e = 0) (hk : ¬ ordK B L s ≠ none) : (ordS σ B L n s).e = 1 ∧ (ordS σ B L n s).p = nI (skp B L s.a) := by
  have h1 : (mustS (ordK B L s ≠ none) 1 (nextS B L s)).e = 1 ∧ (mustS (ordK B L s ≠ none) 1 (nextS B L s)).p = nI (nextS B L s).g := must_n hk (show (nextS B L s).e = 0 from h0)
  have h2 : or1 B L n s = mustS (ordK B L s ≠ none) 1 (nextS B L s) := must_k (by rw [h1.1]; decide)
  have h3 : ordS σ B L n s = or1 B L n s := if_neg (by rw [h2, h1.1]; decide)
  rw [h3, h2]
  exact h1
theorem or1_n0 (hk : ordK B L s ≠ none) (hn : n < 30) : or1 B L n s = nextS B L s := (mustS_1 hn).trans (mustS_1 hk)
theorem ord_e4 (h0 : s.e = 0) (hk : ordK B L s ≠ none) (hn : ¬ n < 30) : (ordS σ B L n s).e = 4 ∧ (ordS σ B L n s).p = nI (skp B L s.a) := by
  have h1 : mustS (ordK B L s ≠ none) 1 (nextS B L s) = nextS B L s := mustS_1 hk
  have h2 : (or1 B L n s).e = 4 ∧ (or1 B L n s).p = nI (nextS B L s).g := by
    unfold or1
    rw [h1]
    exact must_n hn (show (nextS B L s).e = 0 from h0)
  have h3 : ordS σ B L n s = or1 B L n s := if_neg (by rw [h2.1]; decide)
  rw [h3]
  exact h2
theorem ord_ok (h0 : s.e = 0) (hk : ordK B L s = some k) (hn : n < 30) : ordS σ B L n s = signS B L 59 (prtS σ B L k (goesS (nextS B L s))) ∧ ordF σ B L n f s = prtF σ B L k (upd f (3 * n) (nI k)) (3 * n + 1) (goesS (nextS B L s)) ∧ ordM B L n s = n + 1 := by
  have h1 : or1 B L n s = nextS B L s := or1_n0 (by rw [hk]; exact fun e => nomatch e) hn
  have h2 : (nextS B L s).e = 0 := h0
  unfold ordS ordF ordM
  rw [h1, if_pos h2, if_pos h2, if_pos h2, hk]
  exact ⟨rfl, rfl, rfl⟩
theorem rdO_x (hv : 1 ≤ v) (h0 : s.e = 0) (hb : btO B L (skp B L s.a) ≠ none) (he : ¬ (ordS σ B L n s).e = 0) : (rdO σ B L v f n s).2.2 = ordS σ B L n s := by
  obtain ⟨u, rfl⟩ : ∃ u, v = u + 1 := ⟨v - 1, by omega⟩
  rw [ro_st h0 hb, ro_e he]
theorem tkN_0 {p : Nat} : tkN B L p = 0 ↔ btO B L p = none := by
  unfold tkN btO
  by_cases h : p < L
  · rw [if_pos h, if_pos h]
    constructor
    · intro e
      split at e
      · omega
      · split at e <;> omega
    · intro e; cases e
  · rw [if_neg h, if_neg h]
    exact ⟨fun _ => rfl, fun _ => rfl⟩
theorem prtF_x {o j : Nat} (h : j < o) : prtF σ B L k f o s j = f j := by
  unfold prtF
  split
  · rw [pk_un (by omega)]
  · split
    · rw [pk_un (by omega), pk_un (by omega)]
    · split
      · rw [pk_un (by omega)]
      · rw [pk_un (by omega), pk_un (by omega)]
theorem prtF_t {o : Nat} (h : f o = nI k) : told3 (prtF σ B L k f (o + 1) s) o k (prtA σ B L k s) (prtB σ B L k s) := by
  refine ⟨(prtF_x (Nat.lt_succ_self o)).trans h, ?_, fun h0 h6 => ?_⟩
  · unfold prtF prtA
    split
    · exact pk_us
    · split
      · rw [pk_un (by omega)]; exact pk_us
      · split
        · exact pk_us
        · rw [pk_un (by omega)]; exact pk_us
  · unfold prtF prtB
    rw [if_neg h0]
    split
    · exact pk_us
    · exact pk_us
theorem prt_v (hN : NumI σ) (hk : k < 7) : OrdV k (prtA σ B L k s) (prtB σ B L k s) := by
  have f6 := fndN_lt6 (B := B) (L := L) (but := -1) (s := s) hN
  have n1 := numN_in (B := B) (L := L) (lo := 1) (hi := 60) (s := s) (by omega)
  have n2 := numN_in (B := B) (L := L) (lo := 0) (hi := 9) (s := s) (by omega)
  have n3 := numN_in (B := B) (L := L) (lo := 0) (hi := 7) (s := numS B L 0 9 s) (by omega)
  have n4 := numN_in (B := B) (L := L) (lo := 0) (hi := 9) (s := fndS σ B L False (-1) s) (by omega)
  refine ⟨hk, fun e => ?_, fun h1 h4 => ?_, fun e => ?_, fun e => ?_⟩
  · subst e; rw [prtA_0]; exact n1.2
  · rw [prtA_c ⟨h1, h4⟩, prtB_c ⟨h1, h4⟩]; omega
  · subst e; rw [prtA_5, prtB_5]; exact ⟨f6, n4.2⟩
  · subst e; rw [prtA_6]; exact f6
end
/-- what an order does here and there -/
theorem rW_st {σ τ : Rw} (e : ∀ j, (j = 0 ∨ j = 1 ∨ j = 4 ∨ j = 5) → τ j = σ j) : rW τ = rW σ ∧ rH τ = rH σ := by
  unfold rW rH
  rw [e 4 (by omega), e 5 (by omega)]
  exact ⟨rfl, rfl⟩
theorem tot_nn {r : Nat} (h : r < 2147483648) : ¬ nI r < 0 := by
  intro q
  have h2 := Int32.lt_iff_toInt_lt.mp q
  rw [t_nI h] at h2
  have h3 : (0 : Int32).toInt = 0 := by decide
  omega
theorem fence_neg {ρ : Rw} (h : RowN ρ) {c : Nat} (hn : (fenceC ρ c).1 < 0) : (fenceC ρ c).2 = ρ := by
  unfold fenceC at hn ⊢
  split at hn
  · have f10 := h.1.w.f10
    exfalso
    have h2 : fenceS ρ c 2 < 0 := hn
    rw [fenceS_2 h.1.w] at h2
    exact tot_nn (by omega) h2
  · rename_i q
    rw [if_neg q]
theorem open_neg {ρ : Rw} (h : RowN ρ) {c : Nat} (hc : c < rC ρ) (hn : (openC ρ c).1 < 0) : (openC ρ c).2 = ρ := by
  unfold openC at hn ⊢
  split at hn
  · rename_i q
    have f10 := h.1.w.f10
    exfalso
    have h2 : openS ρ c 2 < 0 := hn
    rw [openS_2 h.1.w (rF_pos h.1 hc q)] at h2
    exact tot_nn (by omega) h2
  · rename_i q
    rw [if_neg q]
theorem many_le {ρ : Rw} {k : Nat} : manyR ρ k ≤ rC ρ := by
  have : ∀ n, smN (fun c => b01 (decide (ρ (153 + 5 * c + 0) = nI k))) n ≤ n := fun n => by
    induction n with
    | zero => exact Nat.le_refl _
    | succ n ih =>
      show smN (fun c => b01 (decide (ρ (153 + 5 * c + 0) = nI k))) n + b01 (decide (ρ (153 + 5 * n + 0) = nI k)) ≤ n + 1
      have hb : ∀ x : Bool, b01 x ≤ 1 := by decide
      have := hb (decide (ρ (153 + 5 * n + 0) = nI k))
      omega
  exact this _
theorem pave_neg {ρ : Rw} (h : RowN ρ) {c : Nat} (hc : c < rC ρ) (hn : (paveC ρ c).1 < 0) : (paveC ρ c).2 = ρ := by
  unfold paveC at hn ⊢
  split at hn
  · rename_i q
    rw [if_pos q]
    split at hn
    · rename_i q2
      rw [if_pos q2]
    · exfalso
      have h1 := many_le (ρ := paveS ρ c) (k := 1)
      have e4 : rC (paveS ρ c) = rC ρ := by unfold rC rW rH; rw [paveS_o (by omega), paveS_o (by omega)]
      have h8 := h.1.w.s.c80
      exact tot_nn (by omega) hn
  · rename_i q
    rw [if_neg q]
theorem sow_neg {ρ : Rw} (h : RowN ρ) {c : Nat} (hc : c < rC ρ) (hn : (sowC ρ c).1 < 0) : (sowC ρ c).2 = ρ := by
  have h8 := h.1.w.s.c80
  unfold sowC at hn ⊢
  split at hn
  · rename_i q
    rw [if_pos q]
    split at hn
    · rename_i q2
      rw [if_pos q2]
    · exfalso
      have h2 : ρ (153 + 5 * c + 1) < 0 := hn
      have h9 := h.1.w.c9 (c := c) (by omega)
      rw [h.1.w.c (c := c) (by omega)] at h2
      exact tot_nn (by omega) h2
  · rename_i q
    rw [if_neg q]
theorem inC_eq {ρ σ : Rw} (eW : rW ρ = rW σ) (eH : rH ρ = rH σ) (hs : RowS ρ) {k a b : Nat} (hk : 1 ≤ k ∧ k ≤ 4) {f : Nat → Int32 × Rw} (hf : ∀ c, Chg.C ρ (k, c, 0) = f c) (hn : ∀ c, c < rC ρ → (f c).1 < 0 → (f c).2 = ρ) :
    ((chgO σ k a b).C ρ).2 = (inC ρ a b f).2 ∧ (((chgO σ k a b).C ρ).1 < 0 ↔ (inC ρ a b f).1 < 0) ∧ ((inC ρ a b f).1 < 0 → (inC ρ a b f).2 = ρ) := by
  rw [chgO_c hk]
  unfold inC
  by_cases h : a < rW σ ∧ b < rH σ
  · have h2 : a < rW ρ ∧ b < rH ρ := by rw [eW, eH]; exact h
    have e : rW σ * b + a = b * rW ρ + a := by rw [eW, Nat.mul_comm]
    rw [if_pos h, if_pos h2, e, hf]
    exact ⟨rfl, Iff.rfl, hn _ (at_lt hs h2.1 h2.2)⟩
  · have h2 : ¬ (a < rW ρ ∧ b < rH ρ) := by rw [eW, eH]; exact h
    rw [if_neg h, if_neg h2]
    refine ⟨rfl, ⟨fun _ => ?_, fun _ => ?_⟩, fun _ => rfl⟩
    · show (-8 : Int32) < 0
      decide
    · show (-1 : Int32) < 0
      decide
/-- an order in the script does what the twin's does -/
theorem ord_key {ρ σ : Rw} (h : RowN ρ) (e : ∀ j, (j = 0 ∨ j = 1 ∨ j = 4 ∨ j = 5) → ρ j = σ j) {k a b : Nat} (hv : OrdV k a b) (hok : (chgO σ k a b).ok σ) :
    ((chgO σ k a b).C ρ).2 = (ordD ρ k a b).2 ∧ (((chgO σ k a b).C ρ).1 < 0 ↔ (ordD ρ k a b).1 < 0) ∧ ((ordD ρ k a b).1 < 0 → (ordD ρ k a b).2 = ρ) := by
  obtain ⟨eW, eH⟩ := rW_st e
  have eK := chg_rK e
  have hW := h.1.w
  have g6 := hW.g6
  rcases (show k = 0 ∨ k = 1 ∨ k = 2 ∨ k = 3 ∨ k = 4 ∨ k = 5 ∨ k = 6 by have := hv.1; omega) with q | q | q | q | q | q | q <;> subst q
  · have e1 : ordD ρ 0 a b = runC ρ a := if_pos rfl
    rw [e1, chgO_0]
    refine ⟨rfl, Iff.rfl, fun hn => ?_⟩
    have ha := hv.2.1 rfl
    unfold runC at hn ⊢
    split at hn
    · rename_i q
      exfalso
      have h1 := days_9p h.1 (n := a) (by omega) (by omega)
      have h2 := Int32.le_iff_toInt_le.mp h1
      have hn2 : daysR ρ a 9 - ρ 9 < 0 := hn
      have h3 := Int32.lt_iff_toInt_lt.mp hn2
      omega
    · rename_i q
      rw [if_neg q]
  · have e1 : ordD ρ 1 a b = inC ρ a b (fenceC ρ) := (if_neg (by decide)).trans (if_pos rfl)
    rw [e1]
    exact inC_eq eW eH hW.s (by decide) (fun _ => rfl) (fun c _ => fence_neg h)
  · have e1 : ordD ρ 2 a b = inC ρ a b (openC ρ) := (if_neg (by decide)).trans ((if_neg (by decide)).trans (if_pos rfl))
    rw [e1]
    exact inC_eq eW eH hW.s (by decide) (fun _ => rfl) (fun c hc => open_neg h hc)
  · have e1 : ordD ρ 3 a b = inC ρ a b (paveC ρ) := (if_neg (by decide)).trans ((if_neg (by decide)).trans ((if_neg (by decide)).trans (if_pos rfl)))
    rw [e1]
    exact inC_eq eW eH hW.s (by decide) (fun _ => rfl) (fun c hc => pave_neg h hc)
  · have e1 : ordD ρ 4 a b = inC ρ a b (sowC ρ) := (if_neg (by decide)).trans ((if_neg (by decide)).trans ((if_neg (by decide)).trans ((if_neg (by decide)).trans (if_pos rfl))))
    rw [e1]
    exact inC_eq eW eH hW.s (by decide) (fun _ => rfl) (fun c hc => sow_neg h hc)
  · have e1 : ordD ρ 5 a b = hasteC ρ a b := (if_neg (by decide)).trans ((if_neg (by decide)).trans ((if_neg (by decide)).trans ((if_neg (by decide)).trans ((if_neg (by decide)).trans (if_pos rfl)))))
    rw [e1]
    rw [chgO_5] at hok ⊢
    have ha : a < rK ρ := by rw [eK]; exact hok.1
    have hk := (hW.K ha).2.2.1
    refine ⟨rfl, Iff.rfl, fun hn => ?_⟩
    unfold hasteC at hn ⊢
    split at hn
    · rename_i q
      rw [if_pos q]
    · exfalso
      have h2 : ρ (75 + 13 * a + 9) < 0 := hn
      rw [hk.1] at h2
      exact tot_nn (by omega) h2
  · have e1 : ordD ρ 6 a b = turnC ρ a := (if_neg (by decide)).trans ((if_neg (by decide)).trans ((if_neg (by decide)).trans ((if_neg (by decide)).trans ((if_neg (by decide)).trans (if_neg (by decide))))))
    rw [e1]
    rw [chgO_6] at hok ⊢
    have ha : a < rK ρ := by rw [eK]; exact hok
    have hk := (hW.K ha).2.1
    refine ⟨rfl, Iff.rfl, fun hn => ?_⟩
    exfalso
    have h2 : turnS ρ a (75 + 13 * a + 7) < 0 := hn
    rw [turnS_7, hk.1] at h2
    exact tot_nn (by omega) h2
/-- an order as it was read, here and there -/
def OrdR (σ f : Rw) (x : Chg) (j : Nat) : Prop := x.ok σ ∧ ∃ k a b, told3 f (3 * j) k a b ∧ OrdV k a b ∧ x = chgO σ k a b
theorem do_eq {χ : Nat → Chg} {f σ : Rw} : ∀ (n d : Nat) (ρ : Rw), RowN ρ → (∀ j, (j = 0 ∨ j = 1 ∨ j = 4 ∨ j = 5) → ρ j = σ j) → (∀ j, d ≤ j → j < d + n → OrdR σ f (χ j) j) → doC χ n d ρ = doO f n d ρ
  | 0, _, _, _, _, _ => rfl
  | n + 1, d, ρ, hN, e, h => by
    show (if ((χ d).C ρ).1 < 0 then (d, ρ) else doC χ n (d + 1) ((χ d).C ρ).2) = (if (ordX f d ρ).1 < 0 then (d, (ordX f d ρ).2) else doO f n (d + 1) (ordX f d ρ).2)
    obtain ⟨hok, k, a, b, h3, hv, ex⟩ := h d (Nat.le_refl _) (by omega)
    have key := ord_key hN e hv (by rw [← ex]; exact hok)
    rw [← ex] at key
    rw [ordX_eq h3 hv]
    by_cases q : (ordD ρ k a b).1 < 0
    · rw [if_pos (key.2.1.mpr q), if_pos q, key.2.2 q]
    · rw [if_neg (fun w => q (key.2.1.mp w)), if_neg q, ← key.1]
      exact do_eq n (d + 1) _ (chg_N hN (ok_st e hok)) (fun j hj => (chg_g hN hj).trans (e j hj)) (fun j h1 h2 => h j (by omega) (by omega))
