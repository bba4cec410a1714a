/-! PURE: a description, statement by statement -/
set_option maxRecDepth 100000
/-- a statement stands at s -/
noncomputable def RS (B : Nat → Nat) (L n : Nat) (σ : Rw) (s : TS) (mb : Bool) : Rw × TS := rdL B L n (stmW σ B L (mb = true) s) (stmS σ B L (mb = true) s) (mb && decide (stmM σ B L (mb = true) s))
section
variable {B : Nat → Nat} {L n : Nat} {σ τ : Rw} {s : TS} {mb : Bool}
theorem rb_e (h : ¬ s.e = 0) : rdL B L n σ s mb = (σ, s) := by
  cases n with
  | zero => rfl
  | succ n => exact rd_e h
theorem rb_more (h : s.e = 0) (h2 : rK σ = 0 ∨ btO B L (skp B L s.a) ≠ none) (h3 : (signS B L 59 s).e = 0) : rdL B L (n + 1) σ s mb = RS B L n σ (signS B L 59 s) mb := rd_st h h2 h3
theorem rb_x (h2 : rK σ = 0 ∨ btO B L (skp B L s.a) ≠ none) (h3 : ¬ (signS B L 59 s).e = 0) : (rdL B L (n + 1) σ s mb).2 = signS B L 59 s := by
  by_cases h : s.e = 0
  · rw [rd_sg h h2 h3]
  · rw [rb_e h, sgnS_k h]
theorem rs_gate (hK : rK σ = 0) (hg : seesW B L wGate s) : RS B L n σ s true = rdL B L n (gateW σ B L (nextS B L s)) (gateS σ B L (nextS B L s)) true := by
  have h1 : rK σ = 0 ∧ seesW B L wGate s := ⟨hK, hg⟩
  have h2 : stmM σ B L (true = true) s := fun q => q.1 h1
  unfold RS stmW stmS
  rw [if_pos h1, if_pos h1, decide_eq_true h2]
  rfl
theorem rs_walk (hn : ¬ (rK σ = 0 ∧ seesW B L wGate s)) (h1 : 1 < rG σ) (hw : seesW B L wWalker s) : RS B L n σ s true = rdL B L n (walkW σ B L (nextS B L s)) (walkS σ B L (nextS B L s)) true := by
  have h3 : 1 < rG σ ∧ true = true ∧ seesW B L wWalker s := ⟨h1, rfl, hw⟩
  have h2 : stmM σ B L (true = true) s := fun q => q.2.1 h3
  unfold RS stmW stmS
  rw [if_neg hn, if_neg hn, if_pos h3, if_pos h3, decide_eq_true h2]
  rfl
theorem rs_grnd (hK : 0 < rK σ) (hw : ¬ (1 < rG σ ∧ mb = true ∧ seesW B L wWalker s)) (hg : isGr B L s) : RS B L n σ s mb = rdL B L n (grndW σ B L (nextS B L s)) (grndS σ B L (nextS B L s)) false := by
  have hn : ¬ (rK σ = 0 ∧ seesW B L wGate s) := fun q => by have := q.1; omega
  have h3 : 0 < rK σ ∧ isGr B L s := ⟨hK, hg⟩
  have h2 : ¬ stmM σ B L (mb = true) s := fun q => q ⟨hn, hw, h3.1, h3.2⟩
  unfold RS stmW stmS
  rw [if_neg hn, if_neg hn, if_neg hw, if_neg hw, if_pos h3, if_pos h3, decide_eq_false h2, Bool.and_false]
theorem rs_err (h0 : s.e = 0) (hn : ¬ (rK σ = 0 ∧ seesW B L wGate s)) (hw : ¬ (1 < rG σ ∧ mb = true ∧ seesW B L wWalker s)) (hg : ¬ (0 < rK σ ∧ isGr B L s)) : (RS B L n σ s mb).2.e = 1 ∧ (RS B L n σ s mb).2.p = nI (skp B L s.a) := by
  have h1 : stmS σ B L (mb = true) s = mustS False 1 (nextS B L s) := by
    unfold stmS
    rw [if_neg hn, if_neg hw, if_neg hg]
  have h2 : (mustS False 1 (nextS B L s)).e = 1 ∧ (mustS False 1 (nextS B L s)).p = nI (nextS B L s).g := must_n (fun q => q) (show (nextS B L s).e = 0 from h0)
  have h3 : (RS B L n σ s mb).2 = mustS False 1 (nextS B L s) := by
    unfold RS
    rw [h1, rb_e (by rw [h2.1]; decide)]
  rw [h3]
  exact h2
theorem rs_e {S : TS} {τ : Rw} {mb' : Bool} (h : RS B L n σ s mb = rdL B L n τ S mb') (he : ¬ S.e = 0) : (RS B L n σ s mb).2 = S := by rw [h, rb_e he]
/-- a row of zeros and a lawn's four numbers -/
theorem lawn_new {w h gr wt : Nat} (hw : w ≤ 10) (hh : h ≤ 8) (e1 : numN B L 3 10 (l2 B L s) = w) (e2 : numN B L 3 8 (l3 B L s) = h) (e3 : numN B L 1 9 (l4 B L s) = gr) (e4 : numN B L 0 9 (l5 B L s) = wt) (hz : Zr σ) (he : (l1 B L s).e = 0) : NewR (lawnW σ B L s) w h (nI gr) (nI wt) := by
  have e0 : lawnW σ B L s = nineR (lw4 σ B L s) (rC (lw4 σ B L s)) := if_pos he
  have a4 : lw4 σ B L s 4 = nI w := by rw [← e1]; exact (pk_un (by omega)).trans ((pk_un (by omega)).trans ((pk_un (by omega)).trans pk_us))
  have a5 : lw4 σ B L s 5 = nI h := by rw [← e2]; exact (pk_un (by omega)).trans ((pk_un (by omega)).trans pk_us)
  have a6 : lw4 σ B L s 6 = nI gr := by rw [← e3]; exact (pk_un (by omega)).trans pk_us
  have a7 : lw4 σ B L s 7 = nI wt := by rw [← e4]; exact pk_us
  have eC : rC (lw4 σ B L s) = w * h := by
    have f1 : rW (lw4 σ B L s) = w := (congrArg Int32.toNatClampNeg a4).trans (nI_nat (by omega))
    have f2 : rH (lw4 σ B L s) = h := (congrArg Int32.toNatClampNeg a5).trans (nI_nat (by omega))
    unfold rC
    rw [f1, f2]
  have hwh : w * h ≤ 80 := Nat.mul_le_mul hw hh
  have x : ∀ j, ((j - 153) % 5 ≠ 1 ∨ j < 153) → lawnW σ B L s j = lw4 σ B L s j := fun j hj => by rw [e0]; exact nine_x hj _
  refine ⟨⟨(x 4 (by omega)).trans a4, (x 5 (by omega)).trans a5, (x 6 (by omega)).trans a6, (x 7 (by omega)).trans a7⟩, fun j hj => ?_, fun c hc => ?_⟩
  · exact (x j (by omega)).trans ((lw4_x (by omega)).trans (hz j (by omega)))
  · refine ⟨(x _ (by omega)).trans ((lw4_x (by omega)).trans (hz _ (by omega))), ?_, (x _ (by omega)).trans ((lw4_x (by omega)).trans (hz _ (by omega))), (x _ (by omega)).trans ((lw4_x (by omega)).trans (hz _ (by omega))), (x _ (by omega)).trans ((lw4_x (by omega)).trans (hz _ (by omega)))⟩
    rw [e0, nine_c1, eC, if_pos hc]
theorem lawn_D (hz : Zr σ) (he : (lawnS B L s).e = 0) : Dj (lawnW σ B L s) ∧ NF (lawnW σ B L s) ∧ K02 (lawnW σ B L s) ∧ rG (lawnW σ B L s) = 0 ∧ rK (lawnW σ B L s) = 0 := by
  have hW := lawnW_w hz he
  have h1 : (l1 B L s).e = 0 := by
    by_cases q : (l1 B L s).e = 0
    · exact q
    · unfold lawnS at he
      rw [if_neg q] at he
      exact absurd he q
  have e0 : lawnW σ B L s = nineR (lw4 σ B L s) (rC (lw4 σ B L s)) := if_pos h1
  have x : ∀ j, ((j - 153) % 5 ≠ 1 ∨ j < 153) → (j < 4 ∨ 7 < j) → j < 553 → lawnW σ B L s j = nI 0 := fun j hj h2 h3 => by rw [e0]; exact (nine_x hj _).trans ((lw4_x h2).trans (hz j h3))
  have nz : (nI 0).toNatClampNeg = 0 := nI_nat (by omega)
  have z0 : nI 0 = (0 : Int32) := nI0
  have eG : rG (lawnW σ B L s) = 0 := (congrArg Int32.toNatClampNeg (x 0 (by omega) (by omega) (by omega))).trans nz
  have eK : rK (lawnW σ B L s) = 0 := (congrArg Int32.toNatClampNeg (x 1 (by omega) (by omega) (by omega))).trans nz
  have eF : rF (lawnW σ B L s) = 0 := (congrArg Int32.toNatClampNeg (x 2 (by omega) (by omega) (by omega))).trans nz
  have eD : rD (lawnW σ B L s) = 0 := (congrArg Int32.toNatClampNeg (x 3 (by omega) (by omega) (by omega))).trans nz
  have cz : ∀ c v, c < 80 → v < 5 → v ≠ 1 → lawnW σ B L s (153 + 5 * c + v) = nI 0 := fun c v hc hv h1 => x _ (by omega) (by omega) (by omega)
  have hNF : NF (lawnW σ B L s) := fun c hc q => by
    have h9 := cz c 2 hc (by omega) (by omega)
    unfold fenced at q
    rw [q] at h9
    exact absurd h9 (by decide)
  refine ⟨⟨⟨⟨hW, free_ways hW hNF, fun c hc => ?_, ?_⟩, fun r hr => by rw [eG] at hr; exact absurd hr (Nat.not_lt_zero _)⟩, eD, fun k h1 h6 => ⟨x _ (by omega) (by omega) (by omega), x _ (by omega) (by omega) (by omega)⟩, fun j h1 h2 => x j (by omega) (by omega) (by omega)⟩, hNF, fun c hc => Or.inl ((cz c 0 hc (by omega) (by omega)).trans z0), eG, eK⟩
  · have t : cTr (lawnW σ B L s) c = 0 := (congrArg Int32.toNatClampNeg (cz c 3 hc (by omega) (by omega))).trans nz
    have l : cLt (lawnW σ B L s) c = 0 := (congrArg Int32.toNatClampNeg (cz c 4 hc (by omega) (by omega))).trans nz
    unfold CelI
    rw [t, l, cz c 0 hc (by omega) (by omega), cz c 2 hc (by omega) (by omega), cz c 3 hc (by omega) (by omega), cz c 4 hc (by omega) (by omega)]
    exact ⟨Or.inl z0, Or.inl rfl, ⟨rfl, Nat.zero_le _⟩, ⟨rfl, Nat.zero_le _⟩, Iff.rfl⟩
  · rw [eF]
    unfold fcnt
    have h80 := hW.s.c80
    rw [smN_k (b := 0) _ (fun c hc => by
      show b01 (decide (fenced (lawnW σ B L s) c)) = 0
      rw [decide_eq_false (hNF c (by omega))]; rfl), Nat.zero_mul]
/-- the lawn's line, read -/
theorem lawn_1 (h0 : s.e = 0) (hw : seesW B L wLawn s) : l1 B L s = nextS B L s ∧ (l2 B L s).e = 0 ∧ (l2 B L s).a = nxE B L s.a ∧ lawnS B L s = l6 B L s := by
  have e1 : l1 B L s = nextS B L s := mustS_1 hw
  have hw1 := isWd_1 hw.2 (by decide)
  exact ⟨e1, by unfold l2; rw [e1]; exact h0, by unfold l2; rw [e1]; exact goes_nx hw1, if_pos (by rw [e1]; exact h0)⟩
theorem lawn_ok {p1 p2 p3 p4 w h gr wt : Nat} (h0 : s.e = 0) (hw : seesW B L wLawn s) (n1 : numR B L (nxE B L s.a) 3 10 = .inr (w, p1)) (n2 : numR B L p1 3 8 = .inr (h, p2)) (n3 : numR B L p2 1 9 = .inr (gr, p3)) (n4 : numR B L p3 0 9 = .inr (wt, p4)) : (lawnS B L s).e = 0 ∧ (lawnS B L s).a = p4 ∧ (Zr σ → w ≤ 10 → h ≤ 8 → NewR (lawnW σ B L s) w h (nI gr) (nI wt)) := by
  obtain ⟨a1, a2, a3, a4⟩ := lawn_1 h0 hw
  obtain ⟨b1, b2, b3⟩ := numS_r (B := B) (L := L) (lo := 3) (hi := 10) a2 (by rw [a3]; exact n1)
  obtain ⟨c1, c2, c3⟩ := numS_r (B := B) (L := L) (lo := 3) (hi := 8) b1 (by rw [b2]; exact n2)
  obtain ⟨d1, d2, d3⟩ := numS_r (B := B) (L := L) (lo := 1) (hi := 9) c1 (by rw [c2]; exact n3)
  obtain ⟨e1, e2, e3⟩ := numS_r (B := B) (L := L) (lo := 0) (hi := 9) d1 (by rw [d2]; exact n4)
  rw [a4]
  exact ⟨e1, e2, fun hz h1 h2 => lawn_new h1 h2 b3 c3 d3 e3 hz (by rw [a1]; exact h0)⟩
theorem lawn_x0 (h0 : s.e = 0) (hw : ¬ seesW B L wLawn s) : (lawnS B L s).e = 1 ∧ (lawnS B L s).p = nI (skp B L s.a) ∧ ¬ 1 = 0 := by
  have e1 : (l1 B L s).e = 1 ∧ (l1 B L s).p = nI (nextS B L s).g := must_n hw (show (nextS B L s).e = 0 from h0)
  have e2 : lawnS B L s = l1 B L s := if_neg (by rw [e1.1]; decide)
  rw [e2]
  exact ⟨e1.1, e1.2, by decide⟩
theorem lawn_xe {e p : Nat} (hS : lawnS B L s = l6 B L s) (h : ((l3 B L s).e = e ∧ (l3 B L s).p = nI p ∧ ¬ e = 0) ∨ ((l4 B L s).e = e ∧ (l4 B L s).p = nI p ∧ ¬ e = 0) ∨ ((l5 B L s).e = e ∧ (l5 B L s).p = nI p ∧ ¬ e = 0) ∨ ((l6 B L s).e = e ∧ (l6 B L s).p = nI p ∧ ¬ e = 0)) : (lawnS B L s).e = e ∧ (lawnS B L s).p = nI p ∧ ¬ e = 0 := by
  rw [hS]
  have t5 : ((l5 B L s).e = e ∧ (l5 B L s).p = nI p ∧ ¬ e = 0) → ((l6 B L s).e = e ∧ (l6 B L s).p = nI p ∧ ¬ e = 0) := fun q => by
    have e1 : l6 B L s = l5 B L s := numS_k (by rw [q.1]; exact q.2.2)
    rw [e1]; exact q
  have t4 : ((l4 B L s).e = e ∧ (l4 B L s).p = nI p ∧ ¬ e = 0) → ((l6 B L s).e = e ∧ (l6 B L s).p = nI p ∧ ¬ e = 0) := fun q => t5 (by
    have e1 : l5 B L s = l4 B L s := numS_k (by rw [q.1]; exact q.2.2)
    rw [e1]; exact q)
  have t3 : ((l3 B L s).e = e ∧ (l3 B L s).p = nI p ∧ ¬ e = 0) → ((l6 B L s).e = e ∧ (l6 B L s).p = nI p ∧ ¬ e = 0) := fun q => t4 (by
    have e1 : l4 B L s = l3 B L s := numS_k (by rw [q.1]; exact q.2.2)
    rw [e1]; exact q)
  rcases h with h | h | h | h
  · exact t3 h
  · exact t4 h
  · exact t5 h
  · exact h
theorem lawn_x {p1 p2 p3 w h gr e p : Nat} (h0 : s.e = 0) (hw : seesW B L wLawn s) (hx : (numR B L (nxE B L s.a) 3 10 = .inl (e, p)) ∨ (numR B L (nxE B L s.a) 3 10 = .inr (w, p1) ∧ ((numR B L p1 3 8 = .inl (e, p)) ∨ (numR B L p1 3 8 = .inr (h, p2) ∧ ((numR B L p2 1 9 = .inl (e, p)) ∨ (numR B L p2 1 9 = .inr (gr, p3) ∧ numR B L p3 0 9 = .inl (e, p))))))) : (lawnS B L s).e = e ∧ (lawnS B L s).p = nI p ∧ ¬ e = 0 := by
  obtain ⟨a1, a2, a3, a4⟩ := lawn_1 h0 hw
  rcases hx with q | ⟨n1, hx⟩
  · exact lawn_xe a4 (Or.inl (numS_l a2 (by rw [a3]; exact q)))
  · obtain ⟨b1, b2, b3⟩ := numS_r (B := B) (L := L) (lo := 3) (hi := 10) a2 (by rw [a3]; exact n1)
    rcases hx with q | ⟨n2, hx⟩
    · exact lawn_xe a4 (Or.inr (Or.inl (numS_l b1 (by show numR B L (numS B L 3 10 (l2 B L s)).a 3 8 = _; rw [b2]; exact q))))
    · obtain ⟨c1, c2, c3⟩ := numS_r (B := B) (L := L) (lo := 3) (hi := 8) b1 (by rw [b2]; exact n2)
      rcases hx with q | ⟨n3, q⟩
      · exact lawn_xe a4 (Or.inr (Or.inr (Or.inl (numS_l c1 (by show numR B L (numS B L 3 8 (numS B L 3 10 (l2 B L s))).a 1 9 = _; rw [c2]; exact q)))))
      · obtain ⟨d1, d2, d3⟩ := numS_r (B := B) (L := L) (lo := 1) (hi := 9) c1 (by rw [c2]; exact n3)
        exact lawn_xe a4 (Or.inr (Or.inr (Or.inr (numS_l d1 (by show numR B L (numS B L 1 9 (numS B L 3 8 (numS B L 3 10 (l2 B L s)))).a 0 9 = _; rw [d2]; exact q)))))
end
theorem goes_sg {B : Nat → Nat} {L : Nat} {S : TS} (h0 : S.e = 0) (h : btO B L (skp B L S.a) = some 59) : (signS B L 59 S).e = 0 ∧ (signS B L 59 S).a = nxE B L S.a := by
  obtain ⟨h1, h2⟩ := sgnS_r (B := B) (L := L) (c := 59) (s := S) h0 (if_pos h)
  exact ⟨h1, by rw [h2]; exact ((tk_s (by decide) (by decide)).2 h).symm⟩
/-- behind a statement: another one, or the end -/
def DwI (B : Nat → Nat) (L b n : Nat) (σ : Rw) (s : TS) (mb : Bool) (R : Rw × TS) : Prop := (b = 1 ∧ RS B L n σ s mb = R ∧ L - s.a + 1 ≤ n) ∨ (b = 0 ∧ ¬ btO B L (skp B L s.a) = some 59 ∧ rdL B L (n + 1) σ s mb = R)
theorem DwI.end_ok {B : Nat → Nat} {L n : Nat} {σ : Rw} {s : TS} {mb : Bool} {R : Rw × TS} (h : DwI B L 0 n σ s mb R) (h0 : s.e = 0) (hK : 0 < rK σ) (hb : btO B L (skp B L s.a) = none) : R = (σ, nextS B L s) := by
  rcases h with ⟨h, -⟩ | ⟨-, -, h⟩
  · cases h
  · rw [← h]
    exact rd_end h0 (fun q => q.elim (fun q => by omega) (fun q => q hb))
theorem DwI.end_x {B : Nat → Nat} {L n : Nat} {σ : Rw} {s : TS} {mb : Bool} {R : Rw × TS} (h : DwI B L 0 n σ s mb R) (h0 : s.e = 0) (hb : ¬ btO B L (skp B L s.a) = none) : R.2.e = 1 ∧ R.2.p = nI (skp B L s.a) := by
  rcases h with ⟨h, -⟩ | ⟨-, h1, h⟩
  · cases h
  · have e1 : sgnR B L s.a 59 = .inl (1, skp B L s.a) := if_neg h1
    obtain ⟨e2, e3, e4⟩ := sgnS_l (c := 59) h0 e1
    rw [← h, rb_x (Or.inr hb) (by rw [e2]; decide)]
    exact ⟨e2, e3⟩
