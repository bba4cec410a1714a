/-! THE WORLD, 4: the world stays when the reference was asked -/
set_option maxRecDepth 100000
section
variable {g : GZ} {A D : HA} {c t a pq pe h m bf L ob v mo n0 : Nat} {d f B fo : Nat → Nat} {σ τ τ' : Rw}
theorem Wo.non (w : Wo g A c t a pq pe h m bf L ob v mo n0 d f B fo σ τ) (hz : Zk A) (hG : Gw A D Non) : Wo g D c t a pq pe h m bf L ob v mo n0 d f B fo σ τ := w.gs hz (Gs.of hG)
/-- numbers of the reference's own cells alone -/
def TwX (t y : Nat) : Prop := y = t ∨ y = t + 1 ∨ y = t + 4 ∨ y = t + 6 ∨ y = t + 7
theorem WLn.tx {x : Nat} {dx : Nat → Nat} {ρ : Rw} (hw : WLn A x dx ρ) (hz : Zk A) (hT : Tw A t) (hG : Gw A D (TwX t)) : WLn D x dx ρ := by
  have k : ∀ y, TwX t y → (A.G y).1 = 6 ∨ (A.G y).1 = 101 ∨ (A.G y).1 = 104 ∨ (A.G y).1 = 106 ∨ (A.G y).1 = 107 := fun y q => by
    rcases q with q | q | q | q | q <;> rw [q]
    · rw [tw_g hT]; decide
    · rw [tw_g1 hT]; decide
    · rw [tw_g4 hT]; decide
    · rw [tw_g6 hT]; decide
    · rw [tw_g7 hT]; decide
  refine hw.mv hz hG (fun y hy q => ?_) (StP.gw hz hG (fun y q => ?_))
  · have h1 := fp_kind hw.1.1 hy
    have h2 := k y q
    omega
  · rcases k y q with e | e | e | e | e <;> rw [e] <;> exact ⟨by decide, by decide⟩
theorem Wo.tq (w : Wo g A c t a pq pe h m bf L ob v mo n0 d f B fo σ τ) (hz : Zk A) {α κ π : Rw} (e : ∀ j, j ≠ 6 → j ≠ 10 → τ' j = τ j) : Wo g (S5 (A.sI (t + 4) α) t σ κ π τ') c t a pq pe h m bf L ob v mo n0 d f B fo σ τ' := by
  have T := w.tw
  have hx : ∀ x, ¬ TwX t x → (S5 (A.sI (t + 4) α) t σ κ π τ').I x = A.I x := fun x q => by
    rw [S5_x _ _ _ _ _ _ (fun z => q (Or.inl z)) (fun z => q (Or.inr (Or.inl z))) (fun z => q (Or.inr (Or.inr (Or.inr (Or.inl z))))) (fun z => q (Or.inr (Or.inr (Or.inr (Or.inr z))))), sI_o _ _ (fun z => q (Or.inr (Or.inr (Or.inl z))))]
  have hG : Gw A (S5 (A.sI (t + 4) α) t σ κ π τ') (TwX t) := ⟨Nat.le_refl _, fun x _ => ⟨rfl, rfl, fun q => ⟨rfl, hx x q, rfl⟩⟩⟩
  have hR : (S5 (A.sI (t + 4) α) t σ κ π τ').R = A.R := rfl
  have nk : ∀ y k, (A.G y).1 = k → k ≠ 6 → k ≠ 101 → k ≠ 104 → k ≠ 106 → k ≠ 107 → ¬ TwX t y := fun y k e h1 h2 h3 h4 h5 q => by
    rcases q with q | q | q | q | q <;> rw [q] at e
    · exact h1 (e.symm.trans (tw_g T))
    · exact h2 (e.symm.trans (tw_g1 T))
    · exact h3 (e.symm.trans (tw_g4 T))
    · exact h4 (e.symm.trans (tw_g6 T))
    · exact h5 (e.symm.trans (tw_g7 T))
  have nc := nk c 1 w.kc (by decide) (by decide) (by decide) (by decide) (by decide)
  have ec := hx c nc
  have e2 := hx (t + 2) (nk _ 102 (tw_g2 T) (by decide) (by decide) (by decide) (by decide) (by decide))
  have e5 := hx (t + 5) (nk _ 105 (tw_g5 T) (by decide) (by decide) (by decide) (by decide) (by decide))
  have e8 := hx (t + 8) (nk _ 108 (tw_g8 T) (by decide) (by decide) (by decide) (by decide) (by decide))
  have e10 := hx (t + 10) (nk _ 110 (tw_g10 T) (by decide) (by decide) (by decide) (by decide) (by decide))
  refine ⟨w.kc, w.now, w.lawn.tx hz T hG, w.row, w.past, w.deq.gw hz hG (nk _ 14 w.deq.g (by decide) (by decide) (by decide) (by decide) (by decide)) (nk _ 502 w.deq.k (by decide) (by decide) (by decide) (by decide) (by decide)), w.m8, fun i hi => ?_, ?_, w.txt.gw hz w.kc hG nc (nk _ 201 w.txt.2.1 (by decide) (by decide) (by decide) (by decide) (by decide)), by rw [e8]; exact w.buf, (e 12 (by decide) (by decide)).trans w.len, w.outR, w.out.gwI hz hG (nk _ 15 w.out.1.1 (by decide) (by decide) (by decide) (by decide) (by decide)) (nk _ 230 w.out.1.2.2.1 (by decide) (by decide) (by decide) (by decide) (by decide)), w.outM, by rw [e10]; exact w.outE, (e 24 (by decide) (by decide)).trans w.outL, by rw [ec, e 18 (by decide) (by decide)]; exact w.errC, by rw [ec, e 19 (by decide) (by decide)]; exact w.errP, T, S5_1 _ _ _ _ _ _, S5_0 _ _ _ _ _ _, (e 5 (by decide) (by decide)).trans w.mny, w.de.gw hz hG, w.ic.gw hz hG (fun y _ q => ?_)⟩
  · obtain ⟨di, ρ, h1, h2, h3⟩ := w.old i hi
    exact ⟨di, ρ, h1.tx hz T hG, h2, by rw [e5]; exact h3⟩
  · rcases w.kept with ⟨h1, h2⟩ | ⟨b, db, ρ, h1, h2, h3, h4, h5⟩
    · exact Or.inl ⟨h1, (e 7 (by decide) (by decide)).trans h2⟩
    · exact Or.inr ⟨b, db, ρ, h1, (e 7 (by decide) (by decide)).trans h2, h3.tx hz T hG, h4, by rw [e2]; exact h5⟩
  · rcases q with q | q | q | q | q <;> rw [q]
    · rw [tw_g T]; decide
    · rw [tw_g1 T]; decide
    · rw [tw_g4 T]; decide
    · rw [tw_g6 T]; decide
    · rw [tw_g7 T]; decide
end
