/-! THE WORLD, 1: rows that agree on their 553 places -/
set_option maxRecDepth 100000
/-- rows that agree -/
def EqE (σ τ : Rw) : Prop := ∀ j, j < 553 → τ j = σ j
section
variable {σ τ : Rw}
theorem EqE.K (e : EqE σ τ) : rK τ = rK σ := congrArg Int32.toNatClampNeg (e 1 (by decide))
theorem EqE.G (e : EqE σ τ) : rG τ = rG σ := congrArg Int32.toNatClampNeg (e 0 (by decide))
theorem EqE.D (e : EqE σ τ) : rD τ = rD σ := congrArg Int32.toNatClampNeg (e 3 (by decide))
theorem EqE.F (e : EqE σ τ) : rF τ = rF σ := congrArg Int32.toNatClampNeg (e 2 (by decide))
theorem EqE.W (e : EqE σ τ) : rW τ = rW σ := congrArg Int32.toNatClampNeg (e 4 (by decide))
theorem EqE.H (e : EqE σ τ) : rH τ = rH σ := congrArg Int32.toNatClampNeg (e 5 (by decide))
theorem EqE.C (e : EqE σ τ) : rC τ = rC σ := by unfold rC; rw [e.W, e.H]
theorem EqE.J (e : EqE σ τ) (h : RowJ σ) : RowJ τ := by
  have hV : RowW τ := h.w.plc (fun j hj => e j (by unfold Plc at hj; omega))
  have h80 := h.w.s.c80
  have hc : ∀ c, c < 80 → ∀ v, v < 5 → τ (153 + 5 * c + v) = σ (153 + 5 * c + v) := fun c h8 v h5 => e _ (by omega)
  have hf : ∀ c, c < 80 → (fenced τ c ↔ fenced σ c) := fun c h8 => by unfold fenced; rw [hc c h8 2 (by decide)]
  have hG : SameG σ τ := fun j hj => e j (by unfold Geo at hj; omega)
  refine ⟨⟨hV, ways_geo h.w hV hG (fun c h8 q => ⟨by rw [← hc c (by omega) 0 (by decide)]; exact q.1, (hf c (by omega)).mp q.2⟩) h.y, fun c h8 => (h.c h8).cong (fun v h5 => hc c h8 v h5) e.D, ?_⟩, h.g.geo h.w hG (fun c h8 q => by rw [hc c (by omega) 0 (by decide)]; exact q)⟩
  rw [e.F, fcnt_c hG.c (fun c h8 => hf c (by omega))]
  exact h.1.f
theorem EqE.N (e : EqE σ τ) (h : RowN σ) : RowN τ := ⟨e.J h.1, by rw [e.D]; exact h.2⟩
theorem WLn.cg {A : HA} {a : Nat} {d : Nat → Nat} (h : WLn A a d σ) (e : EqE σ τ) (hW : RowW σ) : WLn A a d τ := by
  have h80 := hW.s.c80
  have k6 := hW.k6
  have g6 := hW.g6
  refine ⟨⟨by show Ly0 A.G A.R A.n a d (rC τ) (rK τ) (rG τ); rw [e.C, e.K, e.G]; exact h.1.1, h.1.2.1.cong (fun j hj => e j (by unfold Tl Dm at hj; omega)), fun k hk => ?_, fun r hr => ?_⟩, h.2⟩
  · rw [e.K] at hk
    obtain ⟨nm, h1, h2⟩ := h.1.2.2.1 k hk
    exact ⟨nm, h1, h2.cg fun j hj => e _ (by omega)⟩
  · rw [e.G] at hr
    obtain ⟨nm, h1, h2⟩ := h.1.2.2.2 r hr
    exact ⟨nm, h1, h2.cg fun j hj => e _ (by omega)⟩
end
