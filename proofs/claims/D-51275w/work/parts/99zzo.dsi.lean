/-! A DESCRIPTION: what holds between its statements -/
set_option maxRecDepth 100000
/-- the words of a description -/
def DsC (g : GZ) : Prop := (EmK g ∧ GdK g) ∧ WkG g "LawnPaths$TextReader" 128 "lawn" wLawn ∧ WkG g "LawnPaths$TextReader" 149 "gate" wGate ∧ WkG g "LawnPaths$TextReader" 154 "walker" wWalker ∧ WkG g "LawnPaths$TextReader" 202 "fence" wFence ∧ WkG g "LawnPaths$TextReader" 204 "stone" wStone ∧ WkG g "LawnPaths$TextReader" 206 "grass" wGrass
/-- the reader, the lawn, its row -/
def DsI (g : GZ) (A F : HA) (r c bf L : Nat) (B : Nat → Nat) (l : Nat) (σ : Rw) (s : TS) (d : Nat → Nat) : Prop := (RdT g F r c bf L B s.a ∧ s.e = 0 ∧ s.a ≤ L) ∧ LwB g F A.z l d σ ∧ Dj σ ∧ Gw A F (fun y => y = r) ∧ (A.G r).1 = 7
section
variable {g : GZ} {A F D : HA} {r c bf L l : Nat} {B : Nat → Nat} {σ τ : Rw} {s S : TS} {d d' : Nat → Nat}
theorem DsI.rd (h : DsI g A F r c bf L B l σ s d) : RdT g F r c bf L B s.a := h.1.1
theorem DsI.e0 (h : DsI g A F r c bf L B l σ s d) : s.e = 0 := h.1.2.1
theorem DsI.al (h : DsI g A F r c bf L B l σ s d) : s.a ≤ L := h.1.2.2
theorem DsI.lb (h : DsI g A F r c bf L B l σ s d) : LwB g F A.z l d σ := h.2.1
theorem DsI.dj (h : DsI g A F r c bf L B l σ s d) : Dj σ := h.2.2.1
theorem DsI.gw (h : DsI g A F r c bf L B l σ s d) : Gw A F (fun y => y = r) := h.2.2.2.1
theorem DsI.un (h : DsI g A F r c bf L B l σ s d) {q : Nat} {e p : Int32} (hU : UnX F D (XG F r l d σ) q e p) : UnX A D (fun y => y = r) q e p := hU.of h.gw (fun y hy q => q.elim id (fun q => by have := h.lb.lx0 q; omega))
theorem DsI.st (h : DsI g A F r c bf L B l σ s d) (hR : RdT g D r c bf L B S.a) (he : S.e = 0) (ha : S.a ≤ L) (hB : LwB g D A.z l d' τ) (hD : Dj τ) (hw : Gw F D (XG F r l d σ)) : DsI g A D r c bf L B l τ S d' := ⟨⟨hR, he, ha⟩, hB, hD, h.gw.tr2 hw (fun y hy q => q.elim id (fun q => by have := h.lb.lx0 q; omega)), h.2.2.2.2⟩
/-- behind a statement: the sign that goes on was read, or there is none -/
theorem DsI.go (h : DsI g A F r c bf L B l σ s d) (hz : Zk F) (hw : Gw F D (fun y => y = r)) (hR : RdT g D r c bf L B (nxE B L s.a)) (hb : btO B L (skp B L s.a) = some 59) : DsI g A D r c bf L B l σ (signS B L 59 s) d := by
  obtain ⟨h1, h2⟩ := goes_sg h.e0 hb
  have h3 := nxE_le (B := B) h.al
  exact ⟨⟨by rw [h2]; exact hR, h1, by rw [h2]; exact h3.2⟩, h.lb.mv hz hw (fun y hy e => by have h8 := fp_k h.lb.L hy; rw [e, h.rd.r7] at h8; omega) (StP.rd hz h.rd.r7 hw), h.dj, h.gw.tr hw, h.2.2.2.2⟩
end
