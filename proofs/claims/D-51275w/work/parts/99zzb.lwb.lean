/-! A LAWN THAT IS BEING DESCRIBED: its cells -/
set_option maxRecDepth 100000
def LwB (g : GZ) (A : HA) (z0 l : Nat) (d : Nat → Nat) (σ : Rw) : Prop := (Ly A l d σ ∧ Lv A.I l d (bs σ) ∧ NmK A d σ ∧ DeK g A) ∧ (Ll g A (d 20) (d 21) (rK σ) (fun k => d (30 + k)) ∧ Ll g A (d 22) (d 23) (rG σ) (fun r => d (40 + r)) ∧ d 20 ≠ d 22 ∧ (rK σ = 0 → d 21 = g.c 70) ∧ (rG σ = 0 → d 23 = g.c 70)) ∧ ∀ y, Fp l d (rK σ) (rG σ) y → z0 ≤ y ∨ y = g.c 70
/-- the lawn's cells that may be written -/
def LX (A : HA) (l : Nat) (d : Nat → Nat) (σ : Rw) (y : Nat) : Prop := Fp l d (rK σ) (rG σ) y ∧ (A.G y).1 ≠ 500
theorem fp_kind {A : HA} {a : Nat} {d : Nat → Nat} {C K N y : Nat} (hL : Ly0 A.G A.R A.n a d C K N) (h : Fp a d K N y) : (A.G y).1 = 2 ∨ (A.G y).1 = 3 ∨ (A.G y).1 = 4 ∨ (A.G y).1 = 5 ∨ (A.G y).1 = 13 ∨ (121 ≤ (A.G y).1 ∧ (A.G y).1 ≤ 127) ∨ (321 ≤ (A.G y).1 ∧ (A.G y).1 ≤ 323) ∨ (500 ≤ (A.G y).1 ∧ (A.G y).1 < 600) := by
  have ob : ∀ x, isObA (A.G x).1 = true → 500 ≤ (A.G x).1 ∧ (A.G x).1 < 600 := fun x hx => by
    simp only [isObA, Bool.and_eq_true, decide_eq_true_eq] at hx
    omega
  rcases h with q | ⟨f, hf, q⟩ | (q | q | q | q | q | q) | ⟨k, hk, q⟩ | ⟨r, hr, q⟩ <;> rw [q]
  · exact Or.inl (ly_g hL)
  · have h1 := ly_gf hL f hf
    have h2 := lyK_r f (by unfold arrF at hf; omega) hf
    omega
  · have := ly_g11 hL; omega
  · have := ly_g12 hL; omega
  · have := ly_g20 hL; omega
  · have := ob _ (ly_g21 hL); omega
  · have := ly_g22 hL; omega
  · have := ob _ (ly_g23 hL); omega
  · have := (ly_w hL hk).2; omega
  · have := (ly_t hL hr).2; omega
section
variable {g : GZ} {A D : HA} {z0 l : Nat} {d : Nat → Nat} {σ τ : Rw}
theorem LwB.L (h : LwB g A z0 l d σ) : Ly A l d σ := h.1.1
theorem LwB.v (h : LwB g A z0 l d σ) : Lv A.I l d (bs σ) := h.1.2.1
theorem LwB.n (h : LwB g A z0 l d σ) : NmK A d σ := h.1.2.2.1
theorem LwB.de (h : LwB g A z0 l d σ) : DeK g A := h.1.2.2.2
theorem LwB.lw (h : LwB g A z0 l d σ) : Ll g A (d 20) (d 21) (rK σ) (fun k => d (30 + k)) := h.2.1.1
theorem LwB.lg (h : LwB g A z0 l d σ) : Ll g A (d 22) (d 23) (rG σ) (fun r => d (40 + r)) := h.2.1.2.1
theorem LwB.ne (h : LwB g A z0 l d σ) : d 20 ≠ d 22 := h.2.1.2.2.1
theorem LwB.k0 (h : LwB g A z0 l d σ) : rK σ = 0 → d 21 = g.c 70 := h.2.1.2.2.2.1
theorem LwB.g0 (h : LwB g A z0 l d σ) : rG σ = 0 → d 23 = g.c 70 := h.2.1.2.2.2.2
theorem ly_bs (h : Ly A l d σ) : Ly A l d (bs σ) := by
  have h1 : Ly0 A.G A.R A.n l d (rC σ) (rK σ) (rG σ) := h
  show Ly0 A.G A.R A.n l d (rC (bs σ)) (rK (bs σ)) (rG (bs σ))
  rw [bs_C, bs_K, bs_G]
  exact h1
theorem LwB.L8 (h : LwB g A z0 l d σ) : Ly A l d (bs σ) := ly_bs h.L
theorem LwB.N8 (h : LwB g A z0 l d σ) : NmK A d (bs σ) := by
  have s : ∀ nm o, 21 ≤ o → NmS A nm σ o → NmS A nm (bs σ) o := fun nm o ho q => by
    obtain ⟨u, x, m, h1, h2, h3, h4⟩ := q
    exact ⟨u, x, m, h1, by rw [bs_x (by omega)]; exact h2, h3, fun j hj => by rw [bs_x (by omega)]; exact h4 j hj⟩
  refine ⟨fun k hk => ?_, fun r hr => ?_⟩
  · rw [bs_K] at hk
    obtain ⟨nm, h1, h2⟩ := h.n.1 k hk
    exact ⟨nm, h1, s _ _ (by omega) h2⟩
  · rw [bs_G] at hr
    obtain ⟨nm, h1, h2⟩ := h.n.2 r hr
    exact ⟨nm, h1, s _ _ (by omega) h2⟩
theorem lx_kind (h : Ly A l d σ) {y : Nat} (hy : LX A l d σ y) : (A.G y).1 = 2 ∨ (A.G y).1 = 3 ∨ (A.G y).1 = 4 ∨ (A.G y).1 = 5 ∨ (A.G y).1 = 13 ∨ (121 ≤ (A.G y).1 ∧ (A.G y).1 ≤ 127) ∨ (321 ≤ (A.G y).1 ∧ (A.G y).1 ≤ 323) ∨ (501 ≤ (A.G y).1 ∧ (A.G y).1 < 600) := by
  have h1 := fp_kind h hy.1
  have h2 := hy.2
  omega
theorem LwB.z0l (h : LwB g A z0 l d σ) : z0 ≤ l := by
  rcases h.2.2 l (Or.inl rfl) with q | q
  · exact q
  · have h1 := ly_g h.L
    have h2 := h.de.2.1
    rw [q, h2] at h1
    cases h1
theorem LwB.lx0 (h : LwB g A z0 l d σ) {y : Nat} (hy : LX A l d σ y) : z0 ≤ y := by
  rcases h.2.2 y hy.1 with q | q
  · exact q
  · exact absurd (by rw [q]; exact h.de.2.1) hy.2
theorem RdT.lw {r c bf L a : Nat} {B : Nat → Nat} (hR : RdT g A r c bf L B a) (hz : Zk A) (hL : Ly A l d σ) (hw : Gw A D (LX A l d σ)) : RdT g D r c bf L B a := by
  have h7 := hR.r7
  obtain ⟨x1, x2, x3, -, -⟩ := id hR
  have hc := x3.2.1.1
  have hb := x3.2.1.2.2.1
  refine hR.gw hz hw (fun q => ?_) (fun q => ?_) (fun q => ?_) (fun y _ q => ?_)
  · have := lx_kind hL q; omega
  · have := lx_kind hL q; omega
  · have := lx_kind hL q; omega
  · have := lx_kind hL q; omega
theorem StP.lw (hz : Zk A) (hL : Ly A l d σ) (hw : Gw A D (LX A l d σ)) : StP A D := StP.gw hz hw (fun y q => by
  have h1 := lx_kind hL q
  refine ⟨by omega, ?_⟩
  cases e : isBy (A.G y).1 with
  | false => rfl
  | true =>
    simp only [isBy, Bool.and_eq_true, decide_eq_true_eq] at e
    omega)
theorem LwB.mv {X : Nat → Prop} (h : LwB g A z0 l d σ) (hz : Zk A) (hw : Gw A D X) (hX : ∀ y, Fp l d (rK σ) (rG σ) y → ¬ X y) (hP : StP A D) : LwB g D z0 l d σ := by
  have m20 : Fp l d (rK σ) (rG σ) (d 20) := Or.inr (Or.inr (Or.inl (Or.inr (Or.inr (Or.inl rfl)))))
  have m21 : Fp l d (rK σ) (rG σ) (d 21) := Or.inr (Or.inr (Or.inl (Or.inr (Or.inr (Or.inr (Or.inl rfl))))))
  have m22 : Fp l d (rK σ) (rG σ) (d 22) := Or.inr (Or.inr (Or.inl (Or.inr (Or.inr (Or.inr (Or.inr (Or.inl rfl)))))))
  have m23 : Fp l d (rK σ) (rG σ) (d 23) := Or.inr (Or.inr (Or.inl (Or.inr (Or.inr (Or.inr (Or.inr (Or.inr rfl)))))))
  refine ⟨⟨ly_gw hz h.L hw hX, lv_gw hz h.L8 h.v hw (fun y hy => hX y (by rw [bs_K, bs_G] at hy; exact hy)), h.n.sp hz hP (fun y hy => (hw.2 y hy).1) (fun y hy => ((hw.2 y (fp_lt hz h.L hy)).2.2 (hX y hy)).2.2), h.de.gw hz hw⟩, ⟨h.lw.gw hz hw (hX _ m20) (hX _ m21), h.lg.gw hz hw (hX _ m22) (hX _ m23), h.2.1.2.2⟩, h.2.2⟩
/-- numbers written in the lawn's own arrays, or in its object -/
theorem LwB.ints {X : Nat → Prop} (h : LwB g A z0 l d σ) (hz : Zk A) (hG : D.G = A.G) (hR : D.R = A.R) (hn : D.n = A.n) (hw : Gw A D X) (hX : ∀ y, X y → (A.G y).1 = 2 ∨ (121 ≤ (A.G y).1 ∧ (A.G y).1 ≤ 399)) (hv : Lv D.I l d (bs τ)) (eC : rC τ = rC σ) (eK : rK τ = rK σ) (eG : rG τ = rG σ) (hN : ∀ o, 21 ≤ o → o < 153 → τ o = σ o) (k6 : rK σ ≤ 6) (g6 : rG σ ≤ 6) (hP : StP A D) : LwB g D z0 l d τ := by
  have hS : ∀ nm o, 21 ≤ o → o + 7 ≤ 153 → NmS A nm σ o → NmS D nm τ o := fun nm o h1 h2 q => by
    obtain ⟨u, x, m, a1, a2, ⟨a3, a4, a5⟩, a6⟩ := q
    refine ⟨u, x, m, hP _ _ _ _ a1, by rw [hN o h1 (by omega)]; exact a2, ⟨a3, a4, by rw [hG]; exact a5⟩, fun j hj => ?_⟩
    rw [hN _ (by omega) (by omega)]
    exact a6 j hj
  have x20 : ¬ X (d 20) := fun q => by have h1 := hX _ q; have h2 := h.lw.1; omega
  have x22 : ¬ X (d 22) := fun q => by have h1 := hX _ q; have h2 := h.lg.1; omega
  have hl : ∀ L e m f, Ll g A L e m f → ¬ X L → Ll g D L e m f := fun L e m f q hx => by
    obtain ⟨a1, a2, a3, a4, a5, a6⟩ := q
    have hlt := hz.lt a1 rfl
    exact ⟨by rw [hG]; exact a1, by rw [hR]; exact a2, by rw [((hw.2 L hlt).2.2 hx).2.1]; exact a3, by rw [hG, hn]; exact a4, a5, fun k hk => by rw [hR]; exact a6 k hk⟩
  refine ⟨⟨?_, hv, ⟨fun k hk => ?_, fun r hr => ?_⟩, h.de.gw hz hw⟩, ⟨?_, ?_, h.ne, by rw [eK]; exact h.k0, by rw [eG]; exact h.g0⟩, fun y hy => ?_⟩
  · show Ly0 D.G D.R D.n l d (rC τ) (rK τ) (rG τ)
    rw [hG, hR, hn, eC, eK, eG]
    exact h.L
  · rw [eK] at hk
    obtain ⟨nm, h1, h2⟩ := h.n.1 k hk
    exact ⟨nm, by rw [hR]; exact h1, hS _ _ (by omega) (by omega) h2⟩
  · rw [eG] at hr
    obtain ⟨nm, h1, h2⟩ := h.n.2 r hr
    exact ⟨nm, by rw [hR]; exact h1, hS _ _ (by omega) (by omega) h2⟩
  · rw [eK]; exact hl _ _ _ _ h.lw x20
  · rw [eG]; exact hl _ _ _ _ h.lg x22
  · rw [eK, eG] at hy
    exact h.2.2 y hy
end
/-- one more gate: its cells -/
def gD (d : Nat → Nat) (N x e : Nat) (j : Nat) : Nat := if j = 40 + N then x else if j = 23 then e else d j
theorem gD_x {d : Nat → Nat} {N x e : Nat} : gD d N x e (40 + N) = x := if_pos rfl
theorem gD_e {d : Nat → Nat} {N x e : Nat} (h : N < 6) : gD d N x e 23 = e := (if_neg (by omega)).trans (if_pos rfl)
theorem gD_o {d : Nat → Nat} {N x e j : Nat} (h1 : j ≠ 40 + N) (h2 : j ≠ 23) : gD d N x e j = d j := (if_neg h1).trans (if_neg h2)
theorem LwB.gate {g : GZ} {B F : HA} {z0 l x e nm c o9 : Nat} {d : Nat → Nat} {σ τ : Rw} {X : Nat → Prop} (h : LwB g B z0 l d (hd σ c 2)) (hz : Zk B) (hW : RowW σ) (g6 : rG σ < 6) (hc : c < rC σ) (hP : GateP σ τ c) (hx : B.G x = (4, o9) ∧ B.R x 0 = some nm ∧ B.I x 1 = nI c ∧ z0 ≤ x) (hN : NmS B nm τ (21 + 9 * rG σ)) (hF : Ll g F (d 22) e (rG σ + 1) (lower (fun r => d (40 + r)) (rG σ) x)) (he : z0 ≤ e)
    (hw : Gw B F X) (hX : ∀ y, X y → y = d 22 ∨ B.G y = (501, d 22)) (hS : StP B F) : LwB g F z0 l (gD d (rG σ) x e) τ := by
  have k6 := hW.k6
  have w3 : ∀ j, j ≠ 153 + 5 * c + 0 → j ≠ 153 + 5 * c + 1 → hd σ c 2 j = σ j := fun j a b => hd_x a b
  have eC : rC (hd σ c 2) = rC σ := hd_C
  have eK : rK (hd σ c 2) = rK σ := congrArg Int32.toNatClampNeg (w3 1 (by omega) (by omega))
  have eG : rG (hd σ c 2) = rG σ := congrArg Int32.toNatClampNeg (w3 0 (by omega) (by omega))
  have eW : rW (hd σ c 2) = rW σ := congrArg Int32.toNatClampNeg (w3 4 (by omega) (by omega))
  have tG := hP.G g6
  have hL := h.L
  have hlw := h.lw
  have hlg := h.lg
  have hn := h.n
  have hne := h.ne
  have hv := h.v
  have hzz := h.2.2
  rw [eK] at hlw hzz
  rw [eG] at hlg hzz
  have hL' : Ly0 B.G B.R B.n l d (rC σ) (rK σ) (rG σ) := by
    have h9 : Ly0 B.G B.R B.n l d (rC (hd σ c 2)) (rK (hd σ c 2)) (rG (hd σ c 2)) := hL
    rw [eC, eK, eG] at h9
    exact h9
  -- what isn't the list, nor its elements, stays
  have st : ∀ y, y < B.z → y ≠ d 22 → B.G y ≠ (501, d 22) → F.G y = B.G y ∧ F.n y = B.n y ∧ F.R y = B.R y ∧ F.I y = B.I y := fun y hy h1 h2 => by
    have q := hw.2 y hy
    have q2 := q.2.2 (fun q => (hX y q).elim h1 h2)
    exact ⟨q.1, q.2.1, q2.2.2, q2.2.1⟩
  have kd : ∀ y k, (B.G y).1 = k → k ≠ 13 → k ≠ 501 → (decide (1 ≤ k) && (decide (k < 40) || decide (80 ≤ k))) = true → F.G y = B.G y ∧ F.n y = B.n y ∧ F.R y = B.R y ∧ F.I y = B.I y := fun y k h1 h2 h3 h4 => st y (hz.lt h1 h4) (fun q => h2 (by rw [← h1, q]; exact hlg.1)) (fun q => h3 (by rw [← h1, q]))
  have sl := kd l 2 (ly_g hL') (by decide) (by decide) rfl
  have s11 := kd (d 11) 3 (ly_g11 hL') (by decide) (by decide) rfl
  have s12 := kd (d 12) 3 (ly_g12 hL') (by decide) (by decide) rfl
  have s20 := st (d 20) (hz.lt hlw.1 rfl) hne (fun q => by have h9 := hlw.1; rw [q] at h9; exact absurd (show (501 : Nat) = 13 from h9) (by decide))
  have s21 : F.G (d 21) = B.G (d 21) ∧ F.n (d 21) = B.n (d 21) ∧ (rK σ ≠ 0 → F.R (d 21) = B.R (d 21)) := by
    have hlt : d 21 < B.z := fp_lt (K := rK σ) (N := rG σ) hz hL' (Or.inr (Or.inr (Or.inl (Or.inr (Or.inr (Or.inr (Or.inl rfl)))))))
    refine ⟨(hw.2 _ hlt).1, (hw.2 _ hlt).2.1, fun hk => ?_⟩
    have h9 := (hlw.2.2.2.1.resolve_left (fun q => hk q.1)).1
    refine (st (d 21) hlt (fun q => ?_) (fun q => ?_)).2.2.1
    · have h8 := hlg.1; rw [← q, h9] at h8; exact absurd (show (501 : Nat) = 13 from h8) (by decide)
    · rw [h9] at q; exact hne (congrArg Prod.snd q)
  have sa : ∀ f, arrF f → F.G (d f) = B.G (d f) ∧ F.n (d f) = B.n (d f) ∧ F.R (d f) = B.R (d f) ∧ F.I (d f) = B.I (d f) := fun f hf => by
    have h1 := ly_gf hL' f hf
    have h2 := lyK_r f (by unfold arrF at hf; omega) hf
    refine kd (d f) (lyK f) h1 (by omega) (by omega) ?_
    simp only [Bool.and_eq_true, Bool.or_eq_true, decide_eq_true_eq]
    omega
  have sk : ∀ k, k < rK σ → F.G (d (30 + k)) = B.G (d (30 + k)) ∧ F.n (d (30 + k)) = B.n (d (30 + k)) ∧ F.R (d (30 + k)) = B.R (d (30 + k)) ∧ F.I (d (30 + k)) = B.I (d (30 + k)) := fun k hk => kd _ 5 (ly_w hL' hk).2 (by decide) (by decide) rfl
  have sr : ∀ r, r < rG σ → F.G (d (40 + r)) = B.G (d (40 + r)) ∧ F.n (d (40 + r)) = B.n (d (40 + r)) ∧ F.R (d (40 + r)) = B.R (d (40 + r)) ∧ F.I (d (40 + r)) = B.I (d (40 + r)) := fun r hr => kd _ 4 (ly_t hL' hr).2 (by decide) (by decide) rfl
  have sx := kd x 4 (by rw [hx.1]) (by decide) (by decide) rfl
  have o : ∀ j, j < 23 → gD d (rG σ) x e j = d j := fun j hj => gD_o (by omega) (by omega)
  have ok : ∀ k, k < 10 → gD d (rG σ) x e (30 + k) = d (30 + k) := fun k hk => gD_o (by omega) (by omega)
  have oR : ∀ r, r < rG σ → gD d (rG σ) x e (40 + r) = d (40 + r) := fun r hr => gD_o (by omega) (by omega)
  have oe : gD d (rG σ) x e 23 = e := gD_e g6
  have hFe := hF.2.2.2.1.resolve_left (fun q => absurd q.1 (by omega))
  obtain ⟨b1, b2, b3, b4, b5⟩ := hL'
  have tLow : ∀ j, 75 ≤ j → j < 153 → τ j = σ j := fun j h1 h2 => hP.2.2 j (by omega) (by omega) (by omega) (by omega)
  refine ⟨⟨?_, ⟨?_, fun r hr => ?_, fun j hj => ?_⟩, ⟨fun k hk => ?_, fun r hr => ?_⟩, h.de.gw hz hw⟩, ⟨?_, ?_, ?_, fun q => ?_, fun q => absurd q (by rw [tG]; omega)⟩, fun y hy => ?_⟩
  · show Ly0 F.G F.R F.n l (gD d (rG σ) x e) (rC τ) (rK τ) (rG τ)
    rw [hP.C, hP.K, tG]
    refine ⟨by rw [sl.1]; exact b1, fun f hf => ?_, ?_, ?_, fun i j hi hj hij => ?_⟩
    · have hf9 : f < 23 := by unfold arrF at hf; omega
      rw [o f hf9, sl.2.2.1, (sa f hf).1, (sa f hf).2.1]
      exact b2 f hf
    · obtain ⟨a1, a2, a3, a4, a5, a6, a7, a8⟩ := b3
      rw [o 12 (by omega), o 20 (by omega), o 21 (by omega)]
      refine ⟨by rw [sl.2.2.1]; exact a1, by rw [s12.1]; exact a2, by rw [s12.2.2.1]; exact a3, by rw [s20.1]; exact a4, by rw [s20.2.2.1]; exact a5, by rw [s21.1]; exact a6, by rw [s21.2.1]; exact a7, fun k hk => ?_⟩
      rw [ok k (by omega), s21.2.2 (by omega), (sk k hk).1]
      exact a8 k hk
    · obtain ⟨a1, a2, a3, a4, a5, a6, a7, a8⟩ := b4
      rw [o 11 (by omega), o 22 (by omega), oe]
      refine ⟨by rw [sl.2.2.1]; exact a1, by rw [s11.1]; exact a2, by rw [s11.2.2.1]; exact a3, hF.1, hF.2.1, by rw [hFe.1]; exact (show isObA 501 = true from rfl), by rw [hFe.2]; omega, fun r hr => ?_⟩
      rw [hF.2.2.2.2.2 r hr]
      by_cases q : r = rG σ
      · rw [q, lower_s, gD_x, sx.1, hx.1]
        exact ⟨rfl, rfl⟩
      · rw [lower_o _ _ q, oR r (by omega), (sr r (by omega)).1]
        exact ⟨rfl, (a8 r (by omega)).2⟩
    · rw [ok i (by omega), ok j (by omega)] at hij
      exact b5 i j hi hj hij
  · obtain ⟨a1, a2, a3, a4, a5, a6, a7⟩ := hv.1
    rw [o 20 (by omega), o 22 (by omega)]
    refine ⟨by rw [sl.2.2.2, a1, bs_x (by decide), bs_x (by decide), w3 4 (by omega) (by omega), hP.lo (by decide) (by decide)], by rw [sl.2.2.2, a2, bs_x (by decide), bs_x (by decide), w3 5 (by omega) (by omega), hP.lo (by decide) (by decide)], by rw [sl.2.2.2, a3, bs_x (by decide), bs_x (by decide), w3 6 (by omega) (by omega), hP.lo (by decide) (by decide)], by rw [sl.2.2.2, a4, bs_x (by decide), bs_x (by decide), w3 7 (by omega) (by omega), hP.lo (by decide) (by decide)], by rw [sl.2.2.2, a5, bs_C, bs_C, eC, hP.C], by rw [s20.2.2.2, a6, bs_x (by decide), bs_x (by decide), w3 1 (by omega) (by omega), hP.lo (by decide) (by decide)], ?_⟩
    rw [hF.2.2.1, bs_x (by decide), hP.1.1]
  · rw [bs_G, tG] at hr
    rw [bs_gC]
    by_cases q : r = rG σ
    · rw [q, gD_x, sx.2.2.2, hx.2.2.1, hP.gCn hW.s hc]
    · have hr : r < rG σ := by omega
      have h9 := hv.2.1 r (by rw [bs_G, eG]; exact hr)
      rw [bs_gC] at h9
      have e9 : gC (hd σ c 2) r = gC σ r := by
        have g1 : gX (hd σ c 2) r = gX σ r := congrArg Int32.toNatClampNeg (w3 _ (by omega) (by omega))
        have g2 : gY (hd σ c 2) r = gY σ r := congrArg Int32.toNatClampNeg (w3 _ (by omega) (by omega))
        unfold gC
        rw [g1, g2, eW]
      rw [oR r hr, (sr r hr).2.2.2, h9, e9, hP.gCo hr g6]
  · rw [bs_C, bs_K, hP.C, hP.K] at hj
    have h9 := hv.2.2 j (by rw [bs_C, bs_K, eC, eK]; exact hj)
    have esA : sA l (gD d (rG σ) x e) j = sA l d j := by
      unfold Dm at hj
      unfold sA
      by_cases h1 : j < 9
      · rw [if_pos h1, if_pos h1]
      · rw [if_neg h1, if_neg h1]
        by_cases h2 : j < 21
        · rw [if_pos h2, if_pos h2, o 9 (by omega)]
        · rw [if_neg h2, if_neg h2]
          by_cases h3 : j < 153
          · rw [if_pos h3, if_pos h3, ok _ (by omega)]
          · have h4 := fcL_arr ((j - 153) % 5)
            rw [if_neg h3, if_neg h3, o _ (by have := h4.1; unfold arrF at this; omega)]
    have eI : F.I (sA l d j) = B.I (sA l d j) := by
      unfold Dm at hj
      unfold sA
      by_cases h1 : j < 9
      · rw [if_pos h1]; exact sl.2.2.2
      · rw [if_neg h1]
        by_cases h2 : j < 21
        · rw [if_pos h2]; exact (sa 9 (by decide)).2.2.2
        · rw [if_neg h2]
          by_cases h3 : j < 153
          · rw [if_pos h3]; exact (sk _ (by omega)).2.2.2
          · rw [if_neg h3]; exact (sa _ (fcL_arr _).1).2.2.2
    have eV : bs τ j = bs (hd σ c 2) j := by
      by_cases q8 : j = 8
      · rw [q8, bs_8, bs_8, gate_allG hP g6]
      · rw [bs_x q8, bs_x q8]
        by_cases q0 : j = 153 + 5 * c + 0
        · rw [q0, hd_0]; exact hP.1.2.1
        · by_cases q1 : j = 153 + 5 * c + 1
          · rw [q1, hd_1]; exact hP.1.2.2
          · rw [hd_x q0 q1]
            unfold Dm at hj
            exact hP.2.2 j (by omega) q0 q1 (by omega)
    rw [esA, eI, h9, eV]
  · rw [hP.K] at hk
    obtain ⟨n9, a1, a2⟩ := hn.1 k (by rw [eK]; exact hk)
    obtain ⟨u, s, m, c1, c2, ⟨c3, c4, c5⟩, c6⟩ := a2
    have hu := (c1.zl hz).2
    refine ⟨n9, by rw [ok k (by omega), (sk k hk).2.2.1]; exact a1, u, s, m, hS _ _ _ _ c1, ?_, ⟨c3, c4, by rw [(hw.2 u hu).1]; exact c5⟩, fun j hj => ?_⟩
    · rw [tLow _ (by omega) (by omega)]; rw [w3 _ (by omega) (by omega)] at c2; exact c2
    · have c7 := c6 j hj
      rw [w3 _ (by omega) (by omega)] at c7
      rw [tLow _ (by omega) (by omega)]
      exact c7
  · rw [tG] at hr
    by_cases q : r = rG σ
    · rw [q, gD_x]
      obtain ⟨u, s, m, c1, c2, ⟨c3, c4, c5⟩, c6⟩ := hN
      have hu := (c1.zl hz).2
      exact ⟨nm, by rw [sx.2.2.1]; exact hx.2.1, u, s, m, hS _ _ _ _ c1, c2, ⟨c3, c4, by rw [(hw.2 u hu).1]; exact c5⟩, c6⟩
    · have hr : r < rG σ := by omega
      obtain ⟨n9, a1, a2⟩ := hn.2 r (by rw [eG]; exact hr)
      obtain ⟨u, s, m, c1, c2, ⟨c3, c4, c5⟩, c6⟩ := a2
      have hu := (c1.zl hz).2
      have tl : ∀ j, j ≤ 6 → τ (21 + 9 * r + j) = σ (21 + 9 * r + j) := fun j hj => hP.2.2 _ (by omega) (by omega) (by omega) (by omega)
      refine ⟨n9, by rw [oR r hr, (sr r hr).2.2.1]; exact a1, u, s, m, hS _ _ _ _ c1, ?_, ⟨c3, c4, by rw [(hw.2 u hu).1]; exact c5⟩, fun j hj => ?_⟩
      · rw [w3 _ (by omega) (by omega)] at c2
        rw [← c2]
        exact tl 0 (by omega)
      · have c7 := c6 j hj
        rw [w3 _ (by omega) (by omega)] at c7
        have e8 := tl (1 + j) (by omega)
        rw [show 21 + 9 * r + (1 + j) = 21 + 9 * r + 1 + j by omega] at e8
        rw [e8]
        exact c7
  · rw [hP.K, o 20 (by omega), o 21 (by omega)]
    have q : Ll g F (d 20) (d 21) (rK σ) (fun k => d (30 + k)) := by
      obtain ⟨a1, a2, a3, a4, a5, a6⟩ := hlw
      refine ⟨by rw [s20.1]; exact a1, by rw [s20.2.2.1]; exact a2, by rw [s20.2.2.2]; exact a3, by rw [s21.1, s21.2.1]; exact a4, a5, fun k hk => ?_⟩
      rw [s21.2.2 (by omega)]
      exact a6 k hk
    exact q.cong (fun k hk => ok k (by omega))
  · rw [tG, o 22 (by omega), oe]
    refine hF.cong (fun k hk => ?_)
    by_cases q : k = rG σ
    · rw [q, gD_x, lower_s]
    · rw [lower_o _ _ q]; exact oR k (by omega)
  · rw [o 20 (by omega), o 22 (by omega)]; exact hne
  · rw [hP.K] at q
    rw [o 21 (by omega)]
    exact h.k0 (by rw [eK]; exact q)
  · rw [hP.K, tG] at hy
    rcases hy with q | ⟨f, hf, q⟩ | q | ⟨k, hk, q⟩ | ⟨r, hr, q⟩
    · exact hzz y (Or.inl q)
    · rw [o f (by unfold arrF at hf; omega)] at q
      exact hzz y (Or.inr (Or.inl ⟨f, hf, q⟩))
    · rw [o 11 (by omega), o 12 (by omega), o 20 (by omega), o 21 (by omega), o 22 (by omega), oe] at q
      rcases q with q | q | q | q | q | q
      · exact hzz y (Or.inr (Or.inr (Or.inl (Or.inl q))))
      · exact hzz y (Or.inr (Or.inr (Or.inl (Or.inr (Or.inl q)))))
      · exact hzz y (Or.inr (Or.inr (Or.inl (Or.inr (Or.inr (Or.inl q))))))
      · exact hzz y (Or.inr (Or.inr (Or.inl (Or.inr (Or.inr (Or.inr (Or.inl q)))))))
      · exact hzz y (Or.inr (Or.inr (Or.inl (Or.inr (Or.inr (Or.inr (Or.inr (Or.inl q))))))))
      · rw [q]; exact Or.inl he
    · rw [ok k (by omega)] at q
      exact hzz y (Or.inr (Or.inr (Or.inr (Or.inl ⟨k, hk, q⟩))))
    · by_cases w : r = rG σ
      · rw [q, w, gD_x]; exact Or.inl hx.2.2.2
      · rw [oR r (by omega)] at q
        exact hzz y (Or.inr (Or.inr (Or.inr (Or.inr ⟨r, by omega, q⟩))))
