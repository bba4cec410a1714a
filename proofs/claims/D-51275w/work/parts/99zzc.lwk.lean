/-! A LAWN THAT IS BEING DESCRIBED: one more walker -/
set_option maxRecDepth 100000
def kD (d : Nat → Nat) (K x e : Nat) (j : Nat) : Nat := if j = 30 + K then x else if j = 21 then e else d j
theorem kD_x {d : Nat → Nat} {K x e : Nat} : kD d K x e (30 + K) = x := if_pos rfl
theorem kD_e {d : Nat → Nat} {K x e : Nat} : kD d K x e 21 = e := (if_neg (by omega)).trans (if_pos rfl)
theorem kD_o {d : Nat → Nat} {K x e j : Nat} (h1 : j ≠ 30 + K) (h2 : j ≠ 21) : kD d K x e j = d j := (if_neg h1).trans (if_neg h2)
theorem LwB.walk {g : GZ} {B F : HA} {z0 l x e nm fr to hs pd : Nat} {d : Nat → Nat} {σ τ : Rw} {X : Nat → Prop} (h : LwB g B z0 l d σ) (hz : Zk B) (hW : RowW σ) (hZ : ZK σ) (k6 : rK σ < 6) (hP : WalkP σ τ fr to hs pd) (hx : B.G x = (5, l) ∧ B.R x 0 = some nm ∧ z0 ≤ x) (hxI : B.I x 2 = nI fr ∧ B.I x 3 = nI to ∧ B.I x 4 = nI hs ∧ B.I x 1 = nI pd ∧ B.I x 5 = nI 0 ∧ B.I x 6 = nI 0) (hxn : ∀ k, k < rK σ → d (30 + k) ≠ x) (hN : NmS B nm τ (75 + 13 * rK σ)) (hF : Ll g F (d 20) e (rK σ + 1) (lower (fun k => d (30 + k)) (rK σ) x)) (he : z0 ≤ e)
    (hw : Gw B F X) (hX : ∀ y, X y → y = d 20 ∨ B.G y = (501, d 20)) (hS : StP B F) : LwB g F z0 l (kD d (rK σ) x e) τ := by
  have g6 := hW.g6
  have lo : ∀ j, j ≠ 1 → j < 75 → τ j = σ j := fun j h1 h2 => hP.2.2 j h1 (by omega)
  have hi : ∀ j, 153 ≤ j → τ j = σ j := fun j h1 => hP.2.2 j (by omega) (by omega)
  have tW : rW τ = rW σ := congrArg Int32.toNatClampNeg (lo 4 (by decide) (by decide))
  have tH : rH τ = rH σ := congrArg Int32.toNatClampNeg (lo 5 (by decide) (by decide))
  have tC : rC τ = rC σ := by unfold rC; rw [tW, tH]
  have tG : rG τ = rG σ := congrArg Int32.toNatClampNeg (lo 0 (by decide) (by decide))
  have tK : rK τ = rK σ + 1 := (congrArg Int32.toNatClampNeg hP.1).trans (nI_nat (by omega))
  have tA : allG τ = allG σ := by
    unfold allG
    rw [tC]
    refine smN_c _ (fun j _ => ?_)
    unfold grassF cGr
    rw [hi _ (by omega), hi _ (by omega)]
  have hL' : Ly0 B.G B.R B.n l d (rC σ) (rK σ) (rG σ) := h.L
  have hlw := h.lw
  have hlg := h.lg
  have hn := h.n
  have hne := h.ne
  have hv := h.v
  have hzz := h.2.2
  have st : ∀ y, y < B.z → y ≠ d 20 → B.G y ≠ (501, d 20) → F.G y = B.G y ∧ F.n y = B.n y ∧ F.R y = B.R y ∧ F.I y = B.I y := fun y hy h1 h2 => by
    have q := hw.2 y hy
    have q2 := q.2.2 (fun q => (hX y q).elim h1 h2)
    exact ⟨q.1, q.2.1, q2.2.2, q2.2.1⟩
  have kd : ∀ y k, (B.G y).1 = k → k ≠ 13 → k ≠ 501 → (decide (1 ≤ k) && (decide (k < 40) || decide (80 ≤ k))) = true → F.G y = B.G y ∧ F.n y = B.n y ∧ F.R y = B.R y ∧ F.I y = B.I y := fun y k h1 h2 h3 h4 => st y (hz.lt h1 h4) (fun q => h2 (by rw [← h1, q]; exact hlw.1)) (fun q => h3 (by rw [← h1, q]))
  have sl := kd l 2 (ly_g hL') (by decide) (by decide) rfl
  have s11 := kd (d 11) 3 (ly_g11 hL') (by decide) (by decide) rfl
  have s12 := kd (d 12) 3 (ly_g12 hL') (by decide) (by decide) rfl
  have s22 := st (d 22) (hz.lt hlg.1 rfl) (fun q => hne q.symm) (fun q => by have h9 := hlg.1; rw [q] at h9; exact absurd (show (501 : Nat) = 13 from h9) (by decide))
  have s23 : F.G (d 23) = B.G (d 23) ∧ F.n (d 23) = B.n (d 23) ∧ (rG σ ≠ 0 → F.R (d 23) = B.R (d 23)) := by
    have hlt : d 23 < B.z := fp_lt (K := rK σ) (N := rG σ) hz hL' (Or.inr (Or.inr (Or.inl (Or.inr (Or.inr (Or.inr (Or.inr (Or.inr rfl))))))))
    refine ⟨(hw.2 _ hlt).1, (hw.2 _ hlt).2.1, fun hk => ?_⟩
    have h9 := (hlg.2.2.2.1.resolve_left (fun q => hk q.1)).1
    refine (st (d 23) hlt (fun q => ?_) (fun q => ?_)).2.2.1
    · have h8 := hlw.1; rw [← q, h9] at h8; exact absurd (show (501 : Nat) = 13 from h8) (by decide)
    · rw [h9] at q; exact hne (congrArg Prod.snd q).symm
  have sa : ∀ f, arrF f → F.G (d f) = B.G (d f) ∧ F.n (d f) = B.n (d f) ∧ F.R (d f) = B.R (d f) ∧ F.I (d f) = B.I (d f) := fun f hf => by
    have h1 := ly_gf hL' f hf
    have h2 := lyK_r f (by unfold arrF at hf; omega) hf
    refine kd (d f) (lyK f) h1 (by omega) (by omega) ?_
    simp only [Bool.and_eq_true, Bool.or_eq_true, decide_eq_true_eq]
    omega
  have sk : ∀ k, k < rK σ → F.G (d (30 + k)) = B.G (d (30 + k)) ∧ F.n (d (30 + k)) = B.n (d (30 + k)) ∧ F.R (d (30 + k)) = B.R (d (30 + k)) ∧ F.I (d (30 + k)) = B.I (d (30 + k)) := fun k hk => kd _ 5 (ly_w hL' hk).2 (by decide) (by decide) rfl
  have sr : ∀ r, r < rG σ → F.G (d (40 + r)) = B.G (d (40 + r)) ∧ F.n (d (40 + r)) = B.n (d (40 + r)) ∧ F.R (d (40 + r)) = B.R (d (40 + r)) ∧ F.I (d (40 + r)) = B.I (d (40 + r)) := fun r hr => kd _ 4 (ly_t hL' hr).2 (by decide) (by decide) rfl
  have sx := kd x 5 (by rw [hx.1]) (by decide) (by decide) rfl
  have o : ∀ j, j < 21 → kD d (rK σ) x e j = d j := fun j hj => kD_o (by omega) (by omega)
  have ok : ∀ k, k < rK σ → kD d (rK σ) x e (30 + k) = d (30 + k) := fun k hk => kD_o (by omega) (by omega)
  have oR : ∀ r, r < 10 → kD d (rK σ) x e (40 + r) = d (40 + r) := fun r hr => kD_o (by omega) (by omega)
  have o22 : kD d (rK σ) x e 22 = d 22 := kD_o (by omega) (by omega)
  have o23 : kD d (rK σ) x e 23 = d 23 := kD_o (by omega) (by omega)
  have oe : kD d (rK σ) x e 21 = e := kD_e
  have hFe := hF.2.2.2.1.resolve_left (fun q => absurd q.1 (by omega))
  obtain ⟨b1, b2, b3, b4, b5⟩ := hL'
  have gs : ∀ nm o, o + 7 ≤ 153 → (∀ j, j ≤ 6 → τ (o + j) = σ (o + j)) → NmS B nm σ o → NmS F nm τ o := fun nm o h1 h2 q => by
    obtain ⟨u, s, m, c1, c2, ⟨c3, c4, c5⟩, c6⟩ := q
    have hu := (c1.zl hz).2
    refine ⟨u, s, m, hS _ _ _ _ c1, by rw [← c2]; exact h2 0 (by omega), ⟨c3, c4, by rw [(hw.2 u hu).1]; exact c5⟩, fun j hj => ?_⟩
    have e8 := h2 (1 + j) (by omega)
    rw [show o + (1 + j) = o + 1 + j by omega] at e8
    rw [e8]
    exact c6 j hj
  refine ⟨⟨?_, ⟨?_, fun r hr => ?_, fun j hj => ?_⟩, ⟨fun k hk => ?_, fun r hr => ?_⟩, h.de.gw hz hw⟩, ⟨?_, ?_, ?_, fun q => absurd q (by rw [tK]; omega), fun q => ?_⟩, fun y hy => ?_⟩
  · show Ly0 F.G F.R F.n l (kD d (rK σ) x e) (rC τ) (rK τ) (rG τ)
    rw [tC, tK, tG]
    refine ⟨by rw [sl.1]; exact b1, fun f hf => ?_, ?_, ?_, fun i j hi hj hij => ?_⟩
    · have hf9 : f < 21 := by unfold arrF at hf; omega
      rw [o f hf9, sl.2.2.1, (sa f hf).1, (sa f hf).2.1]
      exact b2 f hf
    · obtain ⟨a1, a2, a3, a4, a5, a6, a7, a8⟩ := b3
      rw [o 12 (by omega), o 20 (by omega), oe]
      refine ⟨by rw [sl.2.2.1]; exact a1, by rw [s12.1]; exact a2, by rw [s12.2.2.1]; exact a3, hF.1, hF.2.1, by rw [hFe.1]; exact (show isObA 501 = true from rfl), by rw [hFe.2]; omega, fun k hk => ?_⟩
      rw [hF.2.2.2.2.2 k hk]
      by_cases q : k = rK σ
      · rw [q, lower_s, kD_x, sx.1, hx.1]
        exact ⟨rfl, rfl⟩
      · rw [lower_o _ _ q, ok k (by omega), (sk k (by omega)).1]
        exact ⟨rfl, (a8 k (by omega)).2⟩
    · obtain ⟨a1, a2, a3, a4, a5, a6, a7, a8⟩ := b4
      rw [o 11 (by omega), o22, o23]
      refine ⟨by rw [sl.2.2.1]; exact a1, by rw [s11.1]; exact a2, by rw [s11.2.2.1]; exact a3, by rw [s22.1]; exact a4, by rw [s22.2.2.1]; exact a5, by rw [s23.1]; exact a6, by rw [s23.2.1]; exact a7, fun r hr => ?_⟩
      rw [oR r (by omega), s23.2.2 (by omega), (sr r hr).1]
      exact a8 r hr
    · by_cases q1 : i = rK σ
      · by_cases q2 : j = rK σ
        · rw [q1, q2]
        · rw [q1, kD_x, ok j (by omega)] at hij
          exact absurd hij.symm (hxn j (by omega))
      · by_cases q2 : j = rK σ
        · rw [q2, kD_x, ok i (by omega)] at hij
          exact absurd hij (hxn i (by omega))
        · rw [ok i (by omega), ok j (by omega)] at hij
          exact b5 i j (by omega) (by omega) hij
  · obtain ⟨a1, a2, a3, a4, a5, a6, a7⟩ := hv.1
    rw [o 20 (by omega), o22]
    refine ⟨by rw [sl.2.2.2, a1, bs_x (by decide), bs_x (by decide), lo 4 (by decide) (by decide)], by rw [sl.2.2.2, a2, bs_x (by decide), bs_x (by decide), lo 5 (by decide) (by decide)], by rw [sl.2.2.2, a3, bs_x (by decide), bs_x (by decide), lo 6 (by decide) (by decide)], by rw [sl.2.2.2, a4, bs_x (by decide), bs_x (by decide), lo 7 (by decide) (by decide)], by rw [sl.2.2.2, a5, bs_C, bs_C, tC], ?_, by rw [s22.2.2.2, a7, bs_x (by decide), bs_x (by decide), lo 0 (by decide) (by decide)]⟩
    rw [hF.2.2.1, bs_x (by decide), hP.1]
  · rw [bs_G, tG] at hr
    rw [bs_gC]
    have h9 := hv.2.1 r (by rw [bs_G]; exact hr)
    rw [bs_gC] at h9
    have e9 : gC τ r = gC σ r := by
      unfold gC gX gY
      rw [lo _ (by omega) (by omega), lo _ (by omega) (by omega), tW]
    rw [oR r (by omega), (sr r hr).2.2.2, h9, e9]
  · rw [bs_C, bs_K, tC, tK] at hj
    by_cases hnew : 75 ≤ j ∧ j < 153 ∧ (j - 75) / 13 = rK σ
    · obtain ⟨v, hv7, hv13, ej⟩ : ∃ v, 7 ≤ v ∧ v < 13 ∧ j = 75 + 13 * rK σ + v := ⟨(j - 75) % 13, by unfold Dm at hj; omega, by omega, by omega⟩
      have e1 := sA_wk (a := l) (d := kD d (rK σ) x e) hv13 k6
      rw [ej, e1.1, e1.2, kD_x, sx.2.2.2]
      have e2 : ∀ w : Int32, adj (75 + 13 * rK σ + v) w = w := fun w => if_neg (by omega)
      rw [e2, bs_x (by omega)]
      have hz2 := hZ (rK σ) (Nat.le_refl _) k6
      have t11 : τ (75 + 13 * rK σ + 11) = nI 0 := (hP.2.2 _ (by omega) (by omega)).trans hz2.1
      have t12 : τ (75 + 13 * rK σ + 12) = nI 0 := (hP.2.2 _ (by omega) (by omega)).trans hz2.2
      rcases (show v = 7 ∨ v = 8 ∨ v = 9 ∨ v = 10 ∨ v = 11 ∨ v = 12 by omega) with q | q | q | q | q | q <;> subst q
      · exact hxI.1.trans hP.2.1.1.symm
      · exact hxI.2.1.trans hP.2.1.2.1.symm
      · exact hxI.2.2.1.trans hP.2.1.2.2.1.symm
      · exact hxI.2.2.2.1.trans hP.2.1.2.2.2.symm
      · exact hxI.2.2.2.2.1.trans t11.symm
      · exact hxI.2.2.2.2.2.trans t12.symm
    · have hj2 : Dm (rC σ) (rK σ) j := by unfold Dm at hj ⊢; omega
      have h9 := hv.2.2 j (by rw [bs_C, bs_K]; exact hj2)
      have esA : sA l (kD d (rK σ) x e) j = sA l d j := by
        unfold Dm at hj2
        unfold sA
        by_cases h1 : j < 9
        · rw [if_pos h1, if_pos h1]
        · rw [if_neg h1, if_neg h1]
          by_cases h2 : j < 21
          · rw [if_pos h2, if_pos h2, o 9 (by omega)]
          · rw [if_neg h2, if_neg h2]
            by_cases h3 : j < 153
            · rw [if_pos h3, if_pos h3, ok _ (by omega)]
            · have h4 := fcL_arr ((j - 153) % 5)
              rw [if_neg h3, if_neg h3, o _ (by have := h4.1; unfold arrF at this; omega)]
      have eI : F.I (sA l d j) = B.I (sA l d j) := by
        unfold Dm at hj2
        unfold sA
        by_cases h1 : j < 9
        · rw [if_pos h1]; exact sl.2.2.2
        · rw [if_neg h1]
          by_cases h2 : j < 21
          · rw [if_pos h2]; exact (sa 9 (by decide)).2.2.2
          · rw [if_neg h2]
            by_cases h3 : j < 153
            · rw [if_pos h3]; exact (sk _ (by omega)).2.2.2
            · rw [if_neg h3]; exact (sa _ (fcL_arr _).1).2.2.2
      have eV : bs τ j = bs σ j := by
        by_cases q8 : j = 8
        · rw [q8, bs_8, bs_8, tA]
        · rw [bs_x q8, bs_x q8]
          unfold Dm at hj2
          exact hP.2.2 j (by omega) (by omega)
      rw [esA, eI, h9, eV]
  · rw [tK] at hk
    by_cases q : k = rK σ
    · rw [q, kD_x]
      obtain ⟨u, s, m, c1, c2, ⟨c3, c4, c5⟩, c6⟩ := hN
      have hu := (c1.zl hz).2
      exact ⟨nm, by rw [sx.2.2.1]; exact hx.2.1, u, s, m, hS _ _ _ _ c1, c2, ⟨c3, c4, by rw [(hw.2 u hu).1]; exact c5⟩, c6⟩
    · have hk : k < rK σ := by omega
      obtain ⟨n9, a1, a2⟩ := hn.1 k hk
      exact ⟨n9, by rw [ok k hk, (sk k hk).2.2.1]; exact a1, gs _ _ (by omega) (fun j hj => hP.2.2 _ (by omega) (by omega)) a2⟩
  · rw [tG] at hr
    obtain ⟨n9, a1, a2⟩ := hn.2 r hr
    exact ⟨n9, by rw [oR r (by omega), (sr r hr).2.2.1]; exact a1, gs _ _ (by omega) (fun j hj => lo _ (by omega) (by omega)) a2⟩
  · rw [tK, o 20 (by omega), oe]
    refine hF.cong (fun k hk => ?_)
    by_cases q : k = rK σ
    · rw [q, kD_x, lower_s]
    · rw [lower_o _ _ q]; exact ok k (by omega)
  · rw [tG, o22, o23]
    have q : Ll g F (d 22) (d 23) (rG σ) (fun r => d (40 + r)) := by
      obtain ⟨a1, a2, a3, a4, a5, a6⟩ := hlg
      refine ⟨by rw [s22.1]; exact a1, by rw [s22.2.2.1]; exact a2, by rw [s22.2.2.2]; exact a3, by rw [s23.1, s23.2.1]; exact a4, a5, fun k hk => ?_⟩
      rw [s23.2.2 (by omega)]
      exact a6 k hk
    exact q.cong (fun k hk => oR k (by omega))
  · rw [o 20 (by omega), o22]; exact hne
  · rw [tG] at q
    rw [o23]
    exact h.g0 q
  · rw [tK, tG] at hy
    rcases hy with q | ⟨f, hf, q⟩ | q | ⟨k, hk, q⟩ | ⟨r, hr, q⟩
    · exact hzz y (Or.inl q)
    · rw [o f (by unfold arrF at hf; omega)] at q
      exact hzz y (Or.inr (Or.inl ⟨f, hf, q⟩))
    · rw [o 11 (by omega), o 12 (by omega), o 20 (by omega), oe, o22, o23] at q
      rcases q with q | q | q | q | q | q
      · exact hzz y (Or.inr (Or.inr (Or.inl (Or.inl q))))
      · exact hzz y (Or.inr (Or.inr (Or.inl (Or.inr (Or.inl q)))))
      · exact hzz y (Or.inr (Or.inr (Or.inl (Or.inr (Or.inr (Or.inl q))))))
      · rw [q]; exact Or.inl he
      · exact hzz y (Or.inr (Or.inr (Or.inl (Or.inr (Or.inr (Or.inr (Or.inr (Or.inl q))))))))
      · exact hzz y (Or.inr (Or.inr (Or.inl (Or.inr (Or.inr (Or.inr (Or.inr (Or.inr q))))))))
    · by_cases w : k = rK σ
      · rw [q, w, kD_x]; exact Or.inl hx.2.2
      · rw [ok k (by omega)] at q
        exact hzz y (Or.inr (Or.inr (Or.inr (Or.inl ⟨k, by omega, q⟩))))
    · rw [oR r (by omega)] at q
      exact hzz y (Or.inr (Or.inr (Or.inr (Or.inr ⟨r, hr, q⟩))))
