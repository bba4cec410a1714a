/-! A NEW LAWN -/
set_option maxRecDepth 100000
/-- a new lawn's cells -/
def iniD (z c j : Nat) : Nat := if j = 5 then z + 2 else if j = 6 then z + 3 else if j = 7 then z + 4 else if j = 8 then z + 5 else if j = 10 then z + 6 else if j = 9 then z + 7 else if j = 11 then z else if j = 22 then z + 1 else if j = 12 then z + 8 else if j = 20 then z + 9 else if j = 15 then z + 10 else if j = 16 then z + 11 else if j = 17 then z + 12 else if j = 18 then z + 13 else c
theorem smN_k {f : Nat → Nat} {b : Nat} : ∀ n, (∀ j, j < n → f j = b) → smN f n = b * n
  | 0, _ => rfl
  | n + 1, h => by
    show smN f n + f n = b * (n + 1)
    rw [smN_k n (fun j hj => h j (by omega)), h n (by omega), Nat.mul_succ]
theorem ite_ge {P : Prop} [Decidable P] {a b c z : Nat} (ha : z ≤ a) (hb : z ≤ b ∨ b = c) : z ≤ (if P then a else b) ∨ (if P then a else b) = c := by
  split
  · exact Or.inl ha
  · exact hb
/-- the row of a new lawn -/
def NewR (ρ : Rw) (w h : Nat) (gr wt : Int32) : Prop := (ρ 4 = nI w ∧ ρ 5 = nI h ∧ ρ 6 = gr ∧ ρ 7 = wt) ∧ (∀ j, j < 4 ∨ (8 ≤ j ∧ j < 153) → ρ j = nI 0) ∧ ∀ c, c < w * h → ρ (153 + 5 * c + 0) = nI 0 ∧ ρ (153 + 5 * c + 1) = nI 9 ∧ ρ (153 + 5 * c + 2) = nI 0 ∧ ρ (153 + 5 * c + 3) = nI 0 ∧ ρ (153 + 5 * c + 4) = nI 0
theorem lw_mk {g : GZ} {J : HA} {z0 z q w h : Nat} {gr wt : Int32} {ρ : Rw} {f1 f2 : Nat → Nat} (hw : w ≤ 10) (hh : h ≤ 8) (hρ : NewR ρ w h gr wt) (hDE : DeK g J) (hz0 : z0 ≤ q ∧ z0 ≤ z) (hq : J.G q = (2, q)) (hA : ∀ f, arrF f → J.R q f = some (iniD z (g.c 70) f) ∧ J.G (iniD z (g.c 70) f) = (lyK f, q) ∧ J.n (iniD z (g.c 70) f) = lyN (w * h) f)
    (h12 : J.R q 12 = some (z + 8) ∧ (J.G (z + 8)).1 = 3 ∧ J.R (z + 8) 0 = some (z + 9)) (h11 : J.R q 11 = some z ∧ (J.G z).1 = 3 ∧ J.R z 0 = some (z + 1)) (l1 : Ll g J (z + 9) (g.c 70) 0 f1) (l2 : Ll g J (z + 1) (g.c 70) 0 f2)
    (hI : J.I q 0 = nI w ∧ J.I q 1 = nI h ∧ J.I q 2 = gr ∧ J.I q 3 = wt ∧ J.I q 4 = nI (w * h) ∧ J.I q 13 = nI 0 ∧ J.I q 14 = nI (9 * (w * h))) (hC : ∀ c, c < w * h → J.I (z + 2) c = nI 0 ∧ J.I (z + 3) c = nI 9 ∧ J.I (z + 4) c = nI 0 ∧ J.I (z + 5) c = -1 ∧ J.I (z + 6) c = nI 0) (hac : ∀ j, j < 12 → J.I (z + 7) j = nI 0) : LwB g J z0 q (iniD z (g.c 70)) ρ := by
  obtain ⟨⟨r4, r5, r6, r7⟩, rz, rc⟩ := hρ
  have nz : (nI 0).toNatClampNeg = 0 := nI_nat (by omega)
  have eW : rW ρ = w := (congrArg Int32.toNatClampNeg r4).trans (nI_nat (by omega))
  have eH : rH ρ = h := (congrArg Int32.toNatClampNeg r5).trans (nI_nat (by omega))
  have eC : rC ρ = w * h := by unfold rC; rw [eW, eH]
  have eK : rK ρ = 0 := (congrArg Int32.toNatClampNeg (rz 1 (by omega))).trans nz
  have eG : rG ρ = 0 := (congrArg Int32.toNatClampNeg (rz 0 (by omega))).trans nz
  have eA : allG ρ = 9 * (w * h) := by
    unfold allG
    rw [eC]
    refine smN_k _ (fun c hc => ?_)
    obtain ⟨c0, c1, -⟩ := rc c hc
    have e1 : cGr ρ c = 9 := (congrArg Int32.toNatClampNeg c1).trans (nI_nat (by omega))
    exact (if_pos (by rw [c0]; exact nI0)).trans e1
  have hb : (J.G (g.c 70)).1 = 500 := hDE.2.1
  refine ⟨⟨?_, ⟨?_, fun r hr => ?_, fun j hj => ?_⟩, ⟨fun k hk => ?_, fun r hr => ?_⟩, hDE⟩, ⟨?_, ?_, ?_, fun _ => rfl, fun _ => rfl⟩, fun y hy => ?_⟩
  · show Ly0 J.G J.R J.n q (iniD z (g.c 70)) (rC ρ) (rK ρ) (rG ρ)
    rw [eC, eK, eG]
    refine ⟨hq, hA, ?_, ?_, fun i j hi => absurd hi (Nat.not_lt_zero _)⟩
    · exact ⟨h12.1, h12.2.1, h12.2.2, l1.1, l1.2.1, by show isObA (J.G (g.c 70)).1 = true; rw [hb]; rfl, Nat.zero_le _, fun k hk => absurd hk (Nat.not_lt_zero _)⟩
    · exact ⟨h11.1, h11.2.1, h11.2.2, l2.1, l2.2.1, by show isObA (J.G (g.c 70)).1 = true; rw [hb]; rfl, Nat.zero_le _, fun k hk => absurd hk (Nat.not_lt_zero _)⟩
  · refine ⟨by rw [bs_x (by decide), r4]; exact hI.1, by rw [bs_x (by decide), r5]; exact hI.2.1, by rw [bs_x (by decide), r6]; exact hI.2.2.1, by rw [bs_x (by decide), r7]; exact hI.2.2.2.1, by rw [bs_C, eC]; exact hI.2.2.2.2.1, by rw [bs_x (by decide), rz 1 (by omega)]; exact l1.2.2.1, by rw [bs_x (by decide), rz 0 (by omega)]; exact l2.2.2.1⟩
  · rw [bs_G, eG] at hr
    exact absurd hr (Nat.not_lt_zero _)
  · rw [bs_C, bs_K, eC, eK] at hj
    unfold Dm at hj
    unfold sA sI
    by_cases h1 : j < 9
    · rw [if_pos h1, if_pos h1]
      rcases (show j = 3 ∨ j = 8 by omega) with e | e <;> subst e
      · rw [show adj 3 (bs ρ 3) = bs ρ 3 from if_neg (by omega), bs_x (by decide), rz 3 (by omega)]
        exact hI.2.2.2.2.2.1
      · rw [adj_8, bs_8, eA]
        exact hI.2.2.2.2.2.2
    · rw [if_neg h1, if_neg h1]
      by_cases h2 : j < 21
      · rw [if_pos h2, if_pos h2, show adj j (bs ρ j) = bs ρ j from if_neg (by omega), bs_x (by omega), rz j (by omega)]
        exact hac _ (by omega)
      · have h3 : ¬ j < 153 := by omega
        rw [if_neg h2, if_neg h2, if_neg h3, if_neg h3]
        obtain ⟨c, v, hc, hv, ej⟩ : ∃ c v, c < w * h ∧ v < 5 ∧ j = 153 + 5 * c + v := ⟨(j - 153) / 5, (j - 153) % 5, by omega, by omega, by omega⟩
        have e1 : (j - 153) / 5 = c := by omega
        have e2 : (j - 153) % 5 = v := by omega
        rw [e1, e2, ej, bs_x (by omega)]
        obtain ⟨c0, c1, c2, c3, c4⟩ := rc c hc
        obtain ⟨k0, k1, k2, k3, k4⟩ := hC c hc
        rcases (show v = 0 ∨ v = 1 ∨ v = 2 ∨ v = 3 ∨ v = 4 by omega) with e | e | e | e | e <;> subst e
        · rw [adj_c (by omega), c0]; exact k0
        · rw [adj_c (by omega), c1]; exact k1
        · rw [adj_c (by omega), c2]; exact k4
        · rw [adj_c (by omega), c3]; exact k2
        · rw [show adj (153 + 5 * c + 4) (ρ (153 + 5 * c + 4)) = ρ (153 + 5 * c + 4) - 1 from if_pos (by omega), c4]
          exact k3.trans (by decide)
  · rw [eK] at hk
    exact absurd hk (Nat.not_lt_zero _)
  · rw [eG] at hr
    exact absurd hr (Nat.not_lt_zero _)
  · rw [eK]
    exact Ll.cong l1 (fun k hk => absurd hk (Nat.not_lt_zero _))
  · rw [eG]
    exact Ll.cong l2 (fun k hk => absurd hk (Nat.not_lt_zero _))
  · show z + 9 ≠ z + 1
    omega
  · rw [eK, eG] at hy
    have ge : ∀ j, z0 ≤ iniD z (g.c 70) j ∨ iniD z (g.c 70) j = g.c 70 := fun j => by
      have h1 := hz0.2
      exact ite_ge (by omega) (ite_ge (by omega) (ite_ge (by omega) (ite_ge (by omega) (ite_ge (by omega) (ite_ge (by omega) (ite_ge (by omega) (ite_ge (by omega) (ite_ge (by omega) (ite_ge (by omega) (ite_ge (by omega) (ite_ge (by omega) (ite_ge (by omega) (ite_ge (by omega) (Or.inr rfl))))))))))))))
    rcases hy with e | ⟨f, hf, e⟩ | (e | e | e | e | e | e) | ⟨k, hk, e⟩ | ⟨r, hr, e⟩
    · rw [e]; exact Or.inl hz0.1
    · rw [e]; exact ge f
    · rw [e]; exact ge 11
    · rw [e]; exact ge 12
    · rw [e]; exact ge 20
    · rw [e]; exact ge 21
    · rw [e]; exact ge 22
    · rw [e]; exact ge 23
    · exact absurd hk (Nat.not_lt_zero _)
    · exact absurd hr (Nat.not_lt_zero _)
theorem mk_f {P B : HA} {k o n : Nat} (h : B = P.mk k o n) : Gw P B Non ∧ B.G P.z = (k, o) ∧ B.n P.z = n ∧ B.I P.z = (fun _ => 0) ∧ B.z = P.z + 1 := by
  subst h
  exact ⟨gw_mk, by rw [mk_G, if_pos rfl], by rw [mk_n, if_pos rfl], by rw [mk_I, if_pos rfl], mk_z _ _ _ _⟩
/-- a cell that was made, as it stands later -/
theorem mk_l {P B D : HA} {k o n : Nat} {X : Nat → Prop} (h : B = P.mk k o n) (hw : Gw B D X) (hX : ¬ X P.z) : D.G P.z = (k, o) ∧ D.n P.z = n ∧ D.I P.z = fun _ => 0 := by
  obtain ⟨h1, h2, h3, h4, h5⟩ := mk_f h
  have hlt : P.z < B.z := by omega
  have q := hw.2 _ hlt
  have q2 := q.2.2 hX
  exact ⟨q.1.trans h2, q.2.1.trans h3, q2.2.1.trans h4⟩
theorem w6_eq {I : HA} {a b i : Nat} {f6 f8 : Nat → Int32} {v : Int32} (h : a ≠ b) : ((I.sI a f6).sI b f8).sI a (upd (((I.sI a f6).sI b f8).I a) i v) = (I.sI a (upd f6 i v)).sI b f8 := by
  rw [sI_o _ _ h, sI_s, sI_comm (I.sI a f6) f8 (upd f6 i v) (Ne.symm h), sI_sI]
theorem w8_eq {I : HA} {a b i : Nat} {f6 f8 : Nat → Int32} {v : Int32} : ((I.sI a f6).sI b f8).sI b (upd (((I.sI a f6).sI b f8).I b) i v) = (I.sI a f6).sI b (upd f8 i v) := by
  rw [sI_s, sI_sI]
theorem init_fin {g : GZ} {A F P5 P6 P7 P8 P10 P9 I9 : HA} {z0 q w h : Nat} {gr wt : Int32} {ρ : Rw} {f6 f8 : Nat → Int32} (hw : w ≤ 10) (hh : h ≤ 8) (hρ : NewR ρ w h gr wt) (hDE : DeK g A) (hz : Zk A) (hz0 : z0 ≤ q ∧ z0 ≤ A.z) (hq : A.G q = (2, q)) (hRw : RwN g (A.mk 3 0 0) F A.z) (e5 : P5 = F.mk 121 q (w * h)) (e6 : P6 = P5.mk 122 q (w * h)) (e7 : P7 = P6.mk 123 q (w * h)) (e8 : P8 = P7.mk 124 q (w * h)) (e10 : P10 = P8.mk 321 q (w * h)) (e9 : P9 = P10.mk 125 q 12)
    (hLi : Li2 g P9 I9 q w h gr wt A.z F.z P5.z P6.z P7.z P8.z P10.z) (h6 : ∀ j, j < w * h → f6 j = nI 9 ∧ f8 j = -1) : LwB g (((I9.sI P5.z f6).sI P7.z f8).sI q (upd (((I9.sI P5.z f6).sI P7.z f8).I q) 14 (nI (9 * (w * h))))) z0 q (iniD A.z (g.c 70)) ρ ∧ Gw A (((I9.sI P5.z f6).sI P7.z f8).sI q (upd (((I9.sI P5.z f6).sI P7.z f8).I q) 14 (nI (9 * (w * h))))) (fun y => y = q) := by
  have hqz : q < A.z := hz.lt (show (A.G q).1 = 2 by rw [hq]) rfl
  obtain ⟨r1, r2, r3, r4, r5, r6⟩ := hRw
  have zF : F.z = A.z + 2 := by rw [r1, mk_z]
  obtain ⟨g5, -, -, -, z5⟩ := mk_f e5
  obtain ⟨g6, -, -, -, z6⟩ := mk_f e6
  obtain ⟨g7, -, -, -, z7⟩ := mk_f e7
  obtain ⟨g8, -, -, -, z8⟩ := mk_f e8
  obtain ⟨g10, -, -, -, z10⟩ := mk_f e10
  obtain ⟨g9, -, -, -, z9⟩ := mk_f e9
  obtain ⟨i1, i2, ⟨a5, a6, a7, a8, a9, a10, a11⟩, ⟨b12, b15, b16, b17, b18⟩, ⟨c1, c2, c3, c4⟩, ⟨d15, d16, d17, d18⟩, ⟨n0, n1, n2, n3, n4, n13, n14⟩⟩ := hLi
  -- from each heap to the last
  have k9 : Gw P9 I9 (fun y => y = q) := i2
  have k10 : Gw P10 I9 (fun y => y = q) := ((Gw.rf (A := P10) (X := fun y => y = q)).tr2 g9 (fun _ _ q => q.elim)).tr k9
  have k8 : Gw P8 I9 (fun y => y = q) := ((Gw.rf (A := P8) (X := fun y => y = q)).tr2 g10 (fun _ _ q => q.elim)).tr k10
  have k7 : Gw P7 I9 (fun y => y = q) := ((Gw.rf (A := P7) (X := fun y => y = q)).tr2 g8 (fun _ _ q => q.elim)).tr k8
  have k6 : Gw P6 I9 (fun y => y = q) := ((Gw.rf (A := P6) (X := fun y => y = q)).tr2 g7 (fun _ _ q => q.elim)).tr k7
  have k5 : Gw P5 I9 (fun y => y = q) := ((Gw.rf (A := P5) (X := fun y => y = q)).tr2 g6 (fun _ _ q => q.elim)).tr k6
  have kF : Gw F I9 (fun y => y = q) := ((Gw.rf (A := F) (X := fun y => y = q)).tr2 g5 (fun _ _ q => q.elim)).tr k5
  have kA : Gw A F Non := ((Gw.rf (A := A) (X := Non)).tr2 (gw_mk (A := A) (k := 3) (o := 0) (len := 0) (X := Non)) (fun _ _ q => q)).tr2 r2 (fun y hy e => by omega)
  have kAI : Gw A I9 (fun y => y = q) := ((Gw.rf (A := A) (X := fun y => y = q)).tr2 kA (fun _ _ q => q.elim)).tr kF
  have m5 := mk_l e5 k5 (by omega)
  have m6 := mk_l e6 k6 (by omega)
  have m7 := mk_l e7 k7 (by omega)
  have m8 := mk_l e8 k8 (by omega)
  have m10 := mk_l e10 k10 (by omega)
  have m9 := mk_l e9 k9 (by omega)
  have y5 : F.z = A.z + 2 := zF
  have y6 : P5.z = A.z + 3 := by omega
  have y7 : P6.z = A.z + 4 := by omega
  have y8 : P7.z = A.z + 5 := by omega
  have y10 : P8.z = A.z + 6 := by omega
  have y9 : P10.z = A.z + 7 := by omega
  have yH : P9.z = A.z + 8 := by omega
  rw [y5] at m5 a5
  rw [y6] at m6 a6
  rw [y7] at m7 a7
  rw [y8] at m8 a8
  rw [y10] at m10 a10
  rw [y9] at m9 a9
  rw [yH] at b12 b15 b16 b17 b18 c1 c2 c3 c4 d15 d16 d17 d18
  rw [y6, y8]
  have hqI : I9.G q = (2, q) := by rw [(kAI.2 q hqz).1]; exact hq
  have hzF2 : A.z < F.z := by omega
  have hrow : I9.G A.z = (3, 0) ∧ I9.R A.z 0 = some (A.z + 1) := by
    have v1 := kF.2 A.z hzF2
    have v2 := v1.2.2 (fun e => by omega)
    have v3 := r2.2 A.z (by rw [mk_z]; omega)
    refine ⟨by rw [v1.1, v3.1, mk_G, if_pos rfl], by rw [v2.2.2, r3, mk_z]⟩
  have hlist : Ll g I9 (A.z + 1) (g.c 70) 0 (fun _ => 0) := by
    have w1 : Ll g F (A.z + 1) (g.c 70) 0 (fun _ => 0) := by rw [mk_z] at r6; exact r6
    obtain ⟨x1, x2, x3, x4, x5, x6⟩ := w1
    have v1 := kF.2 (A.z + 1) (by omega)
    have v2 := v1.2.2 (fun e => by omega)
    exact ⟨by rw [v1.1]; exact x1, by rw [v2.2.2]; exact x2, by rw [v2.2.1]; exact x3, Or.inl ⟨rfl, rfl⟩, x5, fun k hk => absurd hk (Nat.not_lt_zero _)⟩
  have nq3 : A.z + 3 ≠ q := by omega
  have nq5 : A.z + 5 ≠ q := by omega
  have hGJ : Gw I9 (((I9.sI (A.z + 3) f6).sI (A.z + 5) f8).sI q (upd (((I9.sI (A.z + 3) f6).sI (A.z + 5) f8).I q) 14 (nI (9 * (w * h))))) (fun y => y = A.z + 3 ∨ y = A.z + 5 ∨ y = q) := ((gw_sI (X := fun y => y = A.z + 3 ∨ y = A.z + 5 ∨ y = q) (fun _ => Or.inl rfl)).tr (gw_sI (fun _ => Or.inr (Or.inl rfl)))).tr (gw_sI (fun _ => Or.inr (Or.inr rfl)))
  have J3 : (((I9.sI (A.z + 3) f6).sI (A.z + 5) f8).sI q (upd (((I9.sI (A.z + 3) f6).sI (A.z + 5) f8).I q) 14 (nI (9 * (w * h))))).I (A.z + 3) = f6 := by rw [sI_o _ _ nq3, sI_o _ _ (by omega), sI_s]
  have J5 : (((I9.sI (A.z + 3) f6).sI (A.z + 5) f8).sI q (upd (((I9.sI (A.z + 3) f6).sI (A.z + 5) f8).I q) 14 (nI (9 * (w * h))))).I (A.z + 5) = f8 := by rw [sI_o _ _ nq5, sI_s]
  have Jq : (((I9.sI (A.z + 3) f6).sI (A.z + 5) f8).sI q (upd (((I9.sI (A.z + 3) f6).sI (A.z + 5) f8).I q) 14 (nI (9 * (w * h))))).I q = upd (I9.I q) 14 (nI (9 * (w * h))) := by rw [sI_s, sI_o _ _ (Ne.symm nq5), sI_o _ _ (Ne.symm nq3)]
  have Jo : ∀ y, y ≠ A.z + 3 → y ≠ A.z + 5 → y ≠ q → (((I9.sI (A.z + 3) f6).sI (A.z + 5) f8).sI q (upd (((I9.sI (A.z + 3) f6).sI (A.z + 5) f8).I q) 14 (nI (9 * (w * h))))).I y = I9.I y := fun y h1 h2 h3 => by rw [sI_o _ _ h3, sI_o _ _ h2, sI_o _ _ h1]
  have JG : (((I9.sI (A.z + 3) f6).sI (A.z + 5) f8).sI q (upd (((I9.sI (A.z + 3) f6).sI (A.z + 5) f8).I q) 14 (nI (9 * (w * h))))).G = I9.G := rfl
  have JR : (((I9.sI (A.z + 3) f6).sI (A.z + 5) f8).sI q (upd (((I9.sI (A.z + 3) f6).sI (A.z + 5) f8).I q) 14 (nI (9 * (w * h))))).R = I9.R := rfl
  have Jn : (((I9.sI (A.z + 3) f6).sI (A.z + 5) f8).sI q (upd (((I9.sI (A.z + 3) f6).sI (A.z + 5) f8).I q) 14 (nI (9 * (w * h))))).n = I9.n := rfl
  generalize (((I9.sI (A.z + 3) f6).sI (A.z + 5) f8).sI q (upd (((I9.sI (A.z + 3) f6).sI (A.z + 5) f8).I q) 14 (nI (9 * (w * h))))) = J at hGJ J3 J5 Jq Jo JG JR Jn ⊢
  have z3 : nI 0 = (0 : Int32) := nI0
  have hLJ : ∀ y f, y ≠ A.z + 3 → y ≠ A.z + 5 → y ≠ q → Ll g I9 y (g.c 70) 0 f → Ll g J y (g.c 70) 0 f := fun y f h1 h2 h3 l => by
    obtain ⟨x1, x2, x3, x4, x5, x6⟩ := l
    exact ⟨by rw [JG]; exact x1, by rw [JR]; exact x2, by rw [Jo y h1 h2 h3]; exact x3, Or.inl ⟨rfl, rfl⟩, x5, fun k hk => absurd hk (Nat.not_lt_zero _)⟩
  have kAJ : Gw A J (fun y => y = q) := kAI.tr2 hGJ (fun y hy e => by omega)
  refine ⟨lw_mk (z := A.z) hw hh hρ (hDE.gw hz kAJ) hz0 (by rw [JG]; exact hqI) (fun f hf => ?_) ⟨by rw [JR]; exact b12, by rw [JG, c1], by rw [JR]; exact c2⟩ ⟨by rw [JR]; exact a11, by rw [JG, hrow.1], by rw [JR]; exact hrow.2⟩ (hLJ _ _ (by omega) (by omega) (by omega) c4) (hLJ _ _ (by omega) (by omega) (by omega) hlist) ⟨by rw [Jq, pk_un (by decide)]; exact n0, by rw [Jq, pk_un (by decide)]; exact n1, by rw [Jq, pk_un (by decide)]; exact n2, by rw [Jq, pk_un (by decide)]; exact n3, by rw [Jq, pk_un (by decide)]; exact n4, by rw [Jq, pk_un (by decide)]; exact n13, by rw [Jq, pk_us]⟩ (fun c hc => ?_) (fun j hj => ?_), kAJ⟩
  · rw [JR, JG, Jn]
    have hf' : f = 5 ∨ f = 6 ∨ f = 7 ∨ f = 8 ∨ f = 9 ∨ f = 10 ∨ f = 15 ∨ f = 16 ∨ f = 17 ∨ f = 18 := by unfold arrF at hf; omega
    rcases hf' with e | e | e | e | e | e | e | e | e | e <;> subst e
    · exact ⟨a5, m5.1, m5.2.1⟩
    · exact ⟨a6, m6.1, m6.2.1⟩
    · exact ⟨a7, m7.1, m7.2.1⟩
    · exact ⟨a8, m8.1, m8.2.1⟩
    · exact ⟨a9, m9.1, m9.2.1⟩
    · exact ⟨a10, m10.1, m10.2.1⟩
    · exact ⟨b15, d15.1, d15.2⟩
    · exact ⟨b16, d16.1, d16.2⟩
    · exact ⟨b17, d17.1, d17.2⟩
    · exact ⟨b18, d18.1, d18.2⟩
  · refine ⟨?_, by rw [J3]; exact (h6 c hc).1, ?_, by rw [J5]; exact (h6 c hc).2, ?_⟩
    · rw [Jo _ (by omega) (by omega) (by omega), m5.2.2, z3]
    · rw [Jo _ (by omega) (by omega) (by omega), m7.2.2, z3]
    · rw [Jo _ (by omega) (by omega) (by omega), m10.2.2, z3]
  · rw [Jo _ (by omega) (by omega) (by omega), m9.2.2, z3]
