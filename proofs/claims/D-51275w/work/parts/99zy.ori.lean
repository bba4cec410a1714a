/-! THE COMPONENT, 30: the reader: orders in a row -/
set_option maxRecDepth 100000
/-- behind n orders: the reader, the array, what the orders are -/
def OrI (g : GZ) (A F : HA) (r c bf L : Nat) (B : Nat → Nat) (σ : Rw) (n : Nat) (f : Rw) (s : TS) (χ : Nat → Chg) (oo : Nat → Nat) : Prop :=
  (RdT g F r c bf L B s.a ∧ s.e = 0 ∧ s.a ≤ L) ∧ ((F.G A.z).1 = 640 ∧ F.n A.z = 31) ∧ (∀ j, j < n → F.R A.z j = some (oo j) ∧ LamIs F (oo j) (χ j) ∧ OrdR σ f (χ j) j) ∧ (∀ j, n ≤ j → F.R A.z j = none) ∧ Gw A F (GoX A r) ∧ (∀ y, F.R r 4 = some y → GoX A r y ∨ y = g.c 67 ∨ A.z ≤ y) ∧ StP A F ∧ (A.R r 4).isSome = true
theorem told3_c {f h : Rw} {o k a b : Nat} (e : ∀ j, j < o + 3 → h j = f j) (t : told3 f o k a b) : told3 h o k a b := ⟨(e _ (by omega)).trans t.1, (e _ (by omega)).trans t.2.1, fun h0 h6 => (e _ (by omega)).trans (t.2.2 h0 h6)⟩
theorem OrI.step {g : GZ} {A F D Q U : HA} {r c bf L n k o w v0 n0 v : Nat} {B f0 : Nat → Nat} {σ f : Rw} {s : TS} {χ : Nat → Chg} {oo : Nat → Nat} {x : Chg} (h : OrI g A F r c bf L B σ n f s χ oo) (hc67 : g.c 67 < g.b)
    (hzF : Zk F) (hzD : Zk D) (hzQ : Zk Q) (hoF : fw_old g F) (hoD : fw_old g D) (hoQ : fw_old g Q) (hw : F.R r 4 = some w) (hsw : StrV F w v0 f0 n0) (hsD : StrV D w v0 f0 n0) (h1 : Gw F D (fun y => y = w)) (h2 : Gw D Q (GoX D r)) (h2p : StP D Q) (hI : LamIs Q o x)
    (h3 : Gw (Q.sR A.z (va_up (Q.R A.z) n (some o))) U (fun y => y = r)) (h3w : WdN g (Q.sR A.z (va_up (Q.R A.z) n (some o))) U r) (hN : NumI σ) (hk7 : k < 7) (hk : ordK B L s = some k) (hn : n < 30) (hR : RdT g U r c bf L B (ordS σ B L n s).a) (he : (ordS σ B L n s).e = 0) (hl : (ordS σ B L n s).a ≤ L)
    (hx : x = chgO σ k (prtA σ B L k (goesS (nextS B L s))) (prtB σ B L k (goesS (nextS B L s)))) (hok : x.ok σ) : OrI g A U r c bf L B σ (n + 1) (ordF σ B L n f s) (ordS σ B L n s) (fun j => if j = n then x else χ j) (fun j => if j = n then o else oo j) := by
  obtain ⟨⟨i1, i2, i3⟩, ⟨i4, i5⟩, i6, i7, i8, i9, i10, i11⟩ := h
  have k7 := i1.r7
  have k16 := hsw.g
  have hzA : A.z < F.z := hzF.lt i4 rfl
  have hrF : r < F.z := hzF.lt k7 rfl
  have hwF : w < F.z := hzF.lt k16 rfl
  have nAr : ¬ A.z = r := fun e => by rw [e, k7] at i4; cases i4
  have nAw : ¬ A.z = w := fun e => by rw [e, k16] at i4; cases i4
  have nrw : ¬ r = w := fun e => by rw [e, k16] at k7; cases k7
  -- the reader's word stays
  have hwD : D.R r 4 = some w := by rw [((h1.2 r hrF).2.2 nrw).2.2]; exact hw
  have goD : ∀ y, GoX D r y → y = r ∨ y = w := fun y hy => hy.imp id (fun q => (Option.some.inj (hwD.symm.trans q)).symm)
  have h1' : Gw F D (fun y => y = w ∧ g.b ≤ y) := gw_old h1 hoF hoD
  have h2' : Gw D Q (fun y => (y = r ∨ y = w) ∧ g.b ≤ y) := (Gw.rf (A := D)).tr2 (gw_old h2 hoD hoQ) (fun y _ q => ⟨goD y q.1, q.2⟩)
  have hFQ : Gw F Q (fun y => (y = r ∨ y = w) ∧ g.b ≤ y) := ((Gw.rf (A := F) (X := fun y => (y = r ∨ y = w) ∧ g.b ≤ y)).tr2 h1' (fun y _ q => ⟨Or.inr q.1, q.2⟩)).tr2 h2' (fun y _ q => q)
  have hQP : Gw Q (Q.sR A.z (va_up (Q.R A.z) n (some o))) (fun y => y = A.z) := gw_sR (fun _ => rfl)
  have hPA : (Q.sR A.z (va_up (Q.R A.z) n (some o))).R A.z = va_up (Q.R A.z) n (some o) := sR_s _ _ _
  have hPG : ∀ y, (Q.sR A.z (va_up (Q.R A.z) n (some o))).G y = Q.G y := fun _ => rfl
  have hPn : ∀ y, (Q.sR A.z (va_up (Q.R A.z) n (some o))).n y = Q.n y := fun _ => rfl
  have hPz : (Q.sR A.z (va_up (Q.R A.z) n (some o))).z = Q.z := rfl
  have hPI : (Q.sR A.z (va_up (Q.R A.z) n (some o))).I = Q.I := rfl
  have hzP : Zk (Q.sR A.z (va_up (Q.R A.z) n (some o))) := hzQ
  have hPP : StP Q (Q.sR A.z (va_up (Q.R A.z) n (some o))) := StP.gw hzQ hQP (fun y q => by
    rw [q, (hFQ.2 _ hzA).1, i4]
    exact ⟨by decide, by decide⟩)
  have hoP : LamIs (Q.sR A.z (va_up (Q.R A.z) n (some o))) o x := hI
  generalize (Q.sR A.z (va_up (Q.R A.z) n (some o))) = P at h3 h3w hQP hPA hPG hPn hPz hPI hzP hPP hoP
  have hzAQ : A.z < Q.z := Nat.lt_of_lt_of_le hzA hFQ.1
  have hQA := (hFQ.2 A.z hzA).2.2 (fun q => q.1.elim nAr nAw)
  have gQ : (Q.G A.z).1 = 640 := by rw [(hFQ.2 A.z hzA).1]; exact i4
  have nQ : Q.n A.z = 31 := by rw [(hFQ.2 A.z hzA).2.1]; exact i5
  have hPA2 : A.z < P.z := by rw [hPz]; exact hzAQ
  have hUA := (h3.2 A.z hPA2).2.2 nAr
  have hRU : U.R A.z = va_up (F.R A.z) n (some o) := by rw [hUA.2.2, hPA, hQA.2.2]
  have kQr : (Q.G r).1 = 7 := by rw [(hFQ.2 r hrF).1]; exact k7
  have kPr : (P.G r).1 = 7 := by rw [hPG]; exact kQr
  have lamU : ∀ y X, LamIs Q y X → LamIs U y X := fun y X q => by
    have q1 : LamIs P y X := by
      refine q.gw hzQ hQP (fun e => ?_)
      have h8 := q.k
      rw [e, gQ] at h8
      omega
    refine q1.gw hzP h3 (fun e => ?_)
    have h8 := q1.k
    rw [e, kPr] at h8
    omega
  have lamQ : ∀ y X, LamIs F y X → LamIs Q y X := fun y X q => by
    refine q.gw hzF hFQ (fun e => ?_)
    have h8 := q.k
    rcases e.1 with e | e
    · rw [e, k7] at h8; omega
    · rw [e, k16] at h8; omega
  obtain ⟨o1, o2, o3⟩ := ord_ok (σ := σ) (f := f) i2 hk hn
  have hFx : ∀ j, j < 3 * n → ordF σ B L n f s j = f j := fun j hj => by rw [o2, prtF_x (by omega), pk_un (by omega)]
  have hGF : Gw A Q (GoX A r) := i8.tr2 hFQ (fun y hy q => by
    rcases q.1 with e | e
    · exact Or.inl e
    · rw [e] at hy q ⊢
      rcases i9 w hw with a1 | a1 | a1
      · exact a1
      · have := q.2; omega
      · omega)
  refine ⟨⟨hR, he, hl⟩, ⟨?_, ?_⟩, fun j hj => ?_, fun j hj => ?_, ?_, fun y hy => ?_, ?_, i11⟩
  · rw [(h3.2 A.z hPA2).1, hPG]; exact gQ
  · rw [(h3.2 A.z hPA2).2.1, hPn]; exact nQ
  · by_cases q : j = n
    · subst q
      show U.R A.z j = some (if j = j then o else oo j) ∧ LamIs U (if j = j then o else oo j) (if j = j then x else χ j) ∧ OrdR σ (ordF σ B L j f s) (if j = j then x else χ j) j
      rw [if_pos rfl, if_pos rfl, hRU]
      refine ⟨if_pos rfl, lamU _ _ hI, hok, k, _, _, ?_, prt_v (s := goesS (nextS B L s)) hN hk7, hx⟩
      rw [o2]
      exact prtF_t pk_us
    · show U.R A.z j = some (if j = n then o else oo j) ∧ LamIs U (if j = n then o else oo j) (if j = n then x else χ j) ∧ OrdR σ (ordF σ B L n f s) (if j = n then x else χ j) j
      rw [if_neg q, if_neg q, hRU]
      obtain ⟨a1, a2, a3, k9, a9, b9, t9, v9, e9⟩ := i6 j (by omega)
      exact ⟨(if_neg q).trans a1, lamU _ _ (lamQ _ _ a2), a3, k9, a9, b9, told3_c (fun i hi => hFx i (by omega)) t9, v9, e9⟩
  · rw [hRU]
    exact (if_neg (show ¬ j = n by omega)).trans (i7 j (by omega))
  · have hAP : Gw A P (GoX A r) := hGF.tr2 hQP (fun y hy q => absurd hy (by omega))
    exact hAP.tr2 h3 (fun y _ q => Or.inl q)
  · obtain ⟨w2, q1, q2⟩ := h3w
    have e : w2 = y := Option.some.inj (q1.symm.trans hy)
    rw [← e]
    refine q2.elim (fun q => Or.inr (Or.inl q)) (fun q => Or.inr (Or.inr ?_))
    omega
  · refine ((i10.tr ?_).tr h2p).tr (hPP.tr (StP.rd hzP kPr h3))
    exact fun _ _ _ _ q => hsw.hs hsD h1 hzF q
theorem eqt_cong {f l h : Nat → Nat} {n m : Nat} (e : ∀ i, i < n → f i = l i) : EqT f n h m ↔ EqT l n h m := ⟨fun q => ⟨q.1, fun k hk => (e k hk).symm.trans (q.2 k hk)⟩, fun q => ⟨q.1, fun k hk => (e k hk).trans (q.2 k hk)⟩⟩
theorem actp_cong {f l : Nat → Nat} {n : Nat} (e : ∀ i, i < n → f i = l i) : ActP f n ↔ ActP l n := or_congr (eqt_cong e) (or_congr (eqt_cong e) (or_congr (eqt_cong e) (or_congr (eqt_cong e) (or_congr (eqt_cong e) (or_congr (eqt_cong e) (eqt_cong e))))))
theorem actp_1 {f : Nat → Nat} {n : Nat} (h : ActP f n) : 1 ≤ n := by
  rcases h with ⟨h, -⟩ | ⟨h, -⟩ | ⟨h, -⟩ | ⟨h, -⟩ | ⟨h, -⟩ | ⟨h, -⟩ | ⟨h, -⟩ <;> rw [h] <;> decide
theorem ori_w {g : GZ} {F : HA} {w v n : Nat} {f : Nat → Nat} (h : StrV F w v f n) (he : EmK g) (ho : fw_old g F) (hn : 1 ≤ n) : ¬ w = g.c 67 := fun e => by
  obtain ⟨u, k1, k2, k3, k4⟩ := he
  have k := k1.old k2 k3 ho
  rw [e] at h
  have e1 : v = u := Option.some.inj (h.r.symm.trans k.r)
  have e2 := h.n'
  have e3 := k.n'
  rw [e1] at e2
  omega
theorem ori_d {g : GZ} {A F D : HA} {r w : Nat} (i8 : Gw A F (GoX A r)) (i9 : ∀ y, F.R r 4 = some y → GoX A r y ∨ y = g.c 67 ∨ A.z ≤ y) (hw : F.R r 4 = some w) (h : Gw F D (fun y => y = w ∧ g.b ≤ y)) (hc : g.c 67 < g.b) : Gw A D (GoX A r) := i8.tr2 h (fun y hy q => by
  rw [q.1]
  rcases i9 w hw with a | a | a
  · exact a
  · have := q.2; have := q.1; omega
  · have := q.1; omega)
theorem ori_go {g : GZ} {A F D : HA} {r w y : Nat} (i9 : ∀ y, F.R r 4 = some y → GoX A r y ∨ y = g.c 67 ∨ A.z ≤ y) (hw : F.R r 4 = some w) (hD : D.R r 4 = some w) (hb : g.b ≤ w) (hc : g.c 67 < g.b) (hy : y < A.z) (q : GoX D r y) : GoX A r y := by
  rcases q with q | q
  · exact Or.inl q
  · have e : w = y := Option.some.inj (hD.symm.trans q)
    rw [← e]
    rcases i9 w hw with a | a | a
    · exact a
    · omega
    · omega
theorem ori_k {g : GZ} {A : HA} {r c bf L a : Nat} {B : Nat → Nat} (hR : RdT g A r c bf L B a) (he : EmK g) (ho : fw_old g A) {y : Nat} (h : GoX A r y) : (A.G y).1 = 7 ∨ (A.G y).1 = 16 := by
  rcases h with h | h
  · rw [h]; exact Or.inl hR.r7
  · obtain ⟨w, v, f, h1, h2, -⟩ := hR.wd he ho
    have e : w = y := Option.some.inj (h1.symm.trans h)
    rw [← e]
    exact Or.inr h2.g
theorem ori_f {g : GZ} {A : HA} {r c bf L a aL : Nat} {B : Nat → Nat} {d : Nat → Nat} {σ : Rw} (_ : Zk A) (hR : RdT g A r c bf L B a) (he : EmK g) (ho : fw_old g A) (hL : Ly A aL d σ) : ∀ y, Fp aL d (rK σ) (rG σ) y → ¬ GoX A r y := fun y hy q => by
  have h3 := fp_k hL hy
  have h4 := ori_k hR he ho q
  omega
theorem ori_c {g : GZ} {A : HA} {r c bf L a : Nat} {B : Nat → Nat} (_ : Zk A) (hR : RdT g A r c bf L B a) (he : EmK g) (ho : fw_old g A) : ¬ GoX A r c := fun q => by
  have h4 := ori_k hR he ho q
  obtain ⟨x1, x2, x3, -, -⟩ := id hR
  have h5 := x3.2.1.1
  omega
