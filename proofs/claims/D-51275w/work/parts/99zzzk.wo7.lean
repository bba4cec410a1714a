/-! THE WORLD, 7: changes, both sides -/
set_option maxRecDepth 100000
/-- the past's rows, one more pushed -/
def pastP (P : Nat → Rw) (m : Nat) (σ : Rw) : Nat → Rw := if m = 8 then va_up (fun i => P (i + 1)) 7 σ else va_up P m σ
theorem past_le {m : Nat} (h : m ≤ 8) : pastM m ≤ 8 := by
  unfold pastM
  split <;> omega
theorem past_all {P : Nat → Rw} {m a : Nat} {f : Nat → Nat} {σ : Rw} {Q : Rw → Nat → Prop} (h8 : m ≤ 8) (h : ∀ i, i < m → Q (P i) (f i)) (h1 : Q σ a) : ∀ i, i < pastM m → Q (pastP P m σ i) (pastF f m a i) := by
  intro i hi
  unfold pastM at hi
  unfold pastP pastF
  by_cases q : m = 8
  · rw [if_pos q] at hi
    rw [if_pos q, if_pos q]
    by_cases e : i = 7
    · rw [e, va_up_self, lower_s]; exact h1
    · rw [va_up_ne _ _ e, lower_o _ _ e]; exact h (i + 1) (by omega)
  · rw [if_neg q] at hi
    rw [if_neg q, if_neg q]
    by_cases e : i = m
    · rw [e, va_up_self, lower_s]; exact h1
    · rw [va_up_ne _ _ e, lower_o _ _ e]; exact h i (by omega)
theorem pastR_at {P : Nat → Rw} {m : Nat} {φ α σ : Rw} (h8 : m ≤ 8) (h : ∀ i, i < m → ∀ j, j < 553 → φ (553 * i + j) = P i j) (hα : ∀ j, j < 553 → α j = σ j) : ∀ i, i < pastM m → ∀ j, j < 553 → pastR φ m α (553 * i + j) = pastP P m σ i j := by
  intro i hi j hj
  unfold pastM at hi
  unfold pastP pastR
  by_cases q : m = 8
  · rw [if_pos q] at hi
    rw [if_pos q, if_pos q]
    unfold va_cpy
    by_cases e : i = 7
    · rw [e, va_up_self, if_pos (by omega), ← hα j hj]
      congr 1
      omega
    · rw [va_up_ne _ _ e, if_neg (by omega), if_pos (by omega), ← h (i + 1) (by omega) j hj]
      congr 1
      omega
  · rw [if_neg q] at hi
    rw [if_neg q, if_neg q]
    unfold va_cpy
    by_cases e : i = m
    · rw [e, va_up_self, if_pos (by omega), ← hα j hj]
      congr 1
      omega
    · rw [va_up_ne _ _ e, if_neg (by omega)]
      exact h i (by omega) j hj
theorem cpy_e {f h : Rw} {j : Nat} (hj : j < 553) : va_cpy f h 0 0 553 j = f j := by
  unfold va_cpy
  rw [if_pos (by omega)]
  congr 1
  omega
theorem neg_r {r : Nat} (h1 : 1 ≤ r) (h2 : r < 10) : -(nI r) < 0 := by
  have : ∀ r, r < 10 → 1 ≤ r → -(nI r) < 0 := by decide +kernel
  exact this r h2 h1
section
variable {A D : HA} {a : Nat} {d : Nat → Nat} {σ : Rw} {X : Nat → Prop} {c bf L L' : Nat} {B : Nat → Nat}
theorem WLn.nx (h : WLn A a d σ) (hz : Zk A) (hw : Gw A D X) (hX : ∀ y, y < A.z → X y → KX (A.G y).1 ∨ (A.G y).1 = 1) : WLn D a d σ := by
  have hL := h.1.1
  have nf : ∀ y, Fp a d (rK σ) (rG σ) y → ¬ X y := fun y hy q => by
    rcases hX y (fp_lt hz hL hy) q with k | k
    · exact fp_kx hL h.2 hy k
    · have := fp_kind hL hy
      omega
  refine ⟨⟨ly_gw hz hL hw nf, lv_gw hz hL h.1.2.1 hw nf, h.1.2.2.gw hz hL hw (fun y hy q => ?_) (fun y hy => ((hw.2 y (fp_lt hz hL hy)).2.2 (nf y hy)).2.2)⟩, ?_, ?_⟩
  · have := hX y hy q
    unfold KX at this
    omega
  · rw [(hw.2 _ (fp_lt hz hL (y := d 21) (Or.inr (Or.inr (Or.inl (by simp)))))).1]; exact h.2.1
  · rw [(hw.2 _ (fp_lt hz hL (y := d 23) (Or.inr (Or.inr (Or.inl (by simp)))))).1]; exact h.2.2
theorem TxC.ml (h : TxC A c bf L B) (hl : L' ≤ L) (hz : Zk A) (hw : Gw A D X) (h2 : ¬ X bf) (e3 : D.R c 3 = A.R c 3) (e4 : D.I c 4 = nI L') : TxC D c bf L' B := by
  obtain ⟨q1, q2, q3, q4, q5, q6⟩ := h
  have l := hw.2 bf (hz.lt q2 rfl)
  exact ⟨e3.trans q1, by rw [l.1]; exact q2, l.2.1.trans q3, e4, fun k hk => by rw [(l.2.2 h2).2.1]; exact q5 k (by omega), by omega⟩
end
section
variable {g : GZ} {A B D : HA} {c t o a pq pe h bf ob v mo : Nat} {d f : Nat → Nat} {σ : Rw} {m : Nat} {P : Nat → Rw} {kp : Option Rw} {L : Nat} {Bf : Nat → Nat} {n0 : Nat} {fo : Nat → Nat} {e5 e6 : Int32} {X : Nat → Prop}
theorem WCx.kX3 (w : WCx g A c a pq pe h bf ob v mo d f σ m P kp L Bf n0 fo e5 e6) : ∀ y, (y = c ∨ y = pq ∨ y = pe) → (A.G y).1 = 14 ∨ (A.G y).1 = 502 ∨ (A.G y).1 = 1 := by
  rintro y (q | q | q) <;> rw [q]
  · exact Or.inr (Or.inr w.kc)
  · exact Or.inl w.deq.g
  · exact Or.inr (Or.inl w.deq.k)
theorem k3x {k : Nat} (h : k = 14 ∨ k = 502 ∨ k = 1) : KX k ∨ k = 1 := by unfold KX; omega
/-- a new lawn is the one that is now; the past, the error, the text's length may be others -/
theorem WCx.up {a' h' m' L' : Nat} {d' f' : Nat → Nat} {σ' : Rw} {P' : Nat → Rw} {e5' e6' : Int32} (w : WCx g A c a pq pe h bf ob v mo d f σ m P kp L Bf n0 fo e5 e6) (hz : Zk A) (hG : Gw A D (fun y => y = c ∨ y = pq ∨ y = pe))
    (hR : D.R c = va_up (A.R c) 0 (some a')) (hl : WLn D a' d' σ') (hr : RowN σ') (hq : DqV D pq pe h' m' f') (h8 : m' ≤ 8) (ho : ∀ i, i < m' → RowN (P' i) ∧ ∃ di, WLn D (f' i) di (P' i)) (hl4 : L' ≤ L) (e4 : D.I c 4 = nI L') (h5 : D.I c 5 = e5') (h6 : D.I c 6 = e6') :
    WCx g D c a' pq pe h' bf ob v mo d' f' σ' m' P' kp L' Bf n0 fo e5' e6' := by
  have lc := hz.lt w.kc rfl
  have hW : ∀ b db ρ, WLn A b db ρ → WLn D b db ρ := fun b db ρ q => q.nx hz hG (fun y _ q => k3x (w.kX3 y q))
  have nX : ∀ y k, (A.G y).1 = k → k ≠ 14 → k ≠ 502 → k ≠ 1 → ¬ (y = c ∨ y = pq ∨ y = pe) := fun y k e h1 h2 h3 q => by
    have := w.kX3 y q
    omega
  refine ⟨by rw [(hG.2 c lc).1]; exact w.kc, by rw [hR, va_up_self], hl, hr, by rw [hR, va_up_ne _ _ (by decide)]; exact w.past, hq, h8, ho, w.kept.mv (by rw [hR, va_up_ne _ _ (by decide)]) hW, w.txt.ml hl4 hz hG (nX bf 201 w.txt.2.1 (by decide) (by decide) (by decide)) (by rw [hR, va_up_ne _ _ (by decide)]) e4, by rw [hR, va_up_ne _ _ (by decide)]; exact w.outR, w.out.gwI hz hG (nX _ 15 w.out.1.1 (by decide) (by decide) (by decide)) (nX _ 230 w.out.1.2.2.1 (by decide) (by decide) (by decide)), w.outM, h5, h6, w.de.gw hz hG, w.ic.gw hz hG (fun y _ q => ?_)⟩
  have := w.kX3 y q
  omega
/-- what a change makes of the component -/
theorem WCx.chg {χ : Chg} {u : Int32} (w : WCx g A c a pq pe h bf ob v mo d f σ m P kp L Bf n0 fo e5 e6) (hz : Zk A) (hzo : Zo A) (hok : χ.ok σ) (hC : ChP A c a pq pe m f d σ (χ.C σ) u D) :
    u = (χ.C σ).1 ∧ ((¬ (χ.C σ).1 < 0 ∧ Gw A D (fun y => y = c ∨ y = pq ∨ y = pe) ∧ ∃ a' d' h', WCx g D c a' pq pe h' bf ob v mo d' (pastF f m a) (χ.C σ).2 (pastM m) (pastP P m σ) kp L Bf n0 fo e5 e6) ∨ ((χ.C σ).1 < 0 ∧ (χ.C σ).2 = σ ∧ Gw A D Non)) := by
  obtain ⟨hu, ⟨h0, w', B', F, d2, hCp, hN, ⟨hzF, hGF⟩, hR, hI, ⟨h', hq⟩, hG2, hz2⟩ | ⟨⟨r, r1, r2, e⟩, hG⟩⟩ := hC
  · refine ⟨hu, Or.inl ⟨fun q => ?_, ?_⟩⟩
    · rw [Int32.lt_iff_toInt_lt] at q
      rw [Int32.le_iff_toInt_le] at h0
      omega
    have eN : RowN (χ.C σ).2 := chg_N w.row hok
    have eK : rK (χ.C σ).2 = rK σ := by unfold rK; rw [chg_g w.row (Or.inr (Or.inl rfl))]
    have eG : rG (χ.C σ).2 = rG σ := by unfold rG; rw [chg_g w.row (Or.inl rfl)]
    have hWn : WLn F w' d2 (χ.C σ).2 := w.lawn.cp hz hzo hCp hN eK eG w.row.1.w.k6 w.row.1.w.g6 (fun j hj => chg_nm w.row hj)
    have lc := hz.lt w.kc rfl
    have kF : ∀ y, y < F.z → (y = c ∨ y = pq ∨ y = pe) → KX (F.G y).1 ∨ (F.G y).1 = 1 := fun y hy q => by
      have hyA : y < A.z := by
        rcases q with q | q | q <;> rw [q]
        · exact lc
        · exact hz.lt w.deq.g rfl
        · exact hz.lt w.deq.k rfl
      rw [(hGF.2 y hyA).1]
      exact k3x (w.kX3 y q)
    have hG : Gw A D (fun y => y = c ∨ y = pq ∨ y = pe) := (hGF.mono (fun _ _ q => q.elim)).tr hG2
    have hW : ∀ b db ρ, WLn A b db ρ → WLn D b db ρ := fun b db ρ q => q.nx hz hG (fun y _ q => k3x (w.kX3 y q))
    refine ⟨hG, w', d2, h', w.up hz hG hR (hWn.nx hzF hG2 kF) eN hq (past_le w.m8) (past_all (Q := fun ρ y => RowN ρ ∧ ∃ di, WLn D y di ρ) w.m8 (fun i hi => ⟨(w.old i hi).1, (w.old i hi).2.imp fun di q => hW _ _ _ q⟩) ⟨w.row, d, hW _ _ _ w.lawn⟩) (Nat.le_refl _) ?_ ?_ ?_⟩
    · rw [hI]; exact w.txt.2.2.2.1
    · rw [hI]; exact w.errC
    · rw [hI]; exact w.errP
  · refine ⟨hu, Or.inr ⟨?_, by rw [e], hG⟩⟩
    rw [e]
    exact neg_r r1 r2
/-- the reference has changed -/
theorem tc_ok {C : Int32 × Rw} {κ π : Rw} {x : Int32} {a' h' : Nat} {d' f' : Nat → Nat} (w : WCx g B c a' pq pe h' bf ob v mo d' f' C.2 (pastM m) (pastP P m σ) kp L Bf n0 fo e5 e6) (wt : WTx B t σ m P kp L Bf n0 fo e5 e6) (h8 : m ≤ 8) (hz : Zk B) (h1 : (B.G o).1 = 401) (h2 : B.n o = 1) (h0 : ¬ C.1 < 0) :
    (CH B t σ (B.I t) m C κ π x (nI 0)).I t 6 = nI 0 ∧ LwD g c t o B (CH B t σ (B.I t) m C κ π x (nI 0)) := by
  unfold CH
  rw [if_neg h0]
  refine ⟨by rw [S5_0, pk_un (by decide), pk_un (by decide), pk_us], ?_⟩
  refine tq_put w hz wt.tw h1 h2 ((gw_tI (i := 3) (by omega)).tr (gw_tI (i := 5) (by omega))) rfl rfl rfl (by exact wt.tw) ?_
  rw [sI_s, sI_o _ _ (show t + 2 ≠ t + 5 by omega), sI_o _ _ (show t + 2 ≠ t + 3 by omega), sI_o _ _ (show t + 8 ≠ t + 5 by omega), sI_o _ _ (show t + 8 ≠ t + 3 by omega), sI_o _ _ (show t + 10 ≠ t + 5 by omega), sI_o _ _ (show t + 10 ≠ t + 3 by omega)]
  have e : ∀ j, j ≠ 5 → j ≠ 6 → j ≠ 10 → upd (upd (upd (B.I t) 6 (nI 0)) 10 x) 5 (nI (pastM m)) j = B.I t j := fun j q1 q2 q3 => by rw [pk_un q1, pk_un q3, pk_un q2]
  exact ⟨pk_us, pastR_at h8 wt.old (fun j hj => cpy_e hj), wt.kept.cg (e 7 (by decide) (by decide) (by decide)), wt.buf, (e 12 (by decide) (by decide) (by decide)).trans wt.len, wt.out, (e 24 (by decide) (by decide) (by decide)).trans wt.outL, (e 18 (by decide) (by decide) (by decide)).trans wt.errC, (e 19 (by decide) (by decide) (by decide)).trans wt.errP⟩
theorem tc_ref {C : Int32 × Rw} {κ π : Rw} {x : Int32} (w : WCx g B c a pq pe h bf ob v mo d f σ m P kp L Bf n0 fo e5 e6) (wt : WTx B t σ m P kp L Bf n0 fo e5 e6) (hz : Zk B) (h1 : (B.G o).1 = 401) (h2 : B.n o = 1) (h0 : C.1 < 0) (e2 : C.2 = σ) :
    (CH B t σ (B.I t) m C κ π x (nI 0)).I t 6 = nI 0 ∧ LwD g c t o B (CH B t σ (B.I t) m C κ π x (nI 0)) := by
  unfold CH
  rw [if_pos h0, e2]
  refine ⟨by rw [S5_0, pk_un (by decide), pk_us], ?_⟩
  refine tq_put w hz wt.tw h1 h2 (gw_tI (i := 3) (by omega)) rfl rfl rfl (by exact wt.tw) ?_
  rw [sI_o _ _ (show t + 2 ≠ t + 3 by omega), sI_o _ _ (show t + 5 ≠ t + 3 by omega), sI_o _ _ (show t + 8 ≠ t + 3 by omega), sI_o _ _ (show t + 10 ≠ t + 3 by omega)]
  exact wt.f.cg (fun j hj => up2 (by omega) (by omega))
theorem tc_no {κ π : Rw} {thr : Int32} (w : WCx g B c a pq pe h bf ob v mo d f σ m P kp L Bf n0 fo e5 e6) (wt : WTx B t σ m P kp L Bf n0 fo e5 e6) (hz : Zk B) (h1 : (B.G o).1 = 401) (h2 : B.n o = 1) :
    (S5 B t σ κ π (upd (B.I t) 6 thr)).I t 6 = thr ∧ LwD g c t o B (S5 B t σ κ π (upd (B.I t) 6 thr)) :=
  ⟨by rw [S5_0, pk_us], tq_n w wt hz h1 h2 (fun j hj => pk_un (by omega))⟩
/-- a change, both sides -/
theorem lc_main {p : Prop} [Decidable p] {χ : Chg} {thr : Int32} {yw ym : MethodName} {cww cwm : Cond} {dm mc ms : Nat} {Aw As : List Value}
    (hw : Ct g wI yw cww 67 mc ms Aw A (fun u B => (u = nI 0 ∧ ∃ v D', (p ∧ ∃ D, (Zk D ∧ Zo D) ∧ Gw A D Non ∧ ChP D c a pq pe m f d σ (χ.C σ) v D') ∧ B = D'.sL o (va_up (D'.L o) 0 v.toInt64)) ∨ (∃ k, u = nI k ∧ 1 ≤ k ∧ k ≤ 2 ∧ thr = nI k ∧ ¬ p ∧ Gw A B Non)) fw_no)
    (hok : p → χ.ok σ) (w : WCx g A c a pq pe h bf ob v mo d f σ m P kp L Bf n0 fo e5 e6) (wt : WTx A t σ m P kp L Bf n0 fo e5 e6) (hz : Zk A) (h1 : (A.G o).1 = 401) (h2 : A.n o = 1)
    (hm : ∀ B, WTx B t σ m P kp L Bf n0 fo e5 e6 → fw_old g B → Ct g wI ym cwm dm 0 0 (.ref t :: As) B (fun u D => CP B t σ (B.I t) m p thr (χ.C σ) u D) fw_no) :
    Ct g wI yw cww 67 mc ms Aw A (fun u B => LwQ g c t o Int32.toInt64 ym cwm dm As u B) fw_no := by
  have lo := hz.lt h1 rfl
  refine hw.mono (fun u B hu => ?_) (fun _ _ z => z)
  rcases hu with ⟨rfl, x, D', ⟨hp, D, ⟨hzD, hzoD⟩, hGD, hC⟩, rfl⟩ | ⟨k, rfl, k1, k2, e, hp, hG⟩
  · have wD := w.gs hz (Gs.of hGD)
    have tD := wt.fr hz hGD (fun _ q => q.elim)
    have d1 : (D.G o).1 = 401 := by rw [(hGD.2 o lo).1]; exact h1
    have d2 : D.n o = 1 := by rw [(hGD.2 o lo).2.1]; exact h2
    have loD := hzD.lt d1 rfl
    obtain ⟨hu, hcase⟩ := wD.chg hzD hzoD (hok hp) hC
    refine ⟨(0, x), rfl, Nat.zero_le _, fun _ => by rw [sL_s, va_up_self], ?_, fun hzB hzo hold => ?_⟩
    · rcases hcase with ⟨-, hG3, -⟩ | ⟨-, -, hG3⟩
      · exact tw_g (tD.fr hzD hG3 (fun y q => by have := wD.kX3 y q; unfold TwW; omega)).tw
      · exact tw_g (tD.fr hzD hG3 (fun _ q => q.elim)).tw
    have hzD' : Zk D' := hzB
    rcases hcase with ⟨h0, hG3, a', d', h', wD'⟩ | ⟨h0, e2, hG3⟩
    · have d1' : (D'.G o).1 = 401 := by rw [(hG3.2 o loD).1]; exact d1
      have d2' : D'.n o = 1 := by rw [(hG3.2 o loD).2.1]; exact d2
      have tD' := tD.fr hzD hG3 (fun y q => by have := wD.kX3 y q; unfold TwW; omega)
      have wB := wD'.sL hzD' d1' (ff := va_up (D'.L o) 0 x.toInt64)
      have tB := tD'.sL hzD' d1' (ff := va_up (D'.L o) 0 x.toInt64)
      refine (hm _ tB hold).mono (fun u F hq => ?_) (fun _ _ z => z)
      obtain ⟨hq1, κ, π, y, rfl⟩ := hq.1 hp
      exact ⟨fun _ => hq1.trans hu.symm, tc_ok wB tB w.m8 hzB d1' d2' h0⟩
    · have d1' : (D'.G o).1 = 401 := by rw [(hG3.2 o loD).1]; exact d1
      have d2' : D'.n o = 1 := by rw [(hG3.2 o loD).2.1]; exact d2
      have wB := (wD.gs hzD (Gs.of hG3)).sL hzD' d1' (ff := va_up (D'.L o) 0 x.toInt64)
      have tB := (tD.fr hzD hG3 (fun _ q => q.elim)).sL hzD' d1' (ff := va_up (D'.L o) 0 x.toInt64)
      refine (hm _ tB hold).mono (fun u F hq => ?_) (fun _ _ z => z)
      obtain ⟨hq1, κ, π, y, rfl⟩ := hq.1 hp
      exact ⟨fun _ => hq1.trans hu.symm, tc_ref wB tB hzB d1' d2' h0 e2⟩
  · refine ⟨(k, nI 0), rfl, k2, fun z => absurd z (by show ¬ k = 0; omega), tw_g (wt.fr hz hG (fun _ q => q.elim)).tw, fun hzB hzo hold => ?_⟩
    have d1 : (B.G o).1 = 401 := by rw [(hG.2 o lo).1]; exact h1
    have d2 : B.n o = 1 := by rw [(hG.2 o lo).2.1]; exact h2
    have wB := w.gs hz (Gs.of hG)
    have tB := wt.fr hz hG (fun _ q => q.elim)
    refine (hm _ tB hold).mono (fun u F hq => ?_) (fun _ _ z => z)
    obtain ⟨hq1, κ, π, rfl⟩ := hq.2 hp
    rw [e]
    exact ⟨fun z => absurd z (by show ¬ k = 0; omega), tc_no wB tB hzB d1 d2⟩
end
