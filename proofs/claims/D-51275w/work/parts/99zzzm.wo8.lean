/-! THE WORLD, 8: calls that change more, both sides -/
set_option maxRecDepth 100000
/-- no cell of the reference is written -/
def FrT (A D : HA) : Prop := ∃ X : Nat → Prop, Gw A D X ∧ ∀ y, X y → ¬ TwW (A.G y).1
section
variable {A D : HA} {t o : Nat} {σ : Rw} {m : Nat} {P : Nat → Rw} {kp : Option Rw} {L : Nat} {Bf : Nat → Nat} {n0 : Nat} {fo : Nat → Nat} {e5 e6 : Int32}
theorem twA_w (hT : Tw A t) {i : Nat} (hi : i ≤ 10) : TwW (A.G (t + i)).1 := by
  unfold TwW
  have h : i = 0 ∨ i = 1 ∨ i = 2 ∨ i = 3 ∨ i = 4 ∨ i = 5 ∨ i = 6 ∨ i = 7 ∨ i = 8 ∨ i = 9 ∨ i = 10 := by omega
  rcases h with e | e | e | e | e | e | e | e | e | e | e <;> subst e
  · have := tw_g hT; exact Or.inl this
  · rw [tw_g1 hT]; omega
  · rw [tw_g2 hT]; omega
  · rw [tw_g3 hT]; omega
  · rw [tw_g4 hT]; omega
  · rw [tw_g5 hT]; omega
  · rw [tw_g6 hT]; omega
  · rw [tw_g7 hT]; omega
  · rw [tw_g8 hT]; omega
  · rw [tw_g9 hT]; omega
  · rw [tw_g10 hT]; omega
theorem twI (hT : Tw A t) (hz : Zk A) (hF : FrT A D) : ∀ i, i ≤ 10 → D.I (t + i) = A.I (t + i) := by
  intro i hi
  obtain ⟨X, hG, hX⟩ := hF
  have k := twA_w hT hi
  have l : t + i < A.z := by
    rcases Nat.lt_or_ge (t + i) A.z with q | q
    · exact q
    · have := hz _ q
      unfold TwW at k
      omega
  exact ((hG.2 _ l).2.2 (fun q => hX _ q k)).2.1
theorem WTx.frT (w : WTx A t σ m P kp L Bf n0 fo e5 e6) (hz : Zk A) (hF : FrT A D) : WTx D t σ m P kp L Bf n0 fo e5 e6 := by
  obtain ⟨X, hG, hX⟩ := hF
  exact w.fr hz hG hX
theorem FrT.oo (hF : FrT A D) (lo : o < A.z) (h1 : (A.G o).1 = 401) (h2 : A.n o = 1) : (D.G o).1 = 401 ∧ D.n o = 1 := by
  obtain ⟨X, hG, hX⟩ := hF
  exact ⟨by rw [(hG.2 o lo).1]; exact h1, by rw [(hG.2 o lo).2.1]; exact h2⟩
theorem FrT.gs {a : Nat} {d : Nat → Nat} (hL : Ly A a d σ) (hG : Gs A D d) : FrT A D := by
  refine ⟨Sc d, hG.1, fun y q => ?_⟩
  have h9 : (A.G y).1 = 126 ∨ (A.G y).1 = 127 ∨ (A.G y).1 = 322 ∨ (A.G y).1 = 323 := by
    rcases q with q | q | q | q <;> rw [q]
    · rw [ly_gf hL 15 (by decide)]; decide
    · rw [ly_gf hL 16 (by decide)]; decide
    · rw [ly_gf hL 17 (by decide)]; decide
    · rw [ly_gf hL 18 (by decide)]; decide
  unfold TwW
  omega
theorem FrT.no (h : Gw A D Non) : FrT A D := ⟨Non, h, fun _ q => q.elim⟩
end
/-- the component in some layout -/
def WCs (g : GZ) (c : Nat) (σ : Rw) (m : Nat) (P : Nat → Rw) (kp : Option Rw) (L : Nat) (Bf : Nat → Nat) (n0 : Nat) (fo : Nat → Nat) (e5 e6 : Int32) (A : HA) : Prop := ∃ (a pq pe h bf ob v mo : Nat) (d f : Nat → Nat), WCx g A c a pq pe h bf ob v mo d f σ m P kp L Bf n0 fo e5 e6
section
variable {g : GZ} {A : HA} {c t o : Nat} {σ : Rw} {m : Nat} {P : Nat → Rw} {kp : Option Rw} {L : Nat} {Bf : Nat → Nat} {n0 : Nat} {fo : Nat → Nat} {e5 e6 : Int32}
theorem WCs.sL (w : WCs g c σ m P kp L Bf n0 fo e5 e6 A) (hz : Zk A) (h1 : (A.G o).1 = 401) {ff : Nat → Int64} : WCs g c σ m P kp L Bf n0 fo e5 e6 (A.sL o ff) := by
  obtain ⟨a, pq, pe, h, bf, ob, v, mo, d, f, w⟩ := w
  exact ⟨a, pq, pe, h, bf, ob, v, mo, d, f, w.sL hz h1⟩
/-- a wrapped call with one way to fail -/
theorem lg_one {ok : Prop} {ans : Int32} {Wy Wn : HA → Prop} {yw ym : MethodName} {cww cwm : Cond} {dm mc ms : Nat} {Aw As : List Value} {Po : Int32 → HA → Prop} {Px : Nat → HA → Prop} {Pm : HA → Int32 → HA → Prop}
    (hw : Ct g wI yw cww 67 mc ms Aw A (fun u B => (u = nI 0 ∧ ∃ v D, Po v D ∧ B = D.sL o (va_up (D.L o) 0 v.toInt64)) ∨ (∃ q, Px q B ∧ u = nI 1)) fw_no)
    (hPo : ∀ v D, Po v D → ok ∧ v = ans ∧ Wy D ∧ FrT A D) (hPx : ∀ q D, Px q D → ¬ ok ∧ Wn D ∧ FrT A D)
    (hfy : ∀ D ff, Wy D → Zk D → (D.G o).1 = 401 → Wy (D.sL o ff))
    (wt : WTx A t σ m P kp L Bf n0 fo e5 e6) (hz : Zk A) (h1 : (A.G o).1 = 401) (h2 : A.n o = 1)
    (hm : ∀ B, WTx B t σ m P kp L Bf n0 fo e5 e6 → fw_old g B → (∀ i, i ≤ 10 → B.I (t + i) = A.I (t + i)) → Ct g wI ym cwm dm 0 0 (.ref t :: As) B (Pm B) fw_no)
    (hyes : ok → ∀ B u D, WTx B t σ m P kp L Bf n0 fo e5 e6 → (∀ i, i ≤ 10 → B.I (t + i) = A.I (t + i)) → Wy B → Zk B → (B.G o).1 = 401 → B.n o = 1 → Pm B u D → u = ans ∧ D.I t 6 = nI 0 ∧ LwD g c t o B D)
    (hno : ¬ ok → ∀ B u D, WTx B t σ m P kp L Bf n0 fo e5 e6 → (∀ i, i ≤ 10 → B.I (t + i) = A.I (t + i)) → Wn B → Zk B → (B.G o).1 = 401 → B.n o = 1 → Pm B u D → D.I t 6 = nI 1 ∧ LwD g c t o B D) :
    Ct g wI yw cww 67 mc ms Aw A (fun u B => LwQ g c t o Int32.toInt64 ym cwm dm As u B) fw_no := by
  have lo := hz.lt h1 rfl
  refine hw.mono (fun u B hu => ?_) (fun _ _ z => z)
  rcases hu with ⟨rfl, x, D, hp, rfl⟩ | ⟨q, hp, rfl⟩
  · obtain ⟨hok, hv, hW, hF⟩ := hPo x D hp
    refine ⟨(0, x), rfl, Nat.zero_le _, fun _ => by rw [sL_s, va_up_self], tw_g (wt.frT hz hF).tw, fun hzB hzo hold => ?_⟩
    have hzD : Zk D := hzB
    obtain ⟨d1, d2⟩ := hF.oo lo h1 h2
    have tB := (wt.frT hz hF).sL hzD d1 (ff := va_up (D.L o) 0 x.toInt64)
    have eI := twI wt.tw hz hF
    refine (hm _ tB hold (fun i hi => eI i hi)).mono (fun u F hq => ?_) (fun _ _ z => z)
    have h9 := hyes hok _ u F tB (fun i hi => eI i hi) (hfy D _ hW hzD d1) hzB d1 d2 hq
    exact ⟨fun _ => h9.1.trans hv.symm, h9.2⟩
  · obtain ⟨hok, hW, hF⟩ := hPx q B hp
    refine ⟨(1, nI 0), rfl, by decide, fun z => absurd z (by decide), tw_g (wt.frT hz hF).tw, fun hzB hzo hold => ?_⟩
    obtain ⟨d1, d2⟩ := hF.oo lo h1 h2
    have tB := wt.frT hz hF
    have eI := twI wt.tw hz hF
    refine (hm _ tB hold eI).mono (fun u F hq => ?_) (fun _ _ z => z)
    exact ⟨fun z => absurd z (by decide), hno hok _ u F tB eI hW hzB d1 d2 hq⟩
/-- a call without a wrapper -/
theorem lg_no {ans : Int32} {Wy : HA → Prop} {yc ym : MethodName} {cwc cwm : Cond} {dc dm mc ms : Nat} {Ac As : List Value} {Po : Int32 → HA → Prop} {Pm : HA → Int32 → HA → Prop}
    (hw : Ct g wI yc cwc dc mc ms Ac A Po fw_no) (hPo : ∀ v D, Po v D → v = ans ∧ Wy D ∧ FrT A D)
    (wt : WTx A t σ m P kp L Bf n0 fo e5 e6) (hz : Zk A) (h1 : (A.G o).1 = 401) (h2 : A.n o = 1)
    (hm : ∀ B, WTx B t σ m P kp L Bf n0 fo e5 e6 → fw_old g B → (∀ i, i ≤ 10 → B.I (t + i) = A.I (t + i)) → Ct g wI ym cwm dm 0 0 (.ref t :: As) B (Pm B) fw_no)
    (hyes : ∀ B u D, WTx B t σ m P kp L Bf n0 fo e5 e6 → (∀ i, i ≤ 10 → B.I (t + i) = A.I (t + i)) → Wy B → Zk B → (B.G o).1 = 401 → B.n o = 1 → Pm B u D → u = ans ∧ LwD g c t o B D) :
    Ct g wI yc cwc dc mc ms Ac A (fun u B => ∃ ans : Int32, u = ans ∧ (B.G t).1 = 6 ∧ (Zk B → Zo B → fw_old g B → Ct g wI ym cwm dm 0 0 (.ref t :: As) B (fun u D => u = ans ∧ LwD g c t o B D) fw_no)) fw_no := by
  have lo := hz.lt h1 rfl
  refine hw.mono (fun u B hu => ?_) (fun _ _ z => z)
  obtain ⟨hv, hW, hF⟩ := hPo u B hu
  refine ⟨ans, hv, tw_g (wt.frT hz hF).tw, fun hzB hzo hold => ?_⟩
  obtain ⟨d1, d2⟩ := hF.oo lo h1 h2
  have tB := wt.frT hz hF
  have eI := twI wt.tw hz hF
  exact (hm _ tB hold eI).mono (fun u F hq => hyes _ u F tB eI hW hzB d1 d2 hq) (fun _ _ z => z)
end
theorem va_up_id {α : Type} {f : Nat → α} {k : Nat} {x : α} (h : f k = x) : f = va_up f k x := by
  funext j
  by_cases q : j = k
  · rw [q, va_up_self]; exact h
  · rw [va_up_ne _ _ q]
theorem ntz_n (x : Int32) : nI x.toBitVec.toNat = x := Int32.toBitVec_inj.mp (BitVec.eq_of_toNat_eq (pk_tn x.toBitVec.isLt))
theorem stT_o {τ : Rw} {a gb w e j : Nat} {ep : Int32} (h : j < 13 ∨ 17 < j) : stT τ a gb w e ep j = τ j := by
  unfold stT
  rw [if_neg (by omega), if_neg (by omega), if_neg (by omega), if_neg (by omega), if_neg (by omega)]
theorem stT_self (τ : Rw) : stT τ (τ 13).toBitVec.toNat (τ 14).toBitVec.toNat (τ 15).toBitVec.toNat (τ 16).toBitVec.toNat (τ 17) = τ := by
  funext j
  unfold stT
  rw [ntz_n, ntz_n, ntz_n, ntz_n]
  by_cases h13 : j = 13
  · rw [if_pos h13, h13]
  · rw [if_neg h13]
    by_cases h14 : j = 14
    · rw [if_pos h14, h14]
    · rw [if_neg h14]
      by_cases h15 : j = 15
      · rw [if_pos h15, h15]
      · rw [if_neg h15]
        by_cases h16 : j = 16
        · rw [if_pos h16, h16]
        · rw [if_neg h16]
          by_cases h17 : j = 17
          · rw [if_pos h17, h17]
          · rw [if_neg h17]
theorem and_255 (x : Int32) : ∃ n, n ≤ 255 ∧ x &&& nI 255 = nI n := by
  refine ⟨x.toBitVec.toNat % 256, by omega, Int32.toBitVec_inj.mp (BitVec.eq_of_toNat_eq ?_)⟩
  rw [Int32.toBitVec_and, BitVec.toNat_and, pk_tn (show 255 < 2 ^ 32 by decide), pk_tn (show x.toBitVec.toNat % 256 < 2 ^ 32 by omega)]
  exact Nat.and_two_pow_sub_one_eq_mod _ 8
/-- bytes -/
def byR (f : Rw) (L : Nat) : Prop := ∀ k, k < L → ∃ n, n ≤ 255 ∧ f k = nI n
theorem byR.up {f : Rw} {L : Nat} (h : byR f L) (x : Int32) : byR (upd f L (x &&& nI 255)) (L + 1) := fun k hk => by
  by_cases q : k = L
  · obtain ⟨n, h1, h2⟩ := and_255 x
    exact ⟨n, h1, by rw [q, pk_us]; exact h2⟩
  · rw [pk_un q]; exact h k (by omega)
theorem four_by {f : Rw} {L : Nat} {v : Int32} (h : byR f L) : byR (fourB f L v) (L + 1 + 1 + 1 + 1) := (((h.up _).up _).up _).up _
theorem fiv_by {f : Rw} {L : Nat} {va vb vc vd ve : Int32} (h : byR f L) : byR (fivB f L va vb vc vd ve) (L + 20) := four_by (four_by (four_by (four_by (four_by h))))
theorem up_cg {f h : Rw} {L : Nat} (e : ∀ k, k < L → f k = h k) (x : Int32) : ∀ k, k < L + 1 → upd f L x k = upd h L x k := fun k hk => by
  by_cases q : k = L
  · rw [q, pk_us, pk_us]
  · rw [pk_un q, pk_un q]; exact e k (by omega)
theorem four_cg {f h : Rw} {L : Nat} {v : Int32} (e : ∀ k, k < L → f k = h k) : ∀ k, k < L + 1 + 1 + 1 + 1 → fourB f L v k = fourB h L v k := up_cg (up_cg (up_cg (up_cg e _) _) _) _
theorem fiv_cg {f h : Rw} {L : Nat} {va vb vc vd ve : Int32} (e : ∀ k, k < L → f k = h k) : ∀ k, k < L + 20 → fivB f L va vb vc vd ve k = fivB h L va vb vc vd ve k := four_cg (four_cg (four_cg (four_cg (four_cg e))))
/-- the text with 20 bytes more -/
def apB (B : Nat → Nat) (L : Nat) (va vb vc vd ve : Int32) (k : Nat) : Nat := nt (fivB (fun j => nI (B j)) L va vb vc vd ve k)
theorem apB_n {B : Nat → Nat} {L : Nat} {va vb vc vd ve : Int32} (h : ∀ k, k < L → B k ≤ 255) {k : Nat} (hk : k < L + 20) : fivB (fun j => nI (B j)) L va vb vc vd ve k = nI (apB B L va vb vc vd ve k) ∧ apB B L va vb vc vd ve k ≤ 255 := by
  obtain ⟨n, h1, h2⟩ := fiv_by (va := va) (vb := vb) (vc := vc) (vd := vd) (ve := ve) (show byR (fun j => nI (B j)) L from fun k hk => ⟨B k, h k hk, rfl⟩) k hk
  have e : apB B L va vb vc vd ve k = n := by unfold apB; rw [h2]; exact nt_n (by omega)
  rw [e]
  exact ⟨h2, h1⟩
theorem apB_buf {φ : Rw} {B : Nat → Nat} {L : Nat} {va vb vc vd ve : Int32} (h : BufI φ B L) (h9 : L + 20 ≤ 900) : BufI (fivB φ L va vb vc vd ve) (apB B L va vb vc vd ve) (L + 20) := by
  refine ⟨h9, fun k hk => ?_⟩
  obtain ⟨h1, h2⟩ := apB_n (va := va) (vb := vb) (vc := vc) (vd := vd) (ve := ve) (fun k hk => (h.2 k hk).2) hk
  exact ⟨(fiv_cg (fun k hk => (h.2 k hk).1) k hk).trans h1, h2⟩
theorem apB_sg {ψ : Rw} {B : Nat → Nat} {L : Nat} {va vb vc vd ve : Int32} (h : ∀ k, k < L → ψ k = sgB (B k) ∧ B k ≤ 255) : ∀ k, k < L + 20 → fivC ψ L va vb vc vd ve k = sgB (apB B L va vb vc vd ve k) ∧ apB B L va vb vc vd ve k ≤ 255 := by
  intro k hk
  obtain ⟨h1, h2⟩ := apB_n (va := va) (vb := vb) (vc := vc) (vd := vd) (ve := ve) (fun k hk => (h k hk).2) hk
  refine ⟨?_, h2⟩
  have h3 := fiv_rel (va := va) (vb := vb) (vc := vc) (vd := vd) (ve := ve) (show relB ψ (fun j => nI (B j)) L from fun k hk => (h k hk).1) k hk
  rw [h3, h1]
  rfl
