/-! THE WORLD, 6: questions, both sides -/
set_option maxRecDepth 100000
theorem up2 {τ : Rw} {x y : Int32} {j : Nat} (h6 : j ≠ 6) (h10 : j ≠ 10) : upd (upd τ 6 x) 10 y j = τ j := by rw [pk_un h10, pk_un h6]
theorem gw_sL {A : HA} {o : Nat} {ff : Nat → Int64} : Gw A (A.sL o ff) (fun y => y = o) := ⟨Nat.le_refl _, fun x _ => ⟨rfl, rfl, fun q => ⟨sL_o A ff q, rfl, rfl⟩⟩⟩
section
variable {g : GZ} {A B D : HA} {c t o a pq pe h bf ob v mo : Nat} {d f : Nat → Nat} {σ : Rw} {m : Nat} {P : Nat → Rw} {kp : Option Rw} {L : Nat} {Bf : Nat → Nat} {n0 : Nat} {fo : Nat → Nat} {e5 e6 : Int32}
theorem WCx.sL (w : WCx g A c a pq pe h bf ob v mo d f σ m P kp L Bf n0 fo e5 e6) (hz : Zk A) (h1 : (A.G o).1 = 401) {ff : Nat → Int64} : WCx g (A.sL o ff) c a pq pe h bf ob v mo d f σ m P kp L Bf n0 fo e5 e6 :=
  w.fr hz gw_sL (fun y q => by rw [q, h1]; unfold OutW; omega)
theorem WTx.sL (w : WTx A t σ m P kp L Bf n0 fo e5 e6) (hz : Zk A) (h1 : (A.G o).1 = 401) {ff : Nat → Int64} : WTx (A.sL o ff) t σ m P kp L Bf n0 fo e5 e6 :=
  w.fr hz gw_sL (fun y q => by rw [q, h1]; unfold TwW; omega)
/-- the reference's heap behind a call: the world -/
theorem tq_put {A' : HA} {σ' κ π τ' : Rw} (w : WCx g B c a pq pe h bf ob v mo d f σ' m P kp L Bf n0 fo e5 e6) (hz : Zk B) (hT : Tw B t) (h1 : (B.G o).1 = 401) (h2 : B.n o = 1) (hA : Gw B A' (TwA t)) (hG : A'.G = B.G) (hn : A'.n = B.n) (hLL : A'.L = B.L) (hT' : Tw A' t)
    (hf : WTf τ' (A'.I (t + 2)) (A'.I (t + 5)) (A'.I (t + 8)) (A'.I (t + 10)) m P kp L Bf n0 fo e5 e6) : LwD g c t o B (S5 A' t σ' κ π τ') :=
  ⟨hLL, σ', m, P, kp, L, Bf, n0, fo, e5, e6, ⟨a, pq, pe, h, bf, ob, v, mo, d, f, w.fr hz (gw_tS hA) (twA_k hT)⟩, WTx.of hT' hf, by rw [show (S5 A' t σ' κ π τ').G = B.G from hG]; exact h1, by rw [show (S5 A' t σ' κ π τ').n = B.n from hn]; exact h2⟩
/-- no array of the reference is written -/
theorem tq_n {κ π τ' : Rw} (w : WCx g B c a pq pe h bf ob v mo d f σ m P kp L Bf n0 fo e5 e6) (wt : WTx B t σ m P kp L Bf n0 fo e5 e6) (hz : Zk B) (h1 : (B.G o).1 = 401) (h2 : B.n o = 1)
    (e : ∀ j, (j = 5 ∨ j = 7 ∨ j = 12 ∨ j = 24 ∨ j = 18 ∨ j = 19) → τ' j = B.I t j) : LwD g c t o B (S5 B t σ κ π τ') :=
  tq_put w hz wt.tw h1 h2 Gw.rf rfl rfl rfl wt.tw (wt.f.cg e)
/-- the reference was asked -/
theorem tq_q {q : Nat × Int32} {u : Int32} (w : WCx g B c a pq pe h bf ob v mo d f σ m P kp L Bf n0 fo e5 e6) (wt : WTx B t σ m P kp L Bf n0 fo e5 e6) (hz : Zk B) (h1 : (B.G o).1 = 401) (h2 : B.n o = 1) (hq : QP B t σ (B.I t) q u D) :
    (q.1 = 0 → u = q.2) ∧ D.I t 6 = nI q.1 ∧ LwD g c t o B D := by
  obtain ⟨hu, α, κ, π, mm, rfl⟩ := hq
  refine ⟨fun _ => hu, by rw [S5_0, pk_un (by decide), pk_us], ?_⟩
  refine tq_put w hz wt.tw h1 h2 (gw_tI (i := 4) (by omega)) rfl rfl rfl (by exact wt.tw) ?_
  rw [sI_o B α (show t + 2 ≠ t + 4 by omega), sI_o B α (show t + 5 ≠ t + 4 by omega), sI_o B α (show t + 8 ≠ t + 4 by omega), sI_o B α (show t + 10 ≠ t + 4 by omega)]
  exact wt.f.cg (fun j hj => up2 (by omega) (by omega))
/-- what the law's wrapper owes: q = (what is thrown, answer) -/
def LwQ (g : GZ) (c t o : Nat) (lf : Int32 → Int64) (y : MethodName) (cw : Cond) (dd : Nat) (As : List Value) (u : Int32) (B : HA) : Prop := ∃ q : Nat × Int32, u = nI q.1 ∧ q.1 ≤ 2 ∧ (q.1 = 0 → B.L o 0 = lf q.2) ∧ (B.G t).1 = 6 ∧ TC g c t o y cw dd As q B
/-- a question with one check -/
theorem lq_one {p : Prop} [Decidable p] {ans : Int32} {lf : Int32 → Int64} {yw ym : MethodName} {cww cwm : Cond} {dm mc ms : Nat} {Aw As : List Value} {Po : Int32 → HA → Prop} {Px : Nat → HA → Prop}
    (hw : Ct g wI yw cww 67 mc ms Aw A (fun u B => (u = nI 0 ∧ ∃ v D, Po v D ∧ B = D.sL o (va_up (D.L o) 0 (lf v))) ∨ (∃ q, Px q B ∧ u = nI 1)) fw_no)
    (hPo : ∀ v D, Po v D → p ∧ v = ans ∧ Gs A D d) (hPx : ∀ q D, Px q D → ¬ p ∧ Gs A D d)
    (w : WCx g A c a pq pe h bf ob v mo d f σ m P kp L Bf n0 fo e5 e6) (wt : WTx A t σ m P kp L Bf n0 fo e5 e6) (hz : Zk A) (h1 : (A.G o).1 = 401) (h2 : A.n o = 1)
    (hm : ∀ B, WTx B t σ m P kp L Bf n0 fo e5 e6 → fw_old g B → Ct g wI ym cwm dm 0 0 (.ref t :: As) B (fun u D => QP B t σ (B.I t) (qOne p ans) u D) fw_no) :
    Ct g wI yw cww 67 mc ms Aw A (fun u B => LwQ g c t o lf ym cwm dm As u B) fw_no := by
  have hL := w.lawn.1.1
  have ks : ∀ y, Sc d y → ¬ TwW (A.G y).1 := fun y q => by
    have h9 : (A.G y).1 = 126 ∨ (A.G y).1 = 127 ∨ (A.G y).1 = 322 ∨ (A.G y).1 = 323 := by
      rcases q with q | q | q | q <;> rw [q]
      · rw [ly_gf hL 15 (by decide)]; decide
      · rw [ly_gf hL 16 (by decide)]; decide
      · rw [ly_gf hL 17 (by decide)]; decide
      · rw [ly_gf hL 18 (by decide)]; decide
    unfold TwW
    omega
  have lo := hz.lt h1 rfl
  refine hw.mono (fun u B hu => ?_) (fun _ _ z => z)
  rcases hu with ⟨rfl, x, D, hp, rfl⟩ | ⟨q, hp, rfl⟩
  · obtain ⟨hp1, hv, hG⟩ := hPo x D hp
    refine ⟨(0, x), rfl, Nat.zero_le _, fun _ => by rw [sL_s, va_up_self], tw_g (wt.fr hz hG.1 ks).tw, fun hzB hzo hold => ?_⟩
    have hzD : Zk D := hzB
    have d1 : (D.G o).1 = 401 := by rw [(hG.1.2 o lo).1]; exact h1
    have d2 : D.n o = 1 := by rw [(hG.1.2 o lo).2.1]; exact h2
    have wB := (w.gs hz hG).sL hzD d1 (ff := va_up (D.L o) 0 (lf x))
    have tB := (wt.fr hz hG.1 ks).sL hzD d1 (ff := va_up (D.L o) 0 (lf x))
    refine (hm _ tB hold).mono (fun u D' hq => ?_) (fun _ _ z => z)
    rw [show qOne p ans = (0, x) by rw [hv]; exact if_pos hp1] at hq
    exact tq_q wB tB hzB d1 d2 hq
  · obtain ⟨hp1, hG⟩ := hPx q B hp
    refine ⟨(1, nI 0), rfl, by decide, fun z => absurd z (by decide), tw_g (wt.fr hz hG.1 ks).tw, fun hzB hzo hold => ?_⟩
    have d1 : (B.G o).1 = 401 := by rw [(hG.1.2 o lo).1]; exact h1
    have d2 : B.n o = 1 := by rw [(hG.1.2 o lo).2.1]; exact h2
    have wB := w.gs hz hG
    have tB := wt.fr hz hG.1 ks
    refine (hm _ tB hold).mono (fun u D' hq => ?_) (fun _ _ z => z)
    rw [show qOne p ans = (1, nI 0) from if_neg hp1] at hq
    exact tq_q wB tB hzB d1 d2 hq
/-- a question with two checks -/
theorem lq_two {p r : Prop} [Decidable p] [Decidable r] {ans : Int32} {lf : Int32 → Int64} {yw ym : MethodName} {cww cwm : Cond} {dm mc ms : Nat} {Aw As : List Value} {Po : Int32 → HA → Prop} {Px : Nat → HA → Prop}
    (hw : Ct g wI yw cww 67 mc ms Aw A (fun u B => (u = nI 0 ∧ ∃ v D, Po v D ∧ B = D.sL o (va_up (D.L o) 0 (lf v))) ∨ (∃ q, Px q B ∧ (((B.G q).1 = 20 ∧ u = nI 1) ∨ ((B.G q).1 = 19 ∧ u = nI 2)))) fw_no)
    (hPo : ∀ v D, Po v D → p ∧ r ∧ v = ans ∧ Gs A D d) (hPx : ∀ q D, Px q D → T2 A D p r q)
    (w : WCx g A c a pq pe h bf ob v mo d f σ m P kp L Bf n0 fo e5 e6) (wt : WTx A t σ m P kp L Bf n0 fo e5 e6) (hz : Zk A) (h1 : (A.G o).1 = 401) (h2 : A.n o = 1)
    (hm : ∀ B, WTx B t σ m P kp L Bf n0 fo e5 e6 → fw_old g B → Ct g wI ym cwm dm 0 0 (.ref t :: As) B (fun u D => QP B t σ (B.I t) (qTwo p r ans) u D) fw_no) :
    Ct g wI yw cww 67 mc ms Aw A (fun u B => LwQ g c t o lf ym cwm dm As u B) fw_no := by
  have hL := w.lawn.1.1
  have ks : ∀ y, Sc d y → ¬ TwW (A.G y).1 := fun y q => by
    have h9 : (A.G y).1 = 126 ∨ (A.G y).1 = 127 ∨ (A.G y).1 = 322 ∨ (A.G y).1 = 323 := by
      rcases q with q | q | q | q <;> rw [q]
      · rw [ly_gf hL 15 (by decide)]; decide
      · rw [ly_gf hL 16 (by decide)]; decide
      · rw [ly_gf hL 17 (by decide)]; decide
      · rw [ly_gf hL 18 (by decide)]; decide
    unfold TwW
    omega
  have lo := hz.lt h1 rfl
  have bad : ∀ (B : HA) (k : Nat), Gs A B d → qTwo p r ans = (k, nI 0) → k ≤ 2 → k ≠ 0 → LwQ g c t o lf ym cwm dm As (nI k) B := fun B k hG e hk2 hk0 => by
    refine ⟨(k, nI 0), rfl, hk2, fun z => absurd z hk0, tw_g (wt.fr hz hG.1 ks).tw, fun hzB hzo hold => ?_⟩
    have d1 : (B.G o).1 = 401 := by rw [(hG.1.2 o lo).1]; exact h1
    have d2 : B.n o = 1 := by rw [(hG.1.2 o lo).2.1]; exact h2
    have wB := w.gs hz hG
    have tB := wt.fr hz hG.1 ks
    refine (hm _ tB hold).mono (fun u D' hq => ?_) (fun _ _ z => z)
    rw [e] at hq
    exact tq_q wB tB hzB d1 d2 hq
  refine hw.mono (fun u B hu => ?_) (fun _ _ z => z)
  rcases hu with ⟨rfl, x, D, hp, rfl⟩ | ⟨q, hp, hk⟩
  · obtain ⟨hp1, hp2, hv, hG⟩ := hPo x D hp
    refine ⟨(0, x), rfl, Nat.zero_le _, fun _ => by rw [sL_s, va_up_self], tw_g (wt.fr hz hG.1 ks).tw, fun hzB hzo hold => ?_⟩
    have hzD : Zk D := hzB
    have d1 : (D.G o).1 = 401 := by rw [(hG.1.2 o lo).1]; exact h1
    have d2 : D.n o = 1 := by rw [(hG.1.2 o lo).2.1]; exact h2
    have wB := (w.gs hz hG).sL hzD d1 (ff := va_up (D.L o) 0 (lf x))
    have tB := (wt.fr hz hG.1 ks).sL hzD d1 (ff := va_up (D.L o) 0 (lf x))
    refine (hm _ tB hold).mono (fun u D' hq => ?_) (fun _ _ z => z)
    rw [show qTwo p r ans = (0, x) by rw [hv]; unfold qTwo; rw [if_pos hp1, if_pos hp2]] at hq
    exact tq_q wB tB hzB d1 d2 hq
  · rcases hPx q B hp with ⟨hp1, hT1, hT2⟩ | ⟨hp1, hp2, hT1, hT2⟩
    · rcases hk with ⟨-, rfl⟩ | ⟨hk, -⟩
      · exact bad B 1 (Gs.of hT2) (by unfold qTwo; rw [if_neg hp1]) (by decide) (by decide)
      · rw [hT1] at hk; cases hk
    · rcases hk with ⟨hk, -⟩ | ⟨-, rfl⟩
      · rw [hT1] at hk; cases hk
      · exact bad B 2 (Gs.of hT2) (by unfold qTwo; rw [if_pos hp1, if_neg hp2]) (by decide) (by decide)
/-- a question that throws nothing; any return -/
theorem lq_no {ρ : Type} {ww : ρ → Option Value} {ans : ρ} {yc ym : MethodName} {cwc cwm : Cond} {dc dm mc ms : Nat} {As Ac : List Value} {Po : ρ → HA → Prop} {Pm : HA → ρ → HA → Prop}
    (hw : Ct g ww yc cwc dc mc ms Ac A Po fw_no) (hPo : ∀ u D, Po u D → u = ans ∧ Gs A D d)
    (w : WCx g A c a pq pe h bf ob v mo d f σ m P kp L Bf n0 fo e5 e6) (wt : WTx A t σ m P kp L Bf n0 fo e5 e6) (hz : Zk A) (h1 : (A.G o).1 = 401) (h2 : A.n o = 1)
    (hm : ∀ B, WTx B t σ m P kp L Bf n0 fo e5 e6 → fw_old g B → Ct g ww ym cwm dm 0 0 (.ref t :: As) B (Pm B) fw_no)
    (hq : ∀ B u D, WCx g B c a pq pe h bf ob v mo d f σ m P kp L Bf n0 fo e5 e6 → WTx B t σ m P kp L Bf n0 fo e5 e6 → Zk B → (B.G o).1 = 401 → B.n o = 1 → Pm B u D → u = ans ∧ LwD g c t o B D) :
    Ct g ww yc cwc dc mc ms Ac A (fun u B => u = ans ∧ (B.G t).1 = 6 ∧ (Zk B → Zo B → fw_old g B → Ct g ww ym cwm dm 0 0 (.ref t :: As) B (fun u D => u = ans ∧ LwD g c t o B D) fw_no)) fw_no := by
  have hL := w.lawn.1.1
  have ks : ∀ y, Sc d y → ¬ TwW (A.G y).1 := fun y q => by
    have h9 : (A.G y).1 = 126 ∨ (A.G y).1 = 127 ∨ (A.G y).1 = 322 ∨ (A.G y).1 = 323 := by
      rcases q with q | q | q | q <;> rw [q]
      · rw [ly_gf hL 15 (by decide)]; decide
      · rw [ly_gf hL 16 (by decide)]; decide
      · rw [ly_gf hL 17 (by decide)]; decide
      · rw [ly_gf hL 18 (by decide)]; decide
    unfold TwW
    omega
  have lo := hz.lt h1 rfl
  refine hw.mono (fun u B hu => ?_) (fun _ _ z => z)
  obtain ⟨hv, hG⟩ := hPo u B hu
  refine ⟨hv, tw_g (wt.fr hz hG.1 ks).tw, fun hzB hzo hold => ?_⟩
  have d1 : (B.G o).1 = 401 := by rw [(hG.1.2 o lo).1]; exact h1
  have d2 : B.n o = 1 := by rw [(hG.1.2 o lo).2.1]; exact h2
  have wB := w.gs hz hG
  have tB := wt.fr hz hG.1 ks
  exact (hm _ tB hold).mono (fun u D' z => hq _ _ _ wB tB hzB d1 d2 z) (fun _ _ z => z)
end
