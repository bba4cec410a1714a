/-! THE COMPONENT, 12: sizes, the output text, names found -/
set_option maxRecDepth 100000
/-- kinds that the component writes, beside its lawns -/
def KX (k : Nat) : Prop := k = 14 ∨ k = 15 ∨ k = 201 ∨ k = 230 ∨ k = 502
/-- a lawn's lists don't stand in the past -/
def LyX (A : HA) (d : Nat → Nat) : Prop := (A.G (d 21)).1 ≠ 502 ∧ (A.G (d 23)).1 ≠ 502
theorem lyK_r : ∀ f, f < 19 → arrF f → (121 ≤ lyK f ∧ lyK f ≤ 127) ∨ (321 ≤ lyK f ∧ lyK f ≤ 323) := by decide
theorem fp_kx {A : HA} {a : Nat} {d : Nat → Nat} {C K N y : Nat} (hL : Ly0 A.G A.R A.n a d C K N) (hX : LyX A d) (h : Fp a d K N y) : ¬ KX (A.G y).1 := by
  have ob : ∀ x, isObA (A.G x).1 = true → (A.G x).1 ≠ 502 → ¬ KX (A.G x).1 := fun x h1 h2 => by
    have h3 := isObA_k h1
    simp only [isObA, Bool.and_eq_true, decide_eq_true_eq] at h1
    unfold KX
    omega
  unfold KX
  rcases h with e | ⟨f, hf, e⟩ | e | ⟨k, hk, e⟩ | ⟨r, hr, e⟩
  · rw [e, ly_g hL]; omega
  · rw [e, ly_gf hL f hf]
    have := lyK_r f (by omega) hf
    omega
  · rcases e with e | e | e | e | e | e <;> rw [e]
    · rw [ly_g11 hL]; omega
    · rw [ly_g12 hL]; omega
    · rw [ly_g20 hL]; omega
    · exact ob _ (ly_g21 hL) hX.1
    · rw [ly_g22 hL]; omega
    · exact ob _ (ly_g23 hL) hX.2
  · rw [e, (ly_w hL hk).2]; omega
  · rw [e, (ly_t hL hr).2]; omega
theorem StrV.gw {A B : HA} {X : Nat → Prop} {a v n : Nat} {f : Nat → Nat} (h : StrV A a v f n) (hz : Zk A) (hw : Gw A B X) (h1 : ¬ X a) (h2 : ¬ X v) : StrV B a v f n := by
  have la := hz.lt h.g rfl
  have hk := h.k
  have lv : v < A.z := by
    rcases Nat.lt_or_ge v A.z with q | q
    · exact q
    · have h9 := hz v q
      simp only [isBy, Bool.and_eq_true, decide_eq_true_eq] at hk
      omega
  obtain ⟨e1, e2, e3⟩ := hw.2 a la
  obtain ⟨e4, e5, e6⟩ := hw.2 v lv
  obtain ⟨-, e7, e8⟩ := e3 h1
  obtain ⟨-, e9, -⟩ := e6 h2
  exact ⟨by rw [e1]; exact h.g, by rw [e8]; exact h.r, by rw [e4]; exact h.k, by rw [e5]; exact h.n', h.l, fun k hk => by rw [e9]; exact h.2.2.2.2.2.1 k hk, by rw [e7]; exact h.c⟩
/-- what may be changed so that names stay -/
def NX (A : HA) (X : Nat → Prop) : Prop := ∀ y, y < A.z → X y → (A.G y).1 ≠ 16 ∧ (A.G y).1 ≠ 200 ∧ (A.G y).1 ≠ 231
theorem NmS.gw {A B : HA} {X : Nat → Prop} {nm f : Nat} {σ : Rw} (h : NmS A nm σ f) (hz : Zk A) (hw : Gw A B X) (hX : NX A X) : NmS B nm σ f := by
  obtain ⟨v, l, n, h1, h2, ⟨h3, h4, h5⟩, h6⟩ := h
  have la := hz.lt h1.g rfl
  have lv : v < A.z := by
    rcases Nat.lt_or_ge v A.z with q | q
    · exact q
    · have h9 := hz v q
      omega
  refine ⟨v, l, n, h1.gw hz hw (fun q => (hX _ la q).1 h1.g) (fun q => ?_), h2, ⟨h3, h4, by rw [(hw.2 v lv).1]; exact h5⟩, h6⟩
  have := hX _ lv q
  omega
theorem NmK.gw {A B : HA} {X : Nat → Prop} {a : Nat} {d : Nat → Nat} {σ : Rw} (h : NmK A d σ) (hz : Zk A) (hL : Ly A a d σ) (hw : Gw A B X) (hX : NX A X) (hR : ∀ y, Fp a d (rK σ) (rG σ) y → B.R y = A.R y) : NmK B d σ := by
  refine ⟨fun k hk => ?_, fun r hr => ?_⟩
  · obtain ⟨nm, h1, h2⟩ := h.1 k hk
    exact ⟨nm, by rw [hR _ (Or.inr (Or.inr (Or.inr (Or.inl ⟨k, hk, rfl⟩))))]; exact h1, h2.gw hz hw hX⟩
  · obtain ⟨nm, h1, h2⟩ := h.2 r hr
    exact ⟨nm, by rw [hR _ (Or.inr (Or.inr (Or.inr (Or.inr ⟨r, hr, rfl⟩))))]; exact h1, h2.gw hz hw hX⟩
def mkN (σ : Rw) (c : Nat) : Nat := if σ (153 + 5 * c + 0) = 0 then (if fenced σ c then 70 else 48 + cGr σ c) else if σ (153 + 5 * c + 0) = nI 2 then 71 else 83
theorem mkN_le {σ : Rw} {c : Nat} (h : cGr σ c ≤ 9) : mkN σ c ≤ 127 := by
  unfold mkN
  split
  · split <;> omega
  · split <;> omega
theorem markR_n {σ : Rw} {c : Nat} (h : σ (153 + 5 * c + 1) = nI (cGr σ c)) : markR σ c = nI (mkN σ c) := by
  unfold markR mkN
  split
  · split
    · rfl
    · rw [h, nI_add]
  · split <;> rfl
theorem ag_up {o : Rw} {f : Nat → Nat} {n c : Nat} (h : ∀ i, i < n → o i = nI (f i)) : ∀ i, i < n + 1 → upd o n (nI c) i = nI (lower f n c i) := fun i hi => by
  by_cases q : i = n
  · subst q; rw [pk_us, lower_s]
  · rw [pk_un q, lower_o _ _ q]; exact h i (by omega)
def sgB (b : Nat) : Int32 := (nI b).toInt8.toInt32
theorem sg_in {b : Nat} (h : b ≤ 255) : (inZ (sgB b) 97 122 ↔ isLe b = true) ∧ (isLe b = true → sgB b = nI b) := by
  have : ∀ b, b < 256 → (decide (inZ (sgB b) 97 122) = isLe b ∧ (isLe b = true → sgB b = nI b)) := by decide +kernel
  have h1 := this b (by omega)
  refine ⟨?_, h1.2⟩
  rw [← h1.1, decide_eq_true_iff]
theorem le_r {b : Nat} (h : isLe b = true) : 97 ≤ b ∧ b ≤ 122 := of_decide_eq_true h
/-- the name that is the whole buffer, as the component finds it -/
def fdC (σ : Rw) (B : Nat → Nat) (L : Nat) (q : Prop) [Decidable q] : Int32 := if allD (fun j => isLe (B j)) (min L 7) = true then oI (hereR σ B q 0 (min L 7)) else -1
theorem allD_i {f : Nat → Bool} : ∀ n, allD f n = true ↔ ∀ k, k < n → f k = true
  | 0 => ⟨fun _ k h => absurd h (by omega), fun _ => rfl⟩
  | n + 1 => by
    show (allD f n && f n) = true ↔ _
    rw [Bool.and_eq_true, allD_i n]
    constructor
    · intro ⟨h1, h2⟩ k hk
      by_cases q : k = n
      · rw [q]; exact h2
      · exact h1 k (by omega)
    · intro h
      exact ⟨fun k hk => h k (by omega), h n (by omega)⟩
theorem fdC_y {σ : Rw} {B : Nat → Nat} {L k : Nat} {q : Prop} [Decidable q] (hk : k = min L 7) (h : ∀ j, j < k → isLe (B j) = true) : fdC σ B L q = oI (hereR σ B q 0 k) := by
  unfold fdC
  rw [← hk, if_pos ((allD_i _).mpr h)]
theorem fdC_n {σ : Rw} {B : Nat → Nat} {L k : Nat} {q : Prop} [Decidable q] (hk : k < L) (h7 : k < 7) (h : ¬ isLe (B k) = true) : fdC σ B L q = -1 := by
  unfold fdC
  rw [if_neg (fun z => h ((allD_i _).mp z k (by omega)))]
theorem here_0 {σ : Rw} {B : Nat → Nat} {q : Prop} [Decidable q] {w : Nat} (hN : NamI σ) (h : w = 0 ∨ 6 < w) (h9 : w < 1000) : hereR σ B q 0 w = none := by
  have key : ∀ (b : Nat → Nat) (n : Nat), (∀ r, r < n → NamS σ (b r)) → firstB (fun r => nmB σ B (b r) 0 w) n = none := fun b n hb => by
    cases e : firstB (fun r => nmB σ B (b r) 0 w) n with
    | none => rfl
    | some k =>
      obtain ⟨h1, h2⟩ := firstB_lt e
      obtain ⟨n1, n2, n3, -⟩ := hb k h1
      have h3 := (nmB_iff.mp h2).1
      rw [n1] at h3
      have := nI_inj (by omega) (by omega) h3
      omega
  unfold hereR
  split
  · exact key _ _ hN.1
  · exact key _ _ hN.2
theorem fdC_R {σ : Rw} {B : Nat → Nat} {L : Nat} {q : Prop} [Decidable q] (hN : NamI σ) (h9 : L ≤ 900) : fdC σ B L q = fdR σ B L q := by
  have hs : skp B L 0 = runF B isSp L 0 := by unfold skp; rw [Nat.zero_add, Nat.sub_zero]
  by_cases h : ∀ j, j < min L 7 → isLe (B j) = true
  · rw [fdC_y rfl h]
    have hsk : 0 < L → skp B L 0 = 0 := fun h0 => by
      rw [hs]
      have h1 := le_r (h 0 (by omega))
      refine (runF_eq (Nat.zero_le _) (fun i hi => absurd hi (Nat.not_lt_zero _)) (fun _ => ?_)).symm
      show ¬ decide (B 0 = 32) = true
      rw [decide_eq_true_eq]; omega
    unfold fdR
    by_cases c : skp B L 0 = 0 ∧ wln B L (skp B L 0) = L ∧ 0 < L
    · rw [if_pos c]
      by_cases c7 : L ≤ 6
      · rw [show min L 7 = L by omega]
      · rw [here_0 hN (Or.inr (by omega)) (by omega), here_0 hN (Or.inr (by omega)) (by omega)]
    · rw [if_neg c]
      by_cases c7 : L ≤ 6
      · by_cases c0 : L = 0
        · rw [here_0 hN (Or.inl (by omega)) (by omega)]; rfl
        · exfalso
          refine c ⟨hsk (by omega), ?_, by omega⟩
          rw [hsk (by omega)]
          refine (runF_eq (j := L) (by omega) (fun i hi => ?_) (fun hc => absurd hc (by omega))).symm
          rw [Nat.zero_add]; exact h i (by omega)
      · rw [here_0 hN (Or.inr (by omega)) (by omega)]; rfl
  · have hx : fdC σ B L q = -1 := by
      unfold fdC
      rw [if_neg (fun z => h ((allD_i _).mp z))]
    rw [hx]
    unfold fdR
    rw [if_neg]
    rintro ⟨c1, c2, c3⟩
    rw [c1] at c2
    refine h (fun j hj => ?_)
    have := runF_in (B := B) (q := isLe) (L - 0) 0 j (by have c2 : runF B isLe (L - 0) 0 = L := c2; omega)
    rwa [Nat.zero_add] at this
set_option maxHeartbeats 4000000 in
theorem c_size {g : GZ} {A : HA} {c a : Nat} {d : Nat → Nat} {σ : Rw} (hc : (A.G c).1 = 1) (hn : A.R c 0 = some a) (hL : Ly A a d σ) (hv : Lv A.I a d σ) (hJ : RowJ σ) {q e h m : Nat} {f : Nat → Nat} (hp : A.R c 2 = some q) (hs : DqV A q e h m f) {w : Int32} : Ct g wI yX1_size (.code yX1_size cX1_size 2 (Option.some Jvm.ClassFile.FieldType.int)) 8 1 6 [.ref c, .int w] (A) (fun u A' => inZ w 0 13 ∧ u = sizeA σ m (nt w) ∧ A' = A) (fun q A' => ¬ inZ w 0 13 ∧ TX A A' Non 19 q) := by
  refine Ct.of [some (.ref c), some (.int w)] (by decide) rfl rfl fun z C hx hnm E => ?_
  have hW := hJ.w
  have hS := hW.s
  have hw3 := hS.w3
  have hw10 := hS.w10
  have hh8 := hS.h8
  have hc80 := hS.c80
  have k6 := hW.k6
  have g6 := hW.g6
  have hC : ∀ c, c < 80 → CelF σ c := fun c hc => (hJ.c hc).fe
  have d9 := hW.d9
  rcases Classical.em (inZ w 0 13) with b97 | b97
  · skip
    obtain ⟨j, hj, rfl⟩ := inZ_of2 (n := 13) rfl b97 (by omega)
    refine r_iload_1 (pc := 0) C dX1_size_0 ?_
    by_cases w1_0 : j = 0
    · skip
      subst w1_0
      refine r_tableIn (pc := 1) (tgt := 72) (off := 71) C dX1_size_1 (by decide +kernel) (by decide +kernel) (by decide +kernel) (by decide) ?_
      refine r_aload_0 (pc := 72) C dX1_size_72 ?_
      refine r_getR (pc := 73) C fl_X1_24_1 (by exact hc) rfl (by exact hn) dX1_size_73 ?_
      refine r_ngetR (pc := 76) C fn_X1_197_2 (ly_g hL) rfl (ly_r11 hL) dX1_size_76 ?_
      refine r_V0io (pc := 79) C (j_X3_size (ly_g11 hL) (ly_r22 hL) (ly_g22 hL) (hv.ng.trans hW.g)) vl_X1_174 (ly_g11 hL) (by decide) (by omega) (by omega) (Nat.le_of_ble_eq_true rfl) rfl dX1_size_79 (fun u1 A1 hc1 => ?_)
      refine r_top hc1.1 ?_
      refine r_eqA hc1.2 ?_
      clear hc1 A1 u1
      refine r_goto (pc := 82) (tgt := 238) C dX1_size_82 (by decide) ?_
      refine r_iret (pc := 238) C E rfl (by omega) (by omega) dX1_size_238 ?_
      refine ⟨b97, ?_, rfl⟩
      rw [nt_n (by omega)]
      first
        | rfl
        | exact hW.g.symm
        | exact hW.k.symm
        | exact (hW.f.trans (congrArg nI hJ.i.f)).symm
        | exact hW.d.symm
        | exact hW.s.w.symm
        | exact hW.s.h.symm
        | exact hW.gr.symm
        | exact hW.wt.symm
    by_cases w1_1 : j = 1
    · skip
      subst w1_1
      refine r_tableIn (pc := 1) (tgt := 85) (off := 84) C dX1_size_1 (by decide +kernel) (by decide +kernel) (by decide +kernel) (by decide) ?_
      refine r_aload_0 (pc := 85) C dX1_size_85 ?_
      refine r_getR (pc := 86) C fl_X1_24_1 (by exact hc) rfl (by exact hn) dX1_size_86 ?_
      refine r_ngetR (pc := 89) C fn_X1_69_2 (ly_g hL) rfl (ly_r12 hL) dX1_size_89 ?_
      refine r_V0io (pc := 92) C (j_X3_size (ly_g12 hL) (ly_r20 hL) (ly_g20 hL) (hv.nk.trans hW.k)) vl_X1_174 (ly_g12 hL) (by decide) (by omega) (by omega) (Nat.le_of_ble_eq_true rfl) rfl dX1_size_92 (fun u2 A2 hc2 => ?_)
      refine r_top hc2.1 ?_
      refine r_eqA hc2.2 ?_
      clear hc2 A2 u2
      refine r_goto (pc := 95) (tgt := 238) C dX1_size_95 (by decide) ?_
      refine r_iret (pc := 238) C E rfl (by omega) (by omega) dX1_size_238 ?_
      refine ⟨b97, ?_, rfl⟩
      rw [nt_n (by omega)]
      first
        | rfl
        | exact hW.g.symm
        | exact hW.k.symm
        | exact (hW.f.trans (congrArg nI hJ.i.f)).symm
        | exact hW.d.symm
        | exact hW.s.w.symm
        | exact hW.s.h.symm
        | exact hW.gr.symm
        | exact hW.wt.symm
    by_cases w1_2 : j = 2
    · skip
      subst w1_2
      refine r_tableIn (pc := 1) (tgt := 98) (off := 97) C dX1_size_1 (by decide +kernel) (by decide +kernel) (by decide +kernel) (by decide) ?_
      refine r_aload_0 (pc := 98) C dX1_size_98 ?_
      refine r_getR (pc := 99) C fl_X1_24_1 (by exact hc) rfl (by exact hn) dX1_size_99 ?_
      refine r_V0io (pc := 102) C (l_fencesAll hL hv hW hC) vl_X1_200 (ly_g hL) (by decide) (by omega) (by omega) (Nat.le_of_ble_eq_true rfl) rfl dX1_size_102 (fun u3 A3 hc3 => ?_)
      refine r_top hc3.1 ?_
      refine r_eqA hc3.2 ?_
      clear hc3 A3 u3
      refine r_goto (pc := 105) (tgt := 238) C dX1_size_105 (by decide) ?_
      refine r_iret (pc := 238) C E rfl (by omega) (by omega) dX1_size_238 ?_
      refine ⟨b97, ?_, rfl⟩
      rw [nt_n (by omega)]
      first
        | rfl
        | exact hW.g.symm
        | exact hW.k.symm
        | exact (hW.f.trans (congrArg nI hJ.i.f)).symm
        | exact hW.d.symm
        | exact hW.s.w.symm
        | exact hW.s.h.symm
        | exact hW.gr.symm
        | exact hW.wt.symm
    by_cases w1_3 : j = 3
    · skip
      subst w1_3
      refine r_tableIn (pc := 1) (tgt := 108) (off := 107) C dX1_size_1 (by decide +kernel) (by decide +kernel) (by decide +kernel) (by decide) ?_
      refine r_aload_0 (pc := 108) C dX1_size_108 ?_
      refine r_getR (pc := 109) C fl_X1_24_1 (by exact hc) rfl (by exact hn) dX1_size_109 ?_
      refine r_ngetI (pc := 112) C fn_X1_203_2 (ly_g hL) rfl dX1_size_112 ?_
      refine r_top (hv.day.trans hW.d) ?_
      refine r_goto (pc := 115) (tgt := 238) C dX1_size_115 (by decide) ?_
      refine r_iret (pc := 238) C E rfl (by omega) (by omega) dX1_size_238 ?_
      refine ⟨b97, ?_, rfl⟩
      rw [nt_n (by omega)]
      first
        | rfl
        | exact hW.g.symm
        | exact hW.k.symm
        | exact (hW.f.trans (congrArg nI hJ.i.f)).symm
        | exact hW.d.symm
        | exact hW.s.w.symm
        | exact hW.s.h.symm
        | exact hW.gr.symm
        | exact hW.wt.symm
    by_cases w1_4 : j = 4
    · skip
      subst w1_4
      refine r_tableIn (pc := 1) (tgt := 118) (off := 117) C dX1_size_1 (by decide +kernel) (by decide +kernel) (by decide +kernel) (by decide) ?_
      refine r_aload_0 (pc := 118) C dX1_size_118 ?_
      refine r_getR (pc := 119) C fl_X1_24_1 (by exact hc) rfl (by exact hn) dX1_size_119 ?_
      refine r_ngetI (pc := 122) C fn_X1_206_2 (ly_g hL) rfl dX1_size_122 ?_
      refine r_top (hv.w.trans hW.s.w) ?_
      refine r_goto (pc := 125) (tgt := 238) C dX1_size_125 (by decide) ?_
      refine r_iret (pc := 238) C E rfl (by omega) (by omega) dX1_size_238 ?_
      refine ⟨b97, ?_, rfl⟩
      rw [nt_n (by omega)]
      first
        | rfl
        | exact hW.g.symm
        | exact hW.k.symm
        | exact (hW.f.trans (congrArg nI hJ.i.f)).symm
        | exact hW.d.symm
        | exact hW.s.w.symm
        | exact hW.s.h.symm
        | exact hW.gr.symm
        | exact hW.wt.symm
    by_cases w1_5 : j = 5
    · skip
      subst w1_5
      refine r_tableIn (pc := 1) (tgt := 128) (off := 127) C dX1_size_1 (by decide +kernel) (by decide +kernel) (by decide +kernel) (by decide) ?_
      refine r_aload_0 (pc := 128) C dX1_size_128 ?_
      refine r_getR (pc := 129) C fl_X1_24_1 (by exact hc) rfl (by exact hn) dX1_size_129 ?_
      refine r_ngetI (pc := 132) C fn_X1_209_2 (ly_g hL) rfl dX1_size_132 ?_
      refine r_top (hv.h.trans hW.s.h) ?_
      refine r_goto (pc := 135) (tgt := 238) C dX1_size_135 (by decide) ?_
      refine r_iret (pc := 238) C E rfl (by omega) (by omega) dX1_size_238 ?_
      refine ⟨b97, ?_, rfl⟩
      rw [nt_n (by omega)]
      first
        | rfl
        | exact hW.g.symm
        | exact hW.k.symm
        | exact (hW.f.trans (congrArg nI hJ.i.f)).symm
        | exact hW.d.symm
        | exact hW.s.w.symm
        | exact hW.s.h.symm
        | exact hW.gr.symm
        | exact hW.wt.symm
    by_cases w1_6 : j = 6
    · skip
      subst w1_6
      refine r_tableIn (pc := 1) (tgt := 138) (off := 137) C dX1_size_1 (by decide +kernel) (by decide +kernel) (by decide +kernel) (by decide) ?_
      refine r_aload_0 (pc := 138) C dX1_size_138 ?_
      refine r_getR (pc := 139) C fl_X1_24_1 (by exact hc) rfl (by exact hn) dX1_size_139 ?_
      refine r_ngetI (pc := 142) C fn_X1_212_2 (ly_g hL) rfl dX1_size_142 ?_
      refine r_top (hv.gr.trans hW.gr) ?_
      refine r_goto (pc := 145) (tgt := 238) C dX1_size_145 (by decide) ?_
      refine r_iret (pc := 238) C E rfl (by omega) (by omega) dX1_size_238 ?_
      refine ⟨b97, ?_, rfl⟩
      rw [nt_n (by omega)]
      first
        | rfl
        | exact hW.g.symm
        | exact hW.k.symm
        | exact (hW.f.trans (congrArg nI hJ.i.f)).symm
        | exact hW.d.symm
        | exact hW.s.w.symm
        | exact hW.s.h.symm
        | exact hW.gr.symm
        | exact hW.wt.symm
    by_cases w1_7 : j = 7
    · skip
      subst w1_7
      refine r_tableIn (pc := 1) (tgt := 148) (off := 147) C dX1_size_1 (by decide +kernel) (by decide +kernel) (by decide +kernel) (by decide) ?_
      refine r_aload_0 (pc := 148) C dX1_size_148 ?_
      refine r_getR (pc := 149) C fl_X1_24_1 (by exact hc) rfl (by exact hn) dX1_size_149 ?_
      refine r_ngetI (pc := 152) C fn_X1_215_2 (ly_g hL) rfl dX1_size_152 ?_
      refine r_top (hv.wt.trans hW.wt) ?_
      refine r_goto (pc := 155) (tgt := 238) C dX1_size_155 (by decide) ?_
      refine r_iret (pc := 238) C E rfl (by omega) (by omega) dX1_size_238 ?_
      refine ⟨b97, ?_, rfl⟩
      rw [nt_n (by omega)]
      first
        | rfl
        | exact hW.g.symm
        | exact hW.k.symm
        | exact (hW.f.trans (congrArg nI hJ.i.f)).symm
        | exact hW.d.symm
        | exact hW.s.w.symm
        | exact hW.s.h.symm
        | exact hW.gr.symm
        | exact hW.wt.symm
    by_cases w1_8 : j = 8
    · skip
      subst w1_8
      refine r_tableIn (pc := 1) (tgt := 158) (off := 157) C dX1_size_1 (by decide +kernel) (by decide +kernel) (by decide +kernel) (by decide) ?_
      refine r_aload_0 (pc := 158) C dX1_size_158 ?_
      refine r_getR (pc := 159) C fl_X1_24_1 (by exact hc) rfl (by exact hn) dX1_size_159 ?_
      refine r_aload_0 (pc := 162) C dX1_size_162 ?_
      refine r_getR (pc := 163) C fl_X1_24_1 (by exact hc) rfl (by exact hn) dX1_size_163 ?_
      refine r_ngetI (pc := 166) C fn_X1_203_2 (ly_g hL) rfl dX1_size_166 ?_
      refine r_top (hv.day.trans hW.d) ?_
      refine r_V1io (pc := 169) C (l_isWet hL hv hW (by omega)) vl_X1_218 (ly_g hL) (by decide) (by omega) (by omega) (Nat.le_of_ble_eq_true rfl) rfl dX1_size_169 (fun u4 A4 hc4 => ?_)
      refine r_top hc4.1 ?_
      refine r_eqA hc4.2 ?_
      clear hc4 A4 u4
      refine r_S1io (pc := 172) C (l_bit) sl_X1_222 (by decide) (by omega) (by omega) (Nat.le_of_ble_eq_true rfl) rfl dX1_size_172 (fun u5 A5 hc5 => ?_)
      refine r_top hc5.1 ?_
      refine r_eqA hc5.2 ?_
      clear hc5 A5 u5
      refine r_goto (pc := 175) (tgt := 238) C dX1_size_175 (by decide) ?_
      refine r_iret (pc := 238) C E rfl (by omega) (by omega) dX1_size_238 ?_
      refine ⟨b97, ?_, rfl⟩
      rw [nt_n (by omega)]
      first
        | rfl
        | exact hW.g.symm
        | exact hW.k.symm
        | exact (hW.f.trans (congrArg nI hJ.i.f)).symm
        | exact hW.d.symm
        | exact hW.s.w.symm
        | exact hW.s.h.symm
        | exact hW.gr.symm
        | exact hW.wt.symm
    by_cases w1_9 : j = 9
    · skip
      subst w1_9
      refine r_tableIn (pc := 1) (tgt := 178) (off := 177) C dX1_size_1 (by decide +kernel) (by decide +kernel) (by decide +kernel) (by decide) ?_
      refine r_aload_0 (pc := 178) C dX1_size_178 ?_
      refine r_getR (pc := 179) C fl_X1_24_1 (by exact hc) rfl (by exact hn) dX1_size_179 ?_
      refine r_iconst (pc := 182) C dX1_size_182 ci_0 ?_
      refine r_V1io (pc := 183) C (l_cellsOf hL hv hW (k := 0) (by omega)) vl_X1_226 (ly_g hL) (by decide) (by omega) (by omega) (Nat.le_of_ble_eq_true rfl) rfl dX1_size_183 (fun u6 A6 hc6 => ?_)
      refine r_top hc6.1 ?_
      refine r_eqA hc6.2 ?_
      clear hc6 A6 u6
      refine r_goto (pc := 186) (tgt := 238) C dX1_size_186 (by decide) ?_
      refine r_iret (pc := 238) C E rfl (by omega) (by omega) dX1_size_238 ?_
      refine ⟨b97, ?_, rfl⟩
      rw [nt_n (by omega)]
      first
        | rfl
        | exact hW.g.symm
        | exact hW.k.symm
        | exact (hW.f.trans (congrArg nI hJ.i.f)).symm
        | exact hW.d.symm
        | exact hW.s.w.symm
        | exact hW.s.h.symm
        | exact hW.gr.symm
        | exact hW.wt.symm
    by_cases w1_10 : j = 10
    · skip
      subst w1_10
      refine r_tableIn (pc := 1) (tgt := 189) (off := 188) C dX1_size_1 (by decide +kernel) (by decide +kernel) (by decide +kernel) (by decide) ?_
      refine r_aload_0 (pc := 189) C dX1_size_189 ?_
      refine r_getR (pc := 190) C fl_X1_24_1 (by exact hc) rfl (by exact hn) dX1_size_190 ?_
      refine r_V0io (pc := 193) C (l_bareAll hL hv hW) vl_X1_230 (ly_g hL) (by decide) (by omega) (by omega) (Nat.le_of_ble_eq_true rfl) rfl dX1_size_193 (fun u7 A7 hc7 => ?_)
      refine r_top hc7.1 ?_
      refine r_eqA hc7.2 ?_
      clear hc7 A7 u7
      refine r_goto (pc := 196) (tgt := 238) C dX1_size_196 (by decide) ?_
      refine r_iret (pc := 238) C E rfl (by omega) (by omega) dX1_size_238 ?_
      refine ⟨b97, ?_, rfl⟩
      rw [nt_n (by omega)]
      first
        | rfl
        | exact hW.g.symm
        | exact hW.k.symm
        | exact (hW.f.trans (congrArg nI hJ.i.f)).symm
        | exact hW.d.symm
        | exact hW.s.w.symm
        | exact hW.s.h.symm
        | exact hW.gr.symm
        | exact hW.wt.symm
    by_cases w1_11 : j = 11
    · skip
      subst w1_11
      refine r_tableIn (pc := 1) (tgt := 199) (off := 198) C dX1_size_1 (by decide +kernel) (by decide +kernel) (by decide +kernel) (by decide) ?_
      refine r_aload_0 (pc := 199) C dX1_size_199 ?_
      refine r_getR (pc := 200) C fl_X1_24_1 (by exact hc) rfl (by exact hn) dX1_size_200 ?_
      refine r_V0io (pc := 203) C (l_grassAll hL hv hW hC) vl_X1_233 (ly_g hL) (by decide) (by omega) (by omega) (Nat.le_of_ble_eq_true rfl) rfl dX1_size_203 (fun u8 A8 hc8 => ?_)
      refine r_top hc8.1 ?_
      refine r_eqA hc8.2 ?_
      clear hc8 A8 u8
      refine r_goto (pc := 206) (tgt := 238) C dX1_size_206 (by decide) ?_
      refine r_iret (pc := 238) C E rfl (by omega) (by omega) dX1_size_238 ?_
      refine ⟨b97, ?_, rfl⟩
      rw [nt_n (by omega)]
      first
        | rfl
        | exact hW.g.symm
        | exact hW.k.symm
        | exact (hW.f.trans (congrArg nI hJ.i.f)).symm
        | exact hW.d.symm
        | exact hW.s.w.symm
        | exact hW.s.h.symm
        | exact hW.gr.symm
        | exact hW.wt.symm
    by_cases w1_12 : j = 12
    · skip
      subst w1_12
      refine r_tableIn (pc := 1) (tgt := 209) (off := 208) C dX1_size_1 (by decide +kernel) (by decide +kernel) (by decide +kernel) (by decide) ?_
      refine r_aload_0 (pc := 209) C dX1_size_209 ?_
      refine r_getR (pc := 210) C fl_X1_24_1 (by exact hc) rfl (by exact hn) dX1_size_210 ?_
      refine r_iconst (pc := 213) C dX1_size_213 ci_1 ?_
      refine r_V1io (pc := 214) C (l_cellsOf hL hv hW (by omega)) vl_X1_226 (ly_g hL) (by decide) (by omega) (by omega) (Nat.le_of_ble_eq_true rfl) rfl dX1_size_214 (fun u9 A9 hc9 => ?_)
      refine r_top hc9.1 ?_
      refine r_eqA hc9.2 ?_
      clear hc9 A9 u9
      refine r_goto (pc := 217) (tgt := 238) C dX1_size_217 (by decide) ?_
      refine r_iret (pc := 238) C E rfl (by omega) (by omega) dX1_size_238 ?_
      refine ⟨b97, ?_, rfl⟩
      rw [nt_n (by omega)]
      first
        | rfl
        | exact hW.g.symm
        | exact hW.k.symm
        | exact (hW.f.trans (congrArg nI hJ.i.f)).symm
        | exact hW.d.symm
        | exact hW.s.w.symm
        | exact hW.s.h.symm
        | exact hW.gr.symm
        | exact hW.wt.symm
    by_cases w1_13 : j = 13
    · skip
      subst w1_13
      refine r_tableIn (pc := 1) (tgt := 220) (off := 219) C dX1_size_1 (by decide +kernel) (by decide +kernel) (by decide +kernel) (by decide) ?_
      refine r_aload_0 (pc := 220) C dX1_size_220 ?_
      refine r_getR (pc := 221) C fl_X1_31_1 (by exact hc) rfl (by exact hp) dX1_size_221 ?_
      refine r_V0io (pc := 224) C (j_J7_size hs) vl_X1_92 hs.g (by decide) (by omega) (by omega) (Nat.le_of_ble_eq_true rfl) rfl dX1_size_224 (fun u10 A10 hc10 => ?_)
      refine r_top hc10.1 ?_
      refine r_eqA hc10.2 ?_
      clear hc10 A10 u10
      refine r_goto (pc := 227) (tgt := 238) C dX1_size_227 (by decide) ?_
      refine r_iret (pc := 238) C E rfl (by omega) (by omega) dX1_size_238 ?_
      refine ⟨b97, ?_, rfl⟩
      rw [nt_n (by omega)]
      first
        | rfl
        | exact hW.g.symm
        | exact hW.k.symm
        | exact (hW.f.trans (congrArg nI hJ.i.f)).symm
        | exact hW.d.symm
        | exact hW.s.w.symm
        | exact hW.s.h.symm
        | exact hW.gr.symm
        | exact hW.wt.symm
    exfalso; omega
  · skip
    refine r_iload_1 (pc := 0) C dX1_size_0 ?_
    refine r_tableOut (pc := 1) (tgt := 230) C dX1_size_1 (sw_out b97) (by decide) ?_
    refine r_make19 (pc := 230) C dX1_size_230 dX1_size_233 dX1_size_234 (by decide) (Nat.le_of_ble_eq_true rfl) rfl (by omega) (by omega) fun m hm => ?_
    refine r_athrow (pc := 237) C dX1_size_237 ?_
    refine r_out C E (by rw [hx]; exact fun x h => nomatch h) (En := RJ18) ((congrArg fw_ex (tx_mz (X := Non) hm).1).trans rfl) (by omega) (by omega) (⟨b97, tx_mz hm⟩)
set_option maxHeartbeats 4000000 in
theorem c_sign {g : GZ} {A : HA} {c a : Nat} {d : Nat → Nat} {σ : Rw} (hc : (A.G c).1 = 1) (hn : A.R c 0 = some a) (hL : Ly A a d σ) (hv : Lv A.I a d σ) (hJ : RowJ σ) {k : Nat} (hk : k < rC σ) : Ct g wI yX1_sign (.code yX1_sign cX1_sign 2 (Option.some Jvm.ClassFile.FieldType.char)) 1 0 0 [.ref c, .int (nI (k))] (A) (fun u A' => u = nI (mkN σ k) ∧ A' = A) fw_no := by
  refine Ct.of [some (.ref c), some (.int (nI (k)))] (by decide) rfl rfl fun z C hx hnm E => ?_
  have hW := hJ.w
  have hS := hW.s
  have hw3 := hS.w3
  have hw10 := hS.w10
  have hh8 := hS.h8
  have hc80 := hS.c80
  have k6 := hW.k6
  have g6 := hW.g6
  have hC : ∀ c, c < 80 → CelF σ c := fun c hc => (hJ.c hc).fe
  have d9 := hW.d9
  have h9 := hW.c9 (show k < 80 by omega)
  have hCk := (hC k (by omega)).1
  refine r_aload_0 (pc := 0) C dX1_sign_0 ?_
  refine r_getR (pc := 1) C fl_X1_24_1 (by exact hc) rfl (by exact hn) dX1_sign_1 ?_
  refine r_ngetR (pc := 4) C fn_X1_287_2 (ly_g hL) rfl (ly_rf hL 5 (by decide)) dX1_sign_4 ?_
  refine r_iload_1 (pc := 7) C dX1_sign_7 ?_
  refine r_iald (pc := 8) C (ly_gf hL 5 (by decide)) rfl rfl (lt_eq (by omega) (ly_nf hL 5 (by decide) (by decide))) (by omega) dX1_sign_8 ?_
  refine r_top (hv.kind hk) ?_
  rcases hCk with q | ⟨q | q, -⟩
  · skip
    refine r_top q ?_
    refine r_lookup (pc := 9) (tgt := 46) (off := 37) C dX1_sign_9 (by decide +kernel) (by decide +kernel) (by decide) ?_
    refine r_aload_0 (pc := 46) C dX1_sign_46 ?_
    refine r_getR (pc := 47) C fl_X1_24_1 (by exact hc) rfl (by exact hn) dX1_sign_47 ?_
    refine r_ngetR (pc := 50) C fn_X1_296_2 (ly_g hL) rfl (ly_rf hL 10 (by decide)) dX1_sign_50 ?_
    refine r_iload_1 (pc := 53) C dX1_sign_53 ?_
    refine r_zald (pc := 54) C (ly_gf hL 10 (by decide)) rfl rfl (lt_eq (by omega) (ly_nf hL 10 (by decide) (by decide))) (by omega) dX1_sign_54 ?_
    refine r_top ((hv.fence hk).trans (fen_bI (hC k (by omega)))) ?_
    refine r_if_eq (pc := 55) (tgt := 63) C dX1_sign_55 (by decide) (fun b55 => ?_) (fun b55 => ?_)
    · skip
      have b55 := bI_0.mp b55
      refine r_bipush (pc := 63) C dX1_sign_63 cb_48 ?_
      refine r_aload_0 (pc := 65) C dX1_sign_65 ?_
      refine r_getR (pc := 66) C fl_X1_24_1 (by exact hc) rfl (by exact hn) dX1_sign_66 ?_
      refine r_ngetR (pc := 69) C fn_X1_293_2 (ly_g hL) rfl (ly_rf hL 6 (by decide)) dX1_sign_69 ?_
      refine r_iload_1 (pc := 72) C dX1_sign_72 ?_
      refine r_iald (pc := 73) C (ly_gf hL 6 (by decide)) rfl rfl (lt_eq (by omega) (ly_nf hL 6 (by decide) (by decide))) (by omega) dX1_sign_73 ?_
      refine r_top ((hv.grass hk).trans (hW.c (by omega))) ?_
      refine r_iadd (pc := 74) C dX1_sign_74 ?_
      refine r_top (nI_add _ _) ?_
      refine r_i2c (pc := 75) C dX1_sign_75 ?_
      refine r_top (by_c (by omega)) ?_
      refine r_iret (pc := 76) C E (by_nar (by omega)) (by omega) (by omega) dX1_sign_76 ?_
      refine ⟨?_, rfl⟩
      unfold mkN
      first
        | rw [if_pos q, if_pos b55]
        | rw [if_pos q, if_neg b55]
        | rw [if_neg (by rw [q]; decide +kernel), if_pos q]
        | rw [if_neg (by rw [q]; decide +kernel), if_neg (by rw [q]; decide +kernel)]
    · skip
      have b55 := bI_n.mp b55
      refine r_bipush (pc := 58) C dX1_sign_58 cb_70 ?_
      refine r_goto (pc := 60) (tgt := 76) C dX1_sign_60 (by decide) ?_
      refine r_iret (pc := 76) C E (by_nar (by omega)) (by omega) (by omega) dX1_sign_76 ?_
      refine ⟨?_, rfl⟩
      unfold mkN
      first
        | rw [if_pos q, if_pos b55]
        | rw [if_pos q, if_neg b55]
        | rw [if_neg (by rw [q]; decide +kernel), if_pos q]
        | rw [if_neg (by rw [q]; decide +kernel), if_neg (by rw [q]; decide +kernel)]
  · skip
    refine r_top q ?_
    refine r_lookup (pc := 9) (tgt := 41) (off := 32) C dX1_sign_9 (by decide +kernel) (by decide +kernel) (by decide) ?_
    refine r_bipush (pc := 41) C dX1_sign_41 cb_83 ?_
    refine r_goto (pc := 43) (tgt := 76) C dX1_sign_43 (by decide) ?_
    refine r_iret (pc := 76) C E (by_nar (by omega)) (by omega) (by omega) dX1_sign_76 ?_
    refine ⟨?_, rfl⟩
    unfold mkN
    first
      | rw [if_pos q, if_pos b55]
      | rw [if_pos q, if_neg b55]
      | rw [if_neg (by rw [q]; decide +kernel), if_pos q]
      | rw [if_neg (by rw [q]; decide +kernel), if_neg (by rw [q]; decide +kernel)]
  · skip
    refine r_top q ?_
    refine r_lookup (pc := 9) (tgt := 36) (off := 27) C dX1_sign_9 (by decide +kernel) (by decide +kernel) (by decide) ?_
    refine r_bipush (pc := 36) C dX1_sign_36 cb_71 ?_
    refine r_goto (pc := 38) (tgt := 76) C dX1_sign_38 (by decide) ?_
    refine r_iret (pc := 76) C E (by_nar (by omega)) (by omega) (by omega) dX1_sign_76 ?_
    refine ⟨?_, rfl⟩
    unfold mkN
    first
      | rw [if_pos q, if_pos b55]
      | rw [if_pos q, if_neg b55]
      | rw [if_neg (by rw [q]; decide +kernel), if_pos q]
      | rw [if_neg (by rw [q]; decide +kernel), if_neg (by rw [q]; decide +kernel)]
set_option maxHeartbeats 4000000 in
theorem c_outputByte {g : GZ} {A : HA} {c a : Nat} {d : Nat → Nat} {σ : Rw} (hc : (A.G c).1 = 1) (hn : A.R c 0 = some a) (hL : Ly A a d σ) (hv : Lv A.I a d σ) (hJ : RowJ σ) (hz : zS g) {ob v m n0 : Nat} {f : Nat → Nat} (ho : A.R c 7 = some ob) (hs : SbV A ob v m f n0) (hn9 : n0 ≤ 5000) {x : Int32} : Ct g wI yX1_outputByte (.code yX1_outputByte cX1_outputByte 2 (Option.some Jvm.ClassFile.FieldType.int)) 6 0 0 [.ref c, .int x] (A) (fun u A' => u = (if inZ x 0 ((n0 : Int) - 1) then nI (f (nt x)) else -1) ∧ A' = A) fw_no := by
  refine Ct.of [some (.ref c), some (.int x)] (by decide) rfl rfl fun z C hx hnm E => ?_
  have hW := hJ.w
  have hS := hW.s
  have hw3 := hS.w3
  have hw10 := hS.w10
  have hh8 := hS.h8
  have hc80 := hS.c80
  have k6 := hW.k6
  have g6 := hW.g6
  have hC : ∀ c, c < 80 → CelF σ c := fun c hc => (hJ.c hc).fe
  have d9 := hW.d9
  refine r_iload_1 (pc := 0) C dX1_outputByte_0 ?_
  refine r_i2l (pc := 1) C dX1_outputByte_1 ?_
  refine r_lconst (pc := 2) (v := 0) C dX1_outputByte_2 (by decide) ?_
  refine r_aload_0 (pc := 3) C dX1_outputByte_3 ?_
  refine r_getR (pc := 4) C fl_X1_46_1 (by exact hc) rfl (by exact ho) dX1_outputByte_4 ?_
  refine r_V0io (pc := 7) C (j_J9_length hs) vl_X1_481 hs.g (by decide) (by omega) (by omega) (Nat.le_of_ble_eq_true rfl) rfl dX1_outputByte_7 (fun u1 A1 hc1 => ?_)
  refine r_top hc1.1 ?_
  refine r_eqA hc1.2 ?_
  clear hc1 A1 u1
  refine r_iconst (pc := 10) C dX1_outputByte_10 ci_1 ?_
  refine r_isub (pc := 11) C dX1_outputByte_11 ?_
  refine r_i2l (pc := 12) C dX1_outputByte_12 ?_
  refine r_S3io (pc := 13) C (c_inZ (p := 0) (q := (n0 : Int) - 1) (by decide) (t_m1' (by omega))) sl_X1_114 (by decide) (by omega) (by omega) (Nat.le_of_ble_eq_true rfl) rfl dX1_outputByte_13 (fun u2 A2 hc2 => ?_)
  refine r_top hc2.1 ?_
  refine r_eqA hc2.2 ?_
  clear hc2 A2 u2
  refine r_if_eq (pc := 16) (tgt := 30) C dX1_outputByte_16 (by decide) (fun b16 => ?_) (fun b16 => ?_)
  · skip
    have b16 := bI_0.mp b16
    refine r_iconst (pc := 30) C dX1_outputByte_30 ci_m1 ?_
    refine r_iret (pc := 31) C E rfl (by omega) (by omega) dX1_outputByte_31 ?_
    refine ⟨?_, rfl⟩
    first
      | rw [if_pos b96, nt_n (by omega)]
      | rw [if_neg b16]
  · skip
    have b16 := bI_n.mp b16
    have b96 := b16
    obtain ⟨i, hi, rfl⟩ := inZ_of (n := n0) b16 (by omega)
    refine r_aload_0 (pc := 19) C dX1_outputByte_19 ?_
    refine r_getR (pc := 20) C fl_X1_46_1 (by exact hc) rfl (by exact ho) dX1_outputByte_20 ?_
    refine r_iload_1 (pc := 23) C dX1_outputByte_23 ?_
    refine r_V1io (pc := 24) C (j_J9_charAt hz hs (i := i) (by omega)) vl_X1_482 hs.g (by decide) (by omega) (by omega) (Nat.le_of_ble_eq_true rfl) rfl dX1_outputByte_24 (fun u3 A3 hc3 => ?_)
    refine r_top hc3.1 ?_
    refine r_eqA hc3.2 ?_
    clear hc3 A3 u3
    refine r_goto (pc := 27) (tgt := 31) C dX1_outputByte_27 (by decide) ?_
    refine r_iret (pc := 31) C E rfl (by omega) (by omega) dX1_outputByte_31 ?_
    refine ⟨?_, rfl⟩
    first
      | rw [if_pos b96, nt_n (by omega)]
      | rw [if_neg b16]
theorem gK_le (n m : Nat) : gK n m ≤ 1 := by unfold gK; split <;> omega
theorem gS_le (n m : Nat) : gS n m ≤ 2 * m + 2 := by unfold gS; split <;> omega
set_option maxHeartbeats 4000000 in
theorem c_writeLawn {g : GZ} {A : HA} {c a : Nat} {d : Nat → Nat} {σ : Rw} (hc : (A.G c).1 = 1) (hn : A.R c 0 = some a) (hL : Ly A a d σ) (hv : Lv A.I a d σ) (hJ : RowJ σ) (hz : zS g) (hX : LyX A d) {ob v m n0 : Nat} {f : Nat → Nat} (ho : A.R c 7 = some ob) (hs : SbV A ob v m f n0) (hm2 : m ≤ 200) {o : Rw} : Ct g wI yX1_writeLawn (.code yX1_writeLawn cX1_writeLawn 2 (Option.some Jvm.ClassFile.FieldType.int)) 7 202 802 [.ref c] (A) (fun u A' => u = nI (wlS σ o (rC σ)).1 ∧ (∃ v1 m1 f1, SbV A' ob v1 m1 f1 (wlS σ o (rC σ)).1 ∧ m1 ≤ 200 ∧ (v1 = v ∨ A.z ≤ v1) ∧ ∀ i, i < (wlS σ o (rC σ)).1 → (wlS σ o (rC σ)).2 i = nI (f1 i)) ∧ Gw A A' (fun y => y = ob ∨ y = v)) fw_no := by
  refine Ct.of [some (.ref c), none] (by decide) rfl rfl fun z C hx hnm E => ?_
  have hW := hJ.w
  have hS := hW.s
  have hw3 := hS.w3
  have hw10 := hS.w10
  have hh8 := hS.h8
  have hc80 := hS.c80
  have k6 := hW.k6
  have g6 := hW.g6
  have hC : ∀ c, c < 80 → CelF σ c := fun c hc => (hJ.c hc).fe
  have d9 := hW.d9
  refine r_Z fun hZ => ?_
  have lc := hZ.lt hc rfl
  have lob := hs.lt hZ
  have hcX : ¬ (c = ob ∨ c = v) := fun q => by rcases q with e | e; (have h9 := hs.g; rw [← e, hc] at h9; cases h9); (have h9 := hs.k; rw [← e, hc] at h9; cases h9)
  have hXp : ∀ y, Fp a d (rK σ) (rG σ) y → ¬ (y = ob ∨ y = v) := fun y hy q => fp_kx hL hX hy (by rcases q with e | e; (rw [e]; exact Or.inr (Or.inl hs.g)); (rw [e]; exact Or.inr (Or.inr (Or.inr (Or.inl hs.k)))))
  refine r_aload_0 (pc := 0) C dX1_writeLawn_0 ?_
  refine r_getR (pc := 1) C fl_X1_46_1 (by exact hc) rfl (by exact ho) dX1_writeLawn_1 ?_
  refine r_iconst (pc := 4) C dX1_writeLawn_4 ci_0 ?_
  refine r_V1vo (pc := 5) C (j_J9_setLength hs) vl_X1_475 hs.g (by decide) (by omega) (by omega) (Nat.le_of_ble_eq_true rfl) rfl dX1_writeLawn_5 (fun u1 A1 hc1 => ?_)
  obtain ⟨hs0, hg0, hz0⟩ := hc1
  generalize A1 = F0 at hs0 hg0 hz0 ⊢
  have hG0 : Gw A F0 (fun y => y = ob ∨ y = v) := hg0.mono (fun _ _ e => Or.inl e)
  have hLF0 := ly_gw hZ hL hG0 hXp
  have hvF0 := lv_gw hZ hL hv hG0 hXp
  have hcF0 : (F0.G c).1 = 1 := by rw [(hG0.2 c lc).1]; exact hc
  have hnF0 : F0.R c 0 = some a := by rw [((hG0.2 c lc).2.2 hcX).2.2]; exact hn
  have hoF0 : F0.R c 7 = some ob := by rw [((hG0.2 c lc).2.2 hcX).2.2]; exact ho
  refine r_iconst (pc := 8) C dX1_writeLawn_8 ci_0 ?_
  refine r_istore_1 (pc := 9) C dX1_writeLawn_9 rfl ?_
  have lp10_2 : ∀ (fu : Nat) (k m1 v1 n1 : Nat) (f1 : Nat → Nat) (F1 : HA) (hk : k ≤ rC σ) (hs1 : SbV F1 ob v1 m1 f1 n1) (hn1 : n1 = (wlS σ o k).1) (hag : ∀ i, i < n1 → (wlS σ o k).2 i = nI (f1 i)) (hG1 : Gw A F1 (fun y => y = ob ∨ y = v)) (hw1 : v1 = v ∨ A.z ≤ v1) (hm1 : m1 ≤ 200), rC σ - k < fu → wa g z m1 (2 * m1) (F1) 10 [some (.ref c), some (.int (nI (k)))] [] := by
    intro fu
    induction fu with
    | zero => intro k m1 v1 n1  f1  F1  hk hs1 hn1 hag hG1 hw1 hm1 hm10; exact absurd hm10 (Nat.not_lt_zero _)
    | succ fu ih10 =>
      intro k m1 v1 n1  f1  F1  hk hs1 hn1 hag hG1 hw1 hm1 hm10
      have hwl := wlS_lt (o := o) hS hk
      have hLF1 := ly_gw hZ hL hG1 hXp
      have hvF1 := lv_gw hZ hL hv hG1 hXp
      have hcF1 : (F1.G c).1 = 1 := by rw [(hG1.2 c lc).1]; exact hc
      have hnF1 : F1.R c 0 = some a := by rw [((hG1.2 c lc).2.2 hcX).2.2]; exact hn
      have hoF1 : F1.R c 7 = some ob := by rw [((hG1.2 c lc).2.2 hcX).2.2]; exact ho
      refine r_iload_1 (pc := 10) C dX1_writeLawn_10 ?_
      refine r_aload_0 (pc := 11) C dX1_writeLawn_11 ?_
      refine r_getR (pc := 12) C fl_X1_24_1 (by exact hcF1) rfl (by exact hnF1) dX1_writeLawn_12 ?_
      refine r_ngetI (pc := 15) C fn_X1_446_2 (ly_g hLF1) rfl dX1_writeLawn_15 ?_
      refine r_top hvF1.c ?_
      refine r_icmp_ge (pc := 18) (tgt := 66) C dX1_writeLawn_18 (by decide) (fun b18 => ?_) (fun b18 => ?_)
      · skip
        have b18 := (nI_le2 (by omega) (by omega)).mp b18
        refine r_aload_0 (pc := 66) C dX1_writeLawn_66 ?_
        refine r_getR (pc := 67) C fl_X1_46_1 (by exact hcF1) rfl (by exact hoF1) dX1_writeLawn_67 ?_
        refine r_V0io (pc := 70) C (j_J9_length hs1) vl_X1_481 hs1.g (by decide) (by omega) (by omega) (Nat.le_of_ble_eq_true rfl) rfl dX1_writeLawn_70 (fun u3 A3 hc3 => ?_)
        refine r_top hc3.1 ?_
        refine r_eqA hc3.2 ?_
        clear hc3 A3 u3
        refine r_iret (pc := 73) C E rfl (by omega) (by omega) dX1_writeLawn_73 ?_
        have e9 : k = rC σ := by omega
        subst e9
        subst hn1
        exact ⟨rfl, ⟨v1, m1, f1, hs1, hm1, hw1, hag⟩, hG1⟩
      · skip
        have b18 := (not_congr (nI_le2 (by omega) (by omega))).mp b18
        refine r_iload_1 (pc := 21) C dX1_writeLawn_21 ?_
        refine r_if_le (pc := 22) (tgt := 47) C dX1_writeLawn_22 (by decide) (fun b22 => ?_) (fun b22 => ?_)
        · skip
          have b22 := (nI_le0 (by omega)).mp b22
          have hno : ¬ (0 < k ∧ k % rW σ = 0) := fun q => by omega
          refine r_aload_0 (pc := 47) C dX1_writeLawn_47 ?_
          refine r_getR (pc := 48) C fl_X1_46_1 (by exact hcF1) rfl (by exact hoF1) dX1_writeLawn_48 ?_
          refine r_aload_0 (pc := 51) C dX1_writeLawn_51 ?_
          refine r_iload_1 (pc := 52) C dX1_writeLawn_52 ?_
          refine r_V1io (pc := 53) C (c_sign hcF1 hnF1 hLF1 hvF1 hJ (k := k) (by omega)) vl_X1_478 (by exact hcF1) (by decide) (by omega) (by omega) (Nat.le_of_ble_eq_true rfl) rfl dX1_writeLawn_53 (fun u4 A4 hc4 => ?_)
          refine r_top hc4.1 ?_
          refine r_eqA hc4.2 ?_
          clear hc4 A4 u4
          have hmk := mkN_le (hW.c9 (show k < 80 by omega))
          refine r_V1r (pc := 56) C (j_apU hz hs1 (c := mkN σ k) (by omega) (by omega)) vl_X1_358 hs1.g (by decide) (by have := gK_le n1 m1; omega) (by have := gS_le n1 m1; omega) (Nat.le_of_ble_eq_true rfl) rfl dX1_writeLawn_56 (fun u5 A5 hc5 => ?_)
          obtain ⟨eu5, ⟨v2, hs2, hv2⟩, hg2⟩ := hc5
          refine r_topR eu5 ?_
          clear eu5 u5
          generalize A5 = F2 at hs2 hv2 hg2 ⊢
          obtain ⟨gk2, gs2⟩ := gKM n1 m1
          have gm2 := gM_le (M := 200) hs1.nm hm1 (by omega)
          refine r_widen (k' := gM n1 m1) (n' := 2 * gM n1 m1) gk2 gs2 ?_
          generalize gM n1 m1 = m2 at hs2 gm2 ⊢
          have hm2 := gm2
          obtain ⟨n2, hn2⟩ : ∃ n2, n2 = n1 + 1 := ⟨_, rfl⟩
          rw [← hn2] at hs2
          have hG2 : Gw A F2 (fun y => y = ob ∨ y = v) := hG1.tr2 hg2 (fun y hy q => q.elim Or.inl (fun e => hw1.elim (fun e1 => Or.inr (e.trans e1)) (fun e1 => absurd hy (by omega))))
          have hw2 : v2 = v ∨ A.z ≤ v2 := hv2.elim (fun e => by rw [e]; exact hw1) (fun e => Or.inr (Nat.le_trans hG1.1 e))
          have hLF2 := ly_gw hZ hL hG2 hXp
          have hvF2 := lv_gw hZ hL hv hG2 hXp
          have hcF2 : (F2.G c).1 = 1 := by rw [(hG2.2 c lc).1]; exact hc
          have hnF2 : F2.R c 0 = some a := by rw [((hG2.2 c lc).2.2 hcX).2.2]; exact hn
          have hoF2 : F2.R c 7 = some ob := by rw [((hG2.2 c lc).2.2 hcX).2.2]; exact ho
          refine r_pop (pc := 59) C dX1_writeLawn_59 rfl ?_
          refine r_iinc_1 (pc := 60) C dX1_writeLawn_60 (nI_inc _) rfl ?_
          refine r_goto (pc := 63) (tgt := 10) C dX1_writeLawn_63 (by decide) ?_
          have e9 := wlS_n (o := o) hno
          have hsE := hs2
          have hnE : n2 = (wlS σ o (k + 1)).1 := by rw [e9, hn2, hn1]
          have hagE : ∀ i, i < n2 → (wlS σ o (k + 1)).2 i = nI (lower f1 n1 (mkN σ k) i) := by rw [e9, hn2]; show ∀ i, i < n1 + 1 → upd (wlS σ o k).2 (wlS σ o k).1 (markR σ k) i = _; rw [markR_n (hW.c (by omega)), ← hn1]; exact ag_up hag
          exact ih10 (k + 1) _ _ _ _ _ (by omega) hsE hnE hagE (by assumption) (by assumption) (by assumption) (by omega)
        · skip
          have b22 := (not_congr (nI_le0 (by omega))).mp b22
          refine r_iload_1 (pc := 25) C dX1_writeLawn_25 ?_
          refine r_aload_0 (pc := 26) C dX1_writeLawn_26 ?_
          refine r_getR (pc := 27) C fl_X1_24_1 (by exact hcF1) rfl (by exact hnF1) dX1_writeLawn_27 ?_
          refine r_ngetI (pc := 30) C fn_X1_206_2 (ly_g hLF1) rfl dX1_writeLawn_30 ?_
          refine r_top (hvF1.w.trans hW.s.w) ?_
          refine r_irem (pc := 33) C dX1_writeLawn_33 (nI_nz (by omega) (by omega)) ?_
          refine r_top (nI_rem (by omega) (by omega) (by omega)) ?_
          have hmd := Nat.mod_lt k (show 0 < rW σ by omega)
          refine r_if_ne (pc := 34) (tgt := 47) C dX1_writeLawn_34 (by decide) (fun b34 => ?_) (fun b34 => ?_)
          · skip
            have b34 := (not_congr (nI_eq0 (by omega))).mp b34
            have hno : ¬ (0 < k ∧ k % rW σ = 0) := fun q => b34 q.2
            refine r_aload_0 (pc := 47) C dX1_writeLawn_47 ?_
            refine r_getR (pc := 48) C fl_X1_46_1 (by exact hcF1) rfl (by exact hoF1) dX1_writeLawn_48 ?_
            refine r_aload_0 (pc := 51) C dX1_writeLawn_51 ?_
            refine r_iload_1 (pc := 52) C dX1_writeLawn_52 ?_
            refine r_V1io (pc := 53) C (c_sign hcF1 hnF1 hLF1 hvF1 hJ (k := k) (by omega)) vl_X1_478 (by exact hcF1) (by decide) (by omega) (by omega) (Nat.le_of_ble_eq_true rfl) rfl dX1_writeLawn_53 (fun u6 A6 hc6 => ?_)
            refine r_top hc6.1 ?_
            refine r_eqA hc6.2 ?_
            clear hc6 A6 u6
            have hmk := mkN_le (hW.c9 (show k < 80 by omega))
            refine r_V1r (pc := 56) C (j_apU hz hs1 (c := mkN σ k) (by omega) (by omega)) vl_X1_358 hs1.g (by decide) (by have := gK_le n1 m1; omega) (by have := gS_le n1 m1; omega) (Nat.le_of_ble_eq_true rfl) rfl dX1_writeLawn_56 (fun u7 A7 hc7 => ?_)
            obtain ⟨eu7, ⟨v2, hs2, hv2⟩, hg2⟩ := hc7
            refine r_topR eu7 ?_
            clear eu7 u7
            generalize A7 = F2 at hs2 hv2 hg2 ⊢
            obtain ⟨gk2, gs2⟩ := gKM n1 m1
            have gm2 := gM_le (M := 200) hs1.nm hm1 (by omega)
            refine r_widen (k' := gM n1 m1) (n' := 2 * gM n1 m1) gk2 gs2 ?_
            generalize gM n1 m1 = m2 at hs2 gm2 ⊢
            have hm2 := gm2
            obtain ⟨n2, hn2⟩ : ∃ n2, n2 = n1 + 1 := ⟨_, rfl⟩
            rw [← hn2] at hs2
            have hG2 : Gw A F2 (fun y => y = ob ∨ y = v) := hG1.tr2 hg2 (fun y hy q => q.elim Or.inl (fun e => hw1.elim (fun e1 => Or.inr (e.trans e1)) (fun e1 => absurd hy (by omega))))
            have hw2 : v2 = v ∨ A.z ≤ v2 := hv2.elim (fun e => by rw [e]; exact hw1) (fun e => Or.inr (Nat.le_trans hG1.1 e))
            have hLF2 := ly_gw hZ hL hG2 hXp
            have hvF2 := lv_gw hZ hL hv hG2 hXp
            have hcF2 : (F2.G c).1 = 1 := by rw [(hG2.2 c lc).1]; exact hc
            have hnF2 : F2.R c 0 = some a := by rw [((hG2.2 c lc).2.2 hcX).2.2]; exact hn
            have hoF2 : F2.R c 7 = some ob := by rw [((hG2.2 c lc).2.2 hcX).2.2]; exact ho
            refine r_pop (pc := 59) C dX1_writeLawn_59 rfl ?_
            refine r_iinc_1 (pc := 60) C dX1_writeLawn_60 (nI_inc _) rfl ?_
            refine r_goto (pc := 63) (tgt := 10) C dX1_writeLawn_63 (by decide) ?_
            have e9 := wlS_n (o := o) hno
            have hsE := hs2
            have hnE : n2 = (wlS σ o (k + 1)).1 := by rw [e9, hn2, hn1]
            have hagE : ∀ i, i < n2 → (wlS σ o (k + 1)).2 i = nI (lower f1 n1 (mkN σ k) i) := by rw [e9, hn2]; show ∀ i, i < n1 + 1 → upd (wlS σ o k).2 (wlS σ o k).1 (markR σ k) i = _; rw [markR_n (hW.c (by omega)), ← hn1]; exact ag_up hag
            exact ih10 (k + 1) _ _ _ _ _ (by omega) hsE hnE hagE (by assumption) (by assumption) (by assumption) (by omega)
          · skip
            have b34 := (nI_eq0 (by omega)).mp b34
            have hye : 0 < k ∧ k % rW σ = 0 := ⟨by omega, b34⟩
            refine r_aload_0 (pc := 37) C dX1_writeLawn_37 ?_
            refine r_getR (pc := 38) C fl_X1_46_1 (by exact hcF1) rfl (by exact hoF1) dX1_writeLawn_38 ?_
            refine r_bipush (pc := 41) C dX1_writeLawn_41 cb_47 ?_
            refine r_V1r (pc := 43) C (j_apU hz hs1 (c := 47) (by omega) (by omega)) vl_X1_358 hs1.g (by decide) (by have := gK_le n1 m1; omega) (by have := gS_le n1 m1; omega) (Nat.le_of_ble_eq_true rfl) rfl dX1_writeLawn_43 (fun u8 A8 hc8 => ?_)
            obtain ⟨eu8, ⟨v2, hs2, hv2⟩, hg2⟩ := hc8
            refine r_topR eu8 ?_
            clear eu8 u8
            generalize A8 = F2 at hs2 hv2 hg2 ⊢
            obtain ⟨gk2, gs2⟩ := gKM n1 m1
            have gm2 := gM_le (M := 200) hs1.nm hm1 (by omega)
            refine r_widen (k' := gM n1 m1) (n' := 2 * gM n1 m1) gk2 gs2 ?_
            generalize gM n1 m1 = m2 at hs2 gm2 ⊢
            have hm2 := gm2
            obtain ⟨n2, hn2⟩ : ∃ n2, n2 = n1 + 1 := ⟨_, rfl⟩
            rw [← hn2] at hs2
            have hG2 : Gw A F2 (fun y => y = ob ∨ y = v) := hG1.tr2 hg2 (fun y hy q => q.elim Or.inl (fun e => hw1.elim (fun e1 => Or.inr (e.trans e1)) (fun e1 => absurd hy (by omega))))
            have hw2 : v2 = v ∨ A.z ≤ v2 := hv2.elim (fun e => by rw [e]; exact hw1) (fun e => Or.inr (Nat.le_trans hG1.1 e))
            have hLF2 := ly_gw hZ hL hG2 hXp
            have hvF2 := lv_gw hZ hL hv hG2 hXp
            have hcF2 : (F2.G c).1 = 1 := by rw [(hG2.2 c lc).1]; exact hc
            have hnF2 : F2.R c 0 = some a := by rw [((hG2.2 c lc).2.2 hcX).2.2]; exact hn
            have hoF2 : F2.R c 7 = some ob := by rw [((hG2.2 c lc).2.2 hcX).2.2]; exact ho
            refine r_pop (pc := 46) C dX1_writeLawn_46 rfl ?_
            refine r_aload_0 (pc := 47) C dX1_writeLawn_47 ?_
            refine r_getR (pc := 48) C fl_X1_46_1 (by exact hcF2) rfl (by exact hoF2) dX1_writeLawn_48 ?_
            refine r_aload_0 (pc := 51) C dX1_writeLawn_51 ?_
            refine r_iload_1 (pc := 52) C dX1_writeLawn_52 ?_
            refine r_V1io (pc := 53) C (c_sign hcF2 hnF2 hLF2 hvF2 hJ (k := k) (by omega)) vl_X1_478 (by exact hcF2) (by decide) (by omega) (by omega) (Nat.le_of_ble_eq_true rfl) rfl dX1_writeLawn_53 (fun u9 A9 hc9 => ?_)
            refine r_top hc9.1 ?_
            refine r_eqA hc9.2 ?_
            clear hc9 A9 u9
            have hmk := mkN_le (hW.c9 (show k < 80 by omega))
            refine r_V1r (pc := 56) C (j_apU hz hs2 (c := mkN σ k) (by omega) (by omega)) vl_X1_358 hs2.g (by decide) (by have := gK_le n2 m2; omega) (by have := gS_le n2 m2; omega) (Nat.le_of_ble_eq_true rfl) rfl dX1_writeLawn_56 (fun u10 A10 hc10 => ?_)
            obtain ⟨eu10, ⟨v3, hs3, hv3⟩, hg3⟩ := hc10
            refine r_topR eu10 ?_
            clear eu10 u10
            generalize A10 = F3 at hs3 hv3 hg3 ⊢
            obtain ⟨gk3, gs3⟩ := gKM n2 m2
            have gm3 := gM_le (M := 200) hs2.nm hm2 (by omega)
            refine r_widen (k' := gM n2 m2) (n' := 2 * gM n2 m2) gk3 gs3 ?_
            generalize gM n2 m2 = m3 at hs3 gm3 ⊢
            have hm3 := gm3
            obtain ⟨n3, hn3⟩ : ∃ n3, n3 = n2 + 1 := ⟨_, rfl⟩
            rw [← hn3] at hs3
            have hG3 : Gw A F3 (fun y => y = ob ∨ y = v) := hG2.tr2 hg3 (fun y hy q => q.elim Or.inl (fun e => hw2.elim (fun e1 => Or.inr (e.trans e1)) (fun e1 => absurd hy (by omega))))
            have hw3 : v3 = v ∨ A.z ≤ v3 := hv3.elim (fun e => by rw [e]; exact hw2) (fun e => Or.inr (Nat.le_trans hG2.1 e))
            have hLF3 := ly_gw hZ hL hG3 hXp
            have hvF3 := lv_gw hZ hL hv hG3 hXp
            have hcF3 : (F3.G c).1 = 1 := by rw [(hG3.2 c lc).1]; exact hc
            have hnF3 : F3.R c 0 = some a := by rw [((hG3.2 c lc).2.2 hcX).2.2]; exact hn
            have hoF3 : F3.R c 7 = some ob := by rw [((hG3.2 c lc).2.2 hcX).2.2]; exact ho
            refine r_pop (pc := 59) C dX1_writeLawn_59 rfl ?_
            refine r_iinc_1 (pc := 60) C dX1_writeLawn_60 (nI_inc _) rfl ?_
            refine r_goto (pc := 63) (tgt := 10) C dX1_writeLawn_63 (by decide) ?_
            have e9 := wlS_y (o := o) hye
            have hsE := hs3
            have hnE : n3 = (wlS σ o (k + 1)).1 := by rw [e9, hn3, hn2, hn1]
            have hagE : ∀ i, i < n3 → (wlS σ o (k + 1)).2 i = nI (lower (lower f1 n1 47) n2 (mkN σ k) i) := by rw [e9, hn3, hn2]; show ∀ i, i < n1 + 1 + 1 → upd (upd (wlS σ o k).2 (wlS σ o k).1 (nI 47)) ((wlS σ o k).1 + 1) (markR σ k) i = _; rw [markR_n (hW.c (by omega)), ← hn1]; exact ag_up (ag_up hag)
            exact ih10 (k + 1) _ _ _ _ _ (by omega) hsE hnE hagE (by assumption) (by assumption) (by assumption) (by omega)
  refine r_widen (k' := m) (n' := 2 * m) (by omega) (by omega) ?_
  exact lp10_2 _ 0 m v 0 f F0 (Nat.zero_le _) hs0 rfl (fun i hi => absurd hi (Nat.not_lt_zero _)) hG0 (Or.inl rfl) hm2 (Nat.lt_succ_self _)
set_option maxHeartbeats 4000000 in
theorem c_find {g : GZ} {A : HA} {c a : Nat} {d : Nat → Nat} {σ : Rw} (hc : (A.G c).1 = 1) (hn : A.R c 0 = some a) (hL : Ly A a d σ) (hv : Lv A.I a d σ) (hJ : RowJ σ) (hz : zS g) (hNm : NmK A d σ) (hX : LyX A d) {bf L : Nat} {B : Nat → Nat} (hb : A.R c 3 = some bf) (hbk : (A.G bf).1 = 201) (hbn : A.n bf = 900) (hlL : A.I c 4 = nI L) (hB : ∀ k, k < L → A.I bf k = sgB (B k) ∧ B k ≤ 255) (h9 : L ≤ 900) {p : Prop} [Decidable p] : Ct g wI yX1_find (.code yX1_find cX1_find 4 (Option.some Jvm.ClassFile.FieldType.int)) 10 4 40 [.ref c, .int (bI p)] (A) (fun u A' => u = fdC σ B L p ∧ Gw A A' Non) fw_no := by
  refine Ct.of [some (.ref c), some (.int (bI p)), none, none] (by decide) rfl rfl fun z C hx hnm E => ?_
  have hW := hJ.w
  have hS := hW.s
  have hw3 := hS.w3
  have hw10 := hS.w10
  have hh8 := hS.h8
  have hc80 := hS.c80
  have k6 := hW.k6
  have g6 := hW.g6
  have hC : ∀ c, c < 80 → CelF σ c := fun c hc => (hJ.c hc).fe
  have d9 := hW.d9
  refine r_Z fun hZ => ?_
  have lc := hZ.lt hc rfl
  have lb := hZ.lt hbk rfl
  have hNN : NumI σ := ⟨⟨hW.g, g6⟩, ⟨hW.k, k6⟩⟩
  refine r_new (pc := 0) C (0) (Nat.zero_le _) nl_X1_43 NF15 (by omega) (by omega) dX1_find_0 ?_
  refine r_dup (pc := 3) C dX1_find_3 rfl ?_
  refine r_I0v (pc := 4) C (j_J9_init (A := (A.mk 15 0 0)) (f := B) hz (by rw [mk_G, if_pos rfl]) (by rw [mk_I, if_pos rfl]; exact nI0.symm)) il_X1_45 (by decide) (by omega) (by omega) (Nat.le_of_ble_eq_true rfl) rfl dX1_find_4 (fun u1 A1 hc1 => ?_)
  obtain ⟨hs0, hg0, hz0⟩ := hc1
  generalize A1 = F0 at hs0 hg0 hz0 ⊢
  have hG0 : Gw A F0 Non := (gw_mk (X := Non)).tr2 hg0 (fun y hy e => absurd e (by omega))
  refine r_astore_2 (pc := 7) C dX1_find_7 rfl ?_
  refine r_iconst (pc := 8) C dX1_find_8 ci_0 ?_
  refine r_istore_3 (pc := 9) C dX1_find_9 rfl ?_
  have lp10_2 : ∀ (fu : Nat) (k : Nat) (F1 : HA) (hkL : k ≤ L) (hk7 : k ≤ 7) (hle : ∀ j, j < k → isLe (B j) = true) (hs1 : SbV F1 A.z (A.z + 1) 16 B k) (hG1 : Gw A F1 Non), 7 - k < fu → wa g z 2 20 (F1) 10 [some (.ref c), some (.int (bI p)), some (.ref (A.z)), some (.int (nI (k)))] [] := by
    intro fu
    induction fu with
    | zero => intro k  F1  hkL hk7 hle hs1 hG1 hm10; exact absurd hm10 (Nat.not_lt_zero _)
    | succ fu ih10 =>
      intro k  F1  hkL hk7 hle hs1 hG1 hm10
      have hLF1 := ly_gw hZ hL hG1 (fun _ _ q => q)
      have hvF1 := lv_gw hZ hL hv hG1 (fun _ _ q => q)
      have hcF1 : (F1.G c).1 = 1 := by rw [(hG1.2 c lc).1]; exact hc
      have hnF1 : F1.R c 0 = some a := by rw [((hG1.2 c lc).2.2 (fun q => q)).2.2]; exact hn
      have hbRF1 : F1.R c 3 = some bf := by rw [((hG1.2 c lc).2.2 (fun q => q)).2.2]; exact hb
      have hlF1 : F1.I c 4 = nI L := by rw [((hG1.2 c lc).2.2 (fun q => q)).2.1]; exact hlL
      have hbkF1 : (F1.G bf).1 = 201 := by rw [(hG1.2 bf lb).1]; exact hbk
      have hbnF1 : F1.n bf = 900 := by rw [(hG1.2 bf lb).2.1]; exact hbn
      have hBF1 : ∀ k, k < L → F1.I bf k = sgB (B k) := fun k hk => by rw [((hG1.2 bf lb).2.2 (fun q => q)).2.1]; exact (hB k hk).1
      refine r_iload_3 (pc := 10) C dX1_find_10 ?_
      refine r_aload_0 (pc := 11) C dX1_find_11 ?_
      refine r_getI (pc := 12) C fl_X1_104_1 (by exact hcF1) rfl dX1_find_12 ?_
      refine r_top hlF1 ?_
      refine r_icmp_ge (pc := 15) (tgt := 63) C dX1_find_15 (by decide) (fun b15 => ?_) (fun b15 => ?_)
      · skip
        have b15 := (nI_le2 (by omega) (by omega)).mp b15
        refine r_iload_1 (pc := 63) C dX1_find_63 ?_
        refine r_if_eq (pc := 64) (tgt := 84) C dX1_find_64 (by decide) (fun b64 => ?_) (fun b64 => ?_)
        · skip
          have b64 := bI_0.mp b64
          refine r_aload_0 (pc := 84) C dX1_find_84 ?_
          refine r_getR (pc := 85) C fl_X1_24_1 (by exact hcF1) rfl (by exact hnF1) dX1_find_85 ?_
          refine r_ngetR (pc := 88) C fn_X1_69_2 (ly_g hLF1) rfl (ly_r12 hLF1) dX1_find_88 ?_
          refine r_aload_2 (pc := 91) C dX1_find_91 ?_
          refine r_V0r (pc := 92) C (j_J9_toString hz hs1 (by omega)) vl_X1_362 hs1.g (by decide) (by omega) (by omega) (Nat.le_of_ble_eq_true rfl) rfl dX1_find_92 (fun u3 A3 hc3 => ?_)
          obtain ⟨eu3, hS3, hg3, hz3⟩ := hc3
          refine r_topR eu3 ?_
          clear eu3 u3
          generalize A3 = F3 at hS3 hg3 hz3 ⊢
          have hG3 : Gw A F3 Non := hG1.tr hg3
          have hL3 := ly_gw hZ hL hG3 (fun _ _ q => q)
          have hv3 := lv_gw hZ hL hv hG3 (fun _ _ q => q)
          have hN3 := hNm.gw hZ hL hG3 (fun _ _ q => q.elim) (fun y hy => ((hG3.2 y (fp_lt hZ hL hy)).2.2 (fun q => q)).2.2)
          refine r_V1io (pc := 95) C (c_namedW hL3 hv3 hNN hz hN3 hS3.1) vl_X1_365 (ly_g12 hL3) (by decide) (by omega) (by omega) (Nat.le_of_ble_eq_true rfl) rfl dX1_find_95 (fun u4 A4 hc4 => ?_)
          refine r_top hc4.1 ?_
          refine r_eqA hc4.2 ?_
          clear hc4 A4 u4
          refine r_iret (pc := 98) C E rfl (by omega) (by omega) dX1_find_98 ?_
          refine ⟨?_, hG3⟩
          rw [fdC_y (k := k) (by omega) hle]
          unfold hereR
          first
            | rw [if_pos b64]; rfl
            | rw [if_neg b64]; rfl
        · skip
          have b64 := bI_n.mp b64
          refine r_aload_0 (pc := 67) C dX1_find_67 ?_
          refine r_getR (pc := 68) C fl_X1_24_1 (by exact hcF1) rfl (by exact hnF1) dX1_find_68 ?_
          refine r_ngetR (pc := 71) C fn_X1_197_2 (ly_g hLF1) rfl (ly_r11 hLF1) dX1_find_71 ?_
          refine r_aload_2 (pc := 74) C dX1_find_74 ?_
          refine r_V0r (pc := 75) C (j_J9_toString hz hs1 (by omega)) vl_X1_362 hs1.g (by decide) (by omega) (by omega) (Nat.le_of_ble_eq_true rfl) rfl dX1_find_75 (fun u5 A5 hc5 => ?_)
          obtain ⟨eu5, hS3, hg3, hz3⟩ := hc5
          refine r_topR eu5 ?_
          clear eu5 u5
          generalize A5 = F3 at hS3 hg3 hz3 ⊢
          have hG3 : Gw A F3 Non := hG1.tr hg3
          have hL3 := ly_gw hZ hL hG3 (fun _ _ q => q)
          have hv3 := lv_gw hZ hL hv hG3 (fun _ _ q => q)
          have hN3 := hNm.gw hZ hL hG3 (fun _ _ q => q.elim) (fun y hy => ((hG3.2 y (fp_lt hZ hL hy)).2.2 (fun q => q)).2.2)
          refine r_V1io (pc := 78) C (c_namedG hL3 hv3 hNN hz hN3 hS3.1) vl_X1_365 (ly_g11 hL3) (by decide) (by omega) (by omega) (Nat.le_of_ble_eq_true rfl) rfl dX1_find_78 (fun u6 A6 hc6 => ?_)
          refine r_top hc6.1 ?_
          refine r_eqA hc6.2 ?_
          clear hc6 A6 u6
          refine r_goto (pc := 81) (tgt := 98) C dX1_find_81 (by decide) ?_
          refine r_iret (pc := 98) C E rfl (by omega) (by omega) dX1_find_98 ?_
          refine ⟨?_, hG3⟩
          rw [fdC_y (k := k) (by omega) hle]
          unfold hereR
          first
            | rw [if_pos b64]; rfl
            | rw [if_neg b64]; rfl
      · skip
        have b15 := (not_congr (nI_le2 (by omega) (by omega))).mp b15
        refine r_iload_3 (pc := 18) C dX1_find_18 ?_
        refine r_bipush (pc := 19) C dX1_find_19 cb_6 ?_
        refine r_icmp_gt (pc := 21) (tgt := 63) C dX1_find_21 (by decide) (fun b21 => ?_) (fun b21 => ?_)
        · skip
          have b21 := (nI_lt2 (by omega) (by omega)).mp b21
          refine r_iload_1 (pc := 63) C dX1_find_63 ?_
          refine r_if_eq (pc := 64) (tgt := 84) C dX1_find_64 (by decide) (fun b64 => ?_) (fun b64 => ?_)
          · skip
            have b64 := bI_0.mp b64
            refine r_aload_0 (pc := 84) C dX1_find_84 ?_
            refine r_getR (pc := 85) C fl_X1_24_1 (by exact hcF1) rfl (by exact hnF1) dX1_find_85 ?_
            refine r_ngetR (pc := 88) C fn_X1_69_2 (ly_g hLF1) rfl (ly_r12 hLF1) dX1_find_88 ?_
            refine r_aload_2 (pc := 91) C dX1_find_91 ?_
            refine r_V0r (pc := 92) C (j_J9_toString hz hs1 (by omega)) vl_X1_362 hs1.g (by decide) (by omega) (by omega) (Nat.le_of_ble_eq_true rfl) rfl dX1_find_92 (fun u7 A7 hc7 => ?_)
            obtain ⟨eu7, hS3, hg3, hz3⟩ := hc7
            refine r_topR eu7 ?_
            clear eu7 u7
            generalize A7 = F3 at hS3 hg3 hz3 ⊢
            have hG3 : Gw A F3 Non := hG1.tr hg3
            have hL3 := ly_gw hZ hL hG3 (fun _ _ q => q)
            have hv3 := lv_gw hZ hL hv hG3 (fun _ _ q => q)
            have hN3 := hNm.gw hZ hL hG3 (fun _ _ q => q.elim) (fun y hy => ((hG3.2 y (fp_lt hZ hL hy)).2.2 (fun q => q)).2.2)
            refine r_V1io (pc := 95) C (c_namedW hL3 hv3 hNN hz hN3 hS3.1) vl_X1_365 (ly_g12 hL3) (by decide) (by omega) (by omega) (Nat.le_of_ble_eq_true rfl) rfl dX1_find_95 (fun u8 A8 hc8 => ?_)
            refine r_top hc8.1 ?_
            refine r_eqA hc8.2 ?_
            clear hc8 A8 u8
            refine r_iret (pc := 98) C E rfl (by omega) (by omega) dX1_find_98 ?_
            refine ⟨?_, hG3⟩
            rw [fdC_y (k := k) (by omega) hle]
            unfold hereR
            first
              | rw [if_pos b64]; rfl
              | rw [if_neg b64]; rfl
          · skip
            have b64 := bI_n.mp b64
            refine r_aload_0 (pc := 67) C dX1_find_67 ?_
            refine r_getR (pc := 68) C fl_X1_24_1 (by exact hcF1) rfl (by exact hnF1) dX1_find_68 ?_
            refine r_ngetR (pc := 71) C fn_X1_197_2 (ly_g hLF1) rfl (ly_r11 hLF1) dX1_find_71 ?_
            refine r_aload_2 (pc := 74) C dX1_find_74 ?_
            refine r_V0r (pc := 75) C (j_J9_toString hz hs1 (by omega)) vl_X1_362 hs1.g (by decide) (by omega) (by omega) (Nat.le_of_ble_eq_true rfl) rfl dX1_find_75 (fun u9 A9 hc9 => ?_)
            obtain ⟨eu9, hS3, hg3, hz3⟩ := hc9
            refine r_topR eu9 ?_
            clear eu9 u9
            generalize A9 = F3 at hS3 hg3 hz3 ⊢
            have hG3 : Gw A F3 Non := hG1.tr hg3
            have hL3 := ly_gw hZ hL hG3 (fun _ _ q => q)
            have hv3 := lv_gw hZ hL hv hG3 (fun _ _ q => q)
            have hN3 := hNm.gw hZ hL hG3 (fun _ _ q => q.elim) (fun y hy => ((hG3.2 y (fp_lt hZ hL hy)).2.2 (fun q => q)).2.2)
            refine r_V1io (pc := 78) C (c_namedG hL3 hv3 hNN hz hN3 hS3.1) vl_X1_365 (ly_g11 hL3) (by decide) (by omega) (by omega) (Nat.le_of_ble_eq_true rfl) rfl dX1_find_78 (fun u10 A10 hc10 => ?_)
            refine r_top hc10.1 ?_
            refine r_eqA hc10.2 ?_
            clear hc10 A10 u10
            refine r_goto (pc := 81) (tgt := 98) C dX1_find_81 (by decide) ?_
            refine r_iret (pc := 98) C E rfl (by omega) (by omega) dX1_find_98 ?_
            refine ⟨?_, hG3⟩
            rw [fdC_y (k := k) (by omega) hle]
            unfold hereR
            first
              | rw [if_pos b64]; rfl
              | rw [if_neg b64]; rfl
        · skip
          have b21 := (not_congr (nI_lt2 (by omega) (by omega))).mp b21
          refine r_aload_0 (pc := 24) C dX1_find_24 ?_
          refine r_getR (pc := 25) C fl_X1_35_1 (by exact hcF1) rfl (by exact hbRF1) dX1_find_25 ?_
          refine r_iload_3 (pc := 28) C dX1_find_28 ?_
          refine r_bald (pc := 29) C (by exact hbkF1) rfl rfl (lt_eq (by omega) (show _ = 900 from hbnF1)) (by omega) dX1_find_29 ?_
          refine r_top (hBF1 k (by omega)) ?_
          refine r_i2l (pc := 30) C dX1_find_30 ?_
          refine r_ldc2 (pc := 31) C q593 dX1_find_31 ?_
          refine r_ldc2 (pc := 34) C q594 dX1_find_34 ?_
          refine r_S3io (pc := 37) C (c_inZ (p := 97) (q := 122) (by decide) (by decide)) sl_X1_114 (by decide) (by omega) (by omega) (Nat.le_of_ble_eq_true rfl) rfl dX1_find_37 (fun u11 A11 hc11 => ?_)
          refine r_top hc11.1 ?_
          refine r_eqA hc11.2 ?_
          clear hc11 A11 u11
          refine r_if_ne (pc := 40) (tgt := 45) C dX1_find_40 (by decide) (fun b40 => ?_) (fun b40 => ?_)
          · skip
            have b40 := bI_n.mp b40
            have hle1 := (sg_in (hB k (by omega)).2).1.mp b40
            have hle2 := le_r hle1
            refine r_aload_2 (pc := 45) C dX1_find_45 ?_
            refine r_aload_0 (pc := 46) C dX1_find_46 ?_
            refine r_getR (pc := 47) C fl_X1_35_1 (by exact hcF1) rfl (by exact hbRF1) dX1_find_47 ?_
            refine r_iload_3 (pc := 50) C dX1_find_50 ?_
            refine r_bald (pc := 51) C (by exact hbkF1) rfl rfl (lt_eq (by omega) (show _ = 900 from hbnF1)) (by omega) dX1_find_51 ?_
            refine r_top (hBF1 k (by omega)) ?_
            refine r_top ((sg_in (hB k (by omega)).2).2 hle1) ?_
            refine r_i2c (pc := 52) C dX1_find_52 ?_
            refine r_top (by_c (by omega)) ?_
            refine r_V1ro (pc := 53) C (j_ap9O hz hs1 (c := B k) (by omega) (by omega)) vl_X1_358 hs1.g (by decide) (by omega) (by omega) (Nat.le_of_ble_eq_true rfl) rfl dX1_find_53 (fun u12 A12 hc12 => ?_)
            obtain ⟨eu12, hs2, hg2, hz2⟩ := hc12
            refine r_topR eu12 ?_
            clear eu12 u12
            generalize A12 = F2 at hs2 hg2 hz2 ⊢
            have hG2 : Gw A F2 Non := hG1.tr2 hg2 (fun y hy q => q.elim (fun e => absurd e (by omega)) (fun e => absurd e (by omega)))
            have hLF2 := ly_gw hZ hL hG2 (fun _ _ q => q)
            have hvF2 := lv_gw hZ hL hv hG2 (fun _ _ q => q)
            have hcF2 : (F2.G c).1 = 1 := by rw [(hG2.2 c lc).1]; exact hc
            have hnF2 : F2.R c 0 = some a := by rw [((hG2.2 c lc).2.2 (fun q => q)).2.2]; exact hn
            have hbRF2 : F2.R c 3 = some bf := by rw [((hG2.2 c lc).2.2 (fun q => q)).2.2]; exact hb
            have hlF2 : F2.I c 4 = nI L := by rw [((hG2.2 c lc).2.2 (fun q => q)).2.1]; exact hlL
            have hbkF2 : (F2.G bf).1 = 201 := by rw [(hG2.2 bf lb).1]; exact hbk
            have hbnF2 : F2.n bf = 900 := by rw [(hG2.2 bf lb).2.1]; exact hbn
            have hBF2 : ∀ k, k < L → F2.I bf k = sgB (B k) := fun k hk => by rw [((hG2.2 bf lb).2.2 (fun q => q)).2.1]; exact (hB k hk).1
            refine r_pop (pc := 56) C dX1_find_56 rfl ?_
            refine r_iinc_3 (pc := 57) C dX1_find_57 (nI_inc _) rfl ?_
            refine r_goto (pc := 60) (tgt := 10) C dX1_find_60 (by decide) ?_
            exact ih10 (k + 1) F2 (by omega) (by omega) (fun j hj => if q9 : j = k then by rw [q9]; exact hle1 else hle j (by omega)) (hs2.cong (fun j hj => by by_cases q9 : j = k; (subst q9; exact (lower_s _ _ _).symm); exact (lower_o _ _ q9).symm)) hG2 (by omega)
          · skip
            have b40 := bI_0.mp b40
            refine r_iconst (pc := 43) C dX1_find_43 ci_m1 ?_
            refine r_iret (pc := 44) C E rfl (by omega) (by omega) dX1_find_44 ?_
            refine ⟨(fdC_n (k := k) (by omega) (by omega) (fun q => b40 ((sg_in (hB k (by omega)).2).1.mpr q))).symm, hG1⟩
  exact lp10_2 _ 0 F0 (Nat.zero_le _) (by omega) (fun j hj => absurd hj (Nat.not_lt_zero _)) hs0 hG0 (Nat.lt_succ_self _)
