/-! THE COMPONENT, 13: the way, written -/
set_option maxRecDepth 100000
noncomputable def hadI (σ : Rw) (k : Nat) : Nat → Int32
  | 0 => -1
  | i + 1 => nI (wy σ k i)
theorem tn_c {σ : Rw} {c n s : Nat} (hW : 3 ≤ rW σ) (hc : c < rC σ) (hs : s < 4) (h : nb (rW σ) (rH σ) c s = some n) : tnF σ c n = if n + rW σ = c then 0 else if n = c + 1 then 1 else if n = c + rW σ then 2 else 3 := by
  obtain ⟨h0, h1, h2, h3⟩ := nb_cell (H := rH σ) (show 0 < rW σ by omega) hc
  have hm : c % rW σ ≤ c := Nat.mod_le _ _
  unfold tnF
  rw [h0, h1, h2]
  have hcC : c < rW σ * rH σ := hc
  rcases (show s = 0 ∨ s = 1 ∨ s = 2 ∨ s = 3 by omega) with e | e | e | e <;> subst e
  · rw [h0] at h
    split at h
    · cases h
      rw [if_pos (by rw [if_pos (by assumption)]), if_pos (by omega)]
    · cases h
  · rw [h1] at h
    split at h
    · cases h
      rw [if_neg (by split <;> simp <;> omega), if_pos (by rw [if_pos (by assumption)]), if_neg (by omega), if_pos rfl]
    · cases h
  · rw [h2] at h
    split at h
    · cases h
      rw [if_neg (by split <;> simp <;> omega), if_neg (by split <;> simp <;> omega), if_pos (by rw [if_pos (by assumption)]), if_neg (by omega), if_neg (by omega), if_pos rfl]
    · cases h
  · rw [h3] at h
    split at h
    · cases h
      rw [if_neg (by split <;> simp <;> omega), if_neg (by split <;> simp <;> omega), if_neg (by split <;> simp <;> omega), if_neg (by omega), if_neg (by omega), if_neg (by omega)]
    · cases h
theorem sub_eqW {n c W : Nat} (hn : n < 1000) (hc : c < 1000) (hW : W < 1000) : nI n = nI c - nI W ↔ n + W = c := by
  constructor
  · intro h
    have h1 := congrArg Int32.toInt h
    rw [t_nI (by omega), pk_sub_toInt (by omega) (by omega)] at h1
    omega
  · intro h
    rw [pk_sub (by omega)]; congr 1; omega
set_option maxHeartbeats 4000000 in
theorem c_writeWay {g : GZ} {A : HA} {c a : Nat} {d : Nat → Nat} {σ : Rw} (hc : (A.G c).1 = 1) (hn : A.R c 0 = some a) (hL : Ly A a d σ) (hv : Lv A.I a d σ) (hJ : RowJ σ) (hG : GdK g) (hIc : IcK g A) (hz : zS g) (hX : LyX A d) {ob v m n0 : Nat} {f : Nat → Nat} (ho : A.R c 7 = some ob) (hs : SbV A ob v m f n0) (hm2 : m ≤ 200) {o : Rw} {x : Int32} : Ct g wI yX1_writeWay (.code yX1_writeWay cX1_writeWay 6 (Option.some Jvm.ClassFile.FieldType.int)) 10 213 830 [.ref c, .int x] (A) (fun u A' => inW σ x ∧ u = nI (wl σ (nt x)) ∧ (∃ v1 m1 f1, SbV A' ob v1 m1 f1 (wl σ (nt x)) ∧ m1 ≤ 200 ∧ (v1 = v ∨ A.z ≤ v1) ∧ ∀ i, i < wl σ (nt x) → wwS σ (nt x) o (wl σ (nt x)) i = nI (f1 i)) ∧ Gw A A' (fun y => Sc d y ∨ y = ob ∨ y = v) ∧ A'.R c = A.R c ∧ A'.I c = A.I c ∧ (∀ y, y < A.z → y ≠ ob → y ≠ v → A'.R y = A.R y)) (fun q A' => ¬ inW σ x ∧ TX A A' Non 20 q) := by
  refine Ct.of [some (.ref c), some (.int x), none, none, none, none] (by decide) rfl rfl fun z C hx hnm E => ?_
  have hW := hJ.w
  have hS := hW.s
  have hw3 := hS.w3
  have hw10 := hS.w10
  have hh8 := hS.h8
  have hc80 := hS.c80
  have k6 := hW.k6
  have g6 := hW.g6
  have hC : ∀ c, c < 80 → CelF σ c := fun c hc => (hJ.c hc).fe
  have d9 := hW.d9
  refine r_Z fun hZ => ?_
  have lc := hZ.lt hc rfl
  have lob := hs.lt hZ
  have hcX : ¬ (c = ob ∨ c = v) := fun q => by rcases q with e | e; (have h9 := hs.g; rw [← e, hc] at h9; cases h9); (have h9 := hs.k; rw [← e, hc] at h9; cases h9)
  have hXp : ∀ y, Fp a d (rK σ) (rG σ) y → ¬ (y = ob ∨ y = v) := fun y hy q => fp_kx hL hX hy (by rcases q with e | e; (rw [e]; exact Or.inr (Or.inl hs.g)); (rw [e]; exact Or.inr (Or.inr (Or.inr (Or.inl hs.k)))))
  refine r_aload_0 (pc := 0) C dX1_writeWay_0 ?_
  refine r_iload_1 (pc := 1) C dX1_writeWay_1 ?_
  refine r_V1rx (pc := 2) C (c_walkerAt hc hn hL hv hJ) vl_X1_330 (by exact hc) (by decide) (by omega) (by omega) (Nat.le_of_ble_eq_true rfl) rfl dX1_writeWay_2 (fun q A9 hp hE => r_out C E (by rw [hx]; exact fun x h => nomatch h) hE.choose_spec (by omega) (by omega) (hp)) (fun u1 A1 hc1 => ?_)
  obtain ⟨hi1, eu1, eA1⟩ := hc1
  refine r_topR eu1 ?_
  refine r_eqA eA1 ?_
  clear eu1 eA1 A1 u1
  have b98 : inW σ x := by assumption
  have b97 := b98
  obtain ⟨k, hkx, rfl⟩ := inZ_of (n := rK σ) b97 (by omega)
  rw [show nt (nI k) = k from nt_n (by omega)]
  refine r_astore_2 (pc := 5) C dX1_writeWay_5 rfl ?_
  refine r_aload_0 (pc := 6) C dX1_writeWay_6 ?_
  refine r_getR (pc := 7) C fl_X1_46_1 (by exact hc) rfl (by exact ho) dX1_writeWay_7 ?_
  refine r_iconst (pc := 10) C dX1_writeWay_10 ci_0 ?_
  refine r_V1vo (pc := 11) C (j_J9_setLength hs) vl_X1_475 hs.g (by decide) (by omega) (by omega) (Nat.le_of_ble_eq_true rfl) rfl dX1_writeWay_11 (fun u2 A2 hc2 => ?_)
  obtain ⟨hs0, hg0, hz0⟩ := hc2
  generalize A2 = F0 at hs0 hg0 hz0 ⊢
  have hG0 : Gw A F0 (fun y => y = ob ∨ y = v) := hg0.mono (fun _ _ e => Or.inl e)
  have hLF0 := ly_gw hZ hL hG0 hXp
  have hvF0 := lv_gw hZ hL hv hG0 hXp
  have hcF0 : (F0.G c).1 = 1 := by rw [(hG0.2 c lc).1]; exact hc
  have hnF0 : F0.R c 0 = some a := by rw [((hG0.2 c lc).2.2 hcX).2.2]; exact hn
  have hoF0 : F0.R c 7 = some ob := by rw [((hG0.2 c lc).2.2 hcX).2.2]; exact ho
  refine r_Z fun hZ0 => ?_
  have hI0 := hIc.gw hZ hG0 (fun y _ q => by rcases q with e | e; (rw [e, hs.g]; exact ⟨by decide, by decide⟩); (rw [e, hs.k]; exact ⟨by decide, by decide⟩))
  have lc0 : c < F0.z := by omega
  refine r_iconst (pc := 14) C dX1_writeWay_14 ci_m1 ?_
  refine r_istore_3 (pc := 15) C dX1_writeWay_15 rfl ?_
  refine r_aload_0 (pc := 16) C dX1_writeWay_16 ?_
  refine r_getR (pc := 17) C fl_X1_24_1 (by exact hcF0) rfl (by exact hnF0) dX1_writeWay_17 ?_
  refine r_aload_2 (pc := 20) C dX1_writeWay_20 ?_
  refine r_V1r (pc := 21) C (l_way (k := k) hLF0 hvF0 hW hC hJ.g hG hkx) vl_X1_247 (ly_g hLF0) (by decide) (by omega) (by omega) (Nat.le_of_ble_eq_true rfl) rfl dX1_writeWay_21 (fun u3 A3 hc3 => ?_)
  obtain ⟨hWi, hFar, hGs1⟩ := hc3
  generalize A3 = B at hWi hFar hGs1 ⊢
  generalize u3 = p at hWi ⊢
  refine r_Z fun hZB => ?_
  have hLB := hGs1.ly hZ0 hLF0
  have hvB := hGs1.lv hZ0 hLF0 hvF0
  have hIB := hGs1.ic hZ0 hLF0 hI0
  have hsB : SbV B ob v m f 0 := hs0.gw hZ0 hGs1.1 (fun q => by have h8 := q.k hLF0; rw [hs0.g] at h8; omega) (fun q => by have h8 := q.k hLF0; rw [hs0.k] at h8; omega)
  have hcB : (B.G c).1 = 1 := by rw [(hGs1.1.2 c lc0).1]; exact hcF0
  have hnB : B.R c 0 = some a := by rw [hGs1.2 c lc0]; exact hnF0
  have hoB : B.R c 7 = some ob := by rw [hGs1.2 c lc0]; exact hoF0
  refine r_F0r (pc := 24) C (j_iterator hLB hvB hJ hkx hWi) fi_X1_251_11 hWi.1 (by decide) (by omega) (by omega) (Nat.le_of_ble_eq_true rfl) rfl dX1_writeWay_24 (fun u4 A4 hc4 => ?_)
  obtain ⟨eu4, hIt0, hGn⟩ := hc4
  refine r_topR eu4 ?_
  clear eu4 u4
  generalize A4 = D at hIt0 hGn ⊢
  refine r_Z fun hZD => ?_
  have hLD := ly_gw hZB hLB hGn (fun _ _ q => q)
  have hvD := lv_gw hZB hLB hvB hGn (fun _ _ q => q)
  have hFD := hFar.gw hZB hLB hGn (fun q => q)
  have hID := hIB.gw hZB hGn (fun _ _ q => q.elim)
  have hsD := hsB.gw hZB hGn (fun q => q) (fun q => q)
  have lcB : c < B.z := Nat.lt_of_lt_of_le lc0 hGs1.1.1
  have hcD : (D.G c).1 = 1 := by rw [(hGn.2 c lcB).1]; exact hcB
  have hnD : D.R c 0 = some a := by rw [((hGn.2 c lcB).2.2 (fun q => q)).2.2]; exact hnB
  have hoD : D.R c 7 = some ob := by rw [((hGn.2 c lcB).2.2 (fun q => q)).2.2]; exact hoB
  have lcD : c < D.z := Nat.lt_of_lt_of_le lcB hGn.1
  have hfs : ∀ y, Fp a d (rK σ) (rG σ) y → ¬ (y = B.z ∨ y = ob ∨ y = v) := fun y hy q => q.elim (fun e => by have h1 := fp_k hLD hy; rw [e, hIt0.1] at h1; omega) (hXp y hy)
  have hcY : ¬ (c = B.z ∨ c = ob ∨ c = v) := fun q => q.elim (fun e => by omega) hcX
  have hXI : ∀ y, y < D.z → (y = B.z ∨ y = ob ∨ y = v) → (D.G y).1 ≠ 700 ∧ (D.G y).1 ≠ 17 := fun y _ q => by rcases q with e | e | e; (rw [e, hIt0.1]; exact ⟨by decide, by decide⟩); (rw [e, hsD.g]; exact ⟨by decide, by decide⟩); (rw [e, hsD.k]; exact ⟨by decide, by decide⟩)
  have hwf := wy_facts hW hkx (hJ.y _ hkx)
  refine r_astore_4 (pc := 29) C dX1_writeWay_29 rfl ?_
  have lp31_5 : ∀ (fu : Nat) (i m1 v1 n1 : Nat) (f1 : Nat → Nat) (F1 : HA) (hi : i ≤ wl σ k + 1) (hItE : It F1 (B.z) a d σ k i) (hGE : Gw D F1 (fun y => y = B.z ∨ y = ob ∨ y = v)) (hs1 : SbV F1 ob v1 m1 f1 n1) (hn1 : n1 = i - 1) (hag : ∀ t, t < n1 → wwS σ k o n1 t = nI (f1 t)) (hw1 : v1 = v ∨ D.z ≤ v1) (hm1 : m1 ≤ 200), wl σ k + 1 - i < fu → wa g z (m1 + 10) (2 * m1 + 20) (F1) 31 [some (.ref c), some (.int (nI k)), some (.ref (d (30 + k))), some (.int (hadI σ k i)), some (.ref (B.z)), none] [] := by
    intro fu
    induction fu with
    | zero => intro i m1 v1 n1  f1  F1  hi hItE hGE hs1 hn1 hag hw1 hm1 hm31; exact absurd hm31 (Nat.not_lt_zero _)
    | succ fu ih31 =>
      intro i m1 v1 n1  f1  F1  hi hItE hGE hs1 hn1 hag hw1 hm1 hm31
      refine r_Z fun hZF1 => ?_
      have hLF1 := ly_gw hZD hLD hGE hfs
      have hvF1 := lv_gw hZD hLD hvD hGE hfs
      have hcF1 : (F1.G c).1 = 1 := by rw [(hGE.2 c lcD).1]; exact hcD
      have hnF1 : F1.R c 0 = some a := by rw [((hGE.2 c lcD).2.2 hcY).2.2]; exact hnD
      have hoF1 : F1.R c 7 = some ob := by rw [((hGE.2 c lcD).2.2 hcY).2.2]; exact hoD
      have hFF1 := hFD.gw hZD hLD hGE (hfs _ (Or.inr (Or.inl ⟨15, by decide, rfl⟩)))
      have hIF1 := hID.gw hZD hGE hXI
      refine r_aload_4 (pc := 31) C dX1_writeWay_31 ?_
      refine r_F0io (pc := 33) C (j_hasNext hItE) fi_X1_257_12 hItE.1 (by decide) (by omega) (by omega) (Nat.le_of_ble_eq_true rfl) rfl dX1_writeWay_33 (fun u6 A6 hc6 => ?_)
      refine r_top hc6.1 ?_
      refine r_eqA hc6.2 ?_
      clear hc6 A6 u6
      refine r_if_eq (pc := 38) (tgt := 128) C dX1_writeWay_38 (by decide) (fun b38 => ?_) (fun b38 => ?_)
      · skip
        have b38 := bI_0.mp b38
        refine r_aload_0 (pc := 128) C dX1_writeWay_128 ?_
        refine r_getR (pc := 129) C fl_X1_46_1 (by exact hcF1) rfl (by exact hoF1) dX1_writeWay_129 ?_
        refine r_V0io (pc := 132) C (j_J9_length hs1) vl_X1_481 hs1.g (by decide) (by omega) (by omega) (Nat.le_of_ble_eq_true rfl) rfl dX1_writeWay_132 (fun u7 A7 hc7 => ?_)
        refine r_top hc7.1 ?_
        refine r_eqA hc7.2 ?_
        clear hc7 A7 u7
        refine r_iret (pc := 135) C E rfl (by omega) (by omega) dX1_writeWay_135 ?_
        have e9 : i = wl σ k + 1 := by omega
        have e8 : n1 = wl σ k := by omega
        subst e8
        refine ⟨b98, by rw [nt_n (by omega)], ⟨v1, m1, f1, by rw [nt_n (by omega)]; exact hs1, hm1, ?_, by rw [nt_n (by omega)]; exact hag⟩, ?_, ?_, ?_, ?_⟩
        · exact hw1.imp id (fun e => by have := hG0.1; have := hGs1.1.1; have := hGn.1; omega)
        · exact (((hG0.mono (fun _ _ q => Or.inr q)).tr (Gw.tr2 (hGs1.1.mono (fun _ _ q => Or.inl q)) (X := fun y => Sc d y ∨ y = ob ∨ y = v) hGn (fun _ _ q => q.elim)))).tr2 hGE (fun y hy q => q.elim (fun e => absurd e (by have := hG0.1; have := hGs1.1.1; omega)) (fun e => Or.inr e))
        · rw [((hGE.2 c lcD).2.2 hcY).2.2, ((hGn.2 c lcB).2.2 (fun q => q)).2.2, hGs1.2 c lc0, ((hG0.2 c lc).2.2 hcX).2.2]
        · rw [((hGE.2 c lcD).2.2 hcY).2.1, ((hGn.2 c lcB).2.2 (fun q => q)).2.1, ((hGs1.1.2 c lc0).2.2 (fun q => by have h8 := q.k hLF0; rw [hcF0] at h8; omega)).2.1, ((hG0.2 c lc).2.2 hcX).2.1]
        · intro y hy h1 h2
          have l0 := hG0.1
          have l1 := hGs1.1.1
          have l2 := hGn.1
          rw [((hGE.2 y (by omega)).2.2 (fun q => q.elim (fun e => by omega) (fun e => e.elim h1 h2))).2.2, ((hGn.2 y (by omega)).2.2 (fun q => q)).2.2, hGs1.2 y (by omega), ((hG0.2 y hy).2.2 (fun e => e.elim h1 h2)).2.2]
      · skip
        have b38 := bI_n.mp b38
        refine r_aload_4 (pc := 41) C dX1_writeWay_41 ?_
        refine r_F0ro (pc := 43) C (j_next hLF1 hvF1 hJ hkx hItE hIF1 hFF1 b38) fi_X1_263_12 hItE.1 (by decide) (by omega) (by omega) (Nat.le_of_ble_eq_true rfl) rfl dX1_writeWay_43 (fun u8 A8 hc8 => ?_)
        obtain ⟨hu1, hu2, hIt2, hGw2⟩ := hc8
        generalize A8 = E2 at hu1 hu2 hIt2 hGw2 ⊢
        generalize u8 = v9 at hu1 hu2 ⊢
        refine r_Z fun hZE2 => ?_
        have hwi := hwf.1 i b38
        have hGE2 : Gw D E2 (fun y => y = B.z ∨ y = ob ∨ y = v) := hGE.tr (hGw2.mono (fun _ _ e => Or.inl e))
        have hs2 := hs1.gw hZF1 hGw2 (fun e => by have h8 := hItE.1; rw [← e, hs1.g] at h8; cases h8) (fun e => by have h8 := hItE.1; rw [← e, hs1.k] at h8; cases h8)
        have hLE2 := ly_gw hZD hLD hGE2 hfs
        have hvE2 := lv_gw hZD hLD hvD hGE2 hfs
        have hcE2 : (E2.G c).1 = 1 := by rw [(hGE2.2 c lcD).1]; exact hcD
        have hnE2 : E2.R c 0 = some a := by rw [((hGE2.2 c lcD).2.2 hcY).2.2]; exact hnD
        have hoE2 : E2.R c 7 = some ob := by rw [((hGE2.2 c lcD).2.2 hcY).2.2]; exact hoD
        refine r_castS (pc := 48) C q1236 hu1 rfl rfl dX1_writeWay_48 ?_
        refine r_V0io (pc := 51) C (j_intValue hu1) vl_X1_268 hu1 (by decide) (by omega) (by omega) (Nat.le_of_ble_eq_true rfl) rfl dX1_writeWay_51 (fun u9 A9 hc9 => ?_)
        refine r_top (hc9.1.trans hu2) ?_
        refine r_eqA hc9.2 ?_
        clear hc9 A9 u9
        refine r_istore_5 (pc := 54) C dX1_writeWay_54 rfl ?_
        rcases i with _ | i0
        · skip
          refine r_eqL (lv' := [some (.ref c), some (.int (nI k)), some (.ref (d (30 + k))), some (.int (-1)), some (.ref B.z), some (.int (nI (wy σ k 0)))]) rfl ?_
          refine r_iload_3 (pc := 56) C dX1_writeWay_56 ?_
          refine r_iconst (pc := 57) C dX1_writeWay_57 ci_m1 ?_
          refine r_icmp_eq (pc := 58) (tgt := 122) C dX1_writeWay_58 (by decide) (fun b58 => ?_) (fun b58 => ?_)
          · skip
            refine r_iload_5 (pc := 122) C dX1_writeWay_122 ?_
            refine r_istore_3 (pc := 124) C dX1_writeWay_124 rfl ?_
            refine r_goto (pc := 125) (tgt := 31) C dX1_writeWay_125 (by decide) ?_
            have hItN := hIt2
            have hGN := hGE2
            have hsN := hs2
            have hnN : n1 = 0 + 1 - 1 := hn1
            have hagN := hag
            have hwN := hw1
            have hmN := hm1
            refine r_eqL (lv' := [some (.ref c), some (.int (nI k)), some (.ref (d (30 + k))), some (.int (hadI σ k 1)), some (.ref B.z), some (.int (nI (wy σ k 0)))]) rfl ?_
            refine r_forget (lv' := [some _, some _, some _, some _, some _, none]) ⟨rfl, rfl, rfl, rfl, rfl, trivial⟩ ?_
            exact ih31 1 _ _ _ _ _ (by omega) hItN hGN hsN hnN hagN hwN hmN (by omega)
          · exact absurd b58 (by decide +kernel)
        · skip
          refine r_eqL (lv' := [some (.ref c), some (.int (nI k)), some (.ref (d (30 + k))), some (.int (nI (wy σ k i0))), some (.ref B.z), some (.int (nI (wy σ k (i0 + 1))))]) rfl ?_
          obtain ⟨s9, hs9, hnb9⟩ := wy_dir hW hkx (hJ.y _ hkx) (i := i0) (by omega)
          have hwi0 := hwf.1 i0 (by omega)
          have htn := tn_c hw3 hwi0 hs9 hnb9
          refine r_iload_3 (pc := 56) C dX1_writeWay_56 ?_
          refine r_iconst (pc := 57) C dX1_writeWay_57 ci_m1 ?_
          refine r_icmp_eq (pc := 58) (tgt := 122) C dX1_writeWay_58 (by decide) (fun b58 => ?_) (fun b58 => ?_)
          · skip
            exact absurd b58 (nI_m1 (by omega))
          · skip
            refine r_aload_0 (pc := 61) C dX1_writeWay_61 ?_
            refine r_getR (pc := 62) C fl_X1_46_1 (by exact hcE2) rfl (by exact hoE2) dX1_writeWay_62 ?_
            refine r_iload_5 (pc := 65) C dX1_writeWay_65 ?_
            refine r_iload_3 (pc := 67) C dX1_writeWay_67 ?_
            refine r_aload_0 (pc := 68) C dX1_writeWay_68 ?_
            refine r_getR (pc := 69) C fl_X1_24_1 (by exact hcE2) rfl (by exact hnE2) dX1_writeWay_69 ?_
            refine r_ngetI (pc := 72) C fn_X1_206_2 (ly_g hLE2) rfl dX1_writeWay_72 ?_
            refine r_top (hvE2.w.trans hW.s.w) ?_
            refine r_isub (pc := 75) C dX1_writeWay_75 ?_
            refine r_icmp_ne (pc := 76) (tgt := 84) C dX1_writeWay_76 (by decide) (fun b76 => ?_) (fun b76 => ?_)
            · skip
              refine r_iload_5 (pc := 84) C dX1_writeWay_84 ?_
              refine r_iload_3 (pc := 86) C dX1_writeWay_86 ?_
              refine r_iconst (pc := 87) C dX1_writeWay_87 ci_1 ?_
              refine r_iadd (pc := 88) C dX1_writeWay_88 ?_
              refine r_top (nI_add _ _) ?_
              refine r_icmp_ne (pc := 89) (tgt := 97) C dX1_writeWay_89 (by decide) (fun b89 => ?_) (fun b89 => ?_)
              · skip
                have b89 := (not_congr (nI_eqI (by omega) (by omega))).mp b89
                refine r_iload_5 (pc := 97) C dX1_writeWay_97 ?_
                refine r_iload_3 (pc := 99) C dX1_writeWay_99 ?_
                refine r_aload_0 (pc := 100) C dX1_writeWay_100 ?_
                refine r_getR (pc := 101) C fl_X1_24_1 (by exact hcE2) rfl (by exact hnE2) dX1_writeWay_101 ?_
                refine r_ngetI (pc := 104) C fn_X1_206_2 (ly_g hLE2) rfl dX1_writeWay_104 ?_
                refine r_top (hvE2.w.trans hW.s.w) ?_
                refine r_iadd (pc := 107) C dX1_writeWay_107 ?_
                refine r_top (nI_add _ _) ?_
                refine r_icmp_ne (pc := 108) (tgt := 116) C dX1_writeWay_108 (by decide) (fun b108 => ?_) (fun b108 => ?_)
                · skip
                  have b108 := (not_congr (nI_eqI (by omega) (by omega))).mp b108
                  refine r_bipush (pc := 116) C dX1_writeWay_116 cb_108 ?_
                  refine r_V1r (pc := 118) C (j_apU hz hs2 (c := 108) (by omega) (by omega)) vl_X1_358 hs2.g (by decide) (by have := gK_le n1 m1; omega) (by have := gS_le n1 m1; omega) (Nat.le_of_ble_eq_true rfl) rfl dX1_writeWay_118 (fun u10 A10 hc10 => ?_)
                  obtain ⟨eu10, ⟨v3, hs3, hv3⟩, hg3⟩ := hc10
                  refine r_topR eu10 ?_
                  clear eu10 u10
                  generalize A10 = E3 at hs3 hv3 hg3 ⊢
                  refine r_Z fun hZ3 => ?_
                  obtain ⟨gk3, gs3⟩ := gKM n1 m1
                  have gm3 := gM_le (M := 200) hs2.nm hm1 (by omega)
                  refine r_widen (k' := gM n1 m1 + 10) (n' := 2 * gM n1 m1 + 20) (by omega) (by omega) ?_
                  generalize gM n1 m1 = m3 at hs3 gm3 ⊢
                  have hGE3 : Gw D E3 (fun y => y = B.z ∨ y = ob ∨ y = v) := hGE2.tr2 hg3 (fun y hy q => q.elim (fun e => Or.inr (Or.inl e)) (fun e => hw1.elim (fun e1 => Or.inr (Or.inr (e.trans e1))) (fun e1 => absurd hy (by omega))))
                  have hw3 : v3 = v ∨ D.z ≤ v3 := hv3.elim (fun e => by rw [e]; exact hw1) (fun e => Or.inr (Nat.le_trans hGE2.1 e))
                  have hIt3 := hIt2.gw hZE2 hg3 (fun q => q.elim (fun e => by have h8 := hIt2.1; rw [e, hs2.g] at h8; cases h8) (fun e => by have h8 := hIt2.1; rw [e, hs2.k] at h8; cases h8))
                  refine r_pop (pc := 121) C dX1_writeWay_121 rfl ?_
                  refine r_iload_5 (pc := 122) C dX1_writeWay_122 ?_
                  refine r_istore_3 (pc := 124) C dX1_writeWay_124 rfl ?_
                  refine r_goto (pc := 125) (tgt := 31) C dX1_writeWay_125 (by decide) ?_
                  have hItN := hIt3
                  have hGN := hGE3
                  have hsN := hs3
                  have hle : lettR (tnF σ (wy σ k i0) (wy σ k (i0 + 1))) = nI 108 := by rw [htn]; rw [if_neg (fun q => b76 ((sub_eqW (by omega) (by omega) (by omega)).mpr q)), if_neg b89, if_neg b108]; rfl
                  have e7 : n1 = i0 := by omega
                  subst e7
                  have hnN : n1 + 1 = n1 + 1 + 1 - 1 := rfl
                  have hagN : ∀ t, t < n1 + 1 → wwS σ k o (n1 + 1) t = nI (lower f1 n1 108 t) := by show ∀ t, t < n1 + 1 → upd (wwS σ k o n1) n1 (lettR (tnF σ (wy σ k n1) (wy σ k (n1 + 1)))) t = _; rw [hle]; exact ag_up hag
                  have hwN := hw3
                  have hmN := gm3
                  refine r_forget (lv' := [some _, some _, some _, some _, some _, none]) ⟨rfl, rfl, rfl, rfl, rfl, trivial⟩ ?_
                  exact ih31 (n1 + 1 + 1) _ _ _ _ _ (by omega) hItN hGN hsN hnN hagN hwN hmN (by omega)
                · skip
                  have b108 := (nI_eqI (by omega) (by omega)).mp b108
                  refine r_bipush (pc := 111) C dX1_writeWay_111 cb_100 ?_
                  refine r_goto (pc := 113) (tgt := 118) C dX1_writeWay_113 (by decide) ?_
                  refine r_V1r (pc := 118) C (j_apU hz hs2 (c := 100) (by omega) (by omega)) vl_X1_358 hs2.g (by decide) (by have := gK_le n1 m1; omega) (by have := gS_le n1 m1; omega) (Nat.le_of_ble_eq_true rfl) rfl dX1_writeWay_118 (fun u11 A11 hc11 => ?_)
                  obtain ⟨eu11, ⟨v3, hs3, hv3⟩, hg3⟩ := hc11
                  refine r_topR eu11 ?_
                  clear eu11 u11
                  generalize A11 = E3 at hs3 hv3 hg3 ⊢
                  refine r_Z fun hZ3 => ?_
                  obtain ⟨gk3, gs3⟩ := gKM n1 m1
                  have gm3 := gM_le (M := 200) hs2.nm hm1 (by omega)
                  refine r_widen (k' := gM n1 m1 + 10) (n' := 2 * gM n1 m1 + 20) (by omega) (by omega) ?_
                  generalize gM n1 m1 = m3 at hs3 gm3 ⊢
                  have hGE3 : Gw D E3 (fun y => y = B.z ∨ y = ob ∨ y = v) := hGE2.tr2 hg3 (fun y hy q => q.elim (fun e => Or.inr (Or.inl e)) (fun e => hw1.elim (fun e1 => Or.inr (Or.inr (e.trans e1))) (fun e1 => absurd hy (by omega))))
                  have hw3 : v3 = v ∨ D.z ≤ v3 := hv3.elim (fun e => by rw [e]; exact hw1) (fun e => Or.inr (Nat.le_trans hGE2.1 e))
                  have hIt3 := hIt2.gw hZE2 hg3 (fun q => q.elim (fun e => by have h8 := hIt2.1; rw [e, hs2.g] at h8; cases h8) (fun e => by have h8 := hIt2.1; rw [e, hs2.k] at h8; cases h8))
                  refine r_pop (pc := 121) C dX1_writeWay_121 rfl ?_
                  refine r_iload_5 (pc := 122) C dX1_writeWay_122 ?_
                  refine r_istore_3 (pc := 124) C dX1_writeWay_124 rfl ?_
                  refine r_goto (pc := 125) (tgt := 31) C dX1_writeWay_125 (by decide) ?_
                  have hItN := hIt3
                  have hGN := hGE3
                  have hsN := hs3
                  have hle : lettR (tnF σ (wy σ k i0) (wy σ k (i0 + 1))) = nI 100 := by rw [htn]; rw [if_neg (fun q => b76 ((sub_eqW (by omega) (by omega) (by omega)).mpr q)), if_neg b89, if_pos b108]; rfl
                  have e7 : n1 = i0 := by omega
                  subst e7
                  have hnN : n1 + 1 = n1 + 1 + 1 - 1 := rfl
                  have hagN : ∀ t, t < n1 + 1 → wwS σ k o (n1 + 1) t = nI (lower f1 n1 100 t) := by show ∀ t, t < n1 + 1 → upd (wwS σ k o n1) n1 (lettR (tnF σ (wy σ k n1) (wy σ k (n1 + 1)))) t = _; rw [hle]; exact ag_up hag
                  have hwN := hw3
                  have hmN := gm3
                  refine r_forget (lv' := [some _, some _, some _, some _, some _, none]) ⟨rfl, rfl, rfl, rfl, rfl, trivial⟩ ?_
                  exact ih31 (n1 + 1 + 1) _ _ _ _ _ (by omega) hItN hGN hsN hnN hagN hwN hmN (by omega)
              · skip
                have b89 := (nI_eqI (by omega) (by omega)).mp b89
                refine r_bipush (pc := 92) C dX1_writeWay_92 cb_114 ?_
                refine r_goto (pc := 94) (tgt := 118) C dX1_writeWay_94 (by decide) ?_
                refine r_V1r (pc := 118) C (j_apU hz hs2 (c := 114) (by omega) (by omega)) vl_X1_358 hs2.g (by decide) (by have := gK_le n1 m1; omega) (by have := gS_le n1 m1; omega) (Nat.le_of_ble_eq_true rfl) rfl dX1_writeWay_118 (fun u12 A12 hc12 => ?_)
                obtain ⟨eu12, ⟨v3, hs3, hv3⟩, hg3⟩ := hc12
                refine r_topR eu12 ?_
                clear eu12 u12
                generalize A12 = E3 at hs3 hv3 hg3 ⊢
                refine r_Z fun hZ3 => ?_
                obtain ⟨gk3, gs3⟩ := gKM n1 m1
                have gm3 := gM_le (M := 200) hs2.nm hm1 (by omega)
                refine r_widen (k' := gM n1 m1 + 10) (n' := 2 * gM n1 m1 + 20) (by omega) (by omega) ?_
                generalize gM n1 m1 = m3 at hs3 gm3 ⊢
                have hGE3 : Gw D E3 (fun y => y = B.z ∨ y = ob ∨ y = v) := hGE2.tr2 hg3 (fun y hy q => q.elim (fun e => Or.inr (Or.inl e)) (fun e => hw1.elim (fun e1 => Or.inr (Or.inr (e.trans e1))) (fun e1 => absurd hy (by omega))))
                have hw3 : v3 = v ∨ D.z ≤ v3 := hv3.elim (fun e => by rw [e]; exact hw1) (fun e => Or.inr (Nat.le_trans hGE2.1 e))
                have hIt3 := hIt2.gw hZE2 hg3 (fun q => q.elim (fun e => by have h8 := hIt2.1; rw [e, hs2.g] at h8; cases h8) (fun e => by have h8 := hIt2.1; rw [e, hs2.k] at h8; cases h8))
                refine r_pop (pc := 121) C dX1_writeWay_121 rfl ?_
                refine r_iload_5 (pc := 122) C dX1_writeWay_122 ?_
                refine r_istore_3 (pc := 124) C dX1_writeWay_124 rfl ?_
                refine r_goto (pc := 125) (tgt := 31) C dX1_writeWay_125 (by decide) ?_
                have hItN := hIt3
                have hGN := hGE3
                have hsN := hs3
                have hle : lettR (tnF σ (wy σ k i0) (wy σ k (i0 + 1))) = nI 114 := by rw [htn]; rw [if_neg (fun q => b76 ((sub_eqW (by omega) (by omega) (by omega)).mpr q)), if_pos b89]; rfl
                have e7 : n1 = i0 := by omega
                subst e7
                have hnN : n1 + 1 = n1 + 1 + 1 - 1 := rfl
                have hagN : ∀ t, t < n1 + 1 → wwS σ k o (n1 + 1) t = nI (lower f1 n1 114 t) := by show ∀ t, t < n1 + 1 → upd (wwS σ k o n1) n1 (lettR (tnF σ (wy σ k n1) (wy σ k (n1 + 1)))) t = _; rw [hle]; exact ag_up hag
                have hwN := hw3
                have hmN := gm3
                refine r_forget (lv' := [some _, some _, some _, some _, some _, none]) ⟨rfl, rfl, rfl, rfl, rfl, trivial⟩ ?_
                exact ih31 (n1 + 1 + 1) _ _ _ _ _ (by omega) hItN hGN hsN hnN hagN hwN hmN (by omega)
            · skip
              refine r_bipush (pc := 79) C dX1_writeWay_79 cb_117 ?_
              refine r_goto (pc := 81) (tgt := 118) C dX1_writeWay_81 (by decide) ?_
              refine r_V1r (pc := 118) C (j_apU hz hs2 (c := 117) (by omega) (by omega)) vl_X1_358 hs2.g (by decide) (by have := gK_le n1 m1; omega) (by have := gS_le n1 m1; omega) (Nat.le_of_ble_eq_true rfl) rfl dX1_writeWay_118 (fun u13 A13 hc13 => ?_)
              obtain ⟨eu13, ⟨v3, hs3, hv3⟩, hg3⟩ := hc13
              refine r_topR eu13 ?_
              clear eu13 u13
              generalize A13 = E3 at hs3 hv3 hg3 ⊢
              refine r_Z fun hZ3 => ?_
              obtain ⟨gk3, gs3⟩ := gKM n1 m1
              have gm3 := gM_le (M := 200) hs2.nm hm1 (by omega)
              refine r_widen (k' := gM n1 m1 + 10) (n' := 2 * gM n1 m1 + 20) (by omega) (by omega) ?_
              generalize gM n1 m1 = m3 at hs3 gm3 ⊢
              have hGE3 : Gw D E3 (fun y => y = B.z ∨ y = ob ∨ y = v) := hGE2.tr2 hg3 (fun y hy q => q.elim (fun e => Or.inr (Or.inl e)) (fun e => hw1.elim (fun e1 => Or.inr (Or.inr (e.trans e1))) (fun e1 => absurd hy (by omega))))
              have hw3 : v3 = v ∨ D.z ≤ v3 := hv3.elim (fun e => by rw [e]; exact hw1) (fun e => Or.inr (Nat.le_trans hGE2.1 e))
              have hIt3 := hIt2.gw hZE2 hg3 (fun q => q.elim (fun e => by have h8 := hIt2.1; rw [e, hs2.g] at h8; cases h8) (fun e => by have h8 := hIt2.1; rw [e, hs2.k] at h8; cases h8))
              refine r_pop (pc := 121) C dX1_writeWay_121 rfl ?_
              refine r_iload_5 (pc := 122) C dX1_writeWay_122 ?_
              refine r_istore_3 (pc := 124) C dX1_writeWay_124 rfl ?_
              refine r_goto (pc := 125) (tgt := 31) C dX1_writeWay_125 (by decide) ?_
              have hItN := hIt3
              have hGN := hGE3
              have hsN := hs3
              have hle : lettR (tnF σ (wy σ k i0) (wy σ k (i0 + 1))) = nI 117 := by rw [htn]; rw [if_pos ((sub_eqW (by omega) (by omega) (by omega)).mp b76)]; rfl
              have e7 : n1 = i0 := by omega
              subst e7
              have hnN : n1 + 1 = n1 + 1 + 1 - 1 := rfl
              have hagN : ∀ t, t < n1 + 1 → wwS σ k o (n1 + 1) t = nI (lower f1 n1 117 t) := by show ∀ t, t < n1 + 1 → upd (wwS σ k o n1) n1 (lettR (tnF σ (wy σ k n1) (wy σ k (n1 + 1)))) t = _; rw [hle]; exact ag_up hag
              have hwN := hw3
              have hmN := gm3
              refine r_forget (lv' := [some _, some _, some _, some _, some _, none]) ⟨rfl, rfl, rfl, rfl, rfl, trivial⟩ ?_
              exact ih31 (n1 + 1 + 1) _ _ _ _ _ (by omega) hItN hGN hsN hnN hagN hwN hmN (by omega)
  refine r_widen (k' := m + 10) (n' := 2 * m + 20) (by omega) (by omega) ?_
  exact lp31_5 _ 0 m v 0 f D (Nat.zero_le _) hIt0 Gw.rf hsD rfl (fun t ht => absurd ht (Nat.not_lt_zero _)) (Or.inl rfl) hm2 (Nat.lt_succ_self _)
