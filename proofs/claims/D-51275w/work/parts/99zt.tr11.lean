/-! THE COMPONENT, 27: the reader: a change at a cell -/
set_option maxRecDepth 100000
theorem HsS.gw {g : GZ} {A D : HA} {X : Nat → Prop} {w n : Nat} {f : Nat → Nat} (h : HsS g A w f n) (lw : w < A.z) (hG : Gw A D X) (hX : ¬ X w) : HsS g D w f n := by
  unfold HsS at h ⊢
  rw [((hG.2 w lw).2.2 hX).2.1]
  exact h
set_option maxHeartbeats 4000000 in
theorem t_atCell {g : GZ} {A : HA} {r c a w v n : Nat} {d : Nat → Nat} {σ : Rw} {f : Nat → Nat} (h7 : (A.G r).1 = 7) (h6 : A.R r 6 = some c) (hc : (A.G c).1 = 1) (hn : A.R c 0 = some a) (hL : Ly A a d σ) (hv : Lv A.I a d σ) (hW : RowW σ) (hs : StrV A w v f n) (hz : zS g) (hh : HsS g A w f n) (hK : LamK g) (h83 : (A.G (g.c 83)).1 = 83 ∧ A.n (g.c 83) = 0) (k0 : wkN g A w "LawnPaths$TextReader" 202 "fence" wFence) (k1 : wkN g A w "LawnPaths$TextReader" 273 "open" wOpen) (k2 : wkN g A w "LawnPaths$TextReader" 275 "pave" wPave) {t : Nat} (ht : (t = 1 ∧ EqT f n (chs wFence) wFence.length) ∨ (t = 2 ∧ EqT f n (chs wOpen) wOpen.length) ∨ (t = 3 ∧ EqT f n (chs wPave) wPave.length) ∨ (t = 4 ∧ EqT f n (chs wSow) wSow.length)) {x y : Nat} (hx9 : x ≤ 9) (hy9 : y ≤ 9)  : Ct g wR yX7_atCell (.code yX7_atCell cX7_atCell 7 (Option.some (Jvm.ClassFile.FieldType.object "LawnPaths$Change"))) 60 1 1 [.ref r, .ref w, .int (nI (x)), .int (nI (y))] (A) (fun u A' => (x < rW σ ∧ y < rH σ → LamIs A' u (t, rW σ * y + x, 0)) ∧ (¬ (x < rW σ ∧ y < rH σ) → LamIs A' u (7, 0, 0)) ∧ StrV A' w v f n ∧ HsS g A' w f n ∧ Gw A A' (fun y => y = w)) fw_no := by
  refine Ct.ofN [some (.ref r), some (.ref w), some (.int (nI (x))), some (.int (nI (y))), none, none, none] (by decide) rfl rfl fun z C hx hN E => ?_
  refine r_Z fun hZ => ?_
  have hw10 := hW.s.w10
  have hh8 := hW.s.h8
  refine r_iload_2 (pc := 0) C dX7_atCell_0 ?_
  refine r_aload_0 (pc := 1) C dX7_atCell_1 ?_
  refine r_getR (pc := 2) C fl_X7_3_7 h7 rfl h6 dX7_atCell_2 ?_
  refine r_ngetR (pc := 5) C fn_X7_250_1 hc rfl hn dX7_atCell_5 ?_
  refine r_ngetI (pc := 8) C fn_X7_159_2 (ly_g hL) rfl dX7_atCell_8 ?_
  refine r_top (hv.w.trans hW.s.w) ?_
  refine r_icmp_ge (pc := 11) (tgt := 28) C dX7_atCell_11 (by decide) (fun b11 => ?_) (fun b11 => ?_)
  · skip
    have b11 := (nI_le2 (by omega) (by omega)).mp b11
    refine r_indyC (pc := 28) C hN hK.s83 rfl (by omega) (Nat.le_of_ble_eq_true rfl) rfl dX7_atCell_28 ?_
    refine r_aret (pc := 33) C E rfl (by omega) (by omega) dX7_atCell_33 ?_
    refine ⟨fun q => absurd q (by omega), fun _ => ?_, hs, hh, Gw.rf⟩
    unfold LamIs
    exact Or.inr (Or.inr (Or.inr (Or.inr (Or.inr (Or.inr (Or.inr (⟨rfl, h83.1, h83.2⟩)))))))
  · skip
    have b11 := (not_congr (nI_le2 (by omega) (by omega))).mp b11
    refine r_iload_3 (pc := 14) C dX7_atCell_14 ?_
    refine r_aload_0 (pc := 15) C dX7_atCell_15 ?_
    refine r_getR (pc := 16) C fl_X7_3_7 h7 rfl h6 dX7_atCell_16 ?_
    refine r_ngetR (pc := 19) C fn_X7_250_1 hc rfl hn dX7_atCell_19 ?_
    refine r_ngetI (pc := 22) C fn_X7_162_2 (ly_g hL) rfl dX7_atCell_22 ?_
    refine r_top (hv.h.trans hW.s.h) ?_
    refine r_icmp_lt (pc := 25) (tgt := 34) C dX7_atCell_25 (by decide) (fun b25 => ?_) (fun b25 => ?_)
    · skip
      have b25 := (nI_lt2 (by omega) (by omega)).mp b25
      refine r_aload_0 (pc := 34) C dX7_atCell_34 ?_
      refine r_getR (pc := 35) C fl_X7_3_7 h7 rfl h6 dX7_atCell_35 ?_
      refine r_ngetR (pc := 38) C fn_X7_250_1 hc rfl hn dX7_atCell_38 ?_
      refine r_ngetI (pc := 41) C fn_X7_159_2 (ly_g hL) rfl dX7_atCell_41 ?_
      refine r_top (hv.w.trans hW.s.w) ?_
      refine r_iload_3 (pc := 44) C dX7_atCell_44 ?_
      refine r_imul (pc := 45) C dX7_atCell_45 ?_
      refine r_top (pk_mul _ _) ?_
      refine r_iload_2 (pc := 46) C dX7_atCell_46 ?_
      refine r_iadd (pc := 47) C dX7_atCell_47 ?_
      refine r_top (nI_add _ _) ?_
      refine r_istore_4 (pc := 48) C dX7_atCell_48 rfl ?_
      refine r_aload_1 (pc := 50) C dX7_atCell_50 ?_
      refine r_astore_5 (pc := 51) C dX7_atCell_51 rfl ?_
      refine r_iconst (pc := 53) C dX7_atCell_53 ci_m1 ?_
      refine r_istore_6 (pc := 54) C dX7_atCell_54 rfl ?_
      refine r_aload_5 (pc := 56) C dX7_atCell_56 ?_
      refine r_V0io (pc := 58) C (h_hash hs hz hh) vl_X7_237 hs.g (by decide) (by omega) (by omega) (Nat.le_of_ble_eq_true rfl) rfl dX7_atCell_58 (fun u1 A1 hc1 => ?_)
      obtain ⟨eu1, hsD, hhD, hGD⟩ := hc1
      refine r_top eu1 ?_
      clear eu1 u1
      generalize A1 = D at hsD hhD hGD ⊢
      refine r_Z fun hZD => ?_
      obtain ⟨q0, v0, z0, t0, n0⟩ := k0
      have s0 := t0.gw hZ hGD (fun e => n0 e) (fun e => t0.lv hs.g e)
      obtain ⟨q1, v1, z1, t1, n1⟩ := k1
      have s1 := t1.gw hZ hGD (fun e => n1 e) (fun e => t1.lv hs.g e)
      obtain ⟨q2, v2, z2, t2, n2⟩ := k2
      have s2 := t2.gw hZ hGD (fun e => n2 e) (fun e => t2.lv hs.g e)
      rcases ht with ⟨rfl, e⟩ | ⟨rfl, e⟩ | ⟨rfl, e⟩ | ⟨rfl, e⟩
      · skip
        have e9 := (eqt_h e).trans hsh_fence
        refine r_lookup (pc := 61) (tgt := 96) (off := 35) C dX7_atCell_61 (by decide +kernel) (by rw [e9]; decide +kernel) (by decide) ?_
        refine r_aload_5 (pc := 96) C dX7_atCell_96 ?_
        refine r_ldcS (pc := 98) C z0 dX7_atCell_98 ?_
        refine r_V1io (pc := 100) C (j_J10_equals hz hsD s0) vl_X7_124 hsD.g (by decide) (by omega) (by omega) (Nat.le_of_ble_eq_true rfl) rfl dX7_atCell_100 (fun u2 A2 hc2 => ?_)
        refine r_top hc2.1 ?_
        refine r_eqA hc2.2 ?_
        clear hc2 A2 u2
        refine r_if_eq (pc := 103) (tgt := 143) C dX7_atCell_103 (by decide) (fun b103 => ?_) (fun b103 => ?_)
        · skip
          have b103 := bI_0.mp b103
          exact absurd e b103
        · skip
          have b103 := bI_n.mp b103
          refine r_iconst (pc := 106) C dX7_atCell_106 ci_0 ?_
          refine r_istore_6 (pc := 107) C dX7_atCell_107 rfl ?_
          refine r_goto (pc := 109) (tgt := 143) C dX7_atCell_109 (by decide) ?_
          refine r_iload_6 (pc := 143) C dX7_atCell_143 ?_
          refine r_tableIn (pc := 145) (tgt := 172) (off := 27) C dX7_atCell_145 (by decide +kernel) (by decide +kernel) (by decide +kernel) (by decide) ?_
          refine r_iload_4 (pc := 172) C dX7_atCell_172 ?_
          refine r_indy (pc := 174) (V := (fun _ => nI (rW σ * y + x))) (st := []) C hN hK.s84 rfl ⟨by decide, by decide⟩ lk84 ⟨by decide, by decide⟩ (by omega) (by omega) (by omega) (Nat.le_of_ble_eq_true rfl) rfl dX7_atCell_174 ?_
          have hGF : Gw D (lamH D 84 1 (fun _ => nI (rW σ * y + x))) Non := lamH_gw
          have hIF : LamIs (lamH D 84 1 (fun _ => nI (rW σ * y + x))) D.z (1, rW σ * y + x, 0) := (Or.inr (Or.inl ⟨rfl, Or.inl (by rw [lamH_G, if_pos rfl]), lamH_n _ _ _ _, by rw [lamH_I]⟩))
          generalize lamH D 84 1 (fun _ => nI (rW σ * y + x)) = F at hGF hIF ⊢
          refine r_goto (pc := 179) (tgt := 209) C dX7_atCell_179 (by decide) ?_
          refine r_aret (pc := 209) C E rfl (by omega) (by omega) dX7_atCell_209 ?_
          exact ⟨fun _ => hIF, fun q => absurd (by omega) q, hsD.gw hZD hGF (fun q => q) (fun q => q), hhD.gw (hZD.lt hsD.g rfl) hGF (fun q => q), hGD.tr2 hGF (fun _ _ q => q.elim)⟩
      · skip
        have e9 := (eqt_h e).trans hsh_open
        refine r_lookup (pc := 61) (tgt := 112) (off := 51) C dX7_atCell_61 (by decide +kernel) (by rw [e9]; decide +kernel) (by decide) ?_
        refine r_aload_5 (pc := 112) C dX7_atCell_112 ?_
        refine r_ldcwS (pc := 114) C z1 dX7_atCell_114 ?_
        refine r_V1io (pc := 117) C (j_J10_equals hz hsD s1) vl_X7_124 hsD.g (by decide) (by omega) (by omega) (Nat.le_of_ble_eq_true rfl) rfl dX7_atCell_117 (fun u3 A3 hc3 => ?_)
        refine r_top hc3.1 ?_
        refine r_eqA hc3.2 ?_
        clear hc3 A3 u3
        refine r_if_eq (pc := 120) (tgt := 143) C dX7_atCell_120 (by decide) (fun b120 => ?_) (fun b120 => ?_)
        · skip
          have b120 := bI_0.mp b120
          exact absurd e b120
        · skip
          have b120 := bI_n.mp b120
          refine r_iconst (pc := 123) C dX7_atCell_123 ci_1 ?_
          refine r_istore_6 (pc := 124) C dX7_atCell_124 rfl ?_
          refine r_goto (pc := 126) (tgt := 143) C dX7_atCell_126 (by decide) ?_
          refine r_iload_6 (pc := 143) C dX7_atCell_143 ?_
          refine r_tableIn (pc := 145) (tgt := 182) (off := 37) C dX7_atCell_145 (by decide +kernel) (by decide +kernel) (by decide +kernel) (by decide) ?_
          refine r_iload_4 (pc := 182) C dX7_atCell_182 ?_
          refine r_indy (pc := 184) (V := (fun _ => nI (rW σ * y + x))) (st := []) C hN hK.s85 rfl ⟨by decide, by decide⟩ lk85 ⟨by decide, by decide⟩ (by omega) (by omega) (by omega) (Nat.le_of_ble_eq_true rfl) rfl dX7_atCell_184 ?_
          have hGF : Gw D (lamH D 85 1 (fun _ => nI (rW σ * y + x))) Non := lamH_gw
          have hIF : LamIs (lamH D 85 1 (fun _ => nI (rW σ * y + x))) D.z (2, rW σ * y + x, 0) := (Or.inr (Or.inr (Or.inl ⟨rfl, Or.inl (by rw [lamH_G, if_pos rfl]), lamH_n _ _ _ _, by rw [lamH_I]⟩)))
          generalize lamH D 85 1 (fun _ => nI (rW σ * y + x)) = F at hGF hIF ⊢
          refine r_goto (pc := 189) (tgt := 209) C dX7_atCell_189 (by decide) ?_
          refine r_aret (pc := 209) C E rfl (by omega) (by omega) dX7_atCell_209 ?_
          exact ⟨fun _ => hIF, fun q => absurd (by omega) q, hsD.gw hZD hGF (fun q => q) (fun q => q), hhD.gw (hZD.lt hsD.g rfl) hGF (fun q => q), hGD.tr2 hGF (fun _ _ q => q.elim)⟩
      · skip
        have e9 := (eqt_h e).trans hsh_pave
        refine r_lookup (pc := 61) (tgt := 129) (off := 68) C dX7_atCell_61 (by decide +kernel) (by rw [e9]; decide +kernel) (by decide) ?_
        refine r_aload_5 (pc := 129) C dX7_atCell_129 ?_
        refine r_ldcwS (pc := 131) C z2 dX7_atCell_131 ?_
        refine r_V1io (pc := 134) C (j_J10_equals hz hsD s2) vl_X7_124 hsD.g (by decide) (by omega) (by omega) (Nat.le_of_ble_eq_true rfl) rfl dX7_atCell_134 (fun u4 A4 hc4 => ?_)
        refine r_top hc4.1 ?_
        refine r_eqA hc4.2 ?_
        clear hc4 A4 u4
        refine r_if_eq (pc := 137) (tgt := 143) C dX7_atCell_137 (by decide) (fun b137 => ?_) (fun b137 => ?_)
        · skip
          have b137 := bI_0.mp b137
          exact absurd e b137
        · skip
          have b137 := bI_n.mp b137
          refine r_iconst (pc := 140) C dX7_atCell_140 ci_2 ?_
          refine r_istore_6 (pc := 141) C dX7_atCell_141 rfl ?_
          refine r_iload_6 (pc := 143) C dX7_atCell_143 ?_
          refine r_tableIn (pc := 145) (tgt := 192) (off := 47) C dX7_atCell_145 (by decide +kernel) (by decide +kernel) (by decide +kernel) (by decide) ?_
          refine r_iload_4 (pc := 192) C dX7_atCell_192 ?_
          refine r_indy (pc := 194) (V := (fun _ => nI (rW σ * y + x))) (st := []) C hN hK.s86 rfl ⟨by decide, by decide⟩ lk86 ⟨by decide, by decide⟩ (by omega) (by omega) (by omega) (Nat.le_of_ble_eq_true rfl) rfl dX7_atCell_194 ?_
          have hGF : Gw D (lamH D 86 1 (fun _ => nI (rW σ * y + x))) Non := lamH_gw
          have hIF : LamIs (lamH D 86 1 (fun _ => nI (rW σ * y + x))) D.z (3, rW σ * y + x, 0) := (Or.inr (Or.inr (Or.inr (Or.inl ⟨rfl, Or.inl (by rw [lamH_G, if_pos rfl]), lamH_n _ _ _ _, by rw [lamH_I]⟩))))
          generalize lamH D 86 1 (fun _ => nI (rW σ * y + x)) = F at hGF hIF ⊢
          refine r_goto (pc := 199) (tgt := 209) C dX7_atCell_199 (by decide) ?_
          refine r_aret (pc := 209) C E rfl (by omega) (by omega) dX7_atCell_209 ?_
          exact ⟨fun _ => hIF, fun q => absurd (by omega) q, hsD.gw hZD hGF (fun q => q) (fun q => q), hhD.gw (hZD.lt hsD.g rfl) hGF (fun q => q), hGD.tr2 hGF (fun _ _ q => q.elim)⟩
      · skip
        have e9 := (eqt_h e).trans hsh_sow
        refine r_lookup (pc := 61) (tgt := 143) (off := 82) C dX7_atCell_61 (by decide +kernel) (by rw [e9]; decide +kernel) (by decide) ?_
        refine r_iload_6 (pc := 143) C dX7_atCell_143 ?_
        refine r_tableOut (pc := 145) (tgt := 202) C dX7_atCell_145 (by decide +kernel) (by decide) ?_
        refine r_iload_4 (pc := 202) C dX7_atCell_202 ?_
        refine r_indy (pc := 204) (V := (fun _ => nI (rW σ * y + x))) (st := []) C hN hK.s87 rfl ⟨by decide, by decide⟩ lk87 ⟨by decide, by decide⟩ (by omega) (by omega) (by omega) (Nat.le_of_ble_eq_true rfl) rfl dX7_atCell_204 ?_
        have hGF : Gw D (lamH D 87 1 (fun _ => nI (rW σ * y + x))) Non := lamH_gw
        have hIF : LamIs (lamH D 87 1 (fun _ => nI (rW σ * y + x))) D.z (4, rW σ * y + x, 0) := (Or.inr (Or.inr (Or.inr (Or.inr (Or.inl ⟨rfl, Or.inl (by rw [lamH_G, if_pos rfl]), lamH_n _ _ _ _, by rw [lamH_I]⟩)))))
        generalize lamH D 87 1 (fun _ => nI (rW σ * y + x)) = F at hGF hIF ⊢
        refine r_aret (pc := 209) C E rfl (by omega) (by omega) dX7_atCell_209 ?_
        exact ⟨fun _ => hIF, fun q => absurd (by omega) q, hsD.gw hZD hGF (fun q => q) (fun q => q), hhD.gw (hZD.lt hsD.g rfl) hGF (fun q => q), hGD.tr2 hGF (fun _ _ q => q.elim)⟩
    · skip
      have b25 := (not_congr (nI_lt2 (by omega) (by omega))).mp b25
      refine r_indyC (pc := 28) C hN hK.s83 rfl (by omega) (Nat.le_of_ble_eq_true rfl) rfl dX7_atCell_28 ?_
      refine r_aret (pc := 33) C E rfl (by omega) (by omega) dX7_atCell_33 ?_
      refine ⟨fun q => absurd q (by omega), fun _ => ?_, hs, hh, Gw.rf⟩
      unfold LamIs
      exact Or.inr (Or.inr (Or.inr (Or.inr (Or.inr (Or.inr (Or.inr (⟨rfl, h83.1, h83.2⟩)))))))
