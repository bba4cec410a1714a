/-! THE COMPONENT, 39: the plain lawn -/
set_option maxRecDepth 100000
/-- a name among the constants of the start -/
def PlN (g : GZ) (ix : Nat) (tx : String) (l : List Nat) : Prop := ∃ q v, SK g "LawnPaths" ix tx q ∧ StrV g.A q v (chs l) l.length ∧ q < g.b ∧ v < g.b ∧ ((g.A.G v).1 = 200 ∨ (g.A.G v).1 = 231)
/-- the plain lawn's names -/
def PlC (g : GZ) : Prop := PlN g 59 "west" [119, 101, 115, 116] ∧ PlN g 65 "east" [101, 97, 115, 116] ∧ PlN g 67 "pond" [112, 111, 110, 100] ∧ PlN g 75 "ada" [97, 100, 97] ∧ PlN g 86 "ben" [98, 101, 110]
theorem nm_pl {g : GZ} {A : HA} {q v o : Nat} {l : List Nat} {τ : Rw} (ho : fw_old g A) (h : StrV g.A q v (chs l) l.length) (hq : q < g.b) (hv : v < g.b) (hk : (g.A.G v).1 = 200 ∨ (g.A.G v).1 = 231) (h6 : 1 ≤ l.length ∧ l.length ≤ 6) (e : τ o = nI l.length ∧ ∀ j, j < l.length → τ (o + 1 + j) = nI (chs l j) ∧ 97 ≤ chs l j ∧ chs l j ≤ 122) : NmS A q τ o :=
  ⟨v, chs l, l.length, h.old hq hv ho, e.1, ⟨h6.1, h6.2, by rw [(ho v hv).1]; exact hk⟩, e.2⟩
theorem hard_step {g : GZ} {A F : HA} {z0 l c : Nat} {d : Nat → Nat} {σ τ : Rw} (h : LwB g F z0 l d σ) (hz : Zk F) (hW : RowW σ) (hc : c < rC σ) (h0 : σ (153 + 5 * c + 0) = 0) (e : τ = hd σ c 1) (hG : Gw A F Non) (hzl : A.z ≤ z0) : LwB g (hardH F l d c 1) z0 l d τ ∧ Gw A (hardH F l d c 1) Non := by
  obtain ⟨h1, h2, h3⟩ := h.hard (k := 1) hz hW hc h0 (Or.inl rfl)
  rw [e]
  exact ⟨h1, hG.tr2 h2 (fun y hy q => by have := h.lx0 q; omega)⟩
set_option maxHeartbeats 4000000 in
theorem c_stones {g : GZ} {A : HA} {z0 l t : Nat} {d : Nat → Nat} {ρ : Nat → Rw} {cs : Nat → Nat} (hB : LwB g A z0 l d (ρ 0)) (htk : (A.G t).1 = 130) (htn : A.n t = 5) (hcs : ∀ i, i < 5 → A.I t i = nI (cs i)) (hK : ∀ i, i ≤ 5 → rK (ρ i) = rK (ρ 0) ∧ rG (ρ i) = rG (ρ 0)) (hρ : ∀ i, i < 5 → RowW (ρ i) ∧ cs i < rC (ρ i) ∧ ρ i (153 + 5 * cs i + 0) = 0 ∧ ρ (i + 1) = hd (ρ i) (cs i) 1)  : Ct g wV yX1_stones (.code yX1_stones cX1_stones 6 (Option.none : Option Jvm.ClassFile.FieldType)) 10 0 0 [.ref l, .ref t] (A) (fun u A' => LwB g A' z0 l d (ρ 5) ∧ Gw A A' (LX A l d (ρ 0))) fw_no := by
  refine Ct.of [some (.ref l), some (.ref t), none, none, none, none] (by decide) rfl rfl fun z C hx hnm E => ?_
  refine r_Z fun hZ => ?_
  have lt := hZ.lt htk rfl
  have nt9 : ¬ LX A l d (ρ 0) t := fun q => by have h9 := fp_kind hB.L q.1; omega
  refine r_aload_1 (pc := 0) C dX1_stones_0 ?_
  refine r_astore_2 (pc := 1) C dX1_stones_1 rfl ?_
  refine r_aload_2 (pc := 2) C dX1_stones_2 ?_
  refine r_alen (pc := 3) (t := 1) C (by exact htk) rfl rfl dX1_stones_3 ?_
  refine r_top (congrArg nI (show A.n t = 5 from htn)) ?_
  refine r_istore_3 (pc := 4) C dX1_stones_4 rfl ?_
  refine r_iconst (pc := 5) C dX1_stones_5 ci_0 ?_
  refine r_istore_4 (pc := 6) C dX1_stones_6 rfl ?_
  have lp8_1 : ∀ (fu : Nat) (i : Nat) (F : HA) (hi : i ≤ 5) (hBi : LwB g F z0 l d (ρ i)) (hGi : Gw A F (LX A l d (ρ 0))), 5 - i < fu → wa g z 0 0 (F) 8 [some (.ref l), some (.ref t), some (.ref t), some (.int (nI (5))), some (.int (nI (i))), none] [] := by
    intro fu
    induction fu with
    | zero => intro i  F  hi hBi hGi hm8; exact absurd hm8 (Nat.not_lt_zero _)
    | succ fu ih8 =>
      intro i  F  hi hBi hGi hm8
      refine r_Z (A := F) fun hZF => ?_
      refine r_iload_4 (pc := 8) C dX1_stones_8 ?_
      refine r_iload_3 (pc := 10) C dX1_stones_10 ?_
      refine r_icmp_ge (pc := 11) (tgt := 33) C dX1_stones_11 (by decide) (fun b11 => ?_) (fun b11 => ?_)
      · skip
        have b11 := (nI_le2 (by omega) (by omega)).mp b11
        refine r_vret (pc := 33) C E (by omega) (by omega) dX1_stones_33 ?_
        have e5 : i = 5 := by omega
        subst e5
        exact ⟨hBi, hGi⟩
      · skip
        have b11 := (not_congr (nI_le2 (by omega) (by omega))).mp b11
        refine r_aload_2 (pc := 14) C dX1_stones_14 ?_
        refine r_iload_4 (pc := 15) C dX1_stones_15 ?_
        refine r_iald (pc := 17) C (show (F.G t).1 = 130 by rw [(hGi.2 t lt).1]; exact htk) rfl rfl (lt_eq (by omega) (show F.n t = 5 by rw [(hGi.2 t lt).2.1]; exact htn)) (by omega) dX1_stones_17 ?_
        refine r_top ((congrFun ((hGi.2 t lt).2.2 nt9).2.1 i).trans (hcs i (by omega))) ?_
        refine r_istore_5 (pc := 18) C dX1_stones_18 rfl ?_
        refine r_aload_0 (pc := 20) C dX1_stones_20 ?_
        refine r_iload_5 (pc := 21) C dX1_stones_21 ?_
        refine r_iconst (pc := 23) C dX1_stones_23 ci_1 ?_
        refine r_V2vo (pc := 24) C (l_hardE (k := 1) hBi.L (hρ i (by omega)).1.s.c80 (hρ i (by omega)).2.1) vl_X1_50 (by exact ly_g hBi.L) (by decide) (by omega) (by omega) (Nat.le_of_ble_eq_true rfl) rfl dX1_stones_24 (fun u2 A2 hc2 => ?_)
        have hh := hBi.hard (k := 1) hZF (hρ i (by omega)).1 (hρ i (by omega)).2.1 (hρ i (by omega)).2.2.1 (Or.inl rfl)
        refine r_eqA hc2 ?_
        clear hc2 A2 u2
        refine r_iinc_4 (pc := 27) C dX1_stones_27 (nI_inc _) rfl ?_
        refine r_goto (pc := 30) (tgt := 8) C dX1_stones_30 (by decide) ?_
        refine r_forget (lv' := [some _, some _, some _, some _, some _, none]) ⟨rfl, rfl, rfl, rfl, rfl, trivial⟩ ?_
        exact ih8 (i + 1) _ (by omega) (by rw [(hρ i (by omega)).2.2.2]; exact hh.1) (hGi.tr2 hh.2.1 (fun y hy q => lx_eq hZ hB.L hGi (hK i (by omega)).1 (hK i (by omega)).2 q)) (by omega)
  exact lp8_1 _ 0 A (Nat.zero_le _) hB Gw.rf (Nat.lt_succ_self _)
