/-! THE COMPONENT, 20: the reader: change objects; the script -/
set_option maxRecDepth 100000
theorem tE_le {B : Nat → Nat} {L a : Nat} (h : a ≤ L) : tkE B L (skp B L a) = nxE B L a ∧ a ≤ nxE B L a ∧ nxE B L a ≤ L := ⟨rfl, nxE_le h⟩
theorem RdT.gw {g : GZ} {A D : HA} {X : Nat → Prop} {r c bf L : Nat} {B : Nat → Nat} {a : Nat} (h : RdT g A r c bf L B a) (hz : Zk A) (hw : Gw A D X) (h1 : ¬ X r) (h2 : ¬ X c) (h3 : ¬ X bf) (h4 : ∀ y, y < A.z → X y → (A.G y).1 ≠ 16 ∧ (A.G y).1 ≠ 231) : RdT g D r c bf L B a := by
  obtain ⟨v, w, hs, hv, hw2⟩ := h
  refine ⟨v, w, hs.gw hz hw h1 h2 h3, hv, ?_⟩
  rcases hw2 with ⟨v9, h9⟩ | h9
  · have lw := hz.lt h9.1.g rfl
    have lv : v9 < A.z := by
      rcases Nat.lt_or_ge v9 A.z with q | q
      · exact q
      · have h8 := hz v9 q
        have := h9.2.2.1
        omega
    exact Or.inl ⟨v9, h9.gw hz hw (fun q => (h4 w lw q).1 h9.1.g) (fun q => (h4 v9 lv q).2 h9.2.2.1)⟩
  · exact Or.inr h9
set_option maxHeartbeats 4000000 in
theorem t_running {g : GZ} {A : HA} {r : Nat} (hK : LamK g) {k : Nat} : Ct g wR yX7_running (.code yX7_running cX7_running 2 (Option.some (Jvm.ClassFile.FieldType.object "LawnPaths$Change"))) 60 1 1 [.ref r, .int (nI (k))] (A) (fun u A' => u = A.z ∧ LamIs A' u (0, k, 0) ∧ Gw A A' Non) fw_no := by
  refine Ct.ofN [some (.ref r), some (.int (nI (k)))] (by decide) rfl rfl fun z C hx hN E => ?_
  refine r_iload_1 (pc := 0) C dX7_running_0 ?_
  refine r_indy (pc := 1) (V := (fun _ => nI k)) (st := []) C hN hK.s80 rfl ⟨by decide, by decide⟩ lk80 ⟨by decide, by decide⟩ (by omega) (by omega) (by omega) (Nat.le_of_ble_eq_true rfl) rfl dX7_running_1 ?_
  have hGD : Gw A (lamH A 80 1 (fun _ => nI k)) Non := lamH_gw
  have hID : LamIs (lamH A 80 1 (fun _ => nI k)) A.z (0, k, 0) := (Or.inl ⟨rfl, Or.inl (by rw [lamH_G, if_pos rfl]), lamH_n _ _ _ _, by rw [lamH_I]⟩)
  generalize lamH A 80 1 (fun _ => nI k) = D at hGD hID ⊢
  refine r_aret (pc := 6) C E rfl (by omega) (by omega) dX7_running_6 ?_
  exact ⟨rfl, hID, hGD⟩
set_option maxHeartbeats 4000000 in
theorem t_turning {g : GZ} {A : HA} {r : Nat} (hK : LamK g) {k : Nat} : Ct g wR yX7_turning (.code yX7_turning cX7_turning 2 (Option.some (Jvm.ClassFile.FieldType.object "LawnPaths$Change"))) 60 1 1 [.ref r, .int (nI (k))] (A) (fun u A' => u = A.z ∧ LamIs A' u (6, k, 0) ∧ Gw A A' Non) fw_no := by
  refine Ct.ofN [some (.ref r), some (.int (nI (k)))] (by decide) rfl rfl fun z C hx hN E => ?_
  refine r_iload_1 (pc := 0) C dX7_turning_0 ?_
  refine r_indy (pc := 1) (V := (fun _ => nI k)) (st := []) C hN hK.s82 rfl ⟨by decide, by decide⟩ lk82 ⟨by decide, by decide⟩ (by omega) (by omega) (by omega) (Nat.le_of_ble_eq_true rfl) rfl dX7_turning_1 ?_
  have hGD : Gw A (lamH A 82 1 (fun _ => nI k)) Non := lamH_gw
  have hID : LamIs (lamH A 82 1 (fun _ => nI k)) A.z (6, k, 0) := (Or.inr (Or.inr (Or.inr (Or.inr (Or.inr (Or.inr (Or.inl ⟨rfl, Or.inl (by rw [lamH_G, if_pos rfl]), lamH_n _ _ _ _, by rw [lamH_I]⟩)))))))
  generalize lamH A 82 1 (fun _ => nI k) = D at hGD hID ⊢
  refine r_aret (pc := 6) C E rfl (by omega) (by omega) dX7_turning_6 ?_
  exact ⟨rfl, hID, hGD⟩
set_option maxHeartbeats 4000000 in
theorem t_hastening {g : GZ} {A : HA} {r c bf L : Nat} {B : Nat → Nat} {a : Nat} (hR : RdT g A r c bf L B a) (hT : TkC g) (ha : a ≤ L) (hz : zS g) (hK : LamK g) {k : Nat} : Ct g wR yX7_hastening (.code yX7_hastening cX7_hastening 3 (Option.some (Jvm.ClassFile.FieldType.object "LawnPaths$Change"))) 60 (30 * (nxE B L (nxE B L a) - nxE B L a) + 3) (120 * (nxE B L (nxE B L a) - nxE B L a) + 18) [.ref r, .int (nI (k))] (A) (fun u A' => ∃ n a', numR B L a 0 9 = .inr (n, a') ∧ a' = nxE B L a ∧ n ≤ 9 ∧ LamIs A' u (5, k, n) ∧ A.z ≤ u ∧ RdT g A' r c bf L B a' ∧ Gw A A' (fun y => y = r)) (fun q A' => ∃ e p, numR B L a 0 9 = .inl (e, p) ∧ UnX A A' Non q (nI e) (nI p)) := by
  refine Ct.ofN [some (.ref r), some (.int (nI (k))), none] (by decide) rfl rfl fun z C hx hN E => ?_
  obtain ⟨v, w, hsR, hv, hw⟩ := id hR
  have h9 := hsR.l9
  have hp9 := skp_le (B := B) ha
  have hp8 := skp_ge (B := B) (L := L) (a := a)
  have he9 := tkE_le (B := B) hp9
  have hnx : nxE B L a = (tkE B L (skp B L a)) := rfl
  have hnx2 : nxE B L (nxE B L a) = tkE B L (skp B L (nxE B L a)) := rfl
  have hB : ∀ k, k < L → B k ≤ 255 := fun k hk => (hsR.2.2.1.2 k hk).2
  have hnn := nxE_le (B := B) (L := L) (a := nxE B L a) (by omega)
  refine r_aload_0 (pc := 0) C dX7_hastening_0 ?_
  refine r_iconst (pc := 1) C dX7_hastening_1 ci_0 ?_
  refine r_bipush (pc := 2) C dX7_hastening_2 cb_9 ?_
  refine r_V2ix (pc := 4) C (t_number hR hT ha hz (lo := 0) (hi := 9) (by decide) (by decide)) vl_X7_134 hsR.1.1 (by decide) (by omega) (by omega) (Nat.le_of_ble_eq_true rfl) rfl dX7_hastening_4 (fun q A9 hp hE => r_out C E (by rw [hx]; exact fun x h => nomatch h) hE.choose_spec (by omega) (by omega) (hp)) (fun u1 A1 hc1 => ?_)
  obtain ⟨n, a', e1, e2, e3, e4, hR2, hGw⟩ := hc1
  refine r_top e3 ?_
  clear e3 u1
  generalize A1 = F at hR2 hGw ⊢
  refine r_Z fun hZF => ?_
  refine r_istore_2 (pc := 7) C dX7_hastening_7 rfl ?_
  refine r_iload_1 (pc := 8) C dX7_hastening_8 ?_
  refine r_iload_2 (pc := 9) C dX7_hastening_9 ?_
  refine r_indy (pc := 10) (V := (fun j => if j = 0 then nI k else nI n)) (st := []) C hN hK.s81 rfl ⟨by decide, by decide⟩ lk81 ⟨by decide, by decide⟩ (by omega) (by omega) (by omega) (Nat.le_of_ble_eq_true rfl) rfl dX7_hastening_10 ?_
  have hGD : Gw F (lamH F 81 2 (fun j => if j = 0 then nI k else nI n)) Non := lamH_gw
  have hID : LamIs (lamH F 81 2 (fun j => if j = 0 then nI k else nI n)) F.z (5, k, n) := (Or.inr (Or.inr (Or.inr (Or.inr (Or.inr (Or.inl ⟨rfl, Or.inl (by rw [lamH_G, if_pos rfl]), lamH_n _ _ _ _, by rw [lamH_I]; rfl, by rw [lamH_I]; rfl⟩))))))
  generalize lamH F 81 2 (fun j => if j = 0 then nI k else nI n) = D at hGD hID ⊢
  refine r_aret (pc := 15) C E rfl (by omega) (by omega) dX7_hastening_15 ?_
  exact ⟨n, a', e1, e2, e4, hID, hGw.1, RdT.gw hR2 hZF hGD (fun q => q) (fun q => q) (fun q => q) (fun _ _ q => q.elim), hGw.tr2 hGD (fun _ _ q => q.elim)⟩
