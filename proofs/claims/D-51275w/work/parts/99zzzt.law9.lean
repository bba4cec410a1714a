/-! THE LAW, 9: its loop, its body -/
set_option maxRecDepth 100000
theorem NF1 : ∀ j, fw_ty 1 j ≠ .float ∧ fw_ty 1 j ≠ .double := by
  intro j
  show tyX1 j ≠ .float ∧ tyX1 j ≠ .double
  unfold tyX1
  split <;> exact ⟨fun h => (by cases h), fun h => (by cases h)⟩
theorem NF6 : ∀ j, fw_ty 6 j ≠ .float ∧ fw_ty 6 j ≠ .double := by
  intro j
  show tyX6 j ≠ .float ∧ tyX6 j ≠ .double
  unfold tyX6
  split <;> exact ⟨fun h => (by cases h), fun h => (by cases h)⟩
theorem and_63 (x : Int32) : ∃ n, n ≤ 63 ∧ x &&& nI 63 = nI n := by
  refine ⟨x.toBitVec.toNat % 64, by omega, Int32.toBitVec_inj.mp (BitVec.eq_of_toNat_eq ?_)⟩
  rw [Int32.toBitVec_and, BitVec.toNat_and, pk_tn (show 63 < 2 ^ 32 by decide), pk_tn (show x.toBitVec.toNat % 64 < 2 ^ 32 by omega)]
  exact Nat.and_two_pow_sub_one_eq_mod _ 6
theorem gt_6 {L j : Nat} (h1 : L ≤ 144) (h2 : j ≤ 24) (h : ¬ nI L - nI 6 < nI (6 * j)) : 6 * j + 6 ≤ L := by
  have : ∀ L, L < 145 → ∀ j, j < 25 → ¬ nI L - nI 6 < nI (6 * j) → 6 * j + 6 ≤ L := by decide +kernel
  exact this L (by omega) j (by omega) h
theorem nI_6 (j : Nat) : nI (6 * j) + Int32.ofInt 6 = nI (6 * (j + 1)) := by
  rw [show Int32.ofInt 6 = nI 6 by decide +kernel, nI_add]
  rfl
set_option maxHeartbeats 4000000 in
theorem law_loop {g : GZ} {z : ZX} {mc ms : Nat} (C : CX g z cL_law RX0 9 1734 mc ms) (K : LwG g) {b Ls c t o : Nat} {xs : Nat → Int32} (S : Scr g b Ls xs) (hmc : 1000 + 34340 * 25 ≤ mc) (hms : 20000 + 154700 * 25 ≤ ms) (hend : ∀ (k n : Nat) (D : HA) (lv : List (Option Value)), k ≤ mc → n ≤ ms → wa g z k n D 2685 lv [.int (nI 1)]) :
    ∀ (fu j k n : Nat) (A : HA), 24 - j < fu → j ≤ 24 → k ≤ 1000 + 34340 * j → n ≤ 20000 + 154700 * j → LwP g c t o A → wa g z k n A 23 [some (.ref b), some (.ref c), some (.ref t), some (.ref o), some (.int (nI (6 * j))), none, none, none, none] [] := by
  intro fu
  induction fu with
  | zero => intro j k n A h; exact absurd h (Nat.not_lt_zero _)
  | succ fu ih =>
    intro j k n A hf hj hk hn hP
    have hL4 := S.2.2
    refine r_old fun ho0 => ?_
    refine r_iload_4 (pc := 23) C dL_law_23 ?_
    refine r_aload_0 (pc := 25) C dL_law_25 ?_
    refine r_slen (pc := 26) C S dL_law_26 ?_
    refine r_bipush (pc := 27) C dL_law_27 cb_6 ?_
    refine r_isub (pc := 29) C dL_law_29 ?_
    refine r_icmp_gt (pc := 30) (tgt := 2684) C dL_law_30 (by decide) (fun h => ?_) (fun h => ?_)
    · refine r_iconst (pc := 2684) C dL_law_2684 ci_1 ?_
      exact hend _ _ _ _ (by omega) (by omega)
    · have hi := gt_6 hL4 hj h
      refine r_aload_0 (pc := 33) C dL_law_33 ?_
      refine r_iload_4 (pc := 34) C dL_law_34 ?_
      refine r_scr (pc := 36) C S rfl (by omega) dL_law_36 ?_
      refine r_bipush (pc := 37) C dL_law_37 cb_63 ?_
      refine r_iand (pc := 39) C dL_law_39 ?_
      obtain ⟨v, hv, ev⟩ := and_63 (xs (6 * j))
      refine r_top ev ?_
      clear ev
      have hcont : ∀ (k' n' : Nat) (D : HA), k' ≤ k + 34340 → n' ≤ n + 154700 → LwP g c t o D → wa g z k' n' D 2678 [some (.ref b), some (.ref c), some (.ref t), some (.ref o), some (.int (nI (6 * j))), none, none, none, none] [] := fun k' n' D h1 h2 h3 => by
        refine r_iinc_4 (pc := 2678) C dL_law_2678 (nI_6 j) rfl ?_
        refine r_goto (pc := 2681) (tgt := 23) C dL_law_2681 (by decide) ?_
        exact ih (j + 1) k' n' D (by omega) (by omega) (Nat.le_trans h1 (by rw [Nat.mul_succ, ← Nat.add_assoc]; exact Nat.add_le_add_right hk 34340)) (Nat.le_trans h2 (by rw [Nat.mul_succ, ← Nat.add_assoc]; exact Nat.add_le_add_right hn 154700)) h3
      by_cases h0 : v = 0
      · subst h0
        refine r_tableIn (pc := 40) (tgt := 240) (off := 200) C dL_law_40 (by decide +kernel) (by decide +kernel) (by decide +kernel) (by decide) ?_
        exact k_append C K S hP hi (by omega) (by omega) hcont
      by_cases h1 : v = 1
      · subst h1
        refine r_tableIn (pc := 40) (tgt := 344) (off := 304) C dL_law_40 (by decide +kernel) (by decide +kernel) (by decide +kernel) (by decide) ?_
        exact k_truncate C K S hP hi (by omega) (by omega) hcont
      by_cases h2 : v = 2
      · subst h2
        refine r_tableIn (pc := 40) (tgt := 400) (off := 360) C dL_law_40 (by decide +kernel) (by decide +kernel) (by decide +kernel) (by decide) ?_
        exact k_readText C K S hP hi (by omega) (by omega) hcont
      by_cases h3 : v = 3
      · subst h3
        refine r_tableIn (pc := 40) (tgt := 444) (off := 404) C dL_law_40 (by decide +kernel) (by decide +kernel) (by decide +kernel) (by decide) ?_
        exact k_runOrders C K S hP hi (by omega) (by omega) hcont
      by_cases h4 : v = 4
      · subst h4
        refine r_tableIn (pc := 40) (tgt := 488) (off := 448) C dL_law_40 (by decide +kernel) (by decide +kernel) (by decide +kernel) (by decide) ?_
        exact k_errorCode C K S hP hi (by omega) (by omega) hcont
      by_cases h5 : v = 5
      · subst h5
        refine r_tableIn (pc := 40) (tgt := 501) (off := 461) C dL_law_40 (by decide +kernel) (by decide +kernel) (by decide +kernel) (by decide) ?_
        exact k_errorPosition C K S hP hi (by omega) (by omega) hcont
      by_cases h6 : v = 6
      · subst h6
        refine r_tableIn (pc := 40) (tgt := 514) (off := 474) C dL_law_40 (by decide +kernel) (by decide +kernel) (by decide +kernel) (by decide) ?_
        exact k_size C K S hP hi (by omega) (by omega) hcont
      by_cases h7 : v = 7
      · subst h7
        refine r_tableIn (pc := 40) (tgt := 570) (off := 530) C dL_law_40 (by decide +kernel) (by decide +kernel) (by decide +kernel) (by decide) ?_
        exact k_cell C K S hP hi (by omega) (by omega) hcont
      by_cases h8 : v = 8
      · subst h8
        refine r_tableIn (pc := 40) (tgt := 650) (off := 610) C dL_law_40 (by decide +kernel) (by decide +kernel) (by decide +kernel) (by decide) ?_
        exact k_gate C K S hP hi (by omega) (by omega) hcont
      by_cases h9 : v = 9
      · subst h9
        refine r_tableIn (pc := 40) (tgt := 718) (off := 678) C dL_law_40 (by decide +kernel) (by decide +kernel) (by decide +kernel) (by decide) ?_
        exact k_walker C K S hP hi (by omega) (by omega) hcont
      by_cases h10 : v = 10
      · subst h10
        refine r_tableIn (pc := 40) (tgt := 786) (off := 746) C dL_law_40 (by decide +kernel) (by decide +kernel) (by decide +kernel) (by decide) ?_
        exact k_nameByte C K S hP hi (by omega) (by omega) hcont
      by_cases h11 : v = 11
      · subst h11
        refine r_tableIn (pc := 40) (tgt := 882) (off := 842) C dL_law_40 (by decide +kernel) (by decide +kernel) (by decide +kernel) (by decide) ?_
        exact k_find C K S hP hi (by omega) (by omega) hcont
      by_cases h12 : v = 12
      · subst h12
        refine r_tableIn (pc := 40) (tgt := 923) (off := 883) C dL_law_40 (by decide +kernel) (by decide +kernel) (by decide +kernel) (by decide) ?_
        exact k_isWet C K S hP hi (by omega) (by omega) hcont
      by_cases h13 : v = 13
      · subst h13
        refine r_tableIn (pc := 40) (tgt := 986) (off := 946) C dL_law_40 (by decide +kernel) (by decide +kernel) (by decide +kernel) (by decide) ?_
        exact k_cost C K S hP hi (by omega) (by omega) hcont
      by_cases h14 : v = 14
      · subst h14
        refine r_tableIn (pc := 40) (tgt := 1066) (off := 1026) C dL_law_40 (by decide +kernel) (by decide +kernel) (by decide +kernel) (by decide) ?_
        exact k_wayCost C K S hP hi (by omega) (by omega) hcont
      by_cases h15 : v = 15
      · subst h15
        refine r_tableIn (pc := 40) (tgt := 1122) (off := 1082) C dL_law_40 (by decide +kernel) (by decide +kernel) (by decide +kernel) (by decide) ?_
        exact k_waySteps C K S hP hi (by omega) (by omega) hcont
      by_cases h16 : v = 16
      · subst h16
        refine r_tableIn (pc := 40) (tgt := 1178) (off := 1138) C dL_law_40 (by decide +kernel) (by decide +kernel) (by decide +kernel) (by decide) ?_
        exact k_wayCell C K S hP hi (by omega) (by omega) hcont
      by_cases h17 : v = 17
      · subst h17
        refine r_tableIn (pc := 40) (tgt := 1246) (off := 1206) C dL_law_40 (by decide +kernel) (by decide +kernel) (by decide +kernel) (by decide) ?_
        exact k_why C K S hP hi (by omega) (by omega) hcont
      by_cases h18 : v = 18
      · subst h18
        refine r_tableIn (pc := 40) (tgt := 1314) (off := 1274) C dL_law_40 (by decide +kernel) (by decide +kernel) (by decide +kernel) (by decide) ?_
        exact k_keptBy C K S hP hi (by omega) (by omega) hcont
      by_cases h19 : v = 19
      · subst h19
        refine r_tableIn (pc := 40) (tgt := 1394) (off := 1354) C dL_law_40 (by decide +kernel) (by decide +kernel) (by decide +kernel) (by decide) ?_
        exact k_account C K S hP hi (by omega) (by omega) hcont
      by_cases h20 : v = 20
      · subst h20
        refine r_tableIn (pc := 40) (tgt := 1450) (off := 1410) C dL_law_40 (by decide +kernel) (by decide +kernel) (by decide +kernel) (by decide) ?_
        exact k_grassBalance C K S hP hi (by omega) (by omega) hcont
      by_cases h21 : v = 21
      · subst h21
        refine r_tableIn (pc := 40) (tgt := 1463) (off := 1423) C dL_law_40 (by decide +kernel) (by decide +kernel) (by decide +kernel) (by decide) ?_
        exact k_walkBalance C K S hP hi (by omega) (by omega) hcont
      by_cases h22 : v = 22
      · subst h22
        refine r_tableIn (pc := 40) (tgt := 1476) (off := 1436) C dL_law_40 (by decide +kernel) (by decide +kernel) (by decide +kernel) (by decide) ?_
        exact k_gap C K S hP hi (by omega) (by omega) hcont
      by_cases h23 : v = 23
      · subst h23
        refine r_tableIn (pc := 40) (tgt := 1489) (off := 1449) C dL_law_40 (by decide +kernel) (by decide +kernel) (by decide +kernel) (by decide) ?_
        exact k_grassIn C K S hP hi (by omega) (by omega) hcont
      by_cases h24 : v = 24
      · subst h24
        refine r_tableIn (pc := 40) (tgt := 1569) (off := 1529) C dL_law_40 (by decide +kernel) (by decide +kernel) (by decide +kernel) (by decide) ?_
        exact k_bareIn C K S hP hi (by omega) (by omega) hcont
      by_cases h25 : v = 25
      · subst h25
        refine r_tableIn (pc := 40) (tgt := 1625) (off := 1585) C dL_law_40 (by decide +kernel) (by decide +kernel) (by decide +kernel) (by decide) ?_
        exact k_whenBare C K S hP hi (by omega) (by omega) hcont
      by_cases h26 : v = 26
      · subst h26
        refine r_tableIn (pc := 40) (tgt := 1693) (off := 1653) C dL_law_40 (by decide +kernel) (by decide +kernel) (by decide +kernel) (by decide) ?_
        exact k_ifFence C K S hP hi (by omega) (by omega) hcont
      by_cases h27 : v = 27
      · subst h27
        refine r_tableIn (pc := 40) (tgt := 1773) (off := 1733) C dL_law_40 (by decide +kernel) (by decide +kernel) (by decide +kernel) (by decide) ?_
        exact k_ifOpen C K S hP hi (by omega) (by omega) hcont
      by_cases h28 : v = 28
      · subst h28
        refine r_tableIn (pc := 40) (tgt := 1829) (off := 1789) C dL_law_40 (by decide +kernel) (by decide +kernel) (by decide +kernel) (by decide) ?_
        exact k_bestFence C K S hP hi (by omega) (by omega) hcont
      by_cases h29 : v = 29
      · subst h29
        refine r_tableIn (pc := 40) (tgt := 1885) (off := 1845) C dL_law_40 (by decide +kernel) (by decide +kernel) (by decide +kernel) (by decide) ?_
        exact k_ifHaste C K S hP hi (by omega) (by omega) hcont
      by_cases h30 : v = 30
      · subst h30
        refine r_tableIn (pc := 40) (tgt := 1965) (off := 1925) C dL_law_40 (by decide +kernel) (by decide +kernel) (by decide +kernel) (by decide) ?_
        exact k_busiest C K S hP hi (by omega) (by omega) hcont
      by_cases h31 : v = 31
      · subst h31
        refine r_tableIn (pc := 40) (tgt := 1978) (off := 1938) C dL_law_40 (by decide +kernel) (by decide +kernel) (by decide +kernel) (by decide) ?_
        exact k_meanGrass C K S hP hi (by omega) (by omega) hcont
      by_cases h32 : v = 32
      · subst h32
        refine r_tableIn (pc := 40) (tgt := 2019) (off := 1979) C dL_law_40 (by decide +kernel) (by decide +kernel) (by decide +kernel) (by decide) ?_
        exact k_bareShare C K S hP hi (by omega) (by omega) hcont
      by_cases h33 : v = 33
      · subst h33
        refine r_tableIn (pc := 40) (tgt := 2062) (off := 2022) C dL_law_40 (by decide +kernel) (by decide +kernel) (by decide +kernel) (by decide) ?_
        exact k_run C K S hP hi (by omega) (by omega) hcont
      by_cases h34 : v = 34
      · subst h34
        refine r_tableIn (pc := 40) (tgt := 2118) (off := 2078) C dL_law_40 (by decide +kernel) (by decide +kernel) (by decide +kernel) (by decide) ?_
        exact k_setFence C K S hP hi (by omega) (by omega) hcont
      by_cases h35 : v = 35
      · subst h35
        refine r_tableIn (pc := 40) (tgt := 2186) (off := 2146) C dL_law_40 (by decide +kernel) (by decide +kernel) (by decide +kernel) (by decide) ?_
        exact k_dropFence C K S hP hi (by omega) (by omega) hcont
      by_cases h36 : v = 36
      · subst h36
        refine r_tableIn (pc := 40) (tgt := 2254) (off := 2214) C dL_law_40 (by decide +kernel) (by decide +kernel) (by decide +kernel) (by decide) ?_
        exact k_pave C K S hP hi (by omega) (by omega) hcont
      by_cases h37 : v = 37
      · subst h37
        refine r_tableIn (pc := 40) (tgt := 2322) (off := 2282) C dL_law_40 (by decide +kernel) (by decide +kernel) (by decide +kernel) (by decide) ?_
        exact k_sow C K S hP hi (by omega) (by omega) hcont
      by_cases h38 : v = 38
      · subst h38
        refine r_tableIn (pc := 40) (tgt := 2390) (off := 2350) C dL_law_40 (by decide +kernel) (by decide +kernel) (by decide +kernel) (by decide) ?_
        exact k_setHaste C K S hP hi (by omega) (by omega) hcont
      by_cases h39 : v = 39
      · subst h39
        refine r_tableIn (pc := 40) (tgt := 2458) (off := 2418) C dL_law_40 (by decide +kernel) (by decide +kernel) (by decide +kernel) (by decide) ?_
        exact k_turnRound C K S hP hi (by omega) (by omega) hcont
      by_cases h40 : v = 40
      · subst h40
        refine r_tableIn (pc := 40) (tgt := 2514) (off := 2474) C dL_law_40 (by decide +kernel) (by decide +kernel) (by decide +kernel) (by decide) ?_
        exact k_writeLawn C K S hP hi (by omega) (by omega) hcont
      by_cases h41 : v = 41
      · subst h41
        refine r_tableIn (pc := 40) (tgt := 2527) (off := 2487) C dL_law_40 (by decide +kernel) (by decide +kernel) (by decide +kernel) (by decide) ?_
        exact k_writeWay C K S hP hi (by omega) (by omega) hcont
      by_cases h42 : v = 42
      · subst h42
        refine r_tableIn (pc := 40) (tgt := 2583) (off := 2543) C dL_law_40 (by decide +kernel) (by decide +kernel) (by decide +kernel) (by decide) ?_
        exact k_outputByte C K S hP hi (by omega) (by omega) hcont
      by_cases h43 : v = 43
      · subst h43
        refine r_tableIn (pc := 40) (tgt := 2608) (off := 2568) C dL_law_40 (by decide +kernel) (by decide +kernel) (by decide +kernel) (by decide) ?_
        exact k_undo C K S hP hi (by omega) (by omega) hcont
      by_cases h44 : v = 44
      · subst h44
        refine r_tableIn (pc := 40) (tgt := 2621) (off := 2581) C dL_law_40 (by decide +kernel) (by decide +kernel) (by decide +kernel) (by decide) ?_
        exact k_save C K S hP hi (by omega) (by omega) hcont
      by_cases h45 : v = 45
      · subst h45
        refine r_tableIn (pc := 40) (tgt := 2634) (off := 2594) C dL_law_40 (by decide +kernel) (by decide +kernel) (by decide +kernel) (by decide) ?_
        exact k_restore C K S hP hi (by omega) (by omega) hcont
      refine r_tableOut (pc := 40) (tgt := 2678) C dL_law_40 (by rw [t_nI (by omega)]; omega) (by decide) ?_
      exact hcont k n A (by omega) (by omega) hP
theorem pS_p10 : pS10.p = -1 := by decide +kernel
/-- what the start gives beside LwG -/
def LwI (g : GZ) : Prop := DeK g g.A ∧ IcK g g.A ∧ PlC g ∧ ∃ q9 v9, SK g "LawnPathsModel" 44 plS q9 ∧ StrV g.A q9 v9 (chs plainT) 154 ∧ q9 < g.b ∧ v9 < g.b
section
variable {g : GZ} {A D F : HA} {c l pq pe bf sb v t o : Nat} {d f : Nat → Nat}
/-- the component as it is made is the world's -/
theorem Mad.wc (h : Mad A c l pq pe bf sb v d f) (hDE : DeK g A) (hIc : IcK g A) : WCx g A c l pq pe 0 bf sb v 16 d f (bs pW10) 0 (fun _ => pZ) none 0 plB 0 f (nI 0) (-1) := by
  obtain ⟨⟨a1, a2, a3, a4, a5, a6⟩, a7, a8, ⟨a9, a10⟩, a11, a12, a13, a14⟩ := h
  have hD := pD10.1
  have eD : rD (bs pW10) = rD pW10 := by unfold rD; rw [bs_x (by decide)]
  exact ⟨a1, a2, a7, ⟨bs_J hD.1, by rw [eD, hD.2.1]; decide⟩, a4, a8, by decide, fun i hi => absurd hi (Nat.not_lt_zero _), ⟨fun _ => a3, fun ρ z => by cases z⟩, ⟨a5, a9, a10, a12, fun k hk => absurd hk (Nat.not_lt_zero _), by decide⟩, a6, a11, ⟨by decide, by decide⟩, a13, a14, hDE, hIc⟩
/-- the reference as it is made -/
theorem TI.wt {φ κ' τ τ0 τ1 : Rw} {m : Int32} (h : TI A F t 10 τ1) (h0 : τ0 = fun _ => 0) (h1 : τ1 = upd τ0 19 (-1)) (hτ : τ = upd τ1 12 (nI 154)) :
    WTx (S5 ((F.sI (t + 8) φ).sI (t + 3) (va_cpy pZ ((F.sI (t + 8) φ).I (t + 3)) 0 0 553)) t (bs pW10) κ' pZ (stS (upd (tolT (upd τ 20 m) (nextS plB 154 pS10)) 5 (nI 0)) (nextS plB 154 pS10))) t (bs pW10) 0 (fun _ => pZ) none 0 plB 0 f (nI 0) (-1) := by
  have e : ∀ j, j ≠ 5 → (j < 13 ∨ 17 < j) → stS (upd (tolT (upd τ 20 m) (nextS plB 154 pS10)) 5 (nI 0)) (nextS plB 154 pS10) j = tolT (upd τ 20 m) (nextS plB 154 pS10) j := fun j q1 q2 => by
    show stT _ _ _ _ _ _ j = _
    rw [stT_o q2, pk_un q1]
  have hT : Tw F t := h.tw
  refine WTx.of (by exact hT) ⟨?_, fun i hi => absurd hi (Nat.not_lt_zero _), ⟨fun _ => ?_, fun ρ z => by cases z⟩, ⟨by decide, fun k hk => absurd hk (Nat.not_lt_zero _)⟩, ?_, fun i hi => absurd hi (Nat.not_lt_zero _), ?_, ?_, ?_⟩
  · show stT _ _ _ _ _ _ 5 = _
    rw [stT_o (by decide), pk_us]
  · rw [e 7 (by decide) (by decide), tol_x (by decide) (by decide) (by decide) (by decide), pk_un (by decide), hτ, pk_un (by decide), h1, pk_un (by decide), h0]
    exact nI0.symm
  · rw [e 12 (by decide) (by decide), tol_12]
  · rw [e 24 (by decide) (by decide), tol_x (by decide) (by decide) (by decide) (by decide), pk_un (by decide), hτ, pk_un (by decide), h1, pk_un (by decide), h0]
    exact nI0.symm
  · rw [e 18 (by decide) (by decide), tol_18]
    exact congrArg nI (show (nextS plB 154 pS10).e = 0 from pS_e10)
  · rw [e 19 (by decide) (by decide), tol_19]
    exact pS_p10
end
set_option maxHeartbeats 4000000 in
theorem law_body {g : GZ} {z : ZX} (C : CX g z cL_law RX0 9 1734 1200144 5496826) (K : LwG g) (KI : LwI g) {b Ls : Nat} {xs : Nat → Int32} (S : Scr g b Ls xs) (hend : ∀ (k n : Nat) (D : HA) (lv : List (Option Value)), k ≤ 1200144 → n ≤ 5496826 → wa g z k n D 2685 lv [.int (nI 1)]) : wa g z 0 0 g.A 0 [some (.ref b), none, none, none, none, none, none, none, none] [] := by
  obtain ⟨hDE, hIc, hPl, q9, v9, hq0, hq1, hq2, hq3⟩ := KI
  refine r_Z fun hZ => ?_
  refine r_new (pc := 0) C 0 (Nat.zero_le _) nl_X0_8 NF1 (by omega) (by omega) dL_law_0 ?_
  refine r_dup (pc := 3) C dL_law_3 rfl ?_
  have hG0 : Gw g.A (g.A.mk 1 0 0) Non := gw_mk
  have hDE0 := hDE.gw hZ hG0
  have hIc0 := hIc.gw hZ hG0 (fun y _ q => q.elim)
  refine r_Z fun hZ0 => ?_
  refine r_I0v (pc := 4) C (c_init (f := fun _ => 0) (by rw [mk_G, if_pos rfl]) (by rw [mk_R, if_pos rfl]) (by rw [mk_I, if_pos rfl]; exact nI0.symm) (by rw [mk_I, if_pos rfl]; exact nI0.symm) K.zs hDE0 hPl) il_X0_121 (by decide) (by omega) (by omega) (Nat.le_of_ble_eq_true rfl) rfl dL_law_4 (fun u1 A1 hc1 => ?_)
  obtain ⟨l, dd, pq, pe, bf, sb, v, hM, hG1⟩ := hc1
  have kc0 : ((g.A.mk 1 0 0).G g.A.z).1 = 1 := by rw [mk_G, if_pos rfl]
  have hDE1 := hDE0.gw hZ0 hG1
  have hIc1 := hIc0.gw hZ0 hG1 (fun y _ q => by rw [q, kc0]; exact ⟨by decide, by decide⟩)
  have w1 := hM.wc (g := g) hDE1 hIc1
  generalize g.A.z = c at w1 hM ⊢
  clear hG0 hDE0 hIc0 hG1 kc0 hDE1 hIc1 hZ0
  refine r_Z fun hZ1 => ?_
  refine r_astore_1 (pc := 7) C dL_law_7 rfl ?_
  refine r_new (pc := 8) C 0 (Nat.zero_le _) nl_X0_122 NF6 (by omega) (by omega) dL_law_8 ?_
  refine r_dup (pc := 11) C dL_law_11 rfl ?_
  refine r_I0v (pc := 12) C (m_init (τ0 := fun _ => 0) (τ1 := upd (fun _ => 0) 19 (-1)) (by rw [mk_G, if_pos rfl]) rfl (by rw [mk_I, if_pos rfl]) rfl (fun _ _ _ => nI0.symm) K.zs K.tw hq0 hq1 hq2 hq3) il_X0_124 (by decide) (by omega) (by omega) (Nat.le_of_ble_eq_true rfl) rfl dL_law_12 (fun u2 A2 hc2 => ?_)
  obtain ⟨F, φ, κ', m, τ, hTI, hφ, hτ, rfl⟩ := hc2
  have t2 := hTI.wt (f := fun _ => 0) (φ := φ) (κ' := κ') (m := m) rfl rfl hτ
  have hGF : Gw A1 F Non := (gw_mk (A := A1) (k := 6) (o := 0) (len := 0) (X := Non)).tr2 hTI.2.2.2.1 (fun y hy q => by omega)
  have hG2 : Gw A1 ((F.sI (A1.z + 8) φ).sI (A1.z + 3) (va_cpy pZ ((F.sI (A1.z + 8) φ).I (A1.z + 3)) 0 0 553)) Non := hGF.tr2 ((gw_tI (t := A1.z) (i := 8) (by omega)).tr (gw_tI (i := 3) (by omega))) (fun y hy q => by
    obtain ⟨i, hi, e⟩ := q
    omega)
  have hG3 := hG2.tr2 (gw_tS (t := A1.z) (A := ((F.sI (A1.z + 8) φ).sI (A1.z + 3) (va_cpy pZ ((F.sI (A1.z + 8) φ).I (A1.z + 3)) 0 0 553))) (σ' := bs pW10) (κ := κ') (π := pZ) (τ' := stS (upd (tolT (upd τ 20 m) (nextS plB 154 pS10)) 5 (nI 0)) (nextS plB 154 pS10)) Gw.rf) (fun y hy q => by
    obtain ⟨i, hi, e⟩ := q
    omega)
  have w2 := w1.gs hZ1 (Gs.of hG3)
  clear hTI hφ hτ hGF hG2 hG3
  generalize S5 ((F.sI (A1.z + 8) φ).sI (A1.z + 3) (va_cpy pZ ((F.sI (A1.z + 8) φ).I (A1.z + 3)) 0 0 553)) A1.z (bs pW10) κ' pZ (stS (upd (tolT (upd τ 20 m) (nextS plB 154 pS10)) 5 (nI 0)) (nextS plB 154 pS10)) = D at w2 t2 ⊢
  generalize A1.z = t at t2 ⊢
  refine r_Z fun hZ2 => ?_
  refine r_astore_2 (pc := 15) C dL_law_15 rfl ?_
  refine r_iconst (pc := 16) C dL_law_16 ci_1 ?_
  refine r_newL (pc := 17) C 401 0 (Nat.zero_le _) rfl q2951 rfl (by omega) (by omega) (by omega) dL_law_17 ?_
  have hG4 : Gw D (D.mk 401 0 1) Non := gw_mk
  have hP : LwP g c t D.z (D.mk 401 0 1) := ⟨_, _, _, _, _, _, _, _, _, _, ⟨_, _, _, _, _, _, _, _, _, _, w2.gs hZ2 (Gs.of hG4)⟩, t2.fr hZ2 hG4 (fun _ q => q.elim), by rw [mk_G, if_pos rfl], by rw [mk_n, if_pos rfl]⟩
  generalize D.mk 401 0 1 = G at hP ⊢
  generalize D.z = o at hP ⊢
  refine r_astore_3 (pc := 19) C dL_law_19 rfl ?_
  refine r_iconst (pc := 20) C dL_law_20 ci_0 ?_
  refine r_istore_4 (pc := 21) C dL_law_21 rfl ?_
  exact law_loop C K S (by decide) (by decide) hend 25 0 _ _ G (by decide) (by decide) (by omega) (by omega) hP
