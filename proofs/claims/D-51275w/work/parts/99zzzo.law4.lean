/-! THE LAW, 4: calls that change more -/
set_option maxRecDepth 100000
theorem tol_x {τ : Rw} {s : TS} {j : Nat} (h1 : j ≠ 6) (h2 : j ≠ 12) (h3 : j ≠ 18) (h4 : j ≠ 19) : tolT τ s j = τ j := by
  unfold tolT
  rw [pk_un h1, pk_un h4, pk_un h3, pk_un h2]
theorem tol_6 {τ : Rw} {s : TS} (h : s.e = 0) : tolT τ s 6 = nI 0 := by
  unfold tolT
  rw [pk_us, bI_f (fun z => z h)]
  exact nI0.symm
theorem tol_6n {τ : Rw} {s : TS} (h : ¬ s.e = 0) : tolT τ s 6 = nI 1 := by
  unfold tolT
  rw [pk_us, bI_t h]
  exact nI1.symm
theorem tol_12 {τ : Rw} {s : TS} : tolT τ s 12 = nI 0 := by
  unfold tolT
  rw [pk_un (by decide), pk_un (by decide), pk_un (by decide), pk_us]
theorem tol_18 {τ : Rw} {s : TS} : tolT τ s 18 = nI s.e := by
  unfold tolT
  rw [pk_un (by decide), pk_un (by decide), pk_us]
theorem tol_19 {τ : Rw} {s : TS} : tolT τ s 19 = s.p := by
  unfold tolT
  rw [pk_un (by decide), pk_us]
set_option maxHeartbeats 1000000 in
theorem lw_errorCode {g : GZ} {A : HA} {c t o : Nat} (K : LwG g) (hP : LwP g c t o A) (hz : Zk A) (hzo : Zo A) (hold : fw_old g A) : Ct g wI yX1_errorCode (.code yX1_errorCode cX1_errorCode 1 (Option.some Jvm.ClassFile.FieldType.int)) 1 0 0 [.ref c] A (fun u B => ∃ ans : Int32, u = ans ∧ (B.G t).1 = 6 ∧ (Zk B → Zo B → fw_old g B → Ct g wI yX6_errorCode (.code yX6_errorCode cX6_errorCode 1 (Option.some Jvm.ClassFile.FieldType.int)) 1 0 0 [.ref t] B (fun u D => u = ans ∧ LwD g c t o B D) fw_no)) fw_no := by
  obtain ⟨σ, m, P, kp, L, Bf, n0, fo, e5, e6, ⟨a, pq, pe, h, bf, ob, v, mo, d, f, w⟩, wt, h1, h2⟩ := hP
  have lo := hz.lt h1 rfl
  refine lg_no (ans := e5) (As := []) (Wy := WCs g c σ m P kp L Bf n0 fo e5 e6) (Pm := (fun B u D9 => u = (B.I t) 18 ∧ D9 = S5 B t σ (B.I (t + 6)) (B.I (t + 7)) (upd (B.I t) 6 (nI 0)))) (c_errorCode w.kc w.now w.lawn.1.1 w.lawn.1.2.1 w.row.1) (fun v D z => ⟨z.1.trans w.errC, by rw [z.2]; exact w.s, by rw [z.2]; exact FrT.no Gw.rf⟩) wt hz h1 h2 (fun B tB holdB eI => ?_) (fun B u D tB eI wB hzB d1 d2 hq => ?_)
  · have H := m_errorCode (g := g) (A := B) (t := t) (σ := σ) (κ := B.I (t + 6)) (π := B.I (t + 7)) (τ := B.I t) tB.tw
    rw [tB.sF5] at H
    exact H
  · obtain ⟨a, pq, pe, h, bf, ob, v, mo, d, f, wB⟩ := wB
    obtain ⟨hu, rfl⟩ := hq
    exact ⟨hu.trans tB.errC, tq_n wB tB hzB d1 d2 (fun j hj => pk_un (by omega))⟩
set_option maxHeartbeats 1000000 in
theorem lw_errorPosition {g : GZ} {A : HA} {c t o : Nat} (K : LwG g) (hP : LwP g c t o A) (hz : Zk A) (hzo : Zo A) (hold : fw_old g A) : Ct g wI yX1_errorPosition (.code yX1_errorPosition cX1_errorPosition 1 (Option.some Jvm.ClassFile.FieldType.int)) 1 0 0 [.ref c] A (fun u B => ∃ ans : Int32, u = ans ∧ (B.G t).1 = 6 ∧ (Zk B → Zo B → fw_old g B → Ct g wI yX6_errorPosition (.code yX6_errorPosition cX6_errorPosition 1 (Option.some Jvm.ClassFile.FieldType.int)) 1 0 0 [.ref t] B (fun u D => u = ans ∧ LwD g c t o B D) fw_no)) fw_no := by
  obtain ⟨σ, m, P, kp, L, Bf, n0, fo, e5, e6, ⟨a, pq, pe, h, bf, ob, v, mo, d, f, w⟩, wt, h1, h2⟩ := hP
  have lo := hz.lt h1 rfl
  refine lg_no (ans := e6) (As := []) (Wy := WCs g c σ m P kp L Bf n0 fo e5 e6) (Pm := (fun B u D9 => u = (B.I t) 19 ∧ D9 = S5 B t σ (B.I (t + 6)) (B.I (t + 7)) (upd (B.I t) 6 (nI 0)))) (c_errorPosition w.kc w.now w.lawn.1.1 w.lawn.1.2.1 w.row.1) (fun v D z => ⟨z.1.trans w.errP, by rw [z.2]; exact w.s, by rw [z.2]; exact FrT.no Gw.rf⟩) wt hz h1 h2 (fun B tB holdB eI => ?_) (fun B u D tB eI wB hzB d1 d2 hq => ?_)
  · have H := m_errorPosition (g := g) (A := B) (t := t) (σ := σ) (κ := B.I (t + 6)) (π := B.I (t + 7)) (τ := B.I t) tB.tw
    rw [tB.sF5] at H
    exact H
  · obtain ⟨a, pq, pe, h, bf, ob, v, mo, d, f, wB⟩ := wB
    obtain ⟨hu, rfl⟩ := hq
    exact ⟨hu.trans tB.errP, tq_n wB tB hzB d1 d2 (fun j hj => pk_un (by omega))⟩
set_option maxHeartbeats 1000000 in
theorem lw_outputByte {g : GZ} {A : HA} {c t o : Nat} {x0 : Int32} (K : LwG g) (hP : LwP g c t o A) (hz : Zk A) (hzo : Zo A) (hold : fw_old g A) : Ct g wI yX1_outputByte (.code yX1_outputByte cX1_outputByte 2 (Option.some Jvm.ClassFile.FieldType.int)) 6 0 0 [.ref c, .int x0] A (fun u B => ∃ ans : Int32, u = ans ∧ (B.G t).1 = 6 ∧ (Zk B → Zo B → fw_old g B → Ct g wI yX6_outputByte (.code yX6_outputByte cX6_outputByte 2 (Option.some Jvm.ClassFile.FieldType.int)) 2 0 0 [.ref t, .int x0] B (fun u D => u = ans ∧ LwD g c t o B D) fw_no)) fw_no := by
  obtain ⟨σ, m, P, kp, L, Bf, n0, fo, e5, e6, ⟨a, pq, pe, h, bf, ob, v, mo, d, f, w⟩, wt, h1, h2⟩ := hP
  have lo := hz.lt h1 rfl
  refine lg_no (ans := if inZ x0 0 ((n0 : Int) - 1) then nI (fo (nt x0)) else -1) (As := [.int x0]) (Wy := WCs g c σ m P kp L Bf n0 fo e5 e6) (Pm := (fun B u D9 => u = (if inZ x0 0 ((n0 : Int) - 1) then B.I (t + 10) (nt x0) else -1) ∧ D9 = S5 B t σ (B.I (t + 6)) (B.I (t + 7)) (upd (B.I t) 6 (nI 0)))) (c_outputByte (x := x0) w.kc w.now w.lawn.1.1 w.lawn.1.2.1 w.row.1 K.zs w.outR w.out (by have := w.outM; omega)) (fun v D z => ⟨z.1, by rw [z.2]; exact w.s, by rw [z.2]; exact FrT.no Gw.rf⟩) wt hz h1 h2 (fun B tB holdB eI => ?_) (fun B u D tB eI wB hzB d1 d2 hq => ?_)
  · have H := m_outputByte (g := g) (A := B) (t := t) (σ := σ) (κ := B.I (t + 6)) (π := B.I (t + 7)) (τ := B.I t) (x := x0) tB.tw tB.outL w.outM.2
    rw [tB.sF5] at H
    exact H
  · obtain ⟨a, pq, pe, h, bf, ob, v, mo, d, f, wB⟩ := wB
    obtain ⟨hu, rfl⟩ := hq
    refine ⟨hu.trans ?_, tq_n wB tB hzB d1 d2 (fun j hj => pk_un (by omega))⟩
    by_cases q : inZ x0 0 ((n0 : Int) - 1)
    · rw [if_pos q, if_pos q]
      obtain ⟨k, hk, rfl⟩ := inZ_of (n := n0) q (by have := w.outM; omega)
      rw [nt_n (by have := w.outM; omega)]
      exact tB.out k hk
    · rw [if_neg q, if_neg q]
set_option maxHeartbeats 1000000 in
theorem lw_find {g : GZ} {A : HA} {c t o : Nat} {pp : Prop} [Decidable pp] (K : LwG g) (hP : LwP g c t o A) (hz : Zk A) (hzo : Zo A) (hold : fw_old g A) : Ct g wI yX1_find (.code yX1_find cX1_find 4 (Option.some Jvm.ClassFile.FieldType.int)) 10 4 40 [.ref c, .int (bI pp)] A (fun u B => ∃ ans : Int32, u = ans ∧ (B.G t).1 = 6 ∧ (Zk B → Zo B → fw_old g B → Ct g wI yX6_find (.code yX6_find cX6_find 3 (Option.some Jvm.ClassFile.FieldType.int)) 5 0 0 [.ref t, .int (bI pp)] B (fun u D => u = ans ∧ LwD g c t o B D) fw_no)) fw_no := by
  obtain ⟨σ, m, P, kp, L, Bf, n0, fo, e5, e6, ⟨a, pq, pe, h, bf, ob, v, mo, d, f, w⟩, wt, h1, h2⟩ := hP
  have lo := hz.lt h1 rfl
  have ht := w.txt
  refine lg_no (ans := fdC σ Bf L pp) (As := [.int (bI pp)]) (Wy := WCs g c σ m P kp L Bf n0 fo e5 e6) (Pm := fun B u D9 => ∃ a9 g9 w9 e9 p9, u = fdR σ Bf L pp ∧ D9 = S5 B t σ (B.I (t + 6)) (B.I (t + 7)) (stT (upd (B.I t) 6 (nI 0)) a9 g9 w9 e9 p9)) (c_find (p := pp) w.kc w.now w.lawn.1.1 w.lawn.1.2.1 w.row.1 K.zs w.lawn.1.2.2 w.lawn.2 ht.1 ht.2.1 ht.2.2.1 ht.2.2.2.1 ht.2.2.2.2.1 ht.2.2.2.2.2) (fun v D z => ⟨z.1, (w.gs hz (Gs.of z.2)).s, FrT.no z.2⟩) wt hz h1 h2 (fun B tB holdB eI => ?_) (fun B u D tB eI wB hzB d1 d2 hq => ?_)
  · have H := m_find (g := g) (A := B) (t := t) (σ := σ) (κ := B.I (t + 6)) (π := B.I (t + 7)) (τ := B.I t) (a := (B.I t 13).toBitVec.toNat) (gb := (B.I t 14).toBitVec.toNat) (w := (B.I t 15).toBitVec.toNat) (e := (B.I t 16).toBitVec.toNat) (ep := B.I t 17) (B := Bf) (L := L) (q := pp) tB.tw tB.buf tB.len w.row.1.w.num w.lawn.1.2.2.namL
    rw [stT_self, tB.sF5] at H
    exact H.mono (fun u D9 z => ⟨_, _, _, _, _, z.1, z.2⟩) (fun _ _ z => z)
  · obtain ⟨a, pq, pe, h, bf, ob, v, mo, d, f, wB⟩ := wB
    obtain ⟨a9, g9, w9, e9, p9, hu, rfl⟩ := hq
    refine ⟨hu.trans (fdC_R w.lawn.1.2.2.namI ht.2.2.2.2.2).symm, tq_n wB tB hzB d1 d2 (fun j hj => ?_)⟩
    rw [stT_o (by omega)]
    exact pk_un (by omega)
set_option maxHeartbeats 1000000 in
theorem lw_truncate {g : GZ} {A : HA} {c t o : Nat} {x0 : Int32} (K : LwG g) (hP : LwP g c t o A) (hz : Zk A) (hzo : Zo A) (hold : fw_old g A) : Ct g wI yX0_truncate (.codeWith yX0_truncate cX0_truncate 4 (Option.some Jvm.ClassFile.FieldType.int) [(0, 9, 12, 19)]) 67 1 6 [.ref c, .int x0, .ref o] A (fun u B => LwQ g c t o Int32.toInt64 yX6_truncate (.code yX6_truncate cX6_truncate 2 (Option.some Jvm.ClassFile.FieldType.int)) 2 [.int x0] u B) fw_no := by
  obtain ⟨σ, m, P, kp, L, Bf, n0, fo, e5, e6, ⟨a, pq, pe, h, bf, ob, v, mo, d, f, w⟩, wt, h1, h2⟩ := hP
  have lo := hz.lt h1 rfl
  have h9 := w.txt.2.2.2.2.2
  have hF : ∀ D, D = A.sI c (upd (A.I c) 4 x0) → Gw A D (fun y => y = c) := fun D e => by rw [e]; exact gw_sI (fun _ => rfl)
  have hT : ∀ D, D = A.sI c (upd (A.I c) 4 x0) → FrT A D := fun D e => ⟨_, hF D e, fun y q => by rw [q, w.kc]; unfold TwW; omega⟩
  refine lg_one (ok := inZ x0 0 L) (ans := x0) (Wy := WCs g c σ m P kp (nt x0) Bf n0 fo e5 e6) (Wn := WCs g c σ m P kp L Bf n0 fo e5 e6) (Pm := (fun B u D9 => (inZ x0 0 L → u = x0 ∧ D9 = S5 B t σ (B.I (t + 6)) (B.I (t + 7)) (upd (upd (B.I t) 6 (nI 0)) 12 x0)) ∧ (¬ inZ x0 0 L → u = nI 0 ∧ D9 = S5 B t σ (B.I (t + 6)) (B.I (t + 7)) (upd (B.I t) 6 (nI 1))))) (w_truncate (c_truncate (x := x0) w.kc w.now w.lawn.1.1 w.lawn.1.2.1 w.row.1 w.txt.2.2.2.1 h9) w.kc (fun v D z => (hT D z.2.2).oo lo h1 h2) (fun q D z => z.2.1)) (fun v D z => ⟨z.1, z.2.1, ?_, hT D z.2.2⟩) (fun q D z => ⟨z.1, (w.gs hz (Gs.of z.2.2)).s, FrT.no z.2.2⟩) (fun D ff q hz h1 => q.sL hz h1) wt hz h1 h2 (fun B tB holdB eI => ?_) (fun hok B u D tB eI wB hzB d1 d2 hq => ?_) (fun hok B u D tB eI wB hzB d1 d2 hq => ?_)
  · have hG := hF D z.2.2
    have e : D.I c = upd (A.I c) 4 x0 := by rw [z.2.2, sI_s]
    obtain ⟨k, hk, rfl⟩ := inZ_of2 (n := L) rfl z.1 (by omega)
    rw [nt_n (by omega)]
    exact (w.own hz hG (by rw [z.2.2]; rfl) hk (by rw [e, pk_us]) (by rw [e, pk_un (by decide)]; exact w.errC) (by rw [e, pk_un (by decide)]; exact w.errP)).s
  · have H := m_truncate (g := g) (A := B) (t := t) (σ := σ) (κ := B.I (t + 6)) (π := B.I (t + 7)) (τ := B.I t) (x := x0) tB.tw tB.len h9
    rw [tB.sF5] at H
    exact H
  · obtain ⟨a, pq, pe, h, bf, ob, v, mo, d, f, wB⟩ := wB
    obtain ⟨hu, rfl⟩ := hq.1 hok
    refine ⟨hu, by rw [S5_0, pk_un (by decide), pk_us], tq_put wB hzB tB.tw d1 d2 Gw.rf rfl rfl rfl tB.tw ?_⟩
    have e : ∀ j, j ≠ 6 → j ≠ 12 → upd (upd (B.I t) 6 (nI 0)) 12 x0 j = B.I t j := fun j q1 q2 => by rw [pk_un q2, pk_un q1]
    obtain ⟨k, hk, rfl⟩ := inZ_of2 (n := L) rfl hok (by omega)
    refine ⟨(e 5 (by decide) (by decide)).trans tB.mn, tB.old, tB.kept.cg (e 7 (by decide) (by decide)), ⟨?_, fun j hj => ?_⟩, ?_, tB.out, (e 24 (by decide) (by decide)).trans tB.outL, (e 18 (by decide) (by decide)).trans tB.errC, (e 19 (by decide) (by decide)).trans tB.errP⟩
    · rw [nt_n (by omega)]; omega
    · rw [nt_n (by omega)] at hj
      exact tB.buf.2 j (by omega)
    · rw [pk_us, nt_n (by omega)]
  · obtain ⟨a, pq, pe, h, bf, ob, v, mo, d, f, wB⟩ := wB
    obtain ⟨hu, rfl⟩ := hq.2 hok
    exact tc_no wB tB hzB d1 d2
set_option maxHeartbeats 1000000 in
theorem lw_append {g : GZ} {A : HA} {c t o : Nat} {x0 x1 x2 x3 x4 : Int32} (K : LwG g) (hP : LwP g c t o A) (hz : Zk A) (hzo : Zo A) (hold : fw_old g A) : Ct g wI yX0_append (.codeWith yX0_append cX0_append 8 (Option.some Jvm.ClassFile.FieldType.int) [(0, 16, 19, 13)]) 67 1 6 [.ref c, .int x0, .int x1, .int x2, .int x3, .int x4, .ref o] A (fun u B => LwQ g c t o Int32.toInt64 yX6_append (.code yX6_append cX6_append 6 (Option.some Jvm.ClassFile.FieldType.int)) 2 [.int x0, .int x1, .int x2, .int x3, .int x4] u B) fw_no := by
  obtain ⟨σ, m, P, kp, L, Bf, n0, fo, e5, e6, ⟨a, pq, pe, h, bf, ob, v, mo, d, f, w⟩, wt, h1, h2⟩ := hP
  have lo := hz.lt h1 rfl
  have ht := w.txt
  have hT : ∀ D, Gw A D (fun y => y = c ∨ y = bf) → FrT A D := fun D hG => ⟨_, hG, fun y q => by
    have : (A.G y).1 = 1 ∨ (A.G y).1 = 201 := by
      rcases q with q | q <;> rw [q]
      · exact Or.inl w.kc
      · exact Or.inr ht.2.1
    unfold TwW
    omega⟩
  refine lg_one (ok := L + 20 ≤ 900) (ans := nI (L + 20)) (Wy := WCs g c σ m P kp (L + 20) (apB Bf L x0 x1 x2 x3 x4) n0 fo e5 e6) (Wn := WCs g c σ m P kp L Bf n0 fo e5 e6) (Pm := (fun B u D9 => (L + 20 ≤ 900 → u = nI (L + 20) ∧ D9 = S5 (B.sI (t + 8) (fivB (B.I (t + 8)) L x0 x1 x2 x3 x4)) t σ (B.I (t + 6)) (B.I (t + 7)) (upd (upd (B.I t) 6 (nI 0)) 12 (nI (L + 20)))) ∧ (¬ L + 20 ≤ 900 → u = nI 0 ∧ D9 = S5 B t σ (B.I (t + 6)) (B.I (t + 7)) (upd (B.I t) 6 (nI 1))))) (w_append (c_append (va := x0) (vb := x1) (vc := x2) (vd := x3) (ve := x4) w.kc w.now w.lawn.1.1 w.lawn.1.2.1 w.row.1 ht.1 ht.2.1 ht.2.2.1 ht.2.2.2.1 ht.2.2.2.2.2) w.kc (fun v D z => (hT D z.2.2.2.2.2.1).oo lo h1 h2) (fun q D z => z.2.1)) (fun v D z => ⟨z.1, z.2.1, (w.app hz z.2.2.2.2.2.1 z.1 z.2.2.1 z.2.2.2.1 z.2.2.2.2.1).s, hT D z.2.2.2.2.2.1⟩) (fun q D z => ⟨z.1, (w.gs hz (Gs.of z.2.2)).s, FrT.no z.2.2⟩) (fun D ff q hz h1 => q.sL hz h1) wt hz h1 h2 (fun B tB holdB eI => ?_) (fun hok B u D tB eI wB hzB d1 d2 hq => ?_) (fun hok B u D tB eI wB hzB d1 d2 hq => ?_)
  · have H := m_append (g := g) (A := B) (t := t) (σ := σ) (κ := B.I (t + 6)) (π := B.I (t + 7)) (τ := B.I t) (va := x0) (vb := x1) (vc := x2) (vd := x3) (ve := x4) tB.tw tB.len ht.2.2.2.2.2
    rw [tB.sF5] at H
    exact H
  · obtain ⟨a, pq, pe, h, bf, ob, v, mo, d, f, wB⟩ := wB
    obtain ⟨hu, rfl⟩ := hq.1 hok
    refine ⟨hu, by rw [S5_0, pk_un (by decide), pk_us], tq_put wB hzB tB.tw d1 d2 (gw_tI (i := 8) (by omega)) rfl rfl rfl (by exact tB.tw) ?_⟩
    have e : ∀ j, j ≠ 6 → j ≠ 12 → upd (upd (B.I t) 6 (nI 0)) 12 (nI (L + 20)) j = B.I t j := fun j q1 q2 => by rw [pk_un q2, pk_un q1]
    rw [sI_s, sI_o _ _ (show t + 2 ≠ t + 8 by omega), sI_o _ _ (show t + 5 ≠ t + 8 by omega), sI_o _ _ (show t + 10 ≠ t + 8 by omega)]
    exact ⟨(e 5 (by decide) (by decide)).trans tB.mn, tB.old, tB.kept.cg (e 7 (by decide) (by decide)), apB_buf tB.buf hok, pk_us, tB.out, (e 24 (by decide) (by decide)).trans tB.outL, (e 18 (by decide) (by decide)).trans tB.errC, (e 19 (by decide) (by decide)).trans tB.errP⟩
  · obtain ⟨a, pq, pe, h, bf, ob, v, mo, d, f, wB⟩ := wB
    obtain ⟨hu, rfl⟩ := hq.2 hok
    exact tc_no wB tB hzB d1 d2
set_option maxHeartbeats 1000000 in
theorem lw_undo {g : GZ} {A : HA} {c t o : Nat} (K : LwG g) (hP : LwP g c t o A) (hz : Zk A) (hzo : Zo A) (hold : fw_old g A) : Ct g wI yX1_undo (.code yX1_undo cX1_undo 1 (Option.some Jvm.ClassFile.FieldType.int)) 4 0 0 [.ref c] A (fun u B => ∃ ans : Int32, u = ans ∧ (B.G t).1 = 6 ∧ (Zk B → Zo B → fw_old g B → Ct g wI yX6_undo (.code yX6_undo cX6_undo 1 (Option.some Jvm.ClassFile.FieldType.int)) 2 0 0 [.ref t] B (fun u D => u = ans ∧ LwD g c t o B D) fw_no)) fw_no := by
  obtain ⟨σ, m, P, kp, L, Bf, n0, fo, e5, e6, ⟨a, pq, pe, h, bf, ob, v, mo, d, f, w⟩, wt, h1, h2⟩ := hP
  have lo := hz.lt h1 rfl
  have h8 := w.m8
  by_cases hm : m = 0
  · refine lg_no (ans := -1) (As := []) (Wy := WCs g c σ m P kp L Bf n0 fo e5 e6) (Pm := (fun B u D9 => (m = 0 → u = -1 ∧ D9 = S5 B t σ (B.I (t + 6)) (B.I (t + 7)) (upd (B.I t) 6 (nI 0))) ∧ (0 < m → u = nI (m - 1) ∧ D9 = S5 B t (va_cpy (B.I (t + 5)) σ (553 * (m - 1)) 0 553) (B.I (t + 6)) (B.I (t + 7)) (upd (upd (B.I t) 6 (nI 0)) 5 (nI (m - 1)))))) (c_undo w.kc w.now w.lawn.1.1 w.lawn.1.2.1 w.row.1 w.past w.deq w.fk) (fun v D z => ⟨(z.1 hm).1, by rw [(z.1 hm).2]; exact w.s, by rw [(z.1 hm).2]; exact FrT.no Gw.rf⟩) wt hz h1 h2 (fun B tB holdB eI => ?_) (fun B u D tB eI wB hzB d1 d2 hq => ?_)
    · have H := m_undo (g := g) (A := B) (t := t) (σ := σ) (κ := B.I (t + 6)) (π := B.I (t + 7)) (τ := B.I t) tB.tw tB.mn h8
      rw [tB.sF5] at H
      exact H
    · obtain ⟨a, pq, pe, h, bf, ob, v, mo, d, f, wB⟩ := wB
      obtain ⟨hu, rfl⟩ := hq.1 hm
      exact ⟨hu, (tc_no wB tB hzB d1 d2).2⟩
  · obtain ⟨hN9, di, hW9⟩ := w.old (m - 1) (by omega)
    refine lg_no (ans := nI (m - 1)) (As := []) (Wy := WCs g c (P (m - 1)) (m - 1) P kp L Bf n0 fo e5 e6) (Pm := (fun B u D9 => (m = 0 → u = -1 ∧ D9 = S5 B t σ (B.I (t + 6)) (B.I (t + 7)) (upd (B.I t) 6 (nI 0))) ∧ (0 < m → u = nI (m - 1) ∧ D9 = S5 B t (va_cpy (B.I (t + 5)) σ (553 * (m - 1)) 0 553) (B.I (t + 6)) (B.I (t + 7)) (upd (upd (B.I t) 6 (nI 0)) 5 (nI (m - 1)))))) (c_undo w.kc w.now w.lawn.1.1 w.lawn.1.2.1 w.row.1 w.past w.deq w.fk) (fun v D z => ?_) wt hz h1 h2 (fun B tB holdB eI => ?_) (fun B u D tB eI wB hzB d1 d2 hq => ?_)
    · obtain ⟨e1, e2, e3, e4, e5', -⟩ := z.2 (by omega)
      have hW : ∀ b db ρ, WLn A b db ρ → WLn D b db ρ := fun b db ρ q => q.nx hz e5' (fun y _ q => k3x (w.kX3 y q))
      exact ⟨e1, (w.up hz e5' e2 (hW _ _ _ hW9) hN9 e4 (by omega) (fun i hi => ⟨(w.old i (by omega)).1, (w.old i (by omega)).2.imp fun di q => hW _ _ _ q⟩) (Nat.le_refl _) (by rw [e3]; exact w.txt.2.2.2.1) (by rw [e3]; exact w.errC) (by rw [e3]; exact w.errP)).s, w.frT3 e5'⟩
    · have H := m_undo (g := g) (A := B) (t := t) (σ := σ) (κ := B.I (t + 6)) (π := B.I (t + 7)) (τ := B.I t) tB.tw tB.mn h8
      rw [tB.sF5] at H
      exact H
    · obtain ⟨a, pq, pe, h, bf, ob, v, mo, d, f, wB⟩ := wB
      obtain ⟨hu, rfl⟩ := hq.2 (by omega)
      have eE : EqE (P (m - 1)) (va_cpy (B.I (t + 5)) σ (553 * (m - 1)) 0 553) := fun j hj => by
        unfold va_cpy
        rw [if_pos (by omega), Nat.sub_zero]
        exact tB.old (m - 1) (by omega) j hj
      refine ⟨hu, tq_put (wB.cg eE) hzB tB.tw d1 d2 Gw.rf rfl rfl rfl tB.tw ?_⟩
      have e : ∀ j, j ≠ 6 → j ≠ 5 → upd (upd (B.I t) 6 (nI 0)) 5 (nI (m - 1)) j = B.I t j := fun j q1 q2 => by rw [pk_un q2, pk_un q1]
      exact ⟨pk_us, fun i hi => tB.old i (by omega), tB.kept.cg (e 7 (by decide) (by decide)), tB.buf, (e 12 (by decide) (by decide)).trans tB.len, tB.out, (e 24 (by decide) (by decide)).trans tB.outL, (e 18 (by decide) (by decide)).trans tB.errC, (e 19 (by decide) (by decide)).trans tB.errP⟩
set_option maxHeartbeats 1000000 in
theorem lw_save {g : GZ} {A : HA} {c t o : Nat} (K : LwG g) (hP : LwP g c t o A) (hz : Zk A) (hzo : Zo A) (hold : fw_old g A) : Ct g wI yX1_save (.code yX1_save cX1_save 1 (Option.some Jvm.ClassFile.FieldType.int)) 8 25 940 [.ref c] A (fun u B => ∃ ans : Int32, u = ans ∧ (B.G t).1 = 6 ∧ (Zk B → Zo B → fw_old g B → Ct g wI yX6_save (.code yX6_save cX6_save 1 (Option.some Jvm.ClassFile.FieldType.int)) 2 0 0 [.ref t] B (fun u D => u = ans ∧ LwD g c t o B D) fw_no)) fw_no := by
  obtain ⟨σ, m, P, kp, L, Bf, n0, fo, e5, e6, ⟨a, pq, pe, h, bf, ob, v, mo, d, f, w⟩, wt, h1, h2⟩ := hP
  have lo := hz.lt h1 rfl
  have hF : ∀ (q : Nat) (B : HA) (d2 : Nat → Nat), Cp A B q d d2 σ → Gw A (B.sR c (va_up (B.R c) 1 (some q))) (fun y => y = c) := fun q B d2 hCp => (hCp.2.2.2.1.mono (fun _ _ z => z.elim)).tr (gw_sR (fun _ => rfl))
  refine lg_no (ans := σ 3) (As := []) (Wy := fun D => Zk D → WCs g c σ m P (some σ) L Bf n0 fo e5 e6 D) (Pm := (fun B u D9 => u = σ 3 ∧ D9 = S5 (B.sI (t + 2) (va_cpy σ (B.I (t + 2)) 0 0 553)) t σ (B.I (t + 6)) (B.I (t + 7)) (upd (upd (B.I t) 6 (nI 0)) 7 (nI 1)))) (c_save w.kc w.now w.lawn.1.1 w.lawn.1.2.1 w.row.1 w.de w.nam) (fun v D z => ?_) wt hz h1 h2 (fun B tB holdB eI => ?_) (fun B u D tB eI wB hzB d1 d2 hq => ?_)
  · obtain ⟨e1, q, F, d2, hCp, rfl⟩ := z
    exact ⟨e1, fun hzD => (w.sv hz hzo (show Zk F from hzD) hCp).s, _, hF q F d2 hCp, fun y e => by rw [e, w.kc]; unfold TwW; omega⟩
  · have H := m_save (g := g) (A := B) (t := t) (σ := σ) (κ := B.I (t + 6)) (π := B.I (t + 7)) (τ := B.I t) tB.tw
    rw [tB.sF5] at H
    exact H
  · obtain ⟨a, pq, pe, h, bf, ob, v, mo, d, f, wB⟩ := wB hzB
    obtain ⟨hu, rfl⟩ := hq
    refine ⟨hu, tq_put wB hzB tB.tw d1 d2 (gw_tI (i := 2) (by omega)) rfl rfl rfl (by exact tB.tw) ?_⟩
    have e : ∀ j, j ≠ 6 → j ≠ 7 → upd (upd (B.I t) 6 (nI 0)) 7 (nI 1) j = B.I t j := fun j q1 q2 => by rw [pk_un q2, pk_un q1]
    rw [sI_s, sI_o _ _ (show t + 5 ≠ t + 2 by omega), sI_o _ _ (show t + 8 ≠ t + 2 by omega), sI_o _ _ (show t + 10 ≠ t + 2 by omega)]
    exact ⟨(e 5 (by decide) (by decide)).trans tB.mn, tB.old, ⟨fun z => (by cases z), fun ρ z => by cases z; exact ⟨pk_us, fun j hj => cpy_e hj⟩⟩, tB.buf, (e 12 (by decide) (by decide)).trans tB.len, tB.out, (e 24 (by decide) (by decide)).trans tB.outL, (e 18 (by decide) (by decide)).trans tB.errC, (e 19 (by decide) (by decide)).trans tB.errP⟩
set_option maxHeartbeats 1000000 in
theorem lw_writeLawn {g : GZ} {A : HA} {c t o : Nat} (K : LwG g) (hP : LwP g c t o A) (hz : Zk A) (hzo : Zo A) (hold : fw_old g A) : Ct g wI yX1_writeLawn (.code yX1_writeLawn cX1_writeLawn 2 (Option.some Jvm.ClassFile.FieldType.int)) 7 202 802 [.ref c] A (fun u B => ∃ ans : Int32, u = ans ∧ (B.G t).1 = 6 ∧ (Zk B → Zo B → fw_old g B → Ct g wI yX6_writeLawn (.code yX6_writeLawn cX6_writeLawn 2 (Option.some Jvm.ClassFile.FieldType.int)) 4 0 0 [.ref t] B (fun u D => u = ans ∧ LwD g c t o B D) fw_no)) fw_no := by
  obtain ⟨σ, m, P, kp, L, Bf, n0, fo, e5, e6, ⟨a, pq, pe, h, bf, ob, v, mo, d, f, w⟩, wt, h1, h2⟩ := hP
  have lo := hz.lt h1 rfl
  have hS := w.row.1.w.s
  have hc80 := hS.c80
  have hn := wlS_lt (o := A.I (t + 10)) hS (Nat.le_refl (rC σ))
  refine lg_no (ans := nI (wlS σ (A.I (t + 10)) (rC σ)).1) (As := []) (Wy := fun D => ∃ f1, (∀ i, i < (wlS σ (A.I (t + 10)) (rC σ)).1 → (wlS σ (A.I (t + 10)) (rC σ)).2 i = nI (f1 i)) ∧ WCs g c σ m P kp L Bf (wlS σ (A.I (t + 10)) (rC σ)).1 f1 e5 e6 D) (Pm := (fun B u D9 => u = nI (wlS σ (B.I (t + 10)) (rC σ)).1 ∧ D9 = S5 (B.sI (t + 10) (wlS σ (B.I (t + 10)) (rC σ)).2) t σ (B.I (t + 6)) (B.I (t + 7)) (upd (upd (B.I t) 6 (nI 0)) 24 (nI (wlS σ (B.I (t + 10)) (rC σ)).1)))) (c_writeLawn (o := A.I (t + 10)) w.kc w.now w.lawn.1.1 w.lawn.1.2.1 w.row.1 K.zs w.lawn.2 w.outR w.out w.outM.1) (fun v D z => ?_) wt hz h1 h2 (fun B tB holdB eI => ?_) (fun B u D tB eI wB hzB d1 d2 hq => ?_)
  · obtain ⟨e1, ⟨v1, m1, f1, hs, hm1, -, he⟩, hG⟩ := z
    exact ⟨e1, ⟨f1, he, (w.wr hz hG hs ⟨hm1, by omega⟩).s⟩, w.frTw hG⟩
  · have H := m_writeLawn (g := g) (A := B) (t := t) (σ := σ) (κ := B.I (t + 6)) (π := B.I (t + 7)) (τ := B.I t) tB.tw hS
    rw [tB.sF5] at H
    exact H
  · obtain ⟨f1, he, a, pq, pe, h, bf, ob, v, mo, d, f, wB⟩ := wB
    obtain ⟨hu, rfl⟩ := hq
    rw [eI 10 (by decide)] at hu ⊢
    refine ⟨hu, tq_put wB hzB tB.tw d1 d2 (gw_tI (i := 10) (by omega)) rfl rfl rfl (by exact tB.tw) ?_⟩
    have e : ∀ (x : Int32) j, j ≠ 6 → j ≠ 24 → upd (upd (B.I t) 6 (nI 0)) 24 x j = B.I t j := fun x j q1 q2 => by rw [pk_un q2, pk_un q1]
    rw [sI_s, sI_o _ _ (show t + 2 ≠ t + 10 by omega), sI_o _ _ (show t + 5 ≠ t + 10 by omega), sI_o _ _ (show t + 8 ≠ t + 10 by omega)]
    exact ⟨(e _ 5 (by decide) (by decide)).trans tB.mn, tB.old, tB.kept.cg (e _ 7 (by decide) (by decide)), tB.buf, (e _ 12 (by decide) (by decide)).trans tB.len, he, pk_us, (e _ 18 (by decide) (by decide)).trans tB.errC, (e _ 19 (by decide) (by decide)).trans tB.errP⟩
set_option maxHeartbeats 1000000 in
theorem lw_writeWay {g : GZ} {A : HA} {c t o : Nat} {x0 : Int32} (K : LwG g) (hP : LwP g c t o A) (hz : Zk A) (hzo : Zo A) (hold : fw_old g A) : Ct g wI yX0_writeWay (.codeWith yX0_writeWay cX0_writeWay 4 (Option.some Jvm.ClassFile.FieldType.int) [(0, 9, 12, 35)]) 67 213 830 [.ref c, .int x0, .ref o] A (fun u B => LwQ g c t o Int32.toInt64 yX6_writeWay (.code yX6_writeWay cX6_writeWay 5 (Option.some Jvm.ClassFile.FieldType.int)) 7 [.int x0] u B) fw_no := by
  obtain ⟨σ, m, P, kp, L, Bf, n0, fo, e5, e6, ⟨a, pq, pe, h, bf, ob, v, mo, d, f, w⟩, wt, h1, h2⟩ := hP
  have lo := hz.lt h1 rfl
  have hW := w.row.1.w
  have hS := hW.s
  have hc80 := hS.c80
  have hn : inW σ x0 → wl σ (nt x0) < 80 := fun q => by
    have := wy_facts hW (w_in hW.k6 q) (w.row.1.y _ (w_in hW.k6 q))
    omega
  have hL := w.lawn.1.1
  have hT : ∀ D, Gw A D (fun y => Sc d y ∨ y = ob ∨ y = v) → FrT A D := fun D hG => ⟨_, hG, fun y q => by
    have : (A.G y).1 = 126 ∨ (A.G y).1 = 127 ∨ (A.G y).1 = 322 ∨ (A.G y).1 = 323 ∨ (A.G y).1 = 15 ∨ (A.G y).1 = 230 := by
      rcases q with (q | q | q | q) | q | q <;> rw [q]
      · rw [ly_gf hL 15 (by decide)]; decide
      · rw [ly_gf hL 16 (by decide)]; decide
      · rw [ly_gf hL 17 (by decide)]; decide
      · rw [ly_gf hL 18 (by decide)]; decide
      · have := w.out.1.1; omega
      · have := w.out.1.2.2.1; omega
    unfold TwW
    omega⟩
  refine lg_one (ok := inW σ x0) (ans := nI (wl σ (nt x0))) (Wy := fun D => inW σ x0 ∧ ∃ f1, (∀ i, i < wl σ (nt x0) → wwS σ (nt x0) (A.I (t + 10)) (wl σ (nt x0)) i = nI (f1 i)) ∧ (Zk D → WCs g c σ m P kp L Bf (wl σ (nt x0)) f1 e5 e6 D)) (Wn := WCs g c σ m P kp L Bf n0 fo e5 e6) (Pm := (fun B u D9 => (inW σ x0 → u = nI (wl σ (nt x0)) ∧ ∃ κ' π', D9 = S5 (B.sI (t + 10) (wwS σ (nt x0) (B.I (t + 10)) (wl σ (nt x0)))) t σ κ' π' (upd (upd (upd (B.I t) 6 (nI 0)) 10 (nI (wl σ (nt x0) + 1))) 24 (nI (wl σ (nt x0))))) ∧ (¬ inW σ x0 → u = nI 0 ∧ D9 = S5 B t σ (B.I (t + 6)) (B.I (t + 7)) (upd (B.I t) 6 (nI 1))))) (w_writeWay (c_writeWay (x := x0) (o := A.I (t + 10)) w.kc w.now w.lawn.1.1 w.lawn.1.2.1 w.row.1 K.gd w.ic K.zs w.lawn.2 w.outR w.out w.outM.1) w.kc (fun v D z => (hT D z.2.2.2.1).oo lo h1 h2) (fun q D z => z.2.1)) (fun v D z => ?_) (fun q D z => ⟨z.1, (w.gs hz (Gs.of z.2.2)).s, FrT.no z.2.2⟩) (fun D ff q hz h1 => ⟨q.1, q.2.imp fun f1 z => ⟨z.1, fun hzL => (z.2 hz).sL hz h1⟩⟩) wt hz h1 h2 (fun B tB holdB eI => ?_) (fun hok B u D tB eI wB hzB d1 d2 hq => ?_) (fun hok B u D tB eI wB hzB d1 d2 hq => ?_)
  · obtain ⟨e0, e1, ⟨v1, m1, f1, hs, hm1, -, he⟩, hG, hRc, hIc, hR⟩ := z
    have h80 := hn e0
    exact ⟨e0, e1, ⟨e0, f1, he, fun hzD => ((w.gs hz (midW_gs hG hR)).wr (show Zk (midW A D ob _) from hzD) midW_gw hs ⟨hm1, by omega⟩).s⟩, hT D hG⟩
  · have H := m_writeWay (g := g) (A := B) (t := t) (σ := σ) (κ := B.I (t + 6)) (π := B.I (t + 7)) (τ := B.I t) (x := x0) tB.tw hW w.row.1.y
    rw [tB.sF5] at H
    exact H
  · obtain ⟨-, f1, he, wB⟩ := wB
    obtain ⟨a, pq, pe, h, bf, ob, v, mo, d, f, wB⟩ := wB hzB
    obtain ⟨hu, κ, π, rfl⟩ := hq.1 hok
    rw [eI 10 (by decide)]
    refine ⟨hu, by rw [S5_0, pk_un (by decide), pk_un (by decide), pk_us], tq_put wB hzB tB.tw d1 d2 (gw_tI (i := 10) (by omega)) rfl rfl rfl (by exact tB.tw) ?_⟩
    have e : ∀ (x y : Int32) j, j ≠ 6 → j ≠ 10 → j ≠ 24 → upd (upd (upd (B.I t) 6 (nI 0)) 10 y) 24 x j = B.I t j := fun x y j q1 q2 q3 => by rw [pk_un q3, pk_un q2, pk_un q1]
    rw [sI_s, sI_o _ _ (show t + 2 ≠ t + 10 by omega), sI_o _ _ (show t + 5 ≠ t + 10 by omega), sI_o _ _ (show t + 8 ≠ t + 10 by omega)]
    exact ⟨(e _ _ 5 (by decide) (by decide) (by decide)).trans tB.mn, tB.old, tB.kept.cg (e _ _ 7 (by decide) (by decide) (by decide)), tB.buf, (e _ _ 12 (by decide) (by decide) (by decide)).trans tB.len, he, pk_us, (e _ _ 18 (by decide) (by decide) (by decide)).trans tB.errC, (e _ _ 19 (by decide) (by decide) (by decide)).trans tB.errP⟩
  · obtain ⟨a, pq, pe, h, bf, ob, v, mo, d, f, wB⟩ := wB
    obtain ⟨hu, rfl⟩ := hq.2 hok
    exact tc_no wB tB hzB d1 d2
set_option maxHeartbeats 1000000 in
theorem lw_restore {g : GZ} {A : HA} {c t o : Nat} (K : LwG g) (hP : LwP g c t o A) (hz : Zk A) (hzo : Zo A) (hold : fw_old g A) : ∃ mc ms : Nat, mc ≤ 25 ∧ ms ≤ 940 ∧ Ct g wI yX0_restore (.codeWith yX0_restore cX0_restore 3 (Option.some Jvm.ClassFile.FieldType.int) [(0, 8, 11, 13)]) 67 mc ms [.ref c, .ref o] A (fun u B => LwQ g c t o Int32.toInt64 yX6_restore (.code yX6_restore cX6_restore 1 (Option.some Jvm.ClassFile.FieldType.int)) 2 [] u B) fw_no := by
  obtain ⟨σ, m, P, kp, L, Bf, n0, fo, e5, e6, ⟨a, pq, pe, h, bf, ob, v, mo, d, f, w⟩, wt, h1, h2⟩ := hP
  have lo := hz.lt h1 rfl
  cases ek : kp with
  | none =>
    subst ek
    refine ⟨1, 6, by decide, by decide, ?_⟩
    refine lg_one (ok := False) (ans := nI 0) (Wy := fun _ => False) (Wn := WCs g c σ m P none L Bf n0 fo e5 e6) (Pm := (fun B u D9 => (False → u = B.I (t + 2) 3 ∧ D9 = S5 B t (va_cpy (B.I (t + 2)) σ 0 0 553) (B.I (t + 6)) (B.I (t + 7)) (upd (upd (B.I t) 6 (nI 0)) 5 (nI 0))) ∧ (¬ False → u = nI 0 ∧ D9 = S5 B t σ (B.I (t + 6)) (B.I (t + 7)) (upd (B.I t) 6 (nI 1))))) (w_restore (c_restoreNo w.kc w.now w.lawn.1.1 w.lawn.1.2.1 w.row.1 (w.kept.1 rfl)) w.kc (fun v D z => z.elim) (fun q D z => z.1)) (fun v D z => z.elim) (fun q D z => ⟨id, (w.gs hz (Gs.of z.2)).s, FrT.no z.2⟩) (fun D ff q hz h1 => q.elim) wt hz h1 h2 (fun B tB holdB eI => ?_) (fun hok => hok.elim) (fun hok B u D tB eI wB hzB d1 d2 hq => ?_)
    · have H := m_restore (g := g) (A := B) (t := t) (σ := σ) (κ := B.I (t + 6)) (π := B.I (t + 7)) (τ := B.I t) (p := False) tB.tw ((tB.kept.1 rfl).trans (by rw [bI_f id]; exact nI0))
      rw [tB.sF5] at H
      exact H
    · obtain ⟨a, pq, pe, h, bf, ob, v, mo, d, f, wB⟩ := wB
      obtain ⟨hu, rfl⟩ := hq.2 id
      exact tc_no wB tB hzB d1 d2
  | some ρ =>
    subst ek
    obtain ⟨hN9, b, db, hb9, hW9⟩ := w.kept.2 ρ rfl
    have hnm : ∀ k, k < rK ρ → ∃ nm, A.R (db (30 + k)) 0 = some nm := fun k hk => (hW9.1.2.2.1 k hk).imp fun _ q => q.1
    refine ⟨25, 940, by decide, by decide, ?_⟩
    have hF : ∀ (l : Nat) (B D : HA) (d2 : Nat → Nat), Cp A B l db d2 ρ → Gw B D (fun y => y = c ∨ y = pq ∨ y = pe) → Gw A D (fun y => y = c ∨ y = pq ∨ y = pe) := fun l B D d2 hCp hG => (hCp.2.2.2.1.mono (fun _ _ z => z.elim)).tr hG
    refine lg_one (ok := True) (ans := ρ 3) (Wy := WCs g c ρ 0 P (some ρ) L Bf n0 fo e5 e6) (Wn := fun _ => False) (Pm := (fun B u D9 => (True → u = B.I (t + 2) 3 ∧ D9 = S5 B t (va_cpy (B.I (t + 2)) σ 0 0 553) (B.I (t + 6)) (B.I (t + 7)) (upd (upd (B.I t) 6 (nI 0)) 5 (nI 0))) ∧ (¬ True → u = nI 0 ∧ D9 = S5 B t σ (B.I (t + 6)) (B.I (t + 7)) (upd (B.I t) 6 (nI 1))))) (w_restore (c_restore w.kc w.now w.lawn.1.1 w.lawn.1.2.1 w.row.1 w.past w.deq hb9 hW9.1.1 hW9.1.2.1 hN9.1 w.de hnm) w.kc (fun v D z => ?_) (fun q D z => z.elim)) (fun v D z => ?_) (fun q D z => z.elim) (fun D ff q hz h1 => q.sL hz h1) wt hz h1 h2 (fun B tB holdB eI => ?_) (fun hok B u D tB eI wB hzB d1 d2 hq => ?_) (fun hok => absurd trivial hok)
    · obtain ⟨-, l, F, d2, ⟨hzF, hCp⟩, -, -, -, hG, -⟩ := z
      exact (w.frT3 (hF l F D d2 hCp hG)).oo lo h1 h2
    · obtain ⟨e1, l, F, d2, ⟨hzF, hCp⟩, hR, hI, hq, hG, -⟩ := z
      have hG2 := hF l F D d2 hCp hG
      have hWl : WLn F l d2 ρ := hW9.cp hz hzo hCp ⟨hCp.2.1, hCp.2.2.1, Sm.rf⟩ rfl rfl hN9.1.w.k6 hN9.1.w.g6 (fun _ _ => rfl)
      have kF : ∀ y, y < F.z → (y = c ∨ y = pq ∨ y = pe) → KX (F.G y).1 ∨ (F.G y).1 = 1 := fun y hy q => by
        have hyA : y < A.z := by
          rcases q with q | q | q <;> rw [q]
          · exact hz.lt w.kc rfl
          · exact hz.lt w.deq.g rfl
          · exact hz.lt w.deq.k rfl
        rw [(hCp.2.2.2.1.2 y hyA).1]
        exact k3x (w.kX3 y q)
      exact ⟨trivial, e1, (w.up hz hG2 hR (hWl.nx hzF hG kF) hN9 hq (by omega) (fun i hi => absurd hi (Nat.not_lt_zero _)) (Nat.le_refl _) (by rw [hI]; exact w.txt.2.2.2.1) (by rw [hI]; exact w.errC) (by rw [hI]; exact w.errP)).s, w.frT3 hG2⟩
    · have H := m_restore (g := g) (A := B) (t := t) (σ := σ) (κ := B.I (t + 6)) (π := B.I (t + 7)) (τ := B.I t) (p := True) tB.tw ((tB.kept.2 ρ rfl).1.trans (by rw [bI_t trivial]; exact nI1))
      rw [tB.sF5] at H
      exact H
    · obtain ⟨a, pq, pe, h, bf, ob, v, mo, d, f, wB⟩ := wB
      obtain ⟨hu, rfl⟩ := hq.1 trivial
      have hk := tB.kept.2 ρ rfl
      have eE : EqE ρ (va_cpy (B.I (t + 2)) σ 0 0 553) := fun j hj => (cpy_e hj).trans (hk.2 j hj)
      refine ⟨hu.trans (hk.2 3 (by decide)), by rw [S5_0, pk_un (by decide), pk_us], tq_put (wB.cg eE) hzB tB.tw d1 d2 Gw.rf rfl rfl rfl tB.tw ?_⟩
      have e : ∀ j, j ≠ 6 → j ≠ 5 → upd (upd (B.I t) 6 (nI 0)) 5 (nI 0) j = B.I t j := fun j q1 q2 => by rw [pk_un q2, pk_un q1]
      exact ⟨pk_us, fun i hi => absurd hi (Nat.not_lt_zero _), tB.kept.cg (e 7 (by decide) (by decide)), tB.buf, (e 12 (by decide) (by decide)).trans tB.len, tB.out, (e 24 (by decide) (by decide)).trans tB.outL, (e 18 (by decide) (by decide)).trans tB.errC, (e 19 (by decide) (by decide)).trans tB.errP⟩
set_option maxHeartbeats 1000000 in
theorem lw_readText {g : GZ} {A : HA} {c t o : Nat} (K : LwG g) (hP : LwP g c t o A) (hz : Zk A) (hzo : Zo A) (hold : fw_old g A) : ∃ mc ms : Nat, mc ≤ 34340 ∧ ms ≤ 154700 ∧ Ct g wI yX0_readText (.codeWith yX0_readText cX0_readText 3 (Option.some Jvm.ClassFile.FieldType.int) [(0, 8, 11, 19)]) 67 mc ms [.ref c, .ref o] A (fun u B => LwQ g c t o Int32.toInt64 yX6_readText (.code yX6_readText cX6_readText 2 (Option.some Jvm.ClassFile.FieldType.int)) 10 [] u B) fw_no := by
  obtain ⟨σ, m, P, kp, L, Bf, n0, fo, e5, e6, ⟨a, pq, pe, h, bf, ob, v, mo, d, f, w⟩, wt, h1, h2⟩ := hP
  have lo := hz.lt h1 rfl
  have ht := w.txt
  have h9 := ht.2.2.2.2.2
  refine ⟨38 * L + 140, 170 * L + 1700, by omega, by omega, ?_⟩
  have hC := c_readText (σt := σ) (w := (A.I t 15).toBitVec.toNat) w.kc ht K.zs K.tk K.ds w.de w.past w.deq
  have hp := @rdT_p σ Bf L (A.I t 15).toBitVec.toNat
  generalize hR : rdT σ Bf L (A.I t 15).toBitVec.toNat = R at hp hC
  refine lg_one (ok := R.2.e = 0) (ans := R.1 1) (Wy := WCs g c (bs R.1) 0 P kp 0 Bf n0 fo (nI 0) (-1)) (Wn := WCs g c σ m P kp 0 Bf n0 fo (nI R.2.e) R.2.p) (Pm := (fun B u D9 => ∃ κ' m, (R.2.e = 0 → RowW R.1 ∧ u = R.1 1 ∧ D9 = S5 (B.sI (t + 3) (va_cpy σ (B.I (t + 3)) 0 0 553)) t (upd R.1 8 (nI (allG R.1))) κ' (B.I (t + 7)) (stS (upd (tolT (upd (B.I t) 20 m) R.2) 5 (nI 0)) R.2)) ∧ (¬ R.2.e = 0 → u = nI 0 ∧ D9 = S5 (B.sI (t + 3) (va_cpy σ (B.I (t + 3)) 0 0 553)) t (va_cpy (va_cpy σ (B.I (t + 3)) 0 0 553) R.1 0 0 553) κ' (B.I (t + 7)) (stS (tolT (upd (B.I t) 20 m) R.2) R.2)))) (w_readText hC w.kc (fun v D z => (w.frT3 z.2.2.2.2.2.2).oo lo h1 h2) (fun q D z => z.2.1)) (fun v D z => ?_) (fun q D z => ?_) (fun D ff q hz h1 => q.sL hz h1) wt hz h1 h2 (fun B tB holdB eI => ?_) (fun hok B u D tB eI wB hzB d1 d2 hq => ?_) (fun hok B u D tB eI wB hzB d1 d2 hq => ?_)
  · obtain ⟨e0, ⟨l, d', hR9, hLw, -⟩, hDj, hu, hI, hq, hG⟩ := z
    have eD : rD (bs R.1) = rD R.1 := by unfold rD; rw [bs_x (by decide)]
    exact ⟨e0, hu, (w.up hz hG hR9 hLw.wl ⟨bs_J hDj.1, by rw [eD, hDj.2.1]; decide⟩ hq (by omega) (fun i hi => absurd hi (Nat.not_lt_zero _)) (Nat.zero_le _) (by rw [hI, pk_un (by decide), pk_un (by decide), pk_us]) (by rw [hI, pk_un (by decide), pk_us]) (by rw [hI, pk_us])).s, w.frT3 hG⟩
  · obtain ⟨e0, hk, hI, hR9, hG⟩ := z
    exact ⟨e0, (w.own hz hG hR9 (Nat.zero_le _) (by rw [hI, pk_us]) (by rw [hI, pk_un (by decide), pk_un (by decide), pk_us]) (by rw [hI, pk_un (by decide), pk_us])).s, w.frT3 (hG.mono (fun _ _ z => Or.inl z))⟩
  · have e0 : B.I t = A.I t := eI 0 (by decide)
    have H := m_readText (g := g) (A := B) (t := t) (σ := σ) (κ := B.I (t + 6)) (π := B.I (t + 7)) (τ := A.I t) (a := (A.I t 13).toBitVec.toNat) (gb := (A.I t 14).toBitVec.toNat) (w := (A.I t 15).toBitVec.toNat) (e := (A.I t 16).toBitVec.toNat) (ep := A.I t 17) (B := Bf) (L := L) tB.tw tB.buf wt.len (K.tw B holdB)
    rw [hR, stT_self, ← e0, tB.sF5] at H
    exact H
  · obtain ⟨a, pq, pe, h, bf, ob, v, mo, d, f, wB⟩ := wB
    obtain ⟨κ', m', hy, -⟩ := hq
    obtain ⟨-, hu, rfl⟩ := hy hok
    have e : ∀ j, j ≠ 5 → (j < 13 ∨ 17 < j) → stS (upd (tolT (upd (B.I t) 20 m') R.2) 5 (nI 0)) R.2 j = tolT (upd (B.I t) 20 m') R.2 j := fun j q1 q2 => by
      show stT _ _ _ _ _ _ j = _
      rw [stT_o q2, pk_un q1]
    refine ⟨hu, by rw [S5_0, e 6 (by decide) (by decide), tol_6 hok], tq_put wB hzB tB.tw d1 d2 (gw_tI (i := 3) (by omega)) rfl rfl rfl (by exact tB.tw) ?_⟩
    rw [sI_o _ _ (show t + 2 ≠ t + 3 by omega), sI_o _ _ (show t + 5 ≠ t + 3 by omega), sI_o _ _ (show t + 8 ≠ t + 3 by omega), sI_o _ _ (show t + 10 ≠ t + 3 by omega)]
    refine ⟨?_, fun i hi => absurd hi (Nat.not_lt_zero _), tB.kept.cg ?_, ⟨by omega, fun k hk => absurd hk (Nat.not_lt_zero _)⟩, ?_, tB.out, ?_, ?_, ?_⟩
    · show stT _ _ _ _ _ _ 5 = _
      rw [stT_o (by decide), pk_us]
    · rw [e 7 (by decide) (by decide), tol_x (by decide) (by decide) (by decide) (by decide), pk_un (by decide)]
    · rw [e 12 (by decide) (by decide), tol_12]
    · rw [e 24 (by decide) (by decide), tol_x (by decide) (by decide) (by decide) (by decide), pk_un (by decide)]
      exact tB.outL
    · rw [e 18 (by decide) (by decide), tol_18, hok]
    · rw [e 19 (by decide) (by decide), tol_19, hp hok]
  · obtain ⟨a, pq, pe, h, bf, ob, v, mo, d, f, wB⟩ := wB
    obtain ⟨κ', m', -, hy⟩ := hq
    obtain ⟨hu, rfl⟩ := hy hok
    have e : ∀ j, (j < 13 ∨ 17 < j) → stS (tolT (upd (B.I t) 20 m') R.2) R.2 j = tolT (upd (B.I t) 20 m') R.2 j := fun j q2 => by
      show stT _ _ _ _ _ _ j = _
      rw [stT_o q2]
    have eE : EqE σ (va_cpy (va_cpy σ (B.I (t + 3)) 0 0 553) R.1 0 0 553) := fun j hj => (cpy_e hj).trans (cpy_e hj)
    refine ⟨by rw [S5_0, e 6 (by decide), tol_6n hok], tq_put (wB.cg eE) hzB tB.tw d1 d2 (gw_tI (i := 3) (by omega)) rfl rfl rfl (by exact tB.tw) ?_⟩
    rw [sI_o _ _ (show t + 2 ≠ t + 3 by omega), sI_o _ _ (show t + 5 ≠ t + 3 by omega), sI_o _ _ (show t + 8 ≠ t + 3 by omega), sI_o _ _ (show t + 10 ≠ t + 3 by omega)]
    refine ⟨?_, tB.old, tB.kept.cg ?_, ⟨by omega, fun k hk => absurd hk (Nat.not_lt_zero _)⟩, ?_, tB.out, ?_, ?_, ?_⟩
    · rw [e 5 (by decide), tol_x (by decide) (by decide) (by decide) (by decide), pk_un (by decide)]
      exact tB.mn
    · rw [e 7 (by decide), tol_x (by decide) (by decide) (by decide) (by decide), pk_un (by decide)]
    · rw [e 12 (by decide), tol_12]
    · rw [e 24 (by decide), tol_x (by decide) (by decide) (by decide) (by decide), pk_un (by decide)]
      exact tB.outL
    · rw [e 18 (by decide), tol_18]
    · rw [e 19 (by decide), tol_19]
set_option maxHeartbeats 1000000 in
theorem lw_runOrders {g : GZ} {A : HA} {c t o : Nat} (K : LwG g) (hP : LwP g c t o A) (hz : Zk A) (hzo : Zo A) (hold : fw_old g A) : ∃ mc ms : Nat, mc ≤ 34340 ∧ ms ≤ 154700 ∧ Ct g wI yX0_runOrders (.codeWith yX0_runOrders cX0_runOrders 3 (Option.some Jvm.ClassFile.FieldType.int) [(0, 8, 11, 19)]) 67 mc ms [.ref c, .ref o] A (fun u B => LwQ g c t o Int32.toInt64 yX6_runOrders (.code yX6_runOrders cX6_runOrders 2 (Option.some Jvm.ClassFile.FieldType.int)) 12 [] u B) fw_no := by
  obtain ⟨σ, m, P, kp, L, Bf, n0, fo, e5, e6, ⟨a, pq, pe, h, bf, ob, v, mo, d, f, w⟩, wt, h1, h2⟩ := hP
  have lo := hz.lt h1 rfl
  have ht := w.txt
  have h9 := ht.2.2.2.2.2
  have h8 := w.m8
  refine ⟨30 * L + 1300, 120 * L + 33500, by omega, by omega, ?_⟩
  have hC := c_runOrders (f0 := A.I (t + 9)) (w := (A.I t 15).toBitVec.toNat) w.kc ht K.zs K.tk K.rd K.lam K.c83 K.gd w.de w.now w.lawn w.row w.past w.deq h8 w.fk
  have hp := rdO_p (σ := σ) (B := Bf) (L := L) (L + 2) (A.I (t + 9)) 0 (0, 0, (A.I t 15).toBitVec.toNat, 0, -1) (fun _ => rfl)
  generalize hO : rdO σ Bf L (L + 2) (A.I (t + 9)) 0 (0, 0, (A.I t 15).toBitVec.toNat, 0, -1) = O9 at hp hC
  refine lg_one (ok := O9.2.2.e = 0) (ans := nI (doO O9.1 O9.2.1 0 σ).1) (Wy := fun D => RowN (doO O9.1 O9.2.1 0 σ).2 → WCs g c (doO O9.1 O9.2.1 0 σ).2 (pastM m) (pastP P m σ) kp 0 Bf n0 fo (nI 0) (-1) D) (Wn := WCs g c σ m P kp 0 Bf n0 fo (nI O9.2.2.e) O9.2.2.p) (Pm := (fun B u D9 => (O9.2.2.e = 0 → ∃ κ' π' τ', u = nI (doO O9.1 O9.2.1 0 σ).1 ∧ D9 = S5 ((B.sI (t + 9) O9.1).sI (t + 5) (pastR (B.I (t + 5)) m σ)) t (doO O9.1 O9.2.1 0 σ).2 κ' π' τ' ∧ no10 (stS (upd (tolT (upd (B.I t) 22 (nI O9.2.1)) O9.2.2) 5 (nI (pastM m))) O9.2.2) τ' ∧ RowN (doO O9.1 O9.2.1 0 σ).2 ∧ TOKS O9.1 O9.2.1 ∧ O9.2.1 ≤ 30) ∧ (¬ O9.2.2.e = 0 → u = nI 0 ∧ D9 = S5 (B.sI (t + 9) O9.1) t σ (B.I (t + 6)) (B.I (t + 7)) (stS (tolT (upd (B.I t) 22 (nI O9.2.1)) O9.2.2) O9.2.2)))) (w_runOrders hC w.kc (fun v D z => (w.frT3 z.2.2.2.2.2).oo lo h1 h2) (fun q D z => z.2.1)) (fun v D z => ?_) (fun q D z => ?_) (fun D ff q hz h1 hN => (q hN).sL hz h1) wt hz h1 h2 (fun B tB holdB eI => ?_) (fun hok B u D tB eI wB hzB d1 d2 hq => ?_) (fun hok B u D tB eI wB hzB d1 d2 hq => ?_)
  · obtain ⟨e0, hu, ⟨l, d', hR9, hLw⟩, hI, ⟨h', hq⟩, hG⟩ := z
    have hW : ∀ b db ρ, WLn A b db ρ → WLn D b db ρ := fun b db ρ q => q.nx hz hG (fun y _ q => k3x (w.kX3 y q))
    exact ⟨e0, hu, fun hN => (w.up hz hG hR9 hLw hN hq (past_le h8) (past_all (Q := fun ρ y => RowN ρ ∧ ∃ di, WLn D y di ρ) h8 (fun i hi => ⟨(w.old i hi).1, (w.old i hi).2.imp fun di q => hW _ _ _ q⟩) ⟨w.row, d, hW _ _ _ w.lawn⟩) (Nat.zero_le _) (by rw [hI, pk_un (by decide), pk_un (by decide), pk_us]) (by rw [hI, pk_un (by decide), pk_us]) (by rw [hI, pk_us])).s, w.frT3 hG⟩
  · obtain ⟨e0, hk, hI, hR9, hG⟩ := z
    exact ⟨e0, (w.own hz hG hR9 (Nat.zero_le _) (by rw [hI, pk_us]) (by rw [hI, pk_un (by decide), pk_un (by decide), pk_us]) (by rw [hI, pk_un (by decide), pk_us])).s, w.frT3 (hG.mono (fun _ _ z => Or.inl z))⟩
  · have e0 : B.I t = A.I t := eI 0 (by decide)
    have H := m_runOrders (g := g) (A := B) (t := t) (σ := σ) (κ := B.I (t + 6)) (π := B.I (t + 7)) (τ := A.I t) (a := (A.I t 13).toBitVec.toNat) (gb := (A.I t 14).toBitVec.toNat) (w := (A.I t 15).toBitVec.toNat) (e := (A.I t 16).toBitVec.toNat) (ep := A.I t 17) (B := Bf) (L := L) tB.tw tB.buf wt.len wt.mn h8 w.row (K.tw B holdB)
    rw [eI 9 (by decide), hO, stT_self, ← e0, tB.sF5] at H
    exact H
  · obtain ⟨κ', π', τ', hu, rfl, hτ, hN, -, -⟩ := hq.1 hok
    obtain ⟨a, pq, pe, h, bf, ob, v, mo, d, f, wB⟩ := wB hN
    have e : ∀ j, j ≠ 5 → j ≠ 10 → (j < 13 ∨ 17 < j) → τ' j = tolT (upd (B.I t) 22 (nI O9.2.1)) O9.2.2 j := fun j q1 q0 q2 => by
      rw [hτ j q0]
      show stT _ _ _ _ _ _ j = _
      rw [stT_o q2, pk_un q1]
    refine ⟨hu, by rw [S5_0, e 6 (by decide) (by decide) (by decide), tol_6 hok], tq_put wB hzB tB.tw d1 d2 ((gw_tI (i := 9) (by omega)).tr (gw_tI (i := 5) (by omega))) rfl rfl rfl (by exact tB.tw) ?_⟩
    rw [sI_s, sI_o _ _ (show t + 2 ≠ t + 5 by omega), sI_o _ _ (show t + 2 ≠ t + 9 by omega), sI_o _ _ (show t + 8 ≠ t + 5 by omega), sI_o _ _ (show t + 8 ≠ t + 9 by omega), sI_o _ _ (show t + 10 ≠ t + 5 by omega), sI_o _ _ (show t + 10 ≠ t + 9 by omega)]
    refine ⟨?_, pastR_at h8 tB.old (fun j hj => rfl), tB.kept.cg ?_, ⟨by omega, fun k hk => absurd hk (Nat.not_lt_zero _)⟩, ?_, tB.out, ?_, ?_, ?_⟩
    · rw [hτ 5 (by decide)]
      show stT _ _ _ _ _ _ 5 = _
      rw [stT_o (by decide), pk_us]
    · rw [e 7 (by decide) (by decide) (by decide), tol_x (by decide) (by decide) (by decide) (by decide), pk_un (by decide)]
    · rw [e 12 (by decide) (by decide) (by decide), tol_12]
    · rw [e 24 (by decide) (by decide) (by decide), tol_x (by decide) (by decide) (by decide) (by decide), pk_un (by decide)]
      exact tB.outL
    · rw [e 18 (by decide) (by decide) (by decide), tol_18, hok]
    · rw [e 19 (by decide) (by decide) (by decide), tol_19, hp hok]
  · obtain ⟨a, pq, pe, h, bf, ob, v, mo, d, f, wB⟩ := wB
    obtain ⟨hu, rfl⟩ := hq.2 hok
    have e : ∀ j, (j < 13 ∨ 17 < j) → stS (tolT (upd (B.I t) 22 (nI O9.2.1)) O9.2.2) O9.2.2 j = tolT (upd (B.I t) 22 (nI O9.2.1)) O9.2.2 j := fun j q2 => by
      show stT _ _ _ _ _ _ j = _
      rw [stT_o q2]
    refine ⟨by rw [S5_0, e 6 (by decide), tol_6n hok], tq_put wB hzB tB.tw d1 d2 (gw_tI (i := 9) (by omega)) rfl rfl rfl (by exact tB.tw) ?_⟩
    rw [sI_o _ _ (show t + 2 ≠ t + 9 by omega), sI_o _ _ (show t + 5 ≠ t + 9 by omega), sI_o _ _ (show t + 8 ≠ t + 9 by omega), sI_o _ _ (show t + 10 ≠ t + 9 by omega)]
    refine ⟨?_, tB.old, tB.kept.cg ?_, ⟨by omega, fun k hk => absurd hk (Nat.not_lt_zero _)⟩, ?_, tB.out, ?_, ?_, ?_⟩
    · rw [e 5 (by decide), tol_x (by decide) (by decide) (by decide) (by decide), pk_un (by decide)]
      exact tB.mn
    · rw [e 7 (by decide), tol_x (by decide) (by decide) (by decide) (by decide), pk_un (by decide)]
    · rw [e 12 (by decide), tol_12]
    · rw [e 24 (by decide), tol_x (by decide) (by decide) (by decide) (by decide), pk_un (by decide)]
      exact tB.outL
    · rw [e 18 (by decide), tol_18]
    · rw [e 19 (by decide), tol_19]
