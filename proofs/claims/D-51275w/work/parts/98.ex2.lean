/-! EXCEPTIONS OF THE JDK: new ones; casts of arrays -/
set_option maxRecDepth 100000
section
variable {g : GZ} {z : ZX} {cc : ByteArray} {own : String} {nL d mc ms k n : Nat} {A : HA} {pc : Nat} {lv : List (Option Value)} {st : List Value}
theorem r_castAr (C : CX g z cc own nL d mc ms) {a ki t ix : Nat} {ty : FieldType} {ad : String} (h1 : (A.G a).1 = ki) (hki : (decide (100 ≤ ki) && decide (ki / 100 = t)) = true) (ht : (fw_tys g)[t]? = some (g.dA t, ty)) (had : va_RA z.s (g.dA t) ty → z.s.vm.findClass ad = some (g.dA t))
    (hw : Cond.classLink own ix ad ∈ lw_all) (hd : decode cc pc = .ok (.checkcast ix, 3)) (kk : wa g z k n A (pc + 3) lv (.ref a :: st)) : wa g z k n A pc lv (.ref a :: st) := by
  intro H locs ls hR hL hl
  simp only [Bool.and_eq_true, decide_eq_true_eq] at hki
  obtain ⟨c, q1, q2, q3, q4, q5⟩ := (hR.cell a).2.2 (by rw [h1]; exact hki.1)
  rw [h1, hki.2] at q2
  have hnm : z.s.vm.findClass ad = some (g.dA t) := had (C.K.2 t _ ht).2
  intro T hT X
  obtain ⟨vm', X', stp⟩ := X.checkcastYes C.x C.o (C.w _ hw) (by rw [hT]; exact q1) q3.1.1 hnm (by rw [q2]; exact va_asg _ _) (g := F0 z.m pc ls (.ref a :: st)) rfl rfl (by rw [C.b]; exact hd)
  obtain ⟨t2, a1, b1⟩ := kk H locs ls hR hL hl (T.setVm vm') hT X'
  exact ⟨t2, stp t2 a1, b1⟩
/-- a new object without fields of ours; the heap's end is somewhere behind it -/
def HA.mz (A : HA) (k m : Nat) : HA := (fun x => if x = A.z then (k, 0) else A.G x, A.I, A.R, A.L, A.n, m)
theorem mz_G (A : HA) (k m x : Nat) : (A.mz k m).G x = if x = A.z then (k, 0) else A.G x := rfl
theorem gw_mz {k m : Nat} {X : Nat → Prop} (h : A.z < m) : Gw A (A.mz k m) X := ⟨Nat.le_of_lt h, fun x hx => ⟨(mz_G A k m x).trans (if_neg (by omega)), rfl, fun _ => ⟨rfl, rfl, rfl⟩⟩⟩
theorem r_make0 (C : CX g z cc own nL d mc ms) {ik ic ki : Nat} {cls : String} {names : List String} {T0 : u_T} (hcl : fw_cl[ki]? = some (cls, T0, 0)) (hki : (decide (1 ≤ ki) && decide (ki < 40)) = true) (hcls : Bundle.fit cls = true) (hnames : ∀ n ∈ names, Bundle.fit n = true) (hk : Cond.classLink own ik cls ∈ lw_all) (hini : Cond.initialized cls ∈ lw_all)
    (hat : ∀ w ∈ vx_at0 own ic cls names, w ∈ lw_all ∨ w ∈ lw_tbl ∧ ((∃ a b, w = .castable a b) ∨ ∃ x, w = .declares x)) (hgood : ∀ w ∈ Cond.classLink own ik cls :: Cond.initialized cls :: vx_at0 own ic cls names, vx_ot w = true)
    (d0 : decode cc pc = .ok (.new ik, 3)) (d3 : decode cc (pc + 3) = .ok (.dup, 1)) (d4 : decode cc (pc + 4) = .ok (.invokespecial ic, 3)) (hf : names.length + 3 < d) (hsum : (st.map fun v => v.category).sum ≤ 8) (hlen : lv.length = nL) (h1 : k + 1 ≤ mc) (h2 : n + 6 ≤ ms)
    (kk : ∀ m, A.z < m → wa g z (k + 1) (n + 6) (A.mz ki m) (pc + 7) lv (.ref A.z :: st)) : wa g z k n A pc lv st := by
  intro H locs ls hR hL hl T hT X
  simp only [Bool.and_eq_true, decide_eq_true_eq] at hki
  have hz : A.z = H.size := hR.1
  have hsz : z.s.heap.size ≤ H.size := by
    rw [← hT]
    exact (vx_frame X.same).1
  have hB : ∀ q : Nat, q < g.b → z.s.heap[q]? = g.s.heap[q]? := C.2.2.2.2.2.2.2.2.2.2
  have hbs : g.b ≤ z.s.heap.size := C.2.2.2.2.2.2.2.2.2.1
  have mv : ∀ {n d}, vx_Zq Bundle.tN n d (fun q => g.b ≤ q) g.s g.s.heap → vx_Zq Bundle.tN n d (fun q => g.b ≤ q) z.s z.s.heap := fun h => vx_Zq.moved C.wm.alike (h.kept (fun a ha _ => hB a ha))
  refine vx_make0 (T0 := T0) (ci := ki) (D := g.D) (cl := fw_cl) (tys := _) (ws := []) (A := fun q => g.b ≤ q) C.x C.b C.nt C.o hcls hnames (C.w _ hk) (C.w _ hini) (fun w hw => ?_) hgood (mv C.1.2.2.1) (mv C.1.2.2.2) ⟨hsz, fun q h3 h4 => ?_, hL⟩ ((hl.1.trans hlen).trans C.ml.symm) d0 d3 d4 C.K (fun k x hx => (by cases hx)) ⟨fun i j p q hp => (by cases hp), fun k q hq => (by cases hq)⟩ (fun q hq => Nat.le_trans hbs hq) hcl (by rw [C.r]; exact hf) ?_ (by rw [C.r]; exact h1) (by rw [C.r]; exact h2) (fun q H1 hP1 _ hS1 hq hge hold => ?_) T hT X
  · rcases hat w hw with h | ⟨h, ⟨a, b, rfl⟩ | ⟨x, rfl⟩⟩
    · exact C.w _ h
    · exact va_Nw.use (A := z.a) rfl (C.nw h)
    · exact va_Nw.use (A := z.a) rfl (va_Nw.warmD C.wm (va_Nw.of (A := g.ar) rfl (C.1.1 _ h)))
  · have h4 : q < g.b := Nat.lt_of_not_le h4
    rw [hB q h4]; exact hR.2.2.1 q h4
  · rw [C.r]
    show _ ≤ 60 * d
    omega
  · subst hq
    have hR' : Rp g (A.mz ki H1.size) H1 := by
      obtain ⟨p1, p2, p3, p4, p5, p6, p7⟩ := hR
      have hlt : H.size < H1.size := (hP1 0 _ rfl).lt
      refine ⟨rfl, by omega, fun q hq => ?_, fun x hx => ?_, fun x hx => ?_, fun x => ⟨fun hx => ?_, fun hx => ?_⟩, fun x => ?_⟩
      · rw [hold q (by omega)]; exact p3 q hq
      · rw [mz_G, if_neg (by omega)]; exact p4 x hx
      · by_cases q : x = A.z
        · omega
        · rw [mz_G, if_neg q] at hx; exact p5 x hx
      · have hx : H1.size ≤ x := hx
        rw [mz_G, if_neg (by omega)]; exact (p6 x).1 (by omega)
      · have hx : x < H1.size := hx
        show ((((A.mz ki H1.size).G x).1 = 0 ∨ 40 ≤ ((A.mz ki H1.size).G x).1 ∧ ((A.mz ki H1.size).G x).1 < 80) ∨ ((A.mz ki H1.size).G x).2 < H1.size ∨ ((A.mz ki H1.size).G x).2 = 0)
        rw [mz_G]
        by_cases q : x = A.z
        · rw [if_pos q]; exact Or.inr (Or.inr rfl)
        · rw [if_neg q]
          by_cases q2 : x < A.z
          · have := (p6 x).2 q2
            rcases this with h | h | h
            · exact Or.inl h
            · exact Or.inr (Or.inl (by omega))
            · exact Or.inr (Or.inr h)
          · exact Or.inl ((p6 x).1 (by omega))
      · by_cases q : x = A.z
        · unfold fw_cell
          rw [mz_G, if_pos q]
          refine ⟨fun _ _ => ?_, fun a b => absurd a (by omega), fun a => absurd a (by omega)⟩
          obtain ⟨r0, r1, r2⟩ := hP1 0 _ rfl
          obtain ⟨ce, s1, s2, s3, s4⟩ := r2
          cases hcl.symm.trans r1
          refine ⟨_, hcl, ⟨ce, ?_, s2, by rw [s3]; exact fw_vm.nn, fun f hf => absurd hf (Nat.not_lt_zero _)⟩⟩
          rw [q, hz]; exact s1
        · by_cases q2 : x < H.size
          · exact (p7 x).kept (by rw [mz_G, if_neg q]) rfl rfl rfl rfl (hold x q2)
          · have h9 := (p6 x).1 (by omega)
            unfold fw_cell
            rw [mz_G, if_neg q]
            exact ⟨fun a b => absurd a (by omega), fun a b => absurd b (by omega), fun a => absurd a (by omega)⟩
    have kk' := kk H1.size (by rw [hz]; exact (hP1 0 _ rfl).lt) H1 locs ls hR' hL hl
    rw [hz] at kk'
    exact kk'
end
set_option maxHeartbeats 4000000 in
theorem at_20 : ∀ w ∈ vx_at0 "LawnPaths" 3 "java/lang/IndexOutOfBoundsException" ["java/lang/RuntimeException", "java/lang/Exception"], w ∈ lw_all ∨ w ∈ lw_tbl ∧ ((∃ a b, w = .castable a b) ∨ ∃ x, w = .declares x) := by
  intro w hw
  obtain ⟨hw, hn⟩ := List.mem_filter.mp hw
  simp only [Bundle.ownAtoms0, Bundle.throwableAtoms, Bundle.chain0Atoms, Bundle.passAtoms, List.cons_append, List.nil_append, List.append_assoc, List.mem_cons, List.not_mem_nil] at hw
  repeat
    rcases hw with e | hw
    · subst e
      first | exact absurd hn (by decide +kernel) | exact Or.inl q169 | exact Or.inl q170 | exact Or.inl q171 | exact Or.inl q184 | exact Or.inl q2966 | exact Or.inl q736 | exact Or.inl q1951 | exact Or.inl q737 | exact Or.inl q745 | exact Or.inl q757 | exact Or.inl q846 | exact Or.inl q1545 | exact Or.inl q843 | exact Or.inl q1186 | exact Or.inl q1542 | exact Or.inl q840 | exact Or.inl q1183 | exact Or.inl q1292 | exact Or.inl q1947 | exact Or.inl q199 | exact Or.inl q754 | exact Or.inl q759 | exact Or.inl q738 | exact Or.inl q847 | exact Or.inl q1546 | exact Or.inl q844 | exact Or.inl q1187 | exact Or.inl q1543 | exact Or.inl q841 | exact Or.inl q1184 | exact Or.inl q1293 | exact Or.inl q1948 | exact Or.inl q200 | exact Or.inl q1946 | exact Or.inl q739 | exact Or.inl q744 | exact Or.inl q755 | exact Or.inl q845 | exact Or.inl q1188 | exact Or.inl q1544 | exact Or.inl q842 | exact Or.inl q1185 | exact Or.inl q1294 | exact Or.inl q1949 | exact Or.inl q735 | exact Or.inl q740 | exact Or.inl q742 | exact Or.inl q848 | exact Or.inl q849 | exact Or.inl q850 | exact Or.inl q851 | exact Or.inl q852 | exact Or.inl q726 | exact Or.inl q728 | exact Or.inl q730 | exact Or.inl q732 | exact Or.inl q734 | exact Or.inl q1941 | exact Or.inl q1942 | exact Or.inl q1943 | exact Or.inl q1944 | exact Or.inl q1945 | exact Or.inl q1950 | exact Or.inl q758 | exact Or.inl q1938 | exact Or.inl q3013 | exact Or.inr ⟨q1939, Or.inl ⟨_, _, rfl⟩⟩ | exact Or.inl q423 | exact Or.inl q751 | exact Or.inl q1940 | exact Or.inr ⟨q721, Or.inr ⟨_, rfl⟩⟩ | exact Or.inr ⟨q722, Or.inr ⟨_, rfl⟩⟩ | exact Or.inr ⟨q719, Or.inr ⟨_, rfl⟩⟩ | exact Or.inr ⟨q720, Or.inr ⟨_, rfl⟩⟩ | exact Or.inr ⟨q717, Or.inr ⟨_, rfl⟩⟩ | exact Or.inr ⟨q718, Or.inr ⟨_, rfl⟩⟩ | exact Or.inr ⟨q1317, Or.inr ⟨_, rfl⟩⟩ | exact Or.inr ⟨q1318, Or.inr ⟨_, rfl⟩⟩
  exact hw.elim
theorem go_20 : ∀ w ∈ Cond.classLink "LawnPaths" 1 "java/lang/IndexOutOfBoundsException" :: Cond.initialized "java/lang/IndexOutOfBoundsException" :: vx_at0 "LawnPaths" 3 "java/lang/IndexOutOfBoundsException" ["java/lang/RuntimeException", "java/lang/Exception"], vx_ot w = true := by decide +kernel
section
variable {g : GZ} {z : ZX} {cc : ByteArray} {nL d mc ms k n : Nat} {A : HA} {pc : Nat} {lv : List (Option Value)} {st : List Value}
theorem r_make20 (C : CX g z cc RX1 nL d mc ms) (d0 : decode cc pc = .ok (.new 1, 3)) (d3 : decode cc (pc + 3) = .ok (.dup, 1)) (d4 : decode cc (pc + 4) = .ok (.invokespecial 3, 3)) (hf : 5 < d) (hsum : (st.map fun v => v.category).sum ≤ 8) (hlen : lv.length = nL) (h1 : k + 1 ≤ mc) (h2 : n + 6 ≤ ms)
    (kk : ∀ m, A.z < m → wa g z (k + 1) (n + 6) (A.mz 20 m) (pc + 7) lv (.ref A.z :: st)) : wa g z k n A pc lv st :=
  r_make0 C (cls := RJ22) (names := ["java/lang/RuntimeException", "java/lang/Exception"]) (ki := 20) rfl rfl (by decide +kernel) (by decide +kernel) q1937 q184 at_20 go_20 d0 d3 d4 hf hsum hlen h1 h2 kk
end
set_option maxHeartbeats 4000000 in
theorem at_19 : ∀ w ∈ vx_at0 "LawnPaths" 9 "java/lang/IllegalArgumentException" ["java/lang/RuntimeException", "java/lang/Exception"], w ∈ lw_all ∨ w ∈ lw_tbl ∧ ((∃ a b, w = .castable a b) ∨ ∃ x, w = .declares x) := by
  intro w hw
  obtain ⟨hw, hn⟩ := List.mem_filter.mp hw
  simp only [Bundle.ownAtoms0, Bundle.throwableAtoms, Bundle.chain0Atoms, Bundle.passAtoms, List.cons_append, List.nil_append, List.append_assoc, List.mem_cons, List.not_mem_nil] at hw
  repeat
    rcases hw with e | hw
    · subst e
      first | exact absurd hn (by decide +kernel) | exact Or.inl q169 | exact Or.inl q170 | exact Or.inl q171 | exact Or.inl q173 | exact Or.inl q2966 | exact Or.inl q736 | exact Or.inl q860 | exact Or.inl q737 | exact Or.inl q745 | exact Or.inl q757 | exact Or.inl q846 | exact Or.inl q1545 | exact Or.inl q843 | exact Or.inl q1186 | exact Or.inl q1542 | exact Or.inl q840 | exact Or.inl q1183 | exact Or.inl q837 | exact Or.inl q1450 | exact Or.inl q199 | exact Or.inl q754 | exact Or.inl q759 | exact Or.inl q738 | exact Or.inl q847 | exact Or.inl q1546 | exact Or.inl q844 | exact Or.inl q1187 | exact Or.inl q1543 | exact Or.inl q841 | exact Or.inl q1184 | exact Or.inl q838 | exact Or.inl q1451 | exact Or.inl q200 | exact Or.inl q1449 | exact Or.inl q739 | exact Or.inl q744 | exact Or.inl q755 | exact Or.inl q845 | exact Or.inl q1188 | exact Or.inl q1544 | exact Or.inl q842 | exact Or.inl q1185 | exact Or.inl q839 | exact Or.inl q1452 | exact Or.inl q735 | exact Or.inl q740 | exact Or.inl q742 | exact Or.inl q848 | exact Or.inl q849 | exact Or.inl q850 | exact Or.inl q851 | exact Or.inl q852 | exact Or.inl q726 | exact Or.inl q728 | exact Or.inl q730 | exact Or.inl q732 | exact Or.inl q734 | exact Or.inl q725 | exact Or.inl q727 | exact Or.inl q729 | exact Or.inl q731 | exact Or.inl q733 | exact Or.inl q857 | exact Or.inl q758 | exact Or.inl q715 | exact Or.inl q3013 | exact Or.inr ⟨q716, Or.inl ⟨_, _, rfl⟩⟩ | exact Or.inl q421 | exact Or.inl q723 | exact Or.inl q724 | exact Or.inr ⟨q721, Or.inr ⟨_, rfl⟩⟩ | exact Or.inr ⟨q722, Or.inr ⟨_, rfl⟩⟩ | exact Or.inr ⟨q719, Or.inr ⟨_, rfl⟩⟩ | exact Or.inr ⟨q720, Or.inr ⟨_, rfl⟩⟩ | exact Or.inr ⟨q717, Or.inr ⟨_, rfl⟩⟩ | exact Or.inr ⟨q718, Or.inr ⟨_, rfl⟩⟩
  exact hw.elim
theorem go_19 : ∀ w ∈ Cond.classLink "LawnPaths" 7 "java/lang/IllegalArgumentException" :: Cond.initialized "java/lang/IllegalArgumentException" :: vx_at0 "LawnPaths" 9 "java/lang/IllegalArgumentException" ["java/lang/RuntimeException", "java/lang/Exception"], vx_ot w = true := by decide +kernel
section
variable {g : GZ} {z : ZX} {cc : ByteArray} {nL d mc ms k n : Nat} {A : HA} {pc : Nat} {lv : List (Option Value)} {st : List Value}
theorem r_make19 (C : CX g z cc RX1 nL d mc ms) (d0 : decode cc pc = .ok (.new 7, 3)) (d3 : decode cc (pc + 3) = .ok (.dup, 1)) (d4 : decode cc (pc + 4) = .ok (.invokespecial 9, 3)) (hf : 5 < d) (hsum : (st.map fun v => v.category).sum ≤ 8) (hlen : lv.length = nL) (h1 : k + 1 ≤ mc) (h2 : n + 6 ≤ ms)
    (kk : ∀ m, A.z < m → wa g z (k + 1) (n + 6) (A.mz 19 m) (pc + 7) lv (.ref A.z :: st)) : wa g z k n A pc lv st :=
  r_make0 C (cls := RJ18) (names := ["java/lang/RuntimeException", "java/lang/Exception"]) (ki := 19) rfl rfl (by decide +kernel) (by decide +kernel) q1448 q173 at_19 go_19 d0 d3 d4 hf hsum hlen h1 h2 kk
end
set_option maxHeartbeats 4000000 in
theorem at_18 : ∀ w ∈ vx_at0 "LawnPaths" 109 "java/lang/IllegalStateException" ["java/lang/RuntimeException", "java/lang/Exception"], w ∈ lw_all ∨ w ∈ lw_tbl ∧ ((∃ a b, w = .castable a b) ∨ ∃ x, w = .declares x) := by
  intro w hw
  obtain ⟨hw, hn⟩ := List.mem_filter.mp hw
  simp only [Bundle.ownAtoms0, Bundle.throwableAtoms, Bundle.chain0Atoms, Bundle.passAtoms, List.cons_append, List.nil_append, List.append_assoc, List.mem_cons, List.not_mem_nil] at hw
  repeat
    rcases hw with e | hw
    · subst e
      first | exact absurd hn (by decide +kernel) | exact Or.inl q169 | exact Or.inl q170 | exact Or.inl q171 | exact Or.inl q172 | exact Or.inl q2966 | exact Or.inl q736 | exact Or.inl q1432 | exact Or.inl q737 | exact Or.inl q745 | exact Or.inl q757 | exact Or.inl q846 | exact Or.inl q1545 | exact Or.inl q843 | exact Or.inl q1186 | exact Or.inl q1542 | exact Or.inl q840 | exact Or.inl q1183 | exact Or.inl q1428 | exact Or.inl q1906 | exact Or.inl q199 | exact Or.inl q754 | exact Or.inl q759 | exact Or.inl q738 | exact Or.inl q847 | exact Or.inl q1546 | exact Or.inl q844 | exact Or.inl q1187 | exact Or.inl q1543 | exact Or.inl q841 | exact Or.inl q1184 | exact Or.inl q1429 | exact Or.inl q1907 | exact Or.inl q200 | exact Or.inl q1427 | exact Or.inl q739 | exact Or.inl q744 | exact Or.inl q755 | exact Or.inl q845 | exact Or.inl q1188 | exact Or.inl q1544 | exact Or.inl q842 | exact Or.inl q1185 | exact Or.inl q1430 | exact Or.inl q1908 | exact Or.inl q735 | exact Or.inl q740 | exact Or.inl q742 | exact Or.inl q848 | exact Or.inl q849 | exact Or.inl q850 | exact Or.inl q851 | exact Or.inl q852 | exact Or.inl q726 | exact Or.inl q728 | exact Or.inl q730 | exact Or.inl q732 | exact Or.inl q734 | exact Or.inl q1422 | exact Or.inl q1423 | exact Or.inl q1424 | exact Or.inl q1425 | exact Or.inl q1426 | exact Or.inl q1431 | exact Or.inl q758 | exact Or.inl q1419 | exact Or.inl q3013 | exact Or.inr ⟨q1420, Or.inl ⟨_, _, rfl⟩⟩ | exact Or.inl q422 | exact Or.inl q750 | exact Or.inl q1421 | exact Or.inr ⟨q721, Or.inr ⟨_, rfl⟩⟩ | exact Or.inr ⟨q722, Or.inr ⟨_, rfl⟩⟩ | exact Or.inr ⟨q719, Or.inr ⟨_, rfl⟩⟩ | exact Or.inr ⟨q720, Or.inr ⟨_, rfl⟩⟩ | exact Or.inr ⟨q717, Or.inr ⟨_, rfl⟩⟩ | exact Or.inr ⟨q718, Or.inr ⟨_, rfl⟩⟩
  exact hw.elim
theorem go_18 : ∀ w ∈ Cond.classLink "LawnPaths" 107 "java/lang/IllegalStateException" :: Cond.initialized "java/lang/IllegalStateException" :: vx_at0 "LawnPaths" 109 "java/lang/IllegalStateException" ["java/lang/RuntimeException", "java/lang/Exception"], vx_ot w = true := by decide +kernel
section
variable {g : GZ} {z : ZX} {cc : ByteArray} {nL d mc ms k n : Nat} {A : HA} {pc : Nat} {lv : List (Option Value)} {st : List Value}
theorem r_make18 (C : CX g z cc RX1 nL d mc ms) (d0 : decode cc pc = .ok (.new 107, 3)) (d3 : decode cc (pc + 3) = .ok (.dup, 1)) (d4 : decode cc (pc + 4) = .ok (.invokespecial 109, 3)) (hf : 5 < d) (hsum : (st.map fun v => v.category).sum ≤ 8) (hlen : lv.length = nL) (h1 : k + 1 ≤ mc) (h2 : n + 6 ≤ ms)
    (kk : ∀ m, A.z < m → wa g z (k + 1) (n + 6) (A.mz 18 m) (pc + 7) lv (.ref A.z :: st)) : wa g z k n A pc lv st :=
  r_make0 C (cls := RJ17) (names := ["java/lang/RuntimeException", "java/lang/Exception"]) (ki := 18) rfl rfl (by decide +kernel) (by decide +kernel) q1418 q172 at_18 go_18 d0 d3 d4 hf hsum hlen h1 h2 kk
end
