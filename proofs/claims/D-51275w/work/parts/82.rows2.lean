/-! ROWS, MORE: arrays of references, casts, interfaces, nest-mates, copies of arrays -/
set_option maxRecDepth 100000
/-- behind the heap there is nothing -/
def Kz (A : HA) : Prop := ∀ x, A.z ≤ x → (A.G x).1 = 0 ∨ 40 ≤ (A.G x).1 ∧ (A.G x).1 < 80
abbrev fw_tys (g : GZ) : List (ClassId × FieldType) := [(g.dA 0, FieldType.int), (g.dA 1, .int), (g.dA 2, .byte), (g.dA 3, .boolean), (g.dA 4, .long), (g.dA 5, .object "java/lang/Object"), (g.dA 6, .object "LawnPaths$Change")]
section
variable {g : GZ} {z : ZX} {cc : ByteArray} {own : String} {nL d mc ms k n : Nat} {A : HA} {pc : Nat} {lv : List (Option Value)} {st st0 : List Value}
theorem r_kz (kk : Kz A → g.b ≤ A.z → (∀ a, fw_mut (A.G a).1 = true → g.b ≤ a) → wa g z k n A pc lv st) : wa g z k n A pc lv st := fun H locs ls hR hL hl => kk (fun x => (hR.2.2.2.2.2.1 x).1) (by rw [hR.1]; exact hR.2.1) hR.2.2.2.2.1 H locs ls hR hL hl
theorem r_aald (C : CX g z cc own nL d mc ms) {ki a j t : Nat} {i : Int32} {E : String} (h1 : (A.G a).1 = ki) (hki : (decide (100 ≤ ki) && decide (ki / 100 = t) && fw_isR (fw_at t)) = true) (ht : (fw_tys g)[t]? = some (g.dA t, .object E)) (hi : i = nI j) (hj : j < A.n a) (hj2 : j < 2147483648) (hd : decode cc pc = .ok (.aaload, 1)) (kk : wa g z k n A (pc + 1) lv (va_rf (A.R a j) :: st)) : wa g z k n A pc lv (.int i :: .ref a :: st) := by
  intro H locs ls hR hL hl
  subst hi
  simp only [Bool.and_eq_true, decide_eq_true_eq] at hki
  obtain ⟨c, q1, q2, q3, q4, q5⟩ := (hR.cell a).2.2 (by rw [h1]; exact hki.1.1)
  rw [h1, hki.1.2] at q2 q5
  have h5 := q5 j hj
  rw [fw_vR hki.2] at h5
  refine W.aald (v := va_rf (A.R a j)) (ty := .object E) C.x C.b q1 (fw_isArr C.K ht q2 q3.st) rfl q3.1.2 (by rw [q4]; exact vp_in_of2 hj hj2) ?_ rfl rfl hd (kk H locs ls hR hL hl)
  rw [nI_nat hj2]
  exact h5
theorem r_aaldR (C : CX g z cc own nL d mc ms) {ki a j t x : Nat} {i : Int32} {E : String} (h1 : (A.G a).1 = ki) (hki : (decide (100 ≤ ki) && decide (ki / 100 = t) && fw_isR (fw_at t)) = true) (ht : (fw_tys g)[t]? = some (g.dA t, .object E)) (hi : i = nI j) (hj : j < A.n a) (hj2 : j < 2147483648) (hx : A.R a j = some x) (hd : decode cc pc = .ok (.aaload, 1)) (kk : wa g z k n A (pc + 1) lv (.ref x :: st)) : wa g z k n A pc lv (.int i :: .ref a :: st) :=
  r_aald C h1 hki ht hi hj hj2 hd (by rw [hx]; exact kk)
theorem r_aaldN (C : CX g z cc own nL d mc ms) {ki a j t : Nat} {i : Int32} {E : String} (h1 : (A.G a).1 = ki) (hki : (decide (100 ≤ ki) && decide (ki / 100 = t) && fw_isR (fw_at t)) = true) (ht : (fw_tys g)[t]? = some (g.dA t, .object E)) (hi : i = nI j) (hj : j < A.n a) (hj2 : j < 2147483648) (hx : A.R a j = none) (hd : decode cc pc = .ok (.aaload, 1)) (kk : wa g z k n A (pc + 1) lv (.null :: st)) : wa g z k n A pc lv (.int i :: .ref a :: st) :=
  r_aald C h1 hki ht hi hj hj2 hd (by rw [hx]; exact kk)
theorem r_aast (C : CX g z cc own nL d mc ms) {ki a j t v kv N : Nat} {i : Int32} {E Cn : String} {T : u_T} (h1 : (A.G a).1 = ki) (hki : (decide (100 ≤ ki) && decide (ki / 100 = t) && fw_isR (fw_at t) && fw_mut ki) = true) (ht : (fw_tys g)[t]? = some (g.dA t, .object E)) (hv : (A.G v).1 = kv) (hkv : (decide (1 ≤ kv) && decide (kv < 40)) = true) (hcl : fw_cl[kv]? = some (Cn, T, N)) (hca : Cond.castable Cn E ∈ lw_tbl) (hi : i = nI j) (hj : j < A.n a) (hj2 : j < 2147483648) (hd : decode cc pc = .ok (.aastore, 1))
    (kk : wa g z k n (A.sR a (va_up (A.R a) j (some v))) (pc + 1) lv st) : wa g z k n A pc lv (.ref v :: .int i :: .ref a :: st) := by
  intro H locs ls hR hL hl
  subst hi
  simp only [Bool.and_eq_true, decide_eq_true_eq] at hki hkv
  obtain ⟨c, q1, q2, q3, q4, q5⟩ := (hR.cell a).2.2 (by rw [h1]; exact hki.1.1.1)
  rw [h1, hki.1.1.2] at q2 q5
  have hb : g.b ≤ a := hR.mut (by rw [h1]; exact hki.2)
  obtain ⟨cv, g1, g2, g3⟩ := fw_recv C hR hv hkv hcl
  have hcls := (C.K.1 _ _ hcl).2
  obtain ⟨kA, comp, k1, k2, k3, -⟩ := (C.K.2 t _ ht).2
  obtain ⟨kE, hkE, -⟩ := Vm.findClass_spec k3
  obtain ⟨c0, t1, f1, f2, f3⟩ := Cond.castable_spec (C.nc hca)
  have e0 : c0 = cv.cls := Option.some.inj (f1.symm.trans g3)
  have e1' : t1 = comp := Option.some.inj (f2.symm.trans k3)
  subst e0; subst e1'
  obtain ⟨kC, hkC, -⟩ := hcls.2
  have hcc : cv.cls = g.D.1 kv := Option.some.inj (g3.symm.trans hcls.1)
  refine W.aast C.x C.b q1 q3.st q3.1.2 (by rw [q2]; exact k1) k2 rfl hkE ⟨nI_pos (by omega), by rw [q4, nI_nat hj2]; exact hj⟩ g1 (fun q h => by rw [h] at g2; cases g2) (by rw [hcc]; exact hkC) f3 rfl rfl hd fun H' e1 e2 e3 => ?_
  rw [nI_nat hj2] at e1 ⊢
  refine kk H' _ ls (fw_ast (A' := A.sR a (va_up (A.R a) j (some v))) hR h1 hki.1.1.1 hki.1.1.2 hb q2 q3 q4 q5 hj rfl rfl rfl (fun _ _ => rfl) (fun y hy => sR_o A _ hy) (fun _ _ => rfl) (v := .ref v) ?_ ?_ e1 e2 e3) (fun q hq => ?_) hl
  · rw [fw_vR hki.1.2, sR_s]
    simp [va_up, va_rf]
  · intro i hi
    rw [fw_vR hki.1.2, fw_vR hki.1.2, sR_s]
    simp [va_up, hi]
  · rcases List.mem_append.mp hq with hq | hq
    · exact hL q hq
    · rw [List.mem_singleton.mp hq]; exact hb
theorem r_aastN (C : CX g z cc own nL d mc ms) {ki a j t : Nat} {i : Int32} {E : String} (h1 : (A.G a).1 = ki) (hki : (decide (100 ≤ ki) && decide (ki / 100 = t) && fw_isR (fw_at t) && fw_mut ki) = true) (ht : (fw_tys g)[t]? = some (g.dA t, .object E)) (hi : i = nI j) (hj : j < A.n a) (hj2 : j < 2147483648) (hd : decode cc pc = .ok (.aastore, 1))
    (kk : wa g z k n (A.sR a (va_up (A.R a) j none)) (pc + 1) lv st) : wa g z k n A pc lv (.null :: .int i :: .ref a :: st) := by
  intro H locs ls hR hL hl
  subst hi
  simp only [Bool.and_eq_true, decide_eq_true_eq] at hki
  obtain ⟨c, q1, q2, q3, q4, q5⟩ := (hR.cell a).2.2 (by rw [h1]; exact hki.1.1.1)
  rw [h1, hki.1.1.2] at q2 q5
  have hb : g.b ≤ a := hR.mut (by rw [h1]; exact hki.2)
  refine va_WaastN (C := E) C.x C.b q1 (fw_isArr C.K ht q2 q3.st) q3.1.2 (by rw [q4]; exact vp_in_of2 hj hj2) rfl rfl hd fun H' e1 e2 e3 => ?_
  rw [nI_nat hj2] at e1 ⊢
  refine kk H' _ ls (fw_ast (A' := A.sR a (va_up (A.R a) j none)) hR h1 hki.1.1.1 hki.1.1.2 hb q2 q3 q4 q5 hj rfl rfl rfl (fun _ _ => rfl) (fun y hy => sR_o A _ hy) (fun _ _ => rfl) (v := .null) ?_ ?_ e1 e2 e3) (fun q hq => ?_) hl
  · rw [fw_vR hki.1.2, sR_s]
    simp [va_up, va_rf]
  · intro i hi
    rw [fw_vR hki.1.2, fw_vR hki.1.2, sR_s]
    simp [va_up, hi]
  · rcases List.mem_append.mp hq with hq | hq
    · exact hL q hq
    · rw [List.mem_singleton.mp hq]; exact hb
/-- a cast to the object's own class; to a class above -/
theorem r_castS (C : CX g z cc own nL d mc ms) {ix a ki N : Nat} {Cn : String} {T : u_T} (hw : Cond.classLink own ix Cn ∈ lw_all) (h1 : (A.G a).1 = ki) (hki : (decide (1 ≤ ki) && decide (ki < 40)) = true) (hcl : fw_cl[ki]? = some (Cn, T, N)) (hd : decode cc pc = .ok (.checkcast ix, 3)) (kk : wa g z k n A (pc + 3) lv (.ref a :: st)) : wa g z k n A pc lv (.ref a :: st) := by
  intro H locs ls hR hL hl
  simp only [Bool.and_eq_true, decide_eq_true_eq] at hki
  exact va_castS C.x C.b C.o (C.w _ hw) (C.K.1 _ _ hcl).2 (fw_recv C hR h1 hki hcl) hd (kk H locs ls hR hL hl)
theorem CX.nw {a b : String} (C : CX g z cc own nL d mc ms) (hw : Cond.castable a b ∈ lw_tbl) : va_Nw (.castable a b) z.s := va_Nw.warmC C.wm (va_Nw.of (A := g.ar) rfl (C.1.1 _ hw))
theorem r_castY (C : CX g z cc own nL d mc ms) {ix a ki N : Nat} {Cn E : String} {T : u_T} (hw : Cond.classLink own ix E ∈ lw_all) (hca : Cond.castable Cn E ∈ lw_tbl) (h1 : (A.G a).1 = ki) (hki : (decide (1 ≤ ki) && decide (ki < 40)) = true) (hcl : fw_cl[ki]? = some (Cn, T, N)) (hd : decode cc pc = .ok (.checkcast ix, 3)) (kk : wa g z k n A (pc + 3) lv (.ref a :: st)) : wa g z k n A pc lv (.ref a :: st) := by
  intro H locs ls hR hL hl
  simp only [Bool.and_eq_true, decide_eq_true_eq] at hki
  exact va_castY C.x C.b C.o (C.w _ hw) (C.nw hca) (fw_recv C hR h1 hki hcl) hd (kk H locs ls hR hL hl)
theorem r_castN (C : CX g z cc own nL d mc ms) {ix : Nat} (hd : decode cc pc = .ok (.checkcast ix, 3)) (kk : wa g z k n A (pc + 3) lv (.null :: st)) : wa g z k n A pc lv (.null :: st) := fun H locs ls hR hL hl => lv_castN C.x C.b hd (kk H locs ls hR hL hl)
/-- a new array of references -/
theorem r_newA (C : CX g z cc own nL d mc ms) {len t ix : Nat} {i : Int32} {E : String} (kd o : Nat) (ho : o ≤ A.z) (hkd : (decide (100 ≤ kd) && decide (kd / 100 = t) && fw_isR (fw_at t)) = true) (ht : (fw_tys g)[t]? = some (g.dA t, .object E)) (hw : Cond.classLink own ix E ∈ lw_all) (hao : Cond.arrayOver (.object E) ∈ lw_tbl) (hi : i = nI len) (hlen : len < 60000000) (h1 : k + 1 ≤ mc) (h2 : n + len ≤ ms) (hd : decode cc pc = .ok (.anewarray ix, 3))
    (kk : wa g z (k + 1) (n + len) (A.mk kd o len) (pc + 3) lv (.ref A.z :: st)) : wa g z k n A pc lv (.int i :: st) := by
  intro H locs ls hR hL hl
  subst hi
  simp only [Bool.and_eq_true, decide_eq_true_eq] at hkd
  have hcl : (nI len).toNatClampNeg = len := nI_nat (by omega)
  have hover : va_AO E z.s := va_AO.moved C.wm.alike (va_AO.of (A := g.ar) (C.1.1 _ hao))
  refine W.anew C.x C.b C.o (C.w _ hw) (va_AO.use hover) (g := F0 z.m pc ls (.int (nI len) :: st)) rfl hd rfl (nI_pos (by omega)) (by rw [hcl]; omega) (by rw [C.r]; exact h1) (by rw [hcl, C.r]; exact h2) fun cA kA comp f1 f2 f3 f4 => ?_
  have hz : A.z = H.size := hR.1
  have hcA : cA = g.dA t := by
    obtain ⟨-, -, -, -, -, h9⟩ := (C.K.2 t _ ht).2
    exact Option.some.inj (f1.symm.trans h9)
  subst hcA
  rw [hcl]
  have hR' : Rp g (A.mk kd o len) (H.push { cls := g.dA t, slots := Array.replicate len .null, vm := .none }) := by
    refine hR.new (by simp) (fun q hq => by rw [Array.getElem?_push, if_neg (by omega)]) ?_ (Or.inr (by omega)) ho
    unfold fw_cell
    rw [mk_G, if_pos rfl]
    refine ⟨fun b1 b2 => absurd b2 (by omega), fun b1 b2 => absurd b2 (by omega), fun _ => ⟨{ cls := g.dA t, slots := Array.replicate len .null, vm := .none }, by rw [hz]; simp, by rw [hkd.1.2], fw_vm.nn, by simp [mk_n], fun j hj => ?_⟩⟩
    rw [mk_n, if_pos rfl] at hj
    rw [hkd.1.2, fw_vR hkd.2]
    exact fw_rep hj (by rw [mk_R, if_pos rfl]; rfl)
  have kk' := kk _ locs ls hR' hL hl
  rw [hz] at kk'
  exact kk'
/-- a call by an interface -/
theorem fw_go5 {mc' ms' : Nat} {ρ : Type} {w : ρ → Option Value} {Po : ρ → HA → Prop} {Px : Nat → HA → Prop} {ar : Array Value}
    (hr : ∀ (H : Heap) (locs : List Loc) (ls : Array Slot), Rp g A H → fw_L ls lv → vx_Run5 z.p z.l z.e z.R z.s z.m z.a z.b z.M z.c H locs k n mc' ms' (F0 z.m pc ls st0) st (fw_Qc g w Po ar) (fw_Xc g Px) (fun q => g.b ≤ q))
    (kk : ∀ u A', Po u A' → wa g z (k + mc') (n + ms') A' (pc + 5) lv ((w u).toList ++ st)) (kx : ∀ q A', Px q A' → (∃ E, fw_ex (A'.G q).1 = some E) → wx g z (k + mc') (n + ms') A' pc lv q) : wa g z k n A pc lv st0 := by
  intro H locs ls hR hL hl T hT X
  rcases hr H locs ls hR hl T hT X with ⟨v, st₀, t, T', L, h0, X', hLL, e1, e2, ⟨u, A', hv, hp, hR'⟩, stp⟩ | ⟨q, st₀, t, T', L, E, ce, h0, X', hLL, e1, e2, ⟨A', hp, hE, hR'⟩, hce, hcv, hcl, stp⟩
  · cases Outcome.returned.inj hv
    obtain ⟨t2, a1, b1⟩ := kk u A' hp T'.heap (locs ++ L) ls (by rw [e1]; exact hR') (fun q hq => (List.mem_append.mp hq).elim (hL q) (hLL q)) hl T' rfl X'
    exact ⟨t2, stp t2 a1, b1⟩
  · obtain ⟨t2, a1, b1⟩ := kx q A' hp ⟨E, hE⟩ T'.heap (locs ++ L) ls st (by rw [e1]; exact hR') (fun q hq => (List.mem_append.mp hq).elim (hL q) (hLL q)) hl T' rfl X'
    exact ⟨t2, stp.trans a1, b1⟩
def FI (own : String) (ix ki : Nat) (x y : MethodName) (b : ByteArray) (nc : Nat) (r : Option FieldType) (na : Nat) : Prop := (1 ≤ ki ∧ ki < 40) ∧ nc ≤ 41 ∧ ∃ (Cn : String) (T : u_T) (N : Nat), fw_cl[ki]? = some (Cn, T, N) ∧ fw_pm x na ∧ GoodIn lw_all (va_wsF own ix Cn x y (ws_ y b nc r)) ∧
  Cond.declares x ∈ lw_tbl ∧ Cond.interfaceMethod x.cls x.cls x.name x.desc ∈ lw_tbl ∧ Cond.publicMethod y ∈ lw_tbl ∧ Cond.unhidden Cn x.name x.desc ∈ lw_tbl ∧ Cond.castable Cn x.cls ∈ lw_tbl
theorem r_callF (C : CX g z cc own nL d mc ms) {ki : Nat} {x y : MethodName} {b : ByteArray} {nc : Nat} {r : Option FieldType} {d' mc' ms' a ix ct : Nat} {As : List Value} {ρ : Type} {w : ρ → Option Value} {Po : ρ → HA → Prop} {Px : Nat → HA → Prop} (hM : Ct g w y (.code y b nc r) d' mc' ms' (.ref a :: As) A Po Px) (hV : FI own ix ki x y b nc r As.length) (h1 : (A.G a).1 = ki) (hdd : d' < d) (hk : k + mc' ≤ mc) (hs : n + ms' ≤ ms) (hst : st0 = As.reverse ++ .ref a :: st) (hsum : (st.map fun v => v.category).sum ≤ 8) (hlen : lv.length = nL) (hd : decode cc pc = .ok (.invokeinterface ix ct, 5))
    (kk : ∀ u A', Po u A' → wa g z (k + mc') (n + ms') A' (pc + 5) lv ((w u).toList ++ st)) (kx : ∀ q A', Px q A' → (∃ E, fw_ex (A'.G q).1 = some E) → wx g z (k + mc') (n + ms') A' pc lv q) : wa g z k n A pc lv st0 := by
  obtain ⟨hki, hnc, Cn, T, N, hcl, hpm, hG, w1, w2, w3, w4, w5⟩ := hV
  refine fw_go5 (ar := (Value.ref a :: As).toArray) (fun H locs ls hR hl => ?_) kk kx
  have hF : va_Fw Cn x y z.s := va_Fw.moved ⟨hpm.1, hpm.2.1⟩ C.wm.alike (va_Fw.of (C.1.1 _ w1) (C.1.1 _ w2) (C.1.1 _ w3) (C.1.1 _ w4) (C.1.1 _ w5))
  exact vx_runF (C := Cn) (Ts := lw_all) (nL := nL) (C.K.1 _ _ hcl).2 ⟨C.x, C.b, C.ml, C.o, C.w⟩ (hM C.1 z.l C.nt) (va_cwF As.length C.w hG rfl rfl rfl hF hpm (fw_rooms C hdd hnc)) ⟨fw_blind g _ A, fw_recv C hR h1 hki hcl, fw_pre C hR _⟩ rfl rfl (hl.1.trans hlen) hst (lv_room hsum) hd ⟨by rw [C.r]; exact hk, by rw [C.r]; exact hs⟩
end
