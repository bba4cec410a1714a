/-! ROWS, MORE, 6: fields of new cells; private methods of a superclass; bytes copied -/
set_option maxRecDepth 100000
section
variable {g : GZ} {z : ZX} {cc : ByteArray} {own : String} {nL d mc ms k n : Nat} {A : HA} {pc : Nat} {lv : List (Option Value)} {st st0 : List Value}
theorem fw_putB {a ki f N : Nat} {Cn : String} {T : u_T} {A' : HA} {H H' : Heap} {cell : Cell} {v : Value} {s : State} {ar : Array Value} (hK : va_K g.D fw_cl [(g.dA 0, .int), (g.dA 1, .int), (g.dA 2, .byte), (g.dA 3, .boolean), (g.dA 4, .long), (g.dA 5, .object "java/lang/Object"), (g.dA 6, .object "LawnPaths$Change")] s) (hts : ∀ w ∈ lw_all, w.before ar s = true) (hR : Rp g A H) (h1 : (A.G a).1 = ki) (a1 : 1 ≤ ki) (a2 : ki < 40) (hb : g.b ≤ a) (hcl : fw_cl[ki]? = some (Cn, T, N)) (hin : ∀ w ∈ u_ws Cn T N, w ∈ lw_all)
    (hty : ∀ j, j < N → parseFieldDescriptor (T j).2.2.1 = some (fw_ty ki j)) (hnm : ∀ a, a < N → ∀ b, b < N → a ≠ b → (T a).2.1 ≠ (T b).2.1) (hf : f < N) (q2 : cell.cls = g.D.1 ki) (q3 : fw_vm g a cell.vm) (q4 : ∀ j, j < N → cell.slots[g.D.2 ki j]? = some (fw_val (fw_ty ki j) A a j))
    (hG : A'.G = A.G) (hn : A'.n = A.n) (hz : A'.z = A.z) (hI : ∀ x, x ≠ a → A'.I x = A.I x) (hRR : ∀ x, x ≠ a → A'.R x = A.R x) (hL : ∀ x, x ≠ a → A'.L x = A.L x) (hnew : fw_val (fw_ty ki f) A' a f = v) (hold : ∀ j, j ≠ f → fw_val (fw_ty ki j) A' a j = fw_val (fw_ty ki j) A a j)
    (e1 : H'[a]? = some (cell.setSlot (g.D.2 ki f) v)) (e2 : H'.size = H.size) (e3 : ∀ q : Nat, q ≠ a → H'[q]? = H[q]?) : Rp g A' H' := by
  have hap : ∀ x y, x < N → y < N → x ≠ y → (g.D.2 ki) x ≠ (g.D.2 ki) y := va_apart (own := "") hts hin (fw_ty ki) hty hnm hK hcl
  refine hR.upd hG hn hz hI hRR hL hb e2 e3 ?_
  unfold fw_cell
  rw [hG, h1]
  refine ⟨fun _ _ => ⟨_, hcl, _, e1, q2, q3, fun j hj => ?_⟩, fun b1 b2 => absurd a2 (by omega), fun b1 => absurd a2 (by omega)⟩
  have := t_set (V := fun j => fw_val (fw_ty ki j) A a j) q4 hap hf v j hj
  rw [this]
  by_cases hjf : j = f
  · subst hjf
    simp [updV, hnew]
  · simp [updV, hjf, hold j hjf]

theorem r_putB (C : CX g z cc own nL d mc ms) {ix ki f a : Nat} {v : Value} {A' : HA} (h : FL own ix ki f) (h1 : (A.G a).1 = ki) (hb : g.b ≤ a) (hfin : ∀ Cn T N, fw_cl[ki]? = some (Cn, T, N) → (T f).2.2.2 = false ∨ (T f).1 = own ∧ z.M.name = "<init>") (hn : narrow (fw_ty ki f) v = v) (hfit : fits (fw_ty ki f) v = true)
    (hG : A'.G = A.G) (hnn : A'.n = A.n) (hz : A'.z = A.z) (hI : ∀ x, x ≠ a → A'.I x = A.I x) (hRR : ∀ x, x ≠ a → A'.R x = A.R x) (hL : ∀ x, x ≠ a → A'.L x = A.L x) (hnew : fw_val (fw_ty ki f) A' a f = v) (hold : ∀ j, j ≠ f → fw_val (fw_ty ki j) A' a j = fw_val (fw_ty ki j) A a j)
    (hd : decode cc pc = .ok (.putfield ix, 3)) (kk : wa g z k n A' (pc + 3) lv st) : wa g z k n A pc lv (v :: .ref a :: st) := by
  intro H locs ls hR hLo hl
  obtain ⟨⟨a1, a2⟩, Cn, T, N, hcl, hin, hty, hnm, hf, hlk⟩ := h
  obtain ⟨r, hr, cell, q1, q2, q3, q4⟩ := (hR.cell a).1 (by rw [h1]; exact a1) (by rw [h1]; exact a2)
  rw [h1] at hr q2 q4
  cases Option.some.inj (hr.symm.trans hcl)
  obtain ⟨hS, hfc, kC, hkC, hkind⟩ := C.K.1 _ _ hcl
  obtain ⟨cf, kf, fi, fd, hi, hsl⟩ := hS f hf
  have hlay := C.w _ (hin _ (u_in_lay hf))
  have hst := (u_facts hfc hkC (u_lays C.w hin hf) hi).1
  have hLo' : ∀ q ∈ locs ++ [(⟨a, fd.slot⟩ : Loc)], g.b ≤ q.base := by
    intro q hq
    rcases List.mem_append.mp hq with hq | hq
    · exact hLo q hq
    · rw [List.mem_singleton.mp hq]; exact hb
  have go : ∀ H' : Heap, H'[a]? = some (cell.setSlot fd.slot v) → H'.size = H.size → (∀ q, q ≠ a → H'[q]? = H[q]?) → W z.p z.l z.e z.R z.s z.m z.a z.b z.M z.c H' (locs ++ [⟨a, fd.slot⟩]) k n z.Q (F0 z.m (pc + 3) ls st) := by
    intro H' e1 e2 e3
    rw [hsl] at e1
    exact kk H' _ ls (fw_putB C.K C.w hR h1 a1 a2 hb hcl hin hty hnm hf q2 q3 q4 hG hnn hz hI hRR hL hnew hold e1 e2 e3) hLo' hl
  rcases hfin _ _ _ hcl with hfin | ⟨hdecl, hin2⟩
  · unfold u_lay at hlay
    rw [if_neg (by rw [hfin]; decide)] at hlay
    have h6 := u_store hfc hkC hkind hlay hi (hty f hf) hn hfit
    exact W.putK C.x C.b (f := fd) ⟨C.o, C.w _ hlk, ⟨_, _, _, hi⟩, hst⟩ (by rw [q2]; exact h6) q1 (q3.2 hb) (by rw [hsl]; exact k2_hasslot (q4 f hf)) rfl rfl hd go
  · cases hb2 : (T f).2.2.2 with
    | false =>
      unfold u_lay at hlay
      rw [if_neg (by rw [hb2]; decide)] at hlay
      have h6 := u_store hfc hkC hkind hlay hi (hty f hf) hn hfit
      exact W.putK C.x C.b (f := fd) ⟨C.o, C.w _ hlk, ⟨_, _, _, hi⟩, hst⟩ (by rw [q2]; exact h6) q1 (q3.2 hb) (by rw [hsl]; exact k2_hasslot (q4 f hf)) rfl rfl hd go
    | true =>
      unfold u_lay at hlay
      rw [if_pos hb2] at hlay
      have hcf : z.m.cls = cf := by
        obtain ⟨_, _, c', _, _, _, -, -, hf', -, -, -, hown2, -⟩ := Cond.laysFinal_spec hlay
        have e1 : c' = cf := by have := hi.symm.trans hf'; simp at this; exact this.1.symm
        rw [hdecl] at hown2
        rw [← e1]; exact Option.some.inj (C.o.symm.trans hown2)
      have h6 := u_fits hfc hkC hkind (Or.inr hlay) hi (hty f hf) hn hfit
      exact W.putFinK C.x C.b C.o (C.w _ hlk) hi hst hcf hin2 (by rw [q2]; exact h6) q1 (q3.2 hb) (by rw [hsl]; exact k2_hasslot (q4 f hf)) rfl rfl hd go

theorem r_putIB (C : CX g z cc own nL d mc ms) {ix ki f a : Nat} {x : Int32} (h : FL own ix ki f) (h1 : (A.G a).1 = ki) (hb : g.b ≤ a) (hfin : ∀ Cn T N, fw_cl[ki]? = some (Cn, T, N) → (T f).2.2.2 = false ∨ (T f).1 = own ∧ z.M.name = "<init>") (ht : fw_isI (fw_ty ki f) = true) (hn : narrow (fw_ty ki f) (.int x) = .int x) (hfit : fits (fw_ty ki f) (.int x) = true)
    (hd : decode cc pc = .ok (.putfield ix, 3)) (kk : wa g z k n (A.sI a (upd (A.I a) f x)) (pc + 3) lv st) : wa g z k n A pc lv (.int x :: .ref a :: st) := by
  refine r_putB (A' := A.sI a (upd (A.I a) f x)) C h h1 hb hfin hn hfit rfl rfl rfl (fun y hy => sI_o A _ hy) (fun _ _ => rfl) (fun _ _ => rfl) ?_ ?_ hd kk
  · rw [fw_vI ht, sI_s, pk_us]
  · intro j hj
    cases hc : fw_isI (fw_ty ki j) with
    | true => rw [fw_vI hc, fw_vI hc, sI_s, pk_un hj]
    | false =>
      unfold fw_val
      generalize fw_ty ki j = ty at hc
      cases ty <;> first | rfl | cases hc

theorem r_putRB (C : CX g z cc own nL d mc ms) {ix ki f a x : Nat} (h : FL own ix ki f) (h1 : (A.G a).1 = ki) (hb : g.b ≤ a) (hfin : ∀ Cn T N, fw_cl[ki]? = some (Cn, T, N) → (T f).2.2.2 = false ∨ (T f).1 = own ∧ z.M.name = "<init>") (ht : fw_isR (fw_ty ki f) = true)
    (hd : decode cc pc = .ok (.putfield ix, 3)) (kk : wa g z k n (A.sR a (va_up (A.R a) f (some x))) (pc + 3) lv st) : wa g z k n A pc lv (.ref x :: .ref a :: st) := by
  refine r_putB (A' := A.sR a (va_up (A.R a) f (some x))) C h h1 hb hfin ?_ ?_ rfl rfl rfl (fun _ _ => rfl) (fun y hy => sR_o A _ hy) (fun _ _ => rfl) ?_ ?_ hd kk
  · generalize fw_ty ki f = ty at ht
    cases ty <;> first | rfl | cases ht
  · generalize fw_ty ki f = ty at ht
    cases ty <;> first | rfl | cases ht
  · rw [fw_vR ht, sR_s]
    simp [va_up, va_rf]
  · intro j hj
    cases hc : fw_isR (fw_ty ki j) with
    | true => rw [fw_vR hc, fw_vR hc, sR_s]; simp [va_up, hj]
    | false =>
      unfold fw_val
      generalize fw_ty ki j = ty at hc
      cases ty <;> first | rfl | cases hc

/-- the heap's end is no old place -/
theorem r_zb (kk : g.b ≤ A.z → wa g z k n A pc lv st) : wa g z k n A pc lv st := fun H locs ls hR => kk (by rw [hR.1]; exact hR.2.1) H locs ls hR
/-- a private method is selected for an object of any subclass -/
theorem sel_priv {s : State} {args : Array Value} {C : String} {y x2 y2 : MethodName} (hy : y.cls ≠ "java/lang/invoke/MethodHandle" ∧ y.cls ≠ "java/lang/invoke/VarHandle") (h2 : (Cond.selects C x2 y2).before args s = true) (hc2 : y2.cls = y.cls)
    (hpriv : (Cond.privateMethod y).before args s = true) (hinst : (Cond.instanceMethod y).before args s = true) : (Cond.selects C y y).before args s = true := by
  obtain ⟨mk, methM, hnamed, hmethM, -, -⟩ := Cond.instanceMethod_spec hinst
  have hfound : s.methodFound? y.cls y.name y.desc = some mk := State.methodFound?_of_named hnamed hy
  have hcm := findClass_of_methodNamed hnamed
  simp only [Cond.before, Cond.holds, Cond.value] at h2 ⊢
  cases hc : s.vm.findClass C with
  | none => simp [hc] at h2
  | some c =>
    cases hr : s.methodFound? x2.cls x2.name x2.desc with
    | none => simp [hc, hr] at h2
    | some r =>
      cases hm : s.methodNamed? y2 with
      | none => simp [hc, hr, hm] at h2
      | some m2 =>
        have hcm2 := findClass_of_methodNamed hm
        rw [hc2] at hcm2
        have e : m2.cls = mk.cls := Option.some.inj (hcm2.symm.trans hcm)
        have hsel : selectMethod {} s.vm c mk = .method mk := selectMethod_private hmethM (Cond.privateMethod_at hpriv mk methM hnamed hmethM)
        simp only [hc, hr, hm] at h2
        simp only [hfound, hnamed, hsel]
        cases hs : selectMethod {} s.vm c r with
        | method m' => 
          simp [hs, e] at h2
          simp
          exact h2.2
        | _ => simp [hs] at h2
/-- a link: a private method, of a superclass of the object's class -/
def PL (own : String) (ix ki : Nat) (y : MethodName) (b : ByteArray) (nc : Nat) (r : Option FieldType) (na : Nat) : Prop := (1 ≤ ki ∧ ki < 40) ∧ nc ≤ 41 ∧ ∃ (Cn : String) (x2 y2 : MethodName) (T : u_T) (N : Nat), fw_cl[ki]? = some (Cn, T, N) ∧ (y.cls ≠ "java/lang/invoke/MethodHandle" ∧ y.cls ≠ "java/lang/invoke/VarHandle" ∧ (parseMethodDescriptor y.desc).map (fun d => d.parameters.length) = some na) ∧ GoodIn lw_all (ws_ y b nc r) ∧ Cond.methodLink own ix y ∈ lw_all ∧ Cond.sameMethod y.cls y.cls y.name y.desc ∈ lw_all ∧ Cond.privateMethod y ∈ lw_tbl ∧ Cond.instanceMethod y ∈ lw_all ∧ Cond.initialized y.cls ∈ lw_all ∧ Cond.selects Cn x2 y2 ∈ lw_all ∧ y2.cls = y.cls
theorem r_callP (C : CX g z cc own nL d mc ms) {ki : Nat} {y : MethodName} {b : ByteArray} {nc : Nat} {r : Option FieldType} {d' mc' ms' a ix : Nat} {As : List Value} {ρ : Type} {w : ρ → Option Value} {Po : ρ → HA → Prop} {Px : Nat → HA → Prop} (hM : Ct g w y (.code y b nc r) d' mc' ms' (.ref a :: As) A Po Px) (hV : PL own ix ki y b nc r As.length) (h1 : (A.G a).1 = ki) (hdd : d' < d) (hk : k + mc' ≤ mc) (hs : n + ms' ≤ ms) (hst : st0 = As.reverse ++ .ref a :: st) (hsum : (st.map fun v => v.category).sum ≤ 8) (hlen : lv.length = nL) (hd : decode cc pc = .ok (.invokevirtual ix, 3))
    (kk : ∀ u A', Po u A' → wa g z (k + mc') (n + ms') A' (pc + 3) lv ((w u).toList ++ st)) (kx : ∀ q A', Px q A' → (∃ E, fw_ex (A'.G q).1 = some E) → wx g z (k + mc') (n + ms') A' pc lv q) : wa g z k n A pc lv st0 := by
  obtain ⟨hki, hnc, Cn, x2, y2, T, N, hcl, hpm, hG, hl, hsm, hpr, hin, hini, hs2, hc2⟩ := hV
  refine fw_go (ar := (Value.ref a :: As).toArray) (fun H locs ls hR hl2 => ?_) kk kx
  have hsel : (Cond.selects Cn y y).before z.a z.s = true := word_at C.2.2.2.2.2.2.1 (Or.inl (by first | rfl | simp [Cond.onTables, Cond.keeps, Cond.steady])) (sel_priv ⟨hpm.1, hpm.2.1⟩ (C.1.1 _ (lw_all_tbl hs2)) hc2 (C.1.1 _ hpr) (C.1.1 _ (lw_all_tbl hin)))
  have hc : Cond.code y b nc r ∈ ws_ y b nc r := List.mem_cons_self
  have hcw : va_CU z.R z.s z.a own Cn y.cls ix y y b nc r (ws_ y b nc r) (fw_room d' mc' ms') mc' ms' As.length := ⟨⟨rfl, rfl, (fw_rooms C hdd hnc).1, (fw_rooms C hdd hnc).2, pay_in C.w hG, hc⟩, C.w _ (hG _ hc).1, C.w _ hini, ⟨hpm.1, hpm.2.1⟩, fun sig h => by have h2 := hpm.2.2; rw [h] at h2; exact (Option.some.inj h2).symm, C.w _ hl, C.w _ hsm, va_Decl.of (C.w _ hin) (C.w _ (hG _ hc).1), hsel, C.w _ hin⟩
  exact vx_runU (C := Cn) (Ts := lw_all) (nL := nL) ⟨C.x, C.b, C.ml, C.o, C.w⟩ (hM C.1 z.l C.nt) hcw ⟨fw_blind g _ A, fw_recv C hR h1 hki hcl, fw_pre C hR _⟩ rfl rfl (hl2.1.trans hlen) hst (lv_room hsum) hd ⟨by rw [C.r]; exact hk, by rw [C.r]; exact hs⟩
theorem r_P1v (C : CX g z cc own nL d mc ms) {ki : Nat} {y : MethodName} {b : ByteArray} {nc : Nat} {r : Option FieldType} {d' mc' ms' ix a : Nat} {x0 : Value} {Po : Unit → HA → Prop} (hM : Ct g wV y (.code y b nc r) d' mc' ms' (.ref a :: [x0]) A Po fw_no) (hV : PL own ix ki y b nc r 1) (h1 : (A.G a).1 = ki) (hdd : d' < d) (hk : k + mc' ≤ mc) (hs : n + ms' ≤ ms) (hsum : (st.map fun v => v.category).sum ≤ 8) (hlen : lv.length = nL) (hd : decode cc pc = .ok (.invokevirtual ix, 3)) (kk : ∀ u A', Po u A' → wa g z (k + mc') (n + ms') A' (pc + 3) lv st) : wa g z k n A pc lv (x0 :: .ref a :: st) :=
  r_callP (As := [x0]) C hM hV h1 hdd hk hs rfl hsum hlen hd (fun u A' h => kk u A' h) (fun _ _ h _ => h.elim)
theorem r_P1vo (C : CX g z cc own nL d mc ms) {ki : Nat} {y : MethodName} {b : ByteArray} {nc : Nat} {r : Option FieldType} {d' ix a : Nat} {x0 : Value} {Po : Unit → HA → Prop} (hM : Ct g wV y (.code y b nc r) d' 0 0 (.ref a :: [x0]) A Po fw_no) (hV : PL own ix ki y b nc r 1) (h1 : (A.G a).1 = ki) (hdd : d' < d) (hk : k ≤ mc) (hs : n ≤ ms) (hsum : (st.map fun v => v.category).sum ≤ 8) (hlen : lv.length = nL) (hd : decode cc pc = .ok (.invokevirtual ix, 3)) (kk : ∀ u A', Po u A' → wa g z k n A' (pc + 3) lv st) : wa g z k n A pc lv (x0 :: .ref a :: st) :=
  r_P1v C hM hV h1 hdd hk hs hsum hlen hd kk
theorem r_P1i (C : CX g z cc own nL d mc ms) {ki : Nat} {y : MethodName} {b : ByteArray} {nc : Nat} {r : Option FieldType} {d' mc' ms' ix a : Nat} {x0 : Value} {Po : Int32 → HA → Prop} (hM : Ct g wI y (.code y b nc r) d' mc' ms' (.ref a :: [x0]) A Po fw_no) (hV : PL own ix ki y b nc r 1) (h1 : (A.G a).1 = ki) (hdd : d' < d) (hk : k + mc' ≤ mc) (hs : n + ms' ≤ ms) (hsum : (st.map fun v => v.category).sum ≤ 8) (hlen : lv.length = nL) (hd : decode cc pc = .ok (.invokevirtual ix, 3)) (kk : ∀ u A', Po u A' → wa g z (k + mc') (n + ms') A' (pc + 3) lv (.int u :: st)) : wa g z k n A pc lv (x0 :: .ref a :: st) :=
  r_callP (As := [x0]) C hM hV h1 hdd hk hs rfl hsum hlen hd (fun u A' h => kk u A' h) (fun _ _ h _ => h.elim)
theorem r_P1io (C : CX g z cc own nL d mc ms) {ki : Nat} {y : MethodName} {b : ByteArray} {nc : Nat} {r : Option FieldType} {d' ix a : Nat} {x0 : Value} {Po : Int32 → HA → Prop} (hM : Ct g wI y (.code y b nc r) d' 0 0 (.ref a :: [x0]) A Po fw_no) (hV : PL own ix ki y b nc r 1) (h1 : (A.G a).1 = ki) (hdd : d' < d) (hk : k ≤ mc) (hs : n ≤ ms) (hsum : (st.map fun v => v.category).sum ≤ 8) (hlen : lv.length = nL) (hd : decode cc pc = .ok (.invokevirtual ix, 3)) (kk : ∀ u A', Po u A' → wa g z k n A' (pc + 3) lv (.int u :: st)) : wa g z k n A pc lv (x0 :: .ref a :: st) :=
  r_P1i C hM hV h1 hdd hk hs hsum hlen hd kk
end
theorem va_byte {s : State} {c : ClassId} (h : va_RA s c .byte) : s.vm.findClass "[B" = some c := by
  have e : ("[" ++ FieldType.byte.toString) = "[B" := by decide +kernel
  unfold va_RA at h
  simp only at h
  rw [e] at h; exact h
/-! ## bytes, copied -/
theorem sp_same (at_ : Nat) : ∀ (xs : List (Value × Nat)) (c c' : Cell), c.slots = c'.slots → (c.storePairs at_ xs).slots = (c'.storePairs at_ xs).slots ∧ (c.storePairs at_ xs).cls = c.cls ∧ (c.storePairs at_ xs).vm = c.vm
  | [], c, c', h => ⟨h, rfl, rfl⟩
  | (x, i) :: r, c, c', h => by
    have ih := sp_same at_ r (c.setSlot (at_ + i) x) (c'.setSlot (at_ + i) x) (by simp [Cell.setSlot, h])
    exact ⟨ih.1, ih.2.1, ih.2.2⟩
theorem sl_arrV {c : Cell} {N : Nat} {f : Nat → Int32} (h1 : c.slots.size = N) (h2 : ∀ j, j < N → c.slots[j]? = some (.int (f j))) : c.slots = (arrV c.cls N (fun j => .int (f j))).slots := by
  apply Array.ext_getElem?
  intro i
  by_cases q : i < N
  · rw [h2 i q, arrV_read _ _ q]
  · rw [Array.getElem?_eq_none (by omega), Array.getElem?_eq_none (by rw [arrV_size]; omega)]
theorem cp_slots {c0 c1 : Cell} {f h : Nat → Int32} {n0 n1 sp dp m : Nat} (p4 : c0.slots.size = n0) (p5 : ∀ j, j < n0 → c0.slots[j]? = some (.int (f j))) (q4 : c1.slots.size = n1) (q5 : ∀ j, j < n1 → c1.slots[j]? = some (.int (h j))) (hs : sp + m ≤ n0) :
    (c1.storeRun dp (c0.stretch sp m)).cls = c1.cls ∧ (c1.storeRun dp (c0.stretch sp m)).vm = c1.vm ∧ (c1.storeRun dp (c0.stretch sp m)).slots.size = n1 ∧ ∀ j, j < n1 → (c1.storeRun dp (c0.stretch sp m)).slots[j]? = some (.int (va_cpy f h sp dp m j)) := by
  have e0 := sl_arrV p4 p5
  have e1 := sl_arrV q4 q5
  have es : c0.stretch sp m = (arrV c0.cls n0 (fun j => .int (f j))).stretch sp m := by unfold Cell.stretch; rw [← e0]
  have h1 := sp_same dp ((arrV c0.cls n0 (fun j => .int (f j))).stretch sp m).zipIdx c1 _ e1
  have h2 : (c1.storeRun dp (c0.stretch sp m)).slots = (arrV c1.cls n1 (fun j => .int (va_cpy f h sp dp m j))).slots := by
    rw [es]
    exact h1.1.trans (congrArg Cell.slots (va_copied (fun z => .int z) c0.cls c1.cls f h hs))
  refine ⟨by rw [es]; exact h1.2.1, by rw [es]; exact h1.2.2, by rw [h2, arrV_size], fun j hj => ?_⟩
  rw [h2, arrV_read _ _ hj]
section
variable {g : GZ} {z : ZX} {cc : ByteArray} {own : String} {nL d mc ms k n : Nat} {A : HA} {pc : Nat} {lv : List (Option Value)} {st : List Value}
theorem r_bcopy (C : CX g z cc own nL d mc ms) {a0 a sp dp m ix : Nat} (h0 : isBy (A.G a0).1 = true) (h1 : isBy (A.G a).1 = true) (hmu : fw_mut (A.G a).1 = true) (hs : sp + m ≤ A.n a0) (hdn : dp + m ≤ A.n a) (h31 : A.n a0 < 1000000) (h32 : A.n a < 1000000) (hfit : ∀ i, i < m → fits .byte (.int (A.I a0 (sp + i))) = true)
    (hlink : Cond.methodLink own ix arraycopyName ∈ lw_all) (hlen : lv.length = nL) (hsum : (st.map fun v => v.category).sum ≤ 8) (hdd : 1 ≤ d) (hd : decode cc pc = .ok (.invokestatic ix, 3)) (kk : wa g z k n (A.sI a (va_cpy (A.I a0) (A.I a) sp dp m)) (pc + 3) lv st) : wa g z k n A pc lv (.int (nI m) :: .int (nI dp) :: .ref a :: .int (nI sp) :: .ref a0 :: st) := by
  intro H locs ls hR hL hl
  simp only [isBy, Bool.and_eq_true, decide_eq_true_eq] at h0 h1
  obtain ⟨c0, p1, p2, p3, p4, p5⟩ := (hR.cell a0).2.2 h0.1
  obtain ⟨c1, q1, q2, q3, q4, q5⟩ := (hR.cell a).2.2 h1.1
  rw [h0.2] at p2 p5
  rw [h1.2] at q2 q5
  have p5 : ∀ j, j < A.n a0 → c0.slots[j]? = some (.int (A.I a0 j)) := p5
  have q5 : ∀ j, j < A.n a → c1.slots[j]? = some (.int (A.I a j)) := q5
  have hb : g.b ≤ a := hR.mut hmu
  have es : (nI sp).toNatClampNeg = sp := nI_nat (by omega)
  have ed : (nI dp).toNatClampNeg = dp := nI_nat (by omega)
  have em : (nI m).toNatClampNeg = m := nI_nat (by omega)
  obtain ⟨cn1, cn2, cn3, cn4⟩ := cp_slots (dp := dp) p4 p5 q4 q5 hs
  intro T hT X
  obtain ⟨-, kA, hkA, comp, hkind⟩ := (C.K.2 2 _ rfl).1 0 (fun _ => .null)
  have hw40 : nativeFrameWords "java/lang/System" "arraycopy" 5 ≤ 40 := by decide +kernel
  obtain ⟨vm', X', step⟩ := X.arraycopy C.x C.o (C.w _ hlink) (C.w _ q446) (C.w _ q445) (C.w _ q159) (src := a0) (dst := a) (cs := c0) (cd := c1) (srcPos := nI sp) (destPos := nI dp) (n := nI m) (by rw [hT]; exact p1) (by rw [hT]; exact q1)
    p3.st q3.st p3.1.2 q3.1.2 (by rw [p2]; exact hkA) (by rw [q2]; exact hkA) hkind hkind rfl
    (nI_lt0 (by omega)) (nI_lt0 (by omega)) (nI_lt0 (by omega)) (by rw [t_nI (by omega), t_nI (by omega), p4]; omega) (by rw [t_nI (by omega), t_nI (by omega), q4]; omega)
    (fun vm₁ _ i hi => by
      rw [em] at hi
      have e : c0.slots.getD ((nI sp).toNatClampNeg + i) .null = .int (A.I a0 (sp + i)) := by
        rw [es, Array.getD_eq_getD_getElem?, p5 _ (by omega)]
        rfl
      rw [e]
      exact ⟨hfit i hi, trivial⟩)
    (g := F0 z.m pc ls (.int (nI m) :: .int (nI dp) :: .ref a :: .int (nI sp) :: .ref a0 :: st)) rfl ((hl.1.trans hlen).trans C.ml.symm) (rest := st) rfl (by rw [C.b]; exact hd) (by rw [C.r]; exact hdd) (by rw [C.r]; show 2 * 0 + _ + (nativeFrameWords "java/lang/System" "arraycopy" 5 + 11) ≤ 60 * d; omega)
  have e1 : copied c0 c1 (nI sp) (nI dp) (nI m) = c1.storeRun dp (c0.stretch sp m) := by
    unfold copied
    rw [es, ed, em]
  rw [e1] at X' step
  have hl1 : a < H.size := (Array.getElem?_eq_some_iff.mp q1).1
  have hheap : ((T.setVm vm').setCell a (c1.storeRun dp (c0.stretch sp m))).heap = H.setIfInBounds a (c1.storeRun dp (c0.stretch sp m)) := by rw [← hT]; rfl
  have hR' : Rp g (A.sI a (va_cpy (A.I a0) (A.I a) sp dp m)) (H.setIfInBounds a (c1.storeRun dp (c0.stretch sp m))) := by
    refine hR.upd rfl rfl rfl (fun x hx => sI_o A _ hx) (fun _ _ => rfl) (fun _ _ => rfl) hb (by simp) (fun q hq => by simp [Array.getElem?_setIfInBounds, Ne.symm hq]) ?_
    unfold fw_cell
    rw [sI_G]
    refine ⟨fun b1 b2 => absurd h1.1 (by omega), fun b1 b2 => absurd h1.1 (by omega), fun _ => ⟨c1.storeRun dp (c0.stretch sp m), by simp [Array.getElem?_setIfInBounds, hl1], ?_, ?_, ?_, fun j hj => ?_⟩⟩
    · rw [cn1, h1.2]; exact q2
    · rw [cn2]; exact q3
    · exact cn3
    · rw [cn4 j hj, h1.2]
      show _ = some (Value.int _)
      rw [sI_s]
  obtain ⟨t, a1, b1⟩ := kk _ _ ls hR' (fun q hq => by
    rcases List.mem_append.mp hq with h | h
    · exact hL q h
    · obtain ⟨z, -, hz⟩ := List.mem_map.mp h
      rw [← hz]; exact hb) hl _ hheap X'
  exact ⟨t, step t a1, b1⟩
end
