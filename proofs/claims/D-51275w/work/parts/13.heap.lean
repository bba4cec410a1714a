/-! ROWS OF THE HEAP: fields, arrays, new cells -/
set_option maxRecDepth 100000
theorem fw_val_eq {A A' : HA} {x : Nat} (hI : A'.I x = A.I x) (hR : A'.R x = A.R x) (hL : A'.L x = A.L x) (ty : FieldType) (i : Nat) : fw_val ty A' x i = fw_val ty A x i := by
  unfold fw_val
  rw [hI, hR, hL]
theorem fw_cell.kept {g : GZ} {A A' : HA} {H H' : Heap} {x : Nat} (h : fw_cell g A H x) (hG : A'.G x = A.G x) (hn : A'.n x = A.n x) (hI : A'.I x = A.I x) (hR : A'.R x = A.R x) (hL : A'.L x = A.L x) (hH : H'[x]? = H[x]?) : fw_cell g A' H' x := by
  obtain ⟨h1, h2, h3⟩ := h
  have hv : ∀ ty i, fw_val ty A' x i = fw_val ty A x i := fw_val_eq hI hR hL
  unfold fw_cell
  rw [hG]
  refine ⟨fun a b => ?_, fun a b => ?_, fun a => ?_⟩
  · obtain ⟨r, q1, cell, q2, q3, q4, q5⟩ := h1 a b
    exact ⟨r, q1, cell, by rw [hH]; exact q2, q3, q4, fun j hj => (q5 j hj).trans (congrArg some (hv _ j).symm)⟩
  · obtain ⟨c, q1, q2, q3, q4, q5⟩ := h2 a b
    exact ⟨c, by rw [hH]; exact q1, q2, q3, by rw [hn]; exact q4, fun j hj => by rw [hI]; exact q5 j (by rw [hn] at hj; exact hj)⟩
  · obtain ⟨c, q1, q2, q3, q4, q5⟩ := h3 a
    exact ⟨c, by rw [hH]; exact q1, q2, q3, by rw [hn]; exact q4, fun j hj => by rw [hv]; exact q5 j (by rw [hn] at hj; exact hj)⟩
theorem Rp.upd {g : GZ} {A A' : HA} {H H' : Heap} {a : Nat} (h : Rp g A H) (hG : A'.G = A.G) (hn : A'.n = A.n) (hz : A'.z = A.z) (hI : ∀ x, x ≠ a → A'.I x = A.I x) (hR : ∀ x, x ≠ a → A'.R x = A.R x) (hL : ∀ x, x ≠ a → A'.L x = A.L x) (hb : g.b ≤ a)
    (e2 : H'.size = H.size) (e3 : ∀ q : Nat, q ≠ a → H'[q]? = H[q]?) (hc : fw_cell g A' H' a) : Rp g A' H' := by
  obtain ⟨p1, p2, p3, p4, p5, p6, p7⟩ := h
  refine ⟨by rw [hz, e2]; exact p1, by rw [e2]; exact p2, fun q hq => ?_, fun x hx => ?_, fun x hx => ?_, fun x => ?_, fun x => ?_⟩
  · rw [e3 q (by omega)]; exact p3 q hq
  · have hxa : x ≠ a := by omega
    obtain ⟨r1, r2, r3, r4, r5⟩ := p4 x hx
    exact ⟨by rw [hG]; exact r1, (hI x hxa).trans r2, (hR x hxa).trans r3, (hL x hxa).trans r4, by rw [hn]; exact r5⟩
  · rw [hG] at hx; exact p5 x hx
  · rw [hz, hG]; exact p6 x
  · by_cases q : x = a
    · rw [q]; exact hc
    · exact (p7 x).kept (by rw [hG]) (by rw [hn]) (hI x q) (hR x q) (hL x q) (e3 x q)
theorem Rp.mut {g : GZ} {A : HA} {H : Heap} (h : Rp g A H) {a : Nat} (hm : fw_mut (A.G a).1 = true) : g.b ≤ a := h.2.2.2.2.1 a hm
theorem Rp.cell {g : GZ} {A : HA} {H : Heap} (h : Rp g A H) (a : Nat) : fw_cell g A H a := h.2.2.2.2.2.2 a
/-- a field's link: pool entry ix of class own is the field f of kind ki -/
def FL (own : String) (ix ki f : Nat) : Prop := (1 ≤ ki ∧ ki < 40) ∧ ∃ (Cn : String) (T : u_T) (N : Nat), fw_cl[ki]? = some (Cn, T, N) ∧ (∀ w ∈ u_ws Cn T N, w ∈ lw_all) ∧ (∀ j, j < N → parseFieldDescriptor (T j).2.2.1 = some (fw_ty ki j)) ∧ (∀ a, a < N → ∀ b, b < N → a ≠ b → (T a).2.1 ≠ (T b).2.1) ∧ f < N ∧
  Cond.fieldLink own ix (T f).1 (T f).2.1 (T f).2.2.1 ∈ lw_all
theorem FL.of {own : String} {ix ki f : Nat} (Cn : String) (T : u_T) (N : Nat) (hk : (decide (1 ≤ ki) && decide (ki < 40)) = true) (h1 : fw_cl[ki]? = some (Cn, T, N)) (h2 : ∀ w ∈ u_ws Cn T N, w ∈ lw_all) (h3 : ∀ j, j < N → parseFieldDescriptor (T j).2.2.1 = some (fw_ty ki j)) (h4 : ∀ a, a < N → ∀ b, b < N → a ≠ b → (T a).2.1 ≠ (T b).2.1) (h5 : decide (f < N) = true) (h6 : Cond.fieldLink own ix (T f).1 (T f).2.1 (T f).2.2.1 ∈ lw_all) : FL own ix ki f := by
  simp only [Bool.and_eq_true, decide_eq_true_eq] at hk
  exact ⟨hk, Cn, T, N, h1, h2, h3, h4, of_decide_eq_true h5, h6⟩
/-- the same, over a nest mate's private field -/
def FN (own : String) (ix ki f : Nat) : Prop := (1 ≤ ki ∧ ki < 40) ∧ ∃ (Cn : String) (T : u_T) (N : Nat) (host : String), fw_cl[ki]? = some (Cn, T, N) ∧ (∀ w ∈ u_ws Cn T N, w ∈ lw_all) ∧ (∀ j, j < N → parseFieldDescriptor (T j).2.2.1 = some (fw_ty ki j)) ∧ (∀ a, a < N → ∀ b, b < N → a ≠ b → (T a).2.1 ≠ (T b).2.1) ∧ f < N ∧
  Cond.fieldLinkNest own ix (T f).1 (T f).2.1 (T f).2.2.1 host ∈ lw_tbl
theorem FN.of {own : String} {ix ki f : Nat} (Cn : String) (T : u_T) (N : Nat) (host : String) (hk : (decide (1 ≤ ki) && decide (ki < 40)) = true) (h1 : fw_cl[ki]? = some (Cn, T, N)) (h2 : ∀ w ∈ u_ws Cn T N, w ∈ lw_all) (h3 : ∀ j, j < N → parseFieldDescriptor (T j).2.2.1 = some (fw_ty ki j)) (h4 : ∀ a, a < N → ∀ b, b < N → a ≠ b → (T a).2.1 ≠ (T b).2.1) (h5 : decide (f < N) = true) (h6 : Cond.fieldLinkNest own ix (T f).1 (T f).2.1 (T f).2.2.1 host ∈ lw_tbl) : FN own ix ki f := by
  simp only [Bool.and_eq_true, decide_eq_true_eq] at hk
  exact ⟨hk, Cn, T, N, host, h1, h2, h3, h4, of_decide_eq_true h5, h6⟩
def fw_isI (ty : FieldType) : Bool := match ty with
  | .object _ => false
  | .array _ => false
  | .long => false
  | _ => true
def fw_isR (ty : FieldType) : Bool := match ty with
  | .object _ => true
  | .array _ => true
  | _ => false
theorem fw_vI {ty : FieldType} (h : fw_isI ty = true) (A : HA) (a i : Nat) : fw_val ty A a i = .int (A.I a i) := by
  cases ty <;> first | rfl | cases h
theorem fw_vR {ty : FieldType} (h : fw_isR ty = true) (A : HA) (a i : Nat) : fw_val ty A a i = va_rf (A.R a i) := by
  cases ty <;> first | rfl | cases h
theorem fw_IR {ty : FieldType} (h : fw_isI ty = true) : fw_isR ty = false := by cases ty <;> first | rfl | cases h
section
variable {g : GZ} {z : ZX} {cc : ByteArray} {own : String} {nL d mc ms k n : Nat} {A : HA} {pc : Nat} {lv : List (Option Value)} {st : List Value}
theorem r_get (C : CX g z cc own nL d mc ms) {ix ki f a : Nat} {v : Value} (h : FL own ix ki f) (h1 : (A.G a).1 = ki) (hv : fw_val (fw_ty ki f) A a f = v) (hd : decode cc pc = .ok (.getfield ix, 3)) (kk : wa g z k n A (pc + 3) lv (v :: st)) : wa g z k n A pc lv (.ref a :: st) := by
  intro H locs ls hR hL hl
  obtain ⟨⟨a1, a2⟩, Cn, T, N, hcl, hin, -, -, hf, hlk⟩ := h
  subst h1
  obtain ⟨r, hr, cell, q1, q2, q3, q4⟩ := (hR.cell a).1 a1 a2
  cases Option.some.inj (hr.symm.trans hcl)
  obtain ⟨hS, hfc, kC, hkC, hkind⟩ := C.K.1 _ _ hcl
  obtain ⟨cf, kf, fi, fd, hi, hsl⟩ := hS f hf
  refine W.getf C.x C.b C.o (C.w _ hlk) hi (u_facts hfc hkC (u_lays C.w hin hf) hi).1 q1 q3.1.2 (v := v) ?_ rfl rfl hd (kk H locs ls hR hL hl)
  rw [hsl, q4 f hf]
  exact congrArg some hv
theorem r_getI (C : CX g z cc own nL d mc ms) {ix ki f a : Nat} (h : FL own ix ki f) (h1 : (A.G a).1 = ki) (ht : fw_isI (fw_ty ki f) = true) (hd : decode cc pc = .ok (.getfield ix, 3)) (kk : wa g z k n A (pc + 3) lv (.int (A.I a f) :: st)) : wa g z k n A pc lv (.ref a :: st) :=
  r_get C h h1 (fw_vI ht A a f) hd kk
theorem r_getR (C : CX g z cc own nL d mc ms) {ix ki f a x : Nat} (h : FL own ix ki f) (h1 : (A.G a).1 = ki) (ht : fw_isR (fw_ty ki f) = true) (hx : A.R a f = some x) (hd : decode cc pc = .ok (.getfield ix, 3)) (kk : wa g z k n A (pc + 3) lv (.ref x :: st)) : wa g z k n A pc lv (.ref a :: st) :=
  r_get C h h1 (by rw [fw_vR ht, hx]; rfl) hd kk
theorem r_getN (C : CX g z cc own nL d mc ms) {ix ki f a : Nat} (h : FL own ix ki f) (h1 : (A.G a).1 = ki) (ht : fw_isR (fw_ty ki f) = true) (hx : A.R a f = none) (hd : decode cc pc = .ok (.getfield ix, 3)) (kk : wa g z k n A (pc + 3) lv (.null :: st)) : wa g z k n A pc lv (.ref a :: st) :=
  r_get C h h1 (by rw [fw_vR ht, hx]; rfl) hd kk
/-- the object's cell behind a store -/
theorem fw_put {a ki f N : Nat} {Cn : String} {T : u_T} {A' : HA} {H H' : Heap} {cell : Cell} {v : Value} {s : State} {ar : Array Value} (hK : va_K g.D fw_cl [(g.dA 0, .int), (g.dA 1, .int), (g.dA 2, .byte), (g.dA 3, .boolean), (g.dA 4, .long), (g.dA 5, .object "java/lang/Object"), (g.dA 6, .object "LawnPaths$Change")] s) (hts : ∀ w ∈ lw_all, w.before ar s = true) (hR : Rp g A H) (h1 : (A.G a).1 = ki) (a1 : 1 ≤ ki) (a2 : ki < 40) (hm : fw_mut ki = true) (hcl : fw_cl[ki]? = some (Cn, T, N)) (hin : ∀ w ∈ u_ws Cn T N, w ∈ lw_all)
    (hty : ∀ j, j < N → parseFieldDescriptor (T j).2.2.1 = some (fw_ty ki j)) (hnm : ∀ a, a < N → ∀ b, b < N → a ≠ b → (T a).2.1 ≠ (T b).2.1) (hf : f < N) (q2 : cell.cls = g.D.1 ki) (q3 : fw_vm g a cell.vm) (q4 : ∀ j, j < N → cell.slots[g.D.2 ki j]? = some (fw_val (fw_ty ki j) A a j))
    (hG : A'.G = A.G) (hn : A'.n = A.n) (hz : A'.z = A.z) (hI : ∀ x, x ≠ a → A'.I x = A.I x) (hRR : ∀ x, x ≠ a → A'.R x = A.R x) (hL : ∀ x, x ≠ a → A'.L x = A.L x) (hnew : fw_val (fw_ty ki f) A' a f = v) (hold : ∀ j, j ≠ f → fw_val (fw_ty ki j) A' a j = fw_val (fw_ty ki j) A a j)
    (e1 : H'[a]? = some (cell.setSlot (g.D.2 ki f) v)) (e2 : H'.size = H.size) (e3 : ∀ q : Nat, q ≠ a → H'[q]? = H[q]?) : Rp g A' H' := by
  have hap : ∀ x y, x < N → y < N → x ≠ y → (g.D.2 ki) x ≠ (g.D.2 ki) y := va_apart (own := "") hts hin (fw_ty ki) hty hnm hK hcl
  refine hR.upd hG hn hz hI hRR hL (hR.mut (by rw [h1]; exact hm)) e2 e3 ?_
  unfold fw_cell
  rw [hG, h1]
  refine ⟨fun _ _ => ⟨_, hcl, _, e1, q2, q3, fun j hj => ?_⟩, fun b1 b2 => absurd a2 (by omega), fun b1 => absurd a2 (by omega)⟩
  have := t_set (V := fun j => fw_val (fw_ty ki j) A a j) q4 hap hf v j hj
  rw [this]
  by_cases hjf : j = f
  · subst hjf
    simp [updV, hnew]
  · simp [updV, hjf, hold j hjf]
theorem r_put (C : CX g z cc own nL d mc ms) {ix ki f a : Nat} {v : Value} {A' : HA} (h : FL own ix ki f) (h1 : (A.G a).1 = ki) (hm : fw_mut ki = true) (hfin : ∀ Cn T N, fw_cl[ki]? = some (Cn, T, N) → (T f).2.2.2 = false ∨ (T f).1 = own ∧ z.M.name = "<init>") (hn : narrow (fw_ty ki f) v = v) (hfit : fits (fw_ty ki f) v = true)
    (hG : A'.G = A.G) (hnn : A'.n = A.n) (hz : A'.z = A.z) (hI : ∀ x, x ≠ a → A'.I x = A.I x) (hRR : ∀ x, x ≠ a → A'.R x = A.R x) (hL : ∀ x, x ≠ a → A'.L x = A.L x) (hnew : fw_val (fw_ty ki f) A' a f = v) (hold : ∀ j, j ≠ f → fw_val (fw_ty ki j) A' a j = fw_val (fw_ty ki j) A a j)
    (hd : decode cc pc = .ok (.putfield ix, 3)) (kk : wa g z k n A' (pc + 3) lv st) : wa g z k n A pc lv (v :: .ref a :: st) := by
  intro H locs ls hR hLo hl
  obtain ⟨⟨a1, a2⟩, Cn, T, N, hcl, hin, hty, hnm, hf, hlk⟩ := h
  obtain ⟨r, hr, cell, q1, q2, q3, q4⟩ := (hR.cell a).1 (by rw [h1]; exact a1) (by rw [h1]; exact a2)
  rw [h1] at hr q2 q4
  cases Option.some.inj (hr.symm.trans hcl)
  obtain ⟨hS, hfc, kC, hkC, hkind⟩ := C.K.1 _ _ hcl
  obtain ⟨cf, kf, fi, fd, hi, hsl⟩ := hS f hf
  have hlay := C.w _ (hin _ (u_in_lay hf))
  have hst := (u_facts hfc hkC (u_lays C.w hin hf) hi).1
  have hb : g.b ≤ a := hR.mut (by rw [h1]; exact hm)
  have hLo' : ∀ q ∈ locs ++ [(⟨a, fd.slot⟩ : Loc)], g.b ≤ q.base := by
    intro q hq
    rcases List.mem_append.mp hq with hq | hq
    · exact hLo q hq
    · rw [List.mem_singleton.mp hq]; exact hb
  have go : ∀ H' : Heap, H'[a]? = some (cell.setSlot fd.slot v) → H'.size = H.size → (∀ q, q ≠ a → H'[q]? = H[q]?) → W z.p z.l z.e z.R z.s z.m z.a z.b z.M z.c H' (locs ++ [⟨a, fd.slot⟩]) k n z.Q (F0 z.m (pc + 3) ls st) := by
    intro H' e1 e2 e3
    rw [hsl] at e1
    exact kk H' _ ls (fw_put C.K C.w hR h1 a1 a2 hm hcl hin hty hnm hf q2 q3 q4 hG hnn hz hI hRR hL hnew hold e1 e2 e3) hLo' hl
  rcases hfin _ _ _ hcl with hfin | ⟨hdecl, hin2⟩
  · unfold u_lay at hlay
    rw [if_neg (by rw [hfin]; decide)] at hlay
    have h6 := u_store hfc hkC hkind hlay hi (hty f hf) hn hfit
    exact W.putK C.x C.b (f := fd) ⟨C.o, C.w _ hlk, ⟨_, _, _, hi⟩, hst⟩ (by rw [q2]; exact h6) q1 (q3.2 hb) (by rw [hsl]; exact k2_hasslot (q4 f hf)) rfl rfl hd go
  · cases hb2 : (T f).2.2.2 with
    | false =>
      unfold u_lay at hlay
      rw [if_neg (by rw [hb2]; decide)] at hlay
      have h6 := u_store hfc hkC hkind hlay hi (hty f hf) hn hfit
      exact W.putK C.x C.b (f := fd) ⟨C.o, C.w _ hlk, ⟨_, _, _, hi⟩, hst⟩ (by rw [q2]; exact h6) q1 (q3.2 hb) (by rw [hsl]; exact k2_hasslot (q4 f hf)) rfl rfl hd go
    | true =>
      unfold u_lay at hlay
      rw [if_pos hb2] at hlay
      have hcf : z.m.cls = cf := by
        obtain ⟨_, _, c', _, _, _, -, -, hf', -, -, -, hown2, -⟩ := Cond.laysFinal_spec hlay
        have e1 : c' = cf := by have := hi.symm.trans hf'; simp at this; exact this.1.symm
        rw [hdecl] at hown2
        rw [← e1]; exact Option.some.inj (C.o.symm.trans hown2)
      have h6 := u_fits hfc hkC hkind (Or.inr hlay) hi (hty f hf) hn hfit
      exact W.putFinK C.x C.b C.o (C.w _ hlk) hi hst hcf hin2 (by rw [q2]; exact h6) q1 (q3.2 hb) (by rw [hsl]; exact k2_hasslot (q4 f hf)) rfl rfl hd go
theorem r_putI (C : CX g z cc own nL d mc ms) {ix ki f a : Nat} {x : Int32} (h : FL own ix ki f) (h1 : (A.G a).1 = ki) (hm : fw_mut ki = true) (hfin : ∀ Cn T N, fw_cl[ki]? = some (Cn, T, N) → (T f).2.2.2 = false ∨ (T f).1 = own ∧ z.M.name = "<init>") (ht : fw_isI (fw_ty ki f) = true) (hn : narrow (fw_ty ki f) (.int x) = .int x) (hfit : fits (fw_ty ki f) (.int x) = true)
    (hd : decode cc pc = .ok (.putfield ix, 3)) (kk : wa g z k n (A.sI a (upd (A.I a) f x)) (pc + 3) lv st) : wa g z k n A pc lv (.int x :: .ref a :: st) := by
  refine r_put (A' := A.sI a (upd (A.I a) f x)) C h h1 hm hfin hn hfit rfl rfl rfl (fun y hy => sI_o A _ hy) (fun _ _ => rfl) (fun _ _ => rfl) ?_ ?_ hd kk
  · rw [fw_vI ht, sI_s, pk_us]
  · intro j hj
    cases hc : fw_isI (fw_ty ki j) with
    | true => rw [fw_vI hc, fw_vI hc, sI_s, pk_un hj]
    | false =>
      unfold fw_val
      generalize fw_ty ki j = ty at hc
      cases ty <;> first | rfl | cases hc
theorem r_putR (C : CX g z cc own nL d mc ms) {ix ki f a x : Nat} (h : FL own ix ki f) (h1 : (A.G a).1 = ki) (hm : fw_mut ki = true) (hfin : ∀ Cn T N, fw_cl[ki]? = some (Cn, T, N) → (T f).2.2.2 = false ∨ (T f).1 = own ∧ z.M.name = "<init>") (ht : fw_isR (fw_ty ki f) = true)
    (hd : decode cc pc = .ok (.putfield ix, 3)) (kk : wa g z k n (A.sR a (va_up (A.R a) f (some x))) (pc + 3) lv st) : wa g z k n A pc lv (.ref x :: .ref a :: st) := by
  refine r_put (A' := A.sR a (va_up (A.R a) f (some x))) C h h1 hm hfin ?_ ?_ rfl rfl rfl (fun _ _ => rfl) (fun y hy => sR_o A _ hy) (fun _ _ => rfl) ?_ ?_ hd kk
  · generalize fw_ty ki f = ty at ht
    cases ty <;> first | rfl | cases ht
  · generalize fw_ty ki f = ty at ht
    cases ty <;> first | rfl | cases ht
  · rw [fw_vR ht, sR_s]
    simp [va_up, va_rf]
  · intro j hj
    cases hc : fw_isR (fw_ty ki j) with
    | true => rw [fw_vR hc, fw_vR hc, sR_s]; simp [va_up, hj]
    | false =>
      unfold fw_val
      generalize fw_ty ki j = ty at hc
      cases ty <;> first | rfl | cases hc
theorem r_putN (C : CX g z cc own nL d mc ms) {ix ki f a : Nat} (h : FL own ix ki f) (h1 : (A.G a).1 = ki) (hm : fw_mut ki = true) (hfin : ∀ Cn T N, fw_cl[ki]? = some (Cn, T, N) → (T f).2.2.2 = false ∨ (T f).1 = own ∧ z.M.name = "<init>") (ht : fw_isR (fw_ty ki f) = true)
    (hd : decode cc pc = .ok (.putfield ix, 3)) (kk : wa g z k n (A.sR a (va_up (A.R a) f none)) (pc + 3) lv st) : wa g z k n A pc lv (.null :: .ref a :: st) := by
  refine r_put (A' := A.sR a (va_up (A.R a) f none)) C h h1 hm hfin ?_ ?_ rfl rfl rfl (fun _ _ => rfl) (fun y hy => sR_o A _ hy) (fun _ _ => rfl) ?_ ?_ hd kk
  · generalize fw_ty ki f = ty at ht
    cases ty <;> first | rfl | cases ht
  · generalize fw_ty ki f = ty at ht
    cases ty <;> first | rfl | cases ht
  · rw [fw_vR ht, sR_s]
    simp [va_up, va_rf]
  · intro j hj
    cases hc : fw_isR (fw_ty ki j) with
    | true => rw [fw_vR hc, fw_vR hc, sR_s]; simp [va_up, hj]
    | false =>
      unfold fw_val
      generalize fw_ty ki j = ty at hc
      cases ty <;> first | rfl | cases hc
end
