/-! ROWS, MORE: an inherited field under the name of the class that inherits it -/
set_option maxRecDepth 100000
def FS (own : String) (ix ki f : Nat) : Prop := (1 ≤ ki ∧ ki < 40) ∧ ∃ (Cn : String) (T : u_T) (N : Nat) (ref : String), fw_cl[ki]? = some (Cn, T, N) ∧ (∀ w ∈ u_ws Cn T N, w ∈ lw_all) ∧ (∀ j, j < N → parseFieldDescriptor (T j).2.2.1 = some (fw_ty ki j)) ∧ (∀ a, a < N → ∀ b, b < N → a ≠ b → (T a).2.1 ≠ (T b).2.1) ∧ f < N ∧
  Cond.fieldLink own ix ref (T f).2.1 (T f).2.2.1 ∈ lw_all ∧ Cond.sameField ref (T f).1 (T f).2.1 (T f).2.2.1 ∈ lw_all
theorem FS.of {own : String} {ix ki f : Nat} (Cn : String) (T : u_T) (N : Nat) (ref : String) (hk : (decide (1 ≤ ki) && decide (ki < 40)) = true) (h1 : fw_cl[ki]? = some (Cn, T, N)) (h2 : ∀ w ∈ u_ws Cn T N, w ∈ lw_all) (h3 : ∀ j, j < N → parseFieldDescriptor (T j).2.2.1 = some (fw_ty ki j)) (h4 : ∀ a, a < N → ∀ b, b < N → a ≠ b → (T a).2.1 ≠ (T b).2.1) (h5 : decide (f < N) = true) (h6 : Cond.fieldLink own ix ref (T f).2.1 (T f).2.2.1 ∈ lw_all) (h7 : Cond.sameField ref (T f).1 (T f).2.1 (T f).2.2.1 ∈ lw_all) : FS own ix ki f := by
  simp only [Bool.and_eq_true, decide_eq_true_eq] at hk
  exact ⟨hk, Cn, T, N, ref, h1, h2, h3, h4, of_decide_eq_true h5, h6, h7⟩
section
variable {g : GZ} {z : ZX} {cc : ByteArray} {own : String} {nL d mc ms k n : Nat} {A : HA} {pc : Nat} {lv : List (Option Value)} {st : List Value}
theorem r_sgetI (C : CX g z cc own nL d mc ms) {ix ki f a : Nat} (h : FS own ix ki f) (h1 : (A.G a).1 = ki) (ht : fw_isI (fw_ty ki f) = true) (hd : decode cc pc = .ok (.getfield ix, 3)) (kk : wa g z k n A (pc + 3) lv (.int (A.I a f) :: st)) : wa g z k n A pc lv (.ref a :: st) := by
  intro H locs ls hR hL hl
  obtain ⟨⟨a1, a2⟩, Cn, T, N, ref, hcl, hin, -, -, hf, hlk, hsm⟩ := h
  subst h1
  obtain ⟨r, hr, cell, q1, q2, q3, q4⟩ := (hR.cell a).1 a1 a2
  cases Option.some.inj (hr.symm.trans hcl)
  obtain ⟨hS, hfc, kC, hkC, hkind⟩ := C.K.1 _ _ hcl
  obtain ⟨cf, kf, fi, fd, hi, hsl⟩ := hS f hf
  refine W.getf C.x C.b C.o (C.w _ hlk) (u_same (C.w _ hsm) _ hi) (u_facts hfc hkC (u_lays C.w hin hf) hi).1 q1 q3.1.2 (v := .int (A.I a f)) ?_ rfl rfl hd (kk H locs ls hR hL hl)
  rw [hsl, q4 f hf]
  exact congrArg some (fw_vI ht A a f)
theorem r_sputI (C : CX g z cc own nL d mc ms) {ix ki f a : Nat} {x : Int32} (h : FS own ix ki f) (h1 : (A.G a).1 = ki) (hm : fw_mut ki = true) (hfin : ∀ Cn T N, fw_cl[ki]? = some (Cn, T, N) → (T f).2.2.2 = false) (ht : fw_isI (fw_ty ki f) = true) (hn : narrow (fw_ty ki f) (.int x) = .int x) (hfit : fits (fw_ty ki f) (.int x) = true)
    (hd : decode cc pc = .ok (.putfield ix, 3)) (kk : wa g z k n (A.sI a (upd (A.I a) f x)) (pc + 3) lv st) : wa g z k n A pc lv (.int x :: .ref a :: st) := by
  intro H locs ls hR hLo hl
  obtain ⟨⟨a1, a2⟩, Cn, T, N, ref, hcl, hin, hty, hnm, hf, hlk, hsm⟩ := h
  obtain ⟨r, hr, cell, q1, q2, q3, q4⟩ := (hR.cell a).1 (by rw [h1]; exact a1) (by rw [h1]; exact a2)
  rw [h1] at hr q2 q4
  cases Option.some.inj (hr.symm.trans hcl)
  obtain ⟨hS, hfc, kC, hkC, hkind⟩ := C.K.1 _ _ hcl
  obtain ⟨cf, kf, fi, fd, hi, hsl⟩ := hS f hf
  have hlay := C.w _ (hin _ (u_in_lay hf))
  have hst := (u_facts hfc hkC (u_lays C.w hin hf) hi).1
  have hb : g.b ≤ a := hR.mut (by rw [h1]; exact hm)
  have hLo' : ∀ q ∈ locs ++ [(⟨a, fd.slot⟩ : Loc)], g.b ≤ q.base := by
    intro q hq
    rcases List.mem_append.mp hq with hq | hq
    · exact hLo q hq
    · rw [List.mem_singleton.mp hq]; exact hb
  have go : ∀ H' : Heap, H'[a]? = some (cell.setSlot fd.slot (.int x)) → H'.size = H.size → (∀ q, q ≠ a → H'[q]? = H[q]?) → W z.p z.l z.e z.R z.s z.m z.a z.b z.M z.c H' (locs ++ [⟨a, fd.slot⟩]) k n z.Q (F0 z.m (pc + 3) ls st) := by
    intro H' e1 e2 e3
    rw [hsl] at e1
    refine kk H' _ ls (fw_put (A' := A.sI a (upd (A.I a) f x)) C.K C.w hR h1 a1 a2 hm hcl hin hty hnm hf q2 q3 q4 rfl rfl rfl (fun y hy => sI_o A _ hy) (fun _ _ => rfl) (fun _ _ => rfl) (by rw [fw_vI ht, sI_s, pk_us]) (fun j hj => ?_) e1 e2 e3) hLo' hl
    cases hc : fw_isI (fw_ty ki j) with
    | true => rw [fw_vI hc, fw_vI hc, sI_s, pk_un hj]
    | false =>
      unfold fw_val
      generalize fw_ty ki j = ty at hc
      cases ty <;> first | rfl | cases hc
  unfold u_lay at hlay
  rw [if_neg (by rw [hfin _ _ _ hcl]; decide)] at hlay
  have h6 := u_store hfc hkC hkind hlay hi (hty f hf) hn hfit
  exact W.putK C.x C.b (f := fd) ⟨C.o, C.w _ hlk, ⟨_, _, _, u_same (C.w _ hsm) _ hi⟩, hst⟩ (by rw [q2]; exact h6) q1 (q3.2 hb) (by rw [hsl]; exact k2_hasslot (q4 f hf)) rfl rfl hd go
end
