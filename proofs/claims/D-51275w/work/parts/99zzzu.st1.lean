/-! THE START, 1: what premises give of strings and arrays -/
set_option maxRecDepth 100000
/-- what the Statement gives of the start, one by one -/
def GvL : List Cond := flatC (Jvm.Cond.and given_1 narrow_1)
abbrev oldA (s : State) : Nat → Prop := fun q => s.heap.size ≤ q
theorem old_not (s : State) : ∀ a : Nat, a < s.heap.size → ¬ oldA s a := fun a h q => absurd h (Nat.not_lt.mpr q)
section
variable {args : Array Value} {s : State}
theorem st_mem {n k : Nat} {L : List Cond} (h : (GvL.drop n).take k = L) (hgv : (Jvm.Cond.and given_1 narrow_1).before args s = true) : ∀ w ∈ L, w.before args s = true := fun w hw => by
  rw [← h] at hw
  exact flat_of_before _ hgv w (List.mem_of_mem_drop (List.mem_of_mem_take hw))
theorem st_one {n : Nat} {w : Cond} (h : GvL[n]? = some w) (hgv : (Jvm.Cond.and given_1 narrow_1).before args s = true) : w.before args s = true := flat_of_before _ hgv w (List.mem_of_getElem? h)
/-- an array, by premises on it, its length, its elements -/
theorem st_arr {tm : Term} {ty : FieldType} {N : Nat} {f : Nat → Value} (hN : N < 2 ^ 31) (harr : (Cond.arrayOf tm ty).before args s = true) (hlen : (Cond.eq (.length tm) (.int (Int32.ofNat N))).before args s = true) (hel : ∀ j : Nat, j < N → (Term.elem tm (.int (Int32.ofNat j))).eval args s none [] s = some (f j)) :
    ∃ (v : Nat) (cell : Cell), tm.eval args s none [] s = some (.ref v) ∧ s.heap[v]? = some cell ∧ s.isArrayOf cell ty ∧ (cell.vm.isStatics = false ∧ cell.vm ≠ .unknown) ∧ cell.slots.size = N ∧ ∀ j, j < N → cell.slots[j]? = some (f j) := by
  have hl := va_eqt hlen
  obtain ⟨v, cell, ht, hat, hv⟩ := Term.length_spec hl
  have hsz : cell.slots.size < 2 ^ 31 := by
    simp only [Term.eval, ht, hat, Option.bind_eq_bind, Option.bind_some] at hl
    by_cases hlt : cell.slots.size < 2147483648
    · exact hlt
    · simp [hlt] at hl
  obtain ⟨hcell, hkn, hst, -⟩ := State.arrayAt?_spec hat
  obtain ⟨hof, -⟩ := Cond.arrayOf_spec harr ht hcell
  have hN' : cell.slots.size = N := by
    have e : Int32.ofNat cell.slots.size = Int32.ofNat N := (Value.int.inj hv).symm
    have h1 : (Int32.ofNat cell.slots.size).toNatClampNeg = cell.slots.size := Int32.toNatClampNeg_ofNat_of_lt hsz
    have h2 : (Int32.ofNat N).toNatClampNeg = N := Int32.toNatClampNeg_ofNat_of_lt hN
    rw [e, h2] at h1
    exact h1.symm
  refine ⟨v, cell, ht, hcell, hof, ⟨hst, hkn⟩, hN', fun j hj => ?_⟩
  obtain ⟨a, i, cell2, h1, h2, h3, h4, h5⟩ := Term.elem_spec (hel j hj)
  cases ht.symm.trans h1
  cases hat.symm.trans h3
  have hi : i = Int32.ofNat j := by
    have e : (Term.int (Int32.ofNat j)).eval args s none [] s = some (.int (Int32.ofNat j)) := rfl
    cases h2.symm.trans e
    rfl
  have hc : i.toNatClampNeg = j := by rw [hi]; exact Int32.toNatClampNeg_ofNat_of_lt (Nat.lt_trans hj hN)
  rw [hc] at h4 h5
  exact h5
end
/-- what is said of a string constant, in the premises' order -/
def strE (own : String) (ix : Nat) (l : List Nat) : List Cond := (List.range l.length).map fun j => .eq (.elem (.field (.string own ix) "java/lang/String" "value" "[B") (.int (Int32.ofNat j))) (.int (Int32.ofNat (l.getD j 0)))
def strH (own : String) (ix : Nat) (l : List Nat) (h z : Int32) : List Cond := [.exactly (.string own ix) "java/lang/String", .eq (.field (.string own ix) "java/lang/String" "coder" "B") (.int 0), .arrayOf (.field (.string own ix) "java/lang/String" "value" "[B") .byte, .eq (.length (.field (.string own ix) "java/lang/String" "value" "[B")) (.int (Int32.ofNat l.length))] ++ (strE own ix l ++ [.eq (.field (.string own ix) "java/lang/String" "hash" "I") (.int h), .eq (.field (.string own ix) "java/lang/String" "hashIsZero" "Z") (.int z)])
/-- a field of a String -/
def OFs (s : State) (c : Cell) (n d : String) (v : Value) : Prop := ∃ cf k i f, s.fieldFound? "java/lang/String" n d = some (cf, k, i, f) ∧ c.slots[f.slot]? = some v
/-- a string constant at the start: the cell q, its bytes' cell v -/
def SC (s : State) (own : String) (ix : Nat) (tx : String) (l : List Nat) (h z : Int32) (q v : Nat) : Prop :=
  vk_R own ix tx q s ∧ (∃ c, s.heap[q]? = some c ∧ (c.vm.isStatics = false ∧ c.vm ≠ .unknown) ∧ s.vm.findClass "java/lang/String" = some c.cls ∧ OFs s c "value" "[B" (.ref v) ∧ OFs s c "coder" "B" (.int 0) ∧ OFs s c "hash" "I" (.int h) ∧ OFs s c "hashIsZero" "Z" (.int z)) ∧
  ∃ c, s.heap[v]? = some c ∧ (c.vm.isStatics = false ∧ c.vm ≠ .unknown) ∧ s.vm.findClass "[B" = some c.cls ∧ c.slots.size = l.length ∧ ∀ j, j < l.length → c.slots[j]? = some (.int (Int32.ofNat (l.getD j 0)))
theorem st_of {args : Array Value} {s : State} {q : Nat} {c : Cell} {t : Term} {n d : String} {v : Value} (hc : s.heap[q]? = some c) (ht : t.eval args s none [] s = some (.ref q)) (hv : (Term.field t "java/lang/String" n d).eval args s none [] s = some v) : OFs s c n d v ∧ c.vm ≠ .unknown := by
  obtain ⟨cf, k, i, f, c2, h1, -, h2, h3, h4, -⟩ := vk_OFof ht hv (old_not s)
  cases hc.symm.trans h2
  exact ⟨⟨cf, k, i, f, h1, h4⟩, h3⟩
theorem st_str {args : Array Value} {s : State} {own tx : String} {ix : Nat} {l : List Nat} {h z : Int32} (hl : l.length < 2 ^ 31) (hs : (Cond.stringRef own ix tx).before args s = true) (hH : ∀ w ∈ strH own ix l h z, w.before args s = true) (hB : (Cond.exactly (.field (.string own ix) "java/lang/String" "value" "[B") "[B").before args s = true) : ∃ q v, SC s own ix tx l h z q v := by
  have hH0 := List.forall_mem_cons.mp hH
  have hH1 := List.forall_mem_cons.mp hH0.2
  have hH2 := List.forall_mem_cons.mp hH1.2
  have hH3 := List.forall_mem_cons.mp hH2.2
  have hE : ∀ w ∈ strE own ix l, w.before args s = true := fun w hw => hH w (List.mem_append_right _ (List.mem_append_left _ hw))
  have hH4 := List.forall_mem_cons.mp (fun w hw => hH w (List.mem_append_right _ (List.mem_append_right _ hw)))
  have hH5 := List.forall_mem_cons.mp hH4.2
  obtain ⟨q, cS, cell, k, q1, q2, q3, q4, q5, q6, -⟩ := Cond.exactly_spec (args := args) (first := s) (o := none) (s := s) (idx := []) (t := .string own ix) (cls := "java/lang/String") hH0.1
  obtain ⟨v, cv, v1, v2, v3, v4, v5, v6⟩ := st_arr (f := fun j => .int (Int32.ofNat (l.getD j 0))) hl hH2.1 hH3.1 (fun j hj => va_eqt (hE _ (List.mem_map.mpr ⟨j, List.mem_range.mpr hj, rfl⟩)))
  obtain ⟨v', cB, cv', kB, b1, b2, b3, b4, b5, b6, -⟩ := Cond.exactly_spec (args := args) (first := s) (o := none) (s := s) (idx := []) (t := .field (.string own ix) "java/lang/String" "value" "[B") (cls := "[B") hB
  cases v1.symm.trans b1
  cases v2.symm.trans b3
  obtain ⟨f1, hk⟩ := st_of q3 q1 v1
  exact ⟨q, v, vk_R.of hs q1, ⟨cell, q3, ⟨q5, hk⟩, by rw [q6]; exact q2, f1, (st_of q3 q1 (va_eqt hH1.1)).1, (st_of q3 q1 (va_eqt hH4.1)).1, (st_of q3 q1 (va_eqt hH5.1)).1⟩, cv, v2, v4, by rw [b6]; exact b2, v5, v6⟩
