/-! ROWS: a handler that takes whatever is thrown -/
set_option maxRecDepth 100000
section
variable {g : GZ} {z : ZX} {cc : ByteArray} {own : String} {nL d mc ms k n : Nat} {A : HA} {pc : Nat} {lv : List (Option Value)} {st : List Value}
theorem r_catchAny (C : CX g z cc own nL d mc ms) {q : Nat} {En : String} (pre : List ExceptionTableEntry) (x : ExceptionTableEntry) (suf : List ExceptionTableEntry) (hsplit : z.c.exceptionTable.toList = pre ++ x :: suf) (hpass : ∀ y ∈ pre, covers y pc = false) (hx : covers x pc = true) (h0 : x.catchType = 0)
    (he : fw_ex (A.G q).1 = some En) (kk : wa g z k n A x.handlerPc lv [.ref q]) : wx g z k n A pc lv q := by
  intro H locs ls st hR hL hl T hT X
  obtain ⟨ce, q1, q2, q3⟩ := fw_thrown C hR he
  obtain ⟨vm', X', stp⟩ := X.thenCaughtThrough q (g := F0 z.m pc ls st) rfl (Steps.refl _) (by rw [hT]; exact q1) (by rw [q2]; rfl) (by obtain ⟨k9, h9, -⟩ := Vm.findClass_spec q3; exact ⟨k9, h9⟩) pre x suf hsplit (fun y hy => Or.inl (hpass y hy)) hx (Or.inl h0)
  obtain ⟨t, a1, b1⟩ := kk H locs ls hR hL hl (T.setVm vm') hT X'
  exact ⟨t, stp.trans a1, b1⟩
end
