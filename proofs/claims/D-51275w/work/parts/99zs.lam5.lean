/-! LAMBDAS, 5: rows: an object that keeps nothing -/
set_option maxRecDepth 100000
section
variable {g : GZ} {z : ZX} {cc : ByteArray} {own : String} {nL d mc ms k n : Nat} {A : HA} {pc : Nat} {lv : List (Option Value)} {st : List Value}
theorem r_indyC (C : CX g z cc own nL d mc ms) {x : MethodName} {ki ix : Nat} {σ : Lambda.Shape} (hN : z.s.methodNamed? x = some z.m) (hL : Lms g ki x pc ix σ) (hσ : σ.captured = []) (hd5 : 52 ≤ d) (hsum : (st.map fun v => v.category).sum ≤ 8) (hlen : lv.length = nL) (hd : decode cc pc = .ok (.invokedynamic ix, 5)) (kk : wa g z k n A (pc + 5) lv (.ref (g.c ki) :: st)) : wa g z k n A pc lv st := by
  intro H locs ls hR hLs hl T hT X
  have hW := C.wm
  obtain ⟨one, hat, hone⟩ := hL
  obtain ⟨m, kS, cfS, i0, p0, lk, hm, hkS, -, -, -, hfind, -, -, hlk⟩ := State.lambdaAt?_spec hat
  cases hN.symm.trans (named_warm hW hm)
  obtain ⟨a0, rfl, e0⟩ : ∃ a0, lk = .constant a0 ∧ one = some a0 := by
    rcases hlk with ⟨a, cell, h1, h2, -⟩ | ⟨-, -, h⟩
    · exact ⟨a, h1, h2⟩
    · exact absurd hσ h
  have e1 : a0 = g.c ki := Option.some.inj (e0.symm.trans (hone hσ))
  subst e1
  obtain ⟨kS', hkS', heS⟩ := hW.alike.2.2 _ _ hkS
  have hsz : (F0 z.m pc ls st).locals.size = z.c.maxLocals := by show ls.size = _; rw [hl.1, hlen]; exact C.ml.symm
  obtain ⟨t, a1, b1⟩ := kk H locs ls hR hLs hl T hT X
  refine ⟨t, X.lambdaConstant C.x (g := F0 z.m pc ls st) rfl hsz (by rw [C.b]; exact hd) hkS' (by rw [heS]; exact hfind) ?_ a1, b1⟩
  rw [X.admits.platform, C.r]
  show 2 * 0 + (st.map fun v => v.category).sum + 3072 ≤ 60 * d
  omega
end
