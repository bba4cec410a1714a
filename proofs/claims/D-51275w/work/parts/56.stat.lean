/-! ROWS: string constants, static fields that nobody writes -/
section
variable {g : GZ} {z : ZX} {cc : ByteArray} {own : String} {nL d mc ms k n : Nat} {A : HA} {pc : Nat} {lv : List (Option Value)} {st : List Value}
/-- what a string constant's entry holds at the start -/
abbrev SK (g : GZ) (own : String) (ix : Nat) (tx : String) (q : Nat) : Prop := vk_R own ix tx q g.s
/-- what a static field holds at the start -/
abbrev SZ (g : GZ) (C n d : String) (v : Value) : Prop := va_Z C n d v (fun q => g.b ≤ q) g.s g.s.heap
theorem r_ldcS (C : CX g z cc own nL d mc ms) {ix q : Nat} {tx : String} (hZ : SK g own ix tx q) (hd : decode cc pc = .ok (.ldc ix, 2)) (kk : wa g z k n A (pc + 2) lv (.ref q :: st)) : wa g z k n A pc lv st :=
  fun H locs ls hR hL hl => va_ldcS C.x C.b C.o (vk_R.warm C.wm hZ) hd (kk H locs ls hR hL hl)
theorem r_getS (C : CX g z cc own nL d mc ms) {ix : Nat} {cn fn fd : String} {v : Value} (hZ : SZ g cn fn fd v) (hlink : Cond.fieldLink own ix cn fn fd ∈ lw_all) (hd : decode cc pc = .ok (.getstatic ix, 3)) (kk : wa g z k n A (pc + 3) lv (v :: st)) : wa g z k n A pc lv st := by
  intro H locs ls hR hL hl
  obtain ⟨cf, kf, fi, f, a, cell, h1, h2, h3, h4, h5, h6, h7, h8⟩ := va_Z.moved C.wm.alike hZ
  exact W.gets C.x C.b C.o (C.w _ hlink) h1 h2 h3 h4 (by rw [hR.2.2.1 a (Nat.lt_of_not_le h8)]; exact h5) (fun e => by rw [e] at h6; cases h6) h7 rfl hd (kk H locs ls hR hL hl)
theorem r_getSN (C : CX g z cc own nL d mc ms) {ix : Nat} {cn fn fd host : String} {v : Value} (hZ : SZ g cn fn fd v) (hlink : Cond.fieldLinkNest own ix cn fn fd host ∈ lw_all) (hd : decode cc pc = .ok (.getstatic ix, 3)) (kk : wa g z k n A (pc + 3) lv (v :: st)) : wa g z k n A pc lv st := by
  intro H locs ls hR hL hl
  obtain ⟨cf, kf, fi, f, a, cell, h1, h2, h3, h4, h5, h6, h7, h8⟩ := va_Z.moved C.wm.alike hZ
  exact va_WgetsN C.x C.b C.o (C.w _ hlink) h1 h2 h3 h4 (by rw [hR.2.2.1 a (Nat.lt_of_not_le h8)]; exact h5) (fun e => by rw [e] at h6; cases h6) h7 rfl hd (kk H locs ls hR hL hl)
end
