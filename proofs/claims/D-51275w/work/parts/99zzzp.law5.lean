/-! THE LAW, 5: rows for its body -/
set_option maxRecDepth 100000
/-- the script -/
def Scr (g : GZ) (b Ls : Nat) (xs : Nat → Int32) : Prop := b < g.b ∧ va_X b Ls xs g.s g.s.heap ∧ Ls ≤ 144
section
variable {g : GZ} {z : ZX} {cc : ByteArray} {own : String} {nL d mc ms k n : Nat} {A : HA} {pc : Nat} {lv : List (Option Value)} {st : List Value}
theorem r_scr (C : CX g z cc own nL d mc ms) {b Ls j : Nat} {xs : Nat → Int32} {i : Int32} (S : Scr g b Ls xs) (hi : i = nI j) (hj : j < Ls) (hd : decode cc pc = .ok (.iaload, 1)) (kk : wa g z k n A (pc + 1) lv (.int (xs j) :: st)) : wa g z k n A pc lv (.int i :: .ref b :: st) := by
  intro H locs ls hR hL hl
  subst hi
  obtain ⟨s1, s2, s3⟩ := S
  obtain ⟨scr, h1, h2, h3, h4, h5⟩ := va_X.moved C.wm.alike s2
  have hj2 : j < 2147483648 := by omega
  refine W.iald (v := .int (xs j)) C.x C.b (by rw [hR.2.2.1 b s1]; exact h1) h2 h3 (by rw [h4]; exact vp_in_of2 hj hj2) ?_ rfl rfl hd (kk H locs ls hR hL hl)
  rw [nI_nat hj2]
  exact h5 j hj
theorem r_slen (C : CX g z cc own nL d mc ms) {b Ls : Nat} {xs : Nat → Int32} (S : Scr g b Ls xs) (hd : decode cc pc = .ok (.arraylength, 1)) (kk : wa g z k n A (pc + 1) lv (.int (nI Ls) :: st)) : wa g z k n A pc lv (.ref b :: st) := by
  intro H locs ls hR hL hl
  obtain ⟨s1, s2, s3⟩ := S
  obtain ⟨scr, h1, h2, h3, h4, h5⟩ := va_X.moved C.wm.alike s2
  exact W.alen (n := nI Ls) C.x C.b (by rw [hR.2.2.1 b s1]; exact h1) h2 (by rw [h4]; rfl) rfl rfl hd (kk H locs ls hR hL hl)
theorem r_ne0 (C : CX g z cc own nL d mc ms) {x : Int32} (hif : decode cc pc = .ok (.ifCond .eq 7, 3)) (h1 : decode cc (pc + 3) = .ok (.iconst 1, 1)) (hg : decode cc (pc + 4) = .ok (.goto 4, 3)) (h0 : decode cc (pc + 7) = .ok (.iconst 0, 1)) (kk : wa g z k n A (pc + 8) lv (.int (bI (¬ x = 0)) :: st)) : wa g z k n A pc lv (.int x :: st) := by
  refine r_if_eq (pc := pc) (tgt := pc + 7) C hif (by omega) (fun h => ?_) (fun h => ?_)
  · refine r_iconst (pc := pc + 7) C h0 ci_0 ?_
    refine r_top (bI_00 (p := ¬ x = 0) (fun q => q h)) ?_
    exact kk
  · refine r_iconst (pc := pc + 3) C h1 ci_1 ?_
    refine r_goto (pc := pc + 4) (tgt := pc + 8) C hg (by omega) ?_
    refine r_top (bI_1 h) ?_
    exact kk
end
