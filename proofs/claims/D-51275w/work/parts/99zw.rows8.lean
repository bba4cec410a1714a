/-! ROWS: a made object into an array of changes -/
set_option maxRecDepth 100000
section
variable {g : GZ} {z : ZX} {cc : ByteArray} {own : String} {nL d mc ms k n : Nat} {A : HA} {pc : Nat} {lv : List (Option Value)} {st : List Value}
theorem r_aastL (C : CX g z cc own nL d mc ms) {x : MethodName} {σ : Lambda.Shape} {pcs ixs kl : Nat} (hL : Lms g kl x pcs ixs σ) (hσ : σ.iface = "LawnPaths$Change") (hkl : 80 ≤ kl ∧ kl < 100) {ki a j v : Nat} {i : Int32} (h1 : (A.G a).1 = ki) (hki : (decide (100 ≤ ki) && decide (ki / 100 = 6) && fw_isR (fw_at 6) && fw_mut ki) = true) (hv : (A.G v).1 = kl) (hi : i = nI j) (hj : j < A.n a) (hj2 : j < 2147483648) (hd : decode cc pc = .ok (.aastore, 1))
    (kk : wa g z k n (A.sR a (va_up (A.R a) j (some v))) (pc + 1) lv st) : wa g z k n A pc lv (.ref v :: .int i :: .ref a :: st) := by
  intro H locs ls hR hLs hl
  subst hi
  have hW := C.wm
  simp only [Bool.and_eq_true, decide_eq_true_eq] at hki
  obtain ⟨c, q1, q2, q3, q4, q5⟩ := (hR.cell a).2.2 (by rw [h1]; exact hki.1.1.1)
  rw [h1, hki.1.1.2] at q2 q5
  have hb : g.b ≤ a := hR.mut (by rw [h1]; exact hki.2)
  obtain ⟨cv, g1, g2, g3, -, -⟩ := (hR.cell v).2.1 (by rw [hv]; exact hkl.1) (by rw [hv]; exact hkl.2)
  rw [hv] at g2
  have ht : (fw_tys g)[6]? = some (g.dA 6, .object "LawnPaths$Change") := rfl
  obtain ⟨kA, comp, k1, k2, k3, -⟩ := (C.K.2 6 _ ht).2
  obtain ⟨kE, hkE, -⟩ := Vm.findClass_spec k3
  obtain ⟨d9, dk9, hmade, hcan, -, -⟩ := hL.made
  obtain ⟨-, kM, -, -, -, -, -, -, -, -, -, -, -, -, hkM, -⟩ := Lambda.isMade_spec hmade
  obtain ⟨kC, hkC, -⟩ := hW.alike.2.2 _ _ hkM
  obtain ⟨i2, hi2, hasg, -⟩ := State.lambdaCallable_spec hcan
  rw [hσ] at hi2
  have e1' : i2 = comp := by
    have h9 : z.s.vm.findClass "LawnPaths$Change" = some i2 := by rw [hW.alike.findClass]; exact hi2
    exact Option.some.inj (h9.symm.trans k3)
  subst e1'
  have f3 : z.s.vm.assignable cv.cls i2 = true := by rw [g2, hW.alike.assignable]; exact hasg
  refine W.aast C.x C.b q1 q3.st q3.1.2 (by rw [q2]; exact k1) k2 rfl hkE ⟨nI_pos (by omega), by rw [q4, nI_nat hj2]; exact hj⟩ g1 (fun q h => by rw [h] at g3; cases g3) (by rw [g2]; exact hkC) f3 rfl rfl hd fun H' e1 e2 e3 => ?_
  rw [nI_nat hj2] at e1 ⊢
  refine kk H' _ ls (fw_ast (A' := A.sR a (va_up (A.R a) j (some v))) hR h1 hki.1.1.1 hki.1.1.2 hb q2 q3 q4 q5 hj rfl rfl rfl (fun _ _ => rfl) (fun y hy => sR_o A _ hy) (fun _ _ => rfl) (v := .ref v) ?_ ?_ e1 e2 e3) (fun q hq => ?_) hl
  · rw [fw_vR hki.1.2, sR_s]
    simp [va_up, va_rf]
  · intro i hi
    rw [fw_vR hki.1.2, fw_vR hki.1.2, sR_s]
    simp [va_up, hi]
  · rcases List.mem_append.mp hq with hq | hq
    · exact hLs q hq
    · rw [List.mem_singleton.mp hq]; exact hb
theorem r_storeL (C : CX g z cc own nL d mc ms) (hK : LamK g) {x : Chg} {a j v : Nat} {i : Int32} (hI : LamIs A v x) (h1 : (A.G a).1 = 640) (hi : i = nI j) (hj : j < A.n a) (hj2 : j < 2147483648) (hd : decode cc pc = .ok (.aastore, 1))
    (kk : wa g z k n (A.sR a (va_up (A.R a) j (some v))) (pc + 1) lv st) : wa g z k n A pc lv (.ref v :: .int i :: .ref a :: st) := by
  unfold LamIs at hI
  rcases hI with ⟨-, h | h, -⟩ | ⟨-, h | h, -⟩ | ⟨-, h | h, -⟩ | ⟨-, h | h, -⟩ | ⟨-, h | h, -⟩ | ⟨-, h | h, -⟩ | ⟨-, h | h, -⟩ | ⟨-, h, -⟩
  · exact r_aastL C hK.s80 rfl (by decide) h1 rfl h hi hj hj2 hd kk
  · exact r_aastL C hK.s88 rfl (by decide) h1 rfl h hi hj hj2 hd kk
  · exact r_aastL C hK.s84 rfl (by decide) h1 rfl h hi hj hj2 hd kk
  · exact r_aastL C hK.s89 rfl (by decide) h1 rfl h hi hj hj2 hd kk
  · exact r_aastL C hK.s85 rfl (by decide) h1 rfl h hi hj hj2 hd kk
  · exact r_aastL C hK.s90 rfl (by decide) h1 rfl h hi hj hj2 hd kk
  · exact r_aastL C hK.s86 rfl (by decide) h1 rfl h hi hj hj2 hd kk
  · exact r_aastL C hK.s91 rfl (by decide) h1 rfl h hi hj hj2 hd kk
  · exact r_aastL C hK.s87 rfl (by decide) h1 rfl h hi hj hj2 hd kk
  · exact r_aastL C hK.s92 rfl (by decide) h1 rfl h hi hj hj2 hd kk
  · exact r_aastL C hK.s81 rfl (by decide) h1 rfl h hi hj hj2 hd kk
  · exact r_aastL C hK.s93 rfl (by decide) h1 rfl h hi hj hj2 hd kk
  · exact r_aastL C hK.s82 rfl (by decide) h1 rfl h hi hj hj2 hd kk
  · exact r_aastL C hK.s94 rfl (by decide) h1 rfl h hi hj hj2 hd kk
  · exact r_aastL C hK.s83 rfl (by decide) h1 rfl h hi hj hj2 hd kk
end
