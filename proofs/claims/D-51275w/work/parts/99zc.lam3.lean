/-! LAMBDAS, 3: rows: a call of a made object; the making of one -/
set_option maxRecDepth 100000
abbrev xDoes : MethodName := ⟨"LawnPaths$Change", "does", "(LLawnPaths$Lawn;)I"⟩
theorem callable_warm {s : State} {vm' : Vm} (hW : s.WarmedH vm') {σ : Lambda.Shape} {c : ClassId} (h : s.lambdaCallable σ c = true) : (s.setVm vm').lambdaCallable σ c = true := by
  have hA := hW.alike
  simp only [State.lambdaCallable] at h ⊢
  show (vm'.findClass σ.iface).any _ = true
  rw [hA.findClass]
  show ((s.vm.findClass σ.iface).any fun i => vm'.assignable c i && !((c :: vm'.superclasses c).any fun k => (declaredIn vm' σ.name σ.sam.toString k).any fun (_, x) => x.isPrivate || x.isStatic)) = true
  simp only [hA.assignable, hA.superclasses, hA.declaredIn]
  exact h
section
variable {g : GZ} {z : ZX} {cc : ByteArray} {own : String} {nL d mc ms k n : Nat} {A : HA} {pc : Nat} {lv : List (Option Value)} {st : List Value}
theorem r_callL (C : CX g z cc own nL d mc ms) {ki pcs ixs ix ct a l d' mc' ms' : Nat} {xs : MethodName} {σ : Lambda.Shape} {Po : Int32 → HA → Prop} {Px : Nat → HA → Prop} (hL : Lms g ki xs pcs ixs σ) (hσ : σ.iface = "LawnPaths$Change" ∧ σ.name = "does" ∧ σ.sam.toString = "(LLawnPaths$Lawn;)I")
    {cb : ByteArray} {n9 mi : Nat} {fi : Nat → Nat} {y9 : MethodName} (hF : ∀ U : State, g.s.WarmedH U.vm → FwAt U (g.lm ki) cb n9 fi mi y9) (hM : CtU g wI ⟨g.lm ki, 1⟩ d' mc' ms' [.ref a, .ref l] A Po Px) (hlink : Cond.methodLink own ix xDoes ∈ lw_all) (hki : 80 ≤ ki ∧ ki < 100) (h1 : (A.G a).1 = ki) (hdd : d' < d) (hk : k + mc' ≤ mc) (hs : n + ms' ≤ ms) (hsum : (st.map fun v => v.category).sum ≤ 8) (hlen : lv.length = nL) (hd : decode cc pc = .ok (.invokeinterface ix ct, 5))
    (kx : ∀ q A', Px q A' → (∃ E, fw_ex (A'.G q).1 = some E) → wx g z (k + mc') (n + ms') A' pc lv q) (kk : ∀ u A', Po u A' → wa g z (k + mc') (n + ms') A' (pc + 5) lv (.int u :: st)) : wa g z k n A pc lv (.ref l :: .ref a :: st) := by
  refine fw_go5 (ar := [Value.ref a, Value.ref l].toArray) (w := wI) (mc' := mc') (ms' := ms') (st := st) (Po := Po) (Px := Px) (fun H locs ls hR hl => ?_) kk kx
  intro T hT X
  have hW := C.wm
  -- the interface's method
  obtain ⟨r0, r, hn0, hrm0, hstR, hsigR⟩ := Cond.declares_spec (C.1.1 _ q1864)
  obtain ⟨cL, kL, r1, hcL, hkL, hiL, hfoundL, hn1⟩ := Cond.interfaceMethod_spec (C.1.1 _ q1863)
  cases hn0.symm.trans hn1
  have hr0cls : r0.cls = cL := Option.some.inj ((findClass_of_methodNamed hn0).symm.trans hcL)
  obtain ⟨hnameR, hdescR⟩ := name_of_methodNamed hn0 hrm0
  obtain ⟨dd, dk, hmade, hcan, hdk, hdn⟩ := hL.made
  obtain ⟨-, kM, -, -, -, -, -, iface', -, -, -, -, found, -, hkM, -, -, -, hi', -, -, -, -, -, -, hfound', -, -, -, -, -, -, -, -, -, -, hsel⟩ := Lambda.isMade_spec hmade
  rw [hσ.1] at hi'
  cases hcL.symm.trans hi'
  have hfr : found = r0 := by
    have h1 : g.s.methodFound? "LawnPaths$Change" "does" "(LLawnPaths$Lawn;)I" = some r0 := hfoundL
    simp only [State.methodFound?, hcL, hkL, hiL, Option.bind_eq_bind, Option.bind_some] at h1
    rw [hσ.2.1, hσ.2.2] at hfound'
    rw [hfound'] at h1
    exact Option.some.inj h1
  subst hfr
  obtain ⟨i2, hi2, hasg, hway⟩ := State.lambdaCallable_spec hcan
  rw [hσ.1] at hi2
  cases hcL.symm.trans hi2
  rw [hσ.2.1, hσ.2.2] at hway
  -- the same under warmer tables
  obtain ⟨kL', hkL', heL⟩ := hW.alike.2.2 _ _ hkL
  have hsel' : selectMethod z.e.platform z.s.vm (g.lm ki) found = .method ⟨g.lm ki, 1⟩ := by
    rw [Launch.admits_selectMethod X.admits]
    obtain ⟨-, kM', -, -, -, -, -, iface2, -, -, -, -, found2, -, hkM', -, -, -, hi2', -, -, -, -, -, -, hfound2, -, -, -, -, -, -, -, -, -, -, hsel2⟩ := Lambda.isMade_spec (Lambda.isMade_warmer hW hmade)
    have hm2 : z.s.methodFound? "LawnPaths$Change" "does" "(LLawnPaths$Lawn;)I" = some found := State.methodFound?_of_named (named_warm hW hn0) ⟨by decide, by decide⟩
    rw [hσ.1] at hi2'
    have hcL2 : z.s.vm.findClass "LawnPaths$Change" = some cL := by rw [hW.alike.findClass]; exact hcL
    cases hcL2.symm.trans hi2'
    have hiL' : kL'.isInterface = true := by rw [heL]; exact hiL
    simp only [State.methodFound?, hcL2, hkL', hiL', Option.bind_eq_bind, Option.bind_some] at hm2
    rw [hσ.2.1, hσ.2.2] at hfound2
    rw [hfound2] at hm2
    cases Option.some.inj hm2
    exact hsel2
  obtain ⟨methk, ck, t9, kt9, metht9, ⟨f1, f2, f3, f4, f5, f6, f7, f8, f9⟩, -⟩ := hF z.s hW
  obtain ⟨kM', hkM', heM⟩ := hW.alike.2.2 _ _ hkM
  obtain ⟨cell, c1, c2, c3, c4, c5⟩ := (hR.cell a).2.1 (by rw [h1]; exact hki.1) (by rw [h1]; exact hki.2)
  rw [h1] at c2
  have hsz : (F0 z.m pc ls st).locals.size = z.c.maxLocals := by show ls.size = _; rw [hl.1, hlen]; exact C.ml.symm
  obtain ⟨vm₁, X₁, hstep₁⟩ := X.invokeinterface C.x C.o (C.w _ hlink) (named_warm hW hn0) (by rw [hW.alike.method?]; exact hrm0) hstR (ki := kL') (by rw [hr0cls]; exact hkL') (by rw [heL]; exact hiL) ⟨by decide, by decide⟩ (a := a) (cell := cell) (kcell := kM') (by rw [hT]; exact c1)
    (fun q h => by rw [c3] at h; cases h) (by rw [c2]; exact hkM') (by rw [c2, hr0cls, hW.alike.assignable]; exact hasg) (m' := ⟨g.lm ki, 1⟩) (by rw [c2]; exact hsel') f1
    (by rw [c2, hnameR, hdescR]; simp only [hW.alike.superclasses, hW.alike.declaredIn]; exact hway) (by rw [f9]; decide) (by simp [Method.isAbstract, f9, hasFlag, Acc.abstract]) (g := F0 z.m pc ls (.ref l :: .ref a :: st)) rfl (argsL := [.ref l]) (rest := st) (by
      have h9 : parseMethodDescriptor xDoes.desc = some r.sig := hsigR
      have h8 : (parseMethodDescriptor xDoes.desc).map (fun d => d.parameters.length) = some 1 := by decide +kernel
      rw [h9] at h8
      exact (Option.some.inj h8).symm) rfl (by rw [C.b]; exact hd)
  obtain ⟨hfr2, hlo2⟩ := fw_rooms (nc := 2) (mc' := mc') (ms' := ms') C hdd (by omega)
  have hW1 : g.s.WarmedH (T.setVm vm₁).vm := State.WarmedH.trans hW X₁.warmed
  obtain ⟨methk2, ck2, -, -, -, ⟨w1, w2, w3, w4, -⟩, -⟩ := hF (T.setVm vm₁) hW1
  rcases mu_back (g := F0 z.m pc ls st) (A := ⟨T.setVm vm₁, locs, k, n⟩) (ig := .invokeinterface ix ct) (len := 5) (W9 := 8) (hM C.1 z.l C.nt) (fw_blind g _ A) rfl rfl hfr2 hlo2 w1 w2 w4 X₁ rfl hsz (by rw [C.b]; exact hd) (lv_room hsum) ⟨by rw [C.r]; exact hk, by rw [C.r]; exact hs, fw_pre C hR _ (T.setVm vm₁) hT X₁.warmed⟩ with ⟨v, ⟨U', l2, cc2, s2⟩, X', ⟨g', mk', t, L, e1, e2, hq, h1', hL', h2, h3⟩, stp⟩ | ⟨q, ⟨U', l2, cc2, s2⟩, X', ⟨g', mk', t, L, E, ce, e1, e2, hq, hce, hcv, hcl, h1', hL', h2, h3⟩, stp⟩
  · dsimp only [Pt.U, Pt.locs, Pt.cells, Pt.slots] at X' e1 e2 h1' h2 h3 stp
    subst h1'; subst h2; subst h3
    exact Or.inl ⟨v, (T.setVm vm₁).calling g' mk' _, t, U', L, hT, X', hL', e1, e2, hq, fun target h => hstep₁ _ (fun acts => by rw [doInvoke_state]; exact stp.trans h)⟩
  · dsimp only [Pt.U, Pt.locs, Pt.cells, Pt.slots] at X' e1 e2 h1' h2 h3 stp hcl
    subst h1'; subst h2; subst h3
    exact Or.inr ⟨q, (T.setVm vm₁).calling g' mk' _, t, U', L, E, ce, hT, X', hL', e1, e2, hq, hce, hcv, vx_cls X₁.warmed hcl, hstep₁ _ (fun acts => by rw [doInvoke_state]; exact stp)⟩
end
