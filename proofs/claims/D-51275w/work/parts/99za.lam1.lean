/-! LAMBDAS, 1: the forwarding method of a made class, and a call of it -/
set_option maxRecDepth 100000
/-- what the forwarding method's bytes are: n values that were kept, then the parameter, then the static method -/
def FwB (cb : ByteArray) (n : Nat) (fi : Nat → Nat) (mi : Nat) : Prop :=
  (∀ j, j < n → decode cb (4 * j) = .ok (.aload_n 0, 1) ∧ decode cb (4 * j + 1) = .ok (.getfield (fi j), 3)) ∧ decode cb (4 * n) = .ok (.aload_n 1, 1) ∧ decode cb (4 * n + 1) = .ok (.invokestatic mi, 3) ∧ decode cb (4 * n + 4) = .ok (.ireturn, 1)
/-- the made class cK, as the tables have it -/
def FwAt (U : State) (cK : ClassId) (cb : ByteArray) (n : Nat) (fi : Nat → Nat) (mi : Nat) (y : MethodName) : Prop :=
  ∃ (methk : Method) (ck : Code) (t : MethodId) (kt : Class) (metht : Method), (U.vm.method? ⟨cK, 1⟩ = some methk ∧ methk.code = some ck ∧ ck.code = cb ∧ ck.maxLocals = 2 ∧ ck.exceptionTable = #[] ∧ methk.locks = false ∧ U.plainMethod ⟨cK, 1⟩ ∧ methk.sig.returnType = some .int ∧ methk.accessFlags = 1) ∧
    (∀ j, j < n → ∃ fld : Field, U.vm.fieldReady cK (fi j) cK fld ∧ fld.isStatic = false ∧ fld.slot = j) ∧
    ((∀ e : Env, plainRef U e cK mi) ∧ U.vm.methodReady cK mi t ∧ U.vm.classes[t.cls]? = some kt ∧ U.vm.method? t = some metht ∧ signaturePolymorphic kt metht = false ∧ metht.isStatic = true ∧ kt.init = .initialized ∧ metht.sig.parameters.length = n + 1 ∧ U.methodNamed? y = some t)
section
variable {g : GZ} {z : ZX} {k n pc : Nat} {A : HA} {lv r : List (Option Value)} {st : List Value} {cb : ByteArray}
theorem y_aload0 (h1 : z.p.tables.exec = Jvm.exec) (h2 : z.c.code = cb) {x : Nat} (hd : decode cb pc = .ok (.aload_n 0, 1)) (kk : wa g z k n A (pc + 1) (some (.ref x) :: r) (.ref x :: st)) : wa g z k n A pc (some (.ref x) :: r) st := fun H locs ls hR hL hl => lv_aload_n h1 h2 hd rfl (hl.at rfl) (kk H locs ls hR hL hl)
theorem y_aload1 (h1 : z.p.tables.exec = Jvm.exec) (h2 : z.c.code = cb) {a0 : Option Value} {x : Nat} (hd : decode cb pc = .ok (.aload_n 1, 1)) (kk : wa g z k n A (pc + 1) (a0 :: some (.ref x) :: r) (.ref x :: st)) : wa g z k n A pc (a0 :: some (.ref x) :: r) st := fun H locs ls hR hL hl => lv_aload_n h1 h2 hd rfl (hl.at rfl) (kk H locs ls hR hL hl)
theorem y_getf (h1 : z.p.tables.exec = Jvm.exec) (h2 : z.c.code = cb) {a fi j : Nat} {v : Value} (hF : ∀ vm', z.s.WarmedH vm' → ∃ fld : Field, vm'.fieldReady z.m.cls fi z.m.cls fld ∧ fld.isStatic = false ∧ fld.slot = j) (hC : ∀ H, Rp g A H → ∃ c : Cell, H[a]? = some c ∧ c.vm = .none ∧ c.slots[j]? = some v) (hd : decode cb pc = .ok (.getfield fi, 3)) (kk : wa g z k n A (pc + 3) lv (v :: st)) : wa g z k n A pc lv (.ref a :: st) := by
  intro H locs ls hR hL hl T hT X
  obtain ⟨t, a1, b1⟩ := kk H locs ls hR hL hl T hT X
  obtain ⟨fld, f1, f2, f3⟩ := hF T.vm X.warmed
  obtain ⟨c, c1, c2, c3⟩ := hC H hR
  refine ⟨t, ?_, b1⟩
  jvm_step X.here [X.here.top, h1, h2, hd, getfield.wp_ready (e := z.e) (s := T) (c := z.m.cls) (field := fld) (a := a) (rest := st) (cell := c) (v := v) (f := F0 z.m pc ls (.ref a :: st)) X.here.top f1 f2 rfl (by rw [hT]; exact c1) (by rw [c2]; exact fun q => nomatch q) (by rw [f3]; exact c3)]
  exact a1
theorem y_iret (h1 : z.p.tables.exec = Jvm.exec) (h2 : z.c.code = cb) (h3 : z.M.locks = false) {mc ms : Nat} {Po : Int32 → HA → Prop} {Px : Nat → HA → Prop} {x : Int32} (E : fw_end g z wI (some .int) mc ms Po Px) (hk : k ≤ mc) (hs : n ≤ ms) (hd : decode cb pc = .ok (.ireturn, 1)) (hp : Po x A) : wa g z k n A pc lv [.int x] := by
  intro H locs ls hR hL hl
  rw [E.2]
  exact vx_ret (W.widen hk hs (W.zret h1 h2 E.1 rfl (fun t ht hW => ⟨x, A, rfl, hp, by rw [ht]; exact hR⟩) hL hd h3))
theorem y_out (hK : va_K g.D fw_cl [(g.dA 0, .int), (g.dA 1, .int), (g.dA 2, .byte), (g.dA 3, .boolean), (g.dA 4, .long), (g.dA 5, .object "java/lang/Object"), (g.dA 6, .object "LawnPaths$Change")] z.s) (h3 : z.M.locks = false) {ρ : Type} {w : ρ → Option Value} {ty : Option FieldType} {mc ms : Nat} {Po : ρ → HA → Prop} {Px : Nat → HA → Prop} {q : Nat} {En : String} (E : fw_end g z w ty mc ms Po Px) (ht : z.c.exceptionTable.toList = []) (hx : fw_ex (A.G q).1 = some En) (hk : k ≤ mc) (hs : n ≤ ms) (hp : Px q A) : wx g z k n A pc lv q := by
  intro H locs ls st hR hL hl
  obtain ⟨ce, q1, q2, q3⟩ : ∃ ce : Cell, H[q]? = some ce ∧ ce.vm = .none ∧ z.s.vm.findClass En = some ce.cls := by
    obtain ⟨T, N, hcl, h1, h2⟩ := fw_ex_cl hx
    obtain ⟨r, -, cell, q1, q2, q3, -⟩ := (hR.cell q).1 h1 h2
    exact ⟨cell, q1, q3.2 (hR.mut (fw_ex_mut hx)), by rw [q2]; exact (hK.1 _ _ hcl).2.1⟩
  rw [E.2]
  exact vx_out (by rw [ht]; exact fun x h => nomatch h) h3 q1 q2 q3 (fun t ht hA => ⟨A, hp, hx, by rw [ht]; exact hR⟩) hL hk hs
end
section
variable {g : GZ} {cK : ClassId} {cb : ByteArray} {m9 : Nat} {fi : Nat → Nat} {mi : Nat} {y : MethodName} {b : ByteArray} {nc : Nat} {d' mc ms a l : Nat} {A : HA} {V : Nat → Int32} {Po : Int32 → HA → Prop} {Px : Nat → HA → Prop}
/-- what was kept, in order -/
def kept (V : Nat → Int32) : Nat → List Value
  | 0 => []
  | j + 1 => .int (V j) :: kept V j
theorem kept_len (V : Nat → Int32) : ∀ n, (kept V n).length = n
  | 0 => rfl
  | n + 1 => by show (kept V n).length + 1 = n + 1; rw [kept_len V n]
theorem fwd (hB : FwB cb m9 fi mi) (hF : ∀ U : State, g.s.WarmedH U.vm → FwAt U cK cb m9 fi mi y) (hM : Ct g wI y (.code y b nc (some .int)) d' mc ms ((kept V m9).reverse ++ [.ref l]) A Po Px) (hnc : nc ≤ 41) (hcw : Cond.code y b nc (some .int) ∈ lw_all) (hini : Cond.initialized y.cls ∈ lw_all)
    (hC : ∀ H, Rp g A H → ∃ c : Cell, H[a]? = some c ∧ c.vm = .none ∧ ∀ j, j < m9 → c.slots[j]? = some (.int (V j))) : CtU g wI ⟨cK, 1⟩ (d' + 1) mc ms [.ref a, .ref l] A Po Px := by
  intro hg lch hl
  refine mu_body (maxLocals := 2) (fun args s hP => ?_) (fun p e s args below meth c s₁ X hex hml hlk hh hP => ?_)
  · obtain ⟨rfl, hR, hW⟩ := hP
    obtain ⟨methk, ck, t, kt, metht, ⟨h1, h2, h3, h4, h5, h6, h7, h8, h9⟩, -⟩ := hF s hW
    exact ⟨methk, ck, h1, h2, h4, h6, h7⟩
  · obtain ⟨rfl, hR, hW⟩ := hP
    obtain ⟨methk, ck, t, kt, metht, ⟨h1, h2, h3, h4, h5, h6, h7, h8, h9⟩, hfl, -⟩ := hF s hW
    cases Option.some.inj (h1.symm.trans X.method)
    cases Option.some.inj (h2.symm.trans X.code)
    have hb : ∀ z : ZX, z = (p, lch, e, fw_room (d' + 1) mc ms, s, ⟨cK, 1⟩, [Value.ref a, Value.ref l].toArray, below, meth, c, vx_MQ below (fw_Qc g wI Po) (fw_Xc g Px) [Value.ref a, Value.ref l].toArray s mc ms (fun q => g.b ≤ q)) → wa g z 0 0 A 0 [some (.ref a), some (.ref l)] [] := by
      intro z hz
      have z1 : z.p.tables.exec = Jvm.exec := by rw [hz]; exact hex
      have z2 : z.c.code = cb := by rw [hz]; exact h3
      have z3 : z.M.locks = false := by rw [hz]; exact hlk
      have z4 : z.s = s := by rw [hz]; rfl
      have z5 : z.m = ⟨cK, 1⟩ := by rw [hz]; rfl
      have z6 : z.R = fw_room (d' + 1) mc ms := by rw [hz]; rfl
      have z7 : fw_end g z wI (some .int) mc ms Po Px := by rw [hz]; exact ⟨h8, rfl⟩
      have z8 : z.c.exceptionTable.toList = [] := by rw [hz]; show c.exceptionTable.toList = []; rw [h5]
      have z9 : z.c.maxLocals = 2 := by rw [hz]; exact h4
      have z0 : z.l = lch := by rw [hz]; rfl
      have hWz : g.s.WarmedH z.s.vm := by rw [z4]; exact hW
      have hKz : va_K g.D fw_cl [(g.dA 0, .int), (g.dA 1, .int), (g.dA 2, .byte), (g.dA 3, .boolean), (g.dA 4, .long), (g.dA 5, .object "java/lang/Object"), (g.dA 6, .object "LawnPaths$Change")] z.s := va_K.moved hWz.alike hg.2.1
      clear hz
      have tail : wa g z 0 0 A (4 * m9) [some (.ref a), some (.ref l)] (kept V m9) := by
        refine y_aload1 z1 z2 hB.2.1 ?_
        refine fw_go (ar := ((kept V m9).reverse ++ [Value.ref l]).toArray) (mc' := mc) (ms' := ms) (st := []) (w := wI) (Po := Po) (Px := Px) (fun H locs ls hR' hl' => ?_) (fun u A' hp => ?_) (fun q A' hp hE => ?_)
        · have hK : vx_Back z.l z.R z.p z.e z.b z.s z.a y 3 8 (PreOf z.R mc ms (fw_Pc g ((kept V m9).reverse ++ [.ref l]) A)) (PostOf (fw_Qc g wI Po) mc ms (fun q => g.b ≤ q)) (vx_Post (fw_Xc g Px) mc ms (fun q => g.b ≤ q)) :=
            vx_back (bytes := b) (maxL := nc) (ret := some .int) (by rw [z0]; exact hM hg lch hl) (fw_blind g _ A) rfl rfl (by rw [z6]; simp only [fw_room]; omega) (by rw [z6]; simp only [fw_room]; omega)
              (fun w hw a' U hW' => by
                have hWU := State.WarmedH.trans hWz hW'
                rcases List.mem_cons.mp hw with e1 | e1
                · rw [e1]; exact fw_word hg hWU hcw
                · exact fw_word hg hWU e1) List.mem_cons_self (fun a' U hW' => fw_word hg (State.WarmedH.trans hWz hW') hini)
          intro T hT XT
          have hWT : g.s.WarmedH T.vm := State.WarmedH.trans hWz XT.warmed
          obtain ⟨-, -, t, kt, metht, -, -, q1, q2, q3, q4, q5, q6, q7, q8, q9⟩ := hF T hWT
          have hpre : PreOf z.R mc ms (fw_Pc g ((kept V m9).reverse ++ [.ref l]) A) ⟨T, locs, 0, 0⟩ ((kept V m9).reverse ++ [Value.ref l]).toArray := ⟨by rw [z6]; simp [fw_room, Pt.cells], by rw [z6]; simp [fw_room, Pt.slots], ⟨rfl, by show Rp g A T.heap; rw [hT]; exact hR', hWT⟩⟩
          have hstk : ∀ target : State, (∀ acts, Steps z.p.tables z.e z.b (doInvoke z.e (T.setTop (F0 z.m (4 * m9 + 1) ls [])) acts t ((kept V m9).reverse ++ [Value.ref l]).toArray).1 target) → Steps z.p.tables z.e z.b (T.setTop (F0 z.m (4 * m9 + 1) ls (.ref l :: kept V m9))) target := by
            intro target hgo
            jvm_step XT.here [XT.here.top, z1, z2, hB.2.2.1, invokestatic.wp_ready (e := z.e) (s := T) (m := t) (k := kt) (meth := metht) (args := (kept V m9).reverse ++ [.ref l]) (rest := []) (f := F0 z.m (4 * m9 + 1) ls (.ref l :: kept V m9)) XT.here.top (by show plainRef T z.e z.m.cls mi; rw [z5]; exact q1 z.e) (by show T.vm.methodReady z.m.cls mi t; rw [z5]; exact q2) q3 q4 q5 q6 q7 (by rw [List.length_append, List.length_reverse, kept_len]; exact q8.symm) (by show Value.ref l :: kept V m9 = _; simp)]
            exact hgo
          have hsz : (F0 z.m (4 * m9 + 1) ls ([] : List Value)).locals.size = z.c.maxLocals := by show ls.size = _; rw [hl'.1, z9]; rfl
          rcases hK z.m z.M z.c ⟨T, locs, 0, 0⟩ (F0 z.m (4 * m9 + 1) ls []) (.invokestatic mi) t _ XT rfl hsz (by rw [z2]; exact hB.2.2.1) (by show 2 * 0 + 0 ≤ 8; omega) q9 hpre with ⟨v, ⟨U', l2, c2, s2⟩, X', ⟨g', mk', t', L, e1, e2, hq, h1', hL, h2', h3'⟩, stp⟩ | ⟨q, ⟨U', l2, c2, s2⟩, X', ⟨g', mk', t', L, E, ce, e1, e2, hq, hce, hcv, hcl, h1', hL, h2', h3'⟩, stp⟩
          · dsimp only [Pt.U, Pt.locs, Pt.cells, Pt.slots] at X' e1 e2 h1' h2' h3' stp
            subst h1'; subst h2'; subst h3'
            exact Or.inl ⟨v, T.calling g' mk' _, t', U', L, hT, X', hL, e1, e2, hq, fun target h => hstk _ (fun acts => by rw [doInvoke_state]; exact stp.trans h)⟩
          · dsimp only [Pt.U, Pt.locs, Pt.cells, Pt.slots] at X' e1 e2 h1' h2' h3' stp hcl
            subst h1'; subst h2'; subst h3'
            refine Or.inr ⟨q, T.calling g' mk' _, t', U', L, E, ce, hT, X', hL, e1, e2, hq, hce, hcv, ?_, hstk _ (fun acts => by rw [doInvoke_state]; exact stp)⟩
            have hcl' : T.vm.findClass E = some ce.cls := hcl
            rw [XT.warmed.alike.findClass] at hcl'
            exact hcl'
        · exact y_iret z1 z2 z3 z7 (by omega) (by omega) hB.2.2.2 hp
        · obtain ⟨En, hEn⟩ := hE
          exact y_out hKz z3 z7 z8 hEn (by omega) (by omega) hp
      have load : ∀ j, j ≤ m9 → wa g z 0 0 A (4 * (m9 - j)) [some (.ref a), some (.ref l)] (kept V (m9 - j)) := by
        intro j
        induction j with
        | zero => exact fun _ => tail
        | succ j ih =>
          intro hj
          have e1 : m9 - j = m9 - (j + 1) + 1 := by omega
          have hd := hB.1 (m9 - (j + 1)) (by omega)
          have ih' := ih (by omega)
          rw [e1] at ih'
          refine y_aload0 z1 z2 hd.1 ?_
          refine y_getf z1 z2 (j := m9 - (j + 1)) (v := .int (V (m9 - (j + 1)))) (fun vm' hW' => ?_) (fun H hR' => ?_) hd.2 ?_
          · obtain ⟨-, -, -, -, -, -, hfl', -⟩ := hF (z.s.setVm vm') (State.WarmedH.trans hWz hW')
            obtain ⟨fld, f1, f2, f3⟩ := hfl' (m9 - (j + 1)) (by omega)
            exact ⟨fld, by rw [z5]; exact f1, f2, f3⟩
          · obtain ⟨c9, c1, c2, c3⟩ := hC H hR'
            exact ⟨c9, c1, c2, c3 _ (by omega)⟩
          · exact ih'
      have := load m9 (Nat.le_refl _)
      rw [Nat.sub_self] at this
      exact this
    have hb' := hb _ rfl s.heap [] _ hR (fun q hq => nomatch hq) (fw_entry [Value.ref a, Value.ref l] (nL := 2) (Nat.le_refl 2)) s₁ hh X
    rw [lg_entry_eq]
    obtain ⟨t, a1, o, b1, b2, b3⟩ := hb'
    exact ⟨t, o, a1, b1, b2, b3⟩
end
