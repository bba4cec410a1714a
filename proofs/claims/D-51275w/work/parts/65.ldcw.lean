/-! ROWS: string constants, the wide form -/
section
variable {p : Program} {l : Launch} {e : Env} {R : Room} {s : State} {m : MethodId} {args : Array Value} {below : List Frame} {meth : Method} {c : Code} {locs : List Loc} {cells slots : Nat} {Q : State → Prop}
theorem va_ldcwT {T : State} (X : Stand p l e R s m args below meth c T locs cells slots) (hexec : p.tables.exec = Jvm.exec) {own text : String} {index : Nat} {a : Addr} (hown : s.vm.findClass own = some m.cls)
    (hconst : (Cond.stringRef own index text).before args s = true) (hev : (Term.string own index).eval args s none [] s = some (.ref a)) {g : JFrame} (hg : g.method = m) (hdg : decode c.code g.pc = .ok (.ldc_w index, 3)) :
    ∀ target, Steps p.tables e below (T.setTop { g with pc := g.pc + 3, stack := .ref a :: g.stack }) target → Steps p.tables e below (T.setTop g) target := by
  obtain ⟨k, cf, i, a', hk, hcf, hcp, -, hr, hev'⟩ := Cond.stringRef_spec hown hconst
  cases hev.symm.trans hev'
  obtain ⟨k', hk', he⟩ := X.warmed.alike.2.2 _ _ hk
  have hr' : k'.resolved[index]? = some (some (.string a)) := by
    rcases X.warmed.entry hk hk' index with h | ⟨h, -⟩
    · rw [h]; exact hr
    · rw [hr] at h; cases h
  intro target hrest
  subst hg
  jvm_step X.here [hexec, hdg, ldc_w.wp_string (e := e) (s := T) (f := g) X.here.top hk' (by rw [he]; exact hcf) hcp hr']
  exact hrest
theorem va_ldcwS {H : Heap} {cc : ByteArray} {pc : Nat} {ls : Array Slot} {rest : List Value} (hexec : p.tables.exec = Jvm.exec) (hb : c.code = cc) {own tx : String} {index q : Nat} (hown : s.vm.findClass own = some m.cls) (hZ : vk_R own index tx q s) (hdg : decode cc pc = .ok (.ldc_w index, 3))
    (k : W p l e R s m args below meth c H locs cells slots Q (F0 m (pc + 3) ls (.ref q :: rest))) : W p l e R s m args below meth c H locs cells slots Q (F0 m pc ls rest) := by
  intro T hT X
  obtain ⟨t, a1, b1⟩ := k T hT X
  exact ⟨t, va_ldcwT X hexec hown (text := tx) (a := q) hZ.1 hZ.2 (g := F0 m pc ls rest) rfl (by rw [hb]; exact hdg) t a1, b1⟩
end
section
variable {g : GZ} {z : ZX} {cc : ByteArray} {own : String} {nL d mc ms k n : Nat} {A : HA} {pc : Nat} {lv : List (Option Value)} {st : List Value}
theorem r_ldcwS (C : CX g z cc own nL d mc ms) {ix q : Nat} {tx : String} (hZ : SK g own ix tx q) (hd : decode cc pc = .ok (.ldc_w ix, 3)) (kk : wa g z k n A (pc + 3) lv (.ref q :: st)) : wa g z k n A pc lv st :=
  fun H locs ls hR hL hl => va_ldcwS C.x C.b C.o (vk_R.warm C.wm hZ) hd (kk H locs ls hR hL hl)
/-- signs by a list -/
def chs (l : List Nat) (k : Nat) : Nat := l.getD k 0
/-- a string constant of a class: what its entry gives, what it holds -/
def wkE (g : GZ) (A : HA) (own : String) (ix : Nat) (tx : String) (l : List Nat) : Prop := ∃ q v, SK g own ix tx q ∧ StrV A q v (chs l) l.length
theorem wkE.s5 {own : String} {ix : Nat} {tx : String} {l : List Nat} {t : Nat} (hT : Tw A t) (h : wkE g A own ix tx l) (σ κ π τ : Rw) : wkE g (S5 A t σ κ π τ) own ix tx l := by
  obtain ⟨q, v, h1, h2⟩ := h
  exact ⟨q, v, h1, h2.s5 hT σ κ π τ⟩
end
abbrev wLawn : List Nat := [108, 97, 119, 110]
abbrev wGate : List Nat := [103, 97, 116, 101]
abbrev wWalker : List Nat := [119, 97, 108, 107, 101, 114]
abbrev wStone : List Nat := [115, 116, 111, 110, 101]
abbrev wGrass : List Nat := [103, 114, 97, 115, 115]
abbrev wFence : List Nat := [102, 101, 110, 99, 101]
abbrev wRun : List Nat := [114, 117, 110]
abbrev wHaste : List Nat := [104, 97, 115, 116, 101]
abbrev wTurn : List Nat := [116, 117, 114, 110]
abbrev wOpen : List Nat := [111, 112, 101, 110]
abbrev wPave : List Nat := [112, 97, 118, 101]
abbrev wSow : List Nat := [115, 111, 119]
/-- the twin's words -/
def TwK (g : GZ) (A : HA) : Prop := zS g ∧ wkE g A "LawnPathsModel" 248 "lawn" wLawn ∧ wkE g A "LawnPathsModel" 287 "gate" wGate ∧ wkE g A "LawnPathsModel" 292 "walker" wWalker ∧ wkE g A "LawnPathsModel" 274 "stone" wStone ∧ wkE g A "LawnPathsModel" 279 "grass" wGrass ∧ wkE g A "LawnPathsModel" 297 "fence" wFence ∧
  wkE g A "LawnPathsModel" 330 "run" wRun ∧ wkE g A "LawnPathsModel" 332 "haste" wHaste ∧ wkE g A "LawnPathsModel" 334 "turn" wTurn ∧ wkE g A "LawnPathsModel" 324 "open" wOpen ∧ wkE g A "LawnPathsModel" 326 "pave" wPave ∧ wkE g A "LawnPathsModel" 328 "sow" wSow
