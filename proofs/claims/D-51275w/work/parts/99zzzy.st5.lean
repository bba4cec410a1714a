/-! THE START, 5: classes are apart; strings by our numbers; constants found -/
set_option maxRecDepth 100000
/-- what marks a class of the start's cells -/
def tgK (i : Nat) (k : Class) : Prop := match i with
  | 0 => k.kind = .ordinary ∧ k.name = "java/lang/String"
  | 1 => k.kind = .ordinary ∧ k.name = "java/lang/Integer"
  | 2 => ∃ c, k.kind = .array c .byte
  | 3 => ∃ c, k.kind = .array c (.object "java/lang/Object")
  | 4 => ∃ c, k.kind = .array c (.object "java/lang/Integer")
  | _ => k.kind = .ordinary ∧ k.name = "LawnPaths$TextReader$$Lambda"
set_option maxHeartbeats 1000000 in
theorem tgK_eq {k : Class} {i j : Nat} (hi : i < 6) (hj : j < 6) (h1 : tgK i k) (h2 : tgK j k) : i = j := by
  have e1 : i = 0 ∨ i = 1 ∨ i = 2 ∨ i = 3 ∨ i = 4 ∨ i = 5 := by omega
  have e2 : j = 0 ∨ j = 1 ∨ j = 2 ∨ j = 3 ∨ j = 4 ∨ j = 5 := by omega
  rcases e1 with rfl | rfl | rfl | rfl | rfl | rfl <;> rcases e2 with rfl | rfl | rfl | rfl | rfl | rfl <;> first
    | rfl
    | exact absurd (h1.2.symm.trans h2.2) (by decide)
    | (obtain ⟨c, hc⟩ := h2; have h0 := h1.1.symm.trans hc; cases h0)
    | (obtain ⟨c, hc⟩ := h1; have h0 := h2.1.symm.trans hc; cases h0)
    | (obtain ⟨c, hc⟩ := h1; obtain ⟨e, he⟩ := h2; have h0 := hc.symm.trans he; simp at h0)
section
variable {args : Array Value} {s : State} {D : va_G} {dA lm : Nat → ClassId}
theorem st_hd (ht : ∀ i, i < 6 → ∃ k, s.vm.classes[gCs D dA lm i]? = some k ∧ tgK i k) : ∀ i j, i < 6 → j < 6 → gCs D dA lm i = gCs D dA lm j → i = j := fun i j hi hj e => by
  obtain ⟨k1, a1, b1⟩ := ht i hi
  obtain ⟨k2, a2, b2⟩ := ht j hj
  rw [e] at a1
  cases a1.symm.trans a2
  exact tgK_eq hi hj b1 b2
theorem slot_v {C n d : String} {i : Nat} {c : Cell} {v : Value} (hs : SlotIs s C n d i) (ho : ∃ cf k j f, s.fieldFound? C n d = some (cf, k, j, f) ∧ c.slots[f.slot]? = some v) : c.slots[i]? = some v := by
  obtain ⟨cf, kf, fi, fd, h1, h2⟩ := hs
  obtain ⟨cf2, k2, i2, f2, g1, g2⟩ := ho
  cases h1.symm.trans g1
  rw [← h2]
  exact g2
theorem va_rf_ref {o : Option Nat} {v : Nat} (h : va_rf o = .ref v) : o = some v := by
  cases o with
  | none => cases h
  | some a => cases h; rfl
/-- a constant of a class that is a reference to an object of another -/
theorem st_ref {C n d cls : String} (hl : (Cond.laysStatic C n d).before args s = true) (hini : (Cond.initialized C).before args s = true) (hex : (Cond.exactly (.static C n d) cls).before args s = true) :
    ∃ (q : Nat) (cell : Cell), (Term.static C n d).eval args s none [] s = some (.ref q) ∧ va_Z C n d (.ref q) (fun q => s.heap.size ≤ q) s s.heap ∧ s.heap[q]? = some cell ∧ cell.vm.isStatics = false ∧ s.vm.findClass cls = some cell.cls := by
  obtain ⟨q, c, cell, k, q1, q2, q3, q4, q5, q6, -⟩ := Cond.exactly_spec (args := args) (first := s) (o := none) (s := s) (idx := []) (t := .static C n d) (cls := cls) hex
  exact ⟨q, cell, q1, va_Zref hl hini q1 (old_not s), q3, q5, by rw [q6]; exact q2⟩
theorem st_ne {t u : Term} {a b : Nat} (h : (Cond.not (.eq t u)).before args s = true) (ht : t.eval args s none [] s = some (.ref a)) (hu : u.eval args s none [] s = some (.ref b)) : a ≠ b := by
  rintro rfl
  simp [Cond.before, Cond.holds, Cond.value, ht, hu] at h
theorem st_mn {x : MethodName} {b : ByteArray} {n : Nat} {r : Option FieldType} (h : (Cond.code x b n r).before args s = true) : ∃ m, s.methodNamed? x = some m := by
  cases hm : s.methodNamed? x with
  | none => simp [Cond.before, Cond.holds, Cond.value, hm] at h
  | some m => exact ⟨m, rfl⟩
end
section
variable {g : GZ}
theorem rp_ob {a k : Nat} (hR : Rp g g.A g.s.heap) (hk : (g.A.G a).1 = k) (h1 : 1 ≤ k) (h2 : k < 40) : fw_ob g g.A g.s.heap a k := by
  have := (hR.cell a).1 (by rw [hk]; exact h1) (by rw [hk]; exact h2)
  rw [hk] at this
  exact this
theorem rp_ar {a k : Nat} (hR : Rp g g.A g.s.heap) (hk : (g.A.G a).1 = k) (h1 : 100 ≤ k) : fw_ar g g.A g.s.heap a k := by
  have := (hR.cell a).2.2 (by rw [hk]; exact h1)
  rw [hk] at this
  exact this
/-- a string constant, by our numbers -/
theorem st_sv (hR : Rp g g.A g.s.heap) (hKN : ∀ i a, i < 6 → gXs g.s g.D g.dA g.lm i a → (g.A.G a).1 = gKd i) (hK : u_Kn g.s RJ10 TJ10 4 (g.D.1 16) (g.D.2 16)) (hB : g.s.vm.findClass "[B" = some (g.dA 2)) {own tx : String} {ix : Nat} {l : List Nat} {h z : Int32} {q v : Nat} (S : SC g.s own ix tx l h z q v) (hl : l.length ≤ 1000 ∧ ∀ k, k < l.length → chs l k ≤ 127) :
    SK g own ix tx q ∧ StrV g.A q v (chs l) l.length ∧ q < g.b ∧ v < g.b ∧ (g.A.G v).1 = 200 ∧ g.A.I q 2 = h ∧ g.A.I q 3 = z := by
  obtain ⟨s1, ⟨c, c1, c2, c3, c4, c5, c6, c7⟩, b, b1, b2, b3, b4, b5⟩ := S
  have f0 : c.slots[g.D.2 16 0]? = some (.ref v) := slot_v (hK.1 0 (by decide)) c4
  have f1 : c.slots[g.D.2 16 1]? = some (.int 0) := slot_v (hK.1 1 (by decide)) c5
  have f2 : c.slots[g.D.2 16 2]? = some (.int h) := slot_v (hK.1 2 (by decide)) c6
  have f3 : c.slots[g.D.2 16 3]? = some (.int z) := slot_v (hK.1 3 (by decide)) c7
  have e1 : c.cls = g.D.1 16 := Option.some.inj (c3.symm.trans hK.2.1)
  have kq : (g.A.G q).1 = 16 := hKN 0 q (by decide) ⟨c, c1, e1, c2, fun f hf => by
    rcases (show f = 0 ∨ f = 1 ∨ f = 2 ∨ f = 3 by omega) with rfl | rfl | rfl | rfl
    · exact ⟨_, f0, some v, rfl⟩
    · exact ⟨_, f1, 0, rfl⟩
    · exact ⟨_, f2, h, rfl⟩
    · exact ⟨_, f3, z, rfl⟩⟩
  have kv : (g.A.G v).1 = 200 := hKN 2 v (by decide) ⟨b, b1, Option.some.inj (b3.symm.trans hB), b2, fun j hj => ⟨_, b5 j (by rw [b4] at hj; exact hj), _, rfl⟩⟩
  obtain ⟨r, hr, cc, o1, o2, o3, o4⟩ := rp_ob hR kq (by decide) (by decide)
  cases (show some (RJ10, TJ10, 4) = some r from hr)
  cases c1.symm.trans o1
  have v0 : c.slots[g.D.2 16 0]? = some (va_rf (g.A.R q 0)) := o4 0 (by show 0 < 4; decide)
  have v1 : c.slots[g.D.2 16 1]? = some (.int (g.A.I q 1)) := o4 1 (by show 1 < 4; decide)
  have v2 : c.slots[g.D.2 16 2]? = some (.int (g.A.I q 2)) := o4 2 (by show 2 < 4; decide)
  have v3 : c.slots[g.D.2 16 3]? = some (.int (g.A.I q 3)) := o4 3 (by show 3 < 4; decide)
  obtain ⟨d, d1, d2, d3, d4, d5⟩ := rp_ar hR kv (by decide)
  cases b1.symm.trans d1
  have eN : g.A.n v = l.length := d4.symm.trans b4
  refine ⟨s1, ⟨kq, va_rf_ref (Option.some.inj (v0.symm.trans f0)), by rw [kv]; rfl, eN, hl.1, fun k hk => ⟨?_, hl.2 k hk⟩, ?_⟩, (Array.getElem?_eq_some_iff.mp c1).1, (Array.getElem?_eq_some_iff.mp b1).1, kv, Value.int.inj (Option.some.inj (v2.symm.trans f2)), Value.int.inj (Option.some.inj (v3.symm.trans f3))⟩
  · have w1 : b.slots[k]? = some (.int (g.A.I v k)) := d5 k (by rw [eN]; exact hk)
    exact Value.int.inj (Option.some.inj (w1.symm.trans (b5 k hk)))
  · exact (Value.int.inj (Option.some.inj (v1.symm.trans f1))).trans nI0.symm
end
/-- a string constant of the start -/
def SV (g : GZ) (own : String) (ix : Nat) (tx : String) (l : List Nat) (h z : Int32) (q v : Nat) : Prop := SK g own ix tx q ∧ StrV g.A q v (chs l) l.length ∧ q < g.b ∧ v < g.b ∧ (g.A.G v).1 = 200 ∧ g.A.I q 2 = h ∧ g.A.I q 3 = z
section
variable {g : GZ} {A : HA} {own tx : String} {ix q v : Nat} {l : List Nat} {h z : Int32}
theorem SV.wk (S : SV g own ix tx l h z q v) : WkG g own ix tx l := ⟨q, v, S.1, S.2.1, S.2.2.1, S.2.2.2.1⟩
theorem SV.we (S : SV g own ix tx l h z q v) (ho : fw_old g A) : wkE g A own ix tx l := ⟨q, v, S.1, S.2.1.old S.2.2.1 S.2.2.2.1 ho⟩
theorem SV.pl (S : SV g "LawnPaths" ix tx l h z q v) : PlN g ix tx l := ⟨q, v, S.1, S.2.1, S.2.2.1, S.2.2.2.1, Or.inl S.2.2.2.2.1⟩
end
theorem tg_o {s : State} {C : String} {c : ClassId} (h : ClassAt s C c) : ∃ k : Class, s.vm.classes[c]? = some k ∧ k.kind = .ordinary ∧ k.name = C := by
  obtain ⟨h1, k, h2, h3⟩ := h
  obtain ⟨k2, e1, e2⟩ := Vm.findClass_spec h1
  cases h2.symm.trans e1
  exact ⟨k, h2, h3, e2⟩
