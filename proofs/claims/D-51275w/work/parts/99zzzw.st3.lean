/-! THE START, 3: the abstract heap of the start's cells -/
set_option maxRecDepth 100000
/-- a value of a type -/
def tyO (ty : FieldType) (x : Value) : Prop := match ty with
  | .object _ => ∃ r, x = va_rf r
  | .array _ => ∃ r, x = va_rf r
  | .long => ∃ i, x = .long i
  | _ => ∃ i, x = .int i
theorem tyO_v {ty : FieldType} {x : Value} (h : tyO ty x) : ∃ y : Int32 × Option Nat × Int64, ∀ (A : HA) (a f : Nat), A.I a f = y.1 → A.R a f = y.2.1 → A.L a f = y.2.2 → x = fw_val ty A a f := by
  cases ty <;> obtain ⟨i, rfl⟩ := h <;> first
    | exact ⟨(i, none, 0), fun A a f h1 _ _ => congrArg Value.int h1.symm⟩
    | exact ⟨(0, i, 0), fun A a f _ h2 _ => congrArg va_rf h2.symm⟩
    | exact ⟨(0, none, i), fun A a f _ _ h3 => congrArg Value.long h3.symm⟩
section
variable {s : State} {D : va_G} {dA lm : Nat → ClassId}
def gO (s : State) (D : va_G) (k N a : Nat) : Prop := ∃ cell : Cell, s.heap[a]? = some cell ∧ cell.cls = D.1 k ∧ (cell.vm.isStatics = false ∧ cell.vm ≠ .unknown) ∧ ∀ f, f < N → ∃ x, cell.slots[D.2 k f]? = some x ∧ tyO (fw_ty k f) x
def gA (s : State) (dA : Nat → ClassId) (t a : Nat) : Prop := ∃ cell : Cell, s.heap[a]? = some cell ∧ cell.cls = dA t ∧ (cell.vm.isStatics = false ∧ cell.vm ≠ .unknown) ∧ ∀ j, j < cell.slots.size → ∃ x, cell.slots[j]? = some x ∧ tyO (fw_at t) x
def gL (s : State) (lm : Nat → ClassId) (a : Nat) : Prop := ∃ cell : Cell, s.heap[a]? = some cell ∧ cell.cls = lm 83 ∧ cell.vm = .none ∧ cell.slots = #[]
theorem gO_v {k N a : Nat} (h : gO s D k N a) : ∃ v : Nat → Int32 × Option Nat × Int64, ∃ cell : Cell, s.heap[a]? = some cell ∧ cell.cls = D.1 k ∧ (cell.vm.isStatics = false ∧ cell.vm ≠ .unknown) ∧ ∀ f, f < N → ∀ (A : HA), A.I a f = (v f).1 → A.R a f = (v f).2.1 → A.L a f = (v f).2.2 → cell.slots[D.2 k f]? = some (fw_val (fw_ty k f) A a f) := by
  obtain ⟨cell, c1, c2, c3, c4⟩ := h
  have h0 : ∀ f : Nat, ∃ y : Int32 × Option Nat × Int64, f < N → ∀ (A : HA), A.I a f = y.1 → A.R a f = y.2.1 → A.L a f = y.2.2 → cell.slots[D.2 k f]? = some (fw_val (fw_ty k f) A a f) := fun f => by
    by_cases hf : f < N
    · obtain ⟨x, x1, x2⟩ := c4 f hf
      obtain ⟨y, hy⟩ := tyO_v x2
      exact ⟨y, fun _ A e1 e2 e3 => by rw [x1, hy A a f e1 e2 e3]⟩
    · exact ⟨(0, none, 0), fun q => absurd q hf⟩
  obtain ⟨v, hv⟩ := Classical.axiomOfChoice h0
  exact ⟨v, cell, c1, c2, c3, hv⟩
theorem gA_v {t a : Nat} (h : gA s dA t a) : ∃ v : Nat → Int32 × Option Nat × Int64, ∃ cell : Cell, s.heap[a]? = some cell ∧ cell.cls = dA t ∧ (cell.vm.isStatics = false ∧ cell.vm ≠ .unknown) ∧ ∀ f, f < cell.slots.size → ∀ (A : HA), A.I a f = (v f).1 → A.R a f = (v f).2.1 → A.L a f = (v f).2.2 → cell.slots[f]? = some (fw_val (fw_at t) A a f) := by
  obtain ⟨cell, c1, c2, c3, c4⟩ := h
  have h0 : ∀ f : Nat, ∃ y : Int32 × Option Nat × Int64, f < cell.slots.size → ∀ (A : HA), A.I a f = y.1 → A.R a f = y.2.1 → A.L a f = y.2.2 → cell.slots[f]? = some (fw_val (fw_at t) A a f) := fun f => by
    by_cases hf : f < cell.slots.size
    · obtain ⟨x, x1, x2⟩ := c4 f hf
      obtain ⟨y, hy⟩ := tyO_v x2
      exact ⟨y, fun _ A e1 e2 e3 => by rw [x1, hy A a f e1 e2 e3]⟩
    · exact ⟨(0, none, 0), fun q => absurd q hf⟩
  obtain ⟨v, hv⟩ := Classical.axiomOfChoice h0
  exact ⟨v, cell, c1, c2, c3, hv⟩
/-- the start's kinds, one after the other -/
def gXs (s : State) (D : va_G) (dA lm : Nat → ClassId) (i a : Nat) : Prop := match i with
  | 0 => gO s D 16 4 a | 1 => gO s D 17 1 a | 2 => gA s dA 2 a | 3 => gA s dA 5 a | 4 => gA s dA 7 a | _ => gL s lm a
def gCs (D : va_G) (dA lm : Nat → ClassId) (i : Nat) : ClassId := match i with
  | 0 => D.1 16 | 1 => D.1 17 | 2 => dA 2 | 3 => dA 5 | 4 => dA 7 | _ => lm 83
def gKd (i : Nat) : Nat := match i with
  | 0 => 16 | 1 => 17 | 2 => 200 | 3 => 500 | 4 => 700 | _ => 83
theorem gXs_c {i a : Nat} (h : gXs s D dA lm i a) : ∃ cell : Cell, s.heap[a]? = some cell ∧ cell.cls = gCs D dA lm i := by
  unfold gXs at h
  unfold gCs
  split at h <;> (obtain ⟨cell, c1, c2, -⟩ := h; exact ⟨cell, c1, c2⟩)
/-- what a cell of the start is worth, to any heap that says it of it -/
def gW (s : State) (D : va_G) (dA lm : Nat → ClassId) (a : Nat) (w : Nat × Nat × (Nat → Int32 × Option Nat × Int64)) : Prop :=
  ∀ (g : GZ) (A : HA), g.s = s → g.D = D → g.dA = dA → g.lm = lm → A.G a = (w.1, 0) → (∀ f, A.I a f = (w.2.2 f).1 ∧ A.R a f = (w.2.2 f).2.1 ∧ A.L a f = (w.2.2 f).2.2) → A.n a = w.2.1 → fw_cell g A s.heap a
theorem gW_o {k N a : Nat} {r : vw_C} (hr : fw_cl[k]? = some r) (hN : r.2.2 = N) (hk1 : 1 ≤ k) (hk2 : k < 40) (h : gO s D k N a) : ∃ n v, gW s D dA lm a (k, n, v) := by
  obtain ⟨v, cell, c1, c2, c3, c4⟩ := gO_v h
  have hl : a < s.heap.size := (Array.getElem?_eq_some_iff.mp c1).1
  refine ⟨0, v, fun g A e1 e2 e3 e4 e5 e6 e7 => ?_⟩
  unfold fw_cell
  rw [e5]
  refine ⟨fun _ _ => ⟨r, hr, cell, c1, by rw [e2]; exact c2, ⟨c3, fun q => absurd q (by show ¬ g.s.heap.size ≤ a; rw [e1]; omega)⟩, fun f hf => ?_⟩, fun q => absurd q (by show ¬ 80 ≤ k; omega), fun q => absurd q (by show ¬ 100 ≤ k; omega)⟩
  rw [e2]
  exact c4 f (by rw [← hN]; exact hf) A (e6 f).1 (e6 f).2.1 (e6 f).2.2
theorem gW_a {t a : Nat} (ht : 1 ≤ t) (h : gA s dA t a) : ∃ n v, gW s D dA lm a (100 * t, n, v) := by
  obtain ⟨v, cell, c1, c2, c3, c4⟩ := gA_v h
  have hl : a < s.heap.size := (Array.getElem?_eq_some_iff.mp c1).1
  refine ⟨cell.slots.size, v, fun g A e1 e2 e3 e4 e5 e6 e7 => ?_⟩
  have hq : 100 * t / 100 = t := by omega
  unfold fw_cell
  rw [e5]
  refine ⟨fun _ q => absurd q (by show ¬ 100 * t < 40; omega), fun _ q => absurd q (by show ¬ 100 * t < 100; omega), fun _ => ⟨cell, c1, by rw [e3]; show cell.cls = dA (100 * t / 100); rw [hq]; exact c2, ⟨c3, fun q => absurd q (by show ¬ g.s.heap.size ≤ a; rw [e1]; omega)⟩, by rw [e7], fun f hf => ?_⟩⟩
  show cell.slots[f]? = some (fw_val (fw_at (100 * t / 100)) A a f)
  rw [hq]
  exact c4 f (by rw [e7] at hf; exact hf) A (e6 f).1 (e6 f).2.1 (e6 f).2.2
theorem gW_l {a : Nat} (h : gL s lm a) : ∃ n v, gW s D dA lm a (83, n, v) := by
  obtain ⟨cell, c1, c2, c3, c4⟩ := h
  refine ⟨0, fun _ => (0, none, 0), fun g A e1 e2 e3 e4 e5 e6 e7 => ?_⟩
  unfold fw_cell
  rw [e5]
  refine ⟨fun _ q => absurd q (by decide), fun _ _ => ⟨cell, c1, by rw [e4]; exact c2, c3, by rw [e7, c4]; rfl, fun j hj => ?_⟩, fun q => absurd q (by decide)⟩
  rw [e7] at hj
  exact absurd hj (Nat.not_lt_zero _)
theorem gXs_w {i a : Nat} (h : gXs s D dA lm i a) : ∃ n v, gW s D dA lm a (gKd i, n, v) := by
  unfold gXs at h
  unfold gKd
  split at h
  · exact gW_o (r := (RJ10, TJ10, 4)) rfl rfl (by decide) (by decide) h
  · exact gW_o (r := (RJ20, TJ20, 1)) rfl rfl (by decide) (by decide) h
  · exact gW_a (t := 2) (by decide) h
  · exact gW_a (t := 5) (by decide) h
  · exact gW_a (t := 7) (by decide) h
  · exact gW_l h
theorem gKd_mem (i : Nat) : gKd i = 0 ∨ gKd i = 16 ∨ gKd i = 17 ∨ gKd i = 83 ∨ gKd i = 200 ∨ gKd i = 500 ∨ gKd i = 700 := by
  unfold gKd
  split <;> decide
/-- the start's cells, as kinds and values -/
theorem st_A (hd : ∀ i j, i < 6 → j < 6 → gCs D dA lm i = gCs D dA lm j → i = j) : ∃ A : HA, A.z = s.heap.size ∧ (∀ a, (A.G a).2 = 0) ∧ (∀ a, (A.G a).1 = 0 ∨ (A.G a).1 = 16 ∨ (A.G a).1 = 17 ∨ (A.G a).1 = 83 ∨ (A.G a).1 = 200 ∨ (A.G a).1 = 500 ∨ (A.G a).1 = 700) ∧ (∀ a, s.heap.size ≤ a → (A.G a).1 = 0) ∧
    (∀ g : GZ, g.s = s → g.D = D → g.dA = dA → g.lm = lm → ∀ a, fw_cell g A s.heap a) ∧ ∀ i a, i < 6 → gXs s D dA lm i a → (A.G a).1 = gKd i := by
  have h0 : ∀ a : Nat, ∃ w : Nat × Nat × (Nat → Int32 × Option Nat × Int64), (w.1 = 0 ∨ w.1 = 16 ∨ w.1 = 17 ∨ w.1 = 83 ∨ w.1 = 200 ∨ w.1 = 500 ∨ w.1 = 700) ∧ (s.heap.size ≤ a → w.1 = 0) ∧ gW s D dA lm a w ∧ ∀ i, i < 6 → gXs s D dA lm i a → w.1 = gKd i := fun a => by
    by_cases h : ∃ i, i < 6 ∧ gXs s D dA lm i a
    · obtain ⟨i, hi, hx⟩ := h
      obtain ⟨n, v, hw⟩ := gXs_w hx
      obtain ⟨c, c1, c2⟩ := gXs_c hx
      have hl : a < s.heap.size := (Array.getElem?_eq_some_iff.mp c1).1
      refine ⟨(gKd i, n, v), gKd_mem i, fun q => absurd q (by omega), hw, fun j hj hy => ?_⟩
      obtain ⟨d, d1, d2⟩ := gXs_c hy
      cases c1.symm.trans d1
      rw [hd i j hi hj (c2.symm.trans d2)]
    · refine ⟨(0, 0, fun _ => (0, none, 0)), Or.inl rfl, fun _ => rfl, fun g A e1 e2 e3 e4 e5 e6 e7 => ?_, fun i hi hx => absurd ⟨i, hi, hx⟩ h⟩
      unfold fw_cell
      rw [e5]
      exact ⟨fun q => absurd q (by decide), fun q => absurd q (by decide), fun q => absurd q (by decide)⟩
  obtain ⟨w, hw⟩ := Classical.axiomOfChoice h0
  refine ⟨(fun a => ((w a).1, 0), fun a f => ((w a).2.2 f).1, fun a f => ((w a).2.2 f).2.1, fun a f => ((w a).2.2 f).2.2, fun a => (w a).2.1, s.heap.size), rfl, fun _ => rfl, fun a => (hw a).1, fun a h => (hw a).2.1 h, fun g e1 e2 e3 e4 a => (hw a).2.2.1 g _ e1 e2 e3 e4 rfl (fun f => ⟨rfl, rfl, rfl⟩) rfl, fun i a hi hx => (hw a).2.2.2 i hi hx⟩
end
/-- the start's heap is what its abstract heap says -/
theorem st_Rp {g : GZ} (h1 : g.A.z = g.s.heap.size) (h2 : ∀ a, (g.A.G a).2 = 0) (h3 : ∀ a, (g.A.G a).1 = 0 ∨ (g.A.G a).1 = 16 ∨ (g.A.G a).1 = 17 ∨ (g.A.G a).1 = 83 ∨ (g.A.G a).1 = 200 ∨ (g.A.G a).1 = 500 ∨ (g.A.G a).1 = 700) (h4 : ∀ a, g.s.heap.size ≤ a → (g.A.G a).1 = 0) (h5 : ∀ a, fw_cell g g.A g.s.heap a) : Rp g g.A g.s.heap := by
  refine ⟨h1, Nat.le_refl _, fun _ _ => rfl, fun a _ => ⟨rfl, rfl, rfl, rfl, rfl⟩, fun a h => ?_, fun a => ⟨fun h => Or.inl (h4 a (by rw [← h1]; exact h)), fun _ => Or.inr (Or.inr (h2 a))⟩, h5⟩
  rcases h3 a with e | e | e | e | e | e | e <;> (rw [e] at h; exact absurd h (by decide))
