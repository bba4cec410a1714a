/-! THE FRAME: an abstract heap by functions (kinds, ints, refs, longs, lengths), and what a real heap owes it -/
set_option maxRecDepth 100000
def HA : Type := (Nat → Nat × Nat) × (Nat → Nat → Int32) × (Nat → Nat → Option Nat) × (Nat → Nat → Int64) × (Nat → Nat) × Nat
def HA.G (A : HA) : Nat → Nat × Nat := A.1
def HA.I (A : HA) : Nat → Nat → Int32 := A.2.1
def HA.R (A : HA) : Nat → Nat → Option Nat := A.2.2.1
def HA.L (A : HA) : Nat → Nat → Int64 := A.2.2.2.1
def HA.n (A : HA) : Nat → Nat := A.2.2.2.2.1
def HA.z (A : HA) : Nat := A.2.2.2.2.2
/-- the ints of the cell a are f from now on; likewise refs, longs -/
def HA.sI (A : HA) (a : Nat) (f : Nat → Int32) : HA := (A.G, fun x => if x = a then f else A.I x, A.R, A.L, A.n, A.z)
def HA.sR (A : HA) (a : Nat) (f : Nat → Option Nat) : HA := (A.G, A.I, fun x => if x = a then f else A.R x, A.L, A.n, A.z)
def HA.sL (A : HA) (a : Nat) (f : Nat → Int64) : HA := (A.G, A.I, A.R, fun x => if x = a then f else A.L x, A.n, A.z)
/-- a new cell, of a kind and an owner, of a length -/
def HA.mk (A : HA) (k o len : Nat) : HA := (fun x => if x = A.z then (k, o) else A.G x, fun x => if x = A.z then fun _ => 0 else A.I x, fun x => if x = A.z then fun _ => none else A.R x, fun x => if x = A.z then fun _ => 0 else A.L x, fun x => if x = A.z then len else A.n x, A.z + 1)
theorem sI_G (A : HA) (a : Nat) (f : Nat → Int32) : (A.sI a f).G = A.G := rfl
theorem sI_R (A : HA) (a : Nat) (f : Nat → Int32) : (A.sI a f).R = A.R := rfl
theorem sI_L (A : HA) (a : Nat) (f : Nat → Int32) : (A.sI a f).L = A.L := rfl
theorem sI_n (A : HA) (a : Nat) (f : Nat → Int32) : (A.sI a f).n = A.n := rfl
theorem sI_z (A : HA) (a : Nat) (f : Nat → Int32) : (A.sI a f).z = A.z := rfl
theorem sI_I (A : HA) (a x : Nat) (f : Nat → Int32) : (A.sI a f).I x = if x = a then f else A.I x := rfl
theorem sI_s (A : HA) (a : Nat) (f : Nat → Int32) : (A.sI a f).I a = f := if_pos rfl
theorem sI_o (A : HA) {a x : Nat} (f : Nat → Int32) (h : x ≠ a) : (A.sI a f).I x = A.I x := if_neg h
theorem sR_G (A : HA) (a : Nat) (f : Nat → Option Nat) : (A.sR a f).G = A.G := rfl
theorem sR_I (A : HA) (a : Nat) (f : Nat → Option Nat) : (A.sR a f).I = A.I := rfl
theorem sR_L (A : HA) (a : Nat) (f : Nat → Option Nat) : (A.sR a f).L = A.L := rfl
theorem sR_n (A : HA) (a : Nat) (f : Nat → Option Nat) : (A.sR a f).n = A.n := rfl
theorem sR_z (A : HA) (a : Nat) (f : Nat → Option Nat) : (A.sR a f).z = A.z := rfl
theorem sR_R (A : HA) (a x : Nat) (f : Nat → Option Nat) : (A.sR a f).R x = if x = a then f else A.R x := rfl
theorem sR_s (A : HA) (a : Nat) (f : Nat → Option Nat) : (A.sR a f).R a = f := if_pos rfl
theorem sR_o (A : HA) {a x : Nat} (f : Nat → Option Nat) (h : x ≠ a) : (A.sR a f).R x = A.R x := if_neg h
theorem sL_G (A : HA) (a : Nat) (f : Nat → Int64) : (A.sL a f).G = A.G := rfl
theorem sL_I (A : HA) (a : Nat) (f : Nat → Int64) : (A.sL a f).I = A.I := rfl
theorem sL_R (A : HA) (a : Nat) (f : Nat → Int64) : (A.sL a f).R = A.R := rfl
theorem sL_n (A : HA) (a : Nat) (f : Nat → Int64) : (A.sL a f).n = A.n := rfl
theorem sL_z (A : HA) (a : Nat) (f : Nat → Int64) : (A.sL a f).z = A.z := rfl
theorem sL_L (A : HA) (a x : Nat) (f : Nat → Int64) : (A.sL a f).L x = if x = a then f else A.L x := rfl
theorem sL_s (A : HA) (a : Nat) (f : Nat → Int64) : (A.sL a f).L a = f := if_pos rfl
theorem mk_G (A : HA) (k o len x : Nat) : (A.mk k o len).G x = if x = A.z then (k, o) else A.G x := rfl
theorem mk_I (A : HA) (k o len x : Nat) : (A.mk k o len).I x = if x = A.z then fun _ => 0 else A.I x := rfl
theorem mk_R (A : HA) (k o len x : Nat) : (A.mk k o len).R x = if x = A.z then fun _ => none else A.R x := rfl
theorem mk_L (A : HA) (k o len x : Nat) : (A.mk k o len).L x = if x = A.z then fun _ => 0 else A.L x := rfl
theorem mk_n (A : HA) (k o len x : Nat) : (A.mk k o len).n x = if x = A.z then len else A.n x := rfl
theorem mk_z (A : HA) (k o len : Nat) : (A.mk k o len).z = A.z + 1 := rfl
theorem HA.ext {A B : HA} (h1 : A.G = B.G) (h2 : A.I = B.I) (h3 : A.R = B.R) (h4 : A.L = B.L) (h5 : A.n = B.n) (h6 : A.z = B.z) : A = B := by
  obtain ⟨a1, a2, a3, a4, a5, a6⟩ := A
  obtain ⟨b1, b2, b3, b4, b5, b6⟩ := B
  simp only [HA.G, HA.I, HA.R, HA.L, HA.n, HA.z] at h1 h2 h3 h4 h5 h6
  subst h1; subst h2; subst h3; subst h4; subst h5; subst h6
  rfl
theorem sI_sI (A : HA) (a : Nat) (f h : Nat → Int32) : (A.sI a f).sI a h = A.sI a h := by
  refine HA.ext rfl ?_ rfl rfl rfl rfl
  funext x
  rw [sI_I, sI_I, sI_I]
  by_cases q : x = a
  · rw [if_pos q, if_pos q]
  · rw [if_neg q, if_neg q, if_neg q]
theorem sI_self (A : HA) (a : Nat) : A.sI a (A.I a) = A := by
  refine HA.ext rfl ?_ rfl rfl rfl rfl
  funext x
  rw [sI_I]
  by_cases q : x = a
  · rw [if_pos q, q]
  · rw [if_neg q]
theorem sI_comm (A : HA) {a b : Nat} (f h : Nat → Int32) (hab : a ≠ b) : (A.sI a f).sI b h = (A.sI b h).sI a f := by
  refine HA.ext rfl ?_ rfl rfl rfl rfl
  funext x
  rw [sI_I, sI_I, sI_I, sI_I]
  by_cases q : x = a
  · have : x ≠ b := fun e => hab (q.symm.trans e)
    rw [if_pos q, if_neg this, if_pos q]
  · rw [if_neg q, if_neg q]
theorem sR_sR (A : HA) (a : Nat) (f h : Nat → Option Nat) : (A.sR a f).sR a h = A.sR a h := by
  refine HA.ext rfl rfl ?_ rfl rfl rfl
  funext x
  rw [sR_R, sR_R, sR_R]
  by_cases q : x = a
  · rw [if_pos q, if_pos q]
  · rw [if_neg q, if_neg q, if_neg q]
/-! ## kinds: 1..39 objects of known classes, 80..99 objects of lambda sites, 100.. arrays (kind / 100: what of; kind % 100: their part in the system) -/
def fw_cl : List vw_C := [(RX1, TX1, 8), (RX1, TX1, 8), (RX2, TX2, 19), (RX3, TX3, 1), (RX4, TX4, 2), (RX5, TX5, 7), (RX6, TX6, 25), (RX7, TX7, 7), (RX8, TX8, 8), (RX9, TX9, 7), (RX10, TX10, 3), (RX11, TX11, 2), (RX12, TX12, 4), (RJ2, TJ2, 3), (RJ7, TJ7, 3), (RJ9, TJ9, 4), (RJ10, TJ10, 4), (RJ20, TJ20, 1), (RJ17, TJ17, 0), (RJ18, TJ18, 0), (RJ22, TJ22, 0)]
/-- a field's type, by kind and place -/
def fw_ty (k f : Nat) : FieldType := match k with
  | 1 => tyX1 f | 2 => tyX2 f | 3 => tyX3 f | 4 => tyX4 f | 5 => tyX5 f | 6 => tyX6 f | 7 => tyX7 f | 8 => tyX8 f | 9 => tyX9 f | 10 => tyX10 f | 11 => tyX11 f | 12 => tyX12 f | 13 => tyJ2 f | 14 => tyJ7 f | 15 => tyJ9 f | 16 => tyJ10 f | 17 => tyJ20 f
  | _ => .int
/-- an array's elements' type, by its hundred -/
def fw_at (t : Nat) : FieldType := match t with
  | 1 => .int | 2 => .byte | 3 => .boolean | 4 => .long | 5 => .object "java/lang/Object" | 6 => .object "LawnPaths$Change" | 7 => .object "java/lang/Integer"
  | _ => .int
/-- kinds of cells that are there before the law's call, and aren't written -/
def fw_mut (k : Nat) : Bool := (1 ≤ k && k ≤ 15) || (18 ≤ k && k ≤ 20) || (100 < k && k < 700 && k % 100 != 0)
def fw_val (ty : FieldType) (A : HA) (a i : Nat) : Value := match ty with
  | .object _ => va_rf (A.R a i)
  | .array _ => va_rf (A.R a i)
  | .long => .long (A.L a i)
  | _ => .int (A.I a i)
/-- what is fixed for a run: the law's start, class numbers and field slots, array classes, the start's abstract heap, the law's arguments, lambda sites' classes -/
def GZ : Type := State × va_G × (Nat → ClassId) × HA × Array Value × (Nat → ClassId) × (Nat → Nat)
def GZ.s (g : GZ) : State := g.1
def GZ.D (g : GZ) : va_G := g.2.1
def GZ.dA (g : GZ) : Nat → ClassId := g.2.2.1
def GZ.A (g : GZ) : HA := g.2.2.2.1
def GZ.ar (g : GZ) : Array Value := g.2.2.2.2.1
def GZ.lm (g : GZ) : Nat → ClassId := g.2.2.2.2.2.1
/-- constants' cells, by our numbers -/
def GZ.c (g : GZ) : Nat → Nat := g.2.2.2.2.2.2
def GZ.b (g : GZ) : Nat := g.s.heap.size
/-- what the machine knows of a cell: no statics, nothing unknown; a cell of the run is a plain one -/
def fw_vm (g : GZ) (a : Nat) (v : VmData) : Prop := (v.isStatics = false ∧ v ≠ .unknown) ∧ (g.b ≤ a → v = .none)
theorem fw_vm.nn {g : GZ} {a : Nat} : fw_vm g a .none := ⟨⟨rfl, fun h => by cases h⟩, fun _ => rfl⟩
theorem fw_vm.st {g : GZ} {a : Nat} {v : VmData} (h : fw_vm g a v) : ∀ q, v ≠ .statics q := fun q e => by
  have h1 := h.1.1
  rw [e] at h1
  cases h1
def fw_o (g : GZ) (o : Nat) (cC : ClassId) (N : Nat) (iS : Nat → Nat) (H : Heap) (V : Nat → Value) : Prop := ∃ cell : Cell, H[o]? = some cell ∧ cell.cls = cC ∧ fw_vm g o cell.vm ∧ ∀ k, k < N → cell.slots[iS k]? = some (V k)
theorem fw_o.of {g : GZ} {o : Nat} {cC : ClassId} {N : Nat} {iS : Nat → Nat} {H : Heap} {V : Nat → Value} (h : t_OB o cC N iS H V) : fw_o g o cC N iS H V := by
  obtain ⟨cell, h1, h2, h3, h4⟩ := h
  exact ⟨cell, h1, h2, by rw [h3]; exact fw_vm.nn, h4⟩
def fw_ob (g : GZ) (A : HA) (H : Heap) (a k : Nat) : Prop := ∃ r : vw_C, fw_cl[k]? = some r ∧ fw_o g a (g.D.1 k) r.2.2 (g.D.2 k) H (fun f => fw_val (fw_ty k f) A a f)
def fw_ar (g : GZ) (A : HA) (H : Heap) (a k : Nat) : Prop := ∃ c : Cell, H[a]? = some c ∧ c.cls = g.dA (k / 100) ∧ fw_vm g a c.vm ∧ c.slots.size = A.n a ∧ ∀ j, j < A.n a → c.slots[j]? = some (fw_val (fw_at (k / 100)) A a j)
def fw_lm (g : GZ) (A : HA) (H : Heap) (a k : Nat) : Prop := ∃ c : Cell, H[a]? = some c ∧ c.cls = g.lm k ∧ c.vm = .none ∧ c.slots.size = A.n a ∧ ∀ j, j < A.n a → c.slots[j]? = some (.int (A.I a j))
def fw_cell (g : GZ) (A : HA) (H : Heap) (a : Nat) : Prop := (1 ≤ (A.G a).1 → (A.G a).1 < 40 → fw_ob g A H a (A.G a).1) ∧ (80 ≤ (A.G a).1 → (A.G a).1 < 100 → fw_lm g A H a (A.G a).1) ∧ (100 ≤ (A.G a).1 → fw_ar g A H a (A.G a).1)
def fw_old (g : GZ) (A : HA) : Prop := ∀ a, a < g.b → A.G a = g.A.G a ∧ A.I a = g.A.I a ∧ A.R a = g.A.R a ∧ A.L a = g.A.L a ∧ A.n a = g.A.n a
def Rp (g : GZ) (A : HA) (H : Heap) : Prop := A.z = H.size ∧ g.b ≤ H.size ∧ (∀ q : Nat, q < g.b → H[q]? = g.s.heap[q]?) ∧ fw_old g A ∧ (∀ a, fw_mut (A.G a).1 = true → g.b ≤ a) ∧ (∀ a, (A.z ≤ a → (A.G a).1 = 0 ∨ 40 ≤ (A.G a).1 ∧ (A.G a).1 < 80) ∧ (a < A.z → ((A.G a).1 = 0 ∨ 40 ≤ (A.G a).1 ∧ (A.G a).1 < 80) ∨ (A.G a).2 < A.z ∨ (A.G a).2 = 0)) ∧ ∀ a, fw_cell g A H a
/-- the whole start -/
def fw_ok (g : GZ) : Prop := (∀ w ∈ lw_tbl, w.before g.ar g.s = true) ∧ va_K g.D fw_cl [(g.dA 0, .int), (g.dA 1, .int), (g.dA 2, .byte), (g.dA 3, .boolean), (g.dA 4, .long), (g.dA 5, .object "java/lang/Object"), (g.dA 6, .object "LawnPaths$Change")] g.s ∧
  vx_Zq Bundle.tN "UNASSIGNED_STACK" Bundle.steD (fun q => g.b ≤ q) g.s g.s.heap ∧ vx_Zq Bundle.tN "SUPPRESSED_SENTINEL" Bundle.listD (fun q => g.b ≤ q) g.s g.s.heap
def ZX : Type := Program × Launch × Env × Room × State × MethodId × Array Value × List Frame × Method × Code × (State → Prop)
def ZX.p (z : ZX) : Program := z.1
def ZX.l (z : ZX) : Launch := z.2.1
def ZX.e (z : ZX) : Env := z.2.2.1
def ZX.R (z : ZX) : Room := z.2.2.2.1
def ZX.s (z : ZX) : State := z.2.2.2.2.1
def ZX.m (z : ZX) : MethodId := z.2.2.2.2.2.1
def ZX.a (z : ZX) : Array Value := z.2.2.2.2.2.2.1
def ZX.b (z : ZX) : List Frame := z.2.2.2.2.2.2.2.1
def ZX.M (z : ZX) : Method := z.2.2.2.2.2.2.2.2.1
def ZX.c (z : ZX) : Code := z.2.2.2.2.2.2.2.2.2.1
def ZX.Q (z : ZX) : State → Prop := z.2.2.2.2.2.2.2.2.2.2
/-- the locals: none = whatever -/
def fw_L (ls : Array Slot) (lv : List (Option Value)) : Prop := ls.size = lv.length ∧ lv_wf ls ∧ ∀ (i : Nat) (v : Value), lv[i]? = some (some v) → ls[i]? = some (.val v)
/-- the machine at pc, locals lv, stack st, abstract heap A, k cells and n slots made so far, comes to the method's end -/
def wa (g : GZ) (z : ZX) (k n : Nat) (A : HA) (pc : Nat) (lv : List (Option Value)) (st : List Value) : Prop :=
  ∀ (H : Heap) (locs : List Loc) (ls : Array Slot), Rp g A H → (∀ q ∈ locs, g.b ≤ q.base) → fw_L ls lv → W z.p z.l z.e z.R z.s z.m z.a z.b z.M z.c H locs k n z.Q (F0 z.m pc ls st)
/-- the same with the object q thrown at pc -/
def wx (g : GZ) (z : ZX) (k n : Nat) (A : HA) (pc : Nat) (lv : List (Option Value)) (q : Nat) : Prop :=
  ∀ (H : Heap) (locs : List Loc) (ls : Array Slot) (st : List Value), Rp g A H → (∀ q ∈ locs, g.b ≤ q.base) → fw_L ls lv → vx_W z.p z.l z.e z.R z.s z.m z.a z.b z.M z.c H locs k n z.Q (F0 z.m pc ls st) q
def fw_room (d mc ms : Nat) : Room := { frames := d, cells := mc, slots := ms, locals := 60 * d }
/-- what holds all through a method's body -/
def CX (g : GZ) (z : ZX) (cc : ByteArray) (own : String) (nL d mc ms : Nat) : Prop :=
  fw_ok g ∧ z.p.tables.exec = Jvm.exec ∧ z.c.code = cc ∧ z.M.locks = false ∧ z.s.vm.findClass own = some z.m.cls ∧ z.R = fw_room d mc ms ∧ g.s.WarmedH z.s.vm ∧ z.l.stackTraces = false ∧ z.c.maxLocals = nL ∧ g.b ≤ z.s.heap.size ∧ ∀ q : Nat, q < g.b → z.s.heap[q]? = g.s.heap[q]?
theorem CX.w {g : GZ} {z : ZX} {cc : ByteArray} {own : String} {nL d mc ms : Nat} (C : CX g z cc own nL d mc ms) : ∀ w ∈ lw_all, w.before z.a z.s = true := by
  intro w hw
  refine word_at C.2.2.2.2.2.2.1 ?_ (C.1.1 w (lw_all_tbl hw))
  exact good_of_word (List.mem_filter.mp hw).2
theorem CX.K {g : GZ} {z : ZX} {cc : ByteArray} {own : String} {nL d mc ms : Nat} (C : CX g z cc own nL d mc ms) : va_K g.D fw_cl [(g.dA 0, .int), (g.dA 1, .int), (g.dA 2, .byte), (g.dA 3, .boolean), (g.dA 4, .long), (g.dA 5, .object "java/lang/Object"), (g.dA 6, .object "LawnPaths$Change")] z.s := va_K.moved C.2.2.2.2.2.2.1.alike C.1.2.1
theorem CX.x {g : GZ} {z : ZX} {cc : ByteArray} {own : String} {nL d mc ms : Nat} (C : CX g z cc own nL d mc ms) : z.p.tables.exec = Jvm.exec := C.2.1
theorem CX.b {g : GZ} {z : ZX} {cc : ByteArray} {own : String} {nL d mc ms : Nat} (C : CX g z cc own nL d mc ms) : z.c.code = cc := C.2.2.1
theorem CX.lk {g : GZ} {z : ZX} {cc : ByteArray} {own : String} {nL d mc ms : Nat} (C : CX g z cc own nL d mc ms) : z.M.locks = false := C.2.2.2.1
theorem CX.o {g : GZ} {z : ZX} {cc : ByteArray} {own : String} {nL d mc ms : Nat} (C : CX g z cc own nL d mc ms) : z.s.vm.findClass own = some z.m.cls := C.2.2.2.2.1
theorem CX.r {g : GZ} {z : ZX} {cc : ByteArray} {own : String} {nL d mc ms : Nat} (C : CX g z cc own nL d mc ms) : z.R = fw_room d mc ms := C.2.2.2.2.2.1
theorem CX.wm {g : GZ} {z : ZX} {cc : ByteArray} {own : String} {nL d mc ms : Nat} (C : CX g z cc own nL d mc ms) : g.s.WarmedH z.s.vm := C.2.2.2.2.2.2.1
theorem CX.nt {g : GZ} {z : ZX} {cc : ByteArray} {own : String} {nL d mc ms : Nat} (C : CX g z cc own nL d mc ms) : z.l.stackTraces = false := C.2.2.2.2.2.2.2.1
theorem CX.ml {g : GZ} {z : ZX} {cc : ByteArray} {own : String} {nL d mc ms : Nat} (C : CX g z cc own nL d mc ms) : z.c.maxLocals = nL := C.2.2.2.2.2.2.2.2.1
/-- the class's name of a thrown object's kind -/
def fw_ex (k : Nat) : Option String := match k with
  | 8 => some RX8 | 9 => some RX9 | 18 => some RJ17 | 19 => some RJ18 | 20 => some RJ22
  | _ => none
theorem fw_ex_mut {k : Nat} {E : String} (h : fw_ex k = some E) : fw_mut k = true := by
  unfold fw_ex at h
  split at h <;> first | rfl | cases h
def fw_Qc (g : GZ) {ρ : Type} (w : ρ → Option Value) (Po : ρ → HA → Prop) : Array Value → State → Outcome → State → Prop := fun _ _ o t => ∃ (u : ρ) (A' : HA), o = .returned (w u) ∧ Po u A' ∧ Rp g A' t.heap
def fw_Xc (g : GZ) (Px : Nat → HA → Prop) : String → Addr → State → State → Prop := fun E q _ t => ∃ A' : HA, Px q A' ∧ fw_ex (A'.G q).1 = some E ∧ Rp g A' t.heap
def fw_Pc (g : GZ) (As : List Value) (A : HA) : Array Value → State → Prop := va_Pc As (fun U => Rp g A U.heap ∧ g.s.WarmedH U.vm)
/-- A CONTRACT: y (code word cw), depth d, at most mc cells and ms slots; called with As at the heap A it returns u with Po u A', or throws q with Px q A' -/
def Ct (g : GZ) {ρ : Type} (w : ρ → Option Value) (y : MethodName) (cw : Cond) (d mc ms : Nat) (As : List Value) (A : HA) (Po : ρ → HA → Prop) (Px : Nat → HA → Prop) : Prop :=
  fw_ok g → ∀ l : Launch, l.stackTraces = false → vx_Met l y (cw :: lw_all) (fw_room d mc ms) (fw_Pc g As A) (fw_Qc g w Po) (fw_Xc g Px) mc ms (fun q => g.b ≤ q)
theorem fw_blind (g : GZ) (As : List Value) (A : HA) : FrameBlind (fw_Pc g As A) := by
  intro a U gf mk h
  exact ⟨h.1, h.2.1, h.2.2⟩
def fw_no : Nat → HA → Prop := fun _ _ => False
def wI (x : Int32) : Option Value := some (.int x)
def wV (_ : Unit) : Option Value := none
def wR (a : Nat) : Option Value := some (.ref a)
def wN (o : Option Nat) : Option Value := some (va_rf o)
def wD (x : UInt64) : Option Value := some (.double x)
def wF (x : UInt32) : Option Value := some (.float x)
/-- the method's end: what its returns owe -/
def fw_end (g : GZ) (z : ZX) {ρ : Type} (w : ρ → Option Value) (r : Option FieldType) (mc ms : Nat) (Po : ρ → HA → Prop) (Px : Nat → HA → Prop) : Prop :=
  z.M.sig.returnType = r ∧ z.Q = vx_MQ z.b (fw_Qc g w Po) (fw_Xc g Px) z.a z.s mc ms (fun q => g.b ≤ q)
