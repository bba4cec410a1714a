/-! ROWS: one instruction each, over the abstract heap -/
set_option maxRecDepth 100000
theorem fw_L.at {ls : Array Slot} {lv : List (Option Value)} (h : fw_L ls lv) {i : Nat} {v : Value} (hv : lv[i]? = some (some v)) : ls[i]? = some (.val v) := h.2.2 i v hv
theorem fw_L.st1 {ls : Array Slot} {lv : List (Option Value)} (h : fw_L ls lv) {i : Nat} {v : Value} (hi : i < lv.length) (hc : v.category = 1) (hp : ∀ (j : Nat) (w : Value), j + 1 = i → lv[j]? = some (some w) → ¬ w.category = 2) :
    ∃ ls', storeLocals ls i v = some ls' ∧ fw_L ls' (lv.set i (some v)) := by
  obtain ⟨ls', e, h1, h2, h3⟩ := lv_store1 (l := []) (nL := lv.length) ⟨h.1, h.2.1, fun q hq => nomatch hq⟩ hi hc
  refine ⟨ls', e, by rw [h1, List.length_set], h2, fun j w hj => ?_⟩
  by_cases hji : j = i
  · subst hji
    rw [List.getElem?_set_self hi] at hj
    cases hj
    exact h3 (j, v) List.mem_cons_self
  · rw [List.getElem?_set_ne (Ne.symm hji)] at hj
    obtain ⟨ls2, e2, -, -, h4⟩ := lv_store1 (l := [(j, w)]) (nL := lv.length) ⟨h.1, h.2.1, fun q hq => by rw [List.mem_singleton.mp hq]; exact h.at hj⟩ hi hc
    cases Option.some.inj (e.symm.trans e2)
    refine h4 (j, w) (List.mem_cons_of_mem _ (List.mem_filter.mpr ⟨List.mem_singleton.mpr rfl, ?_⟩))
    have q1 : (j == i) = false := by simp [hji]
    by_cases q2 : j + 1 = i
    · have q3 := hp j w q2 hj
      simp [q1, q3]
    · simp [q1, q2]
theorem fw_L.st2 {ls : Array Slot} {lv : List (Option Value)} (h : fw_L ls lv) {i : Nat} {v : Value} (hi : i + 1 < lv.length) (hc : v.category = 2) (hp : ∀ (j : Nat) (w : Value), j + 1 = i → lv[j]? = some (some w) → ¬ w.category = 2) :
    ∃ ls', storeLocals ls i v = some ls' ∧ fw_L ls' ((lv.set i (some v)).set (i + 1) none) := by
  obtain ⟨ls', e, h1, h2, h3⟩ := lv_store2 (l := []) (nL := lv.length) ⟨h.1, h.2.1, fun q hq => nomatch hq⟩ hi hc
  refine ⟨ls', e, by rw [h1, List.length_set, List.length_set], h2, fun j w hj => ?_⟩
  by_cases hji : j = i
  · subst hji
    rw [List.getElem?_set_ne (by omega), List.getElem?_set_self (by omega)] at hj
    cases hj
    exact h3 (j, v) List.mem_cons_self
  · by_cases hj1 : j = i + 1
    · subst hj1
      rw [List.getElem?_set_self (by rw [List.length_set]; exact hi)] at hj
      cases hj
    · rw [List.getElem?_set_ne (Ne.symm hj1), List.getElem?_set_ne (Ne.symm hji)] at hj
      obtain ⟨ls2, e2, -, -, h4⟩ := lv_store2 (l := [(j, w)]) (nL := lv.length) ⟨h.1, h.2.1, fun q hq => by rw [List.mem_singleton.mp hq]; exact h.at hj⟩ hi hc
      cases Option.some.inj (e.symm.trans e2)
      refine h4 (j, w) (List.mem_cons_of_mem _ (List.mem_filter.mpr ⟨List.mem_singleton.mpr rfl, ?_⟩))
      have q1 : (j == i) = false := by simp [hji]
      have q4 : (j == i + 1) = false := by simp [hj1]
      by_cases q2 : j + 1 = i
      · have q3 := hp j w q2 hj
        simp [q1, q4, q3]
      · simp [q1, q4, q2]
def c2 (v : Option Value) : Bool := match v with
  | some v => v.category == 2
  | none => false
theorem c2_of {v : Option Value} (h : c2 v = false) {w : Value} (e : v = some w) : ¬ w.category = 2 := by
  subst e
  simpa [c2] using h
section
variable {g : GZ} {z : ZX} {cc : ByteArray} {own : String} {nL d mc ms k n : Nat} {A : HA} {pc : Nat} {lv : List (Option Value)} {st : List Value}
theorem r_iconst (C : CX g z cc own nL d mc ms) {v0 : Int} {v : Int32} (hd : decode cc pc = .ok (.iconst v0, 1)) (hv : Int32.ofInt v0 = v) (kk : wa g z k n A (pc + 1) lv (.int v :: st)) : wa g z k n A pc lv st := fun H locs ls hR hL hl => lv_iconst C.x C.b hd hv (kk H locs ls hR hL hl)
theorem r_bipush (C : CX g z cc own nL d mc ms) {v0 : Int} {v : Int32} (hd : decode cc pc = .ok (.bipush v0, 2)) (hv : (Int8.ofInt v0).toInt32 = v) (kk : wa g z k n A (pc + 2) lv (.int v :: st)) : wa g z k n A pc lv st := fun H locs ls hR hL hl => lv_bipush C.x C.b hd hv (kk H locs ls hR hL hl)
theorem r_sipush (C : CX g z cc own nL d mc ms) {v0 : Int} {v : Int32} (hd : decode cc pc = .ok (.sipush v0, 3)) (hv : (Int16.ofInt v0).toInt32 = v) (kk : wa g z k n A (pc + 3) lv (.int v :: st)) : wa g z k n A pc lv st := fun H locs ls hR hL hl => lv_sipush C.x C.b hd hv (kk H locs ls hR hL hl)
theorem r_lconst (C : CX g z cc own nL d mc ms) {v0 : Fin 2} {v : Int64} (hd : decode cc pc = .ok (.lconst v0, 1)) (hv : Int64.ofNat (v0 : Nat) = v) (kk : wa g z k n A (pc + 1) lv (.long v :: st)) : wa g z k n A pc lv st := fun H locs ls hR hL hl => lv_lconst C.x C.b hd hv (kk H locs ls hR hL hl)
theorem r_null (C : CX g z cc own nL d mc ms)  (hd : decode cc pc = .ok (.aconst_null, 1))  (kk : wa g z k n A (pc + 1) lv (.null :: st)) : wa g z k n A pc lv st := fun H locs ls hR hL hl => lv_null C.x C.b hd (kk H locs ls hR hL hl)
theorem r_dup (C : CX g z cc own nL d mc ms) {v : Value} (hd : decode cc pc = .ok (.dup, 1)) (hv : v.category = 1) (kk : wa g z k n A (pc + 1) lv (v :: v :: st)) : wa g z k n A pc lv (v :: st) := fun H locs ls hR hL hl => lv_dup C.x C.b hd hv (kk H locs ls hR hL hl)
theorem r_pop (C : CX g z cc own nL d mc ms) {v : Value} (hd : decode cc pc = .ok (.pop, 1)) (hv : v.category = 1) (kk : wa g z k n A (pc + 1) lv st) : wa g z k n A pc lv (v :: st) := fun H locs ls hR hL hl => lv_pop C.x C.b hd hv (kk H locs ls hR hL hl)
theorem r_dup_x1 (C : CX g z cc own nL d mc ms) {v u : Value} (hd : decode cc pc = .ok (.dup_x1, 1)) (hv : v.category = 1) (hu : u.category = 1) (kk : wa g z k n A (pc + 1) lv (v :: u :: v :: st)) : wa g z k n A pc lv (v :: u :: st) := fun H locs ls hR hL hl => lv_dup_x1 C.x C.b hd hv hu (kk H locs ls hR hL hl)
theorem r_dup2 (C : CX g z cc own nL d mc ms) {v u : Value} (hd : decode cc pc = .ok (.dup2, 1)) (hv : v.category = 1) (hu : u.category = 1) (kk : wa g z k n A (pc + 1) lv (v :: u :: v :: u :: st)) : wa g z k n A pc lv (v :: u :: st) := fun H locs ls hR hL hl => lv_dup2_11 C.x C.b hd hv hu (kk H locs ls hR hL hl)
theorem r_iadd (C : CX g z cc own nL d mc ms) {x y : Int32} (hd : decode cc pc = .ok (.iadd, 1))  (kk : wa g z k n A (pc + 1) lv (.int (x + y) :: st)) : wa g z k n A pc lv (.int y :: .int x :: st) := fun H locs ls hR hL hl => lv_iadd C.x C.b hd (kk H locs ls hR hL hl)
theorem r_isub (C : CX g z cc own nL d mc ms) {x y : Int32} (hd : decode cc pc = .ok (.isub, 1))  (kk : wa g z k n A (pc + 1) lv (.int (x - y) :: st)) : wa g z k n A pc lv (.int y :: .int x :: st) := fun H locs ls hR hL hl => lv_isub C.x C.b hd (kk H locs ls hR hL hl)
theorem r_imul (C : CX g z cc own nL d mc ms) {x y : Int32} (hd : decode cc pc = .ok (.imul, 1))  (kk : wa g z k n A (pc + 1) lv (.int (x * y) :: st)) : wa g z k n A pc lv (.int y :: .int x :: st) := fun H locs ls hR hL hl => lv_imul C.x C.b hd (kk H locs ls hR hL hl)
theorem r_iand (C : CX g z cc own nL d mc ms) {x y : Int32} (hd : decode cc pc = .ok (.iand, 1))  (kk : wa g z k n A (pc + 1) lv (.int (x &&& y) :: st)) : wa g z k n A pc lv (.int y :: .int x :: st) := fun H locs ls hR hL hl => lv_iand C.x C.b hd (kk H locs ls hR hL hl)
theorem r_ior (C : CX g z cc own nL d mc ms) {x y : Int32} (hd : decode cc pc = .ok (.ior, 1))  (kk : wa g z k n A (pc + 1) lv (.int (x ||| y) :: st)) : wa g z k n A pc lv (.int y :: .int x :: st) := fun H locs ls hR hL hl => lv_ior C.x C.b hd (kk H locs ls hR hL hl)
theorem r_ishl (C : CX g z cc own nL d mc ms) {x y : Int32} (hd : decode cc pc = .ok (.ishl, 1))  (kk : wa g z k n A (pc + 1) lv (.int (x <<< (y &&& 31)) :: st)) : wa g z k n A pc lv (.int y :: .int x :: st) := fun H locs ls hR hL hl => lv_ishl C.x C.b hd (kk H locs ls hR hL hl)
theorem r_ishr (C : CX g z cc own nL d mc ms) {x y : Int32} (hd : decode cc pc = .ok (.ishr, 1))  (kk : wa g z k n A (pc + 1) lv (.int (x >>> (y &&& 31)) :: st)) : wa g z k n A pc lv (.int y :: .int x :: st) := fun H locs ls hR hL hl => lv_ishr C.x C.b hd (kk H locs ls hR hL hl)
theorem r_idiv (C : CX g z cc own nL d mc ms) {x y : Int32} (hd : decode cc pc = .ok (.idiv, 1)) (hne : ¬ y = 0) (kk : wa g z k n A (pc + 1) lv (.int (x / y) :: st)) : wa g z k n A pc lv (.int y :: .int x :: st) := fun H locs ls hR hL hl => lv_idiv C.x C.b hd hne (kk H locs ls hR hL hl)
theorem r_irem (C : CX g z cc own nL d mc ms) {x y : Int32} (hd : decode cc pc = .ok (.irem, 1)) (hne : ¬ y = 0) (kk : wa g z k n A (pc + 1) lv (.int (x - x / y * y) :: st)) : wa g z k n A pc lv (.int y :: .int x :: st) := fun H locs ls hR hL hl => lv_irem C.x C.b hd hne (kk H locs ls hR hL hl)
theorem r_ineg (C : CX g z cc own nL d mc ms) {x : Int32} (hd : decode cc pc = .ok (.ineg, 1))  (kk : wa g z k n A (pc + 1) lv (.int (-x) :: st)) : wa g z k n A pc lv (.int x :: st) := fun H locs ls hR hL hl => lv_ineg C.x C.b hd (kk H locs ls hR hL hl)
theorem r_iushr (C : CX g z cc own nL d mc ms) {x y v : Int32} (hd : decode cc pc = .ok (.iushr, 1)) (hv : (x.toUInt32 >>> (y.toUInt32 &&& Int32.toUInt32 31)).toInt32 = v) (kk : wa g z k n A (pc + 1) lv (.int v :: st)) : wa g z k n A pc lv (.int y :: .int x :: st) := fun H locs ls hR hL hl => lv_iushr C.x C.b hd hv (kk H locs ls hR hL hl)
theorem r_i2l (C : CX g z cc own nL d mc ms) {x : Int32} (hd : decode cc pc = .ok (.i2l, 1))  (kk : wa g z k n A (pc + 1) lv (.long x.toInt64 :: st)) : wa g z k n A pc lv (.int x :: st) := fun H locs ls hR hL hl => lv_i2l C.x C.b hd rfl (kk H locs ls hR hL hl)
theorem r_l2i (C : CX g z cc own nL d mc ms) {x : Int64} (hd : decode cc pc = .ok (.l2i, 1))  (kk : wa g z k n A (pc + 1) lv (.int x.toInt32 :: st)) : wa g z k n A pc lv (.long x :: st) := fun H locs ls hR hL hl => lv_l2i C.x C.b hd rfl (kk H locs ls hR hL hl)
theorem r_i2b (C : CX g z cc own nL d mc ms) {x : Int32} (hd : decode cc pc = .ok (.i2b, 1))  (kk : wa g z k n A (pc + 1) lv (.int x.toInt8.toInt32 :: st)) : wa g z k n A pc lv (.int x :: st) := fun H locs ls hR hL hl => lv_i2b C.x C.b hd rfl (kk H locs ls hR hL hl)
theorem r_i2c (C : CX g z cc own nL d mc ms) {x : Int32} (hd : decode cc pc = .ok (.i2c, 1))  (kk : wa g z k n A (pc + 1) lv (.int (x.toUInt32 % 65536).toInt32 :: st)) : wa g z k n A pc lv (.int x :: st) := fun H locs ls hR hL hl => lv_i2c C.x C.b hd rfl (kk H locs ls hR hL hl)
theorem r_i2f (C : CX g z cc own nL d mc ms) {x : Int32} (hd : decode cc pc = .ok (.i2f, 1))  (kk : wa g z k n A (pc + 1) lv (.float (FP.i2f x) :: st)) : wa g z k n A pc lv (.int x :: st) := fun H locs ls hR hL hl => lv_i2f C.x C.b hd (kk H locs ls hR hL hl)
theorem r_i2d (C : CX g z cc own nL d mc ms) {x : Int32} (hd : decode cc pc = .ok (.i2d, 1))  (kk : wa g z k n A (pc + 1) lv (.double (FP.i2d x) :: st)) : wa g z k n A pc lv (.int x :: st) := fun H locs ls hR hL hl => lv_i2d C.x C.b hd (kk H locs ls hR hL hl)
theorem r_f2d (C : CX g z cc own nL d mc ms) {x : UInt32} (hd : decode cc pc = .ok (.f2d, 1)) (hne : vf_n64 (FP.f2d x)) (kk : wa g z k n A (pc + 1) lv (.double (FP.f2d x) :: st)) : wa g z k n A pc lv (.float x :: st) := fun H locs ls hR hL hl => lv_f2d C.x C.b hd hne (kk H locs ls hR hL hl)
theorem r_fdiv (C : CX g z cc own nL d mc ms) {x y : UInt32} (hd : decode cc pc = .ok (.fdiv, 1)) (hne : vf_n32 (FP.fdiv x y)) (kk : wa g z k n A (pc + 1) lv (.float (FP.fdiv x y) :: st)) : wa g z k n A pc lv (.float y :: .float x :: st) := fun H locs ls hR hL hl => lv_fdiv C.x C.b hd hne (kk H locs ls hR hL hl)
theorem r_ddiv (C : CX g z cc own nL d mc ms) {x y : UInt64} (hd : decode cc pc = .ok (.ddiv, 1)) (hne : vf_n64 (FP.ddiv x y)) (kk : wa g z k n A (pc + 1) lv (.double (FP.ddiv x y) :: st)) : wa g z k n A pc lv (.double y :: .double x :: st) := fun H locs ls hR hL hl => lv_ddiv C.x C.b hd hne (kk H locs ls hR hL hl)
theorem r_fconst0 (C : CX g z cc own nL d mc ms)  (hd : decode cc pc = .ok (.fconst 0, 1))  (kk : wa g z k n A (pc + 1) lv (.float 0 :: st)) : wa g z k n A pc lv st := fun H locs ls hR hL hl => lv_fconst0 C.x C.b hd (kk H locs ls hR hL hl)
theorem r_dconst0 (C : CX g z cc own nL d mc ms)  (hd : decode cc pc = .ok (.dconst 0, 1))  (kk : wa g z k n A (pc + 1) lv (.double 0 :: st)) : wa g z k n A pc lv st := fun H locs ls hR hL hl => lv_dconst0 C.x C.b hd (kk H locs ls hR hL hl)
theorem r_lcmp (C : CX g z cc own nL d mc ms) {x y : Int64} (hd : decode cc pc = .ok (.lcmp, 1))  (kk : wa g z k n A (pc + 1) lv (.int (lg_cmp x y) :: st)) : wa g z k n A pc lv (.long y :: .long x :: st) := fun H locs ls hR hL hl => W.lcmp C.x C.b hd (kk H locs ls hR hL hl)
theorem r_dcmp (C : CX g z cc own nL d mc ms) {x y : UInt64} {op : CmpOp} (hd : decode cc pc = .ok (.dcmp op, 1))  (kk : wa g z k n A (pc + 1) lv (.int (Op.cmpValue (FP.dcmp x y) op) :: st)) : wa g z k n A pc lv (.double y :: .double x :: st) := fun H locs ls hR hL hl => lv_dcmp C.x C.b hd (kk H locs ls hR hL hl)
theorem r_ldc (C : CX g z cc own nL d mc ms) {ix : Nat} {v : Int32} (hw : Cond.constant own ix v ∈ lw_all) (hd : decode cc pc = .ok (.ldc ix, 2)) (kk : wa g z k n A (pc + 2) lv (.int v :: st)) : wa g z k n A pc lv st := fun H locs ls hR hL hl => W.ldc C.x C.b C.o (C.w _ hw) rfl hd (kk H locs ls hR hL hl)
theorem r_ldc2 (C : CX g z cc own nL d mc ms) {ix : Nat} {v : Int64} (hw : Cond.constantLong own ix v ∈ lw_all) (hd : decode cc pc = .ok (.ldc2_w ix, 3)) (kk : wa g z k n A (pc + 3) lv (.long v :: st)) : wa g z k n A pc lv st := fun H locs ls hR hL hl => W.ldc2 C.x C.b C.o (C.w _ hw) rfl hd (kk H locs ls hR hL hl)
theorem r_goto (C : CX g z cc own nL d mc ms) {off : Int} {tgt : Nat} (hd : decode cc pc = .ok (.goto off, 3)) (ht : (pc : Int) + off = (tgt : Int)) (kk : wa g z k n A tgt lv st) : wa g z k n A pc lv st := fun H locs ls hR hL hl => lv_goto C.x C.b hd ht (kk H locs ls hR hL hl)
theorem r_if_eq (C : CX g z cc own nL d mc ms) {x : Int32} {off : Int} {tgt : Nat} (hd : decode cc pc = .ok (.ifCond .eq off, 3)) (ht : (pc : Int) + off = (tgt : Int)) (kt : x = 0 → wa g z k n A tgt lv st) (kf : ¬ x = 0 → wa g z k n A (pc + 3) lv st) : wa g z k n A pc lv (.int x :: st) := fun H locs ls hR hL hl => lv_if_eq C.x C.b hd ht (fun h => kt h H locs ls hR hL hl) (fun h => kf h H locs ls hR hL hl)
theorem r_icmp_eq (C : CX g z cc own nL d mc ms) {x y : Int32} {off : Int} {tgt : Nat} (hd : decode cc pc = .ok (.if_icmp .eq off, 3)) (ht : (pc : Int) + off = (tgt : Int)) (kt : x = y → wa g z k n A tgt lv st) (kf : ¬ x = y → wa g z k n A (pc + 3) lv st) : wa g z k n A pc lv (.int y :: .int x :: st) := fun H locs ls hR hL hl => lv_icmp_eq C.x C.b hd ht (fun h => kt h H locs ls hR hL hl) (fun h => kf h H locs ls hR hL hl)
theorem r_if_ne (C : CX g z cc own nL d mc ms) {x : Int32} {off : Int} {tgt : Nat} (hd : decode cc pc = .ok (.ifCond .ne off, 3)) (ht : (pc : Int) + off = (tgt : Int)) (kt : ¬ x = 0 → wa g z k n A tgt lv st) (kf : x = 0 → wa g z k n A (pc + 3) lv st) : wa g z k n A pc lv (.int x :: st) := fun H locs ls hR hL hl => lv_if_ne C.x C.b hd ht (fun h => kt h H locs ls hR hL hl) (fun h => kf h H locs ls hR hL hl)
theorem r_icmp_ne (C : CX g z cc own nL d mc ms) {x y : Int32} {off : Int} {tgt : Nat} (hd : decode cc pc = .ok (.if_icmp .ne off, 3)) (ht : (pc : Int) + off = (tgt : Int)) (kt : ¬ x = y → wa g z k n A tgt lv st) (kf : x = y → wa g z k n A (pc + 3) lv st) : wa g z k n A pc lv (.int y :: .int x :: st) := fun H locs ls hR hL hl => lv_icmp_ne C.x C.b hd ht (fun h => kt h H locs ls hR hL hl) (fun h => kf h H locs ls hR hL hl)
theorem r_if_lt (C : CX g z cc own nL d mc ms) {x : Int32} {off : Int} {tgt : Nat} (hd : decode cc pc = .ok (.ifCond .lt off, 3)) (ht : (pc : Int) + off = (tgt : Int)) (kt : x < 0 → wa g z k n A tgt lv st) (kf : ¬ x < 0 → wa g z k n A (pc + 3) lv st) : wa g z k n A pc lv (.int x :: st) := fun H locs ls hR hL hl => lv_if_lt C.x C.b hd ht (fun h => kt h H locs ls hR hL hl) (fun h => kf h H locs ls hR hL hl)
theorem r_icmp_lt (C : CX g z cc own nL d mc ms) {x y : Int32} {off : Int} {tgt : Nat} (hd : decode cc pc = .ok (.if_icmp .lt off, 3)) (ht : (pc : Int) + off = (tgt : Int)) (kt : x < y → wa g z k n A tgt lv st) (kf : ¬ x < y → wa g z k n A (pc + 3) lv st) : wa g z k n A pc lv (.int y :: .int x :: st) := fun H locs ls hR hL hl => lv_icmp_lt C.x C.b hd ht (fun h => kt h H locs ls hR hL hl) (fun h => kf h H locs ls hR hL hl)
theorem r_if_ge (C : CX g z cc own nL d mc ms) {x : Int32} {off : Int} {tgt : Nat} (hd : decode cc pc = .ok (.ifCond .ge off, 3)) (ht : (pc : Int) + off = (tgt : Int)) (kt : 0 ≤ x → wa g z k n A tgt lv st) (kf : ¬ 0 ≤ x → wa g z k n A (pc + 3) lv st) : wa g z k n A pc lv (.int x :: st) := fun H locs ls hR hL hl => lv_if_ge C.x C.b hd ht (fun h => kt h H locs ls hR hL hl) (fun h => kf h H locs ls hR hL hl)
theorem r_icmp_ge (C : CX g z cc own nL d mc ms) {x y : Int32} {off : Int} {tgt : Nat} (hd : decode cc pc = .ok (.if_icmp .ge off, 3)) (ht : (pc : Int) + off = (tgt : Int)) (kt : y ≤ x → wa g z k n A tgt lv st) (kf : ¬ y ≤ x → wa g z k n A (pc + 3) lv st) : wa g z k n A pc lv (.int y :: .int x :: st) := fun H locs ls hR hL hl => lv_icmp_ge C.x C.b hd ht (fun h => kt h H locs ls hR hL hl) (fun h => kf h H locs ls hR hL hl)
theorem r_if_gt (C : CX g z cc own nL d mc ms) {x : Int32} {off : Int} {tgt : Nat} (hd : decode cc pc = .ok (.ifCond .gt off, 3)) (ht : (pc : Int) + off = (tgt : Int)) (kt : 0 < x → wa g z k n A tgt lv st) (kf : ¬ 0 < x → wa g z k n A (pc + 3) lv st) : wa g z k n A pc lv (.int x :: st) := fun H locs ls hR hL hl => lv_if_gt C.x C.b hd ht (fun h => kt h H locs ls hR hL hl) (fun h => kf h H locs ls hR hL hl)
theorem r_icmp_gt (C : CX g z cc own nL d mc ms) {x y : Int32} {off : Int} {tgt : Nat} (hd : decode cc pc = .ok (.if_icmp .gt off, 3)) (ht : (pc : Int) + off = (tgt : Int)) (kt : y < x → wa g z k n A tgt lv st) (kf : ¬ y < x → wa g z k n A (pc + 3) lv st) : wa g z k n A pc lv (.int y :: .int x :: st) := fun H locs ls hR hL hl => lv_icmp_gt C.x C.b hd ht (fun h => kt h H locs ls hR hL hl) (fun h => kf h H locs ls hR hL hl)
theorem r_if_le (C : CX g z cc own nL d mc ms) {x : Int32} {off : Int} {tgt : Nat} (hd : decode cc pc = .ok (.ifCond .le off, 3)) (ht : (pc : Int) + off = (tgt : Int)) (kt : x ≤ 0 → wa g z k n A tgt lv st) (kf : ¬ x ≤ 0 → wa g z k n A (pc + 3) lv st) : wa g z k n A pc lv (.int x :: st) := fun H locs ls hR hL hl => lv_if_le C.x C.b hd ht (fun h => kt h H locs ls hR hL hl) (fun h => kf h H locs ls hR hL hl)
theorem r_icmp_le (C : CX g z cc own nL d mc ms) {x y : Int32} {off : Int} {tgt : Nat} (hd : decode cc pc = .ok (.if_icmp .le off, 3)) (ht : (pc : Int) + off = (tgt : Int)) (kt : x ≤ y → wa g z k n A tgt lv st) (kf : ¬ x ≤ y → wa g z k n A (pc + 3) lv st) : wa g z k n A pc lv (.int y :: .int x :: st) := fun H locs ls hR hL hl => lv_icmp_le C.x C.b hd ht (fun h => kt h H locs ls hR hL hl) (fun h => kf h H locs ls hR hL hl)
theorem r_ifnonnull (C : CX g z cc own nL d mc ms) {x : Nat} {off : Int} {tgt : Nat} (hd : decode cc pc = .ok (.ifnonnull off, 3)) (ht : (pc : Int) + off = (tgt : Int)) (kk : wa g z k n A tgt lv st) : wa g z k n A pc lv (.ref x :: st) := fun H locs ls hR hL hl => lv_ifnonnull C.x C.b hd ht (kk H locs ls hR hL hl)
theorem r_ifnull (C : CX g z cc own nL d mc ms) {x : Nat} {off : Int} (hd : decode cc pc = .ok (.ifnull off, 3)) (kk : wa g z k n A (pc + 3) lv st) : wa g z k n A pc lv (.ref x :: st) := fun H locs ls hR hL hl => lv_ifnull C.x C.b hd (kk H locs ls hR hL hl)
theorem r_ifnullN (C : CX g z cc own nL d mc ms) {off : Int} {tgt : Nat} (hd : decode cc pc = .ok (.ifnull off, 3)) (ht : (pc : Int) + off = (tgt : Int)) (kk : wa g z k n A tgt lv st) : wa g z k n A pc lv (.null :: st) := fun H locs ls hR hL hl => lv_ifnullN C.x C.b hd ht (kk H locs ls hR hL hl)
theorem r_ifnonnullN (C : CX g z cc own nL d mc ms) {off : Int} (hd : decode cc pc = .ok (.ifnonnull off, 3)) (kk : wa g z k n A (pc + 3) lv st) : wa g z k n A pc lv (.null :: st) := fun H locs ls hR hL hl => lv_ifnonnullN C.x C.b hd (kk H locs ls hR hL hl)
theorem r_tableIn (C : CX g z cc own nL d mc ms) {dflt lo hi : Int} {offs : Array Int} {len : Nat} {x : Int32} {off : Int} {tgt : Nat} (hd : decode cc pc = .ok (.tableswitch dflt lo hi offs, len)) (h1 : ¬ x.toInt < lo) (h2 : ¬ hi < x.toInt) (ho : offs[(x.toInt - lo).toNat]? = some off) (ht : (pc : Int) + off = (tgt : Int)) (kk : wa g z k n A tgt lv st) : wa g z k n A pc lv (.int x :: st) := fun H locs ls hR hL hl => lv_tableIn C.x C.b hd h1 h2 ho ht (kk H locs ls hR hL hl)
theorem r_tableOut (C : CX g z cc own nL d mc ms) {dflt lo hi : Int} {offs : Array Int} {len : Nat} {x : Int32} {tgt : Nat} (hd : decode cc pc = .ok (.tableswitch dflt lo hi offs, len)) (h : x.toInt < lo ∨ hi < x.toInt) (ht : (pc : Int) + dflt = (tgt : Int)) (kk : wa g z k n A tgt lv st) : wa g z k n A pc lv (.int x :: st) := fun H locs ls hR hL hl => lv_tableOut C.x C.b hd h ht (kk H locs ls hR hL hl)
theorem r_lookup (C : CX g z cc own nL d mc ms) {dflt : Int} {ps : Array (Int × Int)} {len : Nat} {x : Int32} {off : Int} {tgt : Nat} (hd : decode cc pc = .ok (.lookupswitch dflt ps, len)) (hp : (ps.toList.zip (ps.toList.drop 1)).all (fun (a, next) => a.1 < next.1) = true) (ho : Op.lookupswitch.offset ps.toList dflt x.toInt = off) (ht : (pc : Int) + off = (tgt : Int)) (kk : wa g z k n A tgt lv st) : wa g z k n A pc lv (.int x :: st) := fun H locs ls hR hL hl => lv_lookup C.x C.b hd hp ho ht (kk H locs ls hR hL hl)
theorem r_acmp_eq (C : CX g z cc own nL d mc ms) {x y : Nat} {off : Int} {tgt : Nat} (hd : decode cc pc = .ok (.if_acmp .eq off, 3)) (ht : (pc : Int) + off = (tgt : Int)) (kt : x = y → wa g z k n A tgt lv st) (kf : ¬ x = y → wa g z k n A (pc + 3) lv st) : wa g z k n A pc lv (.ref y :: .ref x :: st) := fun H locs ls hR hL hl => lv_acmp_eq (rx := some x) (ry := some y) C.x C.b hd ht (fun h => kt (Option.some.inj h) H locs ls hR hL hl) (fun h => kf (fun e => h (congrArg some e)) H locs ls hR hL hl)
theorem r_acmp_ne (C : CX g z cc own nL d mc ms) {x y : Nat} {off : Int} {tgt : Nat} (hd : decode cc pc = .ok (.if_acmp .ne off, 3)) (ht : (pc : Int) + off = (tgt : Int)) (kt : ¬ x = y → wa g z k n A tgt lv st) (kf : x = y → wa g z k n A (pc + 3) lv st) : wa g z k n A pc lv (.ref y :: .ref x :: st) := fun H locs ls hR hL hl => lv_acmp_ne (rx := some x) (ry := some y) C.x C.b hd ht (fun h => kt (fun e => h (congrArg some e)) H locs ls hR hL hl) (fun h => kf (Option.some.inj h) H locs ls hR hL hl)
theorem r_iload_0 (C : CX g z cc own nL d mc ms) {r : List (Option Value)} {x : Int32} (hd : decode cc pc = .ok (.iload_n 0, 1)) (kk : wa g z k n A (pc + 1) (some (.int x) :: r) (.int x :: st)) : wa g z k n A pc (some (.int x) :: r) st := fun H locs ls hR hL hl => lv_iload_n C.x C.b hd rfl (hl.at rfl) (kk H locs ls hR hL hl)
theorem r_istore_0 (C : CX g z cc own nL d mc ms) {r : List (Option Value)} {b : Option Value} {x : Int32} (hd : decode cc pc = .ok (.istore_n 0, 1)) (kk : wa g z k n A (pc + 1) (some (.int x) :: r) st) : wa g z k n A pc (b :: r) (.int x :: st) := by
  intro H locs ls hR hL hl T hT X
  obtain ⟨ls', e', h'⟩ := hl.st1 (i := 0) (v := .int x) (by simp) rfl (fun j w e => absurd e (Nat.succ_ne_zero j))
  obtain ⟨t, a, b⟩ := kk H locs ls' hR hL h' T hT X
  refine ⟨t, ?_, b⟩
  jvm_step X.here [X.here.top, ↓top_set X.here.top, C.x, C.b, hd, e']
  exact a
theorem r_aload_0 (C : CX g z cc own nL d mc ms) {r : List (Option Value)} {x : Nat} (hd : decode cc pc = .ok (.aload_n 0, 1)) (kk : wa g z k n A (pc + 1) (some (.ref x) :: r) (.ref x :: st)) : wa g z k n A pc (some (.ref x) :: r) st := fun H locs ls hR hL hl => lv_aload_n C.x C.b hd rfl (hl.at rfl) (kk H locs ls hR hL hl)
theorem r_astore_0 (C : CX g z cc own nL d mc ms) {r : List (Option Value)} {b : Option Value} {x : Nat} (hd : decode cc pc = .ok (.astore_n 0, 1)) (kk : wa g z k n A (pc + 1) (some (.ref x) :: r) st) : wa g z k n A pc (b :: r) (.ref x :: st) := by
  intro H locs ls hR hL hl T hT X
  obtain ⟨ls', e', h'⟩ := hl.st1 (i := 0) (v := .ref x) (by simp) rfl (fun j w e => absurd e (Nat.succ_ne_zero j))
  obtain ⟨t, a, b⟩ := kk H locs ls' hR hL h' T hT X
  refine ⟨t, ?_, b⟩
  jvm_step X.here [X.here.top, ↓top_set X.here.top, C.x, C.b, hd, e']
  exact ⟨rfl, a⟩
theorem r_lload_0 (C : CX g z cc own nL d mc ms) {r : List (Option Value)} {x : Int64} (hd : decode cc pc = .ok (.lload_n 0, 1)) (kk : wa g z k n A (pc + 1) (some (.long x) :: r) (.long x :: st)) : wa g z k n A pc (some (.long x) :: r) st := fun H locs ls hR hL hl => lv_lload_n C.x C.b hd rfl (hl.at rfl) (kk H locs ls hR hL hl)
theorem r_lstore_0 (C : CX g z cc own nL d mc ms) {r : List (Option Value)} {b b2 : Option Value} {x : Int64} (hd : decode cc pc = .ok (.lstore_n 0, 1)) (kk : wa g z k n A (pc + 1) (some (.long x) :: none :: r) st) : wa g z k n A pc (b :: b2 :: r) (.long x :: st) := by
  intro H locs ls hR hL hl T hT X
  obtain ⟨ls', e', h'⟩ := hl.st2 (i := 0) (v := .long x) (by simp) rfl (fun j w e => absurd e (Nat.succ_ne_zero j))
  obtain ⟨t, a, b⟩ := kk H locs ls' hR hL h' T hT X
  refine ⟨t, ?_, b⟩
  jvm_step X.here [X.here.top, ↓top_set X.here.top, C.x, C.b, hd, e']
  exact a
theorem r_nload_0 (C : CX g z cc own nL d mc ms) {r : List (Option Value)} (hd : decode cc pc = .ok (.aload_n 0, 1)) (kk : wa g z k n A (pc + 1) (some .null :: r) (.null :: st)) : wa g z k n A pc (some .null :: r) st := by
  intro H locs ls hR hL hl T hT X
  have hg : ls[0]? = some (.val .null) := hl.at rfl
  obtain ⟨t, a, b⟩ := kk H locs ls hR hL hl T hT X
  refine ⟨t, ?_, b⟩
  jvm_step X.here [X.here.top, C.x, C.b, hd, hg]
  exact ⟨rfl, a⟩
theorem r_nstore_0 (C : CX g z cc own nL d mc ms) {r : List (Option Value)} {b : Option Value} (hd : decode cc pc = .ok (.astore_n 0, 1)) (kk : wa g z k n A (pc + 1) (some .null :: r) st) : wa g z k n A pc (b :: r) (.null :: st) := by
  intro H locs ls hR hL hl T hT X
  obtain ⟨ls', e', h'⟩ := hl.st1 (i := 0) (v := .null) (by simp) rfl (fun j w e => absurd e (Nat.succ_ne_zero j))
  obtain ⟨t, a, b⟩ := kk H locs ls' hR hL h' T hT X
  refine ⟨t, ?_, b⟩
  jvm_step X.here [X.here.top, ↓top_set X.here.top, C.x, C.b, hd, e']
  exact ⟨rfl, a⟩
theorem r_iinc_0 (C : CX g z cc own nL d mc ms) {r : List (Option Value)} {x v : Int32} {n0 : Int} (hd : decode cc pc = .ok (.iinc 0 n0, 3)) (hv : x + Int32.ofInt n0 = v) (kk : wa g z k n A (pc + 3) (some (.int v) :: r) st) : wa g z k n A pc (some (.int x) :: r) st := by
  subst hv
  intro H locs ls hR hL hl T hT X
  have hg : ls[0]? = some (.val (.int x)) := hl.at rfl
  obtain ⟨ls', e', h'⟩ := hl.st1 (i := 0) (v := .int (x + Int32.ofInt n0)) (by simp) rfl (fun j w e => absurd e (Nat.succ_ne_zero j))
  obtain ⟨t, a, b⟩ := kk H locs ls' hR hL h' T hT X
  refine ⟨t, ?_, b⟩
  jvm_step X.here [X.here.top, ↓top_set X.here.top, C.x, C.b, hd, hg, e']
  exact a
theorem r_iload_1 (C : CX g z cc own nL d mc ms) {a0 : Option Value} {r : List (Option Value)} {x : Int32} (hd : decode cc pc = .ok (.iload_n 1, 1)) (kk : wa g z k n A (pc + 1) (a0 :: some (.int x) :: r) (.int x :: st)) : wa g z k n A pc (a0 :: some (.int x) :: r) st := fun H locs ls hR hL hl => lv_iload_n C.x C.b hd rfl (hl.at rfl) (kk H locs ls hR hL hl)
theorem r_istore_1 (C : CX g z cc own nL d mc ms) {a0 : Option Value} {r : List (Option Value)} {b : Option Value} {x : Int32} (hd : decode cc pc = .ok (.istore_n 1, 1)) (hp : c2 a0 = false) (kk : wa g z k n A (pc + 1) (a0 :: some (.int x) :: r) st) : wa g z k n A pc (a0 :: b :: r) (.int x :: st) := by
  intro H locs ls hR hL hl T hT X
  obtain ⟨ls', e', h'⟩ := hl.st1 (i := 1) (v := .int x) (by simp) rfl (fun j w e h => by cases Nat.succ.inj e; exact c2_of hp (Option.some.inj h))
  obtain ⟨t, a, b⟩ := kk H locs ls' hR hL h' T hT X
  refine ⟨t, ?_, b⟩
  jvm_step X.here [X.here.top, ↓top_set X.here.top, C.x, C.b, hd, e']
  exact a
theorem r_aload_1 (C : CX g z cc own nL d mc ms) {a0 : Option Value} {r : List (Option Value)} {x : Nat} (hd : decode cc pc = .ok (.aload_n 1, 1)) (kk : wa g z k n A (pc + 1) (a0 :: some (.ref x) :: r) (.ref x :: st)) : wa g z k n A pc (a0 :: some (.ref x) :: r) st := fun H locs ls hR hL hl => lv_aload_n C.x C.b hd rfl (hl.at rfl) (kk H locs ls hR hL hl)
theorem r_astore_1 (C : CX g z cc own nL d mc ms) {a0 : Option Value} {r : List (Option Value)} {b : Option Value} {x : Nat} (hd : decode cc pc = .ok (.astore_n 1, 1)) (hp : c2 a0 = false) (kk : wa g z k n A (pc + 1) (a0 :: some (.ref x) :: r) st) : wa g z k n A pc (a0 :: b :: r) (.ref x :: st) := by
  intro H locs ls hR hL hl T hT X
  obtain ⟨ls', e', h'⟩ := hl.st1 (i := 1) (v := .ref x) (by simp) rfl (fun j w e h => by cases Nat.succ.inj e; exact c2_of hp (Option.some.inj h))
  obtain ⟨t, a, b⟩ := kk H locs ls' hR hL h' T hT X
  refine ⟨t, ?_, b⟩
  jvm_step X.here [X.here.top, ↓top_set X.here.top, C.x, C.b, hd, e']
  exact ⟨rfl, a⟩
theorem r_lload_1 (C : CX g z cc own nL d mc ms) {a0 : Option Value} {r : List (Option Value)} {x : Int64} (hd : decode cc pc = .ok (.lload_n 1, 1)) (kk : wa g z k n A (pc + 1) (a0 :: some (.long x) :: r) (.long x :: st)) : wa g z k n A pc (a0 :: some (.long x) :: r) st := fun H locs ls hR hL hl => lv_lload_n C.x C.b hd rfl (hl.at rfl) (kk H locs ls hR hL hl)
theorem r_lstore_1 (C : CX g z cc own nL d mc ms) {a0 : Option Value} {r : List (Option Value)} {b b2 : Option Value} {x : Int64} (hd : decode cc pc = .ok (.lstore_n 1, 1)) (hp : c2 a0 = false) (kk : wa g z k n A (pc + 1) (a0 :: some (.long x) :: none :: r) st) : wa g z k n A pc (a0 :: b :: b2 :: r) (.long x :: st) := by
  intro H locs ls hR hL hl T hT X
  obtain ⟨ls', e', h'⟩ := hl.st2 (i := 1) (v := .long x) (by simp) rfl (fun j w e h => by cases Nat.succ.inj e; exact c2_of hp (Option.some.inj h))
  obtain ⟨t, a, b⟩ := kk H locs ls' hR hL h' T hT X
  refine ⟨t, ?_, b⟩
  jvm_step X.here [X.here.top, ↓top_set X.here.top, C.x, C.b, hd, e']
  exact a
theorem r_nload_1 (C : CX g z cc own nL d mc ms) {a0 : Option Value} {r : List (Option Value)} (hd : decode cc pc = .ok (.aload_n 1, 1)) (kk : wa g z k n A (pc + 1) (a0 :: some .null :: r) (.null :: st)) : wa g z k n A pc (a0 :: some .null :: r) st := by
  intro H locs ls hR hL hl T hT X
  have hg : ls[1]? = some (.val .null) := hl.at rfl
  obtain ⟨t, a, b⟩ := kk H locs ls hR hL hl T hT X
  refine ⟨t, ?_, b⟩
  jvm_step X.here [X.here.top, C.x, C.b, hd, hg]
  exact ⟨rfl, a⟩
theorem r_nstore_1 (C : CX g z cc own nL d mc ms) {a0 : Option Value} {r : List (Option Value)} {b : Option Value} (hd : decode cc pc = .ok (.astore_n 1, 1)) (hp : c2 a0 = false) (kk : wa g z k n A (pc + 1) (a0 :: some .null :: r) st) : wa g z k n A pc (a0 :: b :: r) (.null :: st) := by
  intro H locs ls hR hL hl T hT X
  obtain ⟨ls', e', h'⟩ := hl.st1 (i := 1) (v := .null) (by simp) rfl (fun j w e h => by cases Nat.succ.inj e; exact c2_of hp (Option.some.inj h))
  obtain ⟨t, a, b⟩ := kk H locs ls' hR hL h' T hT X
  refine ⟨t, ?_, b⟩
  jvm_step X.here [X.here.top, ↓top_set X.here.top, C.x, C.b, hd, e']
  exact ⟨rfl, a⟩
theorem r_iinc_1 (C : CX g z cc own nL d mc ms) {a0 : Option Value} {r : List (Option Value)} {x v : Int32} {n0 : Int} (hd : decode cc pc = .ok (.iinc 1 n0, 3)) (hv : x + Int32.ofInt n0 = v) (hp : c2 a0 = false) (kk : wa g z k n A (pc + 3) (a0 :: some (.int v) :: r) st) : wa g z k n A pc (a0 :: some (.int x) :: r) st := by
  subst hv
  intro H locs ls hR hL hl T hT X
  have hg : ls[1]? = some (.val (.int x)) := hl.at rfl
  obtain ⟨ls', e', h'⟩ := hl.st1 (i := 1) (v := .int (x + Int32.ofInt n0)) (by simp) rfl (fun j w e h => by cases Nat.succ.inj e; exact c2_of hp (Option.some.inj h))
  obtain ⟨t, a, b⟩ := kk H locs ls' hR hL h' T hT X
  refine ⟨t, ?_, b⟩
  jvm_step X.here [X.here.top, ↓top_set X.here.top, C.x, C.b, hd, hg, e']
  exact a
theorem r_iload_2 (C : CX g z cc own nL d mc ms) {a0 a1 : Option Value} {r : List (Option Value)} {x : Int32} (hd : decode cc pc = .ok (.iload_n 2, 1)) (kk : wa g z k n A (pc + 1) (a0 :: a1 :: some (.int x) :: r) (.int x :: st)) : wa g z k n A pc (a0 :: a1 :: some (.int x) :: r) st := fun H locs ls hR hL hl => lv_iload_n C.x C.b hd rfl (hl.at rfl) (kk H locs ls hR hL hl)
theorem r_istore_2 (C : CX g z cc own nL d mc ms) {a0 a1 : Option Value} {r : List (Option Value)} {b : Option Value} {x : Int32} (hd : decode cc pc = .ok (.istore_n 2, 1)) (hp : c2 a1 = false) (kk : wa g z k n A (pc + 1) (a0 :: a1 :: some (.int x) :: r) st) : wa g z k n A pc (a0 :: a1 :: b :: r) (.int x :: st) := by
  intro H locs ls hR hL hl T hT X
  obtain ⟨ls', e', h'⟩ := hl.st1 (i := 2) (v := .int x) (by simp) rfl (fun j w e h => by cases Nat.succ.inj e; exact c2_of hp (Option.some.inj h))
  obtain ⟨t, a, b⟩ := kk H locs ls' hR hL h' T hT X
  refine ⟨t, ?_, b⟩
  jvm_step X.here [X.here.top, ↓top_set X.here.top, C.x, C.b, hd, e']
  exact a
theorem r_aload_2 (C : CX g z cc own nL d mc ms) {a0 a1 : Option Value} {r : List (Option Value)} {x : Nat} (hd : decode cc pc = .ok (.aload_n 2, 1)) (kk : wa g z k n A (pc + 1) (a0 :: a1 :: some (.ref x) :: r) (.ref x :: st)) : wa g z k n A pc (a0 :: a1 :: some (.ref x) :: r) st := fun H locs ls hR hL hl => lv_aload_n C.x C.b hd rfl (hl.at rfl) (kk H locs ls hR hL hl)
theorem r_astore_2 (C : CX g z cc own nL d mc ms) {a0 a1 : Option Value} {r : List (Option Value)} {b : Option Value} {x : Nat} (hd : decode cc pc = .ok (.astore_n 2, 1)) (hp : c2 a1 = false) (kk : wa g z k n A (pc + 1) (a0 :: a1 :: some (.ref x) :: r) st) : wa g z k n A pc (a0 :: a1 :: b :: r) (.ref x :: st) := by
  intro H locs ls hR hL hl T hT X
  obtain ⟨ls', e', h'⟩ := hl.st1 (i := 2) (v := .ref x) (by simp) rfl (fun j w e h => by cases Nat.succ.inj e; exact c2_of hp (Option.some.inj h))
  obtain ⟨t, a, b⟩ := kk H locs ls' hR hL h' T hT X
  refine ⟨t, ?_, b⟩
  jvm_step X.here [X.here.top, ↓top_set X.here.top, C.x, C.b, hd, e']
  exact ⟨rfl, a⟩
theorem r_lload_2 (C : CX g z cc own nL d mc ms) {a0 a1 : Option Value} {r : List (Option Value)} {x : Int64} (hd : decode cc pc = .ok (.lload_n 2, 1)) (kk : wa g z k n A (pc + 1) (a0 :: a1 :: some (.long x) :: r) (.long x :: st)) : wa g z k n A pc (a0 :: a1 :: some (.long x) :: r) st := fun H locs ls hR hL hl => lv_lload_n C.x C.b hd rfl (hl.at rfl) (kk H locs ls hR hL hl)
theorem r_lstore_2 (C : CX g z cc own nL d mc ms) {a0 a1 : Option Value} {r : List (Option Value)} {b b2 : Option Value} {x : Int64} (hd : decode cc pc = .ok (.lstore_n 2, 1)) (hp : c2 a1 = false) (kk : wa g z k n A (pc + 1) (a0 :: a1 :: some (.long x) :: none :: r) st) : wa g z k n A pc (a0 :: a1 :: b :: b2 :: r) (.long x :: st) := by
  intro H locs ls hR hL hl T hT X
  obtain ⟨ls', e', h'⟩ := hl.st2 (i := 2) (v := .long x) (by simp) rfl (fun j w e h => by cases Nat.succ.inj e; exact c2_of hp (Option.some.inj h))
  obtain ⟨t, a, b⟩ := kk H locs ls' hR hL h' T hT X
  refine ⟨t, ?_, b⟩
  jvm_step X.here [X.here.top, ↓top_set X.here.top, C.x, C.b, hd, e']
  exact a
theorem r_nload_2 (C : CX g z cc own nL d mc ms) {a0 a1 : Option Value} {r : List (Option Value)} (hd : decode cc pc = .ok (.aload_n 2, 1)) (kk : wa g z k n A (pc + 1) (a0 :: a1 :: some .null :: r) (.null :: st)) : wa g z k n A pc (a0 :: a1 :: some .null :: r) st := by
  intro H locs ls hR hL hl T hT X
  have hg : ls[2]? = some (.val .null) := hl.at rfl
  obtain ⟨t, a, b⟩ := kk H locs ls hR hL hl T hT X
  refine ⟨t, ?_, b⟩
  jvm_step X.here [X.here.top, C.x, C.b, hd, hg]
  exact ⟨rfl, a⟩
theorem r_nstore_2 (C : CX g z cc own nL d mc ms) {a0 a1 : Option Value} {r : List (Option Value)} {b : Option Value} (hd : decode cc pc = .ok (.astore_n 2, 1)) (hp : c2 a1 = false) (kk : wa g z k n A (pc + 1) (a0 :: a1 :: some .null :: r) st) : wa g z k n A pc (a0 :: a1 :: b :: r) (.null :: st) := by
  intro H locs ls hR hL hl T hT X
  obtain ⟨ls', e', h'⟩ := hl.st1 (i := 2) (v := .null) (by simp) rfl (fun j w e h => by cases Nat.succ.inj e; exact c2_of hp (Option.some.inj h))
  obtain ⟨t, a, b⟩ := kk H locs ls' hR hL h' T hT X
  refine ⟨t, ?_, b⟩
  jvm_step X.here [X.here.top, ↓top_set X.here.top, C.x, C.b, hd, e']
  exact ⟨rfl, a⟩
theorem r_iinc_2 (C : CX g z cc own nL d mc ms) {a0 a1 : Option Value} {r : List (Option Value)} {x v : Int32} {n0 : Int} (hd : decode cc pc = .ok (.iinc 2 n0, 3)) (hv : x + Int32.ofInt n0 = v) (hp : c2 a1 = false) (kk : wa g z k n A (pc + 3) (a0 :: a1 :: some (.int v) :: r) st) : wa g z k n A pc (a0 :: a1 :: some (.int x) :: r) st := by
  subst hv
  intro H locs ls hR hL hl T hT X
  have hg : ls[2]? = some (.val (.int x)) := hl.at rfl
  obtain ⟨ls', e', h'⟩ := hl.st1 (i := 2) (v := .int (x + Int32.ofInt n0)) (by simp) rfl (fun j w e h => by cases Nat.succ.inj e; exact c2_of hp (Option.some.inj h))
  obtain ⟨t, a, b⟩ := kk H locs ls' hR hL h' T hT X
  refine ⟨t, ?_, b⟩
  jvm_step X.here [X.here.top, ↓top_set X.here.top, C.x, C.b, hd, hg, e']
  exact a
theorem r_iload_3 (C : CX g z cc own nL d mc ms) {a0 a1 a2 : Option Value} {r : List (Option Value)} {x : Int32} (hd : decode cc pc = .ok (.iload_n 3, 1)) (kk : wa g z k n A (pc + 1) (a0 :: a1 :: a2 :: some (.int x) :: r) (.int x :: st)) : wa g z k n A pc (a0 :: a1 :: a2 :: some (.int x) :: r) st := fun H locs ls hR hL hl => lv_iload_n C.x C.b hd rfl (hl.at rfl) (kk H locs ls hR hL hl)
theorem r_istore_3 (C : CX g z cc own nL d mc ms) {a0 a1 a2 : Option Value} {r : List (Option Value)} {b : Option Value} {x : Int32} (hd : decode cc pc = .ok (.istore_n 3, 1)) (hp : c2 a2 = false) (kk : wa g z k n A (pc + 1) (a0 :: a1 :: a2 :: some (.int x) :: r) st) : wa g z k n A pc (a0 :: a1 :: a2 :: b :: r) (.int x :: st) := by
  intro H locs ls hR hL hl T hT X
  obtain ⟨ls', e', h'⟩ := hl.st1 (i := 3) (v := .int x) (by simp) rfl (fun j w e h => by cases Nat.succ.inj e; exact c2_of hp (Option.some.inj h))
  obtain ⟨t, a, b⟩ := kk H locs ls' hR hL h' T hT X
  refine ⟨t, ?_, b⟩
  jvm_step X.here [X.here.top, ↓top_set X.here.top, C.x, C.b, hd, e']
  exact a
theorem r_aload_3 (C : CX g z cc own nL d mc ms) {a0 a1 a2 : Option Value} {r : List (Option Value)} {x : Nat} (hd : decode cc pc = .ok (.aload_n 3, 1)) (kk : wa g z k n A (pc + 1) (a0 :: a1 :: a2 :: some (.ref x) :: r) (.ref x :: st)) : wa g z k n A pc (a0 :: a1 :: a2 :: some (.ref x) :: r) st := fun H locs ls hR hL hl => lv_aload_n C.x C.b hd rfl (hl.at rfl) (kk H locs ls hR hL hl)
theorem r_astore_3 (C : CX g z cc own nL d mc ms) {a0 a1 a2 : Option Value} {r : List (Option Value)} {b : Option Value} {x : Nat} (hd : decode cc pc = .ok (.astore_n 3, 1)) (hp : c2 a2 = false) (kk : wa g z k n A (pc + 1) (a0 :: a1 :: a2 :: some (.ref x) :: r) st) : wa g z k n A pc (a0 :: a1 :: a2 :: b :: r) (.ref x :: st) := by
  intro H locs ls hR hL hl T hT X
  obtain ⟨ls', e', h'⟩ := hl.st1 (i := 3) (v := .ref x) (by simp) rfl (fun j w e h => by cases Nat.succ.inj e; exact c2_of hp (Option.some.inj h))
  obtain ⟨t, a, b⟩ := kk H locs ls' hR hL h' T hT X
  refine ⟨t, ?_, b⟩
  jvm_step X.here [X.here.top, ↓top_set X.here.top, C.x, C.b, hd, e']
  exact ⟨rfl, a⟩
theorem r_lload_3 (C : CX g z cc own nL d mc ms) {a0 a1 a2 : Option Value} {r : List (Option Value)} {x : Int64} (hd : decode cc pc = .ok (.lload_n 3, 1)) (kk : wa g z k n A (pc + 1) (a0 :: a1 :: a2 :: some (.long x) :: r) (.long x :: st)) : wa g z k n A pc (a0 :: a1 :: a2 :: some (.long x) :: r) st := fun H locs ls hR hL hl => lv_lload_n C.x C.b hd rfl (hl.at rfl) (kk H locs ls hR hL hl)
theorem r_lstore_3 (C : CX g z cc own nL d mc ms) {a0 a1 a2 : Option Value} {r : List (Option Value)} {b b2 : Option Value} {x : Int64} (hd : decode cc pc = .ok (.lstore_n 3, 1)) (hp : c2 a2 = false) (kk : wa g z k n A (pc + 1) (a0 :: a1 :: a2 :: some (.long x) :: none :: r) st) : wa g z k n A pc (a0 :: a1 :: a2 :: b :: b2 :: r) (.long x :: st) := by
  intro H locs ls hR hL hl T hT X
  obtain ⟨ls', e', h'⟩ := hl.st2 (i := 3) (v := .long x) (by simp) rfl (fun j w e h => by cases Nat.succ.inj e; exact c2_of hp (Option.some.inj h))
  obtain ⟨t, a, b⟩ := kk H locs ls' hR hL h' T hT X
  refine ⟨t, ?_, b⟩
  jvm_step X.here [X.here.top, ↓top_set X.here.top, C.x, C.b, hd, e']
  exact a
theorem r_nload_3 (C : CX g z cc own nL d mc ms) {a0 a1 a2 : Option Value} {r : List (Option Value)} (hd : decode cc pc = .ok (.aload_n 3, 1)) (kk : wa g z k n A (pc + 1) (a0 :: a1 :: a2 :: some .null :: r) (.null :: st)) : wa g z k n A pc (a0 :: a1 :: a2 :: some .null :: r) st := by
  intro H locs ls hR hL hl T hT X
  have hg : ls[3]? = some (.val .null) := hl.at rfl
  obtain ⟨t, a, b⟩ := kk H locs ls hR hL hl T hT X
  refine ⟨t, ?_, b⟩
  jvm_step X.here [X.here.top, C.x, C.b, hd, hg]
  exact ⟨rfl, a⟩
theorem r_nstore_3 (C : CX g z cc own nL d mc ms) {a0 a1 a2 : Option Value} {r : List (Option Value)} {b : Option Value} (hd : decode cc pc = .ok (.astore_n 3, 1)) (hp : c2 a2 = false) (kk : wa g z k n A (pc + 1) (a0 :: a1 :: a2 :: some .null :: r) st) : wa g z k n A pc (a0 :: a1 :: a2 :: b :: r) (.null :: st) := by
  intro H locs ls hR hL hl T hT X
  obtain ⟨ls', e', h'⟩ := hl.st1 (i := 3) (v := .null) (by simp) rfl (fun j w e h => by cases Nat.succ.inj e; exact c2_of hp (Option.some.inj h))
  obtain ⟨t, a, b⟩ := kk H locs ls' hR hL h' T hT X
  refine ⟨t, ?_, b⟩
  jvm_step X.here [X.here.top, ↓top_set X.here.top, C.x, C.b, hd, e']
  exact ⟨rfl, a⟩
theorem r_iinc_3 (C : CX g z cc own nL d mc ms) {a0 a1 a2 : Option Value} {r : List (Option Value)} {x v : Int32} {n0 : Int} (hd : decode cc pc = .ok (.iinc 3 n0, 3)) (hv : x + Int32.ofInt n0 = v) (hp : c2 a2 = false) (kk : wa g z k n A (pc + 3) (a0 :: a1 :: a2 :: some (.int v) :: r) st) : wa g z k n A pc (a0 :: a1 :: a2 :: some (.int x) :: r) st := by
  subst hv
  intro H locs ls hR hL hl T hT X
  have hg : ls[3]? = some (.val (.int x)) := hl.at rfl
  obtain ⟨ls', e', h'⟩ := hl.st1 (i := 3) (v := .int (x + Int32.ofInt n0)) (by simp) rfl (fun j w e h => by cases Nat.succ.inj e; exact c2_of hp (Option.some.inj h))
  obtain ⟨t, a, b⟩ := kk H locs ls' hR hL h' T hT X
  refine ⟨t, ?_, b⟩
  jvm_step X.here [X.here.top, ↓top_set X.here.top, C.x, C.b, hd, hg, e']
  exact a
theorem r_iload_4 (C : CX g z cc own nL d mc ms) {a0 a1 a2 a3 : Option Value} {r : List (Option Value)} {x : Int32} (hd : decode cc pc = .ok (.iload 4, 2)) (kk : wa g z k n A (pc + 2) (a0 :: a1 :: a2 :: a3 :: some (.int x) :: r) (.int x :: st)) : wa g z k n A pc (a0 :: a1 :: a2 :: a3 :: some (.int x) :: r) st := fun H locs ls hR hL hl => lv_iload C.x C.b hd (hl.at rfl) (kk H locs ls hR hL hl)
theorem r_istore_4 (C : CX g z cc own nL d mc ms) {a0 a1 a2 a3 : Option Value} {r : List (Option Value)} {b : Option Value} {x : Int32} (hd : decode cc pc = .ok (.istore 4, 2)) (hp : c2 a3 = false) (kk : wa g z k n A (pc + 2) (a0 :: a1 :: a2 :: a3 :: some (.int x) :: r) st) : wa g z k n A pc (a0 :: a1 :: a2 :: a3 :: b :: r) (.int x :: st) := by
  intro H locs ls hR hL hl T hT X
  obtain ⟨ls', e', h'⟩ := hl.st1 (i := 4) (v := .int x) (by simp) rfl (fun j w e h => by cases Nat.succ.inj e; exact c2_of hp (Option.some.inj h))
  obtain ⟨t, a, b⟩ := kk H locs ls' hR hL h' T hT X
  refine ⟨t, ?_, b⟩
  jvm_step X.here [X.here.top, ↓top_set X.here.top, C.x, C.b, hd, e']
  exact a
theorem r_aload_4 (C : CX g z cc own nL d mc ms) {a0 a1 a2 a3 : Option Value} {r : List (Option Value)} {x : Nat} (hd : decode cc pc = .ok (.aload 4, 2)) (kk : wa g z k n A (pc + 2) (a0 :: a1 :: a2 :: a3 :: some (.ref x) :: r) (.ref x :: st)) : wa g z k n A pc (a0 :: a1 :: a2 :: a3 :: some (.ref x) :: r) st := fun H locs ls hR hL hl => lv_aload C.x C.b hd (hl.at rfl) (kk H locs ls hR hL hl)
theorem r_astore_4 (C : CX g z cc own nL d mc ms) {a0 a1 a2 a3 : Option Value} {r : List (Option Value)} {b : Option Value} {x : Nat} (hd : decode cc pc = .ok (.astore 4, 2)) (hp : c2 a3 = false) (kk : wa g z k n A (pc + 2) (a0 :: a1 :: a2 :: a3 :: some (.ref x) :: r) st) : wa g z k n A pc (a0 :: a1 :: a2 :: a3 :: b :: r) (.ref x :: st) := by
  intro H locs ls hR hL hl T hT X
  obtain ⟨ls', e', h'⟩ := hl.st1 (i := 4) (v := .ref x) (by simp) rfl (fun j w e h => by cases Nat.succ.inj e; exact c2_of hp (Option.some.inj h))
  obtain ⟨t, a, b⟩ := kk H locs ls' hR hL h' T hT X
  refine ⟨t, ?_, b⟩
  jvm_step X.here [X.here.top, ↓top_set X.here.top, C.x, C.b, hd, e']
  exact ⟨rfl, a⟩
theorem r_lload_4 (C : CX g z cc own nL d mc ms) {a0 a1 a2 a3 : Option Value} {r : List (Option Value)} {x : Int64} (hd : decode cc pc = .ok (.lload 4, 2)) (kk : wa g z k n A (pc + 2) (a0 :: a1 :: a2 :: a3 :: some (.long x) :: r) (.long x :: st)) : wa g z k n A pc (a0 :: a1 :: a2 :: a3 :: some (.long x) :: r) st := fun H locs ls hR hL hl => lv_lload C.x C.b hd (hl.at rfl) (kk H locs ls hR hL hl)
theorem r_lstore_4 (C : CX g z cc own nL d mc ms) {a0 a1 a2 a3 : Option Value} {r : List (Option Value)} {b b2 : Option Value} {x : Int64} (hd : decode cc pc = .ok (.lstore 4, 2)) (hp : c2 a3 = false) (kk : wa g z k n A (pc + 2) (a0 :: a1 :: a2 :: a3 :: some (.long x) :: none :: r) st) : wa g z k n A pc (a0 :: a1 :: a2 :: a3 :: b :: b2 :: r) (.long x :: st) := by
  intro H locs ls hR hL hl T hT X
  obtain ⟨ls', e', h'⟩ := hl.st2 (i := 4) (v := .long x) (by simp) rfl (fun j w e h => by cases Nat.succ.inj e; exact c2_of hp (Option.some.inj h))
  obtain ⟨t, a, b⟩ := kk H locs ls' hR hL h' T hT X
  refine ⟨t, ?_, b⟩
  jvm_step X.here [X.here.top, ↓top_set X.here.top, C.x, C.b, hd, e']
  exact a
theorem r_dload_4 (C : CX g z cc own nL d mc ms) {a0 a1 a2 a3 : Option Value} {r : List (Option Value)} {x : UInt64} (hd : decode cc pc = .ok (.dload 4, 2)) (kk : wa g z k n A (pc + 2) (a0 :: a1 :: a2 :: a3 :: some (.double x) :: r) (.double x :: st)) : wa g z k n A pc (a0 :: a1 :: a2 :: a3 :: some (.double x) :: r) st := fun H locs ls hR hL hl => lv_dload C.x C.b hd (hl.at rfl) (kk H locs ls hR hL hl)
theorem r_dstore_4 (C : CX g z cc own nL d mc ms) {a0 a1 a2 a3 : Option Value} {r : List (Option Value)} {b b2 : Option Value} {x : UInt64} (hd : decode cc pc = .ok (.dstore 4, 2)) (hp : c2 a3 = false) (kk : wa g z k n A (pc + 2) (a0 :: a1 :: a2 :: a3 :: some (.double x) :: none :: r) st) : wa g z k n A pc (a0 :: a1 :: a2 :: a3 :: b :: b2 :: r) (.double x :: st) := by
  intro H locs ls hR hL hl T hT X
  obtain ⟨ls', e', h'⟩ := hl.st2 (i := 4) (v := .double x) (by simp) rfl (fun j w e h => by cases Nat.succ.inj e; exact c2_of hp (Option.some.inj h))
  obtain ⟨t, a, b⟩ := kk H locs ls' hR hL h' T hT X
  refine ⟨t, ?_, b⟩
  jvm_step X.here [X.here.top, ↓top_set X.here.top, C.x, C.b, hd, e']
  exact a
theorem r_nload_4 (C : CX g z cc own nL d mc ms) {a0 a1 a2 a3 : Option Value} {r : List (Option Value)} (hd : decode cc pc = .ok (.aload 4, 2)) (kk : wa g z k n A (pc + 2) (a0 :: a1 :: a2 :: a3 :: some .null :: r) (.null :: st)) : wa g z k n A pc (a0 :: a1 :: a2 :: a3 :: some .null :: r) st := by
  intro H locs ls hR hL hl T hT X
  have hg : ls[4]? = some (.val .null) := hl.at rfl
  obtain ⟨t, a, b⟩ := kk H locs ls hR hL hl T hT X
  refine ⟨t, ?_, b⟩
  jvm_step X.here [X.here.top, C.x, C.b, hd, hg]
  exact ⟨rfl, a⟩
theorem r_nstore_4 (C : CX g z cc own nL d mc ms) {a0 a1 a2 a3 : Option Value} {r : List (Option Value)} {b : Option Value} (hd : decode cc pc = .ok (.astore 4, 2)) (hp : c2 a3 = false) (kk : wa g z k n A (pc + 2) (a0 :: a1 :: a2 :: a3 :: some .null :: r) st) : wa g z k n A pc (a0 :: a1 :: a2 :: a3 :: b :: r) (.null :: st) := by
  intro H locs ls hR hL hl T hT X
  obtain ⟨ls', e', h'⟩ := hl.st1 (i := 4) (v := .null) (by simp) rfl (fun j w e h => by cases Nat.succ.inj e; exact c2_of hp (Option.some.inj h))
  obtain ⟨t, a, b⟩ := kk H locs ls' hR hL h' T hT X
  refine ⟨t, ?_, b⟩
  jvm_step X.here [X.here.top, ↓top_set X.here.top, C.x, C.b, hd, e']
  exact ⟨rfl, a⟩
theorem r_iinc_4 (C : CX g z cc own nL d mc ms) {a0 a1 a2 a3 : Option Value} {r : List (Option Value)} {x v : Int32} {n0 : Int} (hd : decode cc pc = .ok (.iinc 4 n0, 3)) (hv : x + Int32.ofInt n0 = v) (hp : c2 a3 = false) (kk : wa g z k n A (pc + 3) (a0 :: a1 :: a2 :: a3 :: some (.int v) :: r) st) : wa g z k n A pc (a0 :: a1 :: a2 :: a3 :: some (.int x) :: r) st := by
  subst hv
  intro H locs ls hR hL hl T hT X
  have hg : ls[4]? = some (.val (.int x)) := hl.at rfl
  obtain ⟨ls', e', h'⟩ := hl.st1 (i := 4) (v := .int (x + Int32.ofInt n0)) (by simp) rfl (fun j w e h => by cases Nat.succ.inj e; exact c2_of hp (Option.some.inj h))
  obtain ⟨t, a, b⟩ := kk H locs ls' hR hL h' T hT X
  refine ⟨t, ?_, b⟩
  jvm_step X.here [X.here.top, ↓top_set X.here.top, C.x, C.b, hd, hg, e']
  exact a
theorem r_iload_5 (C : CX g z cc own nL d mc ms) {a0 a1 a2 a3 a4 : Option Value} {r : List (Option Value)} {x : Int32} (hd : decode cc pc = .ok (.iload 5, 2)) (kk : wa g z k n A (pc + 2) (a0 :: a1 :: a2 :: a3 :: a4 :: some (.int x) :: r) (.int x :: st)) : wa g z k n A pc (a0 :: a1 :: a2 :: a3 :: a4 :: some (.int x) :: r) st := fun H locs ls hR hL hl => lv_iload C.x C.b hd (hl.at rfl) (kk H locs ls hR hL hl)
theorem r_istore_5 (C : CX g z cc own nL d mc ms) {a0 a1 a2 a3 a4 : Option Value} {r : List (Option Value)} {b : Option Value} {x : Int32} (hd : decode cc pc = .ok (.istore 5, 2)) (hp : c2 a4 = false) (kk : wa g z k n A (pc + 2) (a0 :: a1 :: a2 :: a3 :: a4 :: some (.int x) :: r) st) : wa g z k n A pc (a0 :: a1 :: a2 :: a3 :: a4 :: b :: r) (.int x :: st) := by
  intro H locs ls hR hL hl T hT X
  obtain ⟨ls', e', h'⟩ := hl.st1 (i := 5) (v := .int x) (by simp) rfl (fun j w e h => by cases Nat.succ.inj e; exact c2_of hp (Option.some.inj h))
  obtain ⟨t, a, b⟩ := kk H locs ls' hR hL h' T hT X
  refine ⟨t, ?_, b⟩
  jvm_step X.here [X.here.top, ↓top_set X.here.top, C.x, C.b, hd, e']
  exact a
theorem r_aload_5 (C : CX g z cc own nL d mc ms) {a0 a1 a2 a3 a4 : Option Value} {r : List (Option Value)} {x : Nat} (hd : decode cc pc = .ok (.aload 5, 2)) (kk : wa g z k n A (pc + 2) (a0 :: a1 :: a2 :: a3 :: a4 :: some (.ref x) :: r) (.ref x :: st)) : wa g z k n A pc (a0 :: a1 :: a2 :: a3 :: a4 :: some (.ref x) :: r) st := fun H locs ls hR hL hl => lv_aload C.x C.b hd (hl.at rfl) (kk H locs ls hR hL hl)
theorem r_astore_5 (C : CX g z cc own nL d mc ms) {a0 a1 a2 a3 a4 : Option Value} {r : List (Option Value)} {b : Option Value} {x : Nat} (hd : decode cc pc = .ok (.astore 5, 2)) (hp : c2 a4 = false) (kk : wa g z k n A (pc + 2) (a0 :: a1 :: a2 :: a3 :: a4 :: some (.ref x) :: r) st) : wa g z k n A pc (a0 :: a1 :: a2 :: a3 :: a4 :: b :: r) (.ref x :: st) := by
  intro H locs ls hR hL hl T hT X
  obtain ⟨ls', e', h'⟩ := hl.st1 (i := 5) (v := .ref x) (by simp) rfl (fun j w e h => by cases Nat.succ.inj e; exact c2_of hp (Option.some.inj h))
  obtain ⟨t, a, b⟩ := kk H locs ls' hR hL h' T hT X
  refine ⟨t, ?_, b⟩
  jvm_step X.here [X.here.top, ↓top_set X.here.top, C.x, C.b, hd, e']
  exact ⟨rfl, a⟩
theorem r_lload_5 (C : CX g z cc own nL d mc ms) {a0 a1 a2 a3 a4 : Option Value} {r : List (Option Value)} {x : Int64} (hd : decode cc pc = .ok (.lload 5, 2)) (kk : wa g z k n A (pc + 2) (a0 :: a1 :: a2 :: a3 :: a4 :: some (.long x) :: r) (.long x :: st)) : wa g z k n A pc (a0 :: a1 :: a2 :: a3 :: a4 :: some (.long x) :: r) st := fun H locs ls hR hL hl => lv_lload C.x C.b hd (hl.at rfl) (kk H locs ls hR hL hl)
theorem r_lstore_5 (C : CX g z cc own nL d mc ms) {a0 a1 a2 a3 a4 : Option Value} {r : List (Option Value)} {b b2 : Option Value} {x : Int64} (hd : decode cc pc = .ok (.lstore 5, 2)) (hp : c2 a4 = false) (kk : wa g z k n A (pc + 2) (a0 :: a1 :: a2 :: a3 :: a4 :: some (.long x) :: none :: r) st) : wa g z k n A pc (a0 :: a1 :: a2 :: a3 :: a4 :: b :: b2 :: r) (.long x :: st) := by
  intro H locs ls hR hL hl T hT X
  obtain ⟨ls', e', h'⟩ := hl.st2 (i := 5) (v := .long x) (by simp) rfl (fun j w e h => by cases Nat.succ.inj e; exact c2_of hp (Option.some.inj h))
  obtain ⟨t, a, b⟩ := kk H locs ls' hR hL h' T hT X
  refine ⟨t, ?_, b⟩
  jvm_step X.here [X.here.top, ↓top_set X.here.top, C.x, C.b, hd, e']
  exact a
theorem r_dload_5 (C : CX g z cc own nL d mc ms) {a0 a1 a2 a3 a4 : Option Value} {r : List (Option Value)} {x : UInt64} (hd : decode cc pc = .ok (.dload 5, 2)) (kk : wa g z k n A (pc + 2) (a0 :: a1 :: a2 :: a3 :: a4 :: some (.double x) :: r) (.double x :: st)) : wa g z k n A pc (a0 :: a1 :: a2 :: a3 :: a4 :: some (.double x) :: r) st := fun H locs ls hR hL hl => lv_dload C.x C.b hd (hl.at rfl) (kk H locs ls hR hL hl)
theorem r_dstore_5 (C : CX g z cc own nL d mc ms) {a0 a1 a2 a3 a4 : Option Value} {r : List (Option Value)} {b b2 : Option Value} {x : UInt64} (hd : decode cc pc = .ok (.dstore 5, 2)) (hp : c2 a4 = false) (kk : wa g z k n A (pc + 2) (a0 :: a1 :: a2 :: a3 :: a4 :: some (.double x) :: none :: r) st) : wa g z k n A pc (a0 :: a1 :: a2 :: a3 :: a4 :: b :: b2 :: r) (.double x :: st) := by
  intro H locs ls hR hL hl T hT X
  obtain ⟨ls', e', h'⟩ := hl.st2 (i := 5) (v := .double x) (by simp) rfl (fun j w e h => by cases Nat.succ.inj e; exact c2_of hp (Option.some.inj h))
  obtain ⟨t, a, b⟩ := kk H locs ls' hR hL h' T hT X
  refine ⟨t, ?_, b⟩
  jvm_step X.here [X.here.top, ↓top_set X.here.top, C.x, C.b, hd, e']
  exact a
theorem r_nload_5 (C : CX g z cc own nL d mc ms) {a0 a1 a2 a3 a4 : Option Value} {r : List (Option Value)} (hd : decode cc pc = .ok (.aload 5, 2)) (kk : wa g z k n A (pc + 2) (a0 :: a1 :: a2 :: a3 :: a4 :: some .null :: r) (.null :: st)) : wa g z k n A pc (a0 :: a1 :: a2 :: a3 :: a4 :: some .null :: r) st := by
  intro H locs ls hR hL hl T hT X
  have hg : ls[5]? = some (.val .null) := hl.at rfl
  obtain ⟨t, a, b⟩ := kk H locs ls hR hL hl T hT X
  refine ⟨t, ?_, b⟩
  jvm_step X.here [X.here.top, C.x, C.b, hd, hg]
  exact ⟨rfl, a⟩
theorem r_nstore_5 (C : CX g z cc own nL d mc ms) {a0 a1 a2 a3 a4 : Option Value} {r : List (Option Value)} {b : Option Value} (hd : decode cc pc = .ok (.astore 5, 2)) (hp : c2 a4 = false) (kk : wa g z k n A (pc + 2) (a0 :: a1 :: a2 :: a3 :: a4 :: some .null :: r) st) : wa g z k n A pc (a0 :: a1 :: a2 :: a3 :: a4 :: b :: r) (.null :: st) := by
  intro H locs ls hR hL hl T hT X
  obtain ⟨ls', e', h'⟩ := hl.st1 (i := 5) (v := .null) (by simp) rfl (fun j w e h => by cases Nat.succ.inj e; exact c2_of hp (Option.some.inj h))
  obtain ⟨t, a, b⟩ := kk H locs ls' hR hL h' T hT X
  refine ⟨t, ?_, b⟩
  jvm_step X.here [X.here.top, ↓top_set X.here.top, C.x, C.b, hd, e']
  exact ⟨rfl, a⟩
theorem r_iinc_5 (C : CX g z cc own nL d mc ms) {a0 a1 a2 a3 a4 : Option Value} {r : List (Option Value)} {x v : Int32} {n0 : Int} (hd : decode cc pc = .ok (.iinc 5 n0, 3)) (hv : x + Int32.ofInt n0 = v) (hp : c2 a4 = false) (kk : wa g z k n A (pc + 3) (a0 :: a1 :: a2 :: a3 :: a4 :: some (.int v) :: r) st) : wa g z k n A pc (a0 :: a1 :: a2 :: a3 :: a4 :: some (.int x) :: r) st := by
  subst hv
  intro H locs ls hR hL hl T hT X
  have hg : ls[5]? = some (.val (.int x)) := hl.at rfl
  obtain ⟨ls', e', h'⟩ := hl.st1 (i := 5) (v := .int (x + Int32.ofInt n0)) (by simp) rfl (fun j w e h => by cases Nat.succ.inj e; exact c2_of hp (Option.some.inj h))
  obtain ⟨t, a, b⟩ := kk H locs ls' hR hL h' T hT X
  refine ⟨t, ?_, b⟩
  jvm_step X.here [X.here.top, ↓top_set X.here.top, C.x, C.b, hd, hg, e']
  exact a
theorem r_iload_6 (C : CX g z cc own nL d mc ms) {a0 a1 a2 a3 a4 a5 : Option Value} {r : List (Option Value)} {x : Int32} (hd : decode cc pc = .ok (.iload 6, 2)) (kk : wa g z k n A (pc + 2) (a0 :: a1 :: a2 :: a3 :: a4 :: a5 :: some (.int x) :: r) (.int x :: st)) : wa g z k n A pc (a0 :: a1 :: a2 :: a3 :: a4 :: a5 :: some (.int x) :: r) st := fun H locs ls hR hL hl => lv_iload C.x C.b hd (hl.at rfl) (kk H locs ls hR hL hl)
theorem r_istore_6 (C : CX g z cc own nL d mc ms) {a0 a1 a2 a3 a4 a5 : Option Value} {r : List (Option Value)} {b : Option Value} {x : Int32} (hd : decode cc pc = .ok (.istore 6, 2)) (hp : c2 a5 = false) (kk : wa g z k n A (pc + 2) (a0 :: a1 :: a2 :: a3 :: a4 :: a5 :: some (.int x) :: r) st) : wa g z k n A pc (a0 :: a1 :: a2 :: a3 :: a4 :: a5 :: b :: r) (.int x :: st) := by
  intro H locs ls hR hL hl T hT X
  obtain ⟨ls', e', h'⟩ := hl.st1 (i := 6) (v := .int x) (by simp) rfl (fun j w e h => by cases Nat.succ.inj e; exact c2_of hp (Option.some.inj h))
  obtain ⟨t, a, b⟩ := kk H locs ls' hR hL h' T hT X
  refine ⟨t, ?_, b⟩
  jvm_step X.here [X.here.top, ↓top_set X.here.top, C.x, C.b, hd, e']
  exact a
theorem r_aload_6 (C : CX g z cc own nL d mc ms) {a0 a1 a2 a3 a4 a5 : Option Value} {r : List (Option Value)} {x : Nat} (hd : decode cc pc = .ok (.aload 6, 2)) (kk : wa g z k n A (pc + 2) (a0 :: a1 :: a2 :: a3 :: a4 :: a5 :: some (.ref x) :: r) (.ref x :: st)) : wa g z k n A pc (a0 :: a1 :: a2 :: a3 :: a4 :: a5 :: some (.ref x) :: r) st := fun H locs ls hR hL hl => lv_aload C.x C.b hd (hl.at rfl) (kk H locs ls hR hL hl)
theorem r_astore_6 (C : CX g z cc own nL d mc ms) {a0 a1 a2 a3 a4 a5 : Option Value} {r : List (Option Value)} {b : Option Value} {x : Nat} (hd : decode cc pc = .ok (.astore 6, 2)) (hp : c2 a5 = false) (kk : wa g z k n A (pc + 2) (a0 :: a1 :: a2 :: a3 :: a4 :: a5 :: some (.ref x) :: r) st) : wa g z k n A pc (a0 :: a1 :: a2 :: a3 :: a4 :: a5 :: b :: r) (.ref x :: st) := by
  intro H locs ls hR hL hl T hT X
  obtain ⟨ls', e', h'⟩ := hl.st1 (i := 6) (v := .ref x) (by simp) rfl (fun j w e h => by cases Nat.succ.inj e; exact c2_of hp (Option.some.inj h))
  obtain ⟨t, a, b⟩ := kk H locs ls' hR hL h' T hT X
  refine ⟨t, ?_, b⟩
  jvm_step X.here [X.here.top, ↓top_set X.here.top, C.x, C.b, hd, e']
  exact ⟨rfl, a⟩
theorem r_lload_6 (C : CX g z cc own nL d mc ms) {a0 a1 a2 a3 a4 a5 : Option Value} {r : List (Option Value)} {x : Int64} (hd : decode cc pc = .ok (.lload 6, 2)) (kk : wa g z k n A (pc + 2) (a0 :: a1 :: a2 :: a3 :: a4 :: a5 :: some (.long x) :: r) (.long x :: st)) : wa g z k n A pc (a0 :: a1 :: a2 :: a3 :: a4 :: a5 :: some (.long x) :: r) st := fun H locs ls hR hL hl => lv_lload C.x C.b hd (hl.at rfl) (kk H locs ls hR hL hl)
theorem r_lstore_6 (C : CX g z cc own nL d mc ms) {a0 a1 a2 a3 a4 a5 : Option Value} {r : List (Option Value)} {b b2 : Option Value} {x : Int64} (hd : decode cc pc = .ok (.lstore 6, 2)) (hp : c2 a5 = false) (kk : wa g z k n A (pc + 2) (a0 :: a1 :: a2 :: a3 :: a4 :: a5 :: some (.long x) :: none :: r) st) : wa g z k n A pc (a0 :: a1 :: a2 :: a3 :: a4 :: a5 :: b :: b2 :: r) (.long x :: st) := by
  intro H locs ls hR hL hl T hT X
  obtain ⟨ls', e', h'⟩ := hl.st2 (i := 6) (v := .long x) (by simp) rfl (fun j w e h => by cases Nat.succ.inj e; exact c2_of hp (Option.some.inj h))
  obtain ⟨t, a, b⟩ := kk H locs ls' hR hL h' T hT X
  refine ⟨t, ?_, b⟩
  jvm_step X.here [X.here.top, ↓top_set X.here.top, C.x, C.b, hd, e']
  exact a
theorem r_dload_6 (C : CX g z cc own nL d mc ms) {a0 a1 a2 a3 a4 a5 : Option Value} {r : List (Option Value)} {x : UInt64} (hd : decode cc pc = .ok (.dload 6, 2)) (kk : wa g z k n A (pc + 2) (a0 :: a1 :: a2 :: a3 :: a4 :: a5 :: some (.double x) :: r) (.double x :: st)) : wa g z k n A pc (a0 :: a1 :: a2 :: a3 :: a4 :: a5 :: some (.double x) :: r) st := fun H locs ls hR hL hl => lv_dload C.x C.b hd (hl.at rfl) (kk H locs ls hR hL hl)
theorem r_dstore_6 (C : CX g z cc own nL d mc ms) {a0 a1 a2 a3 a4 a5 : Option Value} {r : List (Option Value)} {b b2 : Option Value} {x : UInt64} (hd : decode cc pc = .ok (.dstore 6, 2)) (hp : c2 a5 = false) (kk : wa g z k n A (pc + 2) (a0 :: a1 :: a2 :: a3 :: a4 :: a5 :: some (.double x) :: none :: r) st) : wa g z k n A pc (a0 :: a1 :: a2 :: a3 :: a4 :: a5 :: b :: b2 :: r) (.double x :: st) := by
  intro H locs ls hR hL hl T hT X
  obtain ⟨ls', e', h'⟩ := hl.st2 (i := 6) (v := .double x) (by simp) rfl (fun j w e h => by cases Nat.succ.inj e; exact c2_of hp (Option.some.inj h))
  obtain ⟨t, a, b⟩ := kk H locs ls' hR hL h' T hT X
  refine ⟨t, ?_, b⟩
  jvm_step X.here [X.here.top, ↓top_set X.here.top, C.x, C.b, hd, e']
  exact a
theorem r_nload_6 (C : CX g z cc own nL d mc ms) {a0 a1 a2 a3 a4 a5 : Option Value} {r : List (Option Value)} (hd : decode cc pc = .ok (.aload 6, 2)) (kk : wa g z k n A (pc + 2) (a0 :: a1 :: a2 :: a3 :: a4 :: a5 :: some .null :: r) (.null :: st)) : wa g z k n A pc (a0 :: a1 :: a2 :: a3 :: a4 :: a5 :: some .null :: r) st := by
  intro H locs ls hR hL hl T hT X
  have hg : ls[6]? = some (.val .null) := hl.at rfl
  obtain ⟨t, a, b⟩ := kk H locs ls hR hL hl T hT X
  refine ⟨t, ?_, b⟩
  jvm_step X.here [X.here.top, C.x, C.b, hd, hg]
  exact ⟨rfl, a⟩
theorem r_nstore_6 (C : CX g z cc own nL d mc ms) {a0 a1 a2 a3 a4 a5 : Option Value} {r : List (Option Value)} {b : Option Value} (hd : decode cc pc = .ok (.astore 6, 2)) (hp : c2 a5 = false) (kk : wa g z k n A (pc + 2) (a0 :: a1 :: a2 :: a3 :: a4 :: a5 :: some .null :: r) st) : wa g z k n A pc (a0 :: a1 :: a2 :: a3 :: a4 :: a5 :: b :: r) (.null :: st) := by
  intro H locs ls hR hL hl T hT X
  obtain ⟨ls', e', h'⟩ := hl.st1 (i := 6) (v := .null) (by simp) rfl (fun j w e h => by cases Nat.succ.inj e; exact c2_of hp (Option.some.inj h))
  obtain ⟨t, a, b⟩ := kk H locs ls' hR hL h' T hT X
  refine ⟨t, ?_, b⟩
  jvm_step X.here [X.here.top, ↓top_set X.here.top, C.x, C.b, hd, e']
  exact ⟨rfl, a⟩
theorem r_iinc_6 (C : CX g z cc own nL d mc ms) {a0 a1 a2 a3 a4 a5 : Option Value} {r : List (Option Value)} {x v : Int32} {n0 : Int} (hd : decode cc pc = .ok (.iinc 6 n0, 3)) (hv : x + Int32.ofInt n0 = v) (hp : c2 a5 = false) (kk : wa g z k n A (pc + 3) (a0 :: a1 :: a2 :: a3 :: a4 :: a5 :: some (.int v) :: r) st) : wa g z k n A pc (a0 :: a1 :: a2 :: a3 :: a4 :: a5 :: some (.int x) :: r) st := by
  subst hv
  intro H locs ls hR hL hl T hT X
  have hg : ls[6]? = some (.val (.int x)) := hl.at rfl
  obtain ⟨ls', e', h'⟩ := hl.st1 (i := 6) (v := .int (x + Int32.ofInt n0)) (by simp) rfl (fun j w e h => by cases Nat.succ.inj e; exact c2_of hp (Option.some.inj h))
  obtain ⟨t, a, b⟩ := kk H locs ls' hR hL h' T hT X
  refine ⟨t, ?_, b⟩
  jvm_step X.here [X.here.top, ↓top_set X.here.top, C.x, C.b, hd, hg, e']
  exact a
theorem r_iload_7 (C : CX g z cc own nL d mc ms) {a0 a1 a2 a3 a4 a5 a6 : Option Value} {r : List (Option Value)} {x : Int32} (hd : decode cc pc = .ok (.iload 7, 2)) (kk : wa g z k n A (pc + 2) (a0 :: a1 :: a2 :: a3 :: a4 :: a5 :: a6 :: some (.int x) :: r) (.int x :: st)) : wa g z k n A pc (a0 :: a1 :: a2 :: a3 :: a4 :: a5 :: a6 :: some (.int x) :: r) st := fun H locs ls hR hL hl => lv_iload C.x C.b hd (hl.at rfl) (kk H locs ls hR hL hl)
theorem r_istore_7 (C : CX g z cc own nL d mc ms) {a0 a1 a2 a3 a4 a5 a6 : Option Value} {r : List (Option Value)} {b : Option Value} {x : Int32} (hd : decode cc pc = .ok (.istore 7, 2)) (hp : c2 a6 = false) (kk : wa g z k n A (pc + 2) (a0 :: a1 :: a2 :: a3 :: a4 :: a5 :: a6 :: some (.int x) :: r) st) : wa g z k n A pc (a0 :: a1 :: a2 :: a3 :: a4 :: a5 :: a6 :: b :: r) (.int x :: st) := by
  intro H locs ls hR hL hl T hT X
  obtain ⟨ls', e', h'⟩ := hl.st1 (i := 7) (v := .int x) (by simp) rfl (fun j w e h => by cases Nat.succ.inj e; exact c2_of hp (Option.some.inj h))
  obtain ⟨t, a, b⟩ := kk H locs ls' hR hL h' T hT X
  refine ⟨t, ?_, b⟩
  jvm_step X.here [X.here.top, ↓top_set X.here.top, C.x, C.b, hd, e']
  exact a
theorem r_aload_7 (C : CX g z cc own nL d mc ms) {a0 a1 a2 a3 a4 a5 a6 : Option Value} {r : List (Option Value)} {x : Nat} (hd : decode cc pc = .ok (.aload 7, 2)) (kk : wa g z k n A (pc + 2) (a0 :: a1 :: a2 :: a3 :: a4 :: a5 :: a6 :: some (.ref x) :: r) (.ref x :: st)) : wa g z k n A pc (a0 :: a1 :: a2 :: a3 :: a4 :: a5 :: a6 :: some (.ref x) :: r) st := fun H locs ls hR hL hl => lv_aload C.x C.b hd (hl.at rfl) (kk H locs ls hR hL hl)
theorem r_astore_7 (C : CX g z cc own nL d mc ms) {a0 a1 a2 a3 a4 a5 a6 : Option Value} {r : List (Option Value)} {b : Option Value} {x : Nat} (hd : decode cc pc = .ok (.astore 7, 2)) (hp : c2 a6 = false) (kk : wa g z k n A (pc + 2) (a0 :: a1 :: a2 :: a3 :: a4 :: a5 :: a6 :: some (.ref x) :: r) st) : wa g z k n A pc (a0 :: a1 :: a2 :: a3 :: a4 :: a5 :: a6 :: b :: r) (.ref x :: st) := by
  intro H locs ls hR hL hl T hT X
  obtain ⟨ls', e', h'⟩ := hl.st1 (i := 7) (v := .ref x) (by simp) rfl (fun j w e h => by cases Nat.succ.inj e; exact c2_of hp (Option.some.inj h))
  obtain ⟨t, a, b⟩ := kk H locs ls' hR hL h' T hT X
  refine ⟨t, ?_, b⟩
  jvm_step X.here [X.here.top, ↓top_set X.here.top, C.x, C.b, hd, e']
  exact ⟨rfl, a⟩
theorem r_lload_7 (C : CX g z cc own nL d mc ms) {a0 a1 a2 a3 a4 a5 a6 : Option Value} {r : List (Option Value)} {x : Int64} (hd : decode cc pc = .ok (.lload 7, 2)) (kk : wa g z k n A (pc + 2) (a0 :: a1 :: a2 :: a3 :: a4 :: a5 :: a6 :: some (.long x) :: r) (.long x :: st)) : wa g z k n A pc (a0 :: a1 :: a2 :: a3 :: a4 :: a5 :: a6 :: some (.long x) :: r) st := fun H locs ls hR hL hl => lv_lload C.x C.b hd (hl.at rfl) (kk H locs ls hR hL hl)
theorem r_lstore_7 (C : CX g z cc own nL d mc ms) {a0 a1 a2 a3 a4 a5 a6 : Option Value} {r : List (Option Value)} {b b2 : Option Value} {x : Int64} (hd : decode cc pc = .ok (.lstore 7, 2)) (hp : c2 a6 = false) (kk : wa g z k n A (pc + 2) (a0 :: a1 :: a2 :: a3 :: a4 :: a5 :: a6 :: some (.long x) :: none :: r) st) : wa g z k n A pc (a0 :: a1 :: a2 :: a3 :: a4 :: a5 :: a6 :: b :: b2 :: r) (.long x :: st) := by
  intro H locs ls hR hL hl T hT X
  obtain ⟨ls', e', h'⟩ := hl.st2 (i := 7) (v := .long x) (by simp) rfl (fun j w e h => by cases Nat.succ.inj e; exact c2_of hp (Option.some.inj h))
  obtain ⟨t, a, b⟩ := kk H locs ls' hR hL h' T hT X
  refine ⟨t, ?_, b⟩
  jvm_step X.here [X.here.top, ↓top_set X.here.top, C.x, C.b, hd, e']
  exact a
theorem r_dload_7 (C : CX g z cc own nL d mc ms) {a0 a1 a2 a3 a4 a5 a6 : Option Value} {r : List (Option Value)} {x : UInt64} (hd : decode cc pc = .ok (.dload 7, 2)) (kk : wa g z k n A (pc + 2) (a0 :: a1 :: a2 :: a3 :: a4 :: a5 :: a6 :: some (.double x) :: r) (.double x :: st)) : wa g z k n A pc (a0 :: a1 :: a2 :: a3 :: a4 :: a5 :: a6 :: some (.double x) :: r) st := fun H locs ls hR hL hl => lv_dload C.x C.b hd (hl.at rfl) (kk H locs ls hR hL hl)
theorem r_dstore_7 (C : CX g z cc own nL d mc ms) {a0 a1 a2 a3 a4 a5 a6 : Option Value} {r : List (Option Value)} {b b2 : Option Value} {x : UInt64} (hd : decode cc pc = .ok (.dstore 7, 2)) (hp : c2 a6 = false) (kk : wa g z k n A (pc + 2) (a0 :: a1 :: a2 :: a3 :: a4 :: a5 :: a6 :: some (.double x) :: none :: r) st) : wa g z k n A pc (a0 :: a1 :: a2 :: a3 :: a4 :: a5 :: a6 :: b :: b2 :: r) (.double x :: st) := by
  intro H locs ls hR hL hl T hT X
  obtain ⟨ls', e', h'⟩ := hl.st2 (i := 7) (v := .double x) (by simp) rfl (fun j w e h => by cases Nat.succ.inj e; exact c2_of hp (Option.some.inj h))
  obtain ⟨t, a, b⟩ := kk H locs ls' hR hL h' T hT X
  refine ⟨t, ?_, b⟩
  jvm_step X.here [X.here.top, ↓top_set X.here.top, C.x, C.b, hd, e']
  exact a
theorem r_nload_7 (C : CX g z cc own nL d mc ms) {a0 a1 a2 a3 a4 a5 a6 : Option Value} {r : List (Option Value)} (hd : decode cc pc = .ok (.aload 7, 2)) (kk : wa g z k n A (pc + 2) (a0 :: a1 :: a2 :: a3 :: a4 :: a5 :: a6 :: some .null :: r) (.null :: st)) : wa g z k n A pc (a0 :: a1 :: a2 :: a3 :: a4 :: a5 :: a6 :: some .null :: r) st := by
  intro H locs ls hR hL hl T hT X
  have hg : ls[7]? = some (.val .null) := hl.at rfl
  obtain ⟨t, a, b⟩ := kk H locs ls hR hL hl T hT X
  refine ⟨t, ?_, b⟩
  jvm_step X.here [X.here.top, C.x, C.b, hd, hg]
  exact ⟨rfl, a⟩
theorem r_nstore_7 (C : CX g z cc own nL d mc ms) {a0 a1 a2 a3 a4 a5 a6 : Option Value} {r : List (Option Value)} {b : Option Value} (hd : decode cc pc = .ok (.astore 7, 2)) (hp : c2 a6 = false) (kk : wa g z k n A (pc + 2) (a0 :: a1 :: a2 :: a3 :: a4 :: a5 :: a6 :: some .null :: r) st) : wa g z k n A pc (a0 :: a1 :: a2 :: a3 :: a4 :: a5 :: a6 :: b :: r) (.null :: st) := by
  intro H locs ls hR hL hl T hT X
  obtain ⟨ls', e', h'⟩ := hl.st1 (i := 7) (v := .null) (by simp) rfl (fun j w e h => by cases Nat.succ.inj e; exact c2_of hp (Option.some.inj h))
  obtain ⟨t, a, b⟩ := kk H locs ls' hR hL h' T hT X
  refine ⟨t, ?_, b⟩
  jvm_step X.here [X.here.top, ↓top_set X.here.top, C.x, C.b, hd, e']
  exact ⟨rfl, a⟩
theorem r_iinc_7 (C : CX g z cc own nL d mc ms) {a0 a1 a2 a3 a4 a5 a6 : Option Value} {r : List (Option Value)} {x v : Int32} {n0 : Int} (hd : decode cc pc = .ok (.iinc 7 n0, 3)) (hv : x + Int32.ofInt n0 = v) (hp : c2 a6 = false) (kk : wa g z k n A (pc + 3) (a0 :: a1 :: a2 :: a3 :: a4 :: a5 :: a6 :: some (.int v) :: r) st) : wa g z k n A pc (a0 :: a1 :: a2 :: a3 :: a4 :: a5 :: a6 :: some (.int x) :: r) st := by
  subst hv
  intro H locs ls hR hL hl T hT X
  have hg : ls[7]? = some (.val (.int x)) := hl.at rfl
  obtain ⟨ls', e', h'⟩ := hl.st1 (i := 7) (v := .int (x + Int32.ofInt n0)) (by simp) rfl (fun j w e h => by cases Nat.succ.inj e; exact c2_of hp (Option.some.inj h))
  obtain ⟨t, a, b⟩ := kk H locs ls' hR hL h' T hT X
  refine ⟨t, ?_, b⟩
  jvm_step X.here [X.here.top, ↓top_set X.here.top, C.x, C.b, hd, hg, e']
  exact a
theorem r_iload_8 (C : CX g z cc own nL d mc ms) {a0 a1 a2 a3 a4 a5 a6 a7 : Option Value} {r : List (Option Value)} {x : Int32} (hd : decode cc pc = .ok (.iload 8, 2)) (kk : wa g z k n A (pc + 2) (a0 :: a1 :: a2 :: a3 :: a4 :: a5 :: a6 :: a7 :: some (.int x) :: r) (.int x :: st)) : wa g z k n A pc (a0 :: a1 :: a2 :: a3 :: a4 :: a5 :: a6 :: a7 :: some (.int x) :: r) st := fun H locs ls hR hL hl => lv_iload C.x C.b hd (hl.at rfl) (kk H locs ls hR hL hl)
theorem r_istore_8 (C : CX g z cc own nL d mc ms) {a0 a1 a2 a3 a4 a5 a6 a7 : Option Value} {r : List (Option Value)} {b : Option Value} {x : Int32} (hd : decode cc pc = .ok (.istore 8, 2)) (hp : c2 a7 = false) (kk : wa g z k n A (pc + 2) (a0 :: a1 :: a2 :: a3 :: a4 :: a5 :: a6 :: a7 :: some (.int x) :: r) st) : wa g z k n A pc (a0 :: a1 :: a2 :: a3 :: a4 :: a5 :: a6 :: a7 :: b :: r) (.int x :: st) := by
  intro H locs ls hR hL hl T hT X
  obtain ⟨ls', e', h'⟩ := hl.st1 (i := 8) (v := .int x) (by simp) rfl (fun j w e h => by cases Nat.succ.inj e; exact c2_of hp (Option.some.inj h))
  obtain ⟨t, a, b⟩ := kk H locs ls' hR hL h' T hT X
  refine ⟨t, ?_, b⟩
  jvm_step X.here [X.here.top, ↓top_set X.here.top, C.x, C.b, hd, e']
  exact a
theorem r_aload_8 (C : CX g z cc own nL d mc ms) {a0 a1 a2 a3 a4 a5 a6 a7 : Option Value} {r : List (Option Value)} {x : Nat} (hd : decode cc pc = .ok (.aload 8, 2)) (kk : wa g z k n A (pc + 2) (a0 :: a1 :: a2 :: a3 :: a4 :: a5 :: a6 :: a7 :: some (.ref x) :: r) (.ref x :: st)) : wa g z k n A pc (a0 :: a1 :: a2 :: a3 :: a4 :: a5 :: a6 :: a7 :: some (.ref x) :: r) st := fun H locs ls hR hL hl => lv_aload C.x C.b hd (hl.at rfl) (kk H locs ls hR hL hl)
theorem r_astore_8 (C : CX g z cc own nL d mc ms) {a0 a1 a2 a3 a4 a5 a6 a7 : Option Value} {r : List (Option Value)} {b : Option Value} {x : Nat} (hd : decode cc pc = .ok (.astore 8, 2)) (hp : c2 a7 = false) (kk : wa g z k n A (pc + 2) (a0 :: a1 :: a2 :: a3 :: a4 :: a5 :: a6 :: a7 :: some (.ref x) :: r) st) : wa g z k n A pc (a0 :: a1 :: a2 :: a3 :: a4 :: a5 :: a6 :: a7 :: b :: r) (.ref x :: st) := by
  intro H locs ls hR hL hl T hT X
  obtain ⟨ls', e', h'⟩ := hl.st1 (i := 8) (v := .ref x) (by simp) rfl (fun j w e h => by cases Nat.succ.inj e; exact c2_of hp (Option.some.inj h))
  obtain ⟨t, a, b⟩ := kk H locs ls' hR hL h' T hT X
  refine ⟨t, ?_, b⟩
  jvm_step X.here [X.here.top, ↓top_set X.here.top, C.x, C.b, hd, e']
  exact ⟨rfl, a⟩
theorem r_lload_8 (C : CX g z cc own nL d mc ms) {a0 a1 a2 a3 a4 a5 a6 a7 : Option Value} {r : List (Option Value)} {x : Int64} (hd : decode cc pc = .ok (.lload 8, 2)) (kk : wa g z k n A (pc + 2) (a0 :: a1 :: a2 :: a3 :: a4 :: a5 :: a6 :: a7 :: some (.long x) :: r) (.long x :: st)) : wa g z k n A pc (a0 :: a1 :: a2 :: a3 :: a4 :: a5 :: a6 :: a7 :: some (.long x) :: r) st := fun H locs ls hR hL hl => lv_lload C.x C.b hd (hl.at rfl) (kk H locs ls hR hL hl)
theorem r_lstore_8 (C : CX g z cc own nL d mc ms) {a0 a1 a2 a3 a4 a5 a6 a7 : Option Value} {r : List (Option Value)} {b b2 : Option Value} {x : Int64} (hd : decode cc pc = .ok (.lstore 8, 2)) (hp : c2 a7 = false) (kk : wa g z k n A (pc + 2) (a0 :: a1 :: a2 :: a3 :: a4 :: a5 :: a6 :: a7 :: some (.long x) :: none :: r) st) : wa g z k n A pc (a0 :: a1 :: a2 :: a3 :: a4 :: a5 :: a6 :: a7 :: b :: b2 :: r) (.long x :: st) := by
  intro H locs ls hR hL hl T hT X
  obtain ⟨ls', e', h'⟩ := hl.st2 (i := 8) (v := .long x) (by simp) rfl (fun j w e h => by cases Nat.succ.inj e; exact c2_of hp (Option.some.inj h))
  obtain ⟨t, a, b⟩ := kk H locs ls' hR hL h' T hT X
  refine ⟨t, ?_, b⟩
  jvm_step X.here [X.here.top, ↓top_set X.here.top, C.x, C.b, hd, e']
  exact a
theorem r_dload_8 (C : CX g z cc own nL d mc ms) {a0 a1 a2 a3 a4 a5 a6 a7 : Option Value} {r : List (Option Value)} {x : UInt64} (hd : decode cc pc = .ok (.dload 8, 2)) (kk : wa g z k n A (pc + 2) (a0 :: a1 :: a2 :: a3 :: a4 :: a5 :: a6 :: a7 :: some (.double x) :: r) (.double x :: st)) : wa g z k n A pc (a0 :: a1 :: a2 :: a3 :: a4 :: a5 :: a6 :: a7 :: some (.double x) :: r) st := fun H locs ls hR hL hl => lv_dload C.x C.b hd (hl.at rfl) (kk H locs ls hR hL hl)
theorem r_dstore_8 (C : CX g z cc own nL d mc ms) {a0 a1 a2 a3 a4 a5 a6 a7 : Option Value} {r : List (Option Value)} {b b2 : Option Value} {x : UInt64} (hd : decode cc pc = .ok (.dstore 8, 2)) (hp : c2 a7 = false) (kk : wa g z k n A (pc + 2) (a0 :: a1 :: a2 :: a3 :: a4 :: a5 :: a6 :: a7 :: some (.double x) :: none :: r) st) : wa g z k n A pc (a0 :: a1 :: a2 :: a3 :: a4 :: a5 :: a6 :: a7 :: b :: b2 :: r) (.double x :: st) := by
  intro H locs ls hR hL hl T hT X
  obtain ⟨ls', e', h'⟩ := hl.st2 (i := 8) (v := .double x) (by simp) rfl (fun j w e h => by cases Nat.succ.inj e; exact c2_of hp (Option.some.inj h))
  obtain ⟨t, a, b⟩ := kk H locs ls' hR hL h' T hT X
  refine ⟨t, ?_, b⟩
  jvm_step X.here [X.here.top, ↓top_set X.here.top, C.x, C.b, hd, e']
  exact a
theorem r_nload_8 (C : CX g z cc own nL d mc ms) {a0 a1 a2 a3 a4 a5 a6 a7 : Option Value} {r : List (Option Value)} (hd : decode cc pc = .ok (.aload 8, 2)) (kk : wa g z k n A (pc + 2) (a0 :: a1 :: a2 :: a3 :: a4 :: a5 :: a6 :: a7 :: some .null :: r) (.null :: st)) : wa g z k n A pc (a0 :: a1 :: a2 :: a3 :: a4 :: a5 :: a6 :: a7 :: some .null :: r) st := by
  intro H locs ls hR hL hl T hT X
  have hg : ls[8]? = some (.val .null) := hl.at rfl
  obtain ⟨t, a, b⟩ := kk H locs ls hR hL hl T hT X
  refine ⟨t, ?_, b⟩
  jvm_step X.here [X.here.top, C.x, C.b, hd, hg]
  exact ⟨rfl, a⟩
theorem r_nstore_8 (C : CX g z cc own nL d mc ms) {a0 a1 a2 a3 a4 a5 a6 a7 : Option Value} {r : List (Option Value)} {b : Option Value} (hd : decode cc pc = .ok (.astore 8, 2)) (hp : c2 a7 = false) (kk : wa g z k n A (pc + 2) (a0 :: a1 :: a2 :: a3 :: a4 :: a5 :: a6 :: a7 :: some .null :: r) st) : wa g z k n A pc (a0 :: a1 :: a2 :: a3 :: a4 :: a5 :: a6 :: a7 :: b :: r) (.null :: st) := by
  intro H locs ls hR hL hl T hT X
  obtain ⟨ls', e', h'⟩ := hl.st1 (i := 8) (v := .null) (by simp) rfl (fun j w e h => by cases Nat.succ.inj e; exact c2_of hp (Option.some.inj h))
  obtain ⟨t, a, b⟩ := kk H locs ls' hR hL h' T hT X
  refine ⟨t, ?_, b⟩
  jvm_step X.here [X.here.top, ↓top_set X.here.top, C.x, C.b, hd, e']
  exact ⟨rfl, a⟩
theorem r_iinc_8 (C : CX g z cc own nL d mc ms) {a0 a1 a2 a3 a4 a5 a6 a7 : Option Value} {r : List (Option Value)} {x v : Int32} {n0 : Int} (hd : decode cc pc = .ok (.iinc 8 n0, 3)) (hv : x + Int32.ofInt n0 = v) (hp : c2 a7 = false) (kk : wa g z k n A (pc + 3) (a0 :: a1 :: a2 :: a3 :: a4 :: a5 :: a6 :: a7 :: some (.int v) :: r) st) : wa g z k n A pc (a0 :: a1 :: a2 :: a3 :: a4 :: a5 :: a6 :: a7 :: some (.int x) :: r) st := by
  subst hv
  intro H locs ls hR hL hl T hT X
  have hg : ls[8]? = some (.val (.int x)) := hl.at rfl
  obtain ⟨ls', e', h'⟩ := hl.st1 (i := 8) (v := .int (x + Int32.ofInt n0)) (by simp) rfl (fun j w e h => by cases Nat.succ.inj e; exact c2_of hp (Option.some.inj h))
  obtain ⟨t, a, b⟩ := kk H locs ls' hR hL h' T hT X
  refine ⟨t, ?_, b⟩
  jvm_step X.here [X.here.top, ↓top_set X.here.top, C.x, C.b, hd, hg, e']
  exact a
theorem r_iload_9 (C : CX g z cc own nL d mc ms) {a0 a1 a2 a3 a4 a5 a6 a7 a8 : Option Value} {r : List (Option Value)} {x : Int32} (hd : decode cc pc = .ok (.iload 9, 2)) (kk : wa g z k n A (pc + 2) (a0 :: a1 :: a2 :: a3 :: a4 :: a5 :: a6 :: a7 :: a8 :: some (.int x) :: r) (.int x :: st)) : wa g z k n A pc (a0 :: a1 :: a2 :: a3 :: a4 :: a5 :: a6 :: a7 :: a8 :: some (.int x) :: r) st := fun H locs ls hR hL hl => lv_iload C.x C.b hd (hl.at rfl) (kk H locs ls hR hL hl)
theorem r_istore_9 (C : CX g z cc own nL d mc ms) {a0 a1 a2 a3 a4 a5 a6 a7 a8 : Option Value} {r : List (Option Value)} {b : Option Value} {x : Int32} (hd : decode cc pc = .ok (.istore 9, 2)) (hp : c2 a8 = false) (kk : wa g z k n A (pc + 2) (a0 :: a1 :: a2 :: a3 :: a4 :: a5 :: a6 :: a7 :: a8 :: some (.int x) :: r) st) : wa g z k n A pc (a0 :: a1 :: a2 :: a3 :: a4 :: a5 :: a6 :: a7 :: a8 :: b :: r) (.int x :: st) := by
  intro H locs ls hR hL hl T hT X
  obtain ⟨ls', e', h'⟩ := hl.st1 (i := 9) (v := .int x) (by simp) rfl (fun j w e h => by cases Nat.succ.inj e; exact c2_of hp (Option.some.inj h))
  obtain ⟨t, a, b⟩ := kk H locs ls' hR hL h' T hT X
  refine ⟨t, ?_, b⟩
  jvm_step X.here [X.here.top, ↓top_set X.here.top, C.x, C.b, hd, e']
  exact a
theorem r_aload_9 (C : CX g z cc own nL d mc ms) {a0 a1 a2 a3 a4 a5 a6 a7 a8 : Option Value} {r : List (Option Value)} {x : Nat} (hd : decode cc pc = .ok (.aload 9, 2)) (kk : wa g z k n A (pc + 2) (a0 :: a1 :: a2 :: a3 :: a4 :: a5 :: a6 :: a7 :: a8 :: some (.ref x) :: r) (.ref x :: st)) : wa g z k n A pc (a0 :: a1 :: a2 :: a3 :: a4 :: a5 :: a6 :: a7 :: a8 :: some (.ref x) :: r) st := fun H locs ls hR hL hl => lv_aload C.x C.b hd (hl.at rfl) (kk H locs ls hR hL hl)
theorem r_astore_9 (C : CX g z cc own nL d mc ms) {a0 a1 a2 a3 a4 a5 a6 a7 a8 : Option Value} {r : List (Option Value)} {b : Option Value} {x : Nat} (hd : decode cc pc = .ok (.astore 9, 2)) (hp : c2 a8 = false) (kk : wa g z k n A (pc + 2) (a0 :: a1 :: a2 :: a3 :: a4 :: a5 :: a6 :: a7 :: a8 :: some (.ref x) :: r) st) : wa g z k n A pc (a0 :: a1 :: a2 :: a3 :: a4 :: a5 :: a6 :: a7 :: a8 :: b :: r) (.ref x :: st) := by
  intro H locs ls hR hL hl T hT X
  obtain ⟨ls', e', h'⟩ := hl.st1 (i := 9) (v := .ref x) (by simp) rfl (fun j w e h => by cases Nat.succ.inj e; exact c2_of hp (Option.some.inj h))
  obtain ⟨t, a, b⟩ := kk H locs ls' hR hL h' T hT X
  refine ⟨t, ?_, b⟩
  jvm_step X.here [X.here.top, ↓top_set X.here.top, C.x, C.b, hd, e']
  exact ⟨rfl, a⟩
theorem r_lload_9 (C : CX g z cc own nL d mc ms) {a0 a1 a2 a3 a4 a5 a6 a7 a8 : Option Value} {r : List (Option Value)} {x : Int64} (hd : decode cc pc = .ok (.lload 9, 2)) (kk : wa g z k n A (pc + 2) (a0 :: a1 :: a2 :: a3 :: a4 :: a5 :: a6 :: a7 :: a8 :: some (.long x) :: r) (.long x :: st)) : wa g z k n A pc (a0 :: a1 :: a2 :: a3 :: a4 :: a5 :: a6 :: a7 :: a8 :: some (.long x) :: r) st := fun H locs ls hR hL hl => lv_lload C.x C.b hd (hl.at rfl) (kk H locs ls hR hL hl)
theorem r_lstore_9 (C : CX g z cc own nL d mc ms) {a0 a1 a2 a3 a4 a5 a6 a7 a8 : Option Value} {r : List (Option Value)} {b b2 : Option Value} {x : Int64} (hd : decode cc pc = .ok (.lstore 9, 2)) (hp : c2 a8 = false) (kk : wa g z k n A (pc + 2) (a0 :: a1 :: a2 :: a3 :: a4 :: a5 :: a6 :: a7 :: a8 :: some (.long x) :: none :: r) st) : wa g z k n A pc (a0 :: a1 :: a2 :: a3 :: a4 :: a5 :: a6 :: a7 :: a8 :: b :: b2 :: r) (.long x :: st) := by
  intro H locs ls hR hL hl T hT X
  obtain ⟨ls', e', h'⟩ := hl.st2 (i := 9) (v := .long x) (by simp) rfl (fun j w e h => by cases Nat.succ.inj e; exact c2_of hp (Option.some.inj h))
  obtain ⟨t, a, b⟩ := kk H locs ls' hR hL h' T hT X
  refine ⟨t, ?_, b⟩
  jvm_step X.here [X.here.top, ↓top_set X.here.top, C.x, C.b, hd, e']
  exact a
theorem r_dload_9 (C : CX g z cc own nL d mc ms) {a0 a1 a2 a3 a4 a5 a6 a7 a8 : Option Value} {r : List (Option Value)} {x : UInt64} (hd : decode cc pc = .ok (.dload 9, 2)) (kk : wa g z k n A (pc + 2) (a0 :: a1 :: a2 :: a3 :: a4 :: a5 :: a6 :: a7 :: a8 :: some (.double x) :: r) (.double x :: st)) : wa g z k n A pc (a0 :: a1 :: a2 :: a3 :: a4 :: a5 :: a6 :: a7 :: a8 :: some (.double x) :: r) st := fun H locs ls hR hL hl => lv_dload C.x C.b hd (hl.at rfl) (kk H locs ls hR hL hl)
theorem r_dstore_9 (C : CX g z cc own nL d mc ms) {a0 a1 a2 a3 a4 a5 a6 a7 a8 : Option Value} {r : List (Option Value)} {b b2 : Option Value} {x : UInt64} (hd : decode cc pc = .ok (.dstore 9, 2)) (hp : c2 a8 = false) (kk : wa g z k n A (pc + 2) (a0 :: a1 :: a2 :: a3 :: a4 :: a5 :: a6 :: a7 :: a8 :: some (.double x) :: none :: r) st) : wa g z k n A pc (a0 :: a1 :: a2 :: a3 :: a4 :: a5 :: a6 :: a7 :: a8 :: b :: b2 :: r) (.double x :: st) := by
  intro H locs ls hR hL hl T hT X
  obtain ⟨ls', e', h'⟩ := hl.st2 (i := 9) (v := .double x) (by simp) rfl (fun j w e h => by cases Nat.succ.inj e; exact c2_of hp (Option.some.inj h))
  obtain ⟨t, a, b⟩ := kk H locs ls' hR hL h' T hT X
  refine ⟨t, ?_, b⟩
  jvm_step X.here [X.here.top, ↓top_set X.here.top, C.x, C.b, hd, e']
  exact a
theorem r_nload_9 (C : CX g z cc own nL d mc ms) {a0 a1 a2 a3 a4 a5 a6 a7 a8 : Option Value} {r : List (Option Value)} (hd : decode cc pc = .ok (.aload 9, 2)) (kk : wa g z k n A (pc + 2) (a0 :: a1 :: a2 :: a3 :: a4 :: a5 :: a6 :: a7 :: a8 :: some .null :: r) (.null :: st)) : wa g z k n A pc (a0 :: a1 :: a2 :: a3 :: a4 :: a5 :: a6 :: a7 :: a8 :: some .null :: r) st := by
  intro H locs ls hR hL hl T hT X
  have hg : ls[9]? = some (.val .null) := hl.at rfl
  obtain ⟨t, a, b⟩ := kk H locs ls hR hL hl T hT X
  refine ⟨t, ?_, b⟩
  jvm_step X.here [X.here.top, C.x, C.b, hd, hg]
  exact ⟨rfl, a⟩
theorem r_nstore_9 (C : CX g z cc own nL d mc ms) {a0 a1 a2 a3 a4 a5 a6 a7 a8 : Option Value} {r : List (Option Value)} {b : Option Value} (hd : decode cc pc = .ok (.astore 9, 2)) (hp : c2 a8 = false) (kk : wa g z k n A (pc + 2) (a0 :: a1 :: a2 :: a3 :: a4 :: a5 :: a6 :: a7 :: a8 :: some .null :: r) st) : wa g z k n A pc (a0 :: a1 :: a2 :: a3 :: a4 :: a5 :: a6 :: a7 :: a8 :: b :: r) (.null :: st) := by
  intro H locs ls hR hL hl T hT X
  obtain ⟨ls', e', h'⟩ := hl.st1 (i := 9) (v := .null) (by simp) rfl (fun j w e h => by cases Nat.succ.inj e; exact c2_of hp (Option.some.inj h))
  obtain ⟨t, a, b⟩ := kk H locs ls' hR hL h' T hT X
  refine ⟨t, ?_, b⟩
  jvm_step X.here [X.here.top, ↓top_set X.here.top, C.x, C.b, hd, e']
  exact ⟨rfl, a⟩
theorem r_iinc_9 (C : CX g z cc own nL d mc ms) {a0 a1 a2 a3 a4 a5 a6 a7 a8 : Option Value} {r : List (Option Value)} {x v : Int32} {n0 : Int} (hd : decode cc pc = .ok (.iinc 9 n0, 3)) (hv : x + Int32.ofInt n0 = v) (hp : c2 a8 = false) (kk : wa g z k n A (pc + 3) (a0 :: a1 :: a2 :: a3 :: a4 :: a5 :: a6 :: a7 :: a8 :: some (.int v) :: r) st) : wa g z k n A pc (a0 :: a1 :: a2 :: a3 :: a4 :: a5 :: a6 :: a7 :: a8 :: some (.int x) :: r) st := by
  subst hv
  intro H locs ls hR hL hl T hT X
  have hg : ls[9]? = some (.val (.int x)) := hl.at rfl
  obtain ⟨ls', e', h'⟩ := hl.st1 (i := 9) (v := .int (x + Int32.ofInt n0)) (by simp) rfl (fun j w e h => by cases Nat.succ.inj e; exact c2_of hp (Option.some.inj h))
  obtain ⟨t, a, b⟩ := kk H locs ls' hR hL h' T hT X
  refine ⟨t, ?_, b⟩
  jvm_step X.here [X.here.top, ↓top_set X.here.top, C.x, C.b, hd, hg, e']
  exact a
theorem r_iload_10 (C : CX g z cc own nL d mc ms) {a0 a1 a2 a3 a4 a5 a6 a7 a8 a9 : Option Value} {r : List (Option Value)} {x : Int32} (hd : decode cc pc = .ok (.iload 10, 2)) (kk : wa g z k n A (pc + 2) (a0 :: a1 :: a2 :: a3 :: a4 :: a5 :: a6 :: a7 :: a8 :: a9 :: some (.int x) :: r) (.int x :: st)) : wa g z k n A pc (a0 :: a1 :: a2 :: a3 :: a4 :: a5 :: a6 :: a7 :: a8 :: a9 :: some (.int x) :: r) st := fun H locs ls hR hL hl => lv_iload C.x C.b hd (hl.at rfl) (kk H locs ls hR hL hl)
theorem r_istore_10 (C : CX g z cc own nL d mc ms) {a0 a1 a2 a3 a4 a5 a6 a7 a8 a9 : Option Value} {r : List (Option Value)} {b : Option Value} {x : Int32} (hd : decode cc pc = .ok (.istore 10, 2)) (hp : c2 a9 = false) (kk : wa g z k n A (pc + 2) (a0 :: a1 :: a2 :: a3 :: a4 :: a5 :: a6 :: a7 :: a8 :: a9 :: some (.int x) :: r) st) : wa g z k n A pc (a0 :: a1 :: a2 :: a3 :: a4 :: a5 :: a6 :: a7 :: a8 :: a9 :: b :: r) (.int x :: st) := by
  intro H locs ls hR hL hl T hT X
  obtain ⟨ls', e', h'⟩ := hl.st1 (i := 10) (v := .int x) (by simp) rfl (fun j w e h => by cases Nat.succ.inj e; exact c2_of hp (Option.some.inj h))
  obtain ⟨t, a, b⟩ := kk H locs ls' hR hL h' T hT X
  refine ⟨t, ?_, b⟩
  jvm_step X.here [X.here.top, ↓top_set X.here.top, C.x, C.b, hd, e']
  exact a
theorem r_aload_10 (C : CX g z cc own nL d mc ms) {a0 a1 a2 a3 a4 a5 a6 a7 a8 a9 : Option Value} {r : List (Option Value)} {x : Nat} (hd : decode cc pc = .ok (.aload 10, 2)) (kk : wa g z k n A (pc + 2) (a0 :: a1 :: a2 :: a3 :: a4 :: a5 :: a6 :: a7 :: a8 :: a9 :: some (.ref x) :: r) (.ref x :: st)) : wa g z k n A pc (a0 :: a1 :: a2 :: a3 :: a4 :: a5 :: a6 :: a7 :: a8 :: a9 :: some (.ref x) :: r) st := fun H locs ls hR hL hl => lv_aload C.x C.b hd (hl.at rfl) (kk H locs ls hR hL hl)
theorem r_astore_10 (C : CX g z cc own nL d mc ms) {a0 a1 a2 a3 a4 a5 a6 a7 a8 a9 : Option Value} {r : List (Option Value)} {b : Option Value} {x : Nat} (hd : decode cc pc = .ok (.astore 10, 2)) (hp : c2 a9 = false) (kk : wa g z k n A (pc + 2) (a0 :: a1 :: a2 :: a3 :: a4 :: a5 :: a6 :: a7 :: a8 :: a9 :: some (.ref x) :: r) st) : wa g z k n A pc (a0 :: a1 :: a2 :: a3 :: a4 :: a5 :: a6 :: a7 :: a8 :: a9 :: b :: r) (.ref x :: st) := by
  intro H locs ls hR hL hl T hT X
  obtain ⟨ls', e', h'⟩ := hl.st1 (i := 10) (v := .ref x) (by simp) rfl (fun j w e h => by cases Nat.succ.inj e; exact c2_of hp (Option.some.inj h))
  obtain ⟨t, a, b⟩ := kk H locs ls' hR hL h' T hT X
  refine ⟨t, ?_, b⟩
  jvm_step X.here [X.here.top, ↓top_set X.here.top, C.x, C.b, hd, e']
  exact ⟨rfl, a⟩
theorem r_lload_10 (C : CX g z cc own nL d mc ms) {a0 a1 a2 a3 a4 a5 a6 a7 a8 a9 : Option Value} {r : List (Option Value)} {x : Int64} (hd : decode cc pc = .ok (.lload 10, 2)) (kk : wa g z k n A (pc + 2) (a0 :: a1 :: a2 :: a3 :: a4 :: a5 :: a6 :: a7 :: a8 :: a9 :: some (.long x) :: r) (.long x :: st)) : wa g z k n A pc (a0 :: a1 :: a2 :: a3 :: a4 :: a5 :: a6 :: a7 :: a8 :: a9 :: some (.long x) :: r) st := fun H locs ls hR hL hl => lv_lload C.x C.b hd (hl.at rfl) (kk H locs ls hR hL hl)
theorem r_lstore_10 (C : CX g z cc own nL d mc ms) {a0 a1 a2 a3 a4 a5 a6 a7 a8 a9 : Option Value} {r : List (Option Value)} {b b2 : Option Value} {x : Int64} (hd : decode cc pc = .ok (.lstore 10, 2)) (hp : c2 a9 = false) (kk : wa g z k n A (pc + 2) (a0 :: a1 :: a2 :: a3 :: a4 :: a5 :: a6 :: a7 :: a8 :: a9 :: some (.long x) :: none :: r) st) : wa g z k n A pc (a0 :: a1 :: a2 :: a3 :: a4 :: a5 :: a6 :: a7 :: a8 :: a9 :: b :: b2 :: r) (.long x :: st) := by
  intro H locs ls hR hL hl T hT X
  obtain ⟨ls', e', h'⟩ := hl.st2 (i := 10) (v := .long x) (by simp) rfl (fun j w e h => by cases Nat.succ.inj e; exact c2_of hp (Option.some.inj h))
  obtain ⟨t, a, b⟩ := kk H locs ls' hR hL h' T hT X
  refine ⟨t, ?_, b⟩
  jvm_step X.here [X.here.top, ↓top_set X.here.top, C.x, C.b, hd, e']
  exact a
theorem r_dload_10 (C : CX g z cc own nL d mc ms) {a0 a1 a2 a3 a4 a5 a6 a7 a8 a9 : Option Value} {r : List (Option Value)} {x : UInt64} (hd : decode cc pc = .ok (.dload 10, 2)) (kk : wa g z k n A (pc + 2) (a0 :: a1 :: a2 :: a3 :: a4 :: a5 :: a6 :: a7 :: a8 :: a9 :: some (.double x) :: r) (.double x :: st)) : wa g z k n A pc (a0 :: a1 :: a2 :: a3 :: a4 :: a5 :: a6 :: a7 :: a8 :: a9 :: some (.double x) :: r) st := fun H locs ls hR hL hl => lv_dload C.x C.b hd (hl.at rfl) (kk H locs ls hR hL hl)
theorem r_dstore_10 (C : CX g z cc own nL d mc ms) {a0 a1 a2 a3 a4 a5 a6 a7 a8 a9 : Option Value} {r : List (Option Value)} {b b2 : Option Value} {x : UInt64} (hd : decode cc pc = .ok (.dstore 10, 2)) (hp : c2 a9 = false) (kk : wa g z k n A (pc + 2) (a0 :: a1 :: a2 :: a3 :: a4 :: a5 :: a6 :: a7 :: a8 :: a9 :: some (.double x) :: none :: r) st) : wa g z k n A pc (a0 :: a1 :: a2 :: a3 :: a4 :: a5 :: a6 :: a7 :: a8 :: a9 :: b :: b2 :: r) (.double x :: st) := by
  intro H locs ls hR hL hl T hT X
  obtain ⟨ls', e', h'⟩ := hl.st2 (i := 10) (v := .double x) (by simp) rfl (fun j w e h => by cases Nat.succ.inj e; exact c2_of hp (Option.some.inj h))
  obtain ⟨t, a, b⟩ := kk H locs ls' hR hL h' T hT X
  refine ⟨t, ?_, b⟩
  jvm_step X.here [X.here.top, ↓top_set X.here.top, C.x, C.b, hd, e']
  exact a
theorem r_nload_10 (C : CX g z cc own nL d mc ms) {a0 a1 a2 a3 a4 a5 a6 a7 a8 a9 : Option Value} {r : List (Option Value)} (hd : decode cc pc = .ok (.aload 10, 2)) (kk : wa g z k n A (pc + 2) (a0 :: a1 :: a2 :: a3 :: a4 :: a5 :: a6 :: a7 :: a8 :: a9 :: some .null :: r) (.null :: st)) : wa g z k n A pc (a0 :: a1 :: a2 :: a3 :: a4 :: a5 :: a6 :: a7 :: a8 :: a9 :: some .null :: r) st := by
  intro H locs ls hR hL hl T hT X
  have hg : ls[10]? = some (.val .null) := hl.at rfl
  obtain ⟨t, a, b⟩ := kk H locs ls hR hL hl T hT X
  refine ⟨t, ?_, b⟩
  jvm_step X.here [X.here.top, C.x, C.b, hd, hg]
  exact ⟨rfl, a⟩
theorem r_nstore_10 (C : CX g z cc own nL d mc ms) {a0 a1 a2 a3 a4 a5 a6 a7 a8 a9 : Option Value} {r : List (Option Value)} {b : Option Value} (hd : decode cc pc = .ok (.astore 10, 2)) (hp : c2 a9 = false) (kk : wa g z k n A (pc + 2) (a0 :: a1 :: a2 :: a3 :: a4 :: a5 :: a6 :: a7 :: a8 :: a9 :: some .null :: r) st) : wa g z k n A pc (a0 :: a1 :: a2 :: a3 :: a4 :: a5 :: a6 :: a7 :: a8 :: a9 :: b :: r) (.null :: st) := by
  intro H locs ls hR hL hl T hT X
  obtain ⟨ls', e', h'⟩ := hl.st1 (i := 10) (v := .null) (by simp) rfl (fun j w e h => by cases Nat.succ.inj e; exact c2_of hp (Option.some.inj h))
  obtain ⟨t, a, b⟩ := kk H locs ls' hR hL h' T hT X
  refine ⟨t, ?_, b⟩
  jvm_step X.here [X.here.top, ↓top_set X.here.top, C.x, C.b, hd, e']
  exact ⟨rfl, a⟩
theorem r_iinc_10 (C : CX g z cc own nL d mc ms) {a0 a1 a2 a3 a4 a5 a6 a7 a8 a9 : Option Value} {r : List (Option Value)} {x v : Int32} {n0 : Int} (hd : decode cc pc = .ok (.iinc 10 n0, 3)) (hv : x + Int32.ofInt n0 = v) (hp : c2 a9 = false) (kk : wa g z k n A (pc + 3) (a0 :: a1 :: a2 :: a3 :: a4 :: a5 :: a6 :: a7 :: a8 :: a9 :: some (.int v) :: r) st) : wa g z k n A pc (a0 :: a1 :: a2 :: a3 :: a4 :: a5 :: a6 :: a7 :: a8 :: a9 :: some (.int x) :: r) st := by
  subst hv
  intro H locs ls hR hL hl T hT X
  have hg : ls[10]? = some (.val (.int x)) := hl.at rfl
  obtain ⟨ls', e', h'⟩ := hl.st1 (i := 10) (v := .int (x + Int32.ofInt n0)) (by simp) rfl (fun j w e h => by cases Nat.succ.inj e; exact c2_of hp (Option.some.inj h))
  obtain ⟨t, a, b⟩ := kk H locs ls' hR hL h' T hT X
  refine ⟨t, ?_, b⟩
  jvm_step X.here [X.here.top, ↓top_set X.here.top, C.x, C.b, hd, hg, e']
  exact a
theorem r_iload_11 (C : CX g z cc own nL d mc ms) {a0 a1 a2 a3 a4 a5 a6 a7 a8 a9 a10 : Option Value} {r : List (Option Value)} {x : Int32} (hd : decode cc pc = .ok (.iload 11, 2)) (kk : wa g z k n A (pc + 2) (a0 :: a1 :: a2 :: a3 :: a4 :: a5 :: a6 :: a7 :: a8 :: a9 :: a10 :: some (.int x) :: r) (.int x :: st)) : wa g z k n A pc (a0 :: a1 :: a2 :: a3 :: a4 :: a5 :: a6 :: a7 :: a8 :: a9 :: a10 :: some (.int x) :: r) st := fun H locs ls hR hL hl => lv_iload C.x C.b hd (hl.at rfl) (kk H locs ls hR hL hl)
theorem r_istore_11 (C : CX g z cc own nL d mc ms) {a0 a1 a2 a3 a4 a5 a6 a7 a8 a9 a10 : Option Value} {r : List (Option Value)} {b : Option Value} {x : Int32} (hd : decode cc pc = .ok (.istore 11, 2)) (hp : c2 a10 = false) (kk : wa g z k n A (pc + 2) (a0 :: a1 :: a2 :: a3 :: a4 :: a5 :: a6 :: a7 :: a8 :: a9 :: a10 :: some (.int x) :: r) st) : wa g z k n A pc (a0 :: a1 :: a2 :: a3 :: a4 :: a5 :: a6 :: a7 :: a8 :: a9 :: a10 :: b :: r) (.int x :: st) := by
  intro H locs ls hR hL hl T hT X
  obtain ⟨ls', e', h'⟩ := hl.st1 (i := 11) (v := .int x) (by simp) rfl (fun j w e h => by cases Nat.succ.inj e; exact c2_of hp (Option.some.inj h))
  obtain ⟨t, a, b⟩ := kk H locs ls' hR hL h' T hT X
  refine ⟨t, ?_, b⟩
  jvm_step X.here [X.here.top, ↓top_set X.here.top, C.x, C.b, hd, e']
  exact a
theorem r_aload_11 (C : CX g z cc own nL d mc ms) {a0 a1 a2 a3 a4 a5 a6 a7 a8 a9 a10 : Option Value} {r : List (Option Value)} {x : Nat} (hd : decode cc pc = .ok (.aload 11, 2)) (kk : wa g z k n A (pc + 2) (a0 :: a1 :: a2 :: a3 :: a4 :: a5 :: a6 :: a7 :: a8 :: a9 :: a10 :: some (.ref x) :: r) (.ref x :: st)) : wa g z k n A pc (a0 :: a1 :: a2 :: a3 :: a4 :: a5 :: a6 :: a7 :: a8 :: a9 :: a10 :: some (.ref x) :: r) st := fun H locs ls hR hL hl => lv_aload C.x C.b hd (hl.at rfl) (kk H locs ls hR hL hl)
theorem r_astore_11 (C : CX g z cc own nL d mc ms) {a0 a1 a2 a3 a4 a5 a6 a7 a8 a9 a10 : Option Value} {r : List (Option Value)} {b : Option Value} {x : Nat} (hd : decode cc pc = .ok (.astore 11, 2)) (hp : c2 a10 = false) (kk : wa g z k n A (pc + 2) (a0 :: a1 :: a2 :: a3 :: a4 :: a5 :: a6 :: a7 :: a8 :: a9 :: a10 :: some (.ref x) :: r) st) : wa g z k n A pc (a0 :: a1 :: a2 :: a3 :: a4 :: a5 :: a6 :: a7 :: a8 :: a9 :: a10 :: b :: r) (.ref x :: st) := by
  intro H locs ls hR hL hl T hT X
  obtain ⟨ls', e', h'⟩ := hl.st1 (i := 11) (v := .ref x) (by simp) rfl (fun j w e h => by cases Nat.succ.inj e; exact c2_of hp (Option.some.inj h))
  obtain ⟨t, a, b⟩ := kk H locs ls' hR hL h' T hT X
  refine ⟨t, ?_, b⟩
  jvm_step X.here [X.here.top, ↓top_set X.here.top, C.x, C.b, hd, e']
  exact ⟨rfl, a⟩
theorem r_lload_11 (C : CX g z cc own nL d mc ms) {a0 a1 a2 a3 a4 a5 a6 a7 a8 a9 a10 : Option Value} {r : List (Option Value)} {x : Int64} (hd : decode cc pc = .ok (.lload 11, 2)) (kk : wa g z k n A (pc + 2) (a0 :: a1 :: a2 :: a3 :: a4 :: a5 :: a6 :: a7 :: a8 :: a9 :: a10 :: some (.long x) :: r) (.long x :: st)) : wa g z k n A pc (a0 :: a1 :: a2 :: a3 :: a4 :: a5 :: a6 :: a7 :: a8 :: a9 :: a10 :: some (.long x) :: r) st := fun H locs ls hR hL hl => lv_lload C.x C.b hd (hl.at rfl) (kk H locs ls hR hL hl)
theorem r_lstore_11 (C : CX g z cc own nL d mc ms) {a0 a1 a2 a3 a4 a5 a6 a7 a8 a9 a10 : Option Value} {r : List (Option Value)} {b b2 : Option Value} {x : Int64} (hd : decode cc pc = .ok (.lstore 11, 2)) (hp : c2 a10 = false) (kk : wa g z k n A (pc + 2) (a0 :: a1 :: a2 :: a3 :: a4 :: a5 :: a6 :: a7 :: a8 :: a9 :: a10 :: some (.long x) :: none :: r) st) : wa g z k n A pc (a0 :: a1 :: a2 :: a3 :: a4 :: a5 :: a6 :: a7 :: a8 :: a9 :: a10 :: b :: b2 :: r) (.long x :: st) := by
  intro H locs ls hR hL hl T hT X
  obtain ⟨ls', e', h'⟩ := hl.st2 (i := 11) (v := .long x) (by simp) rfl (fun j w e h => by cases Nat.succ.inj e; exact c2_of hp (Option.some.inj h))
  obtain ⟨t, a, b⟩ := kk H locs ls' hR hL h' T hT X
  refine ⟨t, ?_, b⟩
  jvm_step X.here [X.here.top, ↓top_set X.here.top, C.x, C.b, hd, e']
  exact a
theorem r_dload_11 (C : CX g z cc own nL d mc ms) {a0 a1 a2 a3 a4 a5 a6 a7 a8 a9 a10 : Option Value} {r : List (Option Value)} {x : UInt64} (hd : decode cc pc = .ok (.dload 11, 2)) (kk : wa g z k n A (pc + 2) (a0 :: a1 :: a2 :: a3 :: a4 :: a5 :: a6 :: a7 :: a8 :: a9 :: a10 :: some (.double x) :: r) (.double x :: st)) : wa g z k n A pc (a0 :: a1 :: a2 :: a3 :: a4 :: a5 :: a6 :: a7 :: a8 :: a9 :: a10 :: some (.double x) :: r) st := fun H locs ls hR hL hl => lv_dload C.x C.b hd (hl.at rfl) (kk H locs ls hR hL hl)
theorem r_dstore_11 (C : CX g z cc own nL d mc ms) {a0 a1 a2 a3 a4 a5 a6 a7 a8 a9 a10 : Option Value} {r : List (Option Value)} {b b2 : Option Value} {x : UInt64} (hd : decode cc pc = .ok (.dstore 11, 2)) (hp : c2 a10 = false) (kk : wa g z k n A (pc + 2) (a0 :: a1 :: a2 :: a3 :: a4 :: a5 :: a6 :: a7 :: a8 :: a9 :: a10 :: some (.double x) :: none :: r) st) : wa g z k n A pc (a0 :: a1 :: a2 :: a3 :: a4 :: a5 :: a6 :: a7 :: a8 :: a9 :: a10 :: b :: b2 :: r) (.double x :: st) := by
  intro H locs ls hR hL hl T hT X
  obtain ⟨ls', e', h'⟩ := hl.st2 (i := 11) (v := .double x) (by simp) rfl (fun j w e h => by cases Nat.succ.inj e; exact c2_of hp (Option.some.inj h))
  obtain ⟨t, a, b⟩ := kk H locs ls' hR hL h' T hT X
  refine ⟨t, ?_, b⟩
  jvm_step X.here [X.here.top, ↓top_set X.here.top, C.x, C.b, hd, e']
  exact a
theorem r_nload_11 (C : CX g z cc own nL d mc ms) {a0 a1 a2 a3 a4 a5 a6 a7 a8 a9 a10 : Option Value} {r : List (Option Value)} (hd : decode cc pc = .ok (.aload 11, 2)) (kk : wa g z k n A (pc + 2) (a0 :: a1 :: a2 :: a3 :: a4 :: a5 :: a6 :: a7 :: a8 :: a9 :: a10 :: some .null :: r) (.null :: st)) : wa g z k n A pc (a0 :: a1 :: a2 :: a3 :: a4 :: a5 :: a6 :: a7 :: a8 :: a9 :: a10 :: some .null :: r) st := by
  intro H locs ls hR hL hl T hT X
  have hg : ls[11]? = some (.val .null) := hl.at rfl
  obtain ⟨t, a, b⟩ := kk H locs ls hR hL hl T hT X
  refine ⟨t, ?_, b⟩
  jvm_step X.here [X.here.top, C.x, C.b, hd, hg]
  exact ⟨rfl, a⟩
theorem r_nstore_11 (C : CX g z cc own nL d mc ms) {a0 a1 a2 a3 a4 a5 a6 a7 a8 a9 a10 : Option Value} {r : List (Option Value)} {b : Option Value} (hd : decode cc pc = .ok (.astore 11, 2)) (hp : c2 a10 = false) (kk : wa g z k n A (pc + 2) (a0 :: a1 :: a2 :: a3 :: a4 :: a5 :: a6 :: a7 :: a8 :: a9 :: a10 :: some .null :: r) st) : wa g z k n A pc (a0 :: a1 :: a2 :: a3 :: a4 :: a5 :: a6 :: a7 :: a8 :: a9 :: a10 :: b :: r) (.null :: st) := by
  intro H locs ls hR hL hl T hT X
  obtain ⟨ls', e', h'⟩ := hl.st1 (i := 11) (v := .null) (by simp) rfl (fun j w e h => by cases Nat.succ.inj e; exact c2_of hp (Option.some.inj h))
  obtain ⟨t, a, b⟩ := kk H locs ls' hR hL h' T hT X
  refine ⟨t, ?_, b⟩
  jvm_step X.here [X.here.top, ↓top_set X.here.top, C.x, C.b, hd, e']
  exact ⟨rfl, a⟩
theorem r_iinc_11 (C : CX g z cc own nL d mc ms) {a0 a1 a2 a3 a4 a5 a6 a7 a8 a9 a10 : Option Value} {r : List (Option Value)} {x v : Int32} {n0 : Int} (hd : decode cc pc = .ok (.iinc 11 n0, 3)) (hv : x + Int32.ofInt n0 = v) (hp : c2 a10 = false) (kk : wa g z k n A (pc + 3) (a0 :: a1 :: a2 :: a3 :: a4 :: a5 :: a6 :: a7 :: a8 :: a9 :: a10 :: some (.int v) :: r) st) : wa g z k n A pc (a0 :: a1 :: a2 :: a3 :: a4 :: a5 :: a6 :: a7 :: a8 :: a9 :: a10 :: some (.int x) :: r) st := by
  subst hv
  intro H locs ls hR hL hl T hT X
  have hg : ls[11]? = some (.val (.int x)) := hl.at rfl
  obtain ⟨ls', e', h'⟩ := hl.st1 (i := 11) (v := .int (x + Int32.ofInt n0)) (by simp) rfl (fun j w e h => by cases Nat.succ.inj e; exact c2_of hp (Option.some.inj h))
  obtain ⟨t, a, b⟩ := kk H locs ls' hR hL h' T hT X
  refine ⟨t, ?_, b⟩
  jvm_step X.here [X.here.top, ↓top_set X.here.top, C.x, C.b, hd, hg, e']
  exact a
theorem r_iload_12 (C : CX g z cc own nL d mc ms) {a0 a1 a2 a3 a4 a5 a6 a7 a8 a9 a10 a11 : Option Value} {r : List (Option Value)} {x : Int32} (hd : decode cc pc = .ok (.iload 12, 2)) (kk : wa g z k n A (pc + 2) (a0 :: a1 :: a2 :: a3 :: a4 :: a5 :: a6 :: a7 :: a8 :: a9 :: a10 :: a11 :: some (.int x) :: r) (.int x :: st)) : wa g z k n A pc (a0 :: a1 :: a2 :: a3 :: a4 :: a5 :: a6 :: a7 :: a8 :: a9 :: a10 :: a11 :: some (.int x) :: r) st := fun H locs ls hR hL hl => lv_iload C.x C.b hd (hl.at rfl) (kk H locs ls hR hL hl)
theorem r_istore_12 (C : CX g z cc own nL d mc ms) {a0 a1 a2 a3 a4 a5 a6 a7 a8 a9 a10 a11 : Option Value} {r : List (Option Value)} {b : Option Value} {x : Int32} (hd : decode cc pc = .ok (.istore 12, 2)) (hp : c2 a11 = false) (kk : wa g z k n A (pc + 2) (a0 :: a1 :: a2 :: a3 :: a4 :: a5 :: a6 :: a7 :: a8 :: a9 :: a10 :: a11 :: some (.int x) :: r) st) : wa g z k n A pc (a0 :: a1 :: a2 :: a3 :: a4 :: a5 :: a6 :: a7 :: a8 :: a9 :: a10 :: a11 :: b :: r) (.int x :: st) := by
  intro H locs ls hR hL hl T hT X
  obtain ⟨ls', e', h'⟩ := hl.st1 (i := 12) (v := .int x) (by simp) rfl (fun j w e h => by cases Nat.succ.inj e; exact c2_of hp (Option.some.inj h))
  obtain ⟨t, a, b⟩ := kk H locs ls' hR hL h' T hT X
  refine ⟨t, ?_, b⟩
  jvm_step X.here [X.here.top, ↓top_set X.here.top, C.x, C.b, hd, e']
  exact a
theorem r_aload_12 (C : CX g z cc own nL d mc ms) {a0 a1 a2 a3 a4 a5 a6 a7 a8 a9 a10 a11 : Option Value} {r : List (Option Value)} {x : Nat} (hd : decode cc pc = .ok (.aload 12, 2)) (kk : wa g z k n A (pc + 2) (a0 :: a1 :: a2 :: a3 :: a4 :: a5 :: a6 :: a7 :: a8 :: a9 :: a10 :: a11 :: some (.ref x) :: r) (.ref x :: st)) : wa g z k n A pc (a0 :: a1 :: a2 :: a3 :: a4 :: a5 :: a6 :: a7 :: a8 :: a9 :: a10 :: a11 :: some (.ref x) :: r) st := fun H locs ls hR hL hl => lv_aload C.x C.b hd (hl.at rfl) (kk H locs ls hR hL hl)
theorem r_astore_12 (C : CX g z cc own nL d mc ms) {a0 a1 a2 a3 a4 a5 a6 a7 a8 a9 a10 a11 : Option Value} {r : List (Option Value)} {b : Option Value} {x : Nat} (hd : decode cc pc = .ok (.astore 12, 2)) (hp : c2 a11 = false) (kk : wa g z k n A (pc + 2) (a0 :: a1 :: a2 :: a3 :: a4 :: a5 :: a6 :: a7 :: a8 :: a9 :: a10 :: a11 :: some (.ref x) :: r) st) : wa g z k n A pc (a0 :: a1 :: a2 :: a3 :: a4 :: a5 :: a6 :: a7 :: a8 :: a9 :: a10 :: a11 :: b :: r) (.ref x :: st) := by
  intro H locs ls hR hL hl T hT X
  obtain ⟨ls', e', h'⟩ := hl.st1 (i := 12) (v := .ref x) (by simp) rfl (fun j w e h => by cases Nat.succ.inj e; exact c2_of hp (Option.some.inj h))
  obtain ⟨t, a, b⟩ := kk H locs ls' hR hL h' T hT X
  refine ⟨t, ?_, b⟩
  jvm_step X.here [X.here.top, ↓top_set X.here.top, C.x, C.b, hd, e']
  exact ⟨rfl, a⟩
theorem r_lload_12 (C : CX g z cc own nL d mc ms) {a0 a1 a2 a3 a4 a5 a6 a7 a8 a9 a10 a11 : Option Value} {r : List (Option Value)} {x : Int64} (hd : decode cc pc = .ok (.lload 12, 2)) (kk : wa g z k n A (pc + 2) (a0 :: a1 :: a2 :: a3 :: a4 :: a5 :: a6 :: a7 :: a8 :: a9 :: a10 :: a11 :: some (.long x) :: r) (.long x :: st)) : wa g z k n A pc (a0 :: a1 :: a2 :: a3 :: a4 :: a5 :: a6 :: a7 :: a8 :: a9 :: a10 :: a11 :: some (.long x) :: r) st := fun H locs ls hR hL hl => lv_lload C.x C.b hd (hl.at rfl) (kk H locs ls hR hL hl)
theorem r_lstore_12 (C : CX g z cc own nL d mc ms) {a0 a1 a2 a3 a4 a5 a6 a7 a8 a9 a10 a11 : Option Value} {r : List (Option Value)} {b b2 : Option Value} {x : Int64} (hd : decode cc pc = .ok (.lstore 12, 2)) (hp : c2 a11 = false) (kk : wa g z k n A (pc + 2) (a0 :: a1 :: a2 :: a3 :: a4 :: a5 :: a6 :: a7 :: a8 :: a9 :: a10 :: a11 :: some (.long x) :: none :: r) st) : wa g z k n A pc (a0 :: a1 :: a2 :: a3 :: a4 :: a5 :: a6 :: a7 :: a8 :: a9 :: a10 :: a11 :: b :: b2 :: r) (.long x :: st) := by
  intro H locs ls hR hL hl T hT X
  obtain ⟨ls', e', h'⟩ := hl.st2 (i := 12) (v := .long x) (by simp) rfl (fun j w e h => by cases Nat.succ.inj e; exact c2_of hp (Option.some.inj h))
  obtain ⟨t, a, b⟩ := kk H locs ls' hR hL h' T hT X
  refine ⟨t, ?_, b⟩
  jvm_step X.here [X.here.top, ↓top_set X.here.top, C.x, C.b, hd, e']
  exact a
theorem r_dload_12 (C : CX g z cc own nL d mc ms) {a0 a1 a2 a3 a4 a5 a6 a7 a8 a9 a10 a11 : Option Value} {r : List (Option Value)} {x : UInt64} (hd : decode cc pc = .ok (.dload 12, 2)) (kk : wa g z k n A (pc + 2) (a0 :: a1 :: a2 :: a3 :: a4 :: a5 :: a6 :: a7 :: a8 :: a9 :: a10 :: a11 :: some (.double x) :: r) (.double x :: st)) : wa g z k n A pc (a0 :: a1 :: a2 :: a3 :: a4 :: a5 :: a6 :: a7 :: a8 :: a9 :: a10 :: a11 :: some (.double x) :: r) st := fun H locs ls hR hL hl => lv_dload C.x C.b hd (hl.at rfl) (kk H locs ls hR hL hl)
theorem r_dstore_12 (C : CX g z cc own nL d mc ms) {a0 a1 a2 a3 a4 a5 a6 a7 a8 a9 a10 a11 : Option Value} {r : List (Option Value)} {b b2 : Option Value} {x : UInt64} (hd : decode cc pc = .ok (.dstore 12, 2)) (hp : c2 a11 = false) (kk : wa g z k n A (pc + 2) (a0 :: a1 :: a2 :: a3 :: a4 :: a5 :: a6 :: a7 :: a8 :: a9 :: a10 :: a11 :: some (.double x) :: none :: r) st) : wa g z k n A pc (a0 :: a1 :: a2 :: a3 :: a4 :: a5 :: a6 :: a7 :: a8 :: a9 :: a10 :: a11 :: b :: b2 :: r) (.double x :: st) := by
  intro H locs ls hR hL hl T hT X
  obtain ⟨ls', e', h'⟩ := hl.st2 (i := 12) (v := .double x) (by simp) rfl (fun j w e h => by cases Nat.succ.inj e; exact c2_of hp (Option.some.inj h))
  obtain ⟨t, a, b⟩ := kk H locs ls' hR hL h' T hT X
  refine ⟨t, ?_, b⟩
  jvm_step X.here [X.here.top, ↓top_set X.here.top, C.x, C.b, hd, e']
  exact a
theorem r_nload_12 (C : CX g z cc own nL d mc ms) {a0 a1 a2 a3 a4 a5 a6 a7 a8 a9 a10 a11 : Option Value} {r : List (Option Value)} (hd : decode cc pc = .ok (.aload 12, 2)) (kk : wa g z k n A (pc + 2) (a0 :: a1 :: a2 :: a3 :: a4 :: a5 :: a6 :: a7 :: a8 :: a9 :: a10 :: a11 :: some .null :: r) (.null :: st)) : wa g z k n A pc (a0 :: a1 :: a2 :: a3 :: a4 :: a5 :: a6 :: a7 :: a8 :: a9 :: a10 :: a11 :: some .null :: r) st := by
  intro H locs ls hR hL hl T hT X
  have hg : ls[12]? = some (.val .null) := hl.at rfl
  obtain ⟨t, a, b⟩ := kk H locs ls hR hL hl T hT X
  refine ⟨t, ?_, b⟩
  jvm_step X.here [X.here.top, C.x, C.b, hd, hg]
  exact ⟨rfl, a⟩
theorem r_nstore_12 (C : CX g z cc own nL d mc ms) {a0 a1 a2 a3 a4 a5 a6 a7 a8 a9 a10 a11 : Option Value} {r : List (Option Value)} {b : Option Value} (hd : decode cc pc = .ok (.astore 12, 2)) (hp : c2 a11 = false) (kk : wa g z k n A (pc + 2) (a0 :: a1 :: a2 :: a3 :: a4 :: a5 :: a6 :: a7 :: a8 :: a9 :: a10 :: a11 :: some .null :: r) st) : wa g z k n A pc (a0 :: a1 :: a2 :: a3 :: a4 :: a5 :: a6 :: a7 :: a8 :: a9 :: a10 :: a11 :: b :: r) (.null :: st) := by
  intro H locs ls hR hL hl T hT X
  obtain ⟨ls', e', h'⟩ := hl.st1 (i := 12) (v := .null) (by simp) rfl (fun j w e h => by cases Nat.succ.inj e; exact c2_of hp (Option.some.inj h))
  obtain ⟨t, a, b⟩ := kk H locs ls' hR hL h' T hT X
  refine ⟨t, ?_, b⟩
  jvm_step X.here [X.here.top, ↓top_set X.here.top, C.x, C.b, hd, e']
  exact ⟨rfl, a⟩
theorem r_iinc_12 (C : CX g z cc own nL d mc ms) {a0 a1 a2 a3 a4 a5 a6 a7 a8 a9 a10 a11 : Option Value} {r : List (Option Value)} {x v : Int32} {n0 : Int} (hd : decode cc pc = .ok (.iinc 12 n0, 3)) (hv : x + Int32.ofInt n0 = v) (hp : c2 a11 = false) (kk : wa g z k n A (pc + 3) (a0 :: a1 :: a2 :: a3 :: a4 :: a5 :: a6 :: a7 :: a8 :: a9 :: a10 :: a11 :: some (.int v) :: r) st) : wa g z k n A pc (a0 :: a1 :: a2 :: a3 :: a4 :: a5 :: a6 :: a7 :: a8 :: a9 :: a10 :: a11 :: some (.int x) :: r) st := by
  subst hv
  intro H locs ls hR hL hl T hT X
  have hg : ls[12]? = some (.val (.int x)) := hl.at rfl
  obtain ⟨ls', e', h'⟩ := hl.st1 (i := 12) (v := .int (x + Int32.ofInt n0)) (by simp) rfl (fun j w e h => by cases Nat.succ.inj e; exact c2_of hp (Option.some.inj h))
  obtain ⟨t, a, b⟩ := kk H locs ls' hR hL h' T hT X
  refine ⟨t, ?_, b⟩
  jvm_step X.here [X.here.top, ↓top_set X.here.top, C.x, C.b, hd, hg, e']
  exact a
/-- a computed number gets another form -/
theorem r_top {x y : Int32} (h : x = y) (kk : wa g z k n A pc lv (.int y :: st)) : wa g z k n A pc lv (.int x :: st) := h ▸ kk
theorem r_eqA {A' : HA} (h : A = A') (kk : wa g z k n A' pc lv st) : wa g z k n A pc lv st := h ▸ kk
theorem r_widen {k' n' : Nat} (h1 : k ≤ k') (h2 : n ≤ n') (kk : wa g z k' n' A pc lv st) : wa g z k n A pc lv st := fun H locs ls hR hL hl => W.widen h1 h2 (kk H locs ls hR hL hl)
/-- locals that aren't asked for any more -/
theorem r_less {lv' : List (Option Value)} (hs : lv'.length = lv.length) (hv : ∀ (i : Nat) (v : Value), lv'[i]? = some (some v) → lv[i]? = some (some v)) (kk : wa g z k n A pc lv' st) : wa g z k n A pc lv st := fun H locs ls hR hL hl => kk H locs ls hR hL ⟨hl.1.trans hs.symm, hl.2.1, fun i v h => hl.2.2 i v (hv i v h)⟩
end
