/-! EXCEPTIONS OF OUR OWN: Unable, Unreadable; frames over new cells -/
set_option maxRecDepth 100000
/-- no cell of ours lies behind the heap's end -/
def Zk (A : HA) : Prop := ∀ a, A.z ≤ a → (A.G a).1 = 0 ∨ 40 ≤ (A.G a).1 ∧ (A.G a).1 < 80
theorem Zk.lt {A : HA} (h : Zk A) {a k : Nat} (e : (A.G a).1 = k) (hk : (decide (1 ≤ k) && (decide (k < 40) || decide (80 ≤ k))) = true) : a < A.z := by
  simp only [Bool.and_eq_true, Bool.or_eq_true, decide_eq_true_eq] at hk
  rcases Nat.lt_or_ge a A.z with q | q
  · exact q
  · have := h a q; omega
/-- A' is A with cells behind it, and X changed -/
def Gw (A A' : HA) (X : Nat → Prop) : Prop := A.z ≤ A'.z ∧ ∀ x, x < A.z → A'.G x = A.G x ∧ A'.n x = A.n x ∧ (¬ X x → A'.L x = A.L x ∧ A'.I x = A.I x ∧ A'.R x = A.R x)
theorem Gw.rf {A : HA} {X : Nat → Prop} : Gw A A X := ⟨Nat.le_refl _, fun _ _ => ⟨rfl, rfl, fun _ => ⟨rfl, rfl, rfl⟩⟩⟩
theorem Gw.tr {A B D : HA} {X : Nat → Prop} (h : Gw A B X) (h2 : Gw B D X) : Gw A D X := ⟨Nat.le_trans h.1 h2.1, fun x hx => by
  obtain ⟨a1, a2, a3⟩ := h.2 x hx
  obtain ⟨b1, b2, b3⟩ := h2.2 x (Nat.lt_of_lt_of_le hx h.1)
  exact ⟨b1.trans a1, b2.trans a2, fun q => ⟨(b3 q).1.trans (a3 q).1, (b3 q).2.1.trans (a3 q).2.1, (b3 q).2.2.trans (a3 q).2.2⟩⟩⟩
theorem Gw.tr2 {A B D : HA} {X Y : Nat → Prop} (h : Gw A B X) (h2 : Gw B D Y) (hY : ∀ y, y < A.z → Y y → X y) : Gw A D X := ⟨Nat.le_trans h.1 h2.1, fun x hx => by
  obtain ⟨a1, a2, a3⟩ := h.2 x hx
  obtain ⟨b1, b2, b3⟩ := h2.2 x (Nat.lt_of_lt_of_le hx h.1)
  exact ⟨b1.trans a1, b2.trans a2, fun q => ⟨(b3 (fun z => q (hY x hx z))).1.trans (a3 q).1, (b3 (fun z => q (hY x hx z))).2.1.trans (a3 q).2.1, (b3 (fun z => q (hY x hx z))).2.2.trans (a3 q).2.2⟩⟩⟩
theorem Gw.mono {A B : HA} {X Y : Nat → Prop} (h : Gw A B X) (hx : ∀ y, y < A.z → X y → Y y) : Gw A B Y := ⟨h.1, fun x h1 => ⟨(h.2 x h1).1, (h.2 x h1).2.1, fun q => (h.2 x h1).2.2 (fun z => q (hx x h1 z))⟩⟩
theorem Sm.gw {A B : HA} {X : Nat → Prop} (h : Sm A B X) : Gw A B X := ⟨by rw [h.2.2.2.1]; exact Nat.le_refl _, fun x _ => ⟨by rw [h.1], by rw [h.2.2.1], fun q => ⟨by rw [h.2.2.2.2.1], h.2.2.2.2.2 x q, by rw [h.2.1]⟩⟩⟩
theorem gw_mk {A : HA} {k o len : Nat} {X : Nat → Prop} : Gw A (A.mk k o len) X := by
  refine ⟨by rw [mk_z]; omega, fun x hx => ?_⟩
  have hne : x ≠ A.z := by omega
  rw [mk_G, mk_n, mk_L, mk_I, mk_R]
  simp only [if_neg hne, and_self, implies_true]
theorem gw_sR {A : HA} {a : Nat} {f : Nat → Option Nat} {X : Nat → Prop} (h : a < A.z → X a) : Gw A (A.sR a f) X := ⟨Nat.le_refl _, fun x hx => ⟨rfl, rfl, fun q => ⟨rfl, rfl, sR_o A f (fun e => q (by rw [e]; exact h (by rw [← e]; exact hx)))⟩⟩⟩
theorem gw_sI {A : HA} {a : Nat} {f : Nat → Int32} {X : Nat → Prop} (h : a < A.z → X a) : Gw A (A.sI a f) X := ⟨Nat.le_refl _, fun x hx => ⟨rfl, rfl, fun q => ⟨rfl, sI_o A f (fun e => q (by rw [e]; exact h (by rw [← e]; exact hx))), rfl⟩⟩⟩
abbrev Non : Nat → Prop := fun _ => False
section
variable {g : GZ} {z : ZX} {cc : ByteArray} {own : String} {nL d mc ms k n : Nat} {A : HA} {pc : Nat} {lv : List (Option Value)} {st : List Value}
theorem r_Z (kk : Zk A → wa g z k n A pc lv st) : wa g z k n A pc lv st := fun H locs ls hR => kk (fun x => (hR.2.2.2.2.2.1 x).1) H locs ls hR
/-- no old cell is owned by a new one -/
def Zo (A : HA) : Prop := ∀ x, x < A.z → ((A.G x).1 = 0 ∨ 40 ≤ (A.G x).1 ∧ (A.G x).1 < 80) ∨ (A.G x).2 < A.z ∨ (A.G x).2 = 0
theorem r_Zo (kk : Zo A → wa g z k n A pc lv st) : wa g z k n A pc lv st := fun H locs ls hR => kk (fun x => (hR.2.2.2.2.2.1 x).2) H locs ls hR
/-- a static field that holds some reference or null -/
theorem r_getQ (C : CX g z cc own nL d mc ms) {ix : Nat} {cn fn fd : String} (hZ : va_Zq cn fn fd (fun q => g.b ≤ q) g.s g.s.heap) (hlink : Cond.fieldLink own ix cn fn fd ∈ lw_all) (hd : decode cc pc = .ok (.getstatic ix, 3)) (kk : ∀ o : Option Nat, wa g z k n A (pc + 3) lv (va_rf o :: st)) : wa g z k n A pc lv st := by
  rcases hZ with h | ⟨t, h⟩
  · exact r_getS C h hlink hd (kk none)
  · exact r_getS C h hlink hd (kk (some t))
theorem r_putO (C : CX g z cc own nL d mc ms) {ix ki f a : Nat} {o : Option Nat} (h : FL own ix ki f) (h1 : (A.G a).1 = ki) (hm : fw_mut ki = true) (hfin : ∀ Cn T N, fw_cl[ki]? = some (Cn, T, N) → (T f).2.2.2 = false ∨ (T f).1 = own ∧ z.M.name = "<init>") (ht : fw_isR (fw_ty ki f) = true)
    (hd : decode cc pc = .ok (.putfield ix, 3)) (kk : wa g z k n (A.sR a (va_up (A.R a) f o)) (pc + 3) lv st) : wa g z k n A pc lv (va_rf o :: .ref a :: st) := by
  cases o with
  | none => exact r_putN C h h1 hm hfin ht hd kk
  | some x => exact r_putR C h h1 hm hfin ht hd kk
end
set_option maxHeartbeats 4000000 in
theorem e_throw8 {g : GZ} {A : HA} {q : Nat} (hq : (A.G q).1 = 8) : Ct g wV yJ14_init_3 (.code yJ14_init_3 cJ14_init_3 5 (Option.none : Option Jvm.ClassFile.FieldType)) 2 0 0 [.ref q, .null, .null, .int (nI (0)), .int (nI (0))] (A) (fun u A' => ∃ ρ, A' = A.sR q ρ) fw_no := by
  refine Ct.of [some (.ref q), some (.null), some (.null), some (.int (nI (0))), some (.int (nI (0)))] (by decide) rfl rfl fun z C hx hnm E => ?_
  refine r_aload_0 (pc := 0) C dJ14_init_3_0 ?_
  refine r_objInit (pc := 1) C q739 q199 q200 rfl (Nat.le_of_ble_eq_true rfl) (by decide) dJ14_init_3_1 ?_
  refine r_aload_0 (pc := 4) C dJ14_init_3_4 ?_
  refine r_aload_0 (pc := 5) C dJ14_init_3_5 ?_
  refine r_putR (pc := 6) C fl_J14_7_8 hq rfl (fun _ _ _ h => by cases h; exact Or.inl rfl) rfl dJ14_init_3_6 ?_
  refine r_aload_0 (pc := 9) C dJ14_init_3_9 ?_
  refine r_getQ (pc := 10) C C.1.2.2.1.1 q740 dJ14_init_3_10 fun o10 => ?_
  refine r_putO (pc := 13) C fl_J14_17_8 hq rfl (fun _ _ _ h => by cases h; exact Or.inl rfl) rfl dJ14_init_3_13 ?_
  refine r_eqA (sR_sR _ _ _ _) ?_
  refine r_aload_0 (pc := 16) C dJ14_init_3_16 ?_
  refine r_getQ (pc := 17) C C.1.2.2.2.1 q742 dJ14_init_3_17 fun o17 => ?_
  refine r_putO (pc := 20) C fl_J14_24_8 hq rfl (fun _ _ _ h => by cases h; exact Or.inl rfl) rfl dJ14_init_3_20 ?_
  refine r_eqA (sR_sR _ _ _ _) ?_
  refine r_iload_4 (pc := 23) C dJ14_init_3_23 ?_
  refine r_if_eq (pc := 25) (tgt := 36) C dJ14_init_3_25 (by decide) (fun b25 => ?_) (fun b25 => ?_)
  · skip
    refine r_aload_0 (pc := 36) C dJ14_init_3_36 ?_
    refine r_null (pc := 37) C dJ14_init_3_37 ?_
    refine r_putN (pc := 38) C fl_J14_17_8 hq rfl (fun _ _ _ h => by cases h; exact Or.inl rfl) rfl dJ14_init_3_38 ?_
    refine r_eqA (sR_sR _ _ _ _) ?_
    refine r_aload_0 (pc := 41) C dJ14_init_3_41 ?_
    refine r_nload_1 (pc := 42) C dJ14_init_3_42 ?_
    refine r_putN (pc := 43) C fl_J14_31_8 hq rfl (fun _ _ _ h => by cases h; exact Or.inl rfl) rfl dJ14_init_3_43 ?_
    refine r_eqA (sR_sR _ _ _ _) ?_
    refine r_aload_0 (pc := 46) C dJ14_init_3_46 ?_
    refine r_nload_2 (pc := 47) C dJ14_init_3_47 ?_
    refine r_putN (pc := 48) C fl_J14_7_8 hq rfl (fun _ _ _ h => by cases h; exact Or.inl rfl) rfl dJ14_init_3_48 ?_
    refine r_eqA (sR_sR _ _ _ _) ?_
    refine r_iload_3 (pc := 51) C dJ14_init_3_51 ?_
    refine r_if_ne (pc := 52) (tgt := 60) C dJ14_init_3_52 (by decide) (fun b52 => ?_) (fun b52 => ?_)
    · exact absurd b52 (by decide +kernel)
    · skip
      refine r_aload_0 (pc := 55) C dJ14_init_3_55 ?_
      refine r_null (pc := 56) C dJ14_init_3_56 ?_
      refine r_putN (pc := 57) C fl_J14_24_8 hq rfl (fun _ _ _ h => by cases h; exact Or.inl rfl) rfl dJ14_init_3_57 ?_
      refine r_eqA (sR_sR _ _ _ _) ?_
      refine r_vret (pc := 60) C E (Nat.le_refl _) (Nat.le_refl _) dJ14_init_3_60 ?_
      exact ⟨_, rfl⟩
  · exact absurd b25 (by decide +kernel)
set_option maxHeartbeats 4000000 in
theorem e_exc8 {g : GZ} {A : HA} {q : Nat} (hq : (A.G q).1 = 8) : Ct g wV yJ15_init_3 (.code yJ15_init_3 cJ15_init_3 5 (Option.none : Option Jvm.ClassFile.FieldType)) 3 0 0 [.ref q, .null, .null, .int (nI (0)), .int (nI (0))] (A) (fun u A' => ∃ ρ, A' = A.sR q ρ) fw_no := by
  refine Ct.of [some (.ref q), some (.null), some (.null), some (.int (nI (0))), some (.int (nI (0)))] (by decide) rfl rfl fun z C hx hnm E => ?_
  refine r_aload_0 (pc := 0) C dJ15_init_3_0 ?_
  refine r_nload_1 (pc := 1) C dJ15_init_3_1 ?_
  refine r_nload_2 (pc := 2) C dJ15_init_3_2 ?_
  refine r_iload_3 (pc := 3) C dJ15_init_3_3 ?_
  refine r_iload_4 (pc := 4) C dJ15_init_3_4 ?_
  refine r_I4vo (pc := 6) C (e_throw8 hq) il_J15_16 (by decide) (Nat.le_refl _) (Nat.le_refl _) (Nat.le_of_ble_eq_true rfl) rfl dJ15_init_3_6 (fun u1 A1 hc1 => ?_)
  obtain ⟨ρ1, eA1⟩ := hc1
  refine r_eqA eA1 ?_
  clear eA1 A1 u1
  refine r_vret (pc := 9) C E (Nat.le_refl _) (Nat.le_refl _) dJ15_init_3_9 ?_
  exact ⟨_, rfl⟩
set_option maxHeartbeats 4000000 in
theorem e_unread {g : GZ} {A : HA} {q : Nat} (hq : (A.G q).1 = 8) {r p : Int32} : Ct g wV yX8_init (.code yX8_init cX8_init 3 (Option.none : Option Jvm.ClassFile.FieldType)) 4 0 0 [.ref q, .int r, .int p] (A) (fun u A' => (∃ ρ, A' = (A.sR q ρ).sI q (upd (upd (A.I q) 6 r) 7 p))) fw_no := by
  refine Ct.of [some (.ref q), some (.int r), some (.int p)] (by decide) rfl rfl fun z C hx hnm E => ?_
  refine r_aload_0 (pc := 0) C dX8_init_0 ?_
  refine r_null (pc := 1) C dX8_init_1 ?_
  refine r_null (pc := 2) C dX8_init_2 ?_
  refine r_iconst (pc := 3) C dX8_init_3 ci_0 ?_
  refine r_iconst (pc := 4) C dX8_init_4 ci_0 ?_
  refine r_I4vo (pc := 5) C (e_exc8 hq) il_X8_1 (by decide) (Nat.le_refl _) (Nat.le_refl _) (Nat.le_of_ble_eq_true rfl) rfl dX8_init_5 (fun u1 A1 hc1 => ?_)
  obtain ⟨ρ1, eA1⟩ := hc1
  refine r_eqA eA1 ?_
  clear eA1 A1 u1
  refine r_aload_0 (pc := 8) C dX8_init_8 ?_
  refine r_iload_1 (pc := 9) C dX8_init_9 ?_
  refine r_putI (pc := 10) C fl_X8_7_8 hq rfl (fun _ _ _ h => by cases h; exact Or.inr ⟨rfl, hnm⟩) rfl rfl rfl dX8_init_10 ?_
  refine r_aload_0 (pc := 13) C dX8_init_13 ?_
  refine r_iload_2 (pc := 14) C dX8_init_14 ?_
  refine r_putI (pc := 15) C fl_X8_13_8 hq rfl (fun _ _ _ h => by cases h; exact Or.inr ⟨rfl, hnm⟩) rfl rfl rfl dX8_init_15 ?_
  refine r_eqA (sI_sI _ _ _ _) ?_
  refine r_vret (pc := 18) C E (Nat.le_refl _) (Nat.le_refl _) dX8_init_18 ?_
  exact ⟨_, by rw [sI_s]; rfl⟩
set_option maxHeartbeats 4000000 in
theorem e_throw9 {g : GZ} {A : HA} {q : Nat} (hq : (A.G q).1 = 9) : Ct g wV yJ14_init_3 (.code yJ14_init_3 cJ14_init_3 5 (Option.none : Option Jvm.ClassFile.FieldType)) 2 0 0 [.ref q, .null, .null, .int (nI (0)), .int (nI (0))] (A) (fun u A' => ∃ ρ, A' = A.sR q ρ) fw_no := by
  refine Ct.of [some (.ref q), some (.null), some (.null), some (.int (nI (0))), some (.int (nI (0)))] (by decide) rfl rfl fun z C hx hnm E => ?_
  refine r_aload_0 (pc := 0) C dJ14_init_3_0 ?_
  refine r_objInit (pc := 1) C q739 q199 q200 rfl (Nat.le_of_ble_eq_true rfl) (by decide) dJ14_init_3_1 ?_
  refine r_aload_0 (pc := 4) C dJ14_init_3_4 ?_
  refine r_aload_0 (pc := 5) C dJ14_init_3_5 ?_
  refine r_putR (pc := 6) C fl_J14_7_9 hq rfl (fun _ _ _ h => by cases h; exact Or.inl rfl) rfl dJ14_init_3_6 ?_
  refine r_aload_0 (pc := 9) C dJ14_init_3_9 ?_
  refine r_getQ (pc := 10) C C.1.2.2.1.1 q740 dJ14_init_3_10 fun o10 => ?_
  refine r_putO (pc := 13) C fl_J14_17_9 hq rfl (fun _ _ _ h => by cases h; exact Or.inl rfl) rfl dJ14_init_3_13 ?_
  refine r_eqA (sR_sR _ _ _ _) ?_
  refine r_aload_0 (pc := 16) C dJ14_init_3_16 ?_
  refine r_getQ (pc := 17) C C.1.2.2.2.1 q742 dJ14_init_3_17 fun o17 => ?_
  refine r_putO (pc := 20) C fl_J14_24_9 hq rfl (fun _ _ _ h => by cases h; exact Or.inl rfl) rfl dJ14_init_3_20 ?_
  refine r_eqA (sR_sR _ _ _ _) ?_
  refine r_iload_4 (pc := 23) C dJ14_init_3_23 ?_
  refine r_if_eq (pc := 25) (tgt := 36) C dJ14_init_3_25 (by decide) (fun b25 => ?_) (fun b25 => ?_)
  · skip
    refine r_aload_0 (pc := 36) C dJ14_init_3_36 ?_
    refine r_null (pc := 37) C dJ14_init_3_37 ?_
    refine r_putN (pc := 38) C fl_J14_17_9 hq rfl (fun _ _ _ h => by cases h; exact Or.inl rfl) rfl dJ14_init_3_38 ?_
    refine r_eqA (sR_sR _ _ _ _) ?_
    refine r_aload_0 (pc := 41) C dJ14_init_3_41 ?_
    refine r_nload_1 (pc := 42) C dJ14_init_3_42 ?_
    refine r_putN (pc := 43) C fl_J14_31_9 hq rfl (fun _ _ _ h => by cases h; exact Or.inl rfl) rfl dJ14_init_3_43 ?_
    refine r_eqA (sR_sR _ _ _ _) ?_
    refine r_aload_0 (pc := 46) C dJ14_init_3_46 ?_
    refine r_nload_2 (pc := 47) C dJ14_init_3_47 ?_
    refine r_putN (pc := 48) C fl_J14_7_9 hq rfl (fun _ _ _ h => by cases h; exact Or.inl rfl) rfl dJ14_init_3_48 ?_
    refine r_eqA (sR_sR _ _ _ _) ?_
    refine r_iload_3 (pc := 51) C dJ14_init_3_51 ?_
    refine r_if_ne (pc := 52) (tgt := 60) C dJ14_init_3_52 (by decide) (fun b52 => ?_) (fun b52 => ?_)
    · exact absurd b52 (by decide +kernel)
    · skip
      refine r_aload_0 (pc := 55) C dJ14_init_3_55 ?_
      refine r_null (pc := 56) C dJ14_init_3_56 ?_
      refine r_putN (pc := 57) C fl_J14_24_9 hq rfl (fun _ _ _ h => by cases h; exact Or.inl rfl) rfl dJ14_init_3_57 ?_
      refine r_eqA (sR_sR _ _ _ _) ?_
      refine r_vret (pc := 60) C E (Nat.le_refl _) (Nat.le_refl _) dJ14_init_3_60 ?_
      exact ⟨_, rfl⟩
  · exact absurd b25 (by decide +kernel)
set_option maxHeartbeats 4000000 in
theorem e_exc9 {g : GZ} {A : HA} {q : Nat} (hq : (A.G q).1 = 9) : Ct g wV yJ15_init_3 (.code yJ15_init_3 cJ15_init_3 5 (Option.none : Option Jvm.ClassFile.FieldType)) 3 0 0 [.ref q, .null, .null, .int (nI (0)), .int (nI (0))] (A) (fun u A' => ∃ ρ, A' = A.sR q ρ) fw_no := by
  refine Ct.of [some (.ref q), some (.null), some (.null), some (.int (nI (0))), some (.int (nI (0)))] (by decide) rfl rfl fun z C hx hnm E => ?_
  refine r_aload_0 (pc := 0) C dJ15_init_3_0 ?_
  refine r_nload_1 (pc := 1) C dJ15_init_3_1 ?_
  refine r_nload_2 (pc := 2) C dJ15_init_3_2 ?_
  refine r_iload_3 (pc := 3) C dJ15_init_3_3 ?_
  refine r_iload_4 (pc := 4) C dJ15_init_3_4 ?_
  refine r_I4vo (pc := 6) C (e_throw9 hq) il_J15_16 (by decide) (Nat.le_refl _) (Nat.le_refl _) (Nat.le_of_ble_eq_true rfl) rfl dJ15_init_3_6 (fun u1 A1 hc1 => ?_)
  obtain ⟨ρ1, eA1⟩ := hc1
  refine r_eqA eA1 ?_
  clear eA1 A1 u1
  refine r_vret (pc := 9) C E (Nat.le_refl _) (Nat.le_refl _) dJ15_init_3_9 ?_
  exact ⟨_, rfl⟩
set_option maxHeartbeats 4000000 in
theorem e_unable {g : GZ} {A : HA} {q : Nat} (hq : (A.G q).1 = 9) {r : Int32} : Ct g wV yX9_init (.code yX9_init cX9_init 2 (Option.none : Option Jvm.ClassFile.FieldType)) 4 0 0 [.ref q, .int r] (A) (fun u A' => (∃ ρ, A' = (A.sR q ρ).sI q (upd (A.I q) 6 r))) fw_no := by
  refine Ct.of [some (.ref q), some (.int r)] (by decide) rfl rfl fun z C hx hnm E => ?_
  refine r_aload_0 (pc := 0) C dX9_init_0 ?_
  refine r_null (pc := 1) C dX9_init_1 ?_
  refine r_null (pc := 2) C dX9_init_2 ?_
  refine r_iconst (pc := 3) C dX9_init_3 ci_0 ?_
  refine r_iconst (pc := 4) C dX9_init_4 ci_0 ?_
  refine r_I4vo (pc := 5) C (e_exc9 hq) il_X9_1 (by decide) (Nat.le_refl _) (Nat.le_refl _) (Nat.le_of_ble_eq_true rfl) rfl dX9_init_5 (fun u1 A1 hc1 => ?_)
  obtain ⟨ρ1, eA1⟩ := hc1
  refine r_eqA eA1 ?_
  clear eA1 A1 u1
  refine r_aload_0 (pc := 8) C dX9_init_8 ?_
  refine r_iload_1 (pc := 9) C dX9_init_9 ?_
  refine r_putI (pc := 10) C fl_X9_7_9 hq rfl (fun _ _ _ h => by cases h; exact Or.inr ⟨rfl, hnm⟩) rfl rfl rfl dX9_init_10 ?_
  refine r_vret (pc := 13) C E (Nat.le_refl _) (Nat.le_refl _) dX9_init_13 ?_
  exact ⟨_, rfl⟩
