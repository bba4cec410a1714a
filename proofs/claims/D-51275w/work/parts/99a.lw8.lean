/-! MADE: rows, walkers, a lawn by its parts -/
set_option maxRecDepth 100000
/-- the object q holds ρ, ι; all else is as in B -/
def OB (B : HA) (q : Nat) (ρ : Nat → Option Nat) (ι : Nat → Int32) : HA := (B.sR q ρ).sI q ι
section
variable (B : HA) (q : Nat) (ρ : Nat → Option Nat) (ι : Nat → Int32)
theorem OB_self : B = OB B q (B.R q) (B.I q) := by
  unfold OB
  have h1 : B.sR q (B.R q) = B := by
    refine HA.ext rfl rfl ?_ rfl rfl rfl
    funext x
    rw [sR_R]
    by_cases e : x = q
    · rw [if_pos e, e]
    · rw [if_neg e]
  rw [h1, sI_self]
theorem OB_r : (OB B q ρ ι).R q = ρ := sR_s _ _ _
theorem OB_i : (OB B q ρ ι).I q = ι := sI_s _ _ _
theorem OB_R (f : Nat) (v : Option Nat) : (OB B q ρ ι).sR q (va_up ((OB B q ρ ι).R q) f v) = OB B q (va_up ρ f v) ι := by
  rw [OB_r]
  show ((B.sR q ρ).sR q (va_up ρ f v)).sI q ι = _
  rw [sR_sR]; rfl
theorem OB_I (f : Nat) (v : Int32) : (OB B q ρ ι).sI q (upd ((OB B q ρ ι).I q) f v) = OB B q ρ (upd ι f v) := by
  rw [OB_i]
  unfold OB
  rw [sI_sI]
theorem OB_xI {x : Nat} (h : x ≠ q) : (OB B q ρ ι).I x = B.I x := if_neg h
theorem OB_xR {x : Nat} (h : x ≠ q) : (OB B q ρ ι).R x = B.R x := if_neg h
theorem OB_mk {k o n : Nat} (h : q ≠ B.z) : (OB B q ρ ι).mk k o n = OB (B.mk k o n) q ρ ι := by
  refine HA.ext rfl ?_ ?_ rfl rfl rfl
  · funext x
    show (if x = B.z then fun _ => 0 else if x = q then ι else B.I x) = if x = q then ι else if x = B.z then fun _ => 0 else B.I x
    by_cases e : x = q
    · rw [if_pos e, if_pos e, if_neg (by rw [e]; exact h)]
    · rw [if_neg e, if_neg e]
  · funext x
    show (if x = B.z then fun _ => none else if x = q then ρ else B.R x) = if x = q then ρ else if x = B.z then fun _ => none else B.R x
    by_cases e : x = q
    · rw [if_pos e, if_pos e, if_neg (by rw [e]; exact h)]
    · rw [if_neg e, if_neg e]
theorem gw_OB {X : Nat → Prop} (h : q < B.z → X q) : Gw B (OB B q ρ ι) X := (gw_sR h).tr (gw_sI h)
end
/-- a new row of things: none so far -/
def RwN (g : GZ) (A A' : HA) (r : Nat) : Prop := A'.z = A.z + 1 ∧ Gw A A' (fun y => y = r) ∧ A'.R r 0 = some A.z ∧ A'.I r = A.I r ∧ A'.G A.z = (13, r) ∧ Ll g A' A.z (g.c 70) 0 (fun _ => 0)
theorem rwn_mk {g : GZ} {A : HA} {r : Nat} (hr : r < A.z) : RwN g A ((((A.mk 13 r 0).sI A.z (upd ((A.mk 13 r 0).I A.z) 0 (nI 0))).sR A.z (va_up ((A.mk 13 r 0).R A.z) 1 (some (g.c 70)))).sR r (va_up ((((A.mk 13 r 0).sI A.z (upd ((A.mk 13 r 0).I A.z) 0 (nI 0))).sR A.z (va_up ((A.mk 13 r 0).R A.z) 1 (some (g.c 70)))).R r) 0 (some A.z))) r := by
  have hne : A.z ≠ r := Nat.ne_of_gt hr
  refine ⟨rfl, ?_, ?_, ?_, ?_, ?_, ?_, ?_, Or.inl ⟨rfl, rfl⟩, by omega, fun k hk => absurd hk (Nat.not_lt_zero _)⟩
  · exact ((gw_mk.tr2 (gw_sI (X := fun y => y = A.z) (fun _ => rfl)) (fun y h1 h2 => absurd h2 (Nat.ne_of_lt h1))).tr2 (gw_sR (X := fun y => y = A.z) (fun _ => rfl)) (fun y h1 h2 => absurd h2 (Nat.ne_of_lt h1))).tr (gw_sR (fun _ => rfl))
  · rw [sR_s, va_up_self]
  · show (if r = A.z then _ else (if r = A.z then _ else A.I r)) = A.I r
    rw [if_neg (Ne.symm hne), if_neg (Ne.symm hne)]
  · exact if_pos rfl
  · exact congrArg Prod.fst (if_pos rfl)
  · rw [sR_o _ _ hne, sR_s, va_up_self]
  · show (if A.z = A.z then upd ((A.mk 13 r 0).I A.z) 0 (nI 0) else (A.mk 13 r 0).I A.z) 2 = nI 0
    rw [if_pos rfl, pk_un (by decide), mk_I, if_pos rfl, nI0]
set_option maxHeartbeats 4000000 in
theorem j_X3_init {g : GZ} {A : HA} {r : Nat} (hr : (A.G r).1 = 3) (hD : DeK g A) : Ct g wV yX3_init (.code yX3_init cX3_init 1 (Option.none : Option Jvm.ClassFile.FieldType)) 5 1 3 [.ref r] (A) (fun u A' => RwN g A A' r) fw_no := by
  refine Ct.of [some (.ref r)] (by decide) rfl rfl fun z C hx hnm E => ?_
  refine r_Z fun hZ => ?_
  have hrz := hZ.lt hr rfl
  have hr9 : ((A.mk 13 r 0).G r).1 = 3 := by show (if r = A.z then (13, r) else A.G r).1 = 3; rw [if_neg (Nat.ne_of_lt hrz)]; exact hr
  have hl9 : ((A.mk 13 r 0).G A.z).1 = 13 := congrArg Prod.fst (if_pos rfl)
  refine r_aload_0 (pc := 0) C dX3_init_0 ?_
  refine r_objInit (pc := 1) C q214 q199 q200 rfl (Nat.le_of_ble_eq_true rfl) (by decide) dX3_init_1 ?_
  refine r_aload_0 (pc := 4) C dX3_init_4 ?_
  refine r_new (pc := 5) C (r) (by omega) nl_X3_9 NF13 (by omega) (by omega) dX3_init_5 ?_
  refine r_dup (pc := 8) C dX3_init_8 rfl ?_
  refine r_I0vo (pc := 9) C (j_J2_init hl9 (hD.gw hZ (X := Non) gw_mk)) il_X3_11 (by decide) (by omega) (by omega) (Nat.le_of_ble_eq_true rfl) rfl dX3_init_9 (fun u1 A1 hc1 => ?_)
  refine r_eqA hc1 ?_
  clear hc1 A1 u1
  refine r_putR (pc := 12) C fl_X3_12_3 (show (((A.mk 13 r 0).sI A.z _).sR A.z _ |>.G r).1 = 3 from hr9) rfl (fun _ _ _ h => by cases h; exact Or.inr ⟨rfl, hnm⟩) rfl dX3_init_12 ?_
  refine r_vret (pc := 15) C E (by omega) (by omega) dX3_init_15 ?_
  exact rwn_mk hrz
set_option maxHeartbeats 4000000 in
theorem j_X5_init {g : GZ} {A : HA} {t nm : Nat} {v2 v3 v4 v1 : Int32} (ht : (A.G t).1 = 5) : Ct g wV yX5_init (.code yX5_init cX5_init 6 (Option.none : Option Jvm.ClassFile.FieldType)) 2 0 0 [.ref t, .ref nm, .int v2, .int v3, .int v4, .int v1] (A) (fun u A' => A' = OB A t (va_up (A.R t) 0 (some nm)) (upd (upd (upd (upd (A.I t) 2 v2) 3 v3) 4 v4) 1 v1)) fw_no := by
  refine Ct.of [some (.ref t), some (.ref nm), some (.int v2), some (.int v3), some (.int v4), some (.int v1)] (by decide) rfl rfl fun z C hx hnm E => ?_
  refine r_aload_0 (pc := 0) C dX5_init_0 ?_
  refine r_objInit (pc := 1) C q457 q199 q200 rfl (Nat.le_of_ble_eq_true rfl) (by decide) dX5_init_1 ?_
  refine r_eqA (OB_self A t) ?_
  refine r_aload_0 (pc := 4) C dX5_init_4 ?_
  refine r_aload_1 (pc := 5) C dX5_init_5 ?_
  refine r_putR (pc := 6) C fl_X5_7_5 (by exact ht) rfl (fun _ _ _ h => by cases h; exact Or.inr ⟨rfl, hnm⟩) rfl dX5_init_6 ?_
  refine r_eqA (OB_R _ _ _ _ _ _) ?_
  refine r_aload_0 (pc := 9) C dX5_init_9 ?_
  refine r_iload_2 (pc := 10) C dX5_init_10 ?_
  refine r_putI (pc := 11) C fl_X5_13_5 (by exact ht) rfl (fun _ _ _ h => by cases h; exact Or.inl rfl) rfl rfl rfl dX5_init_11 ?_
  refine r_eqA (OB_I _ _ _ _ _ _) ?_
  refine r_aload_0 (pc := 14) C dX5_init_14 ?_
  refine r_iload_3 (pc := 15) C dX5_init_15 ?_
  refine r_putI (pc := 16) C fl_X5_17_5 (by exact ht) rfl (fun _ _ _ h => by cases h; exact Or.inl rfl) rfl rfl rfl dX5_init_16 ?_
  refine r_eqA (OB_I _ _ _ _ _ _) ?_
  refine r_aload_0 (pc := 19) C dX5_init_19 ?_
  refine r_iload_4 (pc := 20) C dX5_init_20 ?_
  refine r_putI (pc := 22) C fl_X5_20_5 (by exact ht) rfl (fun _ _ _ h => by cases h; exact Or.inl rfl) rfl rfl rfl dX5_init_22 ?_
  refine r_eqA (OB_I _ _ _ _ _ _) ?_
  refine r_aload_0 (pc := 25) C dX5_init_25 ?_
  refine r_iload_5 (pc := 26) C dX5_init_26 ?_
  refine r_putI (pc := 28) C fl_X5_23_5 (by exact ht) rfl (fun _ _ _ h => by cases h; exact Or.inr ⟨rfl, hnm⟩) rfl rfl rfl dX5_init_28 ?_
  refine r_eqA (OB_I _ _ _ _ _ _) ?_
  refine r_vret (pc := 31) C E (Nat.le_refl _) (Nat.le_refl _) dX5_init_31 ?_
  exact rfl
set_option maxHeartbeats 4000000 in
theorem j_X5_copy {g : GZ} {A : HA} {s nm o : Nat} (ho : o ≤ A.z) (hs : (A.G s).1 = 5) (hn : A.R s 0 = some nm) : Ct g wR yX5_copy (.code yX5_copy cX5_copy 2 (Option.some (Jvm.ClassFile.FieldType.object "LawnPaths$Walker"))) 3 1 7 [.ref s] (A) (fun u A' => u = A.z ∧ A'.z = A.z + 1 ∧ Gw A A' Non ∧ A'.G A.z = (5, o) ∧ A'.R A.z 0 = some nm ∧ ∀ f, 1 ≤ f → f ≤ 6 → A'.I A.z f = A.I s f) fw_no := by
  refine Ct.of [some (.ref s), none] (by decide) rfl rfl fun z C hx hnm E => ?_
  refine r_Z fun hZ => ?_
  have hsz : s ≠ A.z := Nat.ne_of_lt (hZ.lt hs rfl)
  have hs9 : ((A.mk 5 o 0).G s).1 = 5 := by show (if s = A.z then (5, o) else A.G s).1 = 5; rw [if_neg hsz]; exact hs
  have hn9 : (A.mk 5 o 0).R s 0 = some nm := (congrFun (if_neg hsz) 0).trans hn
  have ht9 : ((A.mk 5 o 0).G A.z).1 = 5 := congrArg Prod.fst (if_pos rfl)
  refine r_new (pc := 0) C (o) (by omega) nl_X5_8 NF5 (by omega) (by omega) dX5_copy_0 ?_
  refine r_dup (pc := 3) C dX5_copy_3 rfl ?_
  refine r_aload_0 (pc := 4) C dX5_copy_4 ?_
  refine r_getR (pc := 5) C fl_X5_7_5 hs9 rfl hn9 dX5_copy_5 ?_
  refine r_aload_0 (pc := 8) C dX5_copy_8 ?_
  refine r_getI (pc := 9) C fl_X5_13_5 hs9 rfl dX5_copy_9 ?_
  refine r_top (congrFun (if_neg hsz) 2) ?_
  refine r_aload_0 (pc := 12) C dX5_copy_12 ?_
  refine r_getI (pc := 13) C fl_X5_17_5 hs9 rfl dX5_copy_13 ?_
  refine r_top (congrFun (if_neg hsz) 3) ?_
  refine r_aload_0 (pc := 16) C dX5_copy_16 ?_
  refine r_getI (pc := 17) C fl_X5_20_5 hs9 rfl dX5_copy_17 ?_
  refine r_top (congrFun (if_neg hsz) 4) ?_
  refine r_aload_0 (pc := 20) C dX5_copy_20 ?_
  refine r_getI (pc := 21) C fl_X5_23_5 hs9 rfl dX5_copy_21 ?_
  refine r_top (congrFun (if_neg hsz) 1) ?_
  refine r_I5vo (pc := 24) C (j_X5_init (by exact ht9)) il_X5_26 (by decide) (by omega) (by omega) (Nat.le_of_ble_eq_true rfl) rfl dX5_copy_24 (fun u1 A1 hc1 => ?_)
  refine r_eqA hc1 ?_
  clear hc1 A1 u1
  refine r_astore_1 (pc := 27) C dX5_copy_27 rfl ?_
  refine r_aload_1 (pc := 28) C dX5_copy_28 ?_
  refine r_aload_0 (pc := 29) C dX5_copy_29 ?_
  refine r_getI (pc := 30) C fl_X5_29_5 (by exact hs9) rfl dX5_copy_30 ?_
  refine r_top ((congrFun (OB_xI _ _ _ _ hsz) 5).trans (congrFun (if_neg hsz) 5)) ?_
  refine r_putI (pc := 33) C fl_X5_29_5 (by exact ht9) rfl (fun _ _ _ h => by cases h; exact Or.inl rfl) rfl rfl rfl dX5_copy_33 ?_
  refine r_eqA (OB_I _ _ _ _ _ _) ?_
  refine r_aload_1 (pc := 36) C dX5_copy_36 ?_
  refine r_aload_0 (pc := 37) C dX5_copy_37 ?_
  refine r_getI (pc := 38) C fl_X5_32_5 (by exact hs9) rfl dX5_copy_38 ?_
  refine r_top ((congrFun (OB_xI _ _ _ _ hsz) 6).trans (congrFun (if_neg hsz) 6)) ?_
  refine r_putI (pc := 41) C fl_X5_32_5 (by exact ht9) rfl (fun _ _ _ h => by cases h; exact Or.inl rfl) rfl rfl rfl dX5_copy_41 ?_
  refine r_eqA (OB_I _ _ _ _ _ _) ?_
  refine r_aload_1 (pc := 44) C dX5_copy_44 ?_
  refine r_aret (pc := 45) C E rfl (by omega) (by omega) dX5_copy_45 ?_
  refine ⟨rfl, rfl, ?_, if_pos rfl, ?_, fun f h1 h6 => ?_⟩
  · exact gw_mk.tr2 (gw_OB _ _ _ _ (X := fun y => y = A.z) (fun _ => rfl)) (fun y h1 h2 => absurd h2 (Nat.ne_of_lt h1))
  · rw [OB_r, va_up_self]
  · rw [OB_i]
    rcases (show f = 1 ∨ f = 2 ∨ f = 3 ∨ f = 4 ∨ f = 5 ∨ f = 6 by omega) with e | e | e | e | e | e <;> subst e
    · rw [pk_un (by decide), pk_un (by decide), pk_us]
    · rw [pk_un (by decide), pk_un (by decide), pk_un (by decide), pk_un (by decide), pk_un (by decide), pk_us]
    · rw [pk_un (by decide), pk_un (by decide), pk_un (by decide), pk_un (by decide), pk_us]
    · rw [pk_un (by decide), pk_un (by decide), pk_un (by decide), pk_us]
    · rw [pk_un (by decide), pk_us]
    · rw [pk_us]
