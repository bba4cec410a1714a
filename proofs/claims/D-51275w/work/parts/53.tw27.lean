/-! THE REFERENCE, 27: names -/
set_option maxRecDepth 100000
/-- whether the name at f of the row is the word of w letters at p -/
def nmB (σ : Rw) (B : Nat → Nat) (f p w : Nat) : Bool := decide (σ f = nI w) && allD (fun k => decide (σ (f + 1 + k) = nI (B (p + k)))) w
theorem allD_t {f : Nat → Bool} : ∀ n, (∀ k, k < n → f k = true) → allD f n = true
  | 0, _ => rfl
  | n + 1, h => by
    show (allD f n && f n) = true
    rw [allD_t n (fun k hk => h k (by omega)), h n (by omega)]; rfl
theorem nmB_t {σ : Rw} {B : Nat → Nat} {f p w : Nat} (h : σ f = nI w) (h2 : ∀ k, k < w → σ (f + 1 + k) = nI (B (p + k))) : nmB σ B f p w = true := by
  unfold nmB
  rw [decide_eq_true h, allD_t w (fun k hk => decide_eq_true (h2 k hk))]; rfl
theorem nmB_iff {σ : Rw} {B : Nat → Nat} {f p w : Nat} : nmB σ B f p w = true ↔ (σ f = nI w ∧ ∀ k, k < w → σ (f + 1 + k) = nI (B (p + k))) := by
  constructor
  · intro h
    unfold nmB at h
    rw [Bool.and_eq_true] at h
    exact ⟨of_decide_eq_true h.1, fun k hk => of_decide_eq_true (allD_k w h.2 hk)⟩
  · rintro ⟨h, h2⟩; exact nmB_t h h2
def hereG (σ : Rw) (B : Nat → Nat) (p w : Nat) : Option Nat := firstB (fun r => nmB σ B (21 + 9 * r) p w) (rG σ)
def hereW (σ : Rw) (B : Nat → Nat) (p w : Nat) : Option Nat := firstB (fun r => nmB σ B (75 + 13 * r) p w) (rK σ)
def hereR (σ : Rw) (B : Nat → Nat) (q : Prop) [Decidable q] (p w : Nat) : Option Nat := if q then hereG σ B p w else hereW σ B p w
theorem firstB_lt {f : Nat → Bool} : ∀ {n k}, firstB f n = some k → k < n ∧ f k = true
  | 0, k, h => by cases h
  | n + 1, k, h => by
    have h : (match firstB f n with | some k => some k | none => if f n then some n else none) = some k := h
    cases e : firstB f n with
    | some j => rw [e] at h; cases h; exact ⟨by have := (firstB_lt e).1; omega, (firstB_lt e).2⟩
    | none =>
      rw [e] at h
      have h : (if f n then some n else none) = some k := h
      split at h
      · cases h; exact ⟨by omega, by assumption⟩
      · cases h
/-- the name that must be one of these -/
def fndR (σ : Rw) (B : Nat → Nat) (L a : Nat) (q : Prop) [Decidable q] (but : Int32) : RdE ⊕ (Nat × Nat) := match namR B L a with
  | .inl x => .inl x
  | .inr p => match hereR σ B q p (wln B L p) with
    | none => .inl (3, p)
    | some k => if nI k = but then .inl (3, p) else .inr (k, p + wln B L p)
/-- a new name -/
def newR (σ : Rw) (B : Nat → Nat) (L a : Nat) (q : Prop) [Decidable q] : RdE ⊕ Nat := match namR B L a with
  | .inl x => .inl x
  | .inr p => match hereR σ B q p (wln B L p) with
    | none => .inr (p + wln B L p)
    | some _ => .inl (3, p)
/-- the first k letters put -/
def nmPut (σ : Rw) (B : Nat → Nat) (f p w : Nat) : Nat → Rw
  | 0 => upd σ f (nI w)
  | k + 1 => upd (nmPut σ B f p w k) (f + 1 + k) (nI (B (p + k)))
theorem nam_1 {B : Nat → Nat} {L a : Nat} (h : 1 ≤ wln B L (skp B L a) ∧ wln B L (skp B L a) ≤ 6) : namR B L a = .inr (skp B L a) := if_pos h
theorem nam_0 {B : Nat → Nat} {L a : Nat} (h : ¬ (1 ≤ wln B L (skp B L a) ∧ wln B L (skp B L a) ≤ 6)) : namR B L a = .inl (1, skp B L a) := if_neg h
theorem r_eqst {g : GZ} {z : ZX} {k n pc : Nat} {A : HA} {lv : List (Option Value)} {st st' : List Value} (h : st = st') (kk : wa g z k n A pc lv st') : wa g z k n A pc lv st := h ▸ kk
set_option maxHeartbeats 4000000 in
theorem m_sign {g : GZ} {A : HA} {t : Nat} {σ κ π τ : Nat → Int32} (hT : Tw A t) {a gb w e : Nat} {ep : Int32} {B : Nat → Nat} {L : Nat} (hB : BufI (A.I (t + 8)) B L) (hτL : τ 12 = nI L) {c : Nat} (ha : a ≤ 2000) (h0 : e = 0) (hc : c < 256) : Ct g wV yX6_sign (.code yX6_sign cX6_sign 2 (Option.none : Option Jvm.ClassFile.FieldType)) 3 0 0 [.ref t, .int (nI (c))] (S5 A t σ κ π (stT τ a gb w e ep)) (fun u A' => A' = S5 A t σ κ π (stT τ (skp B L a + 1) (skp B L a) (wln B L (skp B L a)) (errC (sgnR B L a c)) (errP (sgnR B L a c) ep))) fw_no := by
  refine Ct.of [some (.ref t), some (.int (nI (c)))] (by decide) rfl rfl fun z C hx hnm E => ?_
  have hBl := hB.l
  obtain ⟨p, hp⟩ : ∃ p, p = skp B L a := ⟨_, rfl⟩
  have hp2 : p ≤ 3000 := by have := @runF_le B isSp (L - a) a; unfold skp at hp; omega
  have hwl := @wln_le B L p
  refine r_aload_0 (pc := 0) C dX6_sign_0 ?_
  refine r_getI (pc := 1) C fl_X6_208_6 (tw_g hT) rfl dX6_sign_1 ?_
  refine r_top (congrFun (S5_0 _ _ _ _ _ _) _) ?_
  refine r_top (st_16 _ _ _ _ _ _) ?_
  refine r_if_eq (pc := 4) (tgt := 8) C dX6_sign_4 (by decide) (fun b4 => ?_) (fun b4 => ?_)
  · skip
    have b4 := (nI_eq0 (by omega)).mp b4
    refine r_aload_0 (pc := 8) C dX6_sign_8 ?_
    refine r_aload_0 (pc := 9) C dX6_sign_9 ?_
    refine r_V0io (pc := 10) C (m_next (by exact hT) hB hτL ha) vl_X6_214 (tw_g hT) (by decide) (Nat.le_refl _) (Nat.le_refl _) (Nat.le_of_ble_eq_true rfl) rfl dX6_sign_10 (fun u1 A1 hc1 => ?_)
    refine r_top hc1.1 ?_
    refine r_eqA hc1.2 ?_
    rw [← hp]
    clear hc1 A1 u1
    refine r_iload_1 (pc := 13) C dX6_sign_13 ?_
    rcases Nat.lt_or_ge p L with hin | hin
    · skip
      refine r_eqst (st' := [.int (nI c), .int (nI (B p)), .ref t]) (by rw [btO_lt hin, oI_some]) ?_
      have hb255 := (hB.2 _ hin).2
      refine r_icmp_ne (pc := 14) (tgt := 21) C dX6_sign_14 (by decide) (fun b14 => ?_) (fun b14 => ?_)
      · skip
        have b14 := (not_congr (nI_eqI (by omega) (by omega))).mp b14
        refine r_iconst (pc := 21) C dX6_sign_21 ci_0 ?_
        refine r_iconst (pc := 22) C dX6_sign_22 ci_1 ?_
        refine r_V2vo (pc := 23) C (m_must_c0 (by exact hT) (by omega)) vl_X6_217 (tw_g hT) (by decide) (Nat.le_refl _) (Nat.le_refl _) (Nat.le_of_ble_eq_true rfl) rfl dX6_sign_23 (fun u2 A2 hc2 => ?_)
        refine r_eqA hc2 ?_
        clear hc2 A2 u2
        refine r_aload_0 (pc := 26) C dX6_sign_26 ?_
        refine r_dup (pc := 27) C dX6_sign_27 rfl ?_
        refine r_getI (pc := 28) C fl_X6_193_6 (tw_g hT) rfl dX6_sign_28 ?_
        refine r_top (congrFun (S5_0 _ _ _ _ _ _) _) ?_
        refine r_top (st_13 _ _ _ _ _ _) ?_
        refine r_iconst (pc := 31) C dX6_sign_31 ci_1 ?_
        refine r_iadd (pc := 32) C dX6_sign_32 ?_
        refine r_top (nI_add _ _) ?_
        refine r_putI (pc := 33) C fl_X6_193_6 (tw_g hT) rfl (fun _ _ _ h => by cases h; exact Or.inl rfl) rfl rfl rfl dX6_sign_33 ?_
        refine r_eqA (S5_u0 _ _ _ _ _ _ _ _) ?_
        refine r_eqA (congrArg (S5 _ t _ _ _) (st_u13 _ _ _ _ _ _ _)) ?_
        refine r_vret (pc := 36) C E (Nat.le_refl _) (Nat.le_refl _) dX6_sign_36 ?_
        subst hp
        subst h0
        unfold sgnR
        first
          | (rw [if_pos (by rw [btO_lt hin, b14])]; rfl)
          | (rw [if_neg (by rw [btO_lt hin]; exact fun q => b14 (Option.some.inj q))]; rfl)
          | (rw [if_neg (by rw [btO_ge (by omega)]; exact fun q => by cases q)]; rfl)
          | (exact absurd b14.symm (nI_m1 (by omega)))
      · skip
        have b14 := (nI_eqI (by omega) (by omega)).mp b14
        refine r_iconst (pc := 17) C dX6_sign_17 ci_1 ?_
        refine r_goto (pc := 18) (tgt := 22) C dX6_sign_18 (by decide) ?_
        refine r_iconst (pc := 22) C dX6_sign_22 ci_1 ?_
        refine r_V2vo (pc := 23) C (m_must_c1 (by exact hT)) vl_X6_217 (tw_g hT) (by decide) (Nat.le_refl _) (Nat.le_refl _) (Nat.le_of_ble_eq_true rfl) rfl dX6_sign_23 (fun u3 A3 hc3 => ?_)
        refine r_eqA hc3 ?_
        clear hc3 A3 u3
        refine r_aload_0 (pc := 26) C dX6_sign_26 ?_
        refine r_dup (pc := 27) C dX6_sign_27 rfl ?_
        refine r_getI (pc := 28) C fl_X6_193_6 (tw_g hT) rfl dX6_sign_28 ?_
        refine r_top (congrFun (S5_0 _ _ _ _ _ _) _) ?_
        refine r_top (st_13 _ _ _ _ _ _) ?_
        refine r_iconst (pc := 31) C dX6_sign_31 ci_1 ?_
        refine r_iadd (pc := 32) C dX6_sign_32 ?_
        refine r_top (nI_add _ _) ?_
        refine r_putI (pc := 33) C fl_X6_193_6 (tw_g hT) rfl (fun _ _ _ h => by cases h; exact Or.inl rfl) rfl rfl rfl dX6_sign_33 ?_
        refine r_eqA (S5_u0 _ _ _ _ _ _ _ _) ?_
        refine r_eqA (congrArg (S5 _ t _ _ _) (st_u13 _ _ _ _ _ _ _)) ?_
        refine r_vret (pc := 36) C E (Nat.le_refl _) (Nat.le_refl _) dX6_sign_36 ?_
        subst hp
        subst h0
        unfold sgnR
        first
          | (rw [if_pos (by rw [btO_lt hin, b14])]; rfl)
          | (rw [if_neg (by rw [btO_lt hin]; exact fun q => b14 (Option.some.inj q))]; rfl)
          | (rw [if_neg (by rw [btO_ge (by omega)]; exact fun q => by cases q)]; rfl)
          | (exact absurd b14.symm (nI_m1 (by omega)))
    · skip
      refine r_eqst (st' := [.int (nI c), .int (-1), .ref t]) (by rw [btO_ge (by omega), oI_none]) ?_
      refine r_icmp_ne (pc := 14) (tgt := 21) C dX6_sign_14 (by decide) (fun b14 => ?_) (fun b14 => ?_)
      · skip
        refine r_iconst (pc := 21) C dX6_sign_21 ci_0 ?_
        refine r_iconst (pc := 22) C dX6_sign_22 ci_1 ?_
        refine r_V2vo (pc := 23) C (m_must_c0 (by exact hT) (by omega)) vl_X6_217 (tw_g hT) (by decide) (Nat.le_refl _) (Nat.le_refl _) (Nat.le_of_ble_eq_true rfl) rfl dX6_sign_23 (fun u4 A4 hc4 => ?_)
        refine r_eqA hc4 ?_
        clear hc4 A4 u4
        refine r_aload_0 (pc := 26) C dX6_sign_26 ?_
        refine r_dup (pc := 27) C dX6_sign_27 rfl ?_
        refine r_getI (pc := 28) C fl_X6_193_6 (tw_g hT) rfl dX6_sign_28 ?_
        refine r_top (congrFun (S5_0 _ _ _ _ _ _) _) ?_
        refine r_top (st_13 _ _ _ _ _ _) ?_
        refine r_iconst (pc := 31) C dX6_sign_31 ci_1 ?_
        refine r_iadd (pc := 32) C dX6_sign_32 ?_
        refine r_top (nI_add _ _) ?_
        refine r_putI (pc := 33) C fl_X6_193_6 (tw_g hT) rfl (fun _ _ _ h => by cases h; exact Or.inl rfl) rfl rfl rfl dX6_sign_33 ?_
        refine r_eqA (S5_u0 _ _ _ _ _ _ _ _) ?_
        refine r_eqA (congrArg (S5 _ t _ _ _) (st_u13 _ _ _ _ _ _ _)) ?_
        refine r_vret (pc := 36) C E (Nat.le_refl _) (Nat.le_refl _) dX6_sign_36 ?_
        subst hp
        subst h0
        unfold sgnR
        first
          | (rw [if_pos (by rw [btO_lt hin, b14])]; rfl)
          | (rw [if_neg (by rw [btO_lt hin]; exact fun q => b14 (Option.some.inj q))]; rfl)
          | (rw [if_neg (by rw [btO_ge (by omega)]; exact fun q => by cases q)]; rfl)
          | (exact absurd b14.symm (nI_m1 (by omega)))
      · skip
        refine r_iconst (pc := 17) C dX6_sign_17 ci_1 ?_
        refine r_goto (pc := 18) (tgt := 22) C dX6_sign_18 (by decide) ?_
        refine r_iconst (pc := 22) C dX6_sign_22 ci_1 ?_
        refine r_V2vo (pc := 23) C (m_must_c1 (by exact hT)) vl_X6_217 (tw_g hT) (by decide) (Nat.le_refl _) (Nat.le_refl _) (Nat.le_of_ble_eq_true rfl) rfl dX6_sign_23 (fun u5 A5 hc5 => ?_)
        refine r_eqA hc5 ?_
        clear hc5 A5 u5
        refine r_aload_0 (pc := 26) C dX6_sign_26 ?_
        refine r_dup (pc := 27) C dX6_sign_27 rfl ?_
        refine r_getI (pc := 28) C fl_X6_193_6 (tw_g hT) rfl dX6_sign_28 ?_
        refine r_top (congrFun (S5_0 _ _ _ _ _ _) _) ?_
        refine r_top (st_13 _ _ _ _ _ _) ?_
        refine r_iconst (pc := 31) C dX6_sign_31 ci_1 ?_
        refine r_iadd (pc := 32) C dX6_sign_32 ?_
        refine r_top (nI_add _ _) ?_
        refine r_putI (pc := 33) C fl_X6_193_6 (tw_g hT) rfl (fun _ _ _ h => by cases h; exact Or.inl rfl) rfl rfl rfl dX6_sign_33 ?_
        refine r_eqA (S5_u0 _ _ _ _ _ _ _ _) ?_
        refine r_eqA (congrArg (S5 _ t _ _ _) (st_u13 _ _ _ _ _ _ _)) ?_
        refine r_vret (pc := 36) C E (Nat.le_refl _) (Nat.le_refl _) dX6_sign_36 ?_
        subst hp
        subst h0
        unfold sgnR
        first
          | (rw [if_pos (by rw [btO_lt hin, b14])]; rfl)
          | (rw [if_neg (by rw [btO_lt hin]; exact fun q => b14 (Option.some.inj q))]; rfl)
          | (rw [if_neg (by rw [btO_ge (by omega)]; exact fun q => by cases q)]; rfl)
          | (exact absurd b14.symm (nI_m1 (by omega)))
  · skip
    have b4 := (not_congr (nI_eq0 (by omega))).mp b4
    exact absurd h0 b4
set_option maxHeartbeats 4000000 in
theorem m_isName {g : GZ} {A : HA} {t : Nat} {σ κ π τ : Nat → Int32} (hT : Tw A t) {a gb w e : Nat} {ep : Int32} {B : Nat → Nat} {L : Nat} (hB : BufI (A.I (t + 8)) B L) (hτL : τ 12 = nI L) (ha : a ≤ 2000) (h0 : e = 0) : Ct g wI yX6_isName (.code yX6_isName cX6_isName 2 (Option.some Jvm.ClassFile.FieldType.boolean)) 3 0 0 [.ref t] (S5 A t σ κ π (stT τ a gb w e ep)) (fun u A' => u = bI (1 ≤ wln B L (skp B L a) ∧ wln B L (skp B L a) ≤ 6) ∧ A' = S5 A t σ κ π (stT τ (skp B L a) (skp B L a) (wln B L (skp B L a)) (errC (namR B L a)) (errP (namR B L a) ep))) fw_no := by
  refine Ct.of [some (.ref t), none] (by decide) rfl rfl fun z C hx hnm E => ?_
  have hBl := hB.l
  obtain ⟨p, hp⟩ : ∃ p, p = skp B L a := ⟨_, rfl⟩
  have hp2 : p ≤ 3000 := by have := @runF_le B isSp (L - a) a; unfold skp at hp; omega
  have hwl := @wln_le B L p
  refine r_aload_0 (pc := 0) C dX6_isName_0 ?_
  refine r_getI (pc := 1) C fl_X6_208_6 (tw_g hT) rfl dX6_isName_1 ?_
  refine r_top (congrFun (S5_0 _ _ _ _ _ _) _) ?_
  refine r_top (st_16 _ _ _ _ _ _) ?_
  refine r_if_eq (pc := 4) (tgt := 9) C dX6_isName_4 (by decide) (fun b4 => ?_) (fun b4 => ?_)
  · skip
    have b4 := (nI_eq0 (by omega)).mp b4
    refine r_aload_0 (pc := 9) C dX6_isName_9 ?_
    refine r_V0io (pc := 10) C (m_next (by exact hT) hB hτL ha) vl_X6_214 (tw_g hT) (by decide) (Nat.le_refl _) (Nat.le_refl _) (Nat.le_of_ble_eq_true rfl) rfl dX6_isName_10 (fun u1 A1 hc1 => ?_)
    refine r_top hc1.1 ?_
    refine r_eqA hc1.2 ?_
    rw [← hp]
    clear hc1 A1 u1
    refine r_istore_1 (pc := 13) C dX6_isName_13 rfl ?_
    refine r_aload_0 (pc := 14) C dX6_isName_14 ?_
    refine r_aload_0 (pc := 15) C dX6_isName_15 ?_
    refine r_getI (pc := 16) C fl_X6_201_6 (tw_g hT) rfl dX6_isName_16 ?_
    refine r_top (congrFun (S5_0 _ _ _ _ _ _) _) ?_
    refine r_top (st_15 _ _ _ _ _ _) ?_
    refine r_i2l (pc := 19) C dX6_isName_19 ?_
    refine r_lconst (pc := 20) (v := 1) C dX6_isName_20 (by decide) ?_
    refine r_ldc2 (pc := 21) C q2330 dX6_isName_21 ?_
    refine r_S3io (pc := 24) C (m_inZ (p := 1) (q := 6) (by decide) (by decide)) sl_X6_68 (by decide) (Nat.le_refl _) (Nat.le_refl _) (Nat.le_of_ble_eq_true rfl) rfl dX6_isName_24 (fun u2 A2 hc2 => ?_)
    refine r_top hc2.1 ?_
    refine r_eqA hc2.2 ?_
    clear hc2 A2 u2
    refine r_iconst (pc := 27) C dX6_isName_27 ci_1 ?_
    by_cases hq0 : 1 ≤ wln B L p ∧ wln B L p ≤ 6
    · skip
      have hm28 : inZ (nI (wln B L p)) 1 6 := (inZ_nI (by omega)).mpr (by omega)
      refine r_V2vo (pc := 28) C (m_must_t (by exact hT) hm28) vl_X6_217 (tw_g hT) (by decide) (Nat.le_refl _) (Nat.le_refl _) (Nat.le_of_ble_eq_true rfl) rfl dX6_isName_28 (fun u3 A3 hc3 => ?_)
      refine r_eqA hc3 ?_
      clear hc3 A3 u3
      refine r_aload_0 (pc := 31) C dX6_isName_31 ?_
      refine r_getI (pc := 32) C fl_X6_208_6 (tw_g hT) rfl dX6_isName_32 ?_
      refine r_top (congrFun (S5_0 _ _ _ _ _ _) _) ?_
      refine r_top (st_16 _ _ _ _ _ _) ?_
      refine r_if_ne (pc := 35) (tgt := 42) C dX6_isName_35 (by decide) (fun b35 => ?_) (fun b35 => ?_)
      · skip
        have b35 := (not_congr (nI_eq0 (by omega))).mp b35
        refine r_iconst (pc := 42) C dX6_isName_42 ci_0 ?_
        refine r_iret (pc := 43) C E nar_0 (Nat.le_refl _) (Nat.le_refl _) dX6_isName_43 ?_
        subst hp
        subst h0
        first
          | (rw [nam_1 hq0, bI_t hq0]; exact ⟨nI1, rfl⟩)
          | (rw [nam_0 hq0, bI_f hq0]; exact ⟨nI0, rfl⟩)
          | (exfalso; omega)
      · skip
        have b35 := (nI_eq0 (by omega)).mp b35
        refine r_iconst (pc := 38) C dX6_isName_38 ci_1 ?_
        refine r_goto (pc := 39) (tgt := 43) C dX6_isName_39 (by decide) ?_
        refine r_iret (pc := 43) C E nar_1 (Nat.le_refl _) (Nat.le_refl _) dX6_isName_43 ?_
        subst hp
        subst h0
        first
          | (rw [nam_1 hq0, bI_t hq0]; exact ⟨nI1, rfl⟩)
          | (rw [nam_0 hq0, bI_f hq0]; exact ⟨nI0, rfl⟩)
          | (exfalso; omega)
    · skip
      have hm28 : ¬ inZ (nI (wln B L p)) 1 6 := fun q => hq0 (by have q := (inZ_nI (by omega)).mp q; omega)
      refine r_V2vo (pc := 28) C (m_must_f (by exact hT) hm28 (by omega)) vl_X6_217 (tw_g hT) (by decide) (Nat.le_refl _) (Nat.le_refl _) (Nat.le_of_ble_eq_true rfl) rfl dX6_isName_28 (fun u4 A4 hc4 => ?_)
      refine r_eqA hc4 ?_
      clear hc4 A4 u4
      refine r_aload_0 (pc := 31) C dX6_isName_31 ?_
      refine r_getI (pc := 32) C fl_X6_208_6 (tw_g hT) rfl dX6_isName_32 ?_
      refine r_top (congrFun (S5_0 _ _ _ _ _ _) _) ?_
      refine r_top (st_16 _ _ _ _ _ _) ?_
      refine r_if_ne (pc := 35) (tgt := 42) C dX6_isName_35 (by decide) (fun b35 => ?_) (fun b35 => ?_)
      · skip
        have b35 := (not_congr (nI_eq0 (by omega))).mp b35
        refine r_iconst (pc := 42) C dX6_isName_42 ci_0 ?_
        refine r_iret (pc := 43) C E nar_0 (Nat.le_refl _) (Nat.le_refl _) dX6_isName_43 ?_
        subst hp
        subst h0
        first
          | (rw [nam_1 hq0, bI_t hq0]; exact ⟨nI1, rfl⟩)
          | (rw [nam_0 hq0, bI_f hq0]; exact ⟨nI0, rfl⟩)
          | (exfalso; omega)
      · skip
        have b35 := (nI_eq0 (by omega)).mp b35
        refine r_iconst (pc := 38) C dX6_isName_38 ci_1 ?_
        refine r_goto (pc := 39) (tgt := 43) C dX6_isName_39 (by decide) ?_
        refine r_iret (pc := 43) C E nar_1 (Nat.le_refl _) (Nat.le_refl _) dX6_isName_43 ?_
        subst hp
        subst h0
        first
          | (rw [nam_1 hq0, bI_t hq0]; exact ⟨nI1, rfl⟩)
          | (rw [nam_0 hq0, bI_f hq0]; exact ⟨nI0, rfl⟩)
          | (exfalso; omega)
  · skip
    have b4 := (not_congr (nI_eq0 (by omega))).mp b4
    exact absurd h0 b4
