/-! THE COMPONENT, 17: the reader: tokens -/
set_option maxRecDepth 100000
/-- a reader's heap: at, from, value, word, token -/
def RdS (A : HA) (r c bf L : Nat) (B : Nat → Nat) (f fr v : Int32) (wd tk : Option Nat) : Prop := ((A.G r).1 = 7 ∧ A.R r 6 = some c ∧ A.I r 0 = nI L) ∧ ((A.G c).1 = 1 ∧ A.R c 3 = some bf ∧ (A.G bf).1 = 201 ∧ A.n bf = 900) ∧ (L ≤ 900 ∧ ∀ k, k < L → A.I bf k = sgB (B k) ∧ B k ≤ 255) ∧ (A.I r 1 = f ∧ A.I r 2 = fr ∧ A.I r 3 = v) ∧ A.R r 4 = wd ∧ A.R r 5 = tk
section
variable {A : HA} {r c bf L : Nat} {B : Nat → Nat} {f fr v : Int32} {wd tk : Option Nat}
theorem RdS.rc (h : RdS A r c bf L B f fr v wd tk) : c ≠ r := fun e => by have h1 := h.2.1.1; rw [e, h.1.1] at h1; cases h1
theorem RdS.rb (h : RdS A r c bf L B f fr v wd tk) : bf ≠ r := fun e => by have h1 := h.2.1.2.2.1; rw [e, h.1.1] at h1; cases h1
theorem RdS.l9 (h : RdS A r c bf L B f fr v wd tk) : L ≤ 900 := h.2.2.1.1
theorem RdS.up1 (h : RdS A r c bf L B f fr v wd tk) (x : Int32) : RdS (A.sI r (upd (A.I r) 1 x)) r c bf L B x fr v wd tk :=
  ⟨⟨h.1.1, h.1.2.1, by rw [sI_s, pk_un (by decide)]; exact h.1.2.2⟩, h.2.1, ⟨h.l9, fun k hk => by rw [sI_o _ _ h.rb]; exact h.2.2.1.2 k hk⟩, ⟨by rw [sI_s, pk_us], by rw [sI_s, pk_un (by decide)]; exact h.2.2.2.1.2.1, by rw [sI_s, pk_un (by decide)]; exact h.2.2.2.1.2.2⟩, h.2.2.2.2⟩
theorem RdS.up2 (h : RdS A r c bf L B f fr v wd tk) (x : Int32) : RdS (A.sI r (upd (A.I r) 2 x)) r c bf L B f x v wd tk :=
  ⟨⟨h.1.1, h.1.2.1, by rw [sI_s, pk_un (by decide)]; exact h.1.2.2⟩, h.2.1, ⟨h.l9, fun k hk => by rw [sI_o _ _ h.rb]; exact h.2.2.1.2 k hk⟩, ⟨by rw [sI_s, pk_un (by decide)]; exact h.2.2.2.1.1, by rw [sI_s, pk_us], by rw [sI_s, pk_un (by decide)]; exact h.2.2.2.1.2.2⟩, h.2.2.2.2⟩
theorem RdS.up3 (h : RdS A r c bf L B f fr v wd tk) (x : Int32) : RdS (A.sI r (upd (A.I r) 3 x)) r c bf L B f fr x wd tk :=
  ⟨⟨h.1.1, h.1.2.1, by rw [sI_s, pk_un (by decide)]; exact h.1.2.2⟩, h.2.1, ⟨h.l9, fun k hk => by rw [sI_o _ _ h.rb]; exact h.2.2.1.2 k hk⟩, ⟨by rw [sI_s, pk_un (by decide)]; exact h.2.2.2.1.1, by rw [sI_s, pk_un (by decide)]; exact h.2.2.2.1.2.1, by rw [sI_s, pk_us]⟩, h.2.2.2.2⟩
theorem RdS.up4 (h : RdS A r c bf L B f fr v wd tk) (x : Option Nat) : RdS (A.sR r (va_up (A.R r) 4 x)) r c bf L B f fr v x tk :=
  ⟨⟨h.1.1, by rw [sR_s]; exact h.1.2.1, h.1.2.2⟩, ⟨h.2.1.1, by rw [sR_o _ _ h.rc]; exact h.2.1.2.1, h.2.1.2.2⟩, h.2.2.1, h.2.2.2.1, by rw [sR_s]; rfl, by rw [sR_s]; exact h.2.2.2.2.2⟩
theorem RdS.up5 (h : RdS A r c bf L B f fr v wd tk) (x : Option Nat) : RdS (A.sR r (va_up (A.R r) 5 x)) r c bf L B f fr v wd x :=
  ⟨⟨h.1.1, by rw [sR_s]; exact h.1.2.1, h.1.2.2⟩, ⟨h.2.1.1, by rw [sR_o _ _ h.rc]; exact h.2.1.2.1, h.2.1.2.2⟩, h.2.2.1, h.2.2.2.1, by rw [sR_s]; exact h.2.2.2.2.1, by rw [sR_s]; rfl⟩
theorem RdS.gw {D : HA} {X : Nat → Prop} (h : RdS A r c bf L B f fr v wd tk) (hz : Zk A) (hw : Gw A D X) (h1 : ¬ X r) (h2 : ¬ X c) (h3 : ¬ X bf) : RdS D r c bf L B f fr v wd tk := by
  obtain ⟨a1, a2, a3⟩ := hw.2 r (hz.lt h.1.1 rfl)
  obtain ⟨b1, b2, b3⟩ := hw.2 c (hz.lt h.2.1.1 rfl)
  obtain ⟨c1, c2, c3⟩ := hw.2 bf (hz.lt h.2.1.2.2.1 rfl)
  unfold RdS at h ⊢
  rw [a1, (a3 h1).2.2, (a3 h1).2.1, b1, (b3 h2).2.2, c1, c2, (c3 h3).2.1]
  exact h
end
/-- the next token at p: 0 none, 1 a word, 2 a number, 3 a sign; where it ends -/
def tkN (B : Nat → Nat) (L p : Nat) : Nat := if p < L then (if isLe (B p) = true then 1 else if isDi (B p) = true then 2 else 3) else 0
def tkE (B : Nat → Nat) (L p : Nat) : Nat := if p < L then (if isLe (B p) = true then p + wln B L p else if isDi (B p) = true then p + dln B L p else p + 1) else p
theorem run_1 {B : Nat → Nat} {q : Nat → Bool} {n p : Nat} (hn : 0 < n) (h : q (B p) = true) : 1 ≤ runF B q n p := by
  cases n with
  | zero => omega
  | succ n => show 1 ≤ (if q (B p) then runF B q n (p + 1) + 1 else 0); rw [if_pos h]; omega
theorem run_ge {B : Nat → Nat} {q : Nat → Bool} {n p j : Nat} (h : ∀ i, i < j → q (B (p + i)) = true) (hj : j ≤ n) : j ≤ runF B q n p := by
  rcases Nat.lt_or_ge (runF B q n p) j with c | c
  · exfalso
    have h1 : ¬ q (B (p + runF B q n p)) = true := runF_out n p (by omega)
    exact h1 (h _ c)
  · exact c
theorem run_0 {B : Nat → Nat} {q : Nat → Bool} {n p : Nat} (h : n = 0 ∨ ¬ q (B p) = true) : runF B q n p = 0 := by
  cases n with
  | zero => rfl
  | succ n => show (if q (B p) then runF B q n (p + 1) + 1 else 0) = 0; rw [if_neg (h.resolve_left (by omega))]
theorem tk0 {B : Nat → Nat} {L p : Nat} (h : ¬ p < L) : tkN B L p = 0 ∧ tkE B L p = p ∧ wln B L p = 0 ∧ dln B L p = 0 := ⟨if_neg h, if_neg h, run_0 (Or.inl (by omega)), run_0 (Or.inl (by omega))⟩
theorem tk1 {B : Nat → Nat} {L p : Nat} (h : p < L) (h1 : isLe (B p) = true) : tkN B L p = 1 ∧ tkE B L p = p + wln B L p ∧ 1 ≤ wln B L p := ⟨by unfold tkN; rw [if_pos h, if_pos h1], by unfold tkE; rw [if_pos h, if_pos h1], run_1 (by omega) h1⟩
theorem tk2 {B : Nat → Nat} {L p : Nat} (h : p < L) (h1 : ¬ isLe (B p) = true) (h2 : isDi (B p) = true) : tkN B L p = 2 ∧ tkE B L p = p + dln B L p ∧ 1 ≤ dln B L p ∧ wln B L p = 0 := ⟨by unfold tkN; rw [if_pos h, if_neg h1, if_pos h2], by unfold tkE; rw [if_pos h, if_neg h1, if_pos h2], run_1 (by omega) h2, run_0 (Or.inr h1)⟩
theorem tk3 {B : Nat → Nat} {L p : Nat} (h : p < L) (h1 : ¬ isLe (B p) = true) (h2 : ¬ isDi (B p) = true) : tkN B L p = 3 ∧ tkE B L p = p + 1 ∧ wln B L p = 0 ∧ dln B L p = 0 := ⟨by unfold tkN; rw [if_pos h, if_neg h1, if_neg h2], by unfold tkE; rw [if_pos h, if_neg h1, if_neg h2], run_0 (Or.inr h1), run_0 (Or.inr h2)⟩
theorem tkE_le {B : Nat → Nat} {L p : Nat} (h : p ≤ L) : p ≤ tkE B L p ∧ tkE B L p ≤ L := by
  by_cases h1 : p < L
  · have e1 := runF_le (B := B) (q := isLe) (L - p) p
    have e2 := runF_le (B := B) (q := isDi) (L - p) p
    unfold tkE wln dln
    rw [if_pos h1]
    split
    · omega
    · split <;> omega
  · rw [(tk0 h1).2.1]; omega
def seeI (B : Nat → Nat) (L k : Nat) : Int32 := if k < L then nI (B k) else -1
theorem seeI_in {B : Nat → Nat} {L k : Nat} (h : k < L) : seeI B L k = nI (B k) := if_pos h
theorem seeI_eq {B : Nat → Nat} {L k b : Nat} (hB : ∀ k, k < L → B k ≤ 255) (hb : b ≤ 255) : seeI B L k = nI b ↔ k < L ∧ B k = b := by
  unfold seeI
  split
  · rename_i h
    have := hB k h
    exact ⟨fun e => ⟨h, nI_inj (by omega) (by omega) e⟩, fun e => by rw [e.2]⟩
  · rename_i h
    refine ⟨fun e => ?_, fun e => absurd e.1 h⟩
    have e2 := congrArg Int32.toInt e
    rw [t_nI (by omega)] at e2
    have e3 : (-1 : Int32).toInt = -1 := by decide
    omega
theorem seeI_m1 {B : Nat → Nat} {L k : Nat} (hB : ∀ k, k < L → B k ≤ 255) : seeI B L k = -1 ↔ ¬ k < L := by
  unfold seeI
  split
  · rename_i h
    have := hB k h
    refine ⟨fun e => ?_, fun e => absurd h e⟩
    have e2 := congrArg Int32.toInt e
    rw [t_nI (by omega)] at e2
    have e3 : (-1 : Int32).toInt = -1 := by decide
    omega
  · rename_i h
    exact ⟨fun _ => h, fun _ => rfl⟩
theorem seeI_z {B : Nat → Nat} {L k lo hi : Nat} (hB : ∀ k, k < L → B k ≤ 255) (hlo : 0 < lo) : inZ (seeI B L k) lo hi ↔ k < L ∧ lo ≤ B k ∧ B k ≤ hi := by
  unfold seeI inZ
  split
  · rename_i h
    have := hB k h
    rw [t_nI (by omega)]
    omega
  · rename_i h
    have e3 : (-1 : Int32).toInt = -1 := by decide
    rw [e3]
    omega
theorem seeI_le {B : Nat → Nat} {L k : Nat} (hB : ∀ k, k < L → B k ≤ 255) : inZ (seeI B L k) 97 122 ↔ k < L ∧ isLe (B k) = true := (seeI_z (lo := 97) (hi := 122) hB (by decide)).trans (by unfold isLe; rw [decide_eq_true_eq])
theorem seeI_di {B : Nat → Nat} {L k : Nat} (hB : ∀ k, k < L → B k ≤ 255) : inZ (seeI B L k) 48 57 ↔ k < L ∧ isDi (B k) = true := (seeI_z (lo := 48) (hi := 57) hB (by decide)).trans (by unfold isDi; rw [decide_eq_true_eq])
theorem sg_and {b : Nat} (h : b ≤ 255) : sgB b &&& nI 255 = nI b := by
  have : ∀ b, b < 256 → sgB b &&& nI 255 = nI b := by decide +kernel
  exact this b (by omega)
def tName : Nat → String
  | 0 => "END" | 1 => "WORD" | 2 => "NUMBER" | _ => "SIGN"
/-- the tokens' constants; the empty text -/
def TkC (g : GZ) : Prop := (∀ m, m < 4 → SZ g "LawnPaths$Token" (tName m) "LLawnPaths$Token;" (.ref (g.c (63 + m)))) ∧ (∀ i j, i < 4 → j < 4 → g.c (63 + i) = g.c (63 + j) → i = j) ∧ SK g "LawnPaths$TextReader" 22 "" (g.c 67)
/-- the word at p -/
def WdS (g : GZ) (A : HA) (w : Nat) (B : Nat → Nat) (L p : Nat) : Prop := (∃ v, WrS g A w v (fun i => B (p + i)) (wln B L p)) ∨ (wln B L p = 0 ∧ w = g.c 67)
/-- the reader's word is new, or the empty text -/
def WdN (g : GZ) (A D : HA) (r : Nat) : Prop := ∃ w, D.R r 4 = some w ∧ (w = g.c 67 ∨ A.z ≤ w)
/-- the reader, its token begins behind a -/
def RdT (g : GZ) (A : HA) (r c bf L : Nat) (B : Nat → Nat) (a : Nat) : Prop := ∃ v w, RdS A r c bf L B (nI (tkE B L (skp B L a))) (nI (skp B L a)) v (some w) (some (g.c (63 + tkN B L (skp B L a)))) ∧ (tkN B L (skp B L a) = 2 → v = nI (valF B (skp B L a) (dln B L (skp B L a)))) ∧ WdS g A w B L (skp B L a)
set_option maxHeartbeats 4000000 in
theorem t_see {g : GZ} {A : HA} {r c bf L : Nat} {B : Nat → Nat} {f fr v : Int32} {wd tk : Option Nat} (hs : RdS A r c bf L B f fr v wd tk) {k : Nat} (hk : k ≤ 2000) : Ct g wI yX7_see (.code yX7_see cX7_see 2 (Option.some Jvm.ClassFile.FieldType.int)) 1 0 0 [.ref r, .int (nI (k))] (A) (fun u A' => u = seeI B L k ∧ A' = A) fw_no := by
  refine Ct.of [some (.ref r), some (.int (nI (k)))] (by decide) rfl rfl fun z C hx hnm E => ?_
  have h9 := hs.l9
  refine r_iload_1 (pc := 0) C dX7_see_0 ?_
  refine r_aload_0 (pc := 1) C dX7_see_1 ?_
  refine r_getI (pc := 2) C fl_X7_19_7 hs.1.1 rfl dX7_see_2 ?_
  refine r_top hs.1.2.2 ?_
  refine r_icmp_ge (pc := 5) (tgt := 24) C dX7_see_5 (by decide) (fun b5 => ?_) (fun b5 => ?_)
  · skip
    have b5 := (nI_le2 (by omega) (by omega)).mp b5
    refine r_iconst (pc := 24) C dX7_see_24 ci_m1 ?_
    refine r_iret (pc := 25) C E rfl (by omega) (by omega) dX7_see_25 ?_
    refine ⟨?_, rfl⟩
    first
      | exact (if_pos (show k < L by omega)).symm
      | exact (if_neg (show ¬ k < L by omega)).symm
  · skip
    have b5 := (not_congr (nI_le2 (by omega) (by omega))).mp b5
    refine r_aload_0 (pc := 8) C dX7_see_8 ?_
    refine r_getR (pc := 9) C fl_X7_3_7 hs.1.1 rfl hs.1.2.1 dX7_see_9 ?_
    refine r_ngetR (pc := 12) C fn_X7_31_1 hs.2.1.1 rfl hs.2.1.2.1 dX7_see_12 ?_
    refine r_iload_1 (pc := 15) C dX7_see_15 ?_
    refine r_bald (pc := 16) C hs.2.1.2.2.1 rfl rfl (lt_eq (by omega) (show _ = 900 from hs.2.1.2.2.2)) (by omega) dX7_see_16 ?_
    refine r_top (hs.2.2.1.2 k (by omega)).1 ?_
    refine r_sipush (pc := 17) C dX7_see_17 cs_255 ?_
    refine r_iand (pc := 20) C dX7_see_20 ?_
    refine r_top (sg_and (hs.2.2.1.2 k (by omega)).2) ?_
    refine r_goto (pc := 21) (tgt := 25) C dX7_see_21 (by decide) ?_
    refine r_iret (pc := 25) C E rfl (by omega) (by omega) dX7_see_25 ?_
    refine ⟨?_, rfl⟩
    first
      | exact (if_pos (show k < L by omega)).symm
      | exact (if_neg (show ¬ k < L by omega)).symm
set_option maxHeartbeats 4000000 in
theorem t_next {g : GZ} {A : HA} {r c bf L : Nat} {B : Nat → Nat} {fr v : Int32} {wd tk : Option Nat} {a : Nat} (hs : RdS A r c bf L B (nI a) fr v wd tk) (hz : zS g) (hT : TkC g) (ha : a ≤ L) : Ct g wV yX7_next (.code yX7_next cX7_next 3 (Option.none : Option Jvm.ClassFile.FieldType)) 10 (30 * (tkE B L (skp B L a) - a)) (120 * (tkE B L (skp B L a) - a)) [.ref r] (A) (fun u A' => RdT g A' r c bf L B a ∧ Gw A A' (fun y => y = r) ∧ WdN g A A' r) fw_no := by
  refine Ct.of [some (.ref r), none, none] (by decide) rfl rfl fun z C hx hnm E => ?_
  have h9 := hs.l9
  have hB : ∀ k, k < L → B k ≤ 255 := fun k hk => (hs.2.2.1.2 k hk).2
  have lp0_1 : ∀ (fu : Nat) (i : Nat) (F : HA) (hi : a + i ≤ L) (hsp : ∀ j, j < i → isSp (B (a + j)) = true) (hsF : RdS F r c bf L B (nI (a + i)) fr v wd tk) (hGF : Gw A F (fun y => y = r)), L - a - i < fu → wa g z 0 0 (F) 0 [some (.ref r), none, none] [] := by
    intro fu
    induction fu with
    | zero => intro i  F  hi hsp hsF hGF hm0; exact absurd hm0 (Nat.not_lt_zero _)
    | succ fu ih0 =>
      intro i  F  hi hsp hsF hGF hm0
      refine r_aload_0 (pc := 0) C dX7_next_0 ?_
      refine r_aload_0 (pc := 1) C dX7_next_1 ?_
      refine r_getI (pc := 2) C fl_X7_51_7 hsF.1.1 rfl dX7_next_2 ?_
      refine r_top hsF.2.2.2.1.1 ?_
      refine r_V1io (pc := 5) C (t_see hsF (k := a + i) (by omega)) vl_X7_47 hsF.1.1 (by decide) (by omega) (by omega) (Nat.le_of_ble_eq_true rfl) rfl dX7_next_5 (fun u2 A2 hc2 => ?_)
      refine r_top hc2.1 ?_
      refine r_eqA hc2.2 ?_
      clear hc2 A2 u2
      refine r_bipush (pc := 8) C dX7_next_8 cb_32 ?_
      refine r_icmp_ne (pc := 10) (tgt := 26) C dX7_next_10 (by decide) (fun b10 => ?_) (fun b10 => ?_)
      · skip
        have hns : ¬ (a + i < L ∧ B (a + i) = 32) := fun q => b10 ((seeI_eq hB (by decide)).mpr q)
        have hpe : skp B L a = a + i := by unfold skp; rw [← runF_eq (j := i) (by omega) hsp (fun h q => hns ⟨by omega, of_decide_eq_true q⟩)]
        obtain ⟨p, hp⟩ : ∃ p, p = a + i := ⟨_, rfl⟩
        rw [← hp] at hpe hsF hi hns
        refine r_aload_0 (pc := 26) C dX7_next_26 ?_
        refine r_aload_0 (pc := 27) C dX7_next_27 ?_
        refine r_getI (pc := 28) C fl_X7_51_7 hsF.1.1 rfl dX7_next_28 ?_
        refine r_top hsF.2.2.2.1.1 ?_
        refine r_putI (pc := 31) C fl_X7_44_7 hsF.1.1 rfl (fun _ _ _ h => by cases h; exact Or.inl rfl) rfl rfl rfl dX7_next_31 ?_
        have hsF2 := hsF.up2 (nI p)
        have hGF2 : Gw A (F.sI r (upd (F.I r) 2 (nI p))) (fun y => y = r) := hGF.tr (gw_sI (fun _ => rfl))
        generalize F.sI r (upd (F.I r) 2 (nI p)) = F2 at hsF2 hGF2 ⊢
        refine r_aload_0 (pc := 34) C dX7_next_34 ?_
        refine r_ldcS (pc := 35) C hT.2.2 dX7_next_35 ?_
        refine r_putR (pc := 37) C fl_X7_24_7 hsF2.1.1 rfl (fun _ _ _ h => by cases h; exact Or.inl rfl) rfl dX7_next_37 ?_
        have hsF3 := hsF2.up4 (some (g.c 67))
        have hGF3 : Gw A (F2.sR r (va_up (F2.R r) 4 (some (g.c 67)))) (fun y => y = r) := hGF2.tr (gw_sR (fun _ => rfl))
        generalize F2.sR r (va_up (F2.R r) 4 (some (g.c 67))) = F3 at hsF3 hGF3 ⊢
        refine r_aload_0 (pc := 40) C dX7_next_40 ?_
        refine r_aload_0 (pc := 41) C dX7_next_41 ?_
        refine r_getI (pc := 42) C fl_X7_51_7 hsF3.1.1 rfl dX7_next_42 ?_
        refine r_top hsF3.2.2.2.1.1 ?_
        refine r_V1io (pc := 45) C (t_see hsF3 (k := p) (by omega)) vl_X7_47 hsF3.1.1 (by decide) (by omega) (by omega) (Nat.le_of_ble_eq_true rfl) rfl dX7_next_45 (fun u3 A3 hc3 => ?_)
        refine r_top hc3.1 ?_
        refine r_eqA hc3.2 ?_
        clear hc3 A3 u3
        refine r_istore_1 (pc := 48) C dX7_next_48 rfl ?_
        refine r_iload_1 (pc := 49) C dX7_next_49 ?_
        refine r_iconst (pc := 50) C dX7_next_50 ci_m1 ?_
        refine r_icmp_ne (pc := 51) (tgt := 64) C dX7_next_51 (by decide) (fun b51 => ?_) (fun b51 => ?_)
        · skip
          have hpL : p < L := Classical.byContradiction fun q => b51 ((seeI_m1 hB).mpr q)
          refine r_iload_1 (pc := 64) C dX7_next_64 ?_
          refine r_i2l (pc := 65) C dX7_next_65 ?_
          refine r_ldc2 (pc := 66) C q1478 dX7_next_66 ?_
          refine r_ldc2 (pc := 69) C q1479 dX7_next_69 ?_
          refine r_SN3io (pc := 72) C (c_inZ (p := 97) (q := 122) (by decide) (by decide)) snl_X7_61 (by decide) (by omega) (by omega) (Nat.le_of_ble_eq_true rfl) rfl dX7_next_72 (fun u4 A4 hc4 => ?_)
          refine r_top hc4.1 ?_
          refine r_eqA hc4.2 ?_
          clear hc4 A4 u4
          refine r_if_eq (pc := 75) (tgt := 152) C dX7_next_75 (by decide) (fun b75 => ?_) (fun b75 => ?_)
          · skip
            have b75 := bI_0.mp b75
            have hnl : ¬ isLe (B p) = true := fun q => b75 ((seeI_le hB).mpr ⟨hpL, q⟩)
            refine r_iload_1 (pc := 152) C dX7_next_152 ?_
            refine r_i2l (pc := 153) C dX7_next_153 ?_
            refine r_ldc2 (pc := 154) C q1487 dX7_next_154 ?_
            refine r_ldc2 (pc := 157) C q1488 dX7_next_157 ?_
            refine r_SN3io (pc := 160) C (c_inZ (p := 48) (q := 57) (by decide) (by decide)) snl_X7_61 (by decide) (by omega) (by omega) (Nat.le_of_ble_eq_true rfl) rfl dX7_next_160 (fun u5 A5 hc5 => ?_)
            refine r_top hc5.1 ?_
            refine r_eqA hc5.2 ?_
            clear hc5 A5 u5
            refine r_if_eq (pc := 163) (tgt := 255) C dX7_next_163 (by decide) (fun b163 => ?_) (fun b163 => ?_)
            · skip
              have b163 := bI_0.mp b163
              have hnd : ¬ isDi (B p) = true := fun q => b163 ((seeI_di hB).mpr ⟨hpL, q⟩)
              obtain ⟨q1, q2, q3, q4⟩ := tk3 (B := B) hpL hnl hnd
              refine r_aload_0 (pc := 255) C dX7_next_255 ?_
              refine r_getS (pc := 256) C (hT.1 3 (by decide)) q1491 dX7_next_256 ?_
              refine r_putR (pc := 259) C fl_X7_35_7 hsF3.1.1 rfl (fun _ _ _ h => by cases h; exact Or.inl rfl) rfl dX7_next_259 ?_
              have hsF4 := hsF3.up5 (some (g.c (63 + 3)))
              have hGF4 : Gw A (F3.sR r (va_up (F3.R r) 5 (some (g.c (63 + 3))))) (fun y => y = r) := hGF3.tr (gw_sR (fun _ => rfl))
              generalize F3.sR r (va_up (F3.R r) 5 (some (g.c (63 + 3)))) = F4 at hsF4 hGF4 ⊢
              refine r_aload_0 (pc := 262) C dX7_next_262 ?_
              refine r_dup (pc := 263) C dX7_next_263 rfl ?_
              refine r_getI (pc := 264) C fl_X7_51_7 hsF4.1.1 rfl dX7_next_264 ?_
              refine r_top hsF4.2.2.2.1.1 ?_
              refine r_iconst (pc := 267) C dX7_next_267 ci_1 ?_
              refine r_iadd (pc := 268) C dX7_next_268 ?_
              refine r_top (nI_add _ _) ?_
              refine r_putI (pc := 269) C fl_X7_51_7 hsF4.1.1 rfl (fun _ _ _ h => by cases h; exact Or.inl rfl) rfl rfl rfl dX7_next_269 ?_
              have hsF5 := hsF4.up1 (nI (p + 1))
              have hGF5 : Gw A (F4.sI r (upd (F4.I r) 1 (nI (p + 1)))) (fun y => y = r) := hGF4.tr (gw_sI (fun _ => rfl))
              generalize F4.sI r (upd (F4.I r) 1 (nI (p + 1))) = F5 at hsF5 hGF5 ⊢
              refine r_vret (pc := 272) C E (by omega) (by omega) dX7_next_272 ?_
              refine ⟨?_, hGF5, g.c 67, hsF5.2.2.2.2.1, Or.inl rfl⟩
              unfold RdT
              rw [hpe]
              refine ⟨v, g.c 67, ?_, ?_, ?_⟩
              · rw [q1, q2]; exact hsF5
              · rw [q1]; exact fun q => nomatch q
              · exact Or.inr ⟨q3, rfl⟩
            · skip
              have b163 := bI_n.mp b163
              have hdi0 := ((seeI_di hB).mp b163).2
              obtain ⟨q1, q2, q3, q4⟩ := tk2 (B := B) hpL hnl hdi0
              refine r_aload_0 (pc := 166) C dX7_next_166 ?_
              refine r_getS (pc := 167) C (hT.1 2 (by decide)) q1489 dX7_next_167 ?_
              refine r_putR (pc := 170) C fl_X7_35_7 hsF3.1.1 rfl (fun _ _ _ h => by cases h; exact Or.inl rfl) rfl dX7_next_170 ?_
              have hsF4 := hsF3.up5 (some (g.c (63 + 2)))
              have hGF4 : Gw A (F3.sR r (va_up (F3.R r) 5 (some (g.c (63 + 2))))) (fun y => y = r) := hGF3.tr (gw_sR (fun _ => rfl))
              generalize F3.sR r (va_up (F3.R r) 5 (some (g.c (63 + 2)))) = F4 at hsF4 hGF4 ⊢
              refine r_aload_0 (pc := 173) C dX7_next_173 ?_
              refine r_iconst (pc := 174) C dX7_next_174 ci_0 ?_
              refine r_putI (pc := 175) C fl_X7_86_7 hsF4.1.1 rfl (fun _ _ _ h => by cases h; exact Or.inl rfl) rfl rfl rfl dX7_next_175 ?_
              have hsF5 := hsF4.up3 (nI 0)
              have hGF5 : Gw A (F4.sI r (upd (F4.I r) 3 (nI 0))) (fun y => y = r) := hGF4.tr (gw_sI (fun _ => rfl))
              generalize F4.sI r (upd (F4.I r) 3 (nI 0)) = F5 at hsF5 hGF5 ⊢
              have lp178_6 : ∀ (fu : Nat) (j : Nat) (Q1 : HA) (hj : p + j ≤ L) (hdi : ∀ i, i < j → isDi (B (p + i)) = true) (hsQ1 : RdS Q1 r c bf L B (nI (p + j)) (nI p) (nI (valF B p j)) (some (g.c 67)) (some (g.c (63 + 2)))) (hGQ1 : Gw A Q1 (fun y => y = r)), L - p - j < fu → wa g z 0 0 (Q1) 178 [some (.ref r), some (.int (seeI B L p)), none] [] := by
                intro fu
                induction fu with
                | zero => intro j  Q1  hj hdi hsQ1 hGQ1 hm178; exact absurd hm178 (Nat.not_lt_zero _)
                | succ fu ih178 =>
                  intro j  Q1  hj hdi hsQ1 hGQ1 hm178
                  have hv9 := valF_1000 hdi
                  refine r_aload_0 (pc := 178) C dX7_next_178 ?_
                  refine r_aload_0 (pc := 179) C dX7_next_179 ?_
                  refine r_getI (pc := 180) C fl_X7_51_7 hsQ1.1.1 rfl dX7_next_180 ?_
                  refine r_top hsQ1.2.2.2.1.1 ?_
                  refine r_V1io (pc := 183) C (t_see hsQ1 (k := p + j) (by omega)) vl_X7_47 hsQ1.1.1 (by decide) (by omega) (by omega) (Nat.le_of_ble_eq_true rfl) rfl dX7_next_183 (fun u7 A7 hc7 => ?_)
                  refine r_top hc7.1 ?_
                  refine r_eqA hc7.2 ?_
                  clear hc7 A7 u7
                  refine r_i2l (pc := 186) C dX7_next_186 ?_
                  refine r_ldc2 (pc := 187) C q1487 dX7_next_187 ?_
                  refine r_ldc2 (pc := 190) C q1488 dX7_next_190 ?_
                  refine r_SN3io (pc := 193) C (c_inZ (p := 48) (q := 57) (by decide) (by decide)) snl_X7_61 (by decide) (by omega) (by omega) (Nat.le_of_ble_eq_true rfl) rfl dX7_next_193 (fun u8 A8 hc8 => ?_)
                  refine r_top hc8.1 ?_
                  refine r_eqA hc8.2 ?_
                  clear hc8 A8 u8
                  refine r_if_eq (pc := 196) (tgt := 272) C dX7_next_196 (by decide) (fun b196 => ?_) (fun b196 => ?_)
                  · skip
                    have b196 := bI_0.mp b196
                    have hns : ¬ (p + j < L ∧ isDi (B (p + j)) = true) := fun q => b196 ((seeI_di hB).mpr q)
                    have hjd : j = dln B L p := runF_eq (by omega) hdi (fun h q => hns ⟨by omega, q⟩)
                    refine r_vret (pc := 272) C E (by omega) (by omega) dX7_next_272 ?_
                    refine ⟨?_, hGQ1, g.c 67, hsQ1.2.2.2.2.1, Or.inl rfl⟩
                    unfold RdT
                    rw [hpe]
                    refine ⟨nI (valF B p j), g.c 67, ?_, ?_, ?_⟩
                    · rw [q1, q2, ← hjd]; exact hsQ1
                    · rw [← hjd]; exact fun _ => rfl
                    · exact Or.inr ⟨q4, rfl⟩
                  · skip
                    have b196 := bI_n.mp b196
                    have b196 := (seeI_di hB).mp b196
                    refine r_aload_0 (pc := 199) C dX7_next_199 ?_
                    refine r_aload_0 (pc := 200) C dX7_next_200 ?_
                    refine r_getI (pc := 201) C fl_X7_51_7 hsQ1.1.1 rfl dX7_next_201 ?_
                    refine r_top hsQ1.2.2.2.1.1 ?_
                    refine r_aload_0 (pc := 204) C dX7_next_204 ?_
                    refine r_getI (pc := 205) C fl_X7_44_7 hsQ1.1.1 rfl dX7_next_205 ?_
                    refine r_top hsQ1.2.2.2.1.2.1 ?_
                    refine r_isub (pc := 208) C dX7_next_208 ?_
                    refine r_top (pk_sub (by omega)) ?_
                    refine r_iconst (pc := 209) C dX7_next_209 ci_3 ?_
                    refine r_icmp_ge (pc := 210) (tgt := 235) C dX7_next_210 (by decide) (fun b210 => ?_) (fun b210 => ?_)
                    · skip
                      have b210 := (nI_le2 (by omega) (by omega)).mp b210
                      refine r_aload_0 (pc := 235) C dX7_next_235 ?_
                      refine r_getI (pc := 236) C fl_X7_86_7 hsQ1.1.1 rfl dX7_next_236 ?_
                      refine r_top hsQ1.2.2.2.1.2.2 ?_
                      refine r_top (show _ = nI (valF B p (j + 1)) from congrArg nI (by first | exact (if_pos (show j < 3 by omega)).symm | exact (if_neg (show ¬ j < 3 by omega)).symm)) ?_
                      refine r_putI (pc := 239) C fl_X7_86_7 hsQ1.1.1 rfl (fun _ _ _ h => by cases h; exact Or.inl rfl) rfl rfl rfl dX7_next_239 ?_
                      have hsQ2 := hsQ1.up3 (nI (valF B p (j + 1)))
                      have hGQ2 : Gw A (Q1.sI r (upd (Q1.I r) 3 (nI (valF B p (j + 1))))) (fun y => y = r) := hGQ1.tr (gw_sI (fun _ => rfl))
                      generalize Q1.sI r (upd (Q1.I r) 3 (nI (valF B p (j + 1)))) = Q2 at hsQ2 hGQ2 ⊢
                      refine r_aload_0 (pc := 242) C dX7_next_242 ?_
                      refine r_dup (pc := 243) C dX7_next_243 rfl ?_
                      refine r_getI (pc := 244) C fl_X7_51_7 hsQ2.1.1 rfl dX7_next_244 ?_
                      refine r_top hsQ2.2.2.2.1.1 ?_
                      refine r_iconst (pc := 247) C dX7_next_247 ci_1 ?_
                      refine r_iadd (pc := 248) C dX7_next_248 ?_
                      refine r_top (nI_add _ _) ?_
                      refine r_putI (pc := 249) C fl_X7_51_7 hsQ2.1.1 rfl (fun _ _ _ h => by cases h; exact Or.inl rfl) rfl rfl rfl dX7_next_249 ?_
                      have hsQ3 := hsQ2.up1 (nI (p + j + 1))
                      have hGQ3 : Gw A (Q2.sI r (upd (Q2.I r) 1 (nI (p + j + 1)))) (fun y => y = r) := hGQ2.tr (gw_sI (fun _ => rfl))
                      refine r_goto (pc := 252) (tgt := 178) C dX7_next_252 (by decide) ?_
                      exact ih178 (j + 1) _ (by omega) (fun i hi => by by_cases q : i = j; (rw [q]; exact b196.2); exact hdi i (by omega)) hsQ3 hGQ3 (by omega)
                    · skip
                      have b210 := (not_congr (nI_le2 (by omega) (by omega))).mp b210
                      refine r_bipush (pc := 213) C dX7_next_213 cb_10 ?_
                      refine r_aload_0 (pc := 215) C dX7_next_215 ?_
                      refine r_getI (pc := 216) C fl_X7_86_7 hsQ1.1.1 rfl dX7_next_216 ?_
                      refine r_top hsQ1.2.2.2.1.2.2 ?_
                      refine r_imul (pc := 219) C dX7_next_219 ?_
                      refine r_top (pk_mul _ _) ?_
                      refine r_aload_0 (pc := 220) C dX7_next_220 ?_
                      refine r_aload_0 (pc := 221) C dX7_next_221 ?_
                      refine r_getI (pc := 222) C fl_X7_51_7 hsQ1.1.1 rfl dX7_next_222 ?_
                      refine r_top hsQ1.2.2.2.1.1 ?_
                      refine r_V1io (pc := 225) C (t_see hsQ1 (k := p + j) (by omega)) vl_X7_47 hsQ1.1.1 (by decide) (by omega) (by omega) (Nat.le_of_ble_eq_true rfl) rfl dX7_next_225 (fun u9 A9 hc9 => ?_)
                      refine r_top hc9.1 ?_
                      refine r_eqA hc9.2 ?_
                      clear hc9 A9 u9
                      refine r_top (seeI_in b196.1) ?_
                      have hd8 := of_decide_eq_true b196.2
                      refine r_iadd (pc := 228) C dX7_next_228 ?_
                      refine r_top (nI_add _ _) ?_
                      refine r_bipush (pc := 229) C dX7_next_229 cb_48 ?_
                      refine r_isub (pc := 231) C dX7_next_231 ?_
                      refine r_top (pk_sub (by omega)) ?_
                      refine r_goto (pc := 232) (tgt := 239) C dX7_next_232 (by decide) ?_
                      refine r_top (show _ = nI (valF B p (j + 1)) from congrArg nI (by first | exact (if_pos (show j < 3 by omega)).symm | exact (if_neg (show ¬ j < 3 by omega)).symm)) ?_
                      refine r_putI (pc := 239) C fl_X7_86_7 hsQ1.1.1 rfl (fun _ _ _ h => by cases h; exact Or.inl rfl) rfl rfl rfl dX7_next_239 ?_
                      have hsQ2 := hsQ1.up3 (nI (valF B p (j + 1)))
                      have hGQ2 : Gw A (Q1.sI r (upd (Q1.I r) 3 (nI (valF B p (j + 1))))) (fun y => y = r) := hGQ1.tr (gw_sI (fun _ => rfl))
                      generalize Q1.sI r (upd (Q1.I r) 3 (nI (valF B p (j + 1)))) = Q2 at hsQ2 hGQ2 ⊢
                      refine r_aload_0 (pc := 242) C dX7_next_242 ?_
                      refine r_dup (pc := 243) C dX7_next_243 rfl ?_
                      refine r_getI (pc := 244) C fl_X7_51_7 hsQ2.1.1 rfl dX7_next_244 ?_
                      refine r_top hsQ2.2.2.2.1.1 ?_
                      refine r_iconst (pc := 247) C dX7_next_247 ci_1 ?_
                      refine r_iadd (pc := 248) C dX7_next_248 ?_
                      refine r_top (nI_add _ _) ?_
                      refine r_putI (pc := 249) C fl_X7_51_7 hsQ2.1.1 rfl (fun _ _ _ h => by cases h; exact Or.inl rfl) rfl rfl rfl dX7_next_249 ?_
                      have hsQ3 := hsQ2.up1 (nI (p + j + 1))
                      have hGQ3 : Gw A (Q2.sI r (upd (Q2.I r) 1 (nI (p + j + 1)))) (fun y => y = r) := hGQ2.tr (gw_sI (fun _ => rfl))
                      refine r_goto (pc := 252) (tgt := 178) C dX7_next_252 (by decide) ?_
                      exact ih178 (j + 1) _ (by omega) (fun i hi => by by_cases q : i = j; (rw [q]; exact b196.2); exact hdi i (by omega)) hsQ3 hGQ3 (by omega)
              exact lp178_6 _ 0 F5 (by omega) (fun i hi => absurd hi (Nat.not_lt_zero _)) hsF5 hGF5 (Nat.lt_succ_self _)
          · skip
            have b75 := bI_n.mp b75
            have hle0 := ((seeI_le hB).mp b75).2
            obtain ⟨q1, q2, q3⟩ := tk1 (B := B) hpL hle0
            have hE9 : tkE B L (skp B L a) = p + wln B L p := by rw [hpe, q2]
            refine r_aload_0 (pc := 78) C dX7_next_78 ?_
            refine r_getS (pc := 79) C (hT.1 1 (by decide)) q1481 dX7_next_79 ?_
            refine r_putR (pc := 82) C fl_X7_35_7 hsF3.1.1 rfl (fun _ _ _ h => by cases h; exact Or.inl rfl) rfl dX7_next_82 ?_
            have hsF4 := hsF3.up5 (some (g.c (63 + 1)))
            have hGF4 : Gw A (F3.sR r (va_up (F3.R r) 5 (some (g.c (63 + 1))))) (fun y => y = r) := hGF3.tr (gw_sR (fun _ => rfl))
            generalize F3.sR r (va_up (F3.R r) 5 (some (g.c (63 + 1)))) = F4 at hsF4 hGF4 ⊢
            refine r_Z fun hZ4 => ?_
            refine r_new (pc := 85) C (0) (Nat.zero_le _) nl_X7_68 NF15 (by omega) (by omega) dX7_next_85 ?_
            refine r_dup (pc := 88) C dX7_next_88 rfl ?_
            refine r_I0v (pc := 89) C (j_J9_init (f := fun i => B (p + i)) hz (show ((F4.mk 15 0 0).G F4.z).1 = 15 by rw [mk_G, if_pos rfl]) (by rw [mk_I, if_pos rfl]; exact nI0.symm)) il_X7_70 (by decide) (by omega) (by omega) (Nat.le_of_ble_eq_true rfl) rfl dX7_next_89 (fun u10 A10 hc10 => ?_)
            obtain ⟨hsb0, hg0, hz0⟩ := hc10
            generalize A10 = Q0 at hsb0 hg0 hz0 ⊢
            have hgF4 : Gw F4 Q0 Non := (gw_mk (X := Non)).tr2 hg0 (fun y hy e => absurd e (by omega))
            have hsQ0 := hsF4.gw hZ4 hgF4 (fun q => q) (fun q => q) (fun q => q)
            have hGQ0 : Gw A Q0 (fun y => y = r) := hGF4.tr2 hgF4 (fun _ _ q => q.elim)
            have hzQ0 : F4.z + 2 ≤ Q0.z := by have e := hz0; rw [mk_z] at e; omega
            have hsb0 : SbV Q0 F4.z (F4.z + 1) 16 (fun i => B (p + i)) 0 := hsb0
            refine r_astore_2 (pc := 92) C dX7_next_92 rfl ?_
            have lp93_11 : ∀ (fu : Nat) (j m1 v1 : Nat) (Q1 : HA) (hj : p + j ≤ L) (hle : ∀ i, i < j → isLe (B (p + i)) = true) (hsQ1 : RdS Q1 r c bf L B (nI (p + j)) (nI p) v (some (g.c 67)) (some (g.c (63 + 1)))) (hsb : SbV Q1 F4.z v1 m1 (fun i => B (p + i)) j) (hw1 : v1 = F4.z + 1 ∨ F4.z + 2 ≤ v1) (hGQ1 : Gw A Q1 (fun y => y = r)) (hzz : F4.z + 2 ≤ Q1.z) (hm1 : m1 ≤ 16 + 2 * j), L - p - j < fu → wa g z (m1 + 2) (2 * m1 + 20) (Q1) 93 [some (.ref r), some (.int (seeI B L p)), some (.ref (F4.z))] [] := by
              intro fu
              induction fu with
              | zero => intro j m1 v1  Q1  hj hle hsQ1 hsb hw1 hGQ1 hzz hm1 hm93; exact absurd hm93 (Nat.not_lt_zero _)
              | succ fu ih93 =>
                intro j m1 v1  Q1  hj hle hsQ1 hsb hw1 hGQ1 hzz hm1 hm93
                refine r_Z fun hZ1 => ?_
                have hw8 : j ≤ wln B L p := run_ge hle (by omega)
                refine r_aload_0 (pc := 93) C dX7_next_93 ?_
                refine r_aload_0 (pc := 94) C dX7_next_94 ?_
                refine r_getI (pc := 95) C fl_X7_51_7 hsQ1.1.1 rfl dX7_next_95 ?_
                refine r_top hsQ1.2.2.2.1.1 ?_
                refine r_V1io (pc := 98) C (t_see hsQ1 (k := p + j) (by omega)) vl_X7_47 hsQ1.1.1 (by decide) (by omega) (by omega) (Nat.le_of_ble_eq_true rfl) rfl dX7_next_98 (fun u12 A12 hc12 => ?_)
                refine r_top hc12.1 ?_
                refine r_eqA hc12.2 ?_
                clear hc12 A12 u12
                refine r_i2l (pc := 101) C dX7_next_101 ?_
                refine r_ldc2 (pc := 102) C q1478 dX7_next_102 ?_
                refine r_ldc2 (pc := 105) C q1479 dX7_next_105 ?_
                refine r_SN3io (pc := 108) C (c_inZ (p := 97) (q := 122) (by decide) (by decide)) snl_X7_61 (by decide) (by omega) (by omega) (Nat.le_of_ble_eq_true rfl) rfl dX7_next_108 (fun u13 A13 hc13 => ?_)
                refine r_top hc13.1 ?_
                refine r_eqA hc13.2 ?_
                clear hc13 A13 u13
                refine r_if_eq (pc := 111) (tgt := 141) C dX7_next_111 (by decide) (fun b111 => ?_) (fun b111 => ?_)
                · skip
                  have b111 := bI_0.mp b111
                  have hns : ¬ (p + j < L ∧ isLe (B (p + j)) = true) := fun q => b111 ((seeI_le hB).mpr q)
                  have hjw : j = wln B L p := runF_eq (by omega) hle (fun h q => hns ⟨by omega, q⟩)
                  refine r_aload_0 (pc := 141) C dX7_next_141 ?_
                  refine r_aload_2 (pc := 142) C dX7_next_142 ?_
                  refine r_V0r (pc := 143) C (j_J9_toString hz hsb (by omega)) vl_X7_75 hsb.g (by decide) (by omega) (by omega) (Nat.le_of_ble_eq_true rfl) rfl dX7_next_143 (fun u14 A14 hc14 => ?_)
                  obtain ⟨eu14, hmk5, hgt, hzt⟩ := hc14
                  refine r_topR eu14 ?_
                  clear eu14 u14
                  generalize A14 = Q5 at hmk5 hgt hzt ⊢
                  refine r_Z fun hZ5 => ?_
                  have hsQ5 := hsQ1.gw hZ1 hgt (fun q => q) (fun q => q) (fun q => q)
                  have hGQ5 : Gw A Q5 (fun y => y = r) := hGQ1.tr2 hgt (fun _ _ q => q.elim)
                  have n5 : Q1.z ≠ r := fun e => by have h8 := hmk5.1.g; rw [e, hsQ5.1.1] at h8; cases h8
                  have n6 : Q1.z + 1 ≠ r := fun e => by have h8 := hmk5.2.2.2.2; rw [e, hsQ5.1.1] at h8; cases h8
                  refine r_putR (pc := 146) C fl_X7_24_7 hsQ5.1.1 rfl (fun _ _ _ h => by cases h; exact Or.inl rfl) rfl dX7_next_146 ?_
                  have hsQ6 := hsQ5.up4 (some Q1.z)
                  have hGQ6 : Gw A (Q5.sR r (va_up (Q5.R r) 4 (some Q1.z))) (fun y => y = r) := hGQ5.tr (gw_sR (fun _ => rfl))
                  have hmk6 : MkS g (Q5.sR r (va_up (Q5.R r) 4 (some Q1.z))) Q1.z (Q1.z + 1) (fun i => B (p + i)) j := ⟨hmk5.1.gw hZ5 (gw_sR (X := fun y => y = r) (fun _ => rfl)) n5 n6, hmk5.2.1, hmk5.2.2.1, hmk5.2.2.2.1, hmk5.2.2.2.2⟩
                  refine r_goto (pc := 149) (tgt := 272) C dX7_next_149 (by decide) ?_
                  refine r_vret (pc := 272) C E (by omega) (by omega) dX7_next_272 ?_
                  refine ⟨?_, hGQ6, Q1.z, hsQ6.2.2.2.2.1, Or.inr hGQ1.1⟩
                  unfold RdT
                  rw [hpe]
                  refine ⟨v, Q1.z, ?_, ?_, ?_⟩
                  · rw [q1, q2, ← hjw]; exact hsQ6
                  · rw [q1]; exact fun q => nomatch q
                  · refine Or.inl ⟨Q1.z + 1, ?_⟩
                    rw [← hjw]; exact hmk6.wr
                · skip
                  have b111 := bI_n.mp b111
                  have b111 := (seeI_le hB).mp b111
                  have hw9 : j + 1 ≤ wln B L p := run_ge (fun i hi => by by_cases q : i = j; (rw [q]; exact b111.2); exact hle i (by omega)) (by omega)
                  refine r_aload_2 (pc := 114) C dX7_next_114 ?_
                  refine r_aload_0 (pc := 115) C dX7_next_115 ?_
                  refine r_aload_0 (pc := 116) C dX7_next_116 ?_
                  refine r_getI (pc := 117) C fl_X7_51_7 hsQ1.1.1 rfl dX7_next_117 ?_
                  refine r_top hsQ1.2.2.2.1.1 ?_
                  refine r_V1io (pc := 120) C (t_see hsQ1 (k := p + j) (by omega)) vl_X7_47 hsQ1.1.1 (by decide) (by omega) (by omega) (Nat.le_of_ble_eq_true rfl) rfl dX7_next_120 (fun u15 A15 hc15 => ?_)
                  refine r_top hc15.1 ?_
                  refine r_eqA hc15.2 ?_
                  clear hc15 A15 u15
                  refine r_top (seeI_in b111.1) ?_
                  have hl9 := le_r b111.2
                  refine r_i2c (pc := 123) C dX7_next_123 ?_
                  refine r_top (by_c (by omega)) ?_
                  refine r_V1r (pc := 124) C (j_apU hz hsb (c := B (p + j)) (by omega) (by omega)) vl_X7_71 hsb.g (by decide) (by have := gK_le j m1; omega) (by have := gS_le j m1; omega) (Nat.le_of_ble_eq_true rfl) rfl dX7_next_124 (fun u9 A9 hc9 => ?_)
                  obtain ⟨eu9, ⟨v3, hsb2, hv3⟩, hg3⟩ := hc9
                  refine r_topR eu9 ?_
                  clear eu9 u9
                  generalize A9 = Q2 at hsb2 hv3 hg3 ⊢
                  obtain ⟨gk3, gs3⟩ := gKM j m1
                  have gm3 : gM j m1 ≤ 16 + 2 * (j + 1) := by unfold gM; split <;> omega
                  refine r_widen (k' := gM j m1 + 2) (n' := 2 * gM j m1 + 20) (by omega) (by omega) ?_
                  generalize gM j m1 = m3 at hsb2 gm3 ⊢
                  have hz2 := hg3.1
                  have hXr : ¬ (r = F4.z ∨ r = v1) := fun q => q.elim (fun e => by have h8 := hsb.g; rw [← e, hsQ1.1.1] at h8; cases h8) (fun e => by have h8 := hsb.k; rw [← e, hsQ1.1.1] at h8; cases h8)
                  have hXc : ¬ (c = F4.z ∨ c = v1) := fun q => q.elim (fun e => by have h8 := hsb.g; rw [← e, hsQ1.2.1.1] at h8; cases h8) (fun e => by have h8 := hsb.k; rw [← e, hsQ1.2.1.1] at h8; cases h8)
                  have hXb : ¬ (bf = F4.z ∨ bf = v1) := fun q => q.elim (fun e => by have h8 := hsb.g; rw [← e, hsQ1.2.1.2.2.1] at h8; cases h8) (fun e => by have h8 := hsb.k; rw [← e, hsQ1.2.1.2.2.1] at h8; cases h8)
                  refine r_Z fun hZ2 => ?_
                  have hsQ2 := hsQ1.gw hZ1 hg3 hXr hXc hXb
                  have hAF := hGF4.1
                  have hGQ2 : Gw A Q2 (fun y => y = r) := hGQ1.tr2 hg3 (fun y hy q => q.elim (fun e => absurd hy (by omega)) (fun e => absurd hy (by omega)))
                  have hsbc : SbV Q2 F4.z v3 m3 (fun i => B (p + i)) (j + 1) := hsb2.cong (fun i hi => by by_cases q9 : i = j; (subst q9; exact (lower_s _ _ _).symm); exact (lower_o (fun i => B (p + i)) (B (p + j)) q9).symm)
                  have n1 : F4.z ≠ r := fun e => by have h8 := hsbc.g; rw [e, hsQ2.1.1] at h8; cases h8
                  have n2 : v3 ≠ r := fun e => by have h8 := hsbc.k; rw [e, hsQ2.1.1] at h8; cases h8
                  have hw3 : v3 = F4.z + 1 ∨ F4.z + 2 ≤ v3 := by omega
                  have hm3 := gm3
                  refine r_pop (pc := 127) C dX7_next_127 rfl ?_
                  refine r_aload_0 (pc := 128) C dX7_next_128 ?_
                  refine r_dup (pc := 129) C dX7_next_129 rfl ?_
                  refine r_getI (pc := 130) C fl_X7_51_7 hsQ2.1.1 rfl dX7_next_130 ?_
                  refine r_top hsQ2.2.2.2.1.1 ?_
                  refine r_iconst (pc := 133) C dX7_next_133 ci_1 ?_
                  refine r_iadd (pc := 134) C dX7_next_134 ?_
                  refine r_top (nI_add _ _) ?_
                  refine r_putI (pc := 135) C fl_X7_51_7 hsQ2.1.1 rfl (fun _ _ _ h => by cases h; exact Or.inl rfl) rfl rfl rfl dX7_next_135 ?_
                  have hsQ3 := hsQ2.up1 (nI (p + j + 1))
                  have hGQ3 : Gw A (Q2.sI r (upd (Q2.I r) 1 (nI (p + j + 1)))) (fun y => y = r) := hGQ2.tr (gw_sI (fun _ => rfl))
                  have hsb3 := hsbc.gw hZ2 (gw_sI (A := Q2) (a := r) (f := upd (Q2.I r) 1 (nI (p + j + 1))) (X := fun y => y = r) (fun _ => rfl)) n1 n2
                  have hzz3 : F4.z + 2 ≤ (Q2.sI r (upd (Q2.I r) 1 (nI (p + j + 1)))).z := by show F4.z + 2 ≤ Q2.z; omega
                  refine r_goto (pc := 138) (tgt := 93) C dX7_next_138 (by decide) ?_
                  exact ih93 (j + 1) _ _ _ (by omega) (fun i hi => by by_cases q : i = j; (rw [q]; exact b111.2); exact hle i (by omega)) hsQ3 hsb3 hw3 hGQ3 hzz3 hm3 (by omega)
            refine r_widen (k' := 16 + 2) (n' := 2 * 16 + 20) (by omega) (by omega) ?_
            exact lp93_11 _ 0 16 (F4.z + 1) Q0 (by omega) (fun i hi => absurd hi (Nat.not_lt_zero _)) hsQ0 hsb0 (Or.inl rfl) hGQ0 hzQ0 (by omega) (Nat.lt_succ_self _)
        · skip
          have b51 := (seeI_m1 hB).mp b51
          refine r_aload_0 (pc := 54) C dX7_next_54 ?_
          refine r_getS (pc := 55) C (hT.1 0 (by decide)) q1476 dX7_next_55 ?_
          refine r_putR (pc := 58) C fl_X7_35_7 hsF3.1.1 rfl (fun _ _ _ h => by cases h; exact Or.inl rfl) rfl dX7_next_58 ?_
          have hsF4 := hsF3.up5 (some (g.c (63 + 0)))
          have hGF4 : Gw A (F3.sR r (va_up (F3.R r) 5 (some (g.c (63 + 0))))) (fun y => y = r) := hGF3.tr (gw_sR (fun _ => rfl))
          generalize F3.sR r (va_up (F3.R r) 5 (some (g.c (63 + 0)))) = F4 at hsF4 hGF4 ⊢
          refine r_goto (pc := 61) (tgt := 272) C dX7_next_61 (by decide) ?_
          refine r_vret (pc := 272) C E (by omega) (by omega) dX7_next_272 ?_
          obtain ⟨q1, q2, q3, q4⟩ := tk0 (B := B) b51
          refine ⟨?_, hGF4, g.c 67, hsF4.2.2.2.2.1, Or.inl rfl⟩
          unfold RdT
          rw [hpe]
          refine ⟨v, g.c 67, ?_, ?_, ?_⟩
          · rw [q1, q2]; exact hsF4
          · rw [q1]; exact fun q => nomatch q
          · exact Or.inr ⟨q3, rfl⟩
      · skip
        have b10 := (seeI_eq hB (by decide)).mp b10
        refine r_aload_0 (pc := 13) C dX7_next_13 ?_
        refine r_dup (pc := 14) C dX7_next_14 rfl ?_
        refine r_getI (pc := 15) C fl_X7_51_7 hsF.1.1 rfl dX7_next_15 ?_
        refine r_top hsF.2.2.2.1.1 ?_
        refine r_iconst (pc := 18) C dX7_next_18 ci_1 ?_
        refine r_iadd (pc := 19) C dX7_next_19 ?_
        refine r_top (nI_add _ _) ?_
        refine r_putI (pc := 20) C fl_X7_51_7 hsF.1.1 rfl (fun _ _ _ h => by cases h; exact Or.inl rfl) rfl rfl rfl dX7_next_20 ?_
        have hsF2 := hsF.up1 (nI (a + i + 1))
        have hGF2 : Gw A (F.sI r (upd (F.I r) 1 (nI (a + i + 1)))) (fun y => y = r) := hGF.tr (gw_sI (fun _ => rfl))
        refine r_goto (pc := 23) (tgt := 0) C dX7_next_23 (by decide) ?_
        exact ih0 (i + 1) _ (by omega) (fun j hj => by by_cases q : j = i; (rw [q]; exact (decide_eq_true b10.2)); exact hsp j (by omega)) hsF2 hGF2 (by omega)
  exact lp0_1 _ 0 A (by omega) (fun j hj => absurd hj (Nat.not_lt_zero _)) hs Gw.rf (Nat.lt_succ_self _)
