/-! THE REFERENCE, 31: reading, over text states -/
set_option maxRecDepth 100000
def fndS (σ : Rw) (B : Nat → Nat) (L : Nat) (q : Prop) [Decidable q] (but : Int32) (s : TS) : TS := if s.e = 0 then (if 1 ≤ wln B L (skp B L s.a) ∧ wln B L (skp B L s.a) ≤ 6 then skp B L s.a + wln B L (skp B L s.a) else skp B L s.a, skp B L s.a, wln B L (skp B L s.a), errC (fndR σ B L s.a q but), errP (fndR σ B L s.a q but) s.p) else s
def fndN (σ : Rw) (B : Nat → Nat) (L : Nat) (q : Prop) [Decidable q] (but : Int32) (s : TS) : Nat := if s.e = 0 then numV (fndR σ B L s.a q but) 0 else 0
def newS (σ : Rw) (B : Nat → Nat) (L : Nat) (q : Prop) [Decidable q] (s : TS) : TS := if s.e = 0 then (if isR (newR σ B L s.a q) then skp B L s.a + wln B L (skp B L s.a) else skp B L s.a, skp B L s.a, wln B L (skp B L s.a), errC (newR σ B L s.a q), errP (newR σ B L s.a q) s.p) else s
def newW (σ : Rw) (B : Nat → Nat) (L : Nat) (q : Prop) [Decidable q] (f : Nat) (s : TS) : Rw := if s.e = 0 then (if isR (newR σ B L s.a q) then nmPut σ B f (skp B L s.a) (wln B L (skp B L s.a)) (wln B L (skp B L s.a)) else σ) else σ
/-- a word seen -/
abbrev seesP (B : Nat → Nat) (L : Nat) (f : Nat → Nat) (m : Nat) (s : TS) : Prop := s.e = 0 ∧ isWd B L (skp B L s.a) f m = true
theorem s_number {g : GZ} {A : HA} {t : Nat} {σ κ π τ : Rw} (hT : Tw A t) {s : TS} {B : Nat → Nat} {L : Nat} (hB : BufI (A.I (t + 8)) B L) (hτL : τ 12 = nI L) (ht : TOk L s) {lo hi : Nat} (hlo : lo < 100000) (hhi : hi < 100000) : Ct g wI yX6_number (.code yX6_number cX6_number 4 (Option.some Jvm.ClassFile.FieldType.int)) 3 0 0 [.ref t, .int (nI lo), .int (nI hi)] (S5 A t σ κ π (stS τ s)) (fun u A' => u = nI (numN B L lo hi s) ∧ A' = S5 A t σ κ π (stS τ (numS B L lo hi s))) fw_no := by
  have hBl := hB.l
  have ha := ht.a
  have he := ht.e
  unfold numN numS
  by_cases h0 : s.e = 0
  · rw [if_pos h0, if_pos h0]; exact m_number hT hB hτL (by omega) h0 hlo hhi
  · rw [if_neg h0, if_neg h0]; exact m_numberE hT h0 he
theorem s_sign {g : GZ} {A : HA} {t : Nat} {σ κ π τ : Rw} (hT : Tw A t) {s : TS} {B : Nat → Nat} {L : Nat} (hB : BufI (A.I (t + 8)) B L) (hτL : τ 12 = nI L) (ht : TOk L s) {c : Nat} (hc : c < 256) : Ct g wV yX6_sign (.code yX6_sign cX6_sign 2 (Option.none : Option Jvm.ClassFile.FieldType)) 3 0 0 [.ref t, .int (nI c)] (S5 A t σ κ π (stS τ s)) (fun u A' => A' = S5 A t σ κ π (stS τ (signS B L c s))) fw_no := by
  have hBl := hB.l
  have ha := ht.a
  have he := ht.e
  unfold signS
  by_cases h0 : s.e = 0
  · rw [if_pos h0]; exact m_sign hT hB hτL (by omega) h0 hc
  · rw [if_neg h0]; exact m_signE hT h0 he
theorem s_must {g : GZ} {A : HA} {t : Nat} {σ κ π τ : Rw} (hT : Tw A t) {s : TS} {B : Nat → Nat} {L : Nat} (hB : BufI (A.I (t + 8)) B L) (hτL : τ 12 = nI L) (ht : TOk L s) {p : Prop} [Decidable p] {c : Nat} : Ct g wV yX6_must (.code yX6_must cX6_must 3 (Option.none : Option Jvm.ClassFile.FieldType)) 1 0 0 [.ref t, .int (bI p), .int (nI c)] (S5 A t σ κ π (stS τ s)) (fun u A' => A' = S5 A t σ κ π (stS τ (mustS p c s))) fw_no := by
  have hBl := hB.l
  have ha := ht.a
  have he := ht.e
  refine (m_must hT he).mono (fun u A' q => q.trans ?_) (fun _ _ h => h)
  unfold mustS
  by_cases h : p ∨ ¬ s.e = 0
  · rw [if_pos h, if_pos h]; rfl
  · rw [if_neg h, if_neg h]; rfl
theorem s_next {g : GZ} {A : HA} {t : Nat} {σ κ π τ : Rw} (hT : Tw A t) {s : TS} {B : Nat → Nat} {L : Nat} (hB : BufI (A.I (t + 8)) B L) (hτL : τ 12 = nI L) (ht : TOk L s)  : Ct g wI yX6_next (.code yX6_next cX6_next 1 (Option.some Jvm.ClassFile.FieldType.int)) 2 0 0 [.ref t] (S5 A t σ κ π (stS τ s)) (fun u A' => u = oI (btO B L (skp B L s.a)) ∧ A' = S5 A t σ κ π (stS τ (nextS B L s))) fw_no := by
  have hBl := hB.l
  have ha := ht.a
  have he := ht.e
  exact m_next hT hB hτL (by omega)
theorem s_goes {g : GZ} {A : HA} {t : Nat} {σ κ π τ : Rw} (hT : Tw A t) {s : TS} {B : Nat → Nat} {L : Nat} (hB : BufI (A.I (t + 8)) B L) (hτL : τ 12 = nI L) (ht : TOk L s)  : Ct g wV yX6_goesPast (.code yX6_goesPast cX6_goesPast 1 (Option.none : Option Jvm.ClassFile.FieldType)) 1 0 0 [.ref t] (S5 A t σ κ π (stS τ s)) (fun u A' => A' = S5 A t σ κ π (stS τ (goesS s))) fw_no := by
  have hBl := hB.l
  have ha := ht.a
  have he := ht.e
  have hg := ht.g
  have hw := ht.w
  exact m_goesPast hT (by omega) (by omega)
theorem s_mustBe {g : GZ} {A : HA} {t : Nat} {σ κ π τ : Rw} (hT : Tw A t) {s : TS} {B : Nat → Nat} {L : Nat} (hB : BufI (A.I (t + 8)) B L) (hτL : τ 12 = nI L) (ht : TOk L s) {q : Prop} [Decidable q] {but : Int32} (hN : NumI σ) : Ct g wI yX6_mustBe (.code yX6_mustBe cX6_mustBe 4 (Option.some Jvm.ClassFile.FieldType.int)) 5 0 0 [.ref t, .int (bI q), .int but] (S5 A t σ κ π (stS τ s)) (fun u A' => u = nI (fndN σ B L q but s) ∧ A' = S5 A t σ κ π (stS τ (fndS σ B L q but s))) fw_no := by
  have hBl := hB.l
  have ha := ht.a
  have he := ht.e
  unfold fndN fndS
  by_cases h0 : s.e = 0
  · rw [if_pos h0, if_pos h0]; exact m_mustBe hT hB hτL (ht.al h0) h0 hN
  · rw [if_neg h0, if_neg h0]; exact m_mustBeE hT h0 he
theorem s_newName {g : GZ} {A : HA} {t : Nat} {σ κ π τ : Rw} (hT : Tw A t) {s : TS} {B : Nat → Nat} {L : Nat} (hB : BufI (A.I (t + 8)) B L) (hτL : τ 12 = nI L) (ht : TOk L s) {q : Prop} [Decidable q] {f : Nat} (hN : NumI σ) (hf : f < 500) : Ct g wV yX6_newName (.code yX6_newName cX6_newName 4 (Option.none : Option Jvm.ClassFile.FieldType)) 5 0 0 [.ref t, .int (nI f), .int (bI q)] (S5 A t σ κ π (stS τ s)) (fun u A' => A' = S5 A t (newW σ B L q f s) κ π (stS τ (newS σ B L q s))) fw_no := by
  have hBl := hB.l
  have ha := ht.a
  have he := ht.e
  unfold newW newS
  by_cases h0 : s.e = 0
  · rw [if_pos h0, if_pos h0]; exact m_newName hT hB hτL (ht.al h0) h0 hN hf
  · rw [if_neg h0, if_neg h0]; exact m_newNameE hT h0 he
theorem s_sees {g : GZ} {A : HA} {t : Nat} {σ κ π τ : Rw} (hT : Tw A t) {s : TS} {B : Nat → Nat} {L : Nat} (hB : BufI (A.I (t + 8)) B L) (hτL : τ 12 = nI L) (ht : TOk L s) {sa v m : Nat} {f : Nat → Nat} (hz : zS g) (hs : StrV A sa v f m) : Ct g wI yX6_sees (.code yX6_sees cX6_sees 4 (Option.some Jvm.ClassFile.FieldType.boolean)) 6 0 0 [.ref t, .ref sa] (S5 A t σ κ π (stS τ s)) (fun u A' => u = bI (seesP B L f m s) ∧ A' = S5 A t σ κ π (stS τ (nextS B L s))) fw_no := by
  have hBl := hB.l
  have ha := ht.a
  have he := ht.e
  exact m_sees hT hB hτL hz hs (by omega) he
