/-! THE WORLD, 9: moves of the component -/
set_option maxRecDepth 100000
section
variable {g : GZ} {A B D : HA} {c t o a pq pe h bf ob v mo : Nat} {d f : Nat → Nat} {σ : Rw} {m : Nat} {P : Nat → Rw} {kp : Option Rw} {L : Nat} {Bf : Nat → Nat} {n0 : Nat} {fo : Nat → Nat} {e5 e6 : Int32} {X : Nat → Prop}
theorem WCx.s (w : WCx g A c a pq pe h bf ob v mo d f σ m P kp L Bf n0 fo e5 e6) : WCs g c σ m P kp L Bf n0 fo e5 e6 A := ⟨a, pq, pe, h, bf, ob, v, mo, d, f, w⟩
theorem WCx.frT3 (w : WCx g A c a pq pe h bf ob v mo d f σ m P kp L Bf n0 fo e5 e6) (hG : Gw A D (fun y => y = c ∨ y = pq ∨ y = pe)) : FrT A D := ⟨_, hG, fun y q => by
  have := w.kX3 y q
  unfold TwW
  omega⟩
/-- the same lawn; the text's length and the error may be others: only the component's own cell is written -/
theorem WCx.own {L' : Nat} {e5' e6' : Int32} (w : WCx g A c a pq pe h bf ob v mo d f σ m P kp L Bf n0 fo e5 e6) (hz : Zk A) (hG : Gw A D (fun y => y = c)) (hR : D.R c = A.R c) (hl4 : L' ≤ L) (e4 : D.I c 4 = nI L') (h5 : D.I c 5 = e5') (h6 : D.I c 6 = e6') :
    WCx g D c a pq pe h bf ob v mo d f σ m P kp L' Bf n0 fo e5' e6' := by
  have hG3 : Gw A D (fun y => y = c ∨ y = pq ∨ y = pe) := hG.mono (fun _ _ q => Or.inl q)
  have hW : ∀ b db ρ, WLn A b db ρ → WLn D b db ρ := fun b db ρ q => q.nx hz hG3 (fun y _ q => k3x (w.kX3 y q))
  have n1 : ¬ pq = c := fun q => by have h9 := w.deq.g; rw [q, w.kc] at h9; cases h9
  have n2 : ¬ pe = c := fun q => by have h9 := w.deq.k; rw [q, w.kc] at h9; cases h9
  exact w.up hz hG3 (by rw [hR]; exact va_up_id w.now) (hW _ _ _ w.lawn) w.row (w.deq.gw hz hG n1 n2) w.m8 (fun i hi => ⟨(w.old i hi).1, (w.old i hi).2.imp fun di q => hW _ _ _ q⟩) hl4 e4 h5 h6
/-- 20 bytes more -/
theorem WCx.app {va vb vc vd ve : Int32} (w : WCx g A c a pq pe h bf ob v mo d f σ m P kp L Bf n0 fo e5 e6) (hz : Zk A) (hG : Gw A D (fun y => y = c ∨ y = bf)) (h9 : L + 20 ≤ 900) (hI : D.I c = upd (A.I c) 4 (nI (L + 20))) (hR : D.R c = A.R c) (hB : D.I bf = fivC (A.I bf) L va vb vc vd ve) :
    WCx g D c a pq pe h bf ob v mo d f σ m P kp (L + 20) (apB Bf L va vb vc vd ve) n0 fo e5 e6 := by
  have lc := hz.lt w.kc rfl
  have lb := hz.lt w.txt.2.1 rfl
  have kX : ∀ y, (y = c ∨ y = bf) → (A.G y).1 = 1 ∨ (A.G y).1 = 201 := fun y q => by
    rcases q with q | q <;> rw [q]
    · exact Or.inl w.kc
    · exact Or.inr w.txt.2.1
  have hW : ∀ b db ρ, WLn A b db ρ → WLn D b db ρ := fun b db ρ q => q.nx hz hG (fun y _ q => by have := kX y q; unfold KX; omega)
  have nX : ∀ y k, (A.G y).1 = k → k ≠ 1 → k ≠ 201 → ¬ (y = c ∨ y = bf) := fun y k e h1 h2 q => by
    have := kX y q
    omega
  refine ⟨by rw [(hG.2 c lc).1]; exact w.kc, by rw [hR]; exact w.now, hW _ _ _ w.lawn, w.row, by rw [hR]; exact w.past, w.deq.gw hz hG (nX _ 14 w.deq.g (by decide) (by decide)) (nX _ 502 w.deq.k (by decide) (by decide)), w.m8, fun i hi => ⟨(w.old i hi).1, (w.old i hi).2.imp fun di q => hW _ _ _ q⟩, w.kept.mv (by rw [hR]) hW, ⟨by rw [hR]; exact w.txt.1, by rw [(hG.2 bf lb).1]; exact w.txt.2.1, (hG.2 bf lb).2.1.trans w.txt.2.2.1, by rw [hI, pk_us], fun k hk => ?_, h9⟩, by rw [hR]; exact w.outR, w.out.gwI hz hG (nX _ 15 w.out.1.1 (by decide) (by decide)) (nX _ 230 w.out.1.2.2.1 (by decide) (by decide)), w.outM, by rw [hI, pk_un (by decide)]; exact w.errC, by rw [hI, pk_un (by decide)]; exact w.errP, w.de.gw hz hG, w.ic.gw hz hG (fun y _ q => ?_)⟩
  · rw [hB]
    exact apB_sg w.txt.2.2.2.2.1 k hk
  · have := kX y q
    omega
/-- the output text is another -/
theorem WCx.wr {v1 m1 n1 : Nat} {f1 : Nat → Nat} (w : WCx g A c a pq pe h bf ob v mo d f σ m P kp L Bf n0 fo e5 e6) (hz : Zk A) (hG : Gw A D (fun y => y = ob ∨ y = v)) (hs : SbV D ob v1 m1 f1 n1) (hm : m1 ≤ 200 ∧ n1 ≤ 120) :
    WCx g D c a pq pe h bf ob v1 m1 d f σ m P kp L Bf n1 f1 e5 e6 := by
  have kX : ∀ y, (y = ob ∨ y = v) → (A.G y).1 = 15 ∨ (A.G y).1 = 230 := fun y q => by
    rcases q with q | q <;> rw [q]
    · exact Or.inl w.out.1.1
    · exact Or.inr w.out.1.2.2.1
  have hW : ∀ b db ρ, WLn A b db ρ → WLn D b db ρ := fun b db ρ q => q.nx hz hG (fun y _ q => by have := kX y q; unfold KX; omega)
  have nX : ∀ y k, (A.G y).1 = k → k ≠ 15 → k ≠ 230 → ¬ (y = ob ∨ y = v) := fun y k e h1 h2 q => by
    have := kX y q
    omega
  have nc := nX c 1 w.kc (by decide) (by decide)
  have lc := hG.2 c (hz.lt w.kc rfl)
  have e := lc.2.2 nc
  refine ⟨by rw [lc.1]; exact w.kc, by rw [e.2.2]; exact w.now, hW _ _ _ w.lawn, w.row, by rw [e.2.2]; exact w.past, w.deq.gw hz hG (nX _ 14 w.deq.g (by decide) (by decide)) (nX _ 502 w.deq.k (by decide) (by decide)), w.m8, fun i hi => ⟨(w.old i hi).1, (w.old i hi).2.imp fun di q => hW _ _ _ q⟩, w.kept.mv (by rw [e.2.2]) hW, w.txt.gw hz w.kc hG nc (nX _ 201 w.txt.2.1 (by decide) (by decide)), by rw [e.2.2]; exact w.outR, hs, hm, by rw [e.2.1]; exact w.errC, by rw [e.2.1]; exact w.errP, w.de.gw hz hG, w.ic.gw hz hG (fun y _ q => ?_)⟩
  have := kX y q
  omega
theorem WCx.frTw (w : WCx g A c a pq pe h bf ob v mo d f σ m P kp L Bf n0 fo e5 e6) (hG : Gw A D (fun y => y = ob ∨ y = v)) : FrT A D := ⟨_, hG, fun y q => by
  have : (A.G y).1 = 15 ∨ (A.G y).1 = 230 := by
    rcases q with q | q <;> rw [q]
    · exact Or.inl w.out.1.1
    · exact Or.inr w.out.1.2.2.1
  unfold TwW
  omega⟩
/-- scratch and output text are written: by way of the heap whose scratch alone is -/
def midW (A D : HA) (ob v : Nat) : HA := (D.G, fun y => if y = ob ∨ y = v then A.I y else D.I y, fun y => if y = ob ∨ y = v then A.R y else D.R y, fun y => if y = ob ∨ y = v then A.L y else D.L y, D.n, D.z)
theorem midW_gs (hG : Gw A D (fun y => Sc d y ∨ y = ob ∨ y = v)) (hR : ∀ y, y < A.z → y ≠ ob → y ≠ v → D.R y = A.R y) : Gs A (midW A D ob v) d := by
  refine ⟨⟨hG.1, fun x hx => ⟨(hG.2 x hx).1, (hG.2 x hx).2.1, fun q => ?_⟩⟩, fun x hx => ?_⟩
  · by_cases e : x = ob ∨ x = v
    · exact ⟨if_pos e, if_pos e, if_pos e⟩
    · have h1 := (hG.2 x hx).2.2 (fun z => z.elim q e)
      exact ⟨(if_neg e).trans h1.1, (if_neg e).trans h1.2.1, (if_neg e).trans h1.2.2⟩
  · by_cases e : x = ob ∨ x = v
    · exact if_pos e
    · exact (if_neg e).trans (hR x hx (fun z => e (Or.inl z)) (fun z => e (Or.inr z)))
theorem midW_gw : Gw (midW A D ob v) D (fun y => y = ob ∨ y = v) := ⟨Nat.le_refl _, fun x _ => ⟨rfl, rfl, fun q => ⟨(if_neg q).symm, (if_neg q).symm, (if_neg q).symm⟩⟩⟩
/-- the lawn that is now is kept -/
theorem WCx.sv {q : Nat} {d2 : Nat → Nat} (w : WCx g A c a pq pe h bf ob v mo d f σ m P kp L Bf n0 fo e5 e6) (hz : Zk A) (hzo : Zo A) (hzB : Zk B) (hCp : Cp A B q d d2 σ) :
    WCx g (B.sR c (va_up (B.R c) 1 (some q))) c a pq pe h bf ob v mo d f σ m P (some σ) L Bf n0 fo e5 e6 := by
  have hGB := hCp.2.2.2.1
  have w2 := w.gs hz (Gs.of hGB)
  have hWq : WLn B q d2 σ := w.lawn.cp hz hzo hCp ⟨hCp.2.1, hCp.2.2.1, Sm.rf⟩ rfl rfl w.row.1.w.k6 w.row.1.w.g6 (fun _ _ => rfl)
  have hG : Gw B (B.sR c (va_up (B.R c) 1 (some q))) (fun y => y = c) := gw_sR (fun _ => rfl)
  have hW : ∀ b db ρ, WLn B b db ρ → WLn (B.sR c (va_up (B.R c) 1 (some q))) b db ρ := fun b db ρ z => z.nx hzB hG (fun y _ e => Or.inr (by rw [e]; exact w2.kc))
  have eR : (B.sR c (va_up (B.R c) 1 (some q))).R c = va_up (B.R c) 1 (some q) := sR_s _ _ _
  have n1 : ¬ pq = c := fun q => by have h9 := w2.deq.g; rw [q, w2.kc] at h9; cases h9
  have n2 : ¬ pe = c := fun q => by have h9 := w2.deq.k; rw [q, w2.kc] at h9; cases h9
  have n3 : ¬ bf = c := fun q => by have h9 := w2.txt.2.1; rw [q, w2.kc] at h9; cases h9
  have n4 : ¬ ob = c := fun q => by have h9 := w2.out.1.1; rw [q, w2.kc] at h9; cases h9
  have n5 : ¬ v = c := fun q => by have h9 := w2.out.1.2.2.1; rw [q, w2.kc] at h9; cases h9
  refine ⟨w2.kc, by rw [eR, va_up_ne _ _ (by decide)]; exact w2.now, hW _ _ _ w2.lawn, w.row, by rw [eR, va_up_ne _ _ (by decide)]; exact w2.past, w2.deq.gw hzB hG n1 n2, w.m8, fun i hi => ⟨(w2.old i hi).1, (w2.old i hi).2.imp fun di z => hW _ _ _ z⟩, ⟨fun z => (by cases z), fun ρ z => ?_⟩, w2.txt.ml (Nat.le_refl _) hzB hG n3 (by rw [eR, va_up_ne _ _ (by decide)]) w2.txt.2.2.2.1, by rw [eR, va_up_ne _ _ (by decide)]; exact w2.outR, w2.out.gwI hzB hG n4 n5, w.outM, w2.errC, w2.errP, w2.de.gw hzB hG, w2.ic.gw hzB hG (fun y _ e => ?_)⟩
  · cases z
    exact ⟨w.row, q, d2, by rw [eR, va_up_self], hW _ _ _ hWq⟩
  · rw [e, w2.kc]
    exact ⟨by decide, by decide⟩
end
