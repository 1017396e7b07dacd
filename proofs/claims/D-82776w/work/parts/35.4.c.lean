/-! new customs, the shape -/
set_option maxRecDepth 100000
section CUS
variable {h h' : xm_H} {D D' : xp_D} {F : xp_F} {z s : Nat}
theorem cs_U8 (q : CS h D) {r : Nat} (hr : r < 2) : ∀ k, k < 4 → xd_E D (xd_A D 8 r) k = some (17, 4 * r + k) := (q.2.2.2.2.2.2.2.2.2.2.2.2.1 r hr).2.2.2.2.2.2
theorem CS.cus (q : CS h D) (w : HW h D) {r0 : Nat} (hr0 : r0 < 2) (hB : xm_B h' = xm_B h) (hK : ∀ a, a < xm_Z h → xm_K h' a = xm_K h a ∧ xm_N h' a = xm_N h a)
    (hR : ∀ a p, a < xm_Z h → ¬ (a = xd_A D 0 16 ∧ p = r0) → ¬ (a = xd_A D 0 19 ∧ p = r0) → ¬ (a = xd_A D 0 15 ∧ p = 6) → xm_R h' a p = xm_R h a p)
    (eE : ∀ a p, a < xm_Z h → ¬ a = xd_A D 7 r0 → ¬ a = xd_A D 8 r0 → xd_E D' a p = xd_E D a p) (eL : ∀ a p, a < xm_Z h → xd_L D' a p = xd_L D a p) (inj : xd_inj D') (eX : xd_X D' = xd_X D)
    (eA : ∀ k i, ¬ ((k = 7 ∨ k = 8 ∨ k = 9) ∧ i = r0) → xd_A D' k i = xd_A D k i) (en : ∀ j, xd_n D' j = xd_n D j) (em : ∀ i, xd_m D' i = xd_m D i)
    (nU : xm_R h' (xd_A D 0 19) r0 = some (xd_A D' 7 r0) ∧ cs_o h' D' (xd_A D' 7 r0) 4 cs_custom r0 ∧ xm_R h' (xd_A D' 7 r0) 0 = some (xd_A D' 8 r0) ∧ xm_K h' (xd_A D' 8 r0) = 100 ∧ xm_N h' (xd_A D' 8 r0) = 4 ∧ xm_B h' ≤ xd_A D' 8 r0 ∧ ∀ k, k < 4 → xd_E D' (xd_A D' 8 r0) k = some (17, 4 * r0 + k))
    (nW : xm_R h' (xd_A D 0 16) r0 = some (xd_A D' 9 r0) ∧ xm_K h' (xd_A D' 9 r0) = 113 ∧ xm_N h' (xd_A D' 9 r0) = 20 ∧ xm_B h' ≤ xd_A D' 9 r0) : CS h' D' := by
  have qu := cs_U q hr0
  have qu8 := cs_U8 q hr0
  have qi := cs_inj q
  have k16 := (cs_f16 q).2.1
  have k19 := (cs_f19 q).2.1
  have k15 := (cs_f15 q).2.1
  obtain ⟨q1, q2, q3, q4, q5, q6, q7, q8, q9, q10, q11, q12, q13, q14, q15, q16, q17, q18⟩ := q
  have KK : ∀ {a k : Nat}, xm_K h a = k → ¬ k = 0 → xm_K h' a = k := fun e hk => (hK _ (w.lt e hk)).1.trans e
  have NN : ∀ {a k n : Nat}, xm_K h a = k → ¬ k = 0 → xm_N h a = n → xm_N h' a = n := fun e hk e2 => (hK _ (w.lt e hk)).2.trans e2
  have RR : ∀ {a k : Nat} (p : Nat), xm_K h a = k → (¬ k = 0 ∧ ¬ k = 3 ∧ ¬ k = 112 ∧ ¬ k = 114) → xm_R h' a p = xm_R h a p := fun {a k} p e hk => hR a p (w.lt e hk.1) (fun y => by
    rw [y.1] at e
    exact hk.2.2.1 (e.symm.trans k16)) (fun y => by
    rw [y.1] at e
    exact hk.2.2.2 (e.symm.trans k19)) (fun y => by
    rw [y.1] at e
    exact hk.2.1 (e.symm.trans k15))
  have EE : ∀ {a k : Nat} (p : Nat), xm_K h a = k → (¬ k = 0 ∧ ¬ k = 4 ∧ ¬ k = 100) → xd_E D' a p = xd_E D a p := fun {a k} p e hk => eE a p (w.lt e hk.1) (fun y => by
    rw [y] at e
    exact hk.2.1 (e.symm.trans qu.2.1)) (fun y => by
    rw [y] at e
    exact hk.2.2 (e.symm.trans qu.2.2.2.2.2.2.2.2.1))
  have E100 : ∀ {a o k : Nat} (p : Nat), xm_K h a = 100 → xd_E D a 0 = some (o, k) → ¬ (o = 17 ∧ k = 4 * r0 + 0) → xd_E D' a p = xd_E D a p := fun {a o k} p e e0 hk => eE a p (w.lt e (by decide)) (fun y => by
    rw [y] at e
    exact absurd (e.symm.trans qu.2.1) (by decide)) (fun y => by
    rw [y, qu8 0 (by decide)] at e0
    have := Option.some.inj e0
    exact hk ⟨(congrArg Prod.fst this).symm, (congrArg Prod.snd this).symm⟩)
  have RX : ∀ p, xm_R h' (xd_X D) p = xm_R h (xd_X D) p := fun p => RR p q2 (by decide)
  have co : ∀ {a kd L i}, cs_o h D a kd L i → (¬ kd = 0 ∧ ¬ kd = 4 ∧ ¬ kd = 100) → cs_o h' D' a kd L i := fun ⟨c1, c2, c3⟩ hk => ⟨KK c1 hk.1, by rw [hB]; exact c2, fun y hy => (EE _ c1 hk).trans (c3 y hy)⟩
  have a0 : ∀ k, xd_A D' 0 k = xd_A D 0 k := fun k => eA 0 k (by omega)
  refine ⟨inj, by rw [eX]; exact KK q2 (by decide), by rw [hB, eX]; exact q3, fun y hy => by rw [eX, EE _ q2 (by decide)]; exact q4 y hy, fun y hy => ?_, fun y hy => ?_, fun y hy => ?_, fun l hl => ?_, fun l hl => ?_, fun p hp => ?_, fun i hi => ?_, fun b hb => ?_, fun r hr => ?_, fun r hr => ?_, fun k hk => ?_, ?_, fun k hk => ?_, ?_⟩
  · obtain ⟨a1, a2, a3, a4, a5⟩ := q5 y hy
    have nz : ¬ y.2.1 = 0 := by
      have : ∀ y ∈ cs_ar, ¬ y.2.1 = 0 := by decide
      exact this y hy
    have n17 : ¬ y.2.2.2 = 17 := by
      have : ∀ y ∈ cs_ar, ¬ y.2.2.2 = 17 := by decide
      exact this y hy
    have k01 : y.2.1 = 100 ∨ (¬ y.2.1 = 0 ∧ ¬ y.2.1 = 4 ∧ ¬ y.2.1 = 100) := by
      have : ∀ y ∈ cs_ar, y.2.1 = 100 ∨ (¬ y.2.1 = 0 ∧ ¬ y.2.1 = 4 ∧ ¬ y.2.1 = 100) := by decide
      exact this y hy
    rw [eX, a0]
    refine ⟨by rw [RX]; exact a1, KK a2 nz, NN a2 nz a3, by rw [hB]; exact a4, fun k => ?_⟩
    rcases k01 with k01 | k01
    · rw [E100 k (a2.trans k01) (a5 0) (fun z => n17 z.1)]
      exact a5 k
    · rw [EE k a2 k01]
      exact a5 k
  · obtain ⟨a1, a2, a3, a4⟩ := q6 y hy
    have nz : ¬ y.2.1 = 0 := by
      have : ∀ y ∈ cs_oa, ¬ y.2.1 = 0 := by decide
      exact this y hy
    rw [eX, a0]
    exact ⟨by rw [RX]; exact a1, KK a2 nz, NN a2 nz a3, by rw [hB]; exact a4⟩
  · obtain ⟨a1, a2, a3⟩ := q7 y hy
    have nz : ¬ y.2 = 0 := by
      have : ∀ y ∈ cs_ob, ¬ y.2 = 0 := by decide
      exact this y hy
    rw [eX, a0]
    exact ⟨by rw [RX]; exact a1, KK a2 nz, by rw [hB]; exact a3⟩
  · rw [en] at hl
    obtain ⟨a1, a2, a3⟩ := q8 l hl
    rw [a0, eA 1 l (by omega)]
    exact ⟨by rw [RR l (q6 (0, 110, 12) (by decide)).2.1 (by decide)]; exact a1, co a2 (by decide), (eL _ _ (w.lt a2.1 (by decide))).trans a3⟩
  · rw [en] at hl
    obtain ⟨a1, a2, a3⟩ := q9 l hl
    rw [a0, eA 2 l (by omega)]
    exact ⟨by rw [RR l (q6 (1, 110, 12) (by decide)).2.1 (by decide)]; exact a1, co a2 (by decide), (eL _ _ (w.lt a2.1 (by decide))).trans a3⟩
  · rw [en] at hp
    obtain ⟨a1, a2⟩ := q10 p hp
    rw [a0, eA 3 p (by omega)]
    exact ⟨by rw [RR p (q6 (30, 115, 16) (by decide)).2.1 (by decide)]; exact a1, co a2 (by decide)⟩
  · rw [en] at hi
    obtain ⟨a1, a2, a3⟩ := q11 i hi
    rw [a0, eA 4 i (by omega), eA 5 i (by omega), em, eX]
    have b3 : xm_R h' (xd_A D 0 36) i = xm_R h (xd_A D 0 36) i := RR i (q6 (36, 116, 40) (by decide)).2.1 (by decide)
    cases ec : xd_m D i with
    | none =>
      rw [ec] at a3
      obtain ⟨f1, f2, f3, f4, f5, f6, f7⟩ := a3
      have R4 : ∀ p, xm_R h' (xd_A D 4 i) p = xm_R h (xd_A D 4 i) p := fun p => RR p f1.1 (by decide)
      exact ⟨by rw [b3]; exact a1, by rw [R4]; exact a2, co f1 (by decide), by rw [R4]; exact f2, by rw [R4]; exact f3, KK f4 (by decide), NN f4 (by decide) f5, by rw [hB]; exact f6, fun l hl => (E100 l f4 (f7 0 (by decide)) (by omega)).trans (f7 l hl)⟩
    | some y =>
      obtain ⟨a, b⟩ := y
      rw [ec] at a3
      obtain ⟨f1, f2, f3, f4, f5, f6⟩ := a3
      have R4 : ∀ p, xm_R h' (xd_A D 4 i) p = xm_R h (xd_A D 4 i) p := fun p => RR p f1.1 (by decide)
      exact ⟨by rw [b3]; exact a1, by rw [R4]; exact a2, co f1 (by decide), f2, f3, by rw [R4, eA 4 a (by omega)]; exact f4, by rw [R4, eA 4 b (by omega)]; exact f5, by rw [R4]; exact f6⟩
  · rw [en] at hb
    obtain ⟨a1, a2⟩ := q12 b hb
    rw [a0, eA 6 b (by omega)]
    exact ⟨by rw [RR b (q6 (38, 117, 4) (by decide)).2.1 (by decide)]; exact a1, co a2 (by decide)⟩
  · rw [a0]
    by_cases c : r = r0
    · rw [c]
      exact nU
    · obtain ⟨a1, a2, a3, a4, a5, a6, a7⟩ := q13 r hr
      have n7 : ¬ xd_A D 7 r = xd_A D 7 r0 := fun y => by
        have e1 := a2.2.2 (1, 15) (by decide)
        have e1 : xd_E D (xd_A D 7 r) 1 = some (15, r) := e1
        rw [y, qu.2.2.2.1] at e1
        exact c (congrArg Prod.snd (Option.some.inj e1)).symm
      have n78 : ¬ xd_A D 7 r = xd_A D 8 r0 := fun y => by
        have e := a2.1
        rw [y] at e
        exact absurd (e.symm.trans qu.2.2.2.2.2.2.2.2.1) (by decide)
      have z7 := w.lt a2.1 (by decide)
      rw [eA 7 r (by omega), eA 8 r (by omega)]
      refine ⟨?_, ⟨KK a2.1 (by decide), by rw [hB]; exact a2.2.1, fun y hy => (eE _ _ z7 n7 n78).trans (a2.2.2 y hy)⟩, ?_, KK a4 (by decide), NN a4 (by decide) a5, by rw [hB]; exact a6, fun k hk => (E100 k a4 (a7 0 (by decide)) (by omega)).trans (a7 k hk)⟩
      · rw [hR _ _ (w.lt k19 (by decide)) (fun y => by
          rw [y.1] at k19
          exact absurd (k16.symm.trans k19) (by decide)) (fun y => c y.2) (fun y => by
          rw [y.1] at k19
          exact absurd (k15.symm.trans k19) (by decide))]
        exact a1
      · rw [RR 0 a2.1 (by decide)]
        exact a3
  · rw [a0]
    by_cases c : r = r0
    · rw [c]
      exact nW
    · obtain ⟨a1, a2, a3, a4⟩ := q14 r hr
      rw [eA 9 r (by omega)]
      refine ⟨?_, KK a2 (by decide), NN a2 (by decide) a3, by rw [hB]; exact a4⟩
      rw [hR _ _ (w.lt k16 (by decide)) (fun y => c y.2) (fun y => by
          rw [y.1] at k16
          exact absurd (k19.symm.trans k16) (by decide)) (fun y => by
          rw [y.1] at k16
          exact absurd (k15.symm.trans k16) (by decide))]
      exact a1
  · rw [a0, EE _ (q7 (15, 3) (by decide)).2.1 (by decide)]
    exact q15 k hk
  · rw [a0, eX, hR _ _ (w.lt k15 (by decide)) (fun y => by
      rw [y.1] at k15
      exact absurd (k16.symm.trans k15) (by decide)) (fun y => by
      rw [y.1] at k15
      exact absurd (k19.symm.trans k15) (by decide)) (by omega)]
    exact q16
  · rw [a0, EE _ (q7 (13, 2) (by decide)).2.1 (by decide)]
    exact q17 k hk
  · rw [en, en, en, en]
    exact q18
end CUS
