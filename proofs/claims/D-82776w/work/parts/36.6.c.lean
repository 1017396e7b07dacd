/-! the component begins -/
set_option maxRecDepth 100000
/-- the component's plain rows and where they lie -/
def plr : List (Nat × Nat × Nat × Nat) := adl acts0_0 1 ++ (adl acts0_1 4 ++ (adl acts0_2 12 ++ adl acts0_3 19))
/-- the component as it begins -/
def FE (h : xm_H) (a : Nat) (q : Nat → Nat) (hE : xm_H) : Prop := ob 1 a hE ∧ xm_B hE = xm_B h ∧ xm_C hE = xm_C h ∧ xm_Z hE = a + 35 ∧ xm_S hE = xm_S h + 1265 ∧
  (∀ x, x < a → xm_K hE x = xm_K h x ∧ xm_N hE x = xm_N h x ∧ ∀ p, xm_L hE x p = xm_L h x p ∧ xm_I hE x p = xm_I h x p ∧ xm_R hE x p = xm_R h x p) ∧
  (∀ y ∈ plr, xm_R hE a y.1 = some (a + y.2.1) ∧ xm_K hE (a + y.2.1) = y.2.2.1 ∧ xm_N hE (a + y.2.1) = y.2.2.2 ∧ ∀ p, xm_I hE (a + y.2.1) p = 0) ∧
  (xm_R hE a 2 = some (a + 3) ∧ xm_K hE (a + 3) = 100 ∧ xm_N hE (a + 3) = 6 ∧ ∀ p, xm_I hE (a + 3) p = if p < 6 then 5 else 0) ∧
  (xm_R hE a 13 = some (a + 6) ∧ xm_K hE (a + 6) = 2 ∧ ∀ p, xm_I hE (a + 6) p = 0) ∧
  (xm_R hE a 14 = some (a + 7) ∧ xm_K hE (a + 7) = 111 ∧ xm_N hE (a + 7) = 21 ∧ ∀ k, k < 21 → xm_R hE (a + 7) k = some (q k)) ∧
  (xm_R hE a 15 = some (a + 8) ∧ xm_K hE (a + 8) = 3 ∧ xm_R hE (a + 8) 7 = some a ∧ ∀ p, xm_I hE (a + 8) p = 0) ∧
  (xm_R hE a 16 = some (a + 9) ∧ xm_K hE (a + 9) = 112 ∧ xm_N hE (a + 9) = 2 ∧ xm_R hE (a + 9) 0 = some (a + 10) ∧ xm_R hE (a + 9) 1 = some (a + 11) ∧ xm_K hE (a + 10) = 113 ∧ xm_N hE (a + 10) = 20 ∧ xm_K hE (a + 11) = 113 ∧ xm_N hE (a + 11) = 20) ∧
  (xm_R hE a 19 = some (a + 14) ∧ xm_K hE (a + 14) = 114 ∧ xm_N hE (a + 14) = 2 ∧ (xm_R hE (a + 14) 0 = some (a + 15) ∧ xm_K hE (a + 15) = 4 ∧ xm_R hE (a + 15) 0 = some (a + 16) ∧ xm_K hE (a + 16) = 100 ∧ xm_N hE (a + 16) = 4 ∧ (∀ p, xm_I hE (a + 15) p = if p = 2 then 20 else 0) ∧ ∀ p, xm_I hE (a + 16) p = 0) ∧ xm_R hE (a + 14) 1 = some (a + 17) ∧ xm_K hE (a + 17) = 4 ∧ xm_R hE (a + 17) 0 = some (a + 18) ∧ xm_K hE (a + 18) = 100 ∧ xm_N hE (a + 18) = 4 ∧ (∀ p, xm_I hE (a + 17) p = if p = 2 then 20 else 0) ∧ ∀ p, xm_I hE (a + 18) p = 0) ∧
  ∀ e ∈ cs_sc, xm_I hE a e.1 = F0m e.2.1 e.2.2
section M0D
variable {d : Nat} {a : Nat} {h : xm_H}
theorem c0 (o : ob 1 a h) (hz : xm_Z h = a + 1) (h0 : ∀ p, xm_I h a p = 0) {q : Nat → Nat} (cq : ∀ k, k < 21 → xm_C h k = .ref (q k) ∧ xm_K h (q k) = 28) {q1 q2 : Nat} (c1 : xm_C h 104 = .ref q1) (c2' : xm_C h 105 = .ref q2) : ∃ hE, xm_met (d + 4) 0 [.ref a] h = some (.inl none, hE) ∧ FE h a q hE := by
  have qa : ∀ k, k < 21 → q k < a + 1 := fun k hk => by
    false_or_by_contra
    have e := (cq k hk).2
    rw [o.2.2.2 _ (by omega)] at e
    exact absurd e (by decide)
  have qn : ∀ k, k < 21 → ¬ q k = a := fun k hk y => by
    have e := (cq k hk).2
    rw [y, o.1] at e
    exact absurd e (by decide)
  -- 1
  have g1 := og.lst acts0_0 o
  have e1 := a0_0_all (d := d + 3) o
  have n1 := asl_new (a := a) (b := a) acts0_0 (h := h) (i := 1) o.2.2.1 hz.symm (by decide +kernel)
  have v1 := (asl_old (a := a) acts0_0 (h := h) (x := a) o.2.2.1).2.2.2.1
  generalize asl a acts0_0 h = h1 at g1 e1 n1 v1
  have z1 : xm_Z h1 = a + 3 := by rw [g1.2.2.1, hz]; rfl
  -- 2
  obtain ⟨h2, e2, g2, f2⟩ := s0_2 (d := d + 3) g1.2.2.2.2.1
  rw [z1] at f2
  have z2 : xm_Z h2 = a + 4 := by rw [g2.2.2.1, z1]
  -- 3
  have g3 := og.lst acts0_1 g2.2.2.2.2.1
  have e3 := a0_1_all (d := d + 3) g2.2.2.2.2.1
  have n3 := asl_new (a := a) (b := a) acts0_1 (h := h2) (i := 4) g2.2.2.2.2.1.2.2.1 z2.symm (by decide +kernel)
  have v3 := (asl_old (a := a) acts0_1 (h := h2) (x := a) g2.2.2.2.2.1.2.2.1).2.2.2.1
  generalize asl a acts0_1 h2 = h3 at g3 e3 n3 v3
  have z3 : xm_Z h3 = a + 6 := by rw [g3.2.2.1, z2]; rfl
  have C3 : xm_C h3 = xm_C h := g3.2.1.trans (g2.2.1.trans g1.2.1)
  -- 4
  obtain ⟨h4, e4, g4, f4⟩ := s0_13 (d := d) g3.2.2.2.2.1 (q1 := q1) (q2 := q2) (by rw [C3]; exact c1) (by rw [C3]; exact c2')
  rw [z3] at f4
  have z4 : xm_Z h4 = a + 7 := by rw [g4.2.2.1, z3]
  -- 5
  have cq4 : ∀ k, k < 21 → xm_C h4 k = .ref (q k) ∧ xm_K h4 (q k) = 28 := fun k hk => by
    have l := qa k hk
    have kk := (cq k hk).2
    refine ⟨by rw [g4.2.1, C3]; exact (cq k hk).1, ?_⟩
    rw [g4.K (by omega), g3.K (by omega), g2.K (by omega), g1.K (by omega)]
    exact kk
  obtain ⟨h5, e5, g5, f5⟩ := s0_14 (d := d + 3) g4.2.2.2.2.1 cq4
  rw [z4] at f5
  have z5 : xm_Z h5 = a + 8 := by rw [g5.2.2.1, z4]
  -- 6
  obtain ⟨h6, e6, g6, f6⟩ := s0_15 (d := d + 2) g5.2.2.2.2.1
  rw [z5] at f6
  have z6 : xm_Z h6 = a + 9 := by rw [g6.2.2.1, z5]
  -- 7
  obtain ⟨h7, e7, g7, f7⟩ := s0_16 (d := d + 3) g6.2.2.2.2.1
  rw [z6] at f7
  have z7 : xm_Z h7 = a + 12 := by rw [g7.2.2.1, z6]
  -- 8
  have g8 := og.lst acts0_2 g7.2.2.2.2.1
  have e8 := a0_2_all (d := d + 3) g7.2.2.2.2.1
  have n8 := asl_new (a := a) (b := a) acts0_2 (h := h7) (i := 12) g7.2.2.2.2.1.2.2.1 z7.symm (by decide +kernel)
  have v8 := (asl_old (a := a) acts0_2 (h := h7) (x := a) g7.2.2.2.2.1.2.2.1).2.2.2.1
  generalize asl a acts0_2 h7 = h8 at g8 e8 n8 v8
  have z8 : xm_Z h8 = a + 14 := by rw [g8.2.2.1, z7]; rfl
  -- 9
  obtain ⟨h9, e9, g9, f9⟩ := s0_19 (d := d + 2) g8.2.2.2.2.1
  rw [z8] at f9
  have z9 : xm_Z h9 = a + 19 := by rw [g9.2.2.1, z8]
  -- 10
  have g10 := og.lst acts0_3 g9.2.2.2.2.1
  have e10 := a0_3_all (d := d + 3) g9.2.2.2.2.1
  have n10 := asl_new (a := a) (b := a) acts0_3 (h := h9) (i := 19) g9.2.2.2.2.1.2.2.1 z9.symm (by decide +kernel)
  have v10 := (asl_old (a := a) acts0_3 (h := h9) (x := a) g9.2.2.2.2.1.2.2.1).2.2.2.1
  generalize asl a acts0_3 h9 = hE at g10 e10 n10 v10
  have zE : xm_Z hE = a + 35 := by rw [g10.2.2.1, z9]; rfl
  have t9 := g10
  have t8 := g9.tr t9
  have t7 := g8.tr t8
  have t6 := g7.tr t7
  have t5 := g6.tr t6
  have t4 := g5.tr t5
  have t3 := g4.tr t4
  have t2 := g3.tr t3
  have t1 := g2.tr t2
  have t0 := g1.tr t1
  refine ⟨hE, ?_, t0.2.2.2.2.1, t0.1, t0.2.1, zE, t0.2.2.2.1.trans (congrArg (fun n => xm_S h + n) (by decide +kernel)), fun x hx => ?_, fun y hy => ?_, ?_, ?_, ?_, ?_, ?_, ?_, fun e he => ?_⟩
  · unfold xm_met
    simp only [ite_not, ite_self, w8_nil, ok01, ite10, rf_rv, rf_ref, rf_cat, rf_lk2, rf_some, rf_none, w_add, w_cons, cr_int, cr_long, cr_ref, cr_null, is_ref, is_null, l2_int, l2_ref, l2_null, l2_none, ent_nil, ent_int, ent_ref, ent_null, ent_rf, ent_long, ok_0, ok_1, af_ret, af_void, List.tail_cons, List.tail_nil, Nat.reduceAdd, Nat.reduceLeDiff, not_false_eq_true, not_true_eq_false, and_self, and_true, true_and, ne_eq, or_true, true_or, or_false, false_or, eq_self, Nat.reduceEqDiff, ↓reduceIte, false_and, and_false, Nat.le_refl, Nat.zero_le, nz_1, nz_2, nz_3, nz_4, nz_5, nz_6, nz_8, nz_10, nz_12, nz_20, nz_30, nz_60, nz_100, r0_0, r0_1]
    refine e1.trans (e2.trans (e3.trans (e4.trans (e5.trans (e6.trans (e7.trans (e8.trans (e9.trans (e10.trans ?_)))))))))
    simp only [ite_not, ite_self, w8_nil, ok01, ite10, rf_rv, rf_ref, rf_cat, rf_lk2, rf_some, rf_none, w_add, w_cons, cr_int, cr_long, cr_ref, cr_null, is_ref, is_null, l2_int, l2_ref, l2_null, l2_none, ent_nil, ent_int, ent_ref, ent_null, ent_rf, ent_long, ok_0, ok_1, af_ret, af_void, List.tail_cons, List.tail_nil, Nat.reduceAdd, Nat.reduceLeDiff, not_false_eq_true, not_true_eq_false, and_self, and_true, true_and, ne_eq, or_true, true_or, or_false, false_or, eq_self, Nat.reduceEqDiff, ↓reduceIte, false_and, and_false, Nat.le_refl, Nat.zero_le, nz_1, nz_2, nz_3, nz_4, nz_5, nz_6, nz_8, nz_10, nz_12, nz_20, nz_30, nz_60, nz_100, r0_427]
  · have hx' : x < xm_Z h := by omega
    exact ⟨t0.K hx', t0.N hx', fun p => ⟨((t0.2.2.2.2.2 x hx').2.2 p).1, t0.I hx' (fun y => by omega), t0.R hx' (fun y => by omega)⟩⟩
  · rcases List.mem_append.mp hy with hy | hy
    · obtain ⟨j1, j2, j3, j4, -, j6, j7⟩ := n1 y hy
      have nf : ∀ y ∈ adl acts0_0 1, ¬ y.1 ∈ [2] ++ (acts0_1.map (·.1) ++ ([13] ++ ([14] ++ ([15] ++ ([16] ++ (acts0_2.map (·.1) ++ ([19] ++ acts0_3.map (·.1)))))))) := by decide +kernel
      exact ⟨(t1.R (by omega) (fun z => nf y hy z.2)).trans j1, (t1.K j7).trans j2, (t1.N j7).trans j3, fun p => (t1.I j7 (fun z => by omega)).trans (j4 p)⟩
    rcases List.mem_append.mp hy with hy | hy
    · obtain ⟨j1, j2, j3, j4, -, j6, j7⟩ := n3 y hy
      have nf : ∀ y ∈ adl acts0_1 4, ¬ y.1 ∈ [13] ++ ([14] ++ ([15] ++ ([16] ++ (acts0_2.map (·.1) ++ ([19] ++ acts0_3.map (·.1)))))) := by decide +kernel
      exact ⟨(t3.R (by omega) (fun z => nf y hy z.2)).trans j1, (t3.K j7).trans j2, (t3.N j7).trans j3, fun p => (t3.I j7 (fun z => by omega)).trans (j4 p)⟩
    rcases List.mem_append.mp hy with hy | hy
    · obtain ⟨j1, j2, j3, j4, -, j6, j7⟩ := n8 y hy
      have nf : ∀ y ∈ adl acts0_2 12, ¬ y.1 ∈ [19] ++ acts0_3.map (·.1) := by decide +kernel
      exact ⟨(t8.R (by omega) (fun z => nf y hy z.2)).trans j1, (t8.K j7).trans j2, (t8.N j7).trans j3, fun p => (t8.I j7 (fun z => by omega)).trans (j4 p)⟩
    · obtain ⟨j1, j2, j3, j4, -, j6, j7⟩ := n10 y hy
      exact ⟨j1, j2, j3, j4⟩
  · obtain ⟨j1, j2, j3, j4⟩ := f2
    exact ⟨(t2.R (by omega) (fun z => absurd z.2 (show ¬ 2 ∈ acts0_1.map (·.1) ++ ([13] ++ ([14] ++ ([15] ++ ([16] ++ (acts0_2.map (·.1) ++ ([19] ++ acts0_3.map (·.1))))))) by decide +kernel))).trans j1, (t2.K (by omega)).trans j2, (t2.N (by omega)).trans j3, fun p => (t2.I (by omega) (fun z => by omega)).trans (j4 p)⟩
  · obtain ⟨j1, j2, j3⟩ := f4
    exact ⟨(t4.R (by omega) (fun z => absurd z.2 (show ¬ 13 ∈ [14] ++ ([15] ++ ([16] ++ (acts0_2.map (·.1) ++ ([19] ++ acts0_3.map (·.1))))) by decide +kernel))).trans j1, (t4.K (by omega)).trans j2, fun p => (t4.I (by omega) (fun z => by omega)).trans (j3 p)⟩
  · obtain ⟨j1, j2, j3, j4⟩ := f5
    exact ⟨(t5.R (by omega) (fun z => absurd z.2 (show ¬ 14 ∈ [15] ++ ([16] ++ (acts0_2.map (·.1) ++ ([19] ++ acts0_3.map (·.1)))) by decide +kernel))).trans j1, (t5.K (by omega)).trans j2, (t5.N (by omega)).trans j3, fun k hk => (t5.R (by omega) (fun z => by omega)).trans (j4 k hk)⟩
  · obtain ⟨j1, j2, j3, j4⟩ := f6
    exact ⟨(t6.R (by omega) (fun z => absurd z.2 (show ¬ 15 ∈ [16] ++ (acts0_2.map (·.1) ++ ([19] ++ acts0_3.map (·.1))) by decide +kernel))).trans j1, (t6.K (by omega)).trans j2, (t6.R (by omega) (fun z => by omega)).trans j3, fun p => (t6.I (by omega) (fun z => by omega)).trans (j4 p)⟩
  · obtain ⟨j1, j2, j3, j4, j5, j6, j7, j8, j9⟩ := f7
    exact ⟨(t7.R (by omega) (fun z => absurd z.2 (show ¬ 16 ∈ acts0_2.map (·.1) ++ ([19] ++ acts0_3.map (·.1)) by decide +kernel))).trans j1, (t7.K (by omega)).trans j2, (t7.N (by omega)).trans j3, (t7.R (by omega) (fun z => by omega)).trans j4, (t7.R (by omega) (fun z => by omega)).trans j5, (t7.K (by omega)).trans j6, (t7.N (by omega)).trans j7, (t7.K (by omega)).trans j8, (t7.N (by omega)).trans j9⟩
  · obtain ⟨j1, j2, j3, ⟨a1, a2, a3, a4, a5, a6, a7⟩, b1, b2, b3, b4, b5, b6, b7⟩ := f9
    exact ⟨(t9.R (by omega) (fun z => absurd z.2 (show ¬ 19 ∈ acts0_3.map (·.1) by decide +kernel))).trans j1, (t9.K (by omega)).trans j2, (t9.N (by omega)).trans j3, ⟨(t9.R (by omega) (fun z => by omega)).trans a1, (t9.K (by omega)).trans a2, (t9.R (by omega) (fun z => by omega)).trans a3, (t9.K (by omega)).trans a4, (t9.N (by omega)).trans a5, fun p => (t9.I (by omega) (fun z => by omega)).trans (a6 p), fun p => (t9.I (by omega) (fun z => by omega)).trans (a7 p)⟩, (t9.R (by omega) (fun z => by omega)).trans b1, (t9.K (by omega)).trans b2, (t9.R (by omega) (fun z => by omega)).trans b3, (t9.K (by omega)).trans b4, (t9.N (by omega)).trans b5, fun p => (t9.I (by omega) (fun z => by omega)).trans (b6 p), fun p => (t9.I (by omega) (fun z => by omega)).trans (b7 p)⟩
  · have nf : ∀ e ∈ cs_sc, ¬ e.1 ∈ [2] ∧ ¬ e.1 ∈ [13] ∧ ¬ e.1 ∈ [14] ∧ ¬ e.1 ∈ [15] ∧ ¬ e.1 ∈ [16] ∧ ¬ e.1 ∈ [19] := by decide +kernel
    obtain ⟨f2', f13, f14, f15, f16, f19⟩ := nf e he
    rw [v10, if_pos rfl, g9.I (by omega) (fun z => f19 z.2), v8, if_pos rfl, g7.I (by omega) (fun z => f16 z.2), g6.I (by omega) (fun z => f15 z.2), g5.I (by omega) (fun z => f14 z.2), g4.I (by omega) (fun z => f13 z.2), v3, if_pos rfl, g2.I (by omega) (fun z => f2' z.2), v1, if_pos rfl, h0]
    have all : ∀ e ∈ cs_sc, avl acts0_3 e.1 (avl acts0_2 e.1 (avl acts0_1 e.1 (avl acts0_0 e.1 0))) = F0m e.2.1 e.2.2 := by decide +kernel
    exact all e he
end M0D
