/-! the model begins -/
set_option maxRecDepth 100000
section M89B
variable {d : Nat} {a : Nat} {h : xm_H} {F : xp_F}
theorem m_put {M : Nat} (e : ∀ o k, o ≤ 70 → xm_I h (M + o) k = F o k) : h = xp_m h M F := by
  have e1 : h.2.2.2.1 = fun a k => if M ≤ a ∧ a ≤ M + 70 then F (a - M) k else h.2.2.2.1 a k := by
    funext a k
    by_cases c : M ≤ a ∧ a ≤ M + 70
    · rw [if_pos c]
      have := e (a - M) k (by omega)
      rw [show M + (a - M) = a by omega] at this
      exact this
    · rw [if_neg c]
  exact congrArg (fun y => ((h.1, h.2.1, h.2.2.1, y, h.2.2.2.2.1, h.2.2.2.2.2) : xm_H)) e1
/-- the model's first ints -/
def F0a : xp_F := fun o k => if o = 0 then (if k = 62 then -1 else if k = 45 then -1 else if k = 3 then 20 else if k = 2 then 300 else 0) else 0
def F0m : xp_F := xp_it (fun i G => xm_u2 G 16 i 20) 0 2 (xp_it (fun i G => xm_u2 G 1 i 5) 0 6 F0a)
theorem avl89 {k : Nat} : avl acts89 k 0 = if k = 62 then -1 else if k = 45 then -1 else if k = 3 then 20 else if k = 2 then 300 else 0 := by
  simp only [acts89, avl, Nat.reduceEqDiff, false_and, true_and, ↓reduceIte]
theorem c89 (o : ob 5 a h) (hz : xm_Z h = a + 1) (h0 : ∀ p, xm_I h a p = 0) : xm_met (d + 1) 89 [.ref a] h = some (.inl none, xp_m (asl a acts89 h) a F0m) ∧ MS (asl a acts89 h) a := by
  have fd : afd acts89 = true := by decide +kernel
  have nw := asl_new (a := a) (b := a) acts89 (h := h) (i := 1) o.2.2.1 hz.symm fd
  have old := asl_old (a := a) acts89 (h := h) (x := a) o.2.2.1
  have ms : MS (asl a acts89 h) a := by
    have o2 := ob.lst acts89 o
    refine ⟨o2.1, o2.2.1, fun e he => ?_⟩
    have m : ∀ e ∈ xp_ms, e ∈ adl acts89 1 := by decide +kernel
    obtain ⟨j1, j2, j3, -⟩ := nw e (m e he)
    exact ⟨j1, j2, j3⟩
  have put : asl a acts89 h = xp_m (asl a acts89 h) a F0a := m_put (fun o k ho => by
    by_cases c : o = 0
    · subst c
      rw [Nat.add_zero, old.2.2.2.1 k, if_pos rfl, h0, avl89]
      rfl
    · have m : ∀ o, o ≤ 70 → ¬ o = 0 → ∃ y ∈ adl acts89 1, y.2.1 = o := by decide +kernel
      obtain ⟨y, hy, e⟩ := m o ho c
      have j := (nw y hy).2.2.2.1 k
      rw [e] at j
      rw [j]
      exact (if_neg c).symm)
  refine ⟨?_, ms⟩
  have st : xm_met (d + 1) 89 [.ref a] h = xm_run (d + 1) 89 581 [some (.ref a)] [] (asl a acts89 h) := by
    rw [← a89_all o]
    unfold xm_met
    simp only [ite_not, ite_self, w8_nil, ok01, ite10, rf_rv, rf_ref, rf_cat, rf_lk2, rf_some, rf_none, w_add, w_cons, cr_int, cr_long, cr_ref, cr_null, is_ref, is_null, l2_int, l2_ref, l2_null, l2_none, ent_nil, ent_int, ent_ref, ent_null, ent_rf, ent_long, ok_0, ok_1, af_ret, af_void, List.tail_cons, List.tail_nil, Nat.reduceAdd, Nat.reduceLeDiff, not_false_eq_true, not_true_eq_false, and_self, and_true, true_and, ne_eq, or_true, true_or, or_false, false_or, eq_self, Nat.reduceEqDiff, ↓reduceIte, false_and, and_false, Nat.le_refl, Nat.zero_le, nz_1, nz_2, nz_3, nz_4, nz_5, nz_6, nz_8, nz_10, nz_12, nz_20, nz_30, nz_60, nz_100, r89_0, r89_1]
  obtain ⟨t1, e1, -⟩ := xp_loop (P := fun k G t => xm_run (d + 1) 89 583 (some (.ref a) :: some (.int (Int32.ofNat k)) :: t) [] (xp_m (asl a acts89 h) a G)) (n := 6) (fun _ _ => True) (f := fun i G => xm_u2 G 1 i 5) (fun k G t hk _ => by
    have c0 := lt_nat hk (by omega)
    have c0 : ¬ (6 : Int32) ≤ Int32.ofNat k := c0
    obtain ⟨i1, i2⟩ := in_nat (show k < 6 by omega) (by decide)
    refine ⟨t, ?_, trivial⟩
    show xm_run _ _ _ _ _ _ = _
    rw [r89_583]
    simp only [ite_not, ite_self, w8_nil, ok01, ite10, rf_rv, rf_ref, rf_cat, rf_lk2, rf_some, rf_none, w_add, w_cons, cr_int, cr_long, cr_ref, cr_null, is_ref, is_null, l2_int, l2_ref, l2_null, l2_none, ent_nil, ent_int, ent_ref, ent_null, ent_rf, ent_long, ok_0, ok_1, af_ret, af_void, List.tail_cons, List.tail_nil, Nat.reduceAdd, Nat.reduceLeDiff, not_false_eq_true, not_true_eq_false, and_self, and_true, true_and, ne_eq, or_true, true_or, or_false, false_or, eq_self, Nat.reduceEqDiff, ↓reduceIte, false_and, and_false, Nat.le_refl, Nat.zero_le, nz_1, nz_2, nz_3, nz_4, nz_5, nz_6, nz_8, nz_10, nz_12, nz_20, nz_30, nz_60, nz_100, mp_B, mp_Z, mp_S, mp_C, mp_K, mp_N, mp_L, mp_R, mp_I, mp_I0, mp_s, mp_s0, u2_ap, sp_isLedge, sp_isLadder, sp_isPerson, sp_isLiving, sp_isLot, sp_isThere, sp_isSpan, ms_f4 ms, ms_K ms, ms_B ms, r89_584, r89_589, r89_590, r89_593, r89_594, r89_595, r89_596, r89_599, r89_586, c0, i1, i2, nat_succ]) 6 0 F0a [] (Nat.zero_add _) trivial
  obtain ⟨t2, e2, -⟩ := xp_loop (P := fun k G t => xm_run (d + 1) 89 604 (some (.ref a) :: some (.int (Int32.ofNat k)) :: t) [] (xp_m (asl a acts89 h) a G)) (n := 2) (fun _ _ => True) (f := fun i G => xm_u2 G 16 i 20) (fun k G t hk _ => by
    have c0 := lt_nat hk (by omega)
    have c0 : ¬ (2 : Int32) ≤ Int32.ofNat k := c0
    obtain ⟨i1, i2⟩ := in_nat (show k < 2 by omega) (by decide)
    refine ⟨t, ?_, trivial⟩
    show xm_run _ _ _ _ _ _ = _
    rw [r89_604]
    simp only [ite_not, ite_self, w8_nil, ok01, ite10, rf_rv, rf_ref, rf_cat, rf_lk2, rf_some, rf_none, w_add, w_cons, cr_int, cr_long, cr_ref, cr_null, is_ref, is_null, l2_int, l2_ref, l2_null, l2_none, ent_nil, ent_int, ent_ref, ent_null, ent_rf, ent_long, ok_0, ok_1, af_ret, af_void, List.tail_cons, List.tail_nil, Nat.reduceAdd, Nat.reduceLeDiff, not_false_eq_true, not_true_eq_false, and_self, and_true, true_and, ne_eq, or_true, true_or, or_false, false_or, eq_self, Nat.reduceEqDiff, ↓reduceIte, false_and, and_false, Nat.le_refl, Nat.zero_le, nz_1, nz_2, nz_3, nz_4, nz_5, nz_6, nz_8, nz_10, nz_12, nz_20, nz_30, nz_60, nz_100, mp_B, mp_Z, mp_S, mp_C, mp_K, mp_N, mp_L, mp_R, mp_I, mp_I0, mp_s, mp_s0, u2_ap, sp_isLedge, sp_isLadder, sp_isPerson, sp_isLiving, sp_isLot, sp_isThere, sp_isSpan, ms_f20 ms, ms_K ms, ms_B ms, r89_605, r89_609, r89_610, r89_613, r89_614, r89_616, r89_617, r89_620, r89_606, c0, i1, i2, nat_succ]) 2 0 (xp_it (fun i G => xm_u2 G 1 i 5) 0 6 F0a) t1 (Nat.zero_add _) trivial
  rw [show Int32.ofNat 0 = (0 : Int32) from rfl] at e1 e2
  have c6 : (6 : Int32) ≤ Int32.ofNat 6 := by decide
  have c2' : (2 : Int32) ≤ Int32.ofNat 2 := by decide
  rw [st]
  refine Eq.trans (congrArg (fun x => xm_run (d + 1) 89 581 [some (.ref a)] [] x) put) ?_
  show xm_run (d + 1) 89 581 [some (.ref a)] [] (xp_m (asl a acts89 h) a F0a) = _
  simp only [ite_not, ite_self, w8_nil, ok01, ite10, rf_rv, rf_ref, rf_cat, rf_lk2, rf_some, rf_none, w_add, w_cons, cr_int, cr_long, cr_ref, cr_null, is_ref, is_null, l2_int, l2_ref, l2_null, l2_none, ent_nil, ent_int, ent_ref, ent_null, ent_rf, ent_long, ok_0, ok_1, af_ret, af_void, List.tail_cons, List.tail_nil, Nat.reduceAdd, Nat.reduceLeDiff, not_false_eq_true, not_true_eq_false, and_self, and_true, true_and, ne_eq, or_true, true_or, or_false, false_or, eq_self, Nat.reduceEqDiff, ↓reduceIte, false_and, and_false, Nat.le_refl, Nat.zero_le, nz_1, nz_2, nz_3, nz_4, nz_5, nz_6, nz_8, nz_10, nz_12, nz_20, nz_30, nz_60, nz_100, r89_581, r89_582]
  refine e1.trans ?_
  rw [r89_583]
  simp only [ite_not, ite_self, w8_nil, ok01, ite10, rf_rv, rf_ref, rf_cat, rf_lk2, rf_some, rf_none, w_add, w_cons, cr_int, cr_long, cr_ref, cr_null, is_ref, is_null, l2_int, l2_ref, l2_null, l2_none, ent_nil, ent_int, ent_ref, ent_null, ent_rf, ent_long, ok_0, ok_1, af_ret, af_void, List.tail_cons, List.tail_nil, Nat.reduceAdd, Nat.reduceLeDiff, not_false_eq_true, not_true_eq_false, and_self, and_true, true_and, ne_eq, or_true, true_or, or_false, false_or, eq_self, Nat.reduceEqDiff, ↓reduceIte, false_and, and_false, Nat.le_refl, Nat.zero_le, nz_1, nz_2, nz_3, nz_4, nz_5, nz_6, nz_8, nz_10, nz_12, nz_20, nz_30, nz_60, nz_100, r89_584, r89_589, r89_590, r89_593, r89_594, r89_595, r89_596, r89_599, r89_602, r89_603, r89_586, c6]
  refine e2.trans ?_
  rw [r89_604]
  simp only [ite_not, ite_self, w8_nil, ok01, ite10, rf_rv, rf_ref, rf_cat, rf_lk2, rf_some, rf_none, w_add, w_cons, cr_int, cr_long, cr_ref, cr_null, is_ref, is_null, l2_int, l2_ref, l2_null, l2_none, ent_nil, ent_int, ent_ref, ent_null, ent_rf, ent_long, ok_0, ok_1, af_ret, af_void, List.tail_cons, List.tail_nil, Nat.reduceAdd, Nat.reduceLeDiff, not_false_eq_true, not_true_eq_false, and_self, and_true, true_and, ne_eq, or_true, true_or, or_false, false_or, eq_self, Nat.reduceEqDiff, ↓reduceIte, false_and, and_false, Nat.le_refl, Nat.zero_le, nz_1, nz_2, nz_3, nz_4, nz_5, nz_6, nz_8, nz_10, nz_12, nz_20, nz_30, nz_60, nz_100, r89_605, r89_609, r89_610, r89_613, r89_614, r89_616, r89_617, r89_620, r89_623, r89_606, c2']
  rfl
end M89B
