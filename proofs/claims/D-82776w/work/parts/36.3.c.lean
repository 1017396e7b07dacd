/-! the component's first fields -/
set_option maxRecDepth 100000
section M0
variable {d : Nat} {a : Nat} {h h1 h2 hB : xm_H}
/-- fields fs of a are laid; else as it was -/
def og (z s a : Nat) (fs : List Nat) (h h' : xm_H) : Prop := xm_B h' = xm_B h ∧ xm_C h' = xm_C h ∧ xm_Z h' = xm_Z h + z ∧ xm_S h' = xm_S h + s ∧ ob 1 a h' ∧ ∀ x, x < xm_Z h → xm_K h' x = xm_K h x ∧ xm_N h' x = xm_N h x ∧ ∀ p, xm_L h' x p = xm_L h x p ∧ (¬ (x = a ∧ p ∈ fs) → xm_I h' x p = xm_I h x p ∧ xm_R h' x p = xm_R h x p)
theorem og.tr {z s z2 s2 : Nat} {f g : List Nat} (x : og z s a f h h1) (y : og z2 s2 a g h1 h2) : og (z + z2) (s + s2) a (f ++ g) h h2 := by
  obtain ⟨a1, a2, a3, a4, a5, a6⟩ := x
  obtain ⟨b1, b2, b3, b4, b5, b6⟩ := y
  refine ⟨b1.trans a1, b2.trans a2, by omega, by omega, b5, fun x hx => ?_⟩
  obtain ⟨c1, c2, c3⟩ := a6 x hx
  obtain ⟨d1, d2, d3⟩ := b6 x (by omega)
  refine ⟨d1.trans c1, d2.trans c2, fun p => ⟨(d3 p).1.trans (c3 p).1, fun hn => ?_⟩⟩
  have e1 := (c3 p).2 (fun y => hn ⟨y.1, List.mem_append_left _ y.2⟩)
  have e2 := (d3 p).2 (fun y => hn ⟨y.1, List.mem_append_right _ y.2⟩)
  exact ⟨e2.1.trans e1.1, e2.2.trans e1.2⟩
theorem og.lst (l : List (Nat × Nat × Nat × Int32)) (o : ob 1 a h) : og (acn l) (asz l) a (l.map (·.1)) h (asl a l h) := by
  obtain ⟨z1, z2, z3, z4⟩ := asl_Z (a := a) l (h := h)
  refine ⟨z3, z4, z1, z2, ob.lst l o, fun x hx => ?_⟩
  obtain ⟨i1, i2, i3, i4, i5⟩ := asl_old (a := a) l (h := h) hx
  refine ⟨i1, i2, fun p => ⟨i3 p, fun hn => ⟨?_, i5 p (fun y => ?_)⟩⟩⟩
  · rw [i4]
    by_cases c : x = a
    · rw [if_pos c]
      have hp : ∀ l' : List (Nat × Nat × Nat × Int32), (∀ e ∈ l', ¬ p = e.1) → ∀ v, avl l' p v = v := by
        intro l'
        induction l' with
        | nil => exact fun _ _ => rfl
        | cons e l' ih =>
          intro hl v
          show avl l' p (if e.2.1 = 0 ∧ p = e.1 then e.2.2.2 else v) = v
          rw [if_neg (fun y => hl e List.mem_cons_self y.2)]
          exact ih (fun e he => hl e (List.mem_cons_of_mem _ he)) v
      exact hp l (fun e he y => hn ⟨c, List.mem_map.mpr ⟨e, he, y.symm⟩⟩) _
    · rw [if_neg c]
  · obtain ⟨y1, e, he, -, y2⟩ := y
    exact hn ⟨y1, List.mem_map.mpr ⟨e, he, y2.symm⟩⟩
theorem og.ofx {z s f : Nat} {v : Option Nat} (x : hx z s h hB) (ez : xm_Z hB = xm_Z h + z) (es : xm_S hB = xm_S h + s) (k0 : ∀ x, xm_Z hB ≤ x → xm_K hB x = 0) (o : ob 1 a h) : og z s a [f] h (xm_sR hB a f v) := by
  obtain ⟨x1, x2, x3, x4, x5, x6⟩ := x
  obtain ⟨o1, o2, o3, o4⟩ := o
  refine ⟨x1, x2, ez, es, ⟨(x6 a o3).1.trans o1, by rw [show xm_B (xm_sR hB a f v) = xm_B h from x1]; exact o2, by show a < xm_Z hB; omega, k0⟩, fun x hx => ?_⟩
  obtain ⟨c1, c2, c3⟩ := x6 x hx
  refine ⟨c1, c2, fun p => ⟨(c3 p).2.1, fun hn => ⟨(c3 p).1, ?_⟩⟩⟩
  rw [h_R_sR, if_neg (fun y => hn ⟨y.1, by rw [y.2]; exact List.mem_singleton.mpr rfl⟩)]
  exact (c3 p).2.2
theorem og.K {z s : Nat} {fs : List Nat} (x : og z s a fs h h1) {b : Nat} (hb : b < xm_Z h) : xm_K h1 b = xm_K h b := (x.2.2.2.2.2 b hb).1
theorem og.N {z s : Nat} {fs : List Nat} (x : og z s a fs h h1) {b : Nat} (hb : b < xm_Z h) : xm_N h1 b = xm_N h b := (x.2.2.2.2.2 b hb).2.1
theorem og.I {z s : Nat} {fs : List Nat} (x : og z s a fs h h1) {b p : Nat} (hb : b < xm_Z h) (hn : ¬ (b = a ∧ p ∈ fs)) : xm_I h1 b p = xm_I h b p := (((x.2.2.2.2.2 b hb).2.2 p).2 hn).1
theorem og.R {z s : Nat} {fs : List Nat} (x : og z s a fs h h1) {b p : Nat} (hb : b < xm_Z h) (hn : ¬ (b = a ∧ p ∈ fs)) : xm_R h1 b p = xm_R h b p := (((x.2.2.2.2.2 b hb).2.2 p).2 hn).2
theorem a0_0_0 {h : xm_H} (o : ob 1 a h) : xm_run (d + 1) 0 4 [some (.ref a)] [] h = xm_run (d + 1) 0 13 [some (.ref a)] [] (ast a (0, 110, 12, 0) h) := by
  obtain ⟨o1, o2, o3, -⟩ := o
  have n1 : ¬ (12 : Int32) < 0 ∧ (12 : Int32).toNatClampNeg ≤ 100000 := by decide
  have n2 : (12 : Int32).toNatClampNeg = 12 := by decide
  have n3 : ¬ a = xm_Z h := by omega
  show _ = xm_run (d + 1) 0 13 [some (.ref a)] [] (xm_sR (xm_nw h 110 12 12) a 0 (some (xm_Z h)))
  simp only [ite_not, ite_self, w8_nil, ok01, ite10, rf_rv, rf_ref, rf_cat, rf_lk2, rf_some, rf_none, w_add, w_cons, cr_int, cr_long, cr_ref, cr_null, is_ref, is_null, l2_int, l2_ref, l2_null, l2_none, ent_nil, ent_int, ent_ref, ent_null, ent_rf, ent_long, ok_0, ok_1, af_ret, af_void, List.tail_cons, List.tail_nil, Nat.reduceAdd, Nat.reduceLeDiff, not_false_eq_true, not_true_eq_false, and_self, and_true, true_and, ne_eq, or_true, true_or, or_false, false_or, eq_self, Nat.reduceEqDiff, ↓reduceIte, false_and, and_false, Nat.le_refl, Nat.zero_le, nz_1, nz_2, nz_3, nz_4, nz_5, nz_6, nz_8, nz_10, nz_12, nz_20, nz_30, nz_60, nz_100, g_K_sI, g_N_sI, g_B_sI, g_Z_sI, g_K_sL, g_N_sL, g_B_sL, g_Z_sL, g_K_sR, g_N_sR, g_B_sR, g_Z_sR, g_L_sI, g_R_sI, g_I_sL, g_R_sL, g_I_sR, g_L_sR, g_R_sRv, g_K_nw, g_N_nw, g_B_nw, g_Z_nw, h_R_nw, h_I_nw, h_L_nw, o1, o2, n1, n2, n3, r0_4, r0_5, r0_7, r0_10, r0_10n, r0_10v]
theorem a0_0_1 {h : xm_H} (o : ob 1 a h) : xm_run (d + 1) 0 13 [some (.ref a)] [] h = xm_run (d + 1) 0 22 [some (.ref a)] [] (ast a (1, 110, 12, 0) h) := by
  obtain ⟨o1, o2, o3, -⟩ := o
  have n1 : ¬ (12 : Int32) < 0 ∧ (12 : Int32).toNatClampNeg ≤ 100000 := by decide
  have n2 : (12 : Int32).toNatClampNeg = 12 := by decide
  have n3 : ¬ a = xm_Z h := by omega
  show _ = xm_run (d + 1) 0 22 [some (.ref a)] [] (xm_sR (xm_nw h 110 12 12) a 1 (some (xm_Z h)))
  simp only [ite_not, ite_self, w8_nil, ok01, ite10, rf_rv, rf_ref, rf_cat, rf_lk2, rf_some, rf_none, w_add, w_cons, cr_int, cr_long, cr_ref, cr_null, is_ref, is_null, l2_int, l2_ref, l2_null, l2_none, ent_nil, ent_int, ent_ref, ent_null, ent_rf, ent_long, ok_0, ok_1, af_ret, af_void, List.tail_cons, List.tail_nil, Nat.reduceAdd, Nat.reduceLeDiff, not_false_eq_true, not_true_eq_false, and_self, and_true, true_and, ne_eq, or_true, true_or, or_false, false_or, eq_self, Nat.reduceEqDiff, ↓reduceIte, false_and, and_false, Nat.le_refl, Nat.zero_le, nz_1, nz_2, nz_3, nz_4, nz_5, nz_6, nz_8, nz_10, nz_12, nz_20, nz_30, nz_60, nz_100, g_K_sI, g_N_sI, g_B_sI, g_Z_sI, g_K_sL, g_N_sL, g_B_sL, g_Z_sL, g_K_sR, g_N_sR, g_B_sR, g_Z_sR, g_L_sI, g_R_sI, g_I_sL, g_R_sL, g_I_sR, g_L_sR, g_R_sRv, g_K_nw, g_N_nw, g_B_nw, g_Z_nw, h_R_nw, h_I_nw, h_L_nw, o1, o2, n1, n2, n3, r0_13, r0_14, r0_16, r0_19, r0_19n, r0_19v]
def acts0_0 : List (Nat × Nat × Nat × Int32) := [(0, 110, 12, 0), (1, 110, 12, 0)]
theorem a0_0_all {h : xm_H} (o : ob 1 a h) : xm_run (d + 1) 0 4 [some (.ref a)] [] h = xm_run (d + 1) 0 22 [some (.ref a)] [] (asl a acts0_0 h) := by
  rw [a0_0_0 o]
  replace o := o.one (e := (0, 110, 12, 0))
  rw [a0_0_1 o]
  replace o := o.one (e := (1, 110, 12, 0))
  rfl
theorem a0_1_0 {h : xm_H} (o : ob 1 a h) : xm_run (d + 1) 0 54 [some (.ref a)] [] h = xm_run (d + 1) 0 62 [some (.ref a)] [] (ast a (3, 100, 6, 0) h) := by
  obtain ⟨o1, o2, o3, -⟩ := o
  have n1 : ¬ (6 : Int32) < 0 ∧ (6 : Int32).toNatClampNeg ≤ 100000 := by decide
  have n2 : (6 : Int32).toNatClampNeg = 6 := by decide
  have n3 : ¬ a = xm_Z h := by omega
  show _ = xm_run (d + 1) 0 62 [some (.ref a)] [] (xm_sR (xm_nw h 100 6 6) a 3 (some (xm_Z h)))
  simp only [ite_not, ite_self, w8_nil, ok01, ite10, rf_rv, rf_ref, rf_cat, rf_lk2, rf_some, rf_none, w_add, w_cons, cr_int, cr_long, cr_ref, cr_null, is_ref, is_null, l2_int, l2_ref, l2_null, l2_none, ent_nil, ent_int, ent_ref, ent_null, ent_rf, ent_long, ok_0, ok_1, af_ret, af_void, List.tail_cons, List.tail_nil, Nat.reduceAdd, Nat.reduceLeDiff, not_false_eq_true, not_true_eq_false, and_self, and_true, true_and, ne_eq, or_true, true_or, or_false, false_or, eq_self, Nat.reduceEqDiff, ↓reduceIte, false_and, and_false, Nat.le_refl, Nat.zero_le, nz_1, nz_2, nz_3, nz_4, nz_5, nz_6, nz_8, nz_10, nz_12, nz_20, nz_30, nz_60, nz_100, g_K_sI, g_N_sI, g_B_sI, g_Z_sI, g_K_sL, g_N_sL, g_B_sL, g_Z_sL, g_K_sR, g_N_sR, g_B_sR, g_Z_sR, g_L_sI, g_R_sI, g_I_sL, g_R_sL, g_I_sR, g_L_sR, g_R_sRv, g_K_nw, g_N_nw, g_B_nw, g_Z_nw, h_R_nw, h_I_nw, h_L_nw, o1, o2, n1, n2, n3, r0_54, r0_55, r0_57, r0_59, r0_59n, r0_59v]
theorem a0_1_1 {h : xm_H} (o : ob 1 a h) : xm_run (d + 1) 0 62 [some (.ref a)] [] h = xm_run (d + 1) 0 69 [some (.ref a)] [] (ast a (7, 0, 0, 300) h) := by
  obtain ⟨o1, o2, -⟩ := o
  show _ = xm_run (d + 1) 0 69 [some (.ref a)] [] (xm_sI h a 7 300)
  simp only [ite_not, ite_self, w8_nil, ok01, ite10, rf_rv, rf_ref, rf_cat, rf_lk2, rf_some, rf_none, w_add, w_cons, cr_int, cr_long, cr_ref, cr_null, is_ref, is_null, l2_int, l2_ref, l2_null, l2_none, ent_nil, ent_int, ent_ref, ent_null, ent_rf, ent_long, ok_0, ok_1, af_ret, af_void, List.tail_cons, List.tail_nil, Nat.reduceAdd, Nat.reduceLeDiff, not_false_eq_true, not_true_eq_false, and_self, and_true, true_and, ne_eq, or_true, true_or, or_false, false_or, eq_self, Nat.reduceEqDiff, ↓reduceIte, false_and, and_false, Nat.le_refl, Nat.zero_le, nz_1, nz_2, nz_3, nz_4, nz_5, nz_6, nz_8, nz_10, nz_12, nz_20, nz_30, nz_60, nz_100, o1, o2, r0_62, r0_63, r0_66]
theorem a0_1_2 {h : xm_H} (o : ob 1 a h) : xm_run (d + 1) 0 69 [some (.ref a)] [] h = xm_run (d + 1) 0 75 [some (.ref a)] [] (ast a (8, 0, 0, 20) h) := by
  obtain ⟨o1, o2, -⟩ := o
  show _ = xm_run (d + 1) 0 75 [some (.ref a)] [] (xm_sI h a 8 20)
  simp only [ite_not, ite_self, w8_nil, ok01, ite10, rf_rv, rf_ref, rf_cat, rf_lk2, rf_some, rf_none, w_add, w_cons, cr_int, cr_long, cr_ref, cr_null, is_ref, is_null, l2_int, l2_ref, l2_null, l2_none, ent_nil, ent_int, ent_ref, ent_null, ent_rf, ent_long, ok_0, ok_1, af_ret, af_void, List.tail_cons, List.tail_nil, Nat.reduceAdd, Nat.reduceLeDiff, not_false_eq_true, not_true_eq_false, and_self, and_true, true_and, ne_eq, or_true, true_or, or_false, false_or, eq_self, Nat.reduceEqDiff, ↓reduceIte, false_and, and_false, Nat.le_refl, Nat.zero_le, nz_1, nz_2, nz_3, nz_4, nz_5, nz_6, nz_8, nz_10, nz_12, nz_20, nz_30, nz_60, nz_100, o1, o2, r0_69, r0_70, r0_72]
theorem a0_1_3 {h : xm_H} (o : ob 1 a h) : xm_run (d + 1) 0 75 [some (.ref a)] [] h = xm_run (d + 1) 0 84 [some (.ref a)] [] (ast a (9, 101, 600, 0) h) := by
  obtain ⟨o1, o2, o3, -⟩ := o
  have n1 : ¬ (600 : Int32) < 0 ∧ (600 : Int32).toNatClampNeg ≤ 100000 := by decide
  have n2 : (600 : Int32).toNatClampNeg = 600 := by decide
  have n3 : ¬ a = xm_Z h := by omega
  show _ = xm_run (d + 1) 0 84 [some (.ref a)] [] (xm_sR (xm_nw h 101 600 600) a 9 (some (xm_Z h)))
  simp only [ite_not, ite_self, w8_nil, ok01, ite10, rf_rv, rf_ref, rf_cat, rf_lk2, rf_some, rf_none, w_add, w_cons, cr_int, cr_long, cr_ref, cr_null, is_ref, is_null, l2_int, l2_ref, l2_null, l2_none, ent_nil, ent_int, ent_ref, ent_null, ent_rf, ent_long, ok_0, ok_1, af_ret, af_void, List.tail_cons, List.tail_nil, Nat.reduceAdd, Nat.reduceLeDiff, not_false_eq_true, not_true_eq_false, and_self, and_true, true_and, ne_eq, or_true, true_or, or_false, false_or, eq_self, Nat.reduceEqDiff, ↓reduceIte, false_and, and_false, Nat.le_refl, Nat.zero_le, nz_1, nz_2, nz_3, nz_4, nz_5, nz_6, nz_8, nz_10, nz_12, nz_20, nz_30, nz_60, nz_100, g_K_sI, g_N_sI, g_B_sI, g_Z_sI, g_K_sL, g_N_sL, g_B_sL, g_Z_sL, g_K_sR, g_N_sR, g_B_sR, g_Z_sR, g_L_sI, g_R_sI, g_I_sL, g_R_sL, g_I_sR, g_L_sR, g_R_sRv, g_K_nw, g_N_nw, g_B_nw, g_Z_nw, h_R_nw, h_I_nw, h_L_nw, o1, o2, n1, n2, n3, r0_75, r0_76, r0_79, r0_81, r0_81n, r0_81v]
theorem a0_1_4 {h : xm_H} (o : ob 1 a h) : xm_run (d + 1) 0 84 [some (.ref a)] [] h = xm_run (d + 1) 0 89 [some (.ref a)] [] (ast a (12, 0, 0, (-1)) h) := by
  obtain ⟨o1, o2, -⟩ := o
  show _ = xm_run (d + 1) 0 89 [some (.ref a)] [] (xm_sI h a 12 (-1))
  simp only [ite_not, ite_self, w8_nil, ok01, ite10, rf_rv, rf_ref, rf_cat, rf_lk2, rf_some, rf_none, w_add, w_cons, cr_int, cr_long, cr_ref, cr_null, is_ref, is_null, l2_int, l2_ref, l2_null, l2_none, ent_nil, ent_int, ent_ref, ent_null, ent_rf, ent_long, ok_0, ok_1, af_ret, af_void, List.tail_cons, List.tail_nil, Nat.reduceAdd, Nat.reduceLeDiff, not_false_eq_true, not_true_eq_false, and_self, and_true, true_and, ne_eq, or_true, true_or, or_false, false_or, eq_self, Nat.reduceEqDiff, ↓reduceIte, false_and, and_false, Nat.le_refl, Nat.zero_le, nz_1, nz_2, nz_3, nz_4, nz_5, nz_6, nz_8, nz_10, nz_12, nz_20, nz_30, nz_60, nz_100, o1, o2, r0_84, r0_85, r0_86]
def acts0_1 : List (Nat × Nat × Nat × Int32) := [(3, 100, 6, 0), (7, 0, 0, 300), (8, 0, 0, 20), (9, 101, 600, 0), (12, 0, 0, (-1))]
theorem a0_1_all {h : xm_H} (o : ob 1 a h) : xm_run (d + 1) 0 54 [some (.ref a)] [] h = xm_run (d + 1) 0 89 [some (.ref a)] [] (asl a acts0_1 h) := by
  rw [a0_1_0 o]
  replace o := o.one (e := (3, 100, 6, 0))
  rw [a0_1_1 o]
  replace o := o.one (e := (7, 0, 0, 300))
  rw [a0_1_2 o]
  replace o := o.one (e := (8, 0, 0, 20))
  rw [a0_1_3 o]
  replace o := o.one (e := (9, 101, 600, 0))
  rw [a0_1_4 o]
  replace o := o.one (e := (12, 0, 0, (-1)))
  rfl
theorem a0_2_0 {h : xm_H} (o : ob 1 a h) : xm_run (d + 1) 0 252 [some (.ref a)] [] h = xm_run (d + 1) 0 259 [some (.ref a)] [] (ast a (17, 100, 2, 0) h) := by
  obtain ⟨o1, o2, o3, -⟩ := o
  have n1 : ¬ (2 : Int32) < 0 ∧ (2 : Int32).toNatClampNeg ≤ 100000 := by decide
  have n2 : (2 : Int32).toNatClampNeg = 2 := by decide
  have n3 : ¬ a = xm_Z h := by omega
  show _ = xm_run (d + 1) 0 259 [some (.ref a)] [] (xm_sR (xm_nw h 100 2 2) a 17 (some (xm_Z h)))
  simp only [ite_not, ite_self, w8_nil, ok01, ite10, rf_rv, rf_ref, rf_cat, rf_lk2, rf_some, rf_none, w_add, w_cons, cr_int, cr_long, cr_ref, cr_null, is_ref, is_null, l2_int, l2_ref, l2_null, l2_none, ent_nil, ent_int, ent_ref, ent_null, ent_rf, ent_long, ok_0, ok_1, af_ret, af_void, List.tail_cons, List.tail_nil, Nat.reduceAdd, Nat.reduceLeDiff, not_false_eq_true, not_true_eq_false, and_self, and_true, true_and, ne_eq, or_true, true_or, or_false, false_or, eq_self, Nat.reduceEqDiff, ↓reduceIte, false_and, and_false, Nat.le_refl, Nat.zero_le, nz_1, nz_2, nz_3, nz_4, nz_5, nz_6, nz_8, nz_10, nz_12, nz_20, nz_30, nz_60, nz_100, g_K_sI, g_N_sI, g_B_sI, g_Z_sI, g_K_sL, g_N_sL, g_B_sL, g_Z_sL, g_K_sR, g_N_sR, g_B_sR, g_Z_sR, g_L_sI, g_R_sI, g_I_sL, g_R_sL, g_I_sR, g_L_sR, g_R_sRv, g_K_nw, g_N_nw, g_B_nw, g_Z_nw, h_R_nw, h_I_nw, h_L_nw, o1, o2, n1, n2, n3, r0_252, r0_253, r0_254, r0_256, r0_256n, r0_256v]
theorem a0_2_1 {h : xm_H} (o : ob 1 a h) : xm_run (d + 1) 0 259 [some (.ref a)] [] h = xm_run (d + 1) 0 267 [some (.ref a)] [] (ast a (18, 100, 8, 0) h) := by
  obtain ⟨o1, o2, o3, -⟩ := o
  have n1 : ¬ (8 : Int32) < 0 ∧ (8 : Int32).toNatClampNeg ≤ 100000 := by decide
  have n2 : (8 : Int32).toNatClampNeg = 8 := by decide
  have n3 : ¬ a = xm_Z h := by omega
  show _ = xm_run (d + 1) 0 267 [some (.ref a)] [] (xm_sR (xm_nw h 100 8 8) a 18 (some (xm_Z h)))
  simp only [ite_not, ite_self, w8_nil, ok01, ite10, rf_rv, rf_ref, rf_cat, rf_lk2, rf_some, rf_none, w_add, w_cons, cr_int, cr_long, cr_ref, cr_null, is_ref, is_null, l2_int, l2_ref, l2_null, l2_none, ent_nil, ent_int, ent_ref, ent_null, ent_rf, ent_long, ok_0, ok_1, af_ret, af_void, List.tail_cons, List.tail_nil, Nat.reduceAdd, Nat.reduceLeDiff, not_false_eq_true, not_true_eq_false, and_self, and_true, true_and, ne_eq, or_true, true_or, or_false, false_or, eq_self, Nat.reduceEqDiff, ↓reduceIte, false_and, and_false, Nat.le_refl, Nat.zero_le, nz_1, nz_2, nz_3, nz_4, nz_5, nz_6, nz_8, nz_10, nz_12, nz_20, nz_30, nz_60, nz_100, g_K_sI, g_N_sI, g_B_sI, g_Z_sI, g_K_sL, g_N_sL, g_B_sL, g_Z_sL, g_K_sR, g_N_sR, g_B_sR, g_Z_sR, g_L_sI, g_R_sI, g_I_sL, g_R_sL, g_I_sR, g_L_sR, g_R_sRv, g_K_nw, g_N_nw, g_B_nw, g_Z_nw, h_R_nw, h_I_nw, h_L_nw, o1, o2, n1, n2, n3, r0_259, r0_260, r0_262, r0_264, r0_264n, r0_264v]
def acts0_2 : List (Nat × Nat × Nat × Int32) := [(17, 100, 2, 0), (18, 100, 8, 0)]
theorem a0_2_all {h : xm_H} (o : ob 1 a h) : xm_run (d + 1) 0 252 [some (.ref a)] [] h = xm_run (d + 1) 0 267 [some (.ref a)] [] (asl a acts0_2 h) := by
  rw [a0_2_0 o]
  replace o := o.one (e := (17, 100, 2, 0))
  rw [a0_2_1 o]
  replace o := o.one (e := (18, 100, 8, 0))
  rfl
theorem a0_3_0 {h : xm_H} (o : ob 1 a h) : xm_run (d + 1) 0 295 [some (.ref a)] [] h = xm_run (d + 1) 0 302 [some (.ref a)] [] (ast a (20, 100, 4, 0) h) := by
  obtain ⟨o1, o2, o3, -⟩ := o
  have n1 : ¬ (4 : Int32) < 0 ∧ (4 : Int32).toNatClampNeg ≤ 100000 := by decide
  have n2 : (4 : Int32).toNatClampNeg = 4 := by decide
  have n3 : ¬ a = xm_Z h := by omega
  show _ = xm_run (d + 1) 0 302 [some (.ref a)] [] (xm_sR (xm_nw h 100 4 4) a 20 (some (xm_Z h)))
  simp only [ite_not, ite_self, w8_nil, ok01, ite10, rf_rv, rf_ref, rf_cat, rf_lk2, rf_some, rf_none, w_add, w_cons, cr_int, cr_long, cr_ref, cr_null, is_ref, is_null, l2_int, l2_ref, l2_null, l2_none, ent_nil, ent_int, ent_ref, ent_null, ent_rf, ent_long, ok_0, ok_1, af_ret, af_void, List.tail_cons, List.tail_nil, Nat.reduceAdd, Nat.reduceLeDiff, not_false_eq_true, not_true_eq_false, and_self, and_true, true_and, ne_eq, or_true, true_or, or_false, false_or, eq_self, Nat.reduceEqDiff, ↓reduceIte, false_and, and_false, Nat.le_refl, Nat.zero_le, nz_1, nz_2, nz_3, nz_4, nz_5, nz_6, nz_8, nz_10, nz_12, nz_20, nz_30, nz_60, nz_100, g_K_sI, g_N_sI, g_B_sI, g_Z_sI, g_K_sL, g_N_sL, g_B_sL, g_Z_sL, g_K_sR, g_N_sR, g_B_sR, g_Z_sR, g_L_sI, g_R_sI, g_I_sL, g_R_sL, g_I_sR, g_L_sR, g_R_sRv, g_K_nw, g_N_nw, g_B_nw, g_Z_nw, h_R_nw, h_I_nw, h_L_nw, o1, o2, n1, n2, n3, r0_295, r0_296, r0_297, r0_299, r0_299n, r0_299v]
theorem a0_3_1 {h : xm_H} (o : ob 1 a h) : xm_run (d + 1) 0 302 [some (.ref a)] [] h = xm_run (d + 1) 0 309 [some (.ref a)] [] (ast a (21, 100, 4, 0) h) := by
  obtain ⟨o1, o2, o3, -⟩ := o
  have n1 : ¬ (4 : Int32) < 0 ∧ (4 : Int32).toNatClampNeg ≤ 100000 := by decide
  have n2 : (4 : Int32).toNatClampNeg = 4 := by decide
  have n3 : ¬ a = xm_Z h := by omega
  show _ = xm_run (d + 1) 0 309 [some (.ref a)] [] (xm_sR (xm_nw h 100 4 4) a 21 (some (xm_Z h)))
  simp only [ite_not, ite_self, w8_nil, ok01, ite10, rf_rv, rf_ref, rf_cat, rf_lk2, rf_some, rf_none, w_add, w_cons, cr_int, cr_long, cr_ref, cr_null, is_ref, is_null, l2_int, l2_ref, l2_null, l2_none, ent_nil, ent_int, ent_ref, ent_null, ent_rf, ent_long, ok_0, ok_1, af_ret, af_void, List.tail_cons, List.tail_nil, Nat.reduceAdd, Nat.reduceLeDiff, not_false_eq_true, not_true_eq_false, and_self, and_true, true_and, ne_eq, or_true, true_or, or_false, false_or, eq_self, Nat.reduceEqDiff, ↓reduceIte, false_and, and_false, Nat.le_refl, Nat.zero_le, nz_1, nz_2, nz_3, nz_4, nz_5, nz_6, nz_8, nz_10, nz_12, nz_20, nz_30, nz_60, nz_100, g_K_sI, g_N_sI, g_B_sI, g_Z_sI, g_K_sL, g_N_sL, g_B_sL, g_Z_sL, g_K_sR, g_N_sR, g_B_sR, g_Z_sR, g_L_sI, g_R_sI, g_I_sL, g_R_sL, g_I_sR, g_L_sR, g_R_sRv, g_K_nw, g_N_nw, g_B_nw, g_Z_nw, h_R_nw, h_I_nw, h_L_nw, o1, o2, n1, n2, n3, r0_302, r0_303, r0_304, r0_306, r0_306n, r0_306v]
theorem a0_3_2 {h : xm_H} (o : ob 1 a h) : xm_run (d + 1) 0 309 [some (.ref a)] [] h = xm_run (d + 1) 0 317 [some (.ref a)] [] (ast a (23, 100, 12, 0) h) := by
  obtain ⟨o1, o2, o3, -⟩ := o
  have n1 : ¬ (12 : Int32) < 0 ∧ (12 : Int32).toNatClampNeg ≤ 100000 := by decide
  have n2 : (12 : Int32).toNatClampNeg = 12 := by decide
  have n3 : ¬ a = xm_Z h := by omega
  show _ = xm_run (d + 1) 0 317 [some (.ref a)] [] (xm_sR (xm_nw h 100 12 12) a 23 (some (xm_Z h)))
  simp only [ite_not, ite_self, w8_nil, ok01, ite10, rf_rv, rf_ref, rf_cat, rf_lk2, rf_some, rf_none, w_add, w_cons, cr_int, cr_long, cr_ref, cr_null, is_ref, is_null, l2_int, l2_ref, l2_null, l2_none, ent_nil, ent_int, ent_ref, ent_null, ent_rf, ent_long, ok_0, ok_1, af_ret, af_void, List.tail_cons, List.tail_nil, Nat.reduceAdd, Nat.reduceLeDiff, not_false_eq_true, not_true_eq_false, and_self, and_true, true_and, ne_eq, or_true, true_or, or_false, false_or, eq_self, Nat.reduceEqDiff, ↓reduceIte, false_and, and_false, Nat.le_refl, Nat.zero_le, nz_1, nz_2, nz_3, nz_4, nz_5, nz_6, nz_8, nz_10, nz_12, nz_20, nz_30, nz_60, nz_100, g_K_sI, g_N_sI, g_B_sI, g_Z_sI, g_K_sL, g_N_sL, g_B_sL, g_Z_sL, g_K_sR, g_N_sR, g_B_sR, g_Z_sR, g_L_sI, g_R_sI, g_I_sL, g_R_sL, g_I_sR, g_L_sR, g_R_sRv, g_K_nw, g_N_nw, g_B_nw, g_Z_nw, h_R_nw, h_I_nw, h_L_nw, o1, o2, n1, n2, n3, r0_309, r0_310, r0_312, r0_314, r0_314n, r0_314v]
theorem a0_3_3 {h : xm_H} (o : ob 1 a h) : xm_run (d + 1) 0 317 [some (.ref a)] [] h = xm_run (d + 1) 0 325 [some (.ref a)] [] (ast a (24, 100, 7, 0) h) := by
  obtain ⟨o1, o2, o3, -⟩ := o
  have n1 : ¬ (7 : Int32) < 0 ∧ (7 : Int32).toNatClampNeg ≤ 100000 := by decide
  have n2 : (7 : Int32).toNatClampNeg = 7 := by decide
  have n3 : ¬ a = xm_Z h := by omega
  show _ = xm_run (d + 1) 0 325 [some (.ref a)] [] (xm_sR (xm_nw h 100 7 7) a 24 (some (xm_Z h)))
  simp only [ite_not, ite_self, w8_nil, ok01, ite10, rf_rv, rf_ref, rf_cat, rf_lk2, rf_some, rf_none, w_add, w_cons, cr_int, cr_long, cr_ref, cr_null, is_ref, is_null, l2_int, l2_ref, l2_null, l2_none, ent_nil, ent_int, ent_ref, ent_null, ent_rf, ent_long, ok_0, ok_1, af_ret, af_void, List.tail_cons, List.tail_nil, Nat.reduceAdd, Nat.reduceLeDiff, not_false_eq_true, not_true_eq_false, and_self, and_true, true_and, ne_eq, or_true, true_or, or_false, false_or, eq_self, Nat.reduceEqDiff, ↓reduceIte, false_and, and_false, Nat.le_refl, Nat.zero_le, nz_1, nz_2, nz_3, nz_4, nz_5, nz_6, nz_8, nz_10, nz_12, nz_20, nz_30, nz_60, nz_100, g_K_sI, g_N_sI, g_B_sI, g_Z_sI, g_K_sL, g_N_sL, g_B_sL, g_Z_sL, g_K_sR, g_N_sR, g_B_sR, g_Z_sR, g_L_sI, g_R_sI, g_I_sL, g_R_sL, g_I_sR, g_L_sR, g_R_sRv, g_K_nw, g_N_nw, g_B_nw, g_Z_nw, h_R_nw, h_I_nw, h_L_nw, o1, o2, n1, n2, n3, r0_317, r0_318, r0_320, r0_322, r0_322n, r0_322v]
theorem a0_3_4 {h : xm_H} (o : ob 1 a h) : xm_run (d + 1) 0 325 [some (.ref a)] [] h = xm_run (d + 1) 0 333 [some (.ref a)] [] (ast a (25, 100, 7, 0) h) := by
  obtain ⟨o1, o2, o3, -⟩ := o
  have n1 : ¬ (7 : Int32) < 0 ∧ (7 : Int32).toNatClampNeg ≤ 100000 := by decide
  have n2 : (7 : Int32).toNatClampNeg = 7 := by decide
  have n3 : ¬ a = xm_Z h := by omega
  show _ = xm_run (d + 1) 0 333 [some (.ref a)] [] (xm_sR (xm_nw h 100 7 7) a 25 (some (xm_Z h)))
  simp only [ite_not, ite_self, w8_nil, ok01, ite10, rf_rv, rf_ref, rf_cat, rf_lk2, rf_some, rf_none, w_add, w_cons, cr_int, cr_long, cr_ref, cr_null, is_ref, is_null, l2_int, l2_ref, l2_null, l2_none, ent_nil, ent_int, ent_ref, ent_null, ent_rf, ent_long, ok_0, ok_1, af_ret, af_void, List.tail_cons, List.tail_nil, Nat.reduceAdd, Nat.reduceLeDiff, not_false_eq_true, not_true_eq_false, and_self, and_true, true_and, ne_eq, or_true, true_or, or_false, false_or, eq_self, Nat.reduceEqDiff, ↓reduceIte, false_and, and_false, Nat.le_refl, Nat.zero_le, nz_1, nz_2, nz_3, nz_4, nz_5, nz_6, nz_8, nz_10, nz_12, nz_20, nz_30, nz_60, nz_100, g_K_sI, g_N_sI, g_B_sI, g_Z_sI, g_K_sL, g_N_sL, g_B_sL, g_Z_sL, g_K_sR, g_N_sR, g_B_sR, g_Z_sR, g_L_sI, g_R_sI, g_I_sL, g_R_sL, g_I_sR, g_L_sR, g_R_sRv, g_K_nw, g_N_nw, g_B_nw, g_Z_nw, h_R_nw, h_I_nw, h_L_nw, o1, o2, n1, n2, n3, r0_325, r0_326, r0_328, r0_330, r0_330n, r0_330v]
theorem a0_3_5 {h : xm_H} (o : ob 1 a h) : xm_run (d + 1) 0 333 [some (.ref a)] [] h = xm_run (d + 1) 0 342 [some (.ref a)] [] (ast a (30, 115, 16, 0) h) := by
  obtain ⟨o1, o2, o3, -⟩ := o
  have n1 : ¬ (16 : Int32) < 0 ∧ (16 : Int32).toNatClampNeg ≤ 100000 := by decide
  have n2 : (16 : Int32).toNatClampNeg = 16 := by decide
  have n3 : ¬ a = xm_Z h := by omega
  show _ = xm_run (d + 1) 0 342 [some (.ref a)] [] (xm_sR (xm_nw h 115 16 16) a 30 (some (xm_Z h)))
  simp only [ite_not, ite_self, w8_nil, ok01, ite10, rf_rv, rf_ref, rf_cat, rf_lk2, rf_some, rf_none, w_add, w_cons, cr_int, cr_long, cr_ref, cr_null, is_ref, is_null, l2_int, l2_ref, l2_null, l2_none, ent_nil, ent_int, ent_ref, ent_null, ent_rf, ent_long, ok_0, ok_1, af_ret, af_void, List.tail_cons, List.tail_nil, Nat.reduceAdd, Nat.reduceLeDiff, not_false_eq_true, not_true_eq_false, and_self, and_true, true_and, ne_eq, or_true, true_or, or_false, false_or, eq_self, Nat.reduceEqDiff, ↓reduceIte, false_and, and_false, Nat.le_refl, Nat.zero_le, nz_1, nz_2, nz_3, nz_4, nz_5, nz_6, nz_8, nz_10, nz_12, nz_20, nz_30, nz_60, nz_100, g_K_sI, g_N_sI, g_B_sI, g_Z_sI, g_K_sL, g_N_sL, g_B_sL, g_Z_sL, g_K_sR, g_N_sR, g_B_sR, g_Z_sR, g_L_sI, g_R_sI, g_I_sL, g_R_sL, g_I_sR, g_L_sR, g_R_sRv, g_K_nw, g_N_nw, g_B_nw, g_Z_nw, h_R_nw, h_I_nw, h_L_nw, o1, o2, n1, n2, n3, r0_333, r0_334, r0_336, r0_339, r0_339n, r0_339v]
theorem a0_3_6 {h : xm_H} (o : ob 1 a h) : xm_run (d + 1) 0 342 [some (.ref a)] [] h = xm_run (d + 1) 0 347 [some (.ref a)] [] (ast a (32, 0, 0, (-1)) h) := by
  obtain ⟨o1, o2, -⟩ := o
  show _ = xm_run (d + 1) 0 347 [some (.ref a)] [] (xm_sI h a 32 (-1))
  simp only [ite_not, ite_self, w8_nil, ok01, ite10, rf_rv, rf_ref, rf_cat, rf_lk2, rf_some, rf_none, w_add, w_cons, cr_int, cr_long, cr_ref, cr_null, is_ref, is_null, l2_int, l2_ref, l2_null, l2_none, ent_nil, ent_int, ent_ref, ent_null, ent_rf, ent_long, ok_0, ok_1, af_ret, af_void, List.tail_cons, List.tail_nil, Nat.reduceAdd, Nat.reduceLeDiff, not_false_eq_true, not_true_eq_false, and_self, and_true, true_and, ne_eq, or_true, true_or, or_false, false_or, eq_self, Nat.reduceEqDiff, ↓reduceIte, false_and, and_false, Nat.le_refl, Nat.zero_le, nz_1, nz_2, nz_3, nz_4, nz_5, nz_6, nz_8, nz_10, nz_12, nz_20, nz_30, nz_60, nz_100, o1, o2, r0_342, r0_343, r0_344]
theorem a0_3_7 {h : xm_H} (o : ob 1 a h) : xm_run (d + 1) 0 347 [some (.ref a)] [] h = xm_run (d + 1) 0 354 [some (.ref a)] [] (ast a (33, 100, 2, 0) h) := by
  obtain ⟨o1, o2, o3, -⟩ := o
  have n1 : ¬ (2 : Int32) < 0 ∧ (2 : Int32).toNatClampNeg ≤ 100000 := by decide
  have n2 : (2 : Int32).toNatClampNeg = 2 := by decide
  have n3 : ¬ a = xm_Z h := by omega
  show _ = xm_run (d + 1) 0 354 [some (.ref a)] [] (xm_sR (xm_nw h 100 2 2) a 33 (some (xm_Z h)))
  simp only [ite_not, ite_self, w8_nil, ok01, ite10, rf_rv, rf_ref, rf_cat, rf_lk2, rf_some, rf_none, w_add, w_cons, cr_int, cr_long, cr_ref, cr_null, is_ref, is_null, l2_int, l2_ref, l2_null, l2_none, ent_nil, ent_int, ent_ref, ent_null, ent_rf, ent_long, ok_0, ok_1, af_ret, af_void, List.tail_cons, List.tail_nil, Nat.reduceAdd, Nat.reduceLeDiff, not_false_eq_true, not_true_eq_false, and_self, and_true, true_and, ne_eq, or_true, true_or, or_false, false_or, eq_self, Nat.reduceEqDiff, ↓reduceIte, false_and, and_false, Nat.le_refl, Nat.zero_le, nz_1, nz_2, nz_3, nz_4, nz_5, nz_6, nz_8, nz_10, nz_12, nz_20, nz_30, nz_60, nz_100, g_K_sI, g_N_sI, g_B_sI, g_Z_sI, g_K_sL, g_N_sL, g_B_sL, g_Z_sL, g_K_sR, g_N_sR, g_B_sR, g_Z_sR, g_L_sI, g_R_sI, g_I_sL, g_R_sL, g_I_sR, g_L_sR, g_R_sRv, g_K_nw, g_N_nw, g_B_nw, g_Z_nw, h_R_nw, h_I_nw, h_L_nw, o1, o2, n1, n2, n3, r0_347, r0_348, r0_349, r0_351, r0_351n, r0_351v]
theorem a0_3_8 {h : xm_H} (o : ob 1 a h) : xm_run (d + 1) 0 354 [some (.ref a)] [] h = xm_run (d + 1) 0 363 [some (.ref a)] [] (ast a (36, 116, 40, 0) h) := by
  obtain ⟨o1, o2, o3, -⟩ := o
  have n1 : ¬ (40 : Int32) < 0 ∧ (40 : Int32).toNatClampNeg ≤ 100000 := by decide
  have n2 : (40 : Int32).toNatClampNeg = 40 := by decide
  have n3 : ¬ a = xm_Z h := by omega
  show _ = xm_run (d + 1) 0 363 [some (.ref a)] [] (xm_sR (xm_nw h 116 40 40) a 36 (some (xm_Z h)))
  simp only [ite_not, ite_self, w8_nil, ok01, ite10, rf_rv, rf_ref, rf_cat, rf_lk2, rf_some, rf_none, w_add, w_cons, cr_int, cr_long, cr_ref, cr_null, is_ref, is_null, l2_int, l2_ref, l2_null, l2_none, ent_nil, ent_int, ent_ref, ent_null, ent_rf, ent_long, ok_0, ok_1, af_ret, af_void, List.tail_cons, List.tail_nil, Nat.reduceAdd, Nat.reduceLeDiff, not_false_eq_true, not_true_eq_false, and_self, and_true, true_and, ne_eq, or_true, true_or, or_false, false_or, eq_self, Nat.reduceEqDiff, ↓reduceIte, false_and, and_false, Nat.le_refl, Nat.zero_le, nz_1, nz_2, nz_3, nz_4, nz_5, nz_6, nz_8, nz_10, nz_12, nz_20, nz_30, nz_60, nz_100, g_K_sI, g_N_sI, g_B_sI, g_Z_sI, g_K_sL, g_N_sL, g_B_sL, g_Z_sL, g_K_sR, g_N_sR, g_B_sR, g_Z_sR, g_L_sI, g_R_sI, g_I_sL, g_R_sL, g_I_sR, g_L_sR, g_R_sRv, g_K_nw, g_N_nw, g_B_nw, g_Z_nw, h_R_nw, h_I_nw, h_L_nw, o1, o2, n1, n2, n3, r0_354, r0_355, r0_357, r0_360, r0_360n, r0_360v]
theorem a0_3_9 {h : xm_H} (o : ob 1 a h) : xm_run (d + 1) 0 363 [some (.ref a)] [] h = xm_run (d + 1) 0 371 [some (.ref a)] [] (ast a (38, 117, 4, 0) h) := by
  obtain ⟨o1, o2, o3, -⟩ := o
  have n1 : ¬ (4 : Int32) < 0 ∧ (4 : Int32).toNatClampNeg ≤ 100000 := by decide
  have n2 : (4 : Int32).toNatClampNeg = 4 := by decide
  have n3 : ¬ a = xm_Z h := by omega
  show _ = xm_run (d + 1) 0 371 [some (.ref a)] [] (xm_sR (xm_nw h 117 4 4) a 38 (some (xm_Z h)))
  simp only [ite_not, ite_self, w8_nil, ok01, ite10, rf_rv, rf_ref, rf_cat, rf_lk2, rf_some, rf_none, w_add, w_cons, cr_int, cr_long, cr_ref, cr_null, is_ref, is_null, l2_int, l2_ref, l2_null, l2_none, ent_nil, ent_int, ent_ref, ent_null, ent_rf, ent_long, ok_0, ok_1, af_ret, af_void, List.tail_cons, List.tail_nil, Nat.reduceAdd, Nat.reduceLeDiff, not_false_eq_true, not_true_eq_false, and_self, and_true, true_and, ne_eq, or_true, true_or, or_false, false_or, eq_self, Nat.reduceEqDiff, ↓reduceIte, false_and, and_false, Nat.le_refl, Nat.zero_le, nz_1, nz_2, nz_3, nz_4, nz_5, nz_6, nz_8, nz_10, nz_12, nz_20, nz_30, nz_60, nz_100, g_K_sI, g_N_sI, g_B_sI, g_Z_sI, g_K_sL, g_N_sL, g_B_sL, g_Z_sL, g_K_sR, g_N_sR, g_B_sR, g_Z_sR, g_L_sI, g_R_sI, g_I_sL, g_R_sL, g_I_sR, g_L_sR, g_R_sRv, g_K_nw, g_N_nw, g_B_nw, g_Z_nw, h_R_nw, h_I_nw, h_L_nw, o1, o2, n1, n2, n3, r0_363, r0_364, r0_365, r0_368, r0_368n, r0_368v]
theorem a0_3_10 {h : xm_H} (o : ob 1 a h) : xm_run (d + 1) 0 371 [some (.ref a)] [] h = xm_run (d + 1) 0 379 [some (.ref a)] [] (ast a (39, 100, 8, 0) h) := by
  obtain ⟨o1, o2, o3, -⟩ := o
  have n1 : ¬ (8 : Int32) < 0 ∧ (8 : Int32).toNatClampNeg ≤ 100000 := by decide
  have n2 : (8 : Int32).toNatClampNeg = 8 := by decide
  have n3 : ¬ a = xm_Z h := by omega
  show _ = xm_run (d + 1) 0 379 [some (.ref a)] [] (xm_sR (xm_nw h 100 8 8) a 39 (some (xm_Z h)))
  simp only [ite_not, ite_self, w8_nil, ok01, ite10, rf_rv, rf_ref, rf_cat, rf_lk2, rf_some, rf_none, w_add, w_cons, cr_int, cr_long, cr_ref, cr_null, is_ref, is_null, l2_int, l2_ref, l2_null, l2_none, ent_nil, ent_int, ent_ref, ent_null, ent_rf, ent_long, ok_0, ok_1, af_ret, af_void, List.tail_cons, List.tail_nil, Nat.reduceAdd, Nat.reduceLeDiff, not_false_eq_true, not_true_eq_false, and_self, and_true, true_and, ne_eq, or_true, true_or, or_false, false_or, eq_self, Nat.reduceEqDiff, ↓reduceIte, false_and, and_false, Nat.le_refl, Nat.zero_le, nz_1, nz_2, nz_3, nz_4, nz_5, nz_6, nz_8, nz_10, nz_12, nz_20, nz_30, nz_60, nz_100, g_K_sI, g_N_sI, g_B_sI, g_Z_sI, g_K_sL, g_N_sL, g_B_sL, g_Z_sL, g_K_sR, g_N_sR, g_B_sR, g_Z_sR, g_L_sI, g_R_sI, g_I_sL, g_R_sL, g_I_sR, g_L_sR, g_R_sRv, g_K_nw, g_N_nw, g_B_nw, g_Z_nw, h_R_nw, h_I_nw, h_L_nw, o1, o2, n1, n2, n3, r0_371, r0_372, r0_374, r0_376, r0_376n, r0_376v]
theorem a0_3_11 {h : xm_H} (o : ob 1 a h) : xm_run (d + 1) 0 379 [some (.ref a)] [] h = xm_run (d + 1) 0 387 [some (.ref a)] [] (ast a (40, 100, 8, 0) h) := by
  obtain ⟨o1, o2, o3, -⟩ := o
  have n1 : ¬ (8 : Int32) < 0 ∧ (8 : Int32).toNatClampNeg ≤ 100000 := by decide
  have n2 : (8 : Int32).toNatClampNeg = 8 := by decide
  have n3 : ¬ a = xm_Z h := by omega
  show _ = xm_run (d + 1) 0 387 [some (.ref a)] [] (xm_sR (xm_nw h 100 8 8) a 40 (some (xm_Z h)))
  simp only [ite_not, ite_self, w8_nil, ok01, ite10, rf_rv, rf_ref, rf_cat, rf_lk2, rf_some, rf_none, w_add, w_cons, cr_int, cr_long, cr_ref, cr_null, is_ref, is_null, l2_int, l2_ref, l2_null, l2_none, ent_nil, ent_int, ent_ref, ent_null, ent_rf, ent_long, ok_0, ok_1, af_ret, af_void, List.tail_cons, List.tail_nil, Nat.reduceAdd, Nat.reduceLeDiff, not_false_eq_true, not_true_eq_false, and_self, and_true, true_and, ne_eq, or_true, true_or, or_false, false_or, eq_self, Nat.reduceEqDiff, ↓reduceIte, false_and, and_false, Nat.le_refl, Nat.zero_le, nz_1, nz_2, nz_3, nz_4, nz_5, nz_6, nz_8, nz_10, nz_12, nz_20, nz_30, nz_60, nz_100, g_K_sI, g_N_sI, g_B_sI, g_Z_sI, g_K_sL, g_N_sL, g_B_sL, g_Z_sL, g_K_sR, g_N_sR, g_B_sR, g_Z_sR, g_L_sI, g_R_sI, g_I_sL, g_R_sL, g_I_sR, g_L_sR, g_R_sRv, g_K_nw, g_N_nw, g_B_nw, g_Z_nw, h_R_nw, h_I_nw, h_L_nw, o1, o2, n1, n2, n3, r0_379, r0_380, r0_382, r0_384, r0_384n, r0_384v]
theorem a0_3_12 {h : xm_H} (o : ob 1 a h) : xm_run (d + 1) 0 387 [some (.ref a)] [] h = xm_run (d + 1) 0 395 [some (.ref a)] [] (ast a (41, 100, 8, 0) h) := by
  obtain ⟨o1, o2, o3, -⟩ := o
  have n1 : ¬ (8 : Int32) < 0 ∧ (8 : Int32).toNatClampNeg ≤ 100000 := by decide
  have n2 : (8 : Int32).toNatClampNeg = 8 := by decide
  have n3 : ¬ a = xm_Z h := by omega
  show _ = xm_run (d + 1) 0 395 [some (.ref a)] [] (xm_sR (xm_nw h 100 8 8) a 41 (some (xm_Z h)))
  simp only [ite_not, ite_self, w8_nil, ok01, ite10, rf_rv, rf_ref, rf_cat, rf_lk2, rf_some, rf_none, w_add, w_cons, cr_int, cr_long, cr_ref, cr_null, is_ref, is_null, l2_int, l2_ref, l2_null, l2_none, ent_nil, ent_int, ent_ref, ent_null, ent_rf, ent_long, ok_0, ok_1, af_ret, af_void, List.tail_cons, List.tail_nil, Nat.reduceAdd, Nat.reduceLeDiff, not_false_eq_true, not_true_eq_false, and_self, and_true, true_and, ne_eq, or_true, true_or, or_false, false_or, eq_self, Nat.reduceEqDiff, ↓reduceIte, false_and, and_false, Nat.le_refl, Nat.zero_le, nz_1, nz_2, nz_3, nz_4, nz_5, nz_6, nz_8, nz_10, nz_12, nz_20, nz_30, nz_60, nz_100, g_K_sI, g_N_sI, g_B_sI, g_Z_sI, g_K_sL, g_N_sL, g_B_sL, g_Z_sL, g_K_sR, g_N_sR, g_B_sR, g_Z_sR, g_L_sI, g_R_sI, g_I_sL, g_R_sL, g_I_sR, g_L_sR, g_R_sRv, g_K_nw, g_N_nw, g_B_nw, g_Z_nw, h_R_nw, h_I_nw, h_L_nw, o1, o2, n1, n2, n3, r0_387, r0_388, r0_390, r0_392, r0_392n, r0_392v]
theorem a0_3_13 {h : xm_H} (o : ob 1 a h) : xm_run (d + 1) 0 395 [some (.ref a)] [] h = xm_run (d + 1) 0 403 [some (.ref a)] [] (ast a (46, 100, 100, 0) h) := by
  obtain ⟨o1, o2, o3, -⟩ := o
  have n1 : ¬ (100 : Int32) < 0 ∧ (100 : Int32).toNatClampNeg ≤ 100000 := by decide
  have n2 : (100 : Int32).toNatClampNeg = 100 := by decide
  have n3 : ¬ a = xm_Z h := by omega
  show _ = xm_run (d + 1) 0 403 [some (.ref a)] [] (xm_sR (xm_nw h 100 100 100) a 46 (some (xm_Z h)))
  simp only [ite_not, ite_self, w8_nil, ok01, ite10, rf_rv, rf_ref, rf_cat, rf_lk2, rf_some, rf_none, w_add, w_cons, cr_int, cr_long, cr_ref, cr_null, is_ref, is_null, l2_int, l2_ref, l2_null, l2_none, ent_nil, ent_int, ent_ref, ent_null, ent_rf, ent_long, ok_0, ok_1, af_ret, af_void, List.tail_cons, List.tail_nil, Nat.reduceAdd, Nat.reduceLeDiff, not_false_eq_true, not_true_eq_false, and_self, and_true, true_and, ne_eq, or_true, true_or, or_false, false_or, eq_self, Nat.reduceEqDiff, ↓reduceIte, false_and, and_false, Nat.le_refl, Nat.zero_le, nz_1, nz_2, nz_3, nz_4, nz_5, nz_6, nz_8, nz_10, nz_12, nz_20, nz_30, nz_60, nz_100, g_K_sI, g_N_sI, g_B_sI, g_Z_sI, g_K_sL, g_N_sL, g_B_sL, g_Z_sL, g_K_sR, g_N_sR, g_B_sR, g_Z_sR, g_L_sI, g_R_sI, g_I_sL, g_R_sL, g_I_sR, g_L_sR, g_R_sRv, g_K_nw, g_N_nw, g_B_nw, g_Z_nw, h_R_nw, h_I_nw, h_L_nw, o1, o2, n1, n2, n3, r0_395, r0_396, r0_398, r0_400, r0_400n, r0_400v]
theorem a0_3_14 {h : xm_H} (o : ob 1 a h) : xm_run (d + 1) 0 403 [some (.ref a)] [] h = xm_run (d + 1) 0 411 [some (.ref a)] [] (ast a (47, 100, 100, 0) h) := by
  obtain ⟨o1, o2, o3, -⟩ := o
  have n1 : ¬ (100 : Int32) < 0 ∧ (100 : Int32).toNatClampNeg ≤ 100000 := by decide
  have n2 : (100 : Int32).toNatClampNeg = 100 := by decide
  have n3 : ¬ a = xm_Z h := by omega
  show _ = xm_run (d + 1) 0 411 [some (.ref a)] [] (xm_sR (xm_nw h 100 100 100) a 47 (some (xm_Z h)))
  simp only [ite_not, ite_self, w8_nil, ok01, ite10, rf_rv, rf_ref, rf_cat, rf_lk2, rf_some, rf_none, w_add, w_cons, cr_int, cr_long, cr_ref, cr_null, is_ref, is_null, l2_int, l2_ref, l2_null, l2_none, ent_nil, ent_int, ent_ref, ent_null, ent_rf, ent_long, ok_0, ok_1, af_ret, af_void, List.tail_cons, List.tail_nil, Nat.reduceAdd, Nat.reduceLeDiff, not_false_eq_true, not_true_eq_false, and_self, and_true, true_and, ne_eq, or_true, true_or, or_false, false_or, eq_self, Nat.reduceEqDiff, ↓reduceIte, false_and, and_false, Nat.le_refl, Nat.zero_le, nz_1, nz_2, nz_3, nz_4, nz_5, nz_6, nz_8, nz_10, nz_12, nz_20, nz_30, nz_60, nz_100, g_K_sI, g_N_sI, g_B_sI, g_Z_sI, g_K_sL, g_N_sL, g_B_sL, g_Z_sL, g_K_sR, g_N_sR, g_B_sR, g_Z_sR, g_L_sI, g_R_sI, g_I_sL, g_R_sL, g_I_sR, g_L_sR, g_R_sRv, g_K_nw, g_N_nw, g_B_nw, g_Z_nw, h_R_nw, h_I_nw, h_L_nw, o1, o2, n1, n2, n3, r0_403, r0_404, r0_406, r0_408, r0_408n, r0_408v]
theorem a0_3_15 {h : xm_H} (o : ob 1 a h) : xm_run (d + 1) 0 411 [some (.ref a)] [] h = xm_run (d + 1) 0 419 [some (.ref a)] [] (ast a (48, 100, 100, 0) h) := by
  obtain ⟨o1, o2, o3, -⟩ := o
  have n1 : ¬ (100 : Int32) < 0 ∧ (100 : Int32).toNatClampNeg ≤ 100000 := by decide
  have n2 : (100 : Int32).toNatClampNeg = 100 := by decide
  have n3 : ¬ a = xm_Z h := by omega
  show _ = xm_run (d + 1) 0 419 [some (.ref a)] [] (xm_sR (xm_nw h 100 100 100) a 48 (some (xm_Z h)))
  simp only [ite_not, ite_self, w8_nil, ok01, ite10, rf_rv, rf_ref, rf_cat, rf_lk2, rf_some, rf_none, w_add, w_cons, cr_int, cr_long, cr_ref, cr_null, is_ref, is_null, l2_int, l2_ref, l2_null, l2_none, ent_nil, ent_int, ent_ref, ent_null, ent_rf, ent_long, ok_0, ok_1, af_ret, af_void, List.tail_cons, List.tail_nil, Nat.reduceAdd, Nat.reduceLeDiff, not_false_eq_true, not_true_eq_false, and_self, and_true, true_and, ne_eq, or_true, true_or, or_false, false_or, eq_self, Nat.reduceEqDiff, ↓reduceIte, false_and, and_false, Nat.le_refl, Nat.zero_le, nz_1, nz_2, nz_3, nz_4, nz_5, nz_6, nz_8, nz_10, nz_12, nz_20, nz_30, nz_60, nz_100, g_K_sI, g_N_sI, g_B_sI, g_Z_sI, g_K_sL, g_N_sL, g_B_sL, g_Z_sL, g_K_sR, g_N_sR, g_B_sR, g_Z_sR, g_L_sI, g_R_sI, g_I_sL, g_R_sL, g_I_sR, g_L_sR, g_R_sRv, g_K_nw, g_N_nw, g_B_nw, g_Z_nw, h_R_nw, h_I_nw, h_L_nw, o1, o2, n1, n2, n3, r0_411, r0_412, r0_414, r0_416, r0_416n, r0_416v]
theorem a0_3_16 {h : xm_H} (o : ob 1 a h) : xm_run (d + 1) 0 419 [some (.ref a)] [] h = xm_run (d + 1) 0 427 [some (.ref a)] [] (ast a (49, 100, 100, 0) h) := by
  obtain ⟨o1, o2, o3, -⟩ := o
  have n1 : ¬ (100 : Int32) < 0 ∧ (100 : Int32).toNatClampNeg ≤ 100000 := by decide
  have n2 : (100 : Int32).toNatClampNeg = 100 := by decide
  have n3 : ¬ a = xm_Z h := by omega
  show _ = xm_run (d + 1) 0 427 [some (.ref a)] [] (xm_sR (xm_nw h 100 100 100) a 49 (some (xm_Z h)))
  simp only [ite_not, ite_self, w8_nil, ok01, ite10, rf_rv, rf_ref, rf_cat, rf_lk2, rf_some, rf_none, w_add, w_cons, cr_int, cr_long, cr_ref, cr_null, is_ref, is_null, l2_int, l2_ref, l2_null, l2_none, ent_nil, ent_int, ent_ref, ent_null, ent_rf, ent_long, ok_0, ok_1, af_ret, af_void, List.tail_cons, List.tail_nil, Nat.reduceAdd, Nat.reduceLeDiff, not_false_eq_true, not_true_eq_false, and_self, and_true, true_and, ne_eq, or_true, true_or, or_false, false_or, eq_self, Nat.reduceEqDiff, ↓reduceIte, false_and, and_false, Nat.le_refl, Nat.zero_le, nz_1, nz_2, nz_3, nz_4, nz_5, nz_6, nz_8, nz_10, nz_12, nz_20, nz_30, nz_60, nz_100, g_K_sI, g_N_sI, g_B_sI, g_Z_sI, g_K_sL, g_N_sL, g_B_sL, g_Z_sL, g_K_sR, g_N_sR, g_B_sR, g_Z_sR, g_L_sI, g_R_sI, g_I_sL, g_R_sL, g_I_sR, g_L_sR, g_R_sRv, g_K_nw, g_N_nw, g_B_nw, g_Z_nw, h_R_nw, h_I_nw, h_L_nw, o1, o2, n1, n2, n3, r0_419, r0_420, r0_422, r0_424, r0_424n, r0_424v]
def acts0_3 : List (Nat × Nat × Nat × Int32) := [(20, 100, 4, 0), (21, 100, 4, 0), (23, 100, 12, 0), (24, 100, 7, 0), (25, 100, 7, 0), (30, 115, 16, 0), (32, 0, 0, (-1)), (33, 100, 2, 0), (36, 116, 40, 0), (38, 117, 4, 0), (39, 100, 8, 0), (40, 100, 8, 0), (41, 100, 8, 0), (46, 100, 100, 0), (47, 100, 100, 0), (48, 100, 100, 0), (49, 100, 100, 0)]
theorem a0_3_all {h : xm_H} (o : ob 1 a h) : xm_run (d + 1) 0 295 [some (.ref a)] [] h = xm_run (d + 1) 0 427 [some (.ref a)] [] (asl a acts0_3 h) := by
  rw [a0_3_0 o]
  replace o := o.one (e := (20, 100, 4, 0))
  rw [a0_3_1 o]
  replace o := o.one (e := (21, 100, 4, 0))
  rw [a0_3_2 o]
  replace o := o.one (e := (23, 100, 12, 0))
  rw [a0_3_3 o]
  replace o := o.one (e := (24, 100, 7, 0))
  rw [a0_3_4 o]
  replace o := o.one (e := (25, 100, 7, 0))
  rw [a0_3_5 o]
  replace o := o.one (e := (30, 115, 16, 0))
  rw [a0_3_6 o]
  replace o := o.one (e := (32, 0, 0, (-1)))
  rw [a0_3_7 o]
  replace o := o.one (e := (33, 100, 2, 0))
  rw [a0_3_8 o]
  replace o := o.one (e := (36, 116, 40, 0))
  rw [a0_3_9 o]
  replace o := o.one (e := (38, 117, 4, 0))
  rw [a0_3_10 o]
  replace o := o.one (e := (39, 100, 8, 0))
  rw [a0_3_11 o]
  replace o := o.one (e := (40, 100, 8, 0))
  rw [a0_3_12 o]
  replace o := o.one (e := (41, 100, 8, 0))
  rw [a0_3_13 o]
  replace o := o.one (e := (46, 100, 100, 0))
  rw [a0_3_14 o]
  replace o := o.one (e := (47, 100, 100, 0))
  rw [a0_3_15 o]
  replace o := o.one (e := (48, 100, 100, 0))
  rw [a0_3_16 o]
  replace o := o.one (e := (49, 100, 100, 0))
  rfl
end M0
