/-! the model's first fields -/
set_option maxRecDepth 100000
section M89
variable {d : Nat} {a : Nat}
theorem a89_0 {h : xm_H} (o : ob 5 a h) : xm_run (d + 1) 89 4 [some (.ref a)] [] h = xm_run (d + 1) 89 11 [some (.ref a)] [] (ast a (2, 0, 0, 300) h) := by
  obtain ⟨o1, o2, -⟩ := o
  show _ = xm_run (d + 1) 89 11 [some (.ref a)] [] (xm_sI h a 2 300)
  simp only [ite_not, ite_self, w8_nil, ok01, ite10, rf_rv, rf_ref, rf_cat, rf_lk2, rf_some, rf_none, w_add, w_cons, cr_int, cr_long, cr_ref, cr_null, is_ref, is_null, l2_int, l2_ref, l2_null, l2_none, ent_nil, ent_int, ent_ref, ent_null, ent_rf, ent_long, ok_0, ok_1, af_ret, af_void, List.tail_cons, List.tail_nil, Nat.reduceAdd, Nat.reduceLeDiff, not_false_eq_true, not_true_eq_false, and_self, and_true, true_and, ne_eq, or_true, true_or, or_false, false_or, eq_self, Nat.reduceEqDiff, ↓reduceIte, false_and, and_false, Nat.le_refl, Nat.zero_le, nz_1, nz_2, nz_3, nz_4, nz_5, nz_6, nz_8, nz_10, nz_12, nz_20, nz_30, nz_60, nz_100, o1, o2, r89_4, r89_5, r89_8]
theorem a89_1 {h : xm_H} (o : ob 5 a h) : xm_run (d + 1) 89 11 [some (.ref a)] [] h = xm_run (d + 1) 89 17 [some (.ref a)] [] (ast a (3, 0, 0, 20) h) := by
  obtain ⟨o1, o2, -⟩ := o
  show _ = xm_run (d + 1) 89 17 [some (.ref a)] [] (xm_sI h a 3 20)
  simp only [ite_not, ite_self, w8_nil, ok01, ite10, rf_rv, rf_ref, rf_cat, rf_lk2, rf_some, rf_none, w_add, w_cons, cr_int, cr_long, cr_ref, cr_null, is_ref, is_null, l2_int, l2_ref, l2_null, l2_none, ent_nil, ent_int, ent_ref, ent_null, ent_rf, ent_long, ok_0, ok_1, af_ret, af_void, List.tail_cons, List.tail_nil, Nat.reduceAdd, Nat.reduceLeDiff, not_false_eq_true, not_true_eq_false, and_self, and_true, true_and, ne_eq, or_true, true_or, or_false, false_or, eq_self, Nat.reduceEqDiff, ↓reduceIte, false_and, and_false, Nat.le_refl, Nat.zero_le, nz_1, nz_2, nz_3, nz_4, nz_5, nz_6, nz_8, nz_10, nz_12, nz_20, nz_30, nz_60, nz_100, o1, o2, r89_11, r89_12, r89_14]
theorem a89_2 {h : xm_H} (o : ob 5 a h) : xm_run (d + 1) 89 17 [some (.ref a)] [] h = xm_run (d + 1) 89 25 [some (.ref a)] [] (ast a (4, 100, 6, 0) h) := by
  obtain ⟨o1, o2, o3, -⟩ := o
  have n1 : ¬ (6 : Int32) < 0 ∧ (6 : Int32).toNatClampNeg ≤ 100000 := by decide
  have n2 : (6 : Int32).toNatClampNeg = 6 := by decide
  have n3 : ¬ a = xm_Z h := by omega
  show _ = xm_run (d + 1) 89 25 [some (.ref a)] [] (xm_sR (xm_nw h 100 6 6) a 4 (some (xm_Z h)))
  simp only [ite_not, ite_self, w8_nil, ok01, ite10, rf_rv, rf_ref, rf_cat, rf_lk2, rf_some, rf_none, w_add, w_cons, cr_int, cr_long, cr_ref, cr_null, is_ref, is_null, l2_int, l2_ref, l2_null, l2_none, ent_nil, ent_int, ent_ref, ent_null, ent_rf, ent_long, ok_0, ok_1, af_ret, af_void, List.tail_cons, List.tail_nil, Nat.reduceAdd, Nat.reduceLeDiff, not_false_eq_true, not_true_eq_false, and_self, and_true, true_and, ne_eq, or_true, true_or, or_false, false_or, eq_self, Nat.reduceEqDiff, ↓reduceIte, false_and, and_false, Nat.le_refl, Nat.zero_le, nz_1, nz_2, nz_3, nz_4, nz_5, nz_6, nz_8, nz_10, nz_12, nz_20, nz_30, nz_60, nz_100, g_K_sI, g_N_sI, g_B_sI, g_Z_sI, g_K_sL, g_N_sL, g_B_sL, g_Z_sL, g_K_sR, g_N_sR, g_B_sR, g_Z_sR, g_L_sI, g_R_sI, g_I_sL, g_R_sL, g_I_sR, g_L_sR, g_R_sRv, g_K_nw, g_N_nw, g_B_nw, g_Z_nw, h_R_nw, h_I_nw, h_L_nw, o1, o2, n1, n2, n3, r89_17, r89_18, r89_20, r89_22, r89_22n, r89_22v]
theorem a89_3 {h : xm_H} (o : ob 5 a h) : xm_run (d + 1) 89 25 [some (.ref a)] [] h = xm_run (d + 1) 89 33 [some (.ref a)] [] (ast a (5, 100, 6, 0) h) := by
  obtain ⟨o1, o2, o3, -⟩ := o
  have n1 : ¬ (6 : Int32) < 0 ∧ (6 : Int32).toNatClampNeg ≤ 100000 := by decide
  have n2 : (6 : Int32).toNatClampNeg = 6 := by decide
  have n3 : ¬ a = xm_Z h := by omega
  show _ = xm_run (d + 1) 89 33 [some (.ref a)] [] (xm_sR (xm_nw h 100 6 6) a 5 (some (xm_Z h)))
  simp only [ite_not, ite_self, w8_nil, ok01, ite10, rf_rv, rf_ref, rf_cat, rf_lk2, rf_some, rf_none, w_add, w_cons, cr_int, cr_long, cr_ref, cr_null, is_ref, is_null, l2_int, l2_ref, l2_null, l2_none, ent_nil, ent_int, ent_ref, ent_null, ent_rf, ent_long, ok_0, ok_1, af_ret, af_void, List.tail_cons, List.tail_nil, Nat.reduceAdd, Nat.reduceLeDiff, not_false_eq_true, not_true_eq_false, and_self, and_true, true_and, ne_eq, or_true, true_or, or_false, false_or, eq_self, Nat.reduceEqDiff, ↓reduceIte, false_and, and_false, Nat.le_refl, Nat.zero_le, nz_1, nz_2, nz_3, nz_4, nz_5, nz_6, nz_8, nz_10, nz_12, nz_20, nz_30, nz_60, nz_100, g_K_sI, g_N_sI, g_B_sI, g_Z_sI, g_K_sL, g_N_sL, g_B_sL, g_Z_sL, g_K_sR, g_N_sR, g_B_sR, g_Z_sR, g_L_sI, g_R_sI, g_I_sL, g_R_sL, g_I_sR, g_L_sR, g_R_sRv, g_K_nw, g_N_nw, g_B_nw, g_Z_nw, h_R_nw, h_I_nw, h_L_nw, o1, o2, n1, n2, n3, r89_25, r89_26, r89_28, r89_30, r89_30n, r89_30v]
theorem a89_4 {h : xm_H} (o : ob 5 a h) : xm_run (d + 1) 89 33 [some (.ref a)] [] h = xm_run (d + 1) 89 41 [some (.ref a)] [] (ast a (7, 100, 12, 0) h) := by
  obtain ⟨o1, o2, o3, -⟩ := o
  have n1 : ¬ (12 : Int32) < 0 ∧ (12 : Int32).toNatClampNeg ≤ 100000 := by decide
  have n2 : (12 : Int32).toNatClampNeg = 12 := by decide
  have n3 : ¬ a = xm_Z h := by omega
  show _ = xm_run (d + 1) 89 41 [some (.ref a)] [] (xm_sR (xm_nw h 100 12 12) a 7 (some (xm_Z h)))
  simp only [ite_not, ite_self, w8_nil, ok01, ite10, rf_rv, rf_ref, rf_cat, rf_lk2, rf_some, rf_none, w_add, w_cons, cr_int, cr_long, cr_ref, cr_null, is_ref, is_null, l2_int, l2_ref, l2_null, l2_none, ent_nil, ent_int, ent_ref, ent_null, ent_rf, ent_long, ok_0, ok_1, af_ret, af_void, List.tail_cons, List.tail_nil, Nat.reduceAdd, Nat.reduceLeDiff, not_false_eq_true, not_true_eq_false, and_self, and_true, true_and, ne_eq, or_true, true_or, or_false, false_or, eq_self, Nat.reduceEqDiff, ↓reduceIte, false_and, and_false, Nat.le_refl, Nat.zero_le, nz_1, nz_2, nz_3, nz_4, nz_5, nz_6, nz_8, nz_10, nz_12, nz_20, nz_30, nz_60, nz_100, g_K_sI, g_N_sI, g_B_sI, g_Z_sI, g_K_sL, g_N_sL, g_B_sL, g_Z_sL, g_K_sR, g_N_sR, g_B_sR, g_Z_sR, g_L_sI, g_R_sI, g_I_sL, g_R_sL, g_I_sR, g_L_sR, g_R_sRv, g_K_nw, g_N_nw, g_B_nw, g_Z_nw, h_R_nw, h_I_nw, h_L_nw, o1, o2, n1, n2, n3, r89_33, r89_34, r89_36, r89_38, r89_38n, r89_38v]
theorem a89_5 {h : xm_H} (o : ob 5 a h) : xm_run (d + 1) 89 41 [some (.ref a)] [] h = xm_run (d + 1) 89 49 [some (.ref a)] [] (ast a (8, 100, 12, 0) h) := by
  obtain ⟨o1, o2, o3, -⟩ := o
  have n1 : ¬ (12 : Int32) < 0 ∧ (12 : Int32).toNatClampNeg ≤ 100000 := by decide
  have n2 : (12 : Int32).toNatClampNeg = 12 := by decide
  have n3 : ¬ a = xm_Z h := by omega
  show _ = xm_run (d + 1) 89 49 [some (.ref a)] [] (xm_sR (xm_nw h 100 12 12) a 8 (some (xm_Z h)))
  simp only [ite_not, ite_self, w8_nil, ok01, ite10, rf_rv, rf_ref, rf_cat, rf_lk2, rf_some, rf_none, w_add, w_cons, cr_int, cr_long, cr_ref, cr_null, is_ref, is_null, l2_int, l2_ref, l2_null, l2_none, ent_nil, ent_int, ent_ref, ent_null, ent_rf, ent_long, ok_0, ok_1, af_ret, af_void, List.tail_cons, List.tail_nil, Nat.reduceAdd, Nat.reduceLeDiff, not_false_eq_true, not_true_eq_false, and_self, and_true, true_and, ne_eq, or_true, true_or, or_false, false_or, eq_self, Nat.reduceEqDiff, ↓reduceIte, false_and, and_false, Nat.le_refl, Nat.zero_le, nz_1, nz_2, nz_3, nz_4, nz_5, nz_6, nz_8, nz_10, nz_12, nz_20, nz_30, nz_60, nz_100, g_K_sI, g_N_sI, g_B_sI, g_Z_sI, g_K_sL, g_N_sL, g_B_sL, g_Z_sL, g_K_sR, g_N_sR, g_B_sR, g_Z_sR, g_L_sI, g_R_sI, g_I_sL, g_R_sL, g_I_sR, g_L_sR, g_R_sRv, g_K_nw, g_N_nw, g_B_nw, g_Z_nw, h_R_nw, h_I_nw, h_L_nw, o1, o2, n1, n2, n3, r89_41, r89_42, r89_44, r89_46, r89_46n, r89_46v]
theorem a89_6 {h : xm_H} (o : ob 5 a h) : xm_run (d + 1) 89 49 [some (.ref a)] [] h = xm_run (d + 1) 89 57 [some (.ref a)] [] (ast a (9, 100, 12, 0) h) := by
  obtain ⟨o1, o2, o3, -⟩ := o
  have n1 : ¬ (12 : Int32) < 0 ∧ (12 : Int32).toNatClampNeg ≤ 100000 := by decide
  have n2 : (12 : Int32).toNatClampNeg = 12 := by decide
  have n3 : ¬ a = xm_Z h := by omega
  show _ = xm_run (d + 1) 89 57 [some (.ref a)] [] (xm_sR (xm_nw h 100 12 12) a 9 (some (xm_Z h)))
  simp only [ite_not, ite_self, w8_nil, ok01, ite10, rf_rv, rf_ref, rf_cat, rf_lk2, rf_some, rf_none, w_add, w_cons, cr_int, cr_long, cr_ref, cr_null, is_ref, is_null, l2_int, l2_ref, l2_null, l2_none, ent_nil, ent_int, ent_ref, ent_null, ent_rf, ent_long, ok_0, ok_1, af_ret, af_void, List.tail_cons, List.tail_nil, Nat.reduceAdd, Nat.reduceLeDiff, not_false_eq_true, not_true_eq_false, and_self, and_true, true_and, ne_eq, or_true, true_or, or_false, false_or, eq_self, Nat.reduceEqDiff, ↓reduceIte, false_and, and_false, Nat.le_refl, Nat.zero_le, nz_1, nz_2, nz_3, nz_4, nz_5, nz_6, nz_8, nz_10, nz_12, nz_20, nz_30, nz_60, nz_100, g_K_sI, g_N_sI, g_B_sI, g_Z_sI, g_K_sL, g_N_sL, g_B_sL, g_Z_sL, g_K_sR, g_N_sR, g_B_sR, g_Z_sR, g_L_sI, g_R_sI, g_I_sL, g_R_sL, g_I_sR, g_L_sR, g_R_sRv, g_K_nw, g_N_nw, g_B_nw, g_Z_nw, h_R_nw, h_I_nw, h_L_nw, o1, o2, n1, n2, n3, r89_49, r89_50, r89_52, r89_54, r89_54n, r89_54v]
theorem a89_7 {h : xm_H} (o : ob 5 a h) : xm_run (d + 1) 89 57 [some (.ref a)] [] h = xm_run (d + 1) 89 65 [some (.ref a)] [] (ast a (10, 100, 12, 0) h) := by
  obtain ⟨o1, o2, o3, -⟩ := o
  have n1 : ¬ (12 : Int32) < 0 ∧ (12 : Int32).toNatClampNeg ≤ 100000 := by decide
  have n2 : (12 : Int32).toNatClampNeg = 12 := by decide
  have n3 : ¬ a = xm_Z h := by omega
  show _ = xm_run (d + 1) 89 65 [some (.ref a)] [] (xm_sR (xm_nw h 100 12 12) a 10 (some (xm_Z h)))
  simp only [ite_not, ite_self, w8_nil, ok01, ite10, rf_rv, rf_ref, rf_cat, rf_lk2, rf_some, rf_none, w_add, w_cons, cr_int, cr_long, cr_ref, cr_null, is_ref, is_null, l2_int, l2_ref, l2_null, l2_none, ent_nil, ent_int, ent_ref, ent_null, ent_rf, ent_long, ok_0, ok_1, af_ret, af_void, List.tail_cons, List.tail_nil, Nat.reduceAdd, Nat.reduceLeDiff, not_false_eq_true, not_true_eq_false, and_self, and_true, true_and, ne_eq, or_true, true_or, or_false, false_or, eq_self, Nat.reduceEqDiff, ↓reduceIte, false_and, and_false, Nat.le_refl, Nat.zero_le, nz_1, nz_2, nz_3, nz_4, nz_5, nz_6, nz_8, nz_10, nz_12, nz_20, nz_30, nz_60, nz_100, g_K_sI, g_N_sI, g_B_sI, g_Z_sI, g_K_sL, g_N_sL, g_B_sL, g_Z_sL, g_K_sR, g_N_sR, g_B_sR, g_Z_sR, g_L_sI, g_R_sI, g_I_sL, g_R_sL, g_I_sR, g_L_sR, g_R_sRv, g_K_nw, g_N_nw, g_B_nw, g_Z_nw, h_R_nw, h_I_nw, h_L_nw, o1, o2, n1, n2, n3, r89_57, r89_58, r89_60, r89_62, r89_62n, r89_62v]
theorem a89_8 {h : xm_H} (o : ob 5 a h) : xm_run (d + 1) 89 65 [some (.ref a)] [] h = xm_run (d + 1) 89 73 [some (.ref a)] [] (ast a (11, 100, 12, 0) h) := by
  obtain ⟨o1, o2, o3, -⟩ := o
  have n1 : ¬ (12 : Int32) < 0 ∧ (12 : Int32).toNatClampNeg ≤ 100000 := by decide
  have n2 : (12 : Int32).toNatClampNeg = 12 := by decide
  have n3 : ¬ a = xm_Z h := by omega
  show _ = xm_run (d + 1) 89 73 [some (.ref a)] [] (xm_sR (xm_nw h 100 12 12) a 11 (some (xm_Z h)))
  simp only [ite_not, ite_self, w8_nil, ok01, ite10, rf_rv, rf_ref, rf_cat, rf_lk2, rf_some, rf_none, w_add, w_cons, cr_int, cr_long, cr_ref, cr_null, is_ref, is_null, l2_int, l2_ref, l2_null, l2_none, ent_nil, ent_int, ent_ref, ent_null, ent_rf, ent_long, ok_0, ok_1, af_ret, af_void, List.tail_cons, List.tail_nil, Nat.reduceAdd, Nat.reduceLeDiff, not_false_eq_true, not_true_eq_false, and_self, and_true, true_and, ne_eq, or_true, true_or, or_false, false_or, eq_self, Nat.reduceEqDiff, ↓reduceIte, false_and, and_false, Nat.le_refl, Nat.zero_le, nz_1, nz_2, nz_3, nz_4, nz_5, nz_6, nz_8, nz_10, nz_12, nz_20, nz_30, nz_60, nz_100, g_K_sI, g_N_sI, g_B_sI, g_Z_sI, g_K_sL, g_N_sL, g_B_sL, g_Z_sL, g_K_sR, g_N_sR, g_B_sR, g_Z_sR, g_L_sI, g_R_sI, g_I_sL, g_R_sL, g_I_sR, g_L_sR, g_R_sRv, g_K_nw, g_N_nw, g_B_nw, g_Z_nw, h_R_nw, h_I_nw, h_L_nw, o1, o2, n1, n2, n3, r89_65, r89_66, r89_68, r89_70, r89_70n, r89_70v]
theorem a89_9 {h : xm_H} (o : ob 5 a h) : xm_run (d + 1) 89 73 [some (.ref a)] [] h = xm_run (d + 1) 89 81 [some (.ref a)] [] (ast a (12, 100, 12, 0) h) := by
  obtain ⟨o1, o2, o3, -⟩ := o
  have n1 : ¬ (12 : Int32) < 0 ∧ (12 : Int32).toNatClampNeg ≤ 100000 := by decide
  have n2 : (12 : Int32).toNatClampNeg = 12 := by decide
  have n3 : ¬ a = xm_Z h := by omega
  show _ = xm_run (d + 1) 89 81 [some (.ref a)] [] (xm_sR (xm_nw h 100 12 12) a 12 (some (xm_Z h)))
  simp only [ite_not, ite_self, w8_nil, ok01, ite10, rf_rv, rf_ref, rf_cat, rf_lk2, rf_some, rf_none, w_add, w_cons, cr_int, cr_long, cr_ref, cr_null, is_ref, is_null, l2_int, l2_ref, l2_null, l2_none, ent_nil, ent_int, ent_ref, ent_null, ent_rf, ent_long, ok_0, ok_1, af_ret, af_void, List.tail_cons, List.tail_nil, Nat.reduceAdd, Nat.reduceLeDiff, not_false_eq_true, not_true_eq_false, and_self, and_true, true_and, ne_eq, or_true, true_or, or_false, false_or, eq_self, Nat.reduceEqDiff, ↓reduceIte, false_and, and_false, Nat.le_refl, Nat.zero_le, nz_1, nz_2, nz_3, nz_4, nz_5, nz_6, nz_8, nz_10, nz_12, nz_20, nz_30, nz_60, nz_100, g_K_sI, g_N_sI, g_B_sI, g_Z_sI, g_K_sL, g_N_sL, g_B_sL, g_Z_sL, g_K_sR, g_N_sR, g_B_sR, g_Z_sR, g_L_sI, g_R_sI, g_I_sL, g_R_sL, g_I_sR, g_L_sR, g_R_sRv, g_K_nw, g_N_nw, g_B_nw, g_Z_nw, h_R_nw, h_I_nw, h_L_nw, o1, o2, n1, n2, n3, r89_73, r89_74, r89_76, r89_78, r89_78n, r89_78v]
theorem a89_10 {h : xm_H} (o : ob 5 a h) : xm_run (d + 1) 89 81 [some (.ref a)] [] h = xm_run (d + 1) 89 89 [some (.ref a)] [] (ast a (13, 100, 12, 0) h) := by
  obtain ⟨o1, o2, o3, -⟩ := o
  have n1 : ¬ (12 : Int32) < 0 ∧ (12 : Int32).toNatClampNeg ≤ 100000 := by decide
  have n2 : (12 : Int32).toNatClampNeg = 12 := by decide
  have n3 : ¬ a = xm_Z h := by omega
  show _ = xm_run (d + 1) 89 89 [some (.ref a)] [] (xm_sR (xm_nw h 100 12 12) a 13 (some (xm_Z h)))
  simp only [ite_not, ite_self, w8_nil, ok01, ite10, rf_rv, rf_ref, rf_cat, rf_lk2, rf_some, rf_none, w_add, w_cons, cr_int, cr_long, cr_ref, cr_null, is_ref, is_null, l2_int, l2_ref, l2_null, l2_none, ent_nil, ent_int, ent_ref, ent_null, ent_rf, ent_long, ok_0, ok_1, af_ret, af_void, List.tail_cons, List.tail_nil, Nat.reduceAdd, Nat.reduceLeDiff, not_false_eq_true, not_true_eq_false, and_self, and_true, true_and, ne_eq, or_true, true_or, or_false, false_or, eq_self, Nat.reduceEqDiff, ↓reduceIte, false_and, and_false, Nat.le_refl, Nat.zero_le, nz_1, nz_2, nz_3, nz_4, nz_5, nz_6, nz_8, nz_10, nz_12, nz_20, nz_30, nz_60, nz_100, g_K_sI, g_N_sI, g_B_sI, g_Z_sI, g_K_sL, g_N_sL, g_B_sL, g_Z_sL, g_K_sR, g_N_sR, g_B_sR, g_Z_sR, g_L_sI, g_R_sI, g_I_sL, g_R_sL, g_I_sR, g_L_sR, g_R_sRv, g_K_nw, g_N_nw, g_B_nw, g_Z_nw, h_R_nw, h_I_nw, h_L_nw, o1, o2, n1, n2, n3, r89_81, r89_82, r89_84, r89_86, r89_86n, r89_86v]
theorem a89_11 {h : xm_H} (o : ob 5 a h) : xm_run (d + 1) 89 89 [some (.ref a)] [] h = xm_run (d + 1) 89 97 [some (.ref a)] [] (ast a (14, 100, 12, 0) h) := by
  obtain ⟨o1, o2, o3, -⟩ := o
  have n1 : ¬ (12 : Int32) < 0 ∧ (12 : Int32).toNatClampNeg ≤ 100000 := by decide
  have n2 : (12 : Int32).toNatClampNeg = 12 := by decide
  have n3 : ¬ a = xm_Z h := by omega
  show _ = xm_run (d + 1) 89 97 [some (.ref a)] [] (xm_sR (xm_nw h 100 12 12) a 14 (some (xm_Z h)))
  simp only [ite_not, ite_self, w8_nil, ok01, ite10, rf_rv, rf_ref, rf_cat, rf_lk2, rf_some, rf_none, w_add, w_cons, cr_int, cr_long, cr_ref, cr_null, is_ref, is_null, l2_int, l2_ref, l2_null, l2_none, ent_nil, ent_int, ent_ref, ent_null, ent_rf, ent_long, ok_0, ok_1, af_ret, af_void, List.tail_cons, List.tail_nil, Nat.reduceAdd, Nat.reduceLeDiff, not_false_eq_true, not_true_eq_false, and_self, and_true, true_and, ne_eq, or_true, true_or, or_false, false_or, eq_self, Nat.reduceEqDiff, ↓reduceIte, false_and, and_false, Nat.le_refl, Nat.zero_le, nz_1, nz_2, nz_3, nz_4, nz_5, nz_6, nz_8, nz_10, nz_12, nz_20, nz_30, nz_60, nz_100, g_K_sI, g_N_sI, g_B_sI, g_Z_sI, g_K_sL, g_N_sL, g_B_sL, g_Z_sL, g_K_sR, g_N_sR, g_B_sR, g_Z_sR, g_L_sI, g_R_sI, g_I_sL, g_R_sL, g_I_sR, g_L_sR, g_R_sRv, g_K_nw, g_N_nw, g_B_nw, g_Z_nw, h_R_nw, h_I_nw, h_L_nw, o1, o2, n1, n2, n3, r89_89, r89_90, r89_92, r89_94, r89_94n, r89_94v]
theorem a89_12 {h : xm_H} (o : ob 5 a h) : xm_run (d + 1) 89 97 [some (.ref a)] [] h = xm_run (d + 1) 89 105 [some (.ref a)] [] (ast a (15, 100, 12, 0) h) := by
  obtain ⟨o1, o2, o3, -⟩ := o
  have n1 : ¬ (12 : Int32) < 0 ∧ (12 : Int32).toNatClampNeg ≤ 100000 := by decide
  have n2 : (12 : Int32).toNatClampNeg = 12 := by decide
  have n3 : ¬ a = xm_Z h := by omega
  show _ = xm_run (d + 1) 89 105 [some (.ref a)] [] (xm_sR (xm_nw h 100 12 12) a 15 (some (xm_Z h)))
  simp only [ite_not, ite_self, w8_nil, ok01, ite10, rf_rv, rf_ref, rf_cat, rf_lk2, rf_some, rf_none, w_add, w_cons, cr_int, cr_long, cr_ref, cr_null, is_ref, is_null, l2_int, l2_ref, l2_null, l2_none, ent_nil, ent_int, ent_ref, ent_null, ent_rf, ent_long, ok_0, ok_1, af_ret, af_void, List.tail_cons, List.tail_nil, Nat.reduceAdd, Nat.reduceLeDiff, not_false_eq_true, not_true_eq_false, and_self, and_true, true_and, ne_eq, or_true, true_or, or_false, false_or, eq_self, Nat.reduceEqDiff, ↓reduceIte, false_and, and_false, Nat.le_refl, Nat.zero_le, nz_1, nz_2, nz_3, nz_4, nz_5, nz_6, nz_8, nz_10, nz_12, nz_20, nz_30, nz_60, nz_100, g_K_sI, g_N_sI, g_B_sI, g_Z_sI, g_K_sL, g_N_sL, g_B_sL, g_Z_sL, g_K_sR, g_N_sR, g_B_sR, g_Z_sR, g_L_sI, g_R_sI, g_I_sL, g_R_sL, g_I_sR, g_L_sR, g_R_sRv, g_K_nw, g_N_nw, g_B_nw, g_Z_nw, h_R_nw, h_I_nw, h_L_nw, o1, o2, n1, n2, n3, r89_97, r89_98, r89_100, r89_102, r89_102n, r89_102v]
theorem a89_13 {h : xm_H} (o : ob 5 a h) : xm_run (d + 1) 89 105 [some (.ref a)] [] h = xm_run (d + 1) 89 113 [some (.ref a)] [] (ast a (16, 102, 12, 0) h) := by
  obtain ⟨o1, o2, o3, -⟩ := o
  have n1 : ¬ (12 : Int32) < 0 ∧ (12 : Int32).toNatClampNeg ≤ 100000 := by decide
  have n2 : (12 : Int32).toNatClampNeg = 12 := by decide
  have n3 : ¬ a = xm_Z h := by omega
  show _ = xm_run (d + 1) 89 113 [some (.ref a)] [] (xm_sR (xm_nw h 102 12 12) a 16 (some (xm_Z h)))
  simp only [ite_not, ite_self, w8_nil, ok01, ite10, rf_rv, rf_ref, rf_cat, rf_lk2, rf_some, rf_none, w_add, w_cons, cr_int, cr_long, cr_ref, cr_null, is_ref, is_null, l2_int, l2_ref, l2_null, l2_none, ent_nil, ent_int, ent_ref, ent_null, ent_rf, ent_long, ok_0, ok_1, af_ret, af_void, List.tail_cons, List.tail_nil, Nat.reduceAdd, Nat.reduceLeDiff, not_false_eq_true, not_true_eq_false, and_self, and_true, true_and, ne_eq, or_true, true_or, or_false, false_or, eq_self, Nat.reduceEqDiff, ↓reduceIte, false_and, and_false, Nat.le_refl, Nat.zero_le, nz_1, nz_2, nz_3, nz_4, nz_5, nz_6, nz_8, nz_10, nz_12, nz_20, nz_30, nz_60, nz_100, g_K_sI, g_N_sI, g_B_sI, g_Z_sI, g_K_sL, g_N_sL, g_B_sL, g_Z_sL, g_K_sR, g_N_sR, g_B_sR, g_Z_sR, g_L_sI, g_R_sI, g_I_sL, g_R_sL, g_I_sR, g_L_sR, g_R_sRv, g_K_nw, g_N_nw, g_B_nw, g_Z_nw, h_R_nw, h_I_nw, h_L_nw, o1, o2, n1, n2, n3, r89_105, r89_106, r89_108, r89_110, r89_110n, r89_110v]
theorem a89_14 {h : xm_H} (o : ob 5 a h) : xm_run (d + 1) 89 113 [some (.ref a)] [] h = xm_run (d + 1) 89 121 [some (.ref a)] [] (ast a (17, 102, 12, 0) h) := by
  obtain ⟨o1, o2, o3, -⟩ := o
  have n1 : ¬ (12 : Int32) < 0 ∧ (12 : Int32).toNatClampNeg ≤ 100000 := by decide
  have n2 : (12 : Int32).toNatClampNeg = 12 := by decide
  have n3 : ¬ a = xm_Z h := by omega
  show _ = xm_run (d + 1) 89 121 [some (.ref a)] [] (xm_sR (xm_nw h 102 12 12) a 17 (some (xm_Z h)))
  simp only [ite_not, ite_self, w8_nil, ok01, ite10, rf_rv, rf_ref, rf_cat, rf_lk2, rf_some, rf_none, w_add, w_cons, cr_int, cr_long, cr_ref, cr_null, is_ref, is_null, l2_int, l2_ref, l2_null, l2_none, ent_nil, ent_int, ent_ref, ent_null, ent_rf, ent_long, ok_0, ok_1, af_ret, af_void, List.tail_cons, List.tail_nil, Nat.reduceAdd, Nat.reduceLeDiff, not_false_eq_true, not_true_eq_false, and_self, and_true, true_and, ne_eq, or_true, true_or, or_false, false_or, eq_self, Nat.reduceEqDiff, ↓reduceIte, false_and, and_false, Nat.le_refl, Nat.zero_le, nz_1, nz_2, nz_3, nz_4, nz_5, nz_6, nz_8, nz_10, nz_12, nz_20, nz_30, nz_60, nz_100, g_K_sI, g_N_sI, g_B_sI, g_Z_sI, g_K_sL, g_N_sL, g_B_sL, g_Z_sL, g_K_sR, g_N_sR, g_B_sR, g_Z_sR, g_L_sI, g_R_sI, g_I_sL, g_R_sL, g_I_sR, g_L_sR, g_R_sRv, g_K_nw, g_N_nw, g_B_nw, g_Z_nw, h_R_nw, h_I_nw, h_L_nw, o1, o2, n1, n2, n3, r89_113, r89_114, r89_116, r89_118, r89_118n, r89_118v]
theorem a89_15 {h : xm_H} (o : ob 5 a h) : xm_run (d + 1) 89 121 [some (.ref a)] [] h = xm_run (d + 1) 89 128 [some (.ref a)] [] (ast a (18, 100, 2, 0) h) := by
  obtain ⟨o1, o2, o3, -⟩ := o
  have n1 : ¬ (2 : Int32) < 0 ∧ (2 : Int32).toNatClampNeg ≤ 100000 := by decide
  have n2 : (2 : Int32).toNatClampNeg = 2 := by decide
  have n3 : ¬ a = xm_Z h := by omega
  show _ = xm_run (d + 1) 89 128 [some (.ref a)] [] (xm_sR (xm_nw h 100 2 2) a 18 (some (xm_Z h)))
  simp only [ite_not, ite_self, w8_nil, ok01, ite10, rf_rv, rf_ref, rf_cat, rf_lk2, rf_some, rf_none, w_add, w_cons, cr_int, cr_long, cr_ref, cr_null, is_ref, is_null, l2_int, l2_ref, l2_null, l2_none, ent_nil, ent_int, ent_ref, ent_null, ent_rf, ent_long, ok_0, ok_1, af_ret, af_void, List.tail_cons, List.tail_nil, Nat.reduceAdd, Nat.reduceLeDiff, not_false_eq_true, not_true_eq_false, and_self, and_true, true_and, ne_eq, or_true, true_or, or_false, false_or, eq_self, Nat.reduceEqDiff, ↓reduceIte, false_and, and_false, Nat.le_refl, Nat.zero_le, nz_1, nz_2, nz_3, nz_4, nz_5, nz_6, nz_8, nz_10, nz_12, nz_20, nz_30, nz_60, nz_100, g_K_sI, g_N_sI, g_B_sI, g_Z_sI, g_K_sL, g_N_sL, g_B_sL, g_Z_sL, g_K_sR, g_N_sR, g_B_sR, g_Z_sR, g_L_sI, g_R_sI, g_I_sL, g_R_sL, g_I_sR, g_L_sR, g_R_sRv, g_K_nw, g_N_nw, g_B_nw, g_Z_nw, h_R_nw, h_I_nw, h_L_nw, o1, o2, n1, n2, n3, r89_121, r89_122, r89_123, r89_125, r89_125n, r89_125v]
theorem a89_16 {h : xm_H} (o : ob 5 a h) : xm_run (d + 1) 89 128 [some (.ref a)] [] h = xm_run (d + 1) 89 135 [some (.ref a)] [] (ast a (19, 100, 2, 0) h) := by
  obtain ⟨o1, o2, o3, -⟩ := o
  have n1 : ¬ (2 : Int32) < 0 ∧ (2 : Int32).toNatClampNeg ≤ 100000 := by decide
  have n2 : (2 : Int32).toNatClampNeg = 2 := by decide
  have n3 : ¬ a = xm_Z h := by omega
  show _ = xm_run (d + 1) 89 135 [some (.ref a)] [] (xm_sR (xm_nw h 100 2 2) a 19 (some (xm_Z h)))
  simp only [ite_not, ite_self, w8_nil, ok01, ite10, rf_rv, rf_ref, rf_cat, rf_lk2, rf_some, rf_none, w_add, w_cons, cr_int, cr_long, cr_ref, cr_null, is_ref, is_null, l2_int, l2_ref, l2_null, l2_none, ent_nil, ent_int, ent_ref, ent_null, ent_rf, ent_long, ok_0, ok_1, af_ret, af_void, List.tail_cons, List.tail_nil, Nat.reduceAdd, Nat.reduceLeDiff, not_false_eq_true, not_true_eq_false, and_self, and_true, true_and, ne_eq, or_true, true_or, or_false, false_or, eq_self, Nat.reduceEqDiff, ↓reduceIte, false_and, and_false, Nat.le_refl, Nat.zero_le, nz_1, nz_2, nz_3, nz_4, nz_5, nz_6, nz_8, nz_10, nz_12, nz_20, nz_30, nz_60, nz_100, g_K_sI, g_N_sI, g_B_sI, g_Z_sI, g_K_sL, g_N_sL, g_B_sL, g_Z_sL, g_K_sR, g_N_sR, g_B_sR, g_Z_sR, g_L_sI, g_R_sI, g_I_sL, g_R_sL, g_I_sR, g_L_sR, g_R_sRv, g_K_nw, g_N_nw, g_B_nw, g_Z_nw, h_R_nw, h_I_nw, h_L_nw, o1, o2, n1, n2, n3, r89_128, r89_129, r89_130, r89_132, r89_132n, r89_132v]
theorem a89_17 {h : xm_H} (o : ob 5 a h) : xm_run (d + 1) 89 135 [some (.ref a)] [] h = xm_run (d + 1) 89 142 [some (.ref a)] [] (ast a (20, 100, 2, 0) h) := by
  obtain ⟨o1, o2, o3, -⟩ := o
  have n1 : ¬ (2 : Int32) < 0 ∧ (2 : Int32).toNatClampNeg ≤ 100000 := by decide
  have n2 : (2 : Int32).toNatClampNeg = 2 := by decide
  have n3 : ¬ a = xm_Z h := by omega
  show _ = xm_run (d + 1) 89 142 [some (.ref a)] [] (xm_sR (xm_nw h 100 2 2) a 20 (some (xm_Z h)))
  simp only [ite_not, ite_self, w8_nil, ok01, ite10, rf_rv, rf_ref, rf_cat, rf_lk2, rf_some, rf_none, w_add, w_cons, cr_int, cr_long, cr_ref, cr_null, is_ref, is_null, l2_int, l2_ref, l2_null, l2_none, ent_nil, ent_int, ent_ref, ent_null, ent_rf, ent_long, ok_0, ok_1, af_ret, af_void, List.tail_cons, List.tail_nil, Nat.reduceAdd, Nat.reduceLeDiff, not_false_eq_true, not_true_eq_false, and_self, and_true, true_and, ne_eq, or_true, true_or, or_false, false_or, eq_self, Nat.reduceEqDiff, ↓reduceIte, false_and, and_false, Nat.le_refl, Nat.zero_le, nz_1, nz_2, nz_3, nz_4, nz_5, nz_6, nz_8, nz_10, nz_12, nz_20, nz_30, nz_60, nz_100, g_K_sI, g_N_sI, g_B_sI, g_Z_sI, g_K_sL, g_N_sL, g_B_sL, g_Z_sL, g_K_sR, g_N_sR, g_B_sR, g_Z_sR, g_L_sI, g_R_sI, g_I_sL, g_R_sL, g_I_sR, g_L_sR, g_R_sRv, g_K_nw, g_N_nw, g_B_nw, g_Z_nw, h_R_nw, h_I_nw, h_L_nw, o1, o2, n1, n2, n3, r89_135, r89_136, r89_137, r89_139, r89_139n, r89_139v]
theorem a89_18 {h : xm_H} (o : ob 5 a h) : xm_run (d + 1) 89 142 [some (.ref a)] [] h = xm_run (d + 1) 89 150 [some (.ref a)] [] (ast a (21, 100, 8, 0) h) := by
  obtain ⟨o1, o2, o3, -⟩ := o
  have n1 : ¬ (8 : Int32) < 0 ∧ (8 : Int32).toNatClampNeg ≤ 100000 := by decide
  have n2 : (8 : Int32).toNatClampNeg = 8 := by decide
  have n3 : ¬ a = xm_Z h := by omega
  show _ = xm_run (d + 1) 89 150 [some (.ref a)] [] (xm_sR (xm_nw h 100 8 8) a 21 (some (xm_Z h)))
  simp only [ite_not, ite_self, w8_nil, ok01, ite10, rf_rv, rf_ref, rf_cat, rf_lk2, rf_some, rf_none, w_add, w_cons, cr_int, cr_long, cr_ref, cr_null, is_ref, is_null, l2_int, l2_ref, l2_null, l2_none, ent_nil, ent_int, ent_ref, ent_null, ent_rf, ent_long, ok_0, ok_1, af_ret, af_void, List.tail_cons, List.tail_nil, Nat.reduceAdd, Nat.reduceLeDiff, not_false_eq_true, not_true_eq_false, and_self, and_true, true_and, ne_eq, or_true, true_or, or_false, false_or, eq_self, Nat.reduceEqDiff, ↓reduceIte, false_and, and_false, Nat.le_refl, Nat.zero_le, nz_1, nz_2, nz_3, nz_4, nz_5, nz_6, nz_8, nz_10, nz_12, nz_20, nz_30, nz_60, nz_100, g_K_sI, g_N_sI, g_B_sI, g_Z_sI, g_K_sL, g_N_sL, g_B_sL, g_Z_sL, g_K_sR, g_N_sR, g_B_sR, g_Z_sR, g_L_sI, g_R_sI, g_I_sL, g_R_sL, g_I_sR, g_L_sR, g_R_sRv, g_K_nw, g_N_nw, g_B_nw, g_Z_nw, h_R_nw, h_I_nw, h_L_nw, o1, o2, n1, n2, n3, r89_142, r89_143, r89_145, r89_147, r89_147n, r89_147v]
theorem a89_19 {h : xm_H} (o : ob 5 a h) : xm_run (d + 1) 89 150 [some (.ref a)] [] h = xm_run (d + 1) 89 158 [some (.ref a)] [] (ast a (22, 100, 40, 0) h) := by
  obtain ⟨o1, o2, o3, -⟩ := o
  have n1 : ¬ (40 : Int32) < 0 ∧ (40 : Int32).toNatClampNeg ≤ 100000 := by decide
  have n2 : (40 : Int32).toNatClampNeg = 40 := by decide
  have n3 : ¬ a = xm_Z h := by omega
  show _ = xm_run (d + 1) 89 158 [some (.ref a)] [] (xm_sR (xm_nw h 100 40 40) a 22 (some (xm_Z h)))
  simp only [ite_not, ite_self, w8_nil, ok01, ite10, rf_rv, rf_ref, rf_cat, rf_lk2, rf_some, rf_none, w_add, w_cons, cr_int, cr_long, cr_ref, cr_null, is_ref, is_null, l2_int, l2_ref, l2_null, l2_none, ent_nil, ent_int, ent_ref, ent_null, ent_rf, ent_long, ok_0, ok_1, af_ret, af_void, List.tail_cons, List.tail_nil, Nat.reduceAdd, Nat.reduceLeDiff, not_false_eq_true, not_true_eq_false, and_self, and_true, true_and, ne_eq, or_true, true_or, or_false, false_or, eq_self, Nat.reduceEqDiff, ↓reduceIte, false_and, and_false, Nat.le_refl, Nat.zero_le, nz_1, nz_2, nz_3, nz_4, nz_5, nz_6, nz_8, nz_10, nz_12, nz_20, nz_30, nz_60, nz_100, g_K_sI, g_N_sI, g_B_sI, g_Z_sI, g_K_sL, g_N_sL, g_B_sL, g_Z_sL, g_K_sR, g_N_sR, g_B_sR, g_Z_sR, g_L_sI, g_R_sI, g_I_sL, g_R_sL, g_I_sR, g_L_sR, g_R_sRv, g_K_nw, g_N_nw, g_B_nw, g_Z_nw, h_R_nw, h_I_nw, h_L_nw, o1, o2, n1, n2, n3, r89_150, r89_151, r89_153, r89_155, r89_155n, r89_155v]
theorem a89_20 {h : xm_H} (o : ob 5 a h) : xm_run (d + 1) 89 158 [some (.ref a)] [] h = xm_run (d + 1) 89 166 [some (.ref a)] [] (ast a (23, 100, 42, 0) h) := by
  obtain ⟨o1, o2, o3, -⟩ := o
  have n1 : ¬ (42 : Int32) < 0 ∧ (42 : Int32).toNatClampNeg ≤ 100000 := by decide
  have n2 : (42 : Int32).toNatClampNeg = 42 := by decide
  have n3 : ¬ a = xm_Z h := by omega
  show _ = xm_run (d + 1) 89 166 [some (.ref a)] [] (xm_sR (xm_nw h 100 42 42) a 23 (some (xm_Z h)))
  simp only [ite_not, ite_self, w8_nil, ok01, ite10, rf_rv, rf_ref, rf_cat, rf_lk2, rf_some, rf_none, w_add, w_cons, cr_int, cr_long, cr_ref, cr_null, is_ref, is_null, l2_int, l2_ref, l2_null, l2_none, ent_nil, ent_int, ent_ref, ent_null, ent_rf, ent_long, ok_0, ok_1, af_ret, af_void, List.tail_cons, List.tail_nil, Nat.reduceAdd, Nat.reduceLeDiff, not_false_eq_true, not_true_eq_false, and_self, and_true, true_and, ne_eq, or_true, true_or, or_false, false_or, eq_self, Nat.reduceEqDiff, ↓reduceIte, false_and, and_false, Nat.le_refl, Nat.zero_le, nz_1, nz_2, nz_3, nz_4, nz_5, nz_6, nz_8, nz_10, nz_12, nz_20, nz_30, nz_60, nz_100, g_K_sI, g_N_sI, g_B_sI, g_Z_sI, g_K_sL, g_N_sL, g_B_sL, g_Z_sL, g_K_sR, g_N_sR, g_B_sR, g_Z_sR, g_L_sI, g_R_sI, g_I_sL, g_R_sL, g_I_sR, g_L_sR, g_R_sRv, g_K_nw, g_N_nw, g_B_nw, g_Z_nw, h_R_nw, h_I_nw, h_L_nw, o1, o2, n1, n2, n3, r89_158, r89_159, r89_161, r89_163, r89_163n, r89_163v]
theorem a89_21 {h : xm_H} (o : ob 5 a h) : xm_run (d + 1) 89 166 [some (.ref a)] [] h = xm_run (d + 1) 89 174 [some (.ref a)] [] (ast a (24, 100, 40, 0) h) := by
  obtain ⟨o1, o2, o3, -⟩ := o
  have n1 : ¬ (40 : Int32) < 0 ∧ (40 : Int32).toNatClampNeg ≤ 100000 := by decide
  have n2 : (40 : Int32).toNatClampNeg = 40 := by decide
  have n3 : ¬ a = xm_Z h := by omega
  show _ = xm_run (d + 1) 89 174 [some (.ref a)] [] (xm_sR (xm_nw h 100 40 40) a 24 (some (xm_Z h)))
  simp only [ite_not, ite_self, w8_nil, ok01, ite10, rf_rv, rf_ref, rf_cat, rf_lk2, rf_some, rf_none, w_add, w_cons, cr_int, cr_long, cr_ref, cr_null, is_ref, is_null, l2_int, l2_ref, l2_null, l2_none, ent_nil, ent_int, ent_ref, ent_null, ent_rf, ent_long, ok_0, ok_1, af_ret, af_void, List.tail_cons, List.tail_nil, Nat.reduceAdd, Nat.reduceLeDiff, not_false_eq_true, not_true_eq_false, and_self, and_true, true_and, ne_eq, or_true, true_or, or_false, false_or, eq_self, Nat.reduceEqDiff, ↓reduceIte, false_and, and_false, Nat.le_refl, Nat.zero_le, nz_1, nz_2, nz_3, nz_4, nz_5, nz_6, nz_8, nz_10, nz_12, nz_20, nz_30, nz_60, nz_100, g_K_sI, g_N_sI, g_B_sI, g_Z_sI, g_K_sL, g_N_sL, g_B_sL, g_Z_sL, g_K_sR, g_N_sR, g_B_sR, g_Z_sR, g_L_sI, g_R_sI, g_I_sL, g_R_sL, g_I_sR, g_L_sR, g_R_sRv, g_K_nw, g_N_nw, g_B_nw, g_Z_nw, h_R_nw, h_I_nw, h_L_nw, o1, o2, n1, n2, n3, r89_166, r89_167, r89_169, r89_171, r89_171n, r89_171v]
theorem a89_22 {h : xm_H} (o : ob 5 a h) : xm_run (d + 1) 89 174 [some (.ref a)] [] h = xm_run (d + 1) 89 183 [some (.ref a)] [] (ast a (25, 100, 2440, 0) h) := by
  obtain ⟨o1, o2, o3, -⟩ := o
  have n1 : ¬ (2440 : Int32) < 0 ∧ (2440 : Int32).toNatClampNeg ≤ 100000 := by decide
  have n2 : (2440 : Int32).toNatClampNeg = 2440 := by decide
  have n3 : ¬ a = xm_Z h := by omega
  show _ = xm_run (d + 1) 89 183 [some (.ref a)] [] (xm_sR (xm_nw h 100 2440 2440) a 25 (some (xm_Z h)))
  simp only [ite_not, ite_self, w8_nil, ok01, ite10, rf_rv, rf_ref, rf_cat, rf_lk2, rf_some, rf_none, w_add, w_cons, cr_int, cr_long, cr_ref, cr_null, is_ref, is_null, l2_int, l2_ref, l2_null, l2_none, ent_nil, ent_int, ent_ref, ent_null, ent_rf, ent_long, ok_0, ok_1, af_ret, af_void, List.tail_cons, List.tail_nil, Nat.reduceAdd, Nat.reduceLeDiff, not_false_eq_true, not_true_eq_false, and_self, and_true, true_and, ne_eq, or_true, true_or, or_false, false_or, eq_self, Nat.reduceEqDiff, ↓reduceIte, false_and, and_false, Nat.le_refl, Nat.zero_le, nz_1, nz_2, nz_3, nz_4, nz_5, nz_6, nz_8, nz_10, nz_12, nz_20, nz_30, nz_60, nz_100, g_K_sI, g_N_sI, g_B_sI, g_Z_sI, g_K_sL, g_N_sL, g_B_sL, g_Z_sL, g_K_sR, g_N_sR, g_B_sR, g_Z_sR, g_L_sI, g_R_sI, g_I_sL, g_R_sL, g_I_sR, g_L_sR, g_R_sRv, g_K_nw, g_N_nw, g_B_nw, g_Z_nw, h_R_nw, h_I_nw, h_L_nw, o1, o2, n1, n2, n3, r89_174, r89_175, r89_178, r89_180, r89_180n, r89_180v]
theorem a89_23 {h : xm_H} (o : ob 5 a h) : xm_run (d + 1) 89 183 [some (.ref a)] [] h = xm_run (d + 1) 89 191 [some (.ref a)] [] (ast a (26, 100, 20, 0) h) := by
  obtain ⟨o1, o2, o3, -⟩ := o
  have n1 : ¬ (20 : Int32) < 0 ∧ (20 : Int32).toNatClampNeg ≤ 100000 := by decide
  have n2 : (20 : Int32).toNatClampNeg = 20 := by decide
  have n3 : ¬ a = xm_Z h := by omega
  show _ = xm_run (d + 1) 89 191 [some (.ref a)] [] (xm_sR (xm_nw h 100 20 20) a 26 (some (xm_Z h)))
  simp only [ite_not, ite_self, w8_nil, ok01, ite10, rf_rv, rf_ref, rf_cat, rf_lk2, rf_some, rf_none, w_add, w_cons, cr_int, cr_long, cr_ref, cr_null, is_ref, is_null, l2_int, l2_ref, l2_null, l2_none, ent_nil, ent_int, ent_ref, ent_null, ent_rf, ent_long, ok_0, ok_1, af_ret, af_void, List.tail_cons, List.tail_nil, Nat.reduceAdd, Nat.reduceLeDiff, not_false_eq_true, not_true_eq_false, and_self, and_true, true_and, ne_eq, or_true, true_or, or_false, false_or, eq_self, Nat.reduceEqDiff, ↓reduceIte, false_and, and_false, Nat.le_refl, Nat.zero_le, nz_1, nz_2, nz_3, nz_4, nz_5, nz_6, nz_8, nz_10, nz_12, nz_20, nz_30, nz_60, nz_100, g_K_sI, g_N_sI, g_B_sI, g_Z_sI, g_K_sL, g_N_sL, g_B_sL, g_Z_sL, g_K_sR, g_N_sR, g_B_sR, g_Z_sR, g_L_sI, g_R_sI, g_I_sL, g_R_sL, g_I_sR, g_L_sR, g_R_sRv, g_K_nw, g_N_nw, g_B_nw, g_Z_nw, h_R_nw, h_I_nw, h_L_nw, o1, o2, n1, n2, n3, r89_183, r89_184, r89_186, r89_188, r89_188n, r89_188v]
theorem a89_24 {h : xm_H} (o : ob 5 a h) : xm_run (d + 1) 89 191 [some (.ref a)] [] h = xm_run (d + 1) 89 199 [some (.ref a)] [] (ast a (27, 100, 21, 0) h) := by
  obtain ⟨o1, o2, o3, -⟩ := o
  have n1 : ¬ (21 : Int32) < 0 ∧ (21 : Int32).toNatClampNeg ≤ 100000 := by decide
  have n2 : (21 : Int32).toNatClampNeg = 21 := by decide
  have n3 : ¬ a = xm_Z h := by omega
  show _ = xm_run (d + 1) 89 199 [some (.ref a)] [] (xm_sR (xm_nw h 100 21 21) a 27 (some (xm_Z h)))
  simp only [ite_not, ite_self, w8_nil, ok01, ite10, rf_rv, rf_ref, rf_cat, rf_lk2, rf_some, rf_none, w_add, w_cons, cr_int, cr_long, cr_ref, cr_null, is_ref, is_null, l2_int, l2_ref, l2_null, l2_none, ent_nil, ent_int, ent_ref, ent_null, ent_rf, ent_long, ok_0, ok_1, af_ret, af_void, List.tail_cons, List.tail_nil, Nat.reduceAdd, Nat.reduceLeDiff, not_false_eq_true, not_true_eq_false, and_self, and_true, true_and, ne_eq, or_true, true_or, or_false, false_or, eq_self, Nat.reduceEqDiff, ↓reduceIte, false_and, and_false, Nat.le_refl, Nat.zero_le, nz_1, nz_2, nz_3, nz_4, nz_5, nz_6, nz_8, nz_10, nz_12, nz_20, nz_30, nz_60, nz_100, g_K_sI, g_N_sI, g_B_sI, g_Z_sI, g_K_sL, g_N_sL, g_B_sL, g_Z_sL, g_K_sR, g_N_sR, g_B_sR, g_Z_sR, g_L_sI, g_R_sI, g_I_sL, g_R_sL, g_I_sR, g_L_sR, g_R_sRv, g_K_nw, g_N_nw, g_B_nw, g_Z_nw, h_R_nw, h_I_nw, h_L_nw, o1, o2, n1, n2, n3, r89_191, r89_192, r89_194, r89_196, r89_196n, r89_196v]
theorem a89_25 {h : xm_H} (o : ob 5 a h) : xm_run (d + 1) 89 199 [some (.ref a)] [] h = xm_run (d + 1) 89 207 [some (.ref a)] [] (ast a (28, 100, 20, 0) h) := by
  obtain ⟨o1, o2, o3, -⟩ := o
  have n1 : ¬ (20 : Int32) < 0 ∧ (20 : Int32).toNatClampNeg ≤ 100000 := by decide
  have n2 : (20 : Int32).toNatClampNeg = 20 := by decide
  have n3 : ¬ a = xm_Z h := by omega
  show _ = xm_run (d + 1) 89 207 [some (.ref a)] [] (xm_sR (xm_nw h 100 20 20) a 28 (some (xm_Z h)))
  simp only [ite_not, ite_self, w8_nil, ok01, ite10, rf_rv, rf_ref, rf_cat, rf_lk2, rf_some, rf_none, w_add, w_cons, cr_int, cr_long, cr_ref, cr_null, is_ref, is_null, l2_int, l2_ref, l2_null, l2_none, ent_nil, ent_int, ent_ref, ent_null, ent_rf, ent_long, ok_0, ok_1, af_ret, af_void, List.tail_cons, List.tail_nil, Nat.reduceAdd, Nat.reduceLeDiff, not_false_eq_true, not_true_eq_false, and_self, and_true, true_and, ne_eq, or_true, true_or, or_false, false_or, eq_self, Nat.reduceEqDiff, ↓reduceIte, false_and, and_false, Nat.le_refl, Nat.zero_le, nz_1, nz_2, nz_3, nz_4, nz_5, nz_6, nz_8, nz_10, nz_12, nz_20, nz_30, nz_60, nz_100, g_K_sI, g_N_sI, g_B_sI, g_Z_sI, g_K_sL, g_N_sL, g_B_sL, g_Z_sL, g_K_sR, g_N_sR, g_B_sR, g_Z_sR, g_L_sI, g_R_sI, g_I_sL, g_R_sL, g_I_sR, g_L_sR, g_R_sRv, g_K_nw, g_N_nw, g_B_nw, g_Z_nw, h_R_nw, h_I_nw, h_L_nw, o1, o2, n1, n2, n3, r89_199, r89_200, r89_202, r89_204, r89_204n, r89_204v]
theorem a89_26 {h : xm_H} (o : ob 5 a h) : xm_run (d + 1) 89 207 [some (.ref a)] [] h = xm_run (d + 1) 89 215 [some (.ref a)] [] (ast a (29, 100, 20, 0) h) := by
  obtain ⟨o1, o2, o3, -⟩ := o
  have n1 : ¬ (20 : Int32) < 0 ∧ (20 : Int32).toNatClampNeg ≤ 100000 := by decide
  have n2 : (20 : Int32).toNatClampNeg = 20 := by decide
  have n3 : ¬ a = xm_Z h := by omega
  show _ = xm_run (d + 1) 89 215 [some (.ref a)] [] (xm_sR (xm_nw h 100 20 20) a 29 (some (xm_Z h)))
  simp only [ite_not, ite_self, w8_nil, ok01, ite10, rf_rv, rf_ref, rf_cat, rf_lk2, rf_some, rf_none, w_add, w_cons, cr_int, cr_long, cr_ref, cr_null, is_ref, is_null, l2_int, l2_ref, l2_null, l2_none, ent_nil, ent_int, ent_ref, ent_null, ent_rf, ent_long, ok_0, ok_1, af_ret, af_void, List.tail_cons, List.tail_nil, Nat.reduceAdd, Nat.reduceLeDiff, not_false_eq_true, not_true_eq_false, and_self, and_true, true_and, ne_eq, or_true, true_or, or_false, false_or, eq_self, Nat.reduceEqDiff, ↓reduceIte, false_and, and_false, Nat.le_refl, Nat.zero_le, nz_1, nz_2, nz_3, nz_4, nz_5, nz_6, nz_8, nz_10, nz_12, nz_20, nz_30, nz_60, nz_100, g_K_sI, g_N_sI, g_B_sI, g_Z_sI, g_K_sL, g_N_sL, g_B_sL, g_Z_sL, g_K_sR, g_N_sR, g_B_sR, g_Z_sR, g_L_sI, g_R_sI, g_I_sL, g_R_sL, g_I_sR, g_L_sR, g_R_sRv, g_K_nw, g_N_nw, g_B_nw, g_Z_nw, h_R_nw, h_I_nw, h_L_nw, o1, o2, n1, n2, n3, r89_207, r89_208, r89_210, r89_212, r89_212n, r89_212v]
theorem a89_27 {h : xm_H} (o : ob 5 a h) : xm_run (d + 1) 89 215 [some (.ref a)] [] h = xm_run (d + 1) 89 223 [some (.ref a)] [] (ast a (30, 100, 20, 0) h) := by
  obtain ⟨o1, o2, o3, -⟩ := o
  have n1 : ¬ (20 : Int32) < 0 ∧ (20 : Int32).toNatClampNeg ≤ 100000 := by decide
  have n2 : (20 : Int32).toNatClampNeg = 20 := by decide
  have n3 : ¬ a = xm_Z h := by omega
  show _ = xm_run (d + 1) 89 223 [some (.ref a)] [] (xm_sR (xm_nw h 100 20 20) a 30 (some (xm_Z h)))
  simp only [ite_not, ite_self, w8_nil, ok01, ite10, rf_rv, rf_ref, rf_cat, rf_lk2, rf_some, rf_none, w_add, w_cons, cr_int, cr_long, cr_ref, cr_null, is_ref, is_null, l2_int, l2_ref, l2_null, l2_none, ent_nil, ent_int, ent_ref, ent_null, ent_rf, ent_long, ok_0, ok_1, af_ret, af_void, List.tail_cons, List.tail_nil, Nat.reduceAdd, Nat.reduceLeDiff, not_false_eq_true, not_true_eq_false, and_self, and_true, true_and, ne_eq, or_true, true_or, or_false, false_or, eq_self, Nat.reduceEqDiff, ↓reduceIte, false_and, and_false, Nat.le_refl, Nat.zero_le, nz_1, nz_2, nz_3, nz_4, nz_5, nz_6, nz_8, nz_10, nz_12, nz_20, nz_30, nz_60, nz_100, g_K_sI, g_N_sI, g_B_sI, g_Z_sI, g_K_sL, g_N_sL, g_B_sL, g_Z_sL, g_K_sR, g_N_sR, g_B_sR, g_Z_sR, g_L_sI, g_R_sI, g_I_sL, g_R_sL, g_I_sR, g_L_sR, g_R_sRv, g_K_nw, g_N_nw, g_B_nw, g_Z_nw, h_R_nw, h_I_nw, h_L_nw, o1, o2, n1, n2, n3, r89_215, r89_216, r89_218, r89_220, r89_220n, r89_220v]
theorem a89_28 {h : xm_H} (o : ob 5 a h) : xm_run (d + 1) 89 223 [some (.ref a)] [] h = xm_run (d + 1) 89 232 [some (.ref a)] [] (ast a (31, 100, 1220, 0) h) := by
  obtain ⟨o1, o2, o3, -⟩ := o
  have n1 : ¬ (1220 : Int32) < 0 ∧ (1220 : Int32).toNatClampNeg ≤ 100000 := by decide
  have n2 : (1220 : Int32).toNatClampNeg = 1220 := by decide
  have n3 : ¬ a = xm_Z h := by omega
  show _ = xm_run (d + 1) 89 232 [some (.ref a)] [] (xm_sR (xm_nw h 100 1220 1220) a 31 (some (xm_Z h)))
  simp only [ite_not, ite_self, w8_nil, ok01, ite10, rf_rv, rf_ref, rf_cat, rf_lk2, rf_some, rf_none, w_add, w_cons, cr_int, cr_long, cr_ref, cr_null, is_ref, is_null, l2_int, l2_ref, l2_null, l2_none, ent_nil, ent_int, ent_ref, ent_null, ent_rf, ent_long, ok_0, ok_1, af_ret, af_void, List.tail_cons, List.tail_nil, Nat.reduceAdd, Nat.reduceLeDiff, not_false_eq_true, not_true_eq_false, and_self, and_true, true_and, ne_eq, or_true, true_or, or_false, false_or, eq_self, Nat.reduceEqDiff, ↓reduceIte, false_and, and_false, Nat.le_refl, Nat.zero_le, nz_1, nz_2, nz_3, nz_4, nz_5, nz_6, nz_8, nz_10, nz_12, nz_20, nz_30, nz_60, nz_100, g_K_sI, g_N_sI, g_B_sI, g_Z_sI, g_K_sL, g_N_sL, g_B_sL, g_Z_sL, g_K_sR, g_N_sR, g_B_sR, g_Z_sR, g_L_sI, g_R_sI, g_I_sL, g_R_sL, g_I_sR, g_L_sR, g_R_sRv, g_K_nw, g_N_nw, g_B_nw, g_Z_nw, h_R_nw, h_I_nw, h_L_nw, o1, o2, n1, n2, n3, r89_223, r89_224, r89_227, r89_229, r89_229n, r89_229v]
theorem a89_29 {h : xm_H} (o : ob 5 a h) : xm_run (d + 1) 89 232 [some (.ref a)] [] h = xm_run (d + 1) 89 241 [some (.ref a)] [] (ast a (32, 100, 600, 0) h) := by
  obtain ⟨o1, o2, o3, -⟩ := o
  have n1 : ¬ (600 : Int32) < 0 ∧ (600 : Int32).toNatClampNeg ≤ 100000 := by decide
  have n2 : (600 : Int32).toNatClampNeg = 600 := by decide
  have n3 : ¬ a = xm_Z h := by omega
  show _ = xm_run (d + 1) 89 241 [some (.ref a)] [] (xm_sR (xm_nw h 100 600 600) a 32 (some (xm_Z h)))
  simp only [ite_not, ite_self, w8_nil, ok01, ite10, rf_rv, rf_ref, rf_cat, rf_lk2, rf_some, rf_none, w_add, w_cons, cr_int, cr_long, cr_ref, cr_null, is_ref, is_null, l2_int, l2_ref, l2_null, l2_none, ent_nil, ent_int, ent_ref, ent_null, ent_rf, ent_long, ok_0, ok_1, af_ret, af_void, List.tail_cons, List.tail_nil, Nat.reduceAdd, Nat.reduceLeDiff, not_false_eq_true, not_true_eq_false, and_self, and_true, true_and, ne_eq, or_true, true_or, or_false, false_or, eq_self, Nat.reduceEqDiff, ↓reduceIte, false_and, and_false, Nat.le_refl, Nat.zero_le, nz_1, nz_2, nz_3, nz_4, nz_5, nz_6, nz_8, nz_10, nz_12, nz_20, nz_30, nz_60, nz_100, g_K_sI, g_N_sI, g_B_sI, g_Z_sI, g_K_sL, g_N_sL, g_B_sL, g_Z_sL, g_K_sR, g_N_sR, g_B_sR, g_Z_sR, g_L_sI, g_R_sI, g_I_sL, g_R_sL, g_I_sR, g_L_sR, g_R_sRv, g_K_nw, g_N_nw, g_B_nw, g_Z_nw, h_R_nw, h_I_nw, h_L_nw, o1, o2, n1, n2, n3, r89_232, r89_233, r89_236, r89_238, r89_238n, r89_238v]
theorem a89_30 {h : xm_H} (o : ob 5 a h) : xm_run (d + 1) 89 241 [some (.ref a)] [] h = xm_run (d + 1) 89 250 [some (.ref a)] [] (ast a (33, 100, 620, 0) h) := by
  obtain ⟨o1, o2, o3, -⟩ := o
  have n1 : ¬ (620 : Int32) < 0 ∧ (620 : Int32).toNatClampNeg ≤ 100000 := by decide
  have n2 : (620 : Int32).toNatClampNeg = 620 := by decide
  have n3 : ¬ a = xm_Z h := by omega
  show _ = xm_run (d + 1) 89 250 [some (.ref a)] [] (xm_sR (xm_nw h 100 620 620) a 33 (some (xm_Z h)))
  simp only [ite_not, ite_self, w8_nil, ok01, ite10, rf_rv, rf_ref, rf_cat, rf_lk2, rf_some, rf_none, w_add, w_cons, cr_int, cr_long, cr_ref, cr_null, is_ref, is_null, l2_int, l2_ref, l2_null, l2_none, ent_nil, ent_int, ent_ref, ent_null, ent_rf, ent_long, ok_0, ok_1, af_ret, af_void, List.tail_cons, List.tail_nil, Nat.reduceAdd, Nat.reduceLeDiff, not_false_eq_true, not_true_eq_false, and_self, and_true, true_and, ne_eq, or_true, true_or, or_false, false_or, eq_self, Nat.reduceEqDiff, ↓reduceIte, false_and, and_false, Nat.le_refl, Nat.zero_le, nz_1, nz_2, nz_3, nz_4, nz_5, nz_6, nz_8, nz_10, nz_12, nz_20, nz_30, nz_60, nz_100, g_K_sI, g_N_sI, g_B_sI, g_Z_sI, g_K_sL, g_N_sL, g_B_sL, g_Z_sL, g_K_sR, g_N_sR, g_B_sR, g_Z_sR, g_L_sI, g_R_sI, g_I_sL, g_R_sL, g_I_sR, g_L_sR, g_R_sRv, g_K_nw, g_N_nw, g_B_nw, g_Z_nw, h_R_nw, h_I_nw, h_L_nw, o1, o2, n1, n2, n3, r89_241, r89_242, r89_245, r89_247, r89_247n, r89_247v]
theorem a89_31 {h : xm_H} (o : ob 5 a h) : xm_run (d + 1) 89 250 [some (.ref a)] [] h = xm_run (d + 1) 89 255 [some (.ref a)] [] (ast a (45, 0, 0, (-1)) h) := by
  obtain ⟨o1, o2, -⟩ := o
  show _ = xm_run (d + 1) 89 255 [some (.ref a)] [] (xm_sI h a 45 (-1))
  simp only [ite_not, ite_self, w8_nil, ok01, ite10, rf_rv, rf_ref, rf_cat, rf_lk2, rf_some, rf_none, w_add, w_cons, cr_int, cr_long, cr_ref, cr_null, is_ref, is_null, l2_int, l2_ref, l2_null, l2_none, ent_nil, ent_int, ent_ref, ent_null, ent_rf, ent_long, ok_0, ok_1, af_ret, af_void, List.tail_cons, List.tail_nil, Nat.reduceAdd, Nat.reduceLeDiff, not_false_eq_true, not_true_eq_false, and_self, and_true, true_and, ne_eq, or_true, true_or, or_false, false_or, eq_self, Nat.reduceEqDiff, ↓reduceIte, false_and, and_false, Nat.le_refl, Nat.zero_le, nz_1, nz_2, nz_3, nz_4, nz_5, nz_6, nz_8, nz_10, nz_12, nz_20, nz_30, nz_60, nz_100, o1, o2, r89_250, r89_251, r89_252]
theorem a89_32 {h : xm_H} (o : ob 5 a h) : xm_run (d + 1) 89 255 [some (.ref a)] [] h = xm_run (d + 1) 89 262 [some (.ref a)] [] (ast a (47, 100, 4, 0) h) := by
  obtain ⟨o1, o2, o3, -⟩ := o
  have n1 : ¬ (4 : Int32) < 0 ∧ (4 : Int32).toNatClampNeg ≤ 100000 := by decide
  have n2 : (4 : Int32).toNatClampNeg = 4 := by decide
  have n3 : ¬ a = xm_Z h := by omega
  show _ = xm_run (d + 1) 89 262 [some (.ref a)] [] (xm_sR (xm_nw h 100 4 4) a 47 (some (xm_Z h)))
  simp only [ite_not, ite_self, w8_nil, ok01, ite10, rf_rv, rf_ref, rf_cat, rf_lk2, rf_some, rf_none, w_add, w_cons, cr_int, cr_long, cr_ref, cr_null, is_ref, is_null, l2_int, l2_ref, l2_null, l2_none, ent_nil, ent_int, ent_ref, ent_null, ent_rf, ent_long, ok_0, ok_1, af_ret, af_void, List.tail_cons, List.tail_nil, Nat.reduceAdd, Nat.reduceLeDiff, not_false_eq_true, not_true_eq_false, and_self, and_true, true_and, ne_eq, or_true, true_or, or_false, false_or, eq_self, Nat.reduceEqDiff, ↓reduceIte, false_and, and_false, Nat.le_refl, Nat.zero_le, nz_1, nz_2, nz_3, nz_4, nz_5, nz_6, nz_8, nz_10, nz_12, nz_20, nz_30, nz_60, nz_100, g_K_sI, g_N_sI, g_B_sI, g_Z_sI, g_K_sL, g_N_sL, g_B_sL, g_Z_sL, g_K_sR, g_N_sR, g_B_sR, g_Z_sR, g_L_sI, g_R_sI, g_I_sL, g_R_sL, g_I_sR, g_L_sR, g_R_sRv, g_K_nw, g_N_nw, g_B_nw, g_Z_nw, h_R_nw, h_I_nw, h_L_nw, o1, o2, n1, n2, n3, r89_255, r89_256, r89_257, r89_259, r89_259n, r89_259v]
theorem a89_33 {h : xm_H} (o : ob 5 a h) : xm_run (d + 1) 89 262 [some (.ref a)] [] h = xm_run (d + 1) 89 269 [some (.ref a)] [] (ast a (48, 100, 4, 0) h) := by
  obtain ⟨o1, o2, o3, -⟩ := o
  have n1 : ¬ (4 : Int32) < 0 ∧ (4 : Int32).toNatClampNeg ≤ 100000 := by decide
  have n2 : (4 : Int32).toNatClampNeg = 4 := by decide
  have n3 : ¬ a = xm_Z h := by omega
  show _ = xm_run (d + 1) 89 269 [some (.ref a)] [] (xm_sR (xm_nw h 100 4 4) a 48 (some (xm_Z h)))
  simp only [ite_not, ite_self, w8_nil, ok01, ite10, rf_rv, rf_ref, rf_cat, rf_lk2, rf_some, rf_none, w_add, w_cons, cr_int, cr_long, cr_ref, cr_null, is_ref, is_null, l2_int, l2_ref, l2_null, l2_none, ent_nil, ent_int, ent_ref, ent_null, ent_rf, ent_long, ok_0, ok_1, af_ret, af_void, List.tail_cons, List.tail_nil, Nat.reduceAdd, Nat.reduceLeDiff, not_false_eq_true, not_true_eq_false, and_self, and_true, true_and, ne_eq, or_true, true_or, or_false, false_or, eq_self, Nat.reduceEqDiff, ↓reduceIte, false_and, and_false, Nat.le_refl, Nat.zero_le, nz_1, nz_2, nz_3, nz_4, nz_5, nz_6, nz_8, nz_10, nz_12, nz_20, nz_30, nz_60, nz_100, g_K_sI, g_N_sI, g_B_sI, g_Z_sI, g_K_sL, g_N_sL, g_B_sL, g_Z_sL, g_K_sR, g_N_sR, g_B_sR, g_Z_sR, g_L_sI, g_R_sI, g_I_sL, g_R_sL, g_I_sR, g_L_sR, g_R_sRv, g_K_nw, g_N_nw, g_B_nw, g_Z_nw, h_R_nw, h_I_nw, h_L_nw, o1, o2, n1, n2, n3, r89_262, r89_263, r89_264, r89_266, r89_266n, r89_266v]
theorem a89_34 {h : xm_H} (o : ob 5 a h) : xm_run (d + 1) 89 269 [some (.ref a)] [] h = xm_run (d + 1) 89 277 [some (.ref a)] [] (ast a (49, 100, 7, 0) h) := by
  obtain ⟨o1, o2, o3, -⟩ := o
  have n1 : ¬ (7 : Int32) < 0 ∧ (7 : Int32).toNatClampNeg ≤ 100000 := by decide
  have n2 : (7 : Int32).toNatClampNeg = 7 := by decide
  have n3 : ¬ a = xm_Z h := by omega
  show _ = xm_run (d + 1) 89 277 [some (.ref a)] [] (xm_sR (xm_nw h 100 7 7) a 49 (some (xm_Z h)))
  simp only [ite_not, ite_self, w8_nil, ok01, ite10, rf_rv, rf_ref, rf_cat, rf_lk2, rf_some, rf_none, w_add, w_cons, cr_int, cr_long, cr_ref, cr_null, is_ref, is_null, l2_int, l2_ref, l2_null, l2_none, ent_nil, ent_int, ent_ref, ent_null, ent_rf, ent_long, ok_0, ok_1, af_ret, af_void, List.tail_cons, List.tail_nil, Nat.reduceAdd, Nat.reduceLeDiff, not_false_eq_true, not_true_eq_false, and_self, and_true, true_and, ne_eq, or_true, true_or, or_false, false_or, eq_self, Nat.reduceEqDiff, ↓reduceIte, false_and, and_false, Nat.le_refl, Nat.zero_le, nz_1, nz_2, nz_3, nz_4, nz_5, nz_6, nz_8, nz_10, nz_12, nz_20, nz_30, nz_60, nz_100, g_K_sI, g_N_sI, g_B_sI, g_Z_sI, g_K_sL, g_N_sL, g_B_sL, g_Z_sL, g_K_sR, g_N_sR, g_B_sR, g_Z_sR, g_L_sI, g_R_sI, g_I_sL, g_R_sL, g_I_sR, g_L_sR, g_R_sRv, g_K_nw, g_N_nw, g_B_nw, g_Z_nw, h_R_nw, h_I_nw, h_L_nw, o1, o2, n1, n2, n3, r89_269, r89_270, r89_272, r89_274, r89_274n, r89_274v]
theorem a89_35 {h : xm_H} (o : ob 5 a h) : xm_run (d + 1) 89 277 [some (.ref a)] [] h = xm_run (d + 1) 89 285 [some (.ref a)] [] (ast a (50, 100, 8, 0) h) := by
  obtain ⟨o1, o2, o3, -⟩ := o
  have n1 : ¬ (8 : Int32) < 0 ∧ (8 : Int32).toNatClampNeg ≤ 100000 := by decide
  have n2 : (8 : Int32).toNatClampNeg = 8 := by decide
  have n3 : ¬ a = xm_Z h := by omega
  show _ = xm_run (d + 1) 89 285 [some (.ref a)] [] (xm_sR (xm_nw h 100 8 8) a 50 (some (xm_Z h)))
  simp only [ite_not, ite_self, w8_nil, ok01, ite10, rf_rv, rf_ref, rf_cat, rf_lk2, rf_some, rf_none, w_add, w_cons, cr_int, cr_long, cr_ref, cr_null, is_ref, is_null, l2_int, l2_ref, l2_null, l2_none, ent_nil, ent_int, ent_ref, ent_null, ent_rf, ent_long, ok_0, ok_1, af_ret, af_void, List.tail_cons, List.tail_nil, Nat.reduceAdd, Nat.reduceLeDiff, not_false_eq_true, not_true_eq_false, and_self, and_true, true_and, ne_eq, or_true, true_or, or_false, false_or, eq_self, Nat.reduceEqDiff, ↓reduceIte, false_and, and_false, Nat.le_refl, Nat.zero_le, nz_1, nz_2, nz_3, nz_4, nz_5, nz_6, nz_8, nz_10, nz_12, nz_20, nz_30, nz_60, nz_100, g_K_sI, g_N_sI, g_B_sI, g_Z_sI, g_K_sL, g_N_sL, g_B_sL, g_Z_sL, g_K_sR, g_N_sR, g_B_sR, g_Z_sR, g_L_sI, g_R_sI, g_I_sL, g_R_sL, g_I_sR, g_L_sR, g_R_sRv, g_K_nw, g_N_nw, g_B_nw, g_Z_nw, h_R_nw, h_I_nw, h_L_nw, o1, o2, n1, n2, n3, r89_277, r89_278, r89_280, r89_282, r89_282n, r89_282v]
theorem a89_36 {h : xm_H} (o : ob 5 a h) : xm_run (d + 1) 89 285 [some (.ref a)] [] h = xm_run (d + 1) 89 293 [some (.ref a)] [] (ast a (51, 100, 8, 0) h) := by
  obtain ⟨o1, o2, o3, -⟩ := o
  have n1 : ¬ (8 : Int32) < 0 ∧ (8 : Int32).toNatClampNeg ≤ 100000 := by decide
  have n2 : (8 : Int32).toNatClampNeg = 8 := by decide
  have n3 : ¬ a = xm_Z h := by omega
  show _ = xm_run (d + 1) 89 293 [some (.ref a)] [] (xm_sR (xm_nw h 100 8 8) a 51 (some (xm_Z h)))
  simp only [ite_not, ite_self, w8_nil, ok01, ite10, rf_rv, rf_ref, rf_cat, rf_lk2, rf_some, rf_none, w_add, w_cons, cr_int, cr_long, cr_ref, cr_null, is_ref, is_null, l2_int, l2_ref, l2_null, l2_none, ent_nil, ent_int, ent_ref, ent_null, ent_rf, ent_long, ok_0, ok_1, af_ret, af_void, List.tail_cons, List.tail_nil, Nat.reduceAdd, Nat.reduceLeDiff, not_false_eq_true, not_true_eq_false, and_self, and_true, true_and, ne_eq, or_true, true_or, or_false, false_or, eq_self, Nat.reduceEqDiff, ↓reduceIte, false_and, and_false, Nat.le_refl, Nat.zero_le, nz_1, nz_2, nz_3, nz_4, nz_5, nz_6, nz_8, nz_10, nz_12, nz_20, nz_30, nz_60, nz_100, g_K_sI, g_N_sI, g_B_sI, g_Z_sI, g_K_sL, g_N_sL, g_B_sL, g_Z_sL, g_K_sR, g_N_sR, g_B_sR, g_Z_sR, g_L_sI, g_R_sI, g_I_sL, g_R_sL, g_I_sR, g_L_sR, g_R_sRv, g_K_nw, g_N_nw, g_B_nw, g_Z_nw, h_R_nw, h_I_nw, h_L_nw, o1, o2, n1, n2, n3, r89_285, r89_286, r89_288, r89_290, r89_290n, r89_290v]
theorem a89_37 {h : xm_H} (o : ob 5 a h) : xm_run (d + 1) 89 293 [some (.ref a)] [] h = xm_run (d + 1) 89 301 [some (.ref a)] [] (ast a (52, 100, 8, 0) h) := by
  obtain ⟨o1, o2, o3, -⟩ := o
  have n1 : ¬ (8 : Int32) < 0 ∧ (8 : Int32).toNatClampNeg ≤ 100000 := by decide
  have n2 : (8 : Int32).toNatClampNeg = 8 := by decide
  have n3 : ¬ a = xm_Z h := by omega
  show _ = xm_run (d + 1) 89 301 [some (.ref a)] [] (xm_sR (xm_nw h 100 8 8) a 52 (some (xm_Z h)))
  simp only [ite_not, ite_self, w8_nil, ok01, ite10, rf_rv, rf_ref, rf_cat, rf_lk2, rf_some, rf_none, w_add, w_cons, cr_int, cr_long, cr_ref, cr_null, is_ref, is_null, l2_int, l2_ref, l2_null, l2_none, ent_nil, ent_int, ent_ref, ent_null, ent_rf, ent_long, ok_0, ok_1, af_ret, af_void, List.tail_cons, List.tail_nil, Nat.reduceAdd, Nat.reduceLeDiff, not_false_eq_true, not_true_eq_false, and_self, and_true, true_and, ne_eq, or_true, true_or, or_false, false_or, eq_self, Nat.reduceEqDiff, ↓reduceIte, false_and, and_false, Nat.le_refl, Nat.zero_le, nz_1, nz_2, nz_3, nz_4, nz_5, nz_6, nz_8, nz_10, nz_12, nz_20, nz_30, nz_60, nz_100, g_K_sI, g_N_sI, g_B_sI, g_Z_sI, g_K_sL, g_N_sL, g_B_sL, g_Z_sL, g_K_sR, g_N_sR, g_B_sR, g_Z_sR, g_L_sI, g_R_sI, g_I_sL, g_R_sL, g_I_sR, g_L_sR, g_R_sRv, g_K_nw, g_N_nw, g_B_nw, g_Z_nw, h_R_nw, h_I_nw, h_L_nw, o1, o2, n1, n2, n3, r89_293, r89_294, r89_296, r89_298, r89_298n, r89_298v]
theorem a89_38 {h : xm_H} (o : ob 5 a h) : xm_run (d + 1) 89 301 [some (.ref a)] [] h = xm_run (d + 1) 89 309 [some (.ref a)] [] (ast a (53, 100, 8, 0) h) := by
  obtain ⟨o1, o2, o3, -⟩ := o
  have n1 : ¬ (8 : Int32) < 0 ∧ (8 : Int32).toNatClampNeg ≤ 100000 := by decide
  have n2 : (8 : Int32).toNatClampNeg = 8 := by decide
  have n3 : ¬ a = xm_Z h := by omega
  show _ = xm_run (d + 1) 89 309 [some (.ref a)] [] (xm_sR (xm_nw h 100 8 8) a 53 (some (xm_Z h)))
  simp only [ite_not, ite_self, w8_nil, ok01, ite10, rf_rv, rf_ref, rf_cat, rf_lk2, rf_some, rf_none, w_add, w_cons, cr_int, cr_long, cr_ref, cr_null, is_ref, is_null, l2_int, l2_ref, l2_null, l2_none, ent_nil, ent_int, ent_ref, ent_null, ent_rf, ent_long, ok_0, ok_1, af_ret, af_void, List.tail_cons, List.tail_nil, Nat.reduceAdd, Nat.reduceLeDiff, not_false_eq_true, not_true_eq_false, and_self, and_true, true_and, ne_eq, or_true, true_or, or_false, false_or, eq_self, Nat.reduceEqDiff, ↓reduceIte, false_and, and_false, Nat.le_refl, Nat.zero_le, nz_1, nz_2, nz_3, nz_4, nz_5, nz_6, nz_8, nz_10, nz_12, nz_20, nz_30, nz_60, nz_100, g_K_sI, g_N_sI, g_B_sI, g_Z_sI, g_K_sL, g_N_sL, g_B_sL, g_Z_sL, g_K_sR, g_N_sR, g_B_sR, g_Z_sR, g_L_sI, g_R_sI, g_I_sL, g_R_sL, g_I_sR, g_L_sR, g_R_sRv, g_K_nw, g_N_nw, g_B_nw, g_Z_nw, h_R_nw, h_I_nw, h_L_nw, o1, o2, n1, n2, n3, r89_301, r89_302, r89_304, r89_306, r89_306n, r89_306v]
theorem a89_39 {h : xm_H} (o : ob 5 a h) : xm_run (d + 1) 89 309 [some (.ref a)] [] h = xm_run (d + 1) 89 317 [some (.ref a)] [] (ast a (54, 100, 8, 0) h) := by
  obtain ⟨o1, o2, o3, -⟩ := o
  have n1 : ¬ (8 : Int32) < 0 ∧ (8 : Int32).toNatClampNeg ≤ 100000 := by decide
  have n2 : (8 : Int32).toNatClampNeg = 8 := by decide
  have n3 : ¬ a = xm_Z h := by omega
  show _ = xm_run (d + 1) 89 317 [some (.ref a)] [] (xm_sR (xm_nw h 100 8 8) a 54 (some (xm_Z h)))
  simp only [ite_not, ite_self, w8_nil, ok01, ite10, rf_rv, rf_ref, rf_cat, rf_lk2, rf_some, rf_none, w_add, w_cons, cr_int, cr_long, cr_ref, cr_null, is_ref, is_null, l2_int, l2_ref, l2_null, l2_none, ent_nil, ent_int, ent_ref, ent_null, ent_rf, ent_long, ok_0, ok_1, af_ret, af_void, List.tail_cons, List.tail_nil, Nat.reduceAdd, Nat.reduceLeDiff, not_false_eq_true, not_true_eq_false, and_self, and_true, true_and, ne_eq, or_true, true_or, or_false, false_or, eq_self, Nat.reduceEqDiff, ↓reduceIte, false_and, and_false, Nat.le_refl, Nat.zero_le, nz_1, nz_2, nz_3, nz_4, nz_5, nz_6, nz_8, nz_10, nz_12, nz_20, nz_30, nz_60, nz_100, g_K_sI, g_N_sI, g_B_sI, g_Z_sI, g_K_sL, g_N_sL, g_B_sL, g_Z_sL, g_K_sR, g_N_sR, g_B_sR, g_Z_sR, g_L_sI, g_R_sI, g_I_sL, g_R_sL, g_I_sR, g_L_sR, g_R_sRv, g_K_nw, g_N_nw, g_B_nw, g_Z_nw, h_R_nw, h_I_nw, h_L_nw, o1, o2, n1, n2, n3, r89_309, r89_310, r89_312, r89_314, r89_314n, r89_314v]
theorem a89_40 {h : xm_H} (o : ob 5 a h) : xm_run (d + 1) 89 317 [some (.ref a)] [] h = xm_run (d + 1) 89 325 [some (.ref a)] [] (ast a (55, 100, 7, 0) h) := by
  obtain ⟨o1, o2, o3, -⟩ := o
  have n1 : ¬ (7 : Int32) < 0 ∧ (7 : Int32).toNatClampNeg ≤ 100000 := by decide
  have n2 : (7 : Int32).toNatClampNeg = 7 := by decide
  have n3 : ¬ a = xm_Z h := by omega
  show _ = xm_run (d + 1) 89 325 [some (.ref a)] [] (xm_sR (xm_nw h 100 7 7) a 55 (some (xm_Z h)))
  simp only [ite_not, ite_self, w8_nil, ok01, ite10, rf_rv, rf_ref, rf_cat, rf_lk2, rf_some, rf_none, w_add, w_cons, cr_int, cr_long, cr_ref, cr_null, is_ref, is_null, l2_int, l2_ref, l2_null, l2_none, ent_nil, ent_int, ent_ref, ent_null, ent_rf, ent_long, ok_0, ok_1, af_ret, af_void, List.tail_cons, List.tail_nil, Nat.reduceAdd, Nat.reduceLeDiff, not_false_eq_true, not_true_eq_false, and_self, and_true, true_and, ne_eq, or_true, true_or, or_false, false_or, eq_self, Nat.reduceEqDiff, ↓reduceIte, false_and, and_false, Nat.le_refl, Nat.zero_le, nz_1, nz_2, nz_3, nz_4, nz_5, nz_6, nz_8, nz_10, nz_12, nz_20, nz_30, nz_60, nz_100, g_K_sI, g_N_sI, g_B_sI, g_Z_sI, g_K_sL, g_N_sL, g_B_sL, g_Z_sL, g_K_sR, g_N_sR, g_B_sR, g_Z_sR, g_L_sI, g_R_sI, g_I_sL, g_R_sL, g_I_sR, g_L_sR, g_R_sRv, g_K_nw, g_N_nw, g_B_nw, g_Z_nw, h_R_nw, h_I_nw, h_L_nw, o1, o2, n1, n2, n3, r89_317, r89_318, r89_320, r89_322, r89_322n, r89_322v]
theorem a89_41 {h : xm_H} (o : ob 5 a h) : xm_run (d + 1) 89 325 [some (.ref a)] [] h = xm_run (d + 1) 89 330 [some (.ref a)] [] (ast a (62, 0, 0, (-1)) h) := by
  obtain ⟨o1, o2, -⟩ := o
  show _ = xm_run (d + 1) 89 330 [some (.ref a)] [] (xm_sI h a 62 (-1))
  simp only [ite_not, ite_self, w8_nil, ok01, ite10, rf_rv, rf_ref, rf_cat, rf_lk2, rf_some, rf_none, w_add, w_cons, cr_int, cr_long, cr_ref, cr_null, is_ref, is_null, l2_int, l2_ref, l2_null, l2_none, ent_nil, ent_int, ent_ref, ent_null, ent_rf, ent_long, ok_0, ok_1, af_ret, af_void, List.tail_cons, List.tail_nil, Nat.reduceAdd, Nat.reduceLeDiff, not_false_eq_true, not_true_eq_false, and_self, and_true, true_and, ne_eq, or_true, true_or, or_false, false_or, eq_self, Nat.reduceEqDiff, ↓reduceIte, false_and, and_false, Nat.le_refl, Nat.zero_le, nz_1, nz_2, nz_3, nz_4, nz_5, nz_6, nz_8, nz_10, nz_12, nz_20, nz_30, nz_60, nz_100, o1, o2, r89_325, r89_326, r89_327]
theorem a89_42 {h : xm_H} (o : ob 5 a h) : xm_run (d + 1) 89 330 [some (.ref a)] [] h = xm_run (d + 1) 89 338 [some (.ref a)] [] (ast a (63, 100, 16, 0) h) := by
  obtain ⟨o1, o2, o3, -⟩ := o
  have n1 : ¬ (16 : Int32) < 0 ∧ (16 : Int32).toNatClampNeg ≤ 100000 := by decide
  have n2 : (16 : Int32).toNatClampNeg = 16 := by decide
  have n3 : ¬ a = xm_Z h := by omega
  show _ = xm_run (d + 1) 89 338 [some (.ref a)] [] (xm_sR (xm_nw h 100 16 16) a 63 (some (xm_Z h)))
  simp only [ite_not, ite_self, w8_nil, ok01, ite10, rf_rv, rf_ref, rf_cat, rf_lk2, rf_some, rf_none, w_add, w_cons, cr_int, cr_long, cr_ref, cr_null, is_ref, is_null, l2_int, l2_ref, l2_null, l2_none, ent_nil, ent_int, ent_ref, ent_null, ent_rf, ent_long, ok_0, ok_1, af_ret, af_void, List.tail_cons, List.tail_nil, Nat.reduceAdd, Nat.reduceLeDiff, not_false_eq_true, not_true_eq_false, and_self, and_true, true_and, ne_eq, or_true, true_or, or_false, false_or, eq_self, Nat.reduceEqDiff, ↓reduceIte, false_and, and_false, Nat.le_refl, Nat.zero_le, nz_1, nz_2, nz_3, nz_4, nz_5, nz_6, nz_8, nz_10, nz_12, nz_20, nz_30, nz_60, nz_100, g_K_sI, g_N_sI, g_B_sI, g_Z_sI, g_K_sL, g_N_sL, g_B_sL, g_Z_sL, g_K_sR, g_N_sR, g_B_sR, g_Z_sR, g_L_sI, g_R_sI, g_I_sL, g_R_sL, g_I_sR, g_L_sR, g_R_sRv, g_K_nw, g_N_nw, g_B_nw, g_Z_nw, h_R_nw, h_I_nw, h_L_nw, o1, o2, n1, n2, n3, r89_330, r89_331, r89_333, r89_335, r89_335n, r89_335v]
theorem a89_43 {h : xm_H} (o : ob 5 a h) : xm_run (d + 1) 89 338 [some (.ref a)] [] h = xm_run (d + 1) 89 346 [some (.ref a)] [] (ast a (64, 100, 16, 0) h) := by
  obtain ⟨o1, o2, o3, -⟩ := o
  have n1 : ¬ (16 : Int32) < 0 ∧ (16 : Int32).toNatClampNeg ≤ 100000 := by decide
  have n2 : (16 : Int32).toNatClampNeg = 16 := by decide
  have n3 : ¬ a = xm_Z h := by omega
  show _ = xm_run (d + 1) 89 346 [some (.ref a)] [] (xm_sR (xm_nw h 100 16 16) a 64 (some (xm_Z h)))
  simp only [ite_not, ite_self, w8_nil, ok01, ite10, rf_rv, rf_ref, rf_cat, rf_lk2, rf_some, rf_none, w_add, w_cons, cr_int, cr_long, cr_ref, cr_null, is_ref, is_null, l2_int, l2_ref, l2_null, l2_none, ent_nil, ent_int, ent_ref, ent_null, ent_rf, ent_long, ok_0, ok_1, af_ret, af_void, List.tail_cons, List.tail_nil, Nat.reduceAdd, Nat.reduceLeDiff, not_false_eq_true, not_true_eq_false, and_self, and_true, true_and, ne_eq, or_true, true_or, or_false, false_or, eq_self, Nat.reduceEqDiff, ↓reduceIte, false_and, and_false, Nat.le_refl, Nat.zero_le, nz_1, nz_2, nz_3, nz_4, nz_5, nz_6, nz_8, nz_10, nz_12, nz_20, nz_30, nz_60, nz_100, g_K_sI, g_N_sI, g_B_sI, g_Z_sI, g_K_sL, g_N_sL, g_B_sL, g_Z_sL, g_K_sR, g_N_sR, g_B_sR, g_Z_sR, g_L_sI, g_R_sI, g_I_sL, g_R_sL, g_I_sR, g_L_sR, g_R_sRv, g_K_nw, g_N_nw, g_B_nw, g_Z_nw, h_R_nw, h_I_nw, h_L_nw, o1, o2, n1, n2, n3, r89_338, r89_339, r89_341, r89_343, r89_343n, r89_343v]
theorem a89_44 {h : xm_H} (o : ob 5 a h) : xm_run (d + 1) 89 346 [some (.ref a)] [] h = xm_run (d + 1) 89 354 [some (.ref a)] [] (ast a (65, 100, 16, 0) h) := by
  obtain ⟨o1, o2, o3, -⟩ := o
  have n1 : ¬ (16 : Int32) < 0 ∧ (16 : Int32).toNatClampNeg ≤ 100000 := by decide
  have n2 : (16 : Int32).toNatClampNeg = 16 := by decide
  have n3 : ¬ a = xm_Z h := by omega
  show _ = xm_run (d + 1) 89 354 [some (.ref a)] [] (xm_sR (xm_nw h 100 16 16) a 65 (some (xm_Z h)))
  simp only [ite_not, ite_self, w8_nil, ok01, ite10, rf_rv, rf_ref, rf_cat, rf_lk2, rf_some, rf_none, w_add, w_cons, cr_int, cr_long, cr_ref, cr_null, is_ref, is_null, l2_int, l2_ref, l2_null, l2_none, ent_nil, ent_int, ent_ref, ent_null, ent_rf, ent_long, ok_0, ok_1, af_ret, af_void, List.tail_cons, List.tail_nil, Nat.reduceAdd, Nat.reduceLeDiff, not_false_eq_true, not_true_eq_false, and_self, and_true, true_and, ne_eq, or_true, true_or, or_false, false_or, eq_self, Nat.reduceEqDiff, ↓reduceIte, false_and, and_false, Nat.le_refl, Nat.zero_le, nz_1, nz_2, nz_3, nz_4, nz_5, nz_6, nz_8, nz_10, nz_12, nz_20, nz_30, nz_60, nz_100, g_K_sI, g_N_sI, g_B_sI, g_Z_sI, g_K_sL, g_N_sL, g_B_sL, g_Z_sL, g_K_sR, g_N_sR, g_B_sR, g_Z_sR, g_L_sI, g_R_sI, g_I_sL, g_R_sL, g_I_sR, g_L_sR, g_R_sRv, g_K_nw, g_N_nw, g_B_nw, g_Z_nw, h_R_nw, h_I_nw, h_L_nw, o1, o2, n1, n2, n3, r89_346, r89_347, r89_349, r89_351, r89_351n, r89_351v]
theorem a89_45 {h : xm_H} (o : ob 5 a h) : xm_run (d + 1) 89 354 [some (.ref a)] [] h = xm_run (d + 1) 89 362 [some (.ref a)] [] (ast a (66, 100, 16, 0) h) := by
  obtain ⟨o1, o2, o3, -⟩ := o
  have n1 : ¬ (16 : Int32) < 0 ∧ (16 : Int32).toNatClampNeg ≤ 100000 := by decide
  have n2 : (16 : Int32).toNatClampNeg = 16 := by decide
  have n3 : ¬ a = xm_Z h := by omega
  show _ = xm_run (d + 1) 89 362 [some (.ref a)] [] (xm_sR (xm_nw h 100 16 16) a 66 (some (xm_Z h)))
  simp only [ite_not, ite_self, w8_nil, ok01, ite10, rf_rv, rf_ref, rf_cat, rf_lk2, rf_some, rf_none, w_add, w_cons, cr_int, cr_long, cr_ref, cr_null, is_ref, is_null, l2_int, l2_ref, l2_null, l2_none, ent_nil, ent_int, ent_ref, ent_null, ent_rf, ent_long, ok_0, ok_1, af_ret, af_void, List.tail_cons, List.tail_nil, Nat.reduceAdd, Nat.reduceLeDiff, not_false_eq_true, not_true_eq_false, and_self, and_true, true_and, ne_eq, or_true, true_or, or_false, false_or, eq_self, Nat.reduceEqDiff, ↓reduceIte, false_and, and_false, Nat.le_refl, Nat.zero_le, nz_1, nz_2, nz_3, nz_4, nz_5, nz_6, nz_8, nz_10, nz_12, nz_20, nz_30, nz_60, nz_100, g_K_sI, g_N_sI, g_B_sI, g_Z_sI, g_K_sL, g_N_sL, g_B_sL, g_Z_sL, g_K_sR, g_N_sR, g_B_sR, g_Z_sR, g_L_sI, g_R_sI, g_I_sL, g_R_sL, g_I_sR, g_L_sR, g_R_sRv, g_K_nw, g_N_nw, g_B_nw, g_Z_nw, h_R_nw, h_I_nw, h_L_nw, o1, o2, n1, n2, n3, r89_354, r89_355, r89_357, r89_359, r89_359n, r89_359v]
theorem a89_46 {h : xm_H} (o : ob 5 a h) : xm_run (d + 1) 89 362 [some (.ref a)] [] h = xm_run (d + 1) 89 370 [some (.ref a)] [] (ast a (67, 102, 16, 0) h) := by
  obtain ⟨o1, o2, o3, -⟩ := o
  have n1 : ¬ (16 : Int32) < 0 ∧ (16 : Int32).toNatClampNeg ≤ 100000 := by decide
  have n2 : (16 : Int32).toNatClampNeg = 16 := by decide
  have n3 : ¬ a = xm_Z h := by omega
  show _ = xm_run (d + 1) 89 370 [some (.ref a)] [] (xm_sR (xm_nw h 102 16 16) a 67 (some (xm_Z h)))
  simp only [ite_not, ite_self, w8_nil, ok01, ite10, rf_rv, rf_ref, rf_cat, rf_lk2, rf_some, rf_none, w_add, w_cons, cr_int, cr_long, cr_ref, cr_null, is_ref, is_null, l2_int, l2_ref, l2_null, l2_none, ent_nil, ent_int, ent_ref, ent_null, ent_rf, ent_long, ok_0, ok_1, af_ret, af_void, List.tail_cons, List.tail_nil, Nat.reduceAdd, Nat.reduceLeDiff, not_false_eq_true, not_true_eq_false, and_self, and_true, true_and, ne_eq, or_true, true_or, or_false, false_or, eq_self, Nat.reduceEqDiff, ↓reduceIte, false_and, and_false, Nat.le_refl, Nat.zero_le, nz_1, nz_2, nz_3, nz_4, nz_5, nz_6, nz_8, nz_10, nz_12, nz_20, nz_30, nz_60, nz_100, g_K_sI, g_N_sI, g_B_sI, g_Z_sI, g_K_sL, g_N_sL, g_B_sL, g_Z_sL, g_K_sR, g_N_sR, g_B_sR, g_Z_sR, g_L_sI, g_R_sI, g_I_sL, g_R_sL, g_I_sR, g_L_sR, g_R_sRv, g_K_nw, g_N_nw, g_B_nw, g_Z_nw, h_R_nw, h_I_nw, h_L_nw, o1, o2, n1, n2, n3, r89_362, r89_363, r89_365, r89_367, r89_367n, r89_367v]
theorem a89_47 {h : xm_H} (o : ob 5 a h) : xm_run (d + 1) 89 370 [some (.ref a)] [] h = xm_run (d + 1) 89 378 [some (.ref a)] [] (ast a (71, 100, 40, 0) h) := by
  obtain ⟨o1, o2, o3, -⟩ := o
  have n1 : ¬ (40 : Int32) < 0 ∧ (40 : Int32).toNatClampNeg ≤ 100000 := by decide
  have n2 : (40 : Int32).toNatClampNeg = 40 := by decide
  have n3 : ¬ a = xm_Z h := by omega
  show _ = xm_run (d + 1) 89 378 [some (.ref a)] [] (xm_sR (xm_nw h 100 40 40) a 71 (some (xm_Z h)))
  simp only [ite_not, ite_self, w8_nil, ok01, ite10, rf_rv, rf_ref, rf_cat, rf_lk2, rf_some, rf_none, w_add, w_cons, cr_int, cr_long, cr_ref, cr_null, is_ref, is_null, l2_int, l2_ref, l2_null, l2_none, ent_nil, ent_int, ent_ref, ent_null, ent_rf, ent_long, ok_0, ok_1, af_ret, af_void, List.tail_cons, List.tail_nil, Nat.reduceAdd, Nat.reduceLeDiff, not_false_eq_true, not_true_eq_false, and_self, and_true, true_and, ne_eq, or_true, true_or, or_false, false_or, eq_self, Nat.reduceEqDiff, ↓reduceIte, false_and, and_false, Nat.le_refl, Nat.zero_le, nz_1, nz_2, nz_3, nz_4, nz_5, nz_6, nz_8, nz_10, nz_12, nz_20, nz_30, nz_60, nz_100, g_K_sI, g_N_sI, g_B_sI, g_Z_sI, g_K_sL, g_N_sL, g_B_sL, g_Z_sL, g_K_sR, g_N_sR, g_B_sR, g_Z_sR, g_L_sI, g_R_sI, g_I_sL, g_R_sL, g_I_sR, g_L_sR, g_R_sRv, g_K_nw, g_N_nw, g_B_nw, g_Z_nw, h_R_nw, h_I_nw, h_L_nw, o1, o2, n1, n2, n3, r89_370, r89_371, r89_373, r89_375, r89_375n, r89_375v]
theorem a89_48 {h : xm_H} (o : ob 5 a h) : xm_run (d + 1) 89 378 [some (.ref a)] [] h = xm_run (d + 1) 89 386 [some (.ref a)] [] (ast a (72, 100, 40, 0) h) := by
  obtain ⟨o1, o2, o3, -⟩ := o
  have n1 : ¬ (40 : Int32) < 0 ∧ (40 : Int32).toNatClampNeg ≤ 100000 := by decide
  have n2 : (40 : Int32).toNatClampNeg = 40 := by decide
  have n3 : ¬ a = xm_Z h := by omega
  show _ = xm_run (d + 1) 89 386 [some (.ref a)] [] (xm_sR (xm_nw h 100 40 40) a 72 (some (xm_Z h)))
  simp only [ite_not, ite_self, w8_nil, ok01, ite10, rf_rv, rf_ref, rf_cat, rf_lk2, rf_some, rf_none, w_add, w_cons, cr_int, cr_long, cr_ref, cr_null, is_ref, is_null, l2_int, l2_ref, l2_null, l2_none, ent_nil, ent_int, ent_ref, ent_null, ent_rf, ent_long, ok_0, ok_1, af_ret, af_void, List.tail_cons, List.tail_nil, Nat.reduceAdd, Nat.reduceLeDiff, not_false_eq_true, not_true_eq_false, and_self, and_true, true_and, ne_eq, or_true, true_or, or_false, false_or, eq_self, Nat.reduceEqDiff, ↓reduceIte, false_and, and_false, Nat.le_refl, Nat.zero_le, nz_1, nz_2, nz_3, nz_4, nz_5, nz_6, nz_8, nz_10, nz_12, nz_20, nz_30, nz_60, nz_100, g_K_sI, g_N_sI, g_B_sI, g_Z_sI, g_K_sL, g_N_sL, g_B_sL, g_Z_sL, g_K_sR, g_N_sR, g_B_sR, g_Z_sR, g_L_sI, g_R_sI, g_I_sL, g_R_sL, g_I_sR, g_L_sR, g_R_sRv, g_K_nw, g_N_nw, g_B_nw, g_Z_nw, h_R_nw, h_I_nw, h_L_nw, o1, o2, n1, n2, n3, r89_378, r89_379, r89_381, r89_383, r89_383n, r89_383v]
theorem a89_49 {h : xm_H} (o : ob 5 a h) : xm_run (d + 1) 89 386 [some (.ref a)] [] h = xm_run (d + 1) 89 394 [some (.ref a)] [] (ast a (73, 100, 40, 0) h) := by
  obtain ⟨o1, o2, o3, -⟩ := o
  have n1 : ¬ (40 : Int32) < 0 ∧ (40 : Int32).toNatClampNeg ≤ 100000 := by decide
  have n2 : (40 : Int32).toNatClampNeg = 40 := by decide
  have n3 : ¬ a = xm_Z h := by omega
  show _ = xm_run (d + 1) 89 394 [some (.ref a)] [] (xm_sR (xm_nw h 100 40 40) a 73 (some (xm_Z h)))
  simp only [ite_not, ite_self, w8_nil, ok01, ite10, rf_rv, rf_ref, rf_cat, rf_lk2, rf_some, rf_none, w_add, w_cons, cr_int, cr_long, cr_ref, cr_null, is_ref, is_null, l2_int, l2_ref, l2_null, l2_none, ent_nil, ent_int, ent_ref, ent_null, ent_rf, ent_long, ok_0, ok_1, af_ret, af_void, List.tail_cons, List.tail_nil, Nat.reduceAdd, Nat.reduceLeDiff, not_false_eq_true, not_true_eq_false, and_self, and_true, true_and, ne_eq, or_true, true_or, or_false, false_or, eq_self, Nat.reduceEqDiff, ↓reduceIte, false_and, and_false, Nat.le_refl, Nat.zero_le, nz_1, nz_2, nz_3, nz_4, nz_5, nz_6, nz_8, nz_10, nz_12, nz_20, nz_30, nz_60, nz_100, g_K_sI, g_N_sI, g_B_sI, g_Z_sI, g_K_sL, g_N_sL, g_B_sL, g_Z_sL, g_K_sR, g_N_sR, g_B_sR, g_Z_sR, g_L_sI, g_R_sI, g_I_sL, g_R_sL, g_I_sR, g_L_sR, g_R_sRv, g_K_nw, g_N_nw, g_B_nw, g_Z_nw, h_R_nw, h_I_nw, h_L_nw, o1, o2, n1, n2, n3, r89_386, r89_387, r89_389, r89_391, r89_391n, r89_391v]
theorem a89_50 {h : xm_H} (o : ob 5 a h) : xm_run (d + 1) 89 394 [some (.ref a)] [] h = xm_run (d + 1) 89 402 [some (.ref a)] [] (ast a (74, 100, 40, 0) h) := by
  obtain ⟨o1, o2, o3, -⟩ := o
  have n1 : ¬ (40 : Int32) < 0 ∧ (40 : Int32).toNatClampNeg ≤ 100000 := by decide
  have n2 : (40 : Int32).toNatClampNeg = 40 := by decide
  have n3 : ¬ a = xm_Z h := by omega
  show _ = xm_run (d + 1) 89 402 [some (.ref a)] [] (xm_sR (xm_nw h 100 40 40) a 74 (some (xm_Z h)))
  simp only [ite_not, ite_self, w8_nil, ok01, ite10, rf_rv, rf_ref, rf_cat, rf_lk2, rf_some, rf_none, w_add, w_cons, cr_int, cr_long, cr_ref, cr_null, is_ref, is_null, l2_int, l2_ref, l2_null, l2_none, ent_nil, ent_int, ent_ref, ent_null, ent_rf, ent_long, ok_0, ok_1, af_ret, af_void, List.tail_cons, List.tail_nil, Nat.reduceAdd, Nat.reduceLeDiff, not_false_eq_true, not_true_eq_false, and_self, and_true, true_and, ne_eq, or_true, true_or, or_false, false_or, eq_self, Nat.reduceEqDiff, ↓reduceIte, false_and, and_false, Nat.le_refl, Nat.zero_le, nz_1, nz_2, nz_3, nz_4, nz_5, nz_6, nz_8, nz_10, nz_12, nz_20, nz_30, nz_60, nz_100, g_K_sI, g_N_sI, g_B_sI, g_Z_sI, g_K_sL, g_N_sL, g_B_sL, g_Z_sL, g_K_sR, g_N_sR, g_B_sR, g_Z_sR, g_L_sI, g_R_sI, g_I_sL, g_R_sL, g_I_sR, g_L_sR, g_R_sRv, g_K_nw, g_N_nw, g_B_nw, g_Z_nw, h_R_nw, h_I_nw, h_L_nw, o1, o2, n1, n2, n3, r89_394, r89_395, r89_397, r89_399, r89_399n, r89_399v]
theorem a89_51 {h : xm_H} (o : ob 5 a h) : xm_run (d + 1) 89 402 [some (.ref a)] [] h = xm_run (d + 1) 89 410 [some (.ref a)] [] (ast a (75, 100, 40, 0) h) := by
  obtain ⟨o1, o2, o3, -⟩ := o
  have n1 : ¬ (40 : Int32) < 0 ∧ (40 : Int32).toNatClampNeg ≤ 100000 := by decide
  have n2 : (40 : Int32).toNatClampNeg = 40 := by decide
  have n3 : ¬ a = xm_Z h := by omega
  show _ = xm_run (d + 1) 89 410 [some (.ref a)] [] (xm_sR (xm_nw h 100 40 40) a 75 (some (xm_Z h)))
  simp only [ite_not, ite_self, w8_nil, ok01, ite10, rf_rv, rf_ref, rf_cat, rf_lk2, rf_some, rf_none, w_add, w_cons, cr_int, cr_long, cr_ref, cr_null, is_ref, is_null, l2_int, l2_ref, l2_null, l2_none, ent_nil, ent_int, ent_ref, ent_null, ent_rf, ent_long, ok_0, ok_1, af_ret, af_void, List.tail_cons, List.tail_nil, Nat.reduceAdd, Nat.reduceLeDiff, not_false_eq_true, not_true_eq_false, and_self, and_true, true_and, ne_eq, or_true, true_or, or_false, false_or, eq_self, Nat.reduceEqDiff, ↓reduceIte, false_and, and_false, Nat.le_refl, Nat.zero_le, nz_1, nz_2, nz_3, nz_4, nz_5, nz_6, nz_8, nz_10, nz_12, nz_20, nz_30, nz_60, nz_100, g_K_sI, g_N_sI, g_B_sI, g_Z_sI, g_K_sL, g_N_sL, g_B_sL, g_Z_sL, g_K_sR, g_N_sR, g_B_sR, g_Z_sR, g_L_sI, g_R_sI, g_I_sL, g_R_sL, g_I_sR, g_L_sR, g_R_sRv, g_K_nw, g_N_nw, g_B_nw, g_Z_nw, h_R_nw, h_I_nw, h_L_nw, o1, o2, n1, n2, n3, r89_402, r89_403, r89_405, r89_407, r89_407n, r89_407v]
theorem a89_52 {h : xm_H} (o : ob 5 a h) : xm_run (d + 1) 89 410 [some (.ref a)] [] h = xm_run (d + 1) 89 418 [some (.ref a)] [] (ast a (76, 100, 40, 0) h) := by
  obtain ⟨o1, o2, o3, -⟩ := o
  have n1 : ¬ (40 : Int32) < 0 ∧ (40 : Int32).toNatClampNeg ≤ 100000 := by decide
  have n2 : (40 : Int32).toNatClampNeg = 40 := by decide
  have n3 : ¬ a = xm_Z h := by omega
  show _ = xm_run (d + 1) 89 418 [some (.ref a)] [] (xm_sR (xm_nw h 100 40 40) a 76 (some (xm_Z h)))
  simp only [ite_not, ite_self, w8_nil, ok01, ite10, rf_rv, rf_ref, rf_cat, rf_lk2, rf_some, rf_none, w_add, w_cons, cr_int, cr_long, cr_ref, cr_null, is_ref, is_null, l2_int, l2_ref, l2_null, l2_none, ent_nil, ent_int, ent_ref, ent_null, ent_rf, ent_long, ok_0, ok_1, af_ret, af_void, List.tail_cons, List.tail_nil, Nat.reduceAdd, Nat.reduceLeDiff, not_false_eq_true, not_true_eq_false, and_self, and_true, true_and, ne_eq, or_true, true_or, or_false, false_or, eq_self, Nat.reduceEqDiff, ↓reduceIte, false_and, and_false, Nat.le_refl, Nat.zero_le, nz_1, nz_2, nz_3, nz_4, nz_5, nz_6, nz_8, nz_10, nz_12, nz_20, nz_30, nz_60, nz_100, g_K_sI, g_N_sI, g_B_sI, g_Z_sI, g_K_sL, g_N_sL, g_B_sL, g_Z_sL, g_K_sR, g_N_sR, g_B_sR, g_Z_sR, g_L_sI, g_R_sI, g_I_sL, g_R_sL, g_I_sR, g_L_sR, g_R_sRv, g_K_nw, g_N_nw, g_B_nw, g_Z_nw, h_R_nw, h_I_nw, h_L_nw, o1, o2, n1, n2, n3, r89_410, r89_411, r89_413, r89_415, r89_415n, r89_415v]
theorem a89_53 {h : xm_H} (o : ob 5 a h) : xm_run (d + 1) 89 418 [some (.ref a)] [] h = xm_run (d + 1) 89 426 [some (.ref a)] [] (ast a (77, 100, 40, 0) h) := by
  obtain ⟨o1, o2, o3, -⟩ := o
  have n1 : ¬ (40 : Int32) < 0 ∧ (40 : Int32).toNatClampNeg ≤ 100000 := by decide
  have n2 : (40 : Int32).toNatClampNeg = 40 := by decide
  have n3 : ¬ a = xm_Z h := by omega
  show _ = xm_run (d + 1) 89 426 [some (.ref a)] [] (xm_sR (xm_nw h 100 40 40) a 77 (some (xm_Z h)))
  simp only [ite_not, ite_self, w8_nil, ok01, ite10, rf_rv, rf_ref, rf_cat, rf_lk2, rf_some, rf_none, w_add, w_cons, cr_int, cr_long, cr_ref, cr_null, is_ref, is_null, l2_int, l2_ref, l2_null, l2_none, ent_nil, ent_int, ent_ref, ent_null, ent_rf, ent_long, ok_0, ok_1, af_ret, af_void, List.tail_cons, List.tail_nil, Nat.reduceAdd, Nat.reduceLeDiff, not_false_eq_true, not_true_eq_false, and_self, and_true, true_and, ne_eq, or_true, true_or, or_false, false_or, eq_self, Nat.reduceEqDiff, ↓reduceIte, false_and, and_false, Nat.le_refl, Nat.zero_le, nz_1, nz_2, nz_3, nz_4, nz_5, nz_6, nz_8, nz_10, nz_12, nz_20, nz_30, nz_60, nz_100, g_K_sI, g_N_sI, g_B_sI, g_Z_sI, g_K_sL, g_N_sL, g_B_sL, g_Z_sL, g_K_sR, g_N_sR, g_B_sR, g_Z_sR, g_L_sI, g_R_sI, g_I_sL, g_R_sL, g_I_sR, g_L_sR, g_R_sRv, g_K_nw, g_N_nw, g_B_nw, g_Z_nw, h_R_nw, h_I_nw, h_L_nw, o1, o2, n1, n2, n3, r89_418, r89_419, r89_421, r89_423, r89_423n, r89_423v]
theorem a89_54 {h : xm_H} (o : ob 5 a h) : xm_run (d + 1) 89 426 [some (.ref a)] [] h = xm_run (d + 1) 89 434 [some (.ref a)] [] (ast a (78, 100, 40, 0) h) := by
  obtain ⟨o1, o2, o3, -⟩ := o
  have n1 : ¬ (40 : Int32) < 0 ∧ (40 : Int32).toNatClampNeg ≤ 100000 := by decide
  have n2 : (40 : Int32).toNatClampNeg = 40 := by decide
  have n3 : ¬ a = xm_Z h := by omega
  show _ = xm_run (d + 1) 89 434 [some (.ref a)] [] (xm_sR (xm_nw h 100 40 40) a 78 (some (xm_Z h)))
  simp only [ite_not, ite_self, w8_nil, ok01, ite10, rf_rv, rf_ref, rf_cat, rf_lk2, rf_some, rf_none, w_add, w_cons, cr_int, cr_long, cr_ref, cr_null, is_ref, is_null, l2_int, l2_ref, l2_null, l2_none, ent_nil, ent_int, ent_ref, ent_null, ent_rf, ent_long, ok_0, ok_1, af_ret, af_void, List.tail_cons, List.tail_nil, Nat.reduceAdd, Nat.reduceLeDiff, not_false_eq_true, not_true_eq_false, and_self, and_true, true_and, ne_eq, or_true, true_or, or_false, false_or, eq_self, Nat.reduceEqDiff, ↓reduceIte, false_and, and_false, Nat.le_refl, Nat.zero_le, nz_1, nz_2, nz_3, nz_4, nz_5, nz_6, nz_8, nz_10, nz_12, nz_20, nz_30, nz_60, nz_100, g_K_sI, g_N_sI, g_B_sI, g_Z_sI, g_K_sL, g_N_sL, g_B_sL, g_Z_sL, g_K_sR, g_N_sR, g_B_sR, g_Z_sR, g_L_sI, g_R_sI, g_I_sL, g_R_sL, g_I_sR, g_L_sR, g_R_sRv, g_K_nw, g_N_nw, g_B_nw, g_Z_nw, h_R_nw, h_I_nw, h_L_nw, o1, o2, n1, n2, n3, r89_426, r89_427, r89_429, r89_431, r89_431n, r89_431v]
theorem a89_55 {h : xm_H} (o : ob 5 a h) : xm_run (d + 1) 89 434 [some (.ref a)] [] h = xm_run (d + 1) 89 443 [some (.ref a)] [] (ast a (79, 100, 480, 0) h) := by
  obtain ⟨o1, o2, o3, -⟩ := o
  have n1 : ¬ (480 : Int32) < 0 ∧ (480 : Int32).toNatClampNeg ≤ 100000 := by decide
  have n2 : (480 : Int32).toNatClampNeg = 480 := by decide
  have n3 : ¬ a = xm_Z h := by omega
  show _ = xm_run (d + 1) 89 443 [some (.ref a)] [] (xm_sR (xm_nw h 100 480 480) a 79 (some (xm_Z h)))
  simp only [ite_not, ite_self, w8_nil, ok01, ite10, rf_rv, rf_ref, rf_cat, rf_lk2, rf_some, rf_none, w_add, w_cons, cr_int, cr_long, cr_ref, cr_null, is_ref, is_null, l2_int, l2_ref, l2_null, l2_none, ent_nil, ent_int, ent_ref, ent_null, ent_rf, ent_long, ok_0, ok_1, af_ret, af_void, List.tail_cons, List.tail_nil, Nat.reduceAdd, Nat.reduceLeDiff, not_false_eq_true, not_true_eq_false, and_self, and_true, true_and, ne_eq, or_true, true_or, or_false, false_or, eq_self, Nat.reduceEqDiff, ↓reduceIte, false_and, and_false, Nat.le_refl, Nat.zero_le, nz_1, nz_2, nz_3, nz_4, nz_5, nz_6, nz_8, nz_10, nz_12, nz_20, nz_30, nz_60, nz_100, g_K_sI, g_N_sI, g_B_sI, g_Z_sI, g_K_sL, g_N_sL, g_B_sL, g_Z_sL, g_K_sR, g_N_sR, g_B_sR, g_Z_sR, g_L_sI, g_R_sI, g_I_sL, g_R_sL, g_I_sR, g_L_sR, g_R_sRv, g_K_nw, g_N_nw, g_B_nw, g_Z_nw, h_R_nw, h_I_nw, h_L_nw, o1, o2, n1, n2, n3, r89_434, r89_435, r89_438, r89_440, r89_440n, r89_440v]
theorem a89_56 {h : xm_H} (o : ob 5 a h) : xm_run (d + 1) 89 443 [some (.ref a)] [] h = xm_run (d + 1) 89 451 [some (.ref a)] [] (ast a (80, 100, 40, 0) h) := by
  obtain ⟨o1, o2, o3, -⟩ := o
  have n1 : ¬ (40 : Int32) < 0 ∧ (40 : Int32).toNatClampNeg ≤ 100000 := by decide
  have n2 : (40 : Int32).toNatClampNeg = 40 := by decide
  have n3 : ¬ a = xm_Z h := by omega
  show _ = xm_run (d + 1) 89 451 [some (.ref a)] [] (xm_sR (xm_nw h 100 40 40) a 80 (some (xm_Z h)))
  simp only [ite_not, ite_self, w8_nil, ok01, ite10, rf_rv, rf_ref, rf_cat, rf_lk2, rf_some, rf_none, w_add, w_cons, cr_int, cr_long, cr_ref, cr_null, is_ref, is_null, l2_int, l2_ref, l2_null, l2_none, ent_nil, ent_int, ent_ref, ent_null, ent_rf, ent_long, ok_0, ok_1, af_ret, af_void, List.tail_cons, List.tail_nil, Nat.reduceAdd, Nat.reduceLeDiff, not_false_eq_true, not_true_eq_false, and_self, and_true, true_and, ne_eq, or_true, true_or, or_false, false_or, eq_self, Nat.reduceEqDiff, ↓reduceIte, false_and, and_false, Nat.le_refl, Nat.zero_le, nz_1, nz_2, nz_3, nz_4, nz_5, nz_6, nz_8, nz_10, nz_12, nz_20, nz_30, nz_60, nz_100, g_K_sI, g_N_sI, g_B_sI, g_Z_sI, g_K_sL, g_N_sL, g_B_sL, g_Z_sL, g_K_sR, g_N_sR, g_B_sR, g_Z_sR, g_L_sI, g_R_sI, g_I_sL, g_R_sL, g_I_sR, g_L_sR, g_R_sRv, g_K_nw, g_N_nw, g_B_nw, g_Z_nw, h_R_nw, h_I_nw, h_L_nw, o1, o2, n1, n2, n3, r89_443, r89_444, r89_446, r89_448, r89_448n, r89_448v]
theorem a89_57 {h : xm_H} (o : ob 5 a h) : xm_run (d + 1) 89 451 [some (.ref a)] [] h = xm_run (d + 1) 89 459 [some (.ref a)] [] (ast a (81, 102, 40, 0) h) := by
  obtain ⟨o1, o2, o3, -⟩ := o
  have n1 : ¬ (40 : Int32) < 0 ∧ (40 : Int32).toNatClampNeg ≤ 100000 := by decide
  have n2 : (40 : Int32).toNatClampNeg = 40 := by decide
  have n3 : ¬ a = xm_Z h := by omega
  show _ = xm_run (d + 1) 89 459 [some (.ref a)] [] (xm_sR (xm_nw h 102 40 40) a 81 (some (xm_Z h)))
  simp only [ite_not, ite_self, w8_nil, ok01, ite10, rf_rv, rf_ref, rf_cat, rf_lk2, rf_some, rf_none, w_add, w_cons, cr_int, cr_long, cr_ref, cr_null, is_ref, is_null, l2_int, l2_ref, l2_null, l2_none, ent_nil, ent_int, ent_ref, ent_null, ent_rf, ent_long, ok_0, ok_1, af_ret, af_void, List.tail_cons, List.tail_nil, Nat.reduceAdd, Nat.reduceLeDiff, not_false_eq_true, not_true_eq_false, and_self, and_true, true_and, ne_eq, or_true, true_or, or_false, false_or, eq_self, Nat.reduceEqDiff, ↓reduceIte, false_and, and_false, Nat.le_refl, Nat.zero_le, nz_1, nz_2, nz_3, nz_4, nz_5, nz_6, nz_8, nz_10, nz_12, nz_20, nz_30, nz_60, nz_100, g_K_sI, g_N_sI, g_B_sI, g_Z_sI, g_K_sL, g_N_sL, g_B_sL, g_Z_sL, g_K_sR, g_N_sR, g_B_sR, g_Z_sR, g_L_sI, g_R_sI, g_I_sL, g_R_sL, g_I_sR, g_L_sR, g_R_sRv, g_K_nw, g_N_nw, g_B_nw, g_Z_nw, h_R_nw, h_I_nw, h_L_nw, o1, o2, n1, n2, n3, r89_451, r89_452, r89_454, r89_456, r89_456n, r89_456v]
theorem a89_58 {h : xm_H} (o : ob 5 a h) : xm_run (d + 1) 89 459 [some (.ref a)] [] h = xm_run (d + 1) 89 466 [some (.ref a)] [] (ast a (82, 100, 2, 0) h) := by
  obtain ⟨o1, o2, o3, -⟩ := o
  have n1 : ¬ (2 : Int32) < 0 ∧ (2 : Int32).toNatClampNeg ≤ 100000 := by decide
  have n2 : (2 : Int32).toNatClampNeg = 2 := by decide
  have n3 : ¬ a = xm_Z h := by omega
  show _ = xm_run (d + 1) 89 466 [some (.ref a)] [] (xm_sR (xm_nw h 100 2 2) a 82 (some (xm_Z h)))
  simp only [ite_not, ite_self, w8_nil, ok01, ite10, rf_rv, rf_ref, rf_cat, rf_lk2, rf_some, rf_none, w_add, w_cons, cr_int, cr_long, cr_ref, cr_null, is_ref, is_null, l2_int, l2_ref, l2_null, l2_none, ent_nil, ent_int, ent_ref, ent_null, ent_rf, ent_long, ok_0, ok_1, af_ret, af_void, List.tail_cons, List.tail_nil, Nat.reduceAdd, Nat.reduceLeDiff, not_false_eq_true, not_true_eq_false, and_self, and_true, true_and, ne_eq, or_true, true_or, or_false, false_or, eq_self, Nat.reduceEqDiff, ↓reduceIte, false_and, and_false, Nat.le_refl, Nat.zero_le, nz_1, nz_2, nz_3, nz_4, nz_5, nz_6, nz_8, nz_10, nz_12, nz_20, nz_30, nz_60, nz_100, g_K_sI, g_N_sI, g_B_sI, g_Z_sI, g_K_sL, g_N_sL, g_B_sL, g_Z_sL, g_K_sR, g_N_sR, g_B_sR, g_Z_sR, g_L_sI, g_R_sI, g_I_sL, g_R_sL, g_I_sR, g_L_sR, g_R_sRv, g_K_nw, g_N_nw, g_B_nw, g_Z_nw, h_R_nw, h_I_nw, h_L_nw, o1, o2, n1, n2, n3, r89_459, r89_460, r89_461, r89_463, r89_463n, r89_463v]
theorem a89_59 {h : xm_H} (o : ob 5 a h) : xm_run (d + 1) 89 466 [some (.ref a)] [] h = xm_run (d + 1) 89 473 [some (.ref a)] [] (ast a (84, 100, 4, 0) h) := by
  obtain ⟨o1, o2, o3, -⟩ := o
  have n1 : ¬ (4 : Int32) < 0 ∧ (4 : Int32).toNatClampNeg ≤ 100000 := by decide
  have n2 : (4 : Int32).toNatClampNeg = 4 := by decide
  have n3 : ¬ a = xm_Z h := by omega
  show _ = xm_run (d + 1) 89 473 [some (.ref a)] [] (xm_sR (xm_nw h 100 4 4) a 84 (some (xm_Z h)))
  simp only [ite_not, ite_self, w8_nil, ok01, ite10, rf_rv, rf_ref, rf_cat, rf_lk2, rf_some, rf_none, w_add, w_cons, cr_int, cr_long, cr_ref, cr_null, is_ref, is_null, l2_int, l2_ref, l2_null, l2_none, ent_nil, ent_int, ent_ref, ent_null, ent_rf, ent_long, ok_0, ok_1, af_ret, af_void, List.tail_cons, List.tail_nil, Nat.reduceAdd, Nat.reduceLeDiff, not_false_eq_true, not_true_eq_false, and_self, and_true, true_and, ne_eq, or_true, true_or, or_false, false_or, eq_self, Nat.reduceEqDiff, ↓reduceIte, false_and, and_false, Nat.le_refl, Nat.zero_le, nz_1, nz_2, nz_3, nz_4, nz_5, nz_6, nz_8, nz_10, nz_12, nz_20, nz_30, nz_60, nz_100, g_K_sI, g_N_sI, g_B_sI, g_Z_sI, g_K_sL, g_N_sL, g_B_sL, g_Z_sL, g_K_sR, g_N_sR, g_B_sR, g_Z_sR, g_L_sI, g_R_sI, g_I_sL, g_R_sL, g_I_sR, g_L_sR, g_R_sRv, g_K_nw, g_N_nw, g_B_nw, g_Z_nw, h_R_nw, h_I_nw, h_L_nw, o1, o2, n1, n2, n3, r89_466, r89_467, r89_468, r89_470, r89_470n, r89_470v]
theorem a89_60 {h : xm_H} (o : ob 5 a h) : xm_run (d + 1) 89 473 [some (.ref a)] [] h = xm_run (d + 1) 89 480 [some (.ref a)] [] (ast a (85, 100, 4, 0) h) := by
  obtain ⟨o1, o2, o3, -⟩ := o
  have n1 : ¬ (4 : Int32) < 0 ∧ (4 : Int32).toNatClampNeg ≤ 100000 := by decide
  have n2 : (4 : Int32).toNatClampNeg = 4 := by decide
  have n3 : ¬ a = xm_Z h := by omega
  show _ = xm_run (d + 1) 89 480 [some (.ref a)] [] (xm_sR (xm_nw h 100 4 4) a 85 (some (xm_Z h)))
  simp only [ite_not, ite_self, w8_nil, ok01, ite10, rf_rv, rf_ref, rf_cat, rf_lk2, rf_some, rf_none, w_add, w_cons, cr_int, cr_long, cr_ref, cr_null, is_ref, is_null, l2_int, l2_ref, l2_null, l2_none, ent_nil, ent_int, ent_ref, ent_null, ent_rf, ent_long, ok_0, ok_1, af_ret, af_void, List.tail_cons, List.tail_nil, Nat.reduceAdd, Nat.reduceLeDiff, not_false_eq_true, not_true_eq_false, and_self, and_true, true_and, ne_eq, or_true, true_or, or_false, false_or, eq_self, Nat.reduceEqDiff, ↓reduceIte, false_and, and_false, Nat.le_refl, Nat.zero_le, nz_1, nz_2, nz_3, nz_4, nz_5, nz_6, nz_8, nz_10, nz_12, nz_20, nz_30, nz_60, nz_100, g_K_sI, g_N_sI, g_B_sI, g_Z_sI, g_K_sL, g_N_sL, g_B_sL, g_Z_sL, g_K_sR, g_N_sR, g_B_sR, g_Z_sR, g_L_sI, g_R_sI, g_I_sL, g_R_sL, g_I_sR, g_L_sR, g_R_sRv, g_K_nw, g_N_nw, g_B_nw, g_Z_nw, h_R_nw, h_I_nw, h_L_nw, o1, o2, n1, n2, n3, r89_473, r89_474, r89_475, r89_477, r89_477n, r89_477v]
theorem a89_61 {h : xm_H} (o : ob 5 a h) : xm_run (d + 1) 89 480 [some (.ref a)] [] h = xm_run (d + 1) 89 487 [some (.ref a)] [] (ast a (86, 100, 4, 0) h) := by
  obtain ⟨o1, o2, o3, -⟩ := o
  have n1 : ¬ (4 : Int32) < 0 ∧ (4 : Int32).toNatClampNeg ≤ 100000 := by decide
  have n2 : (4 : Int32).toNatClampNeg = 4 := by decide
  have n3 : ¬ a = xm_Z h := by omega
  show _ = xm_run (d + 1) 89 487 [some (.ref a)] [] (xm_sR (xm_nw h 100 4 4) a 86 (some (xm_Z h)))
  simp only [ite_not, ite_self, w8_nil, ok01, ite10, rf_rv, rf_ref, rf_cat, rf_lk2, rf_some, rf_none, w_add, w_cons, cr_int, cr_long, cr_ref, cr_null, is_ref, is_null, l2_int, l2_ref, l2_null, l2_none, ent_nil, ent_int, ent_ref, ent_null, ent_rf, ent_long, ok_0, ok_1, af_ret, af_void, List.tail_cons, List.tail_nil, Nat.reduceAdd, Nat.reduceLeDiff, not_false_eq_true, not_true_eq_false, and_self, and_true, true_and, ne_eq, or_true, true_or, or_false, false_or, eq_self, Nat.reduceEqDiff, ↓reduceIte, false_and, and_false, Nat.le_refl, Nat.zero_le, nz_1, nz_2, nz_3, nz_4, nz_5, nz_6, nz_8, nz_10, nz_12, nz_20, nz_30, nz_60, nz_100, g_K_sI, g_N_sI, g_B_sI, g_Z_sI, g_K_sL, g_N_sL, g_B_sL, g_Z_sL, g_K_sR, g_N_sR, g_B_sR, g_Z_sR, g_L_sI, g_R_sI, g_I_sL, g_R_sL, g_I_sR, g_L_sR, g_R_sRv, g_K_nw, g_N_nw, g_B_nw, g_Z_nw, h_R_nw, h_I_nw, h_L_nw, o1, o2, n1, n2, n3, r89_480, r89_481, r89_482, r89_484, r89_484n, r89_484v]
theorem a89_62 {h : xm_H} (o : ob 5 a h) : xm_run (d + 1) 89 487 [some (.ref a)] [] h = xm_run (d + 1) 89 494 [some (.ref a)] [] (ast a (87, 100, 4, 0) h) := by
  obtain ⟨o1, o2, o3, -⟩ := o
  have n1 : ¬ (4 : Int32) < 0 ∧ (4 : Int32).toNatClampNeg ≤ 100000 := by decide
  have n2 : (4 : Int32).toNatClampNeg = 4 := by decide
  have n3 : ¬ a = xm_Z h := by omega
  show _ = xm_run (d + 1) 89 494 [some (.ref a)] [] (xm_sR (xm_nw h 100 4 4) a 87 (some (xm_Z h)))
  simp only [ite_not, ite_self, w8_nil, ok01, ite10, rf_rv, rf_ref, rf_cat, rf_lk2, rf_some, rf_none, w_add, w_cons, cr_int, cr_long, cr_ref, cr_null, is_ref, is_null, l2_int, l2_ref, l2_null, l2_none, ent_nil, ent_int, ent_ref, ent_null, ent_rf, ent_long, ok_0, ok_1, af_ret, af_void, List.tail_cons, List.tail_nil, Nat.reduceAdd, Nat.reduceLeDiff, not_false_eq_true, not_true_eq_false, and_self, and_true, true_and, ne_eq, or_true, true_or, or_false, false_or, eq_self, Nat.reduceEqDiff, ↓reduceIte, false_and, and_false, Nat.le_refl, Nat.zero_le, nz_1, nz_2, nz_3, nz_4, nz_5, nz_6, nz_8, nz_10, nz_12, nz_20, nz_30, nz_60, nz_100, g_K_sI, g_N_sI, g_B_sI, g_Z_sI, g_K_sL, g_N_sL, g_B_sL, g_Z_sL, g_K_sR, g_N_sR, g_B_sR, g_Z_sR, g_L_sI, g_R_sI, g_I_sL, g_R_sL, g_I_sR, g_L_sR, g_R_sRv, g_K_nw, g_N_nw, g_B_nw, g_Z_nw, h_R_nw, h_I_nw, h_L_nw, o1, o2, n1, n2, n3, r89_487, r89_488, r89_489, r89_491, r89_491n, r89_491v]
theorem a89_63 {h : xm_H} (o : ob 5 a h) : xm_run (d + 1) 89 494 [some (.ref a)] [] h = xm_run (d + 1) 89 502 [some (.ref a)] [] (ast a (88, 100, 8, 0) h) := by
  obtain ⟨o1, o2, o3, -⟩ := o
  have n1 : ¬ (8 : Int32) < 0 ∧ (8 : Int32).toNatClampNeg ≤ 100000 := by decide
  have n2 : (8 : Int32).toNatClampNeg = 8 := by decide
  have n3 : ¬ a = xm_Z h := by omega
  show _ = xm_run (d + 1) 89 502 [some (.ref a)] [] (xm_sR (xm_nw h 100 8 8) a 88 (some (xm_Z h)))
  simp only [ite_not, ite_self, w8_nil, ok01, ite10, rf_rv, rf_ref, rf_cat, rf_lk2, rf_some, rf_none, w_add, w_cons, cr_int, cr_long, cr_ref, cr_null, is_ref, is_null, l2_int, l2_ref, l2_null, l2_none, ent_nil, ent_int, ent_ref, ent_null, ent_rf, ent_long, ok_0, ok_1, af_ret, af_void, List.tail_cons, List.tail_nil, Nat.reduceAdd, Nat.reduceLeDiff, not_false_eq_true, not_true_eq_false, and_self, and_true, true_and, ne_eq, or_true, true_or, or_false, false_or, eq_self, Nat.reduceEqDiff, ↓reduceIte, false_and, and_false, Nat.le_refl, Nat.zero_le, nz_1, nz_2, nz_3, nz_4, nz_5, nz_6, nz_8, nz_10, nz_12, nz_20, nz_30, nz_60, nz_100, g_K_sI, g_N_sI, g_B_sI, g_Z_sI, g_K_sL, g_N_sL, g_B_sL, g_Z_sL, g_K_sR, g_N_sR, g_B_sR, g_Z_sR, g_L_sI, g_R_sI, g_I_sL, g_R_sL, g_I_sR, g_L_sR, g_R_sRv, g_K_nw, g_N_nw, g_B_nw, g_Z_nw, h_R_nw, h_I_nw, h_L_nw, o1, o2, n1, n2, n3, r89_494, r89_495, r89_497, r89_499, r89_499n, r89_499v]
theorem a89_64 {h : xm_H} (o : ob 5 a h) : xm_run (d + 1) 89 502 [some (.ref a)] [] h = xm_run (d + 1) 89 510 [some (.ref a)] [] (ast a (89, 100, 8, 0) h) := by
  obtain ⟨o1, o2, o3, -⟩ := o
  have n1 : ¬ (8 : Int32) < 0 ∧ (8 : Int32).toNatClampNeg ≤ 100000 := by decide
  have n2 : (8 : Int32).toNatClampNeg = 8 := by decide
  have n3 : ¬ a = xm_Z h := by omega
  show _ = xm_run (d + 1) 89 510 [some (.ref a)] [] (xm_sR (xm_nw h 100 8 8) a 89 (some (xm_Z h)))
  simp only [ite_not, ite_self, w8_nil, ok01, ite10, rf_rv, rf_ref, rf_cat, rf_lk2, rf_some, rf_none, w_add, w_cons, cr_int, cr_long, cr_ref, cr_null, is_ref, is_null, l2_int, l2_ref, l2_null, l2_none, ent_nil, ent_int, ent_ref, ent_null, ent_rf, ent_long, ok_0, ok_1, af_ret, af_void, List.tail_cons, List.tail_nil, Nat.reduceAdd, Nat.reduceLeDiff, not_false_eq_true, not_true_eq_false, and_self, and_true, true_and, ne_eq, or_true, true_or, or_false, false_or, eq_self, Nat.reduceEqDiff, ↓reduceIte, false_and, and_false, Nat.le_refl, Nat.zero_le, nz_1, nz_2, nz_3, nz_4, nz_5, nz_6, nz_8, nz_10, nz_12, nz_20, nz_30, nz_60, nz_100, g_K_sI, g_N_sI, g_B_sI, g_Z_sI, g_K_sL, g_N_sL, g_B_sL, g_Z_sL, g_K_sR, g_N_sR, g_B_sR, g_Z_sR, g_L_sI, g_R_sI, g_I_sL, g_R_sL, g_I_sR, g_L_sR, g_R_sRv, g_K_nw, g_N_nw, g_B_nw, g_Z_nw, h_R_nw, h_I_nw, h_L_nw, o1, o2, n1, n2, n3, r89_502, r89_503, r89_505, r89_507, r89_507n, r89_507v]
theorem a89_65 {h : xm_H} (o : ob 5 a h) : xm_run (d + 1) 89 510 [some (.ref a)] [] h = xm_run (d + 1) 89 518 [some (.ref a)] [] (ast a (90, 100, 8, 0) h) := by
  obtain ⟨o1, o2, o3, -⟩ := o
  have n1 : ¬ (8 : Int32) < 0 ∧ (8 : Int32).toNatClampNeg ≤ 100000 := by decide
  have n2 : (8 : Int32).toNatClampNeg = 8 := by decide
  have n3 : ¬ a = xm_Z h := by omega
  show _ = xm_run (d + 1) 89 518 [some (.ref a)] [] (xm_sR (xm_nw h 100 8 8) a 90 (some (xm_Z h)))
  simp only [ite_not, ite_self, w8_nil, ok01, ite10, rf_rv, rf_ref, rf_cat, rf_lk2, rf_some, rf_none, w_add, w_cons, cr_int, cr_long, cr_ref, cr_null, is_ref, is_null, l2_int, l2_ref, l2_null, l2_none, ent_nil, ent_int, ent_ref, ent_null, ent_rf, ent_long, ok_0, ok_1, af_ret, af_void, List.tail_cons, List.tail_nil, Nat.reduceAdd, Nat.reduceLeDiff, not_false_eq_true, not_true_eq_false, and_self, and_true, true_and, ne_eq, or_true, true_or, or_false, false_or, eq_self, Nat.reduceEqDiff, ↓reduceIte, false_and, and_false, Nat.le_refl, Nat.zero_le, nz_1, nz_2, nz_3, nz_4, nz_5, nz_6, nz_8, nz_10, nz_12, nz_20, nz_30, nz_60, nz_100, g_K_sI, g_N_sI, g_B_sI, g_Z_sI, g_K_sL, g_N_sL, g_B_sL, g_Z_sL, g_K_sR, g_N_sR, g_B_sR, g_Z_sR, g_L_sI, g_R_sI, g_I_sL, g_R_sL, g_I_sR, g_L_sR, g_R_sRv, g_K_nw, g_N_nw, g_B_nw, g_Z_nw, h_R_nw, h_I_nw, h_L_nw, o1, o2, n1, n2, n3, r89_510, r89_511, r89_513, r89_515, r89_515n, r89_515v]
theorem a89_66 {h : xm_H} (o : ob 5 a h) : xm_run (d + 1) 89 518 [some (.ref a)] [] h = xm_run (d + 1) 89 525 [some (.ref a)] [] (ast a (91, 100, 4, 0) h) := by
  obtain ⟨o1, o2, o3, -⟩ := o
  have n1 : ¬ (4 : Int32) < 0 ∧ (4 : Int32).toNatClampNeg ≤ 100000 := by decide
  have n2 : (4 : Int32).toNatClampNeg = 4 := by decide
  have n3 : ¬ a = xm_Z h := by omega
  show _ = xm_run (d + 1) 89 525 [some (.ref a)] [] (xm_sR (xm_nw h 100 4 4) a 91 (some (xm_Z h)))
  simp only [ite_not, ite_self, w8_nil, ok01, ite10, rf_rv, rf_ref, rf_cat, rf_lk2, rf_some, rf_none, w_add, w_cons, cr_int, cr_long, cr_ref, cr_null, is_ref, is_null, l2_int, l2_ref, l2_null, l2_none, ent_nil, ent_int, ent_ref, ent_null, ent_rf, ent_long, ok_0, ok_1, af_ret, af_void, List.tail_cons, List.tail_nil, Nat.reduceAdd, Nat.reduceLeDiff, not_false_eq_true, not_true_eq_false, and_self, and_true, true_and, ne_eq, or_true, true_or, or_false, false_or, eq_self, Nat.reduceEqDiff, ↓reduceIte, false_and, and_false, Nat.le_refl, Nat.zero_le, nz_1, nz_2, nz_3, nz_4, nz_5, nz_6, nz_8, nz_10, nz_12, nz_20, nz_30, nz_60, nz_100, g_K_sI, g_N_sI, g_B_sI, g_Z_sI, g_K_sL, g_N_sL, g_B_sL, g_Z_sL, g_K_sR, g_N_sR, g_B_sR, g_Z_sR, g_L_sI, g_R_sI, g_I_sL, g_R_sL, g_I_sR, g_L_sR, g_R_sRv, g_K_nw, g_N_nw, g_B_nw, g_Z_nw, h_R_nw, h_I_nw, h_L_nw, o1, o2, n1, n2, n3, r89_518, r89_519, r89_520, r89_522, r89_522n, r89_522v]
theorem a89_67 {h : xm_H} (o : ob 5 a h) : xm_run (d + 1) 89 525 [some (.ref a)] [] h = xm_run (d + 1) 89 533 [some (.ref a)] [] (ast a (96, 100, 100, 0) h) := by
  obtain ⟨o1, o2, o3, -⟩ := o
  have n1 : ¬ (100 : Int32) < 0 ∧ (100 : Int32).toNatClampNeg ≤ 100000 := by decide
  have n2 : (100 : Int32).toNatClampNeg = 100 := by decide
  have n3 : ¬ a = xm_Z h := by omega
  show _ = xm_run (d + 1) 89 533 [some (.ref a)] [] (xm_sR (xm_nw h 100 100 100) a 96 (some (xm_Z h)))
  simp only [ite_not, ite_self, w8_nil, ok01, ite10, rf_rv, rf_ref, rf_cat, rf_lk2, rf_some, rf_none, w_add, w_cons, cr_int, cr_long, cr_ref, cr_null, is_ref, is_null, l2_int, l2_ref, l2_null, l2_none, ent_nil, ent_int, ent_ref, ent_null, ent_rf, ent_long, ok_0, ok_1, af_ret, af_void, List.tail_cons, List.tail_nil, Nat.reduceAdd, Nat.reduceLeDiff, not_false_eq_true, not_true_eq_false, and_self, and_true, true_and, ne_eq, or_true, true_or, or_false, false_or, eq_self, Nat.reduceEqDiff, ↓reduceIte, false_and, and_false, Nat.le_refl, Nat.zero_le, nz_1, nz_2, nz_3, nz_4, nz_5, nz_6, nz_8, nz_10, nz_12, nz_20, nz_30, nz_60, nz_100, g_K_sI, g_N_sI, g_B_sI, g_Z_sI, g_K_sL, g_N_sL, g_B_sL, g_Z_sL, g_K_sR, g_N_sR, g_B_sR, g_Z_sR, g_L_sI, g_R_sI, g_I_sL, g_R_sL, g_I_sR, g_L_sR, g_R_sRv, g_K_nw, g_N_nw, g_B_nw, g_Z_nw, h_R_nw, h_I_nw, h_L_nw, o1, o2, n1, n2, n3, r89_525, r89_526, r89_528, r89_530, r89_530n, r89_530v]
theorem a89_68 {h : xm_H} (o : ob 5 a h) : xm_run (d + 1) 89 533 [some (.ref a)] [] h = xm_run (d + 1) 89 541 [some (.ref a)] [] (ast a (97, 100, 100, 0) h) := by
  obtain ⟨o1, o2, o3, -⟩ := o
  have n1 : ¬ (100 : Int32) < 0 ∧ (100 : Int32).toNatClampNeg ≤ 100000 := by decide
  have n2 : (100 : Int32).toNatClampNeg = 100 := by decide
  have n3 : ¬ a = xm_Z h := by omega
  show _ = xm_run (d + 1) 89 541 [some (.ref a)] [] (xm_sR (xm_nw h 100 100 100) a 97 (some (xm_Z h)))
  simp only [ite_not, ite_self, w8_nil, ok01, ite10, rf_rv, rf_ref, rf_cat, rf_lk2, rf_some, rf_none, w_add, w_cons, cr_int, cr_long, cr_ref, cr_null, is_ref, is_null, l2_int, l2_ref, l2_null, l2_none, ent_nil, ent_int, ent_ref, ent_null, ent_rf, ent_long, ok_0, ok_1, af_ret, af_void, List.tail_cons, List.tail_nil, Nat.reduceAdd, Nat.reduceLeDiff, not_false_eq_true, not_true_eq_false, and_self, and_true, true_and, ne_eq, or_true, true_or, or_false, false_or, eq_self, Nat.reduceEqDiff, ↓reduceIte, false_and, and_false, Nat.le_refl, Nat.zero_le, nz_1, nz_2, nz_3, nz_4, nz_5, nz_6, nz_8, nz_10, nz_12, nz_20, nz_30, nz_60, nz_100, g_K_sI, g_N_sI, g_B_sI, g_Z_sI, g_K_sL, g_N_sL, g_B_sL, g_Z_sL, g_K_sR, g_N_sR, g_B_sR, g_Z_sR, g_L_sI, g_R_sI, g_I_sL, g_R_sL, g_I_sR, g_L_sR, g_R_sRv, g_K_nw, g_N_nw, g_B_nw, g_Z_nw, h_R_nw, h_I_nw, h_L_nw, o1, o2, n1, n2, n3, r89_533, r89_534, r89_536, r89_538, r89_538n, r89_538v]
theorem a89_69 {h : xm_H} (o : ob 5 a h) : xm_run (d + 1) 89 541 [some (.ref a)] [] h = xm_run (d + 1) 89 549 [some (.ref a)] [] (ast a (98, 100, 100, 0) h) := by
  obtain ⟨o1, o2, o3, -⟩ := o
  have n1 : ¬ (100 : Int32) < 0 ∧ (100 : Int32).toNatClampNeg ≤ 100000 := by decide
  have n2 : (100 : Int32).toNatClampNeg = 100 := by decide
  have n3 : ¬ a = xm_Z h := by omega
  show _ = xm_run (d + 1) 89 549 [some (.ref a)] [] (xm_sR (xm_nw h 100 100 100) a 98 (some (xm_Z h)))
  simp only [ite_not, ite_self, w8_nil, ok01, ite10, rf_rv, rf_ref, rf_cat, rf_lk2, rf_some, rf_none, w_add, w_cons, cr_int, cr_long, cr_ref, cr_null, is_ref, is_null, l2_int, l2_ref, l2_null, l2_none, ent_nil, ent_int, ent_ref, ent_null, ent_rf, ent_long, ok_0, ok_1, af_ret, af_void, List.tail_cons, List.tail_nil, Nat.reduceAdd, Nat.reduceLeDiff, not_false_eq_true, not_true_eq_false, and_self, and_true, true_and, ne_eq, or_true, true_or, or_false, false_or, eq_self, Nat.reduceEqDiff, ↓reduceIte, false_and, and_false, Nat.le_refl, Nat.zero_le, nz_1, nz_2, nz_3, nz_4, nz_5, nz_6, nz_8, nz_10, nz_12, nz_20, nz_30, nz_60, nz_100, g_K_sI, g_N_sI, g_B_sI, g_Z_sI, g_K_sL, g_N_sL, g_B_sL, g_Z_sL, g_K_sR, g_N_sR, g_B_sR, g_Z_sR, g_L_sI, g_R_sI, g_I_sL, g_R_sL, g_I_sR, g_L_sR, g_R_sRv, g_K_nw, g_N_nw, g_B_nw, g_Z_nw, h_R_nw, h_I_nw, h_L_nw, o1, o2, n1, n2, n3, r89_541, r89_542, r89_544, r89_546, r89_546n, r89_546v]
theorem a89_70 {h : xm_H} (o : ob 5 a h) : xm_run (d + 1) 89 549 [some (.ref a)] [] h = xm_run (d + 1) 89 557 [some (.ref a)] [] (ast a (99, 100, 100, 0) h) := by
  obtain ⟨o1, o2, o3, -⟩ := o
  have n1 : ¬ (100 : Int32) < 0 ∧ (100 : Int32).toNatClampNeg ≤ 100000 := by decide
  have n2 : (100 : Int32).toNatClampNeg = 100 := by decide
  have n3 : ¬ a = xm_Z h := by omega
  show _ = xm_run (d + 1) 89 557 [some (.ref a)] [] (xm_sR (xm_nw h 100 100 100) a 99 (some (xm_Z h)))
  simp only [ite_not, ite_self, w8_nil, ok01, ite10, rf_rv, rf_ref, rf_cat, rf_lk2, rf_some, rf_none, w_add, w_cons, cr_int, cr_long, cr_ref, cr_null, is_ref, is_null, l2_int, l2_ref, l2_null, l2_none, ent_nil, ent_int, ent_ref, ent_null, ent_rf, ent_long, ok_0, ok_1, af_ret, af_void, List.tail_cons, List.tail_nil, Nat.reduceAdd, Nat.reduceLeDiff, not_false_eq_true, not_true_eq_false, and_self, and_true, true_and, ne_eq, or_true, true_or, or_false, false_or, eq_self, Nat.reduceEqDiff, ↓reduceIte, false_and, and_false, Nat.le_refl, Nat.zero_le, nz_1, nz_2, nz_3, nz_4, nz_5, nz_6, nz_8, nz_10, nz_12, nz_20, nz_30, nz_60, nz_100, g_K_sI, g_N_sI, g_B_sI, g_Z_sI, g_K_sL, g_N_sL, g_B_sL, g_Z_sL, g_K_sR, g_N_sR, g_B_sR, g_Z_sR, g_L_sI, g_R_sI, g_I_sL, g_R_sL, g_I_sR, g_L_sR, g_R_sRv, g_K_nw, g_N_nw, g_B_nw, g_Z_nw, h_R_nw, h_I_nw, h_L_nw, o1, o2, n1, n2, n3, r89_549, r89_550, r89_552, r89_554, r89_554n, r89_554v]
theorem a89_71 {h : xm_H} (o : ob 5 a h) : xm_run (d + 1) 89 557 [some (.ref a)] [] h = xm_run (d + 1) 89 565 [some (.ref a)] [] (ast a (100, 100, 96, 0) h) := by
  obtain ⟨o1, o2, o3, -⟩ := o
  have n1 : ¬ (96 : Int32) < 0 ∧ (96 : Int32).toNatClampNeg ≤ 100000 := by decide
  have n2 : (96 : Int32).toNatClampNeg = 96 := by decide
  have n3 : ¬ a = xm_Z h := by omega
  show _ = xm_run (d + 1) 89 565 [some (.ref a)] [] (xm_sR (xm_nw h 100 96 96) a 100 (some (xm_Z h)))
  simp only [ite_not, ite_self, w8_nil, ok01, ite10, rf_rv, rf_ref, rf_cat, rf_lk2, rf_some, rf_none, w_add, w_cons, cr_int, cr_long, cr_ref, cr_null, is_ref, is_null, l2_int, l2_ref, l2_null, l2_none, ent_nil, ent_int, ent_ref, ent_null, ent_rf, ent_long, ok_0, ok_1, af_ret, af_void, List.tail_cons, List.tail_nil, Nat.reduceAdd, Nat.reduceLeDiff, not_false_eq_true, not_true_eq_false, and_self, and_true, true_and, ne_eq, or_true, true_or, or_false, false_or, eq_self, Nat.reduceEqDiff, ↓reduceIte, false_and, and_false, Nat.le_refl, Nat.zero_le, nz_1, nz_2, nz_3, nz_4, nz_5, nz_6, nz_8, nz_10, nz_12, nz_20, nz_30, nz_60, nz_100, g_K_sI, g_N_sI, g_B_sI, g_Z_sI, g_K_sL, g_N_sL, g_B_sL, g_Z_sL, g_K_sR, g_N_sR, g_B_sR, g_Z_sR, g_L_sI, g_R_sI, g_I_sL, g_R_sL, g_I_sR, g_L_sR, g_R_sRv, g_K_nw, g_N_nw, g_B_nw, g_Z_nw, h_R_nw, h_I_nw, h_L_nw, o1, o2, n1, n2, n3, r89_557, r89_558, r89_560, r89_562, r89_562n, r89_562v]
theorem a89_72 {h : xm_H} (o : ob 5 a h) : xm_run (d + 1) 89 565 [some (.ref a)] [] h = xm_run (d + 1) 89 573 [some (.ref a)] [] (ast a (101, 102, 12, 0) h) := by
  obtain ⟨o1, o2, o3, -⟩ := o
  have n1 : ¬ (12 : Int32) < 0 ∧ (12 : Int32).toNatClampNeg ≤ 100000 := by decide
  have n2 : (12 : Int32).toNatClampNeg = 12 := by decide
  have n3 : ¬ a = xm_Z h := by omega
  show _ = xm_run (d + 1) 89 573 [some (.ref a)] [] (xm_sR (xm_nw h 102 12 12) a 101 (some (xm_Z h)))
  simp only [ite_not, ite_self, w8_nil, ok01, ite10, rf_rv, rf_ref, rf_cat, rf_lk2, rf_some, rf_none, w_add, w_cons, cr_int, cr_long, cr_ref, cr_null, is_ref, is_null, l2_int, l2_ref, l2_null, l2_none, ent_nil, ent_int, ent_ref, ent_null, ent_rf, ent_long, ok_0, ok_1, af_ret, af_void, List.tail_cons, List.tail_nil, Nat.reduceAdd, Nat.reduceLeDiff, not_false_eq_true, not_true_eq_false, and_self, and_true, true_and, ne_eq, or_true, true_or, or_false, false_or, eq_self, Nat.reduceEqDiff, ↓reduceIte, false_and, and_false, Nat.le_refl, Nat.zero_le, nz_1, nz_2, nz_3, nz_4, nz_5, nz_6, nz_8, nz_10, nz_12, nz_20, nz_30, nz_60, nz_100, g_K_sI, g_N_sI, g_B_sI, g_Z_sI, g_K_sL, g_N_sL, g_B_sL, g_Z_sL, g_K_sR, g_N_sR, g_B_sR, g_Z_sR, g_L_sI, g_R_sI, g_I_sL, g_R_sL, g_I_sR, g_L_sR, g_R_sRv, g_K_nw, g_N_nw, g_B_nw, g_Z_nw, h_R_nw, h_I_nw, h_L_nw, o1, o2, n1, n2, n3, r89_565, r89_566, r89_568, r89_570, r89_570n, r89_570v]
theorem a89_73 {h : xm_H} (o : ob 5 a h) : xm_run (d + 1) 89 573 [some (.ref a)] [] h = xm_run (d + 1) 89 581 [some (.ref a)] [] (ast a (102, 102, 12, 0) h) := by
  obtain ⟨o1, o2, o3, -⟩ := o
  have n1 : ¬ (12 : Int32) < 0 ∧ (12 : Int32).toNatClampNeg ≤ 100000 := by decide
  have n2 : (12 : Int32).toNatClampNeg = 12 := by decide
  have n3 : ¬ a = xm_Z h := by omega
  show _ = xm_run (d + 1) 89 581 [some (.ref a)] [] (xm_sR (xm_nw h 102 12 12) a 102 (some (xm_Z h)))
  simp only [ite_not, ite_self, w8_nil, ok01, ite10, rf_rv, rf_ref, rf_cat, rf_lk2, rf_some, rf_none, w_add, w_cons, cr_int, cr_long, cr_ref, cr_null, is_ref, is_null, l2_int, l2_ref, l2_null, l2_none, ent_nil, ent_int, ent_ref, ent_null, ent_rf, ent_long, ok_0, ok_1, af_ret, af_void, List.tail_cons, List.tail_nil, Nat.reduceAdd, Nat.reduceLeDiff, not_false_eq_true, not_true_eq_false, and_self, and_true, true_and, ne_eq, or_true, true_or, or_false, false_or, eq_self, Nat.reduceEqDiff, ↓reduceIte, false_and, and_false, Nat.le_refl, Nat.zero_le, nz_1, nz_2, nz_3, nz_4, nz_5, nz_6, nz_8, nz_10, nz_12, nz_20, nz_30, nz_60, nz_100, g_K_sI, g_N_sI, g_B_sI, g_Z_sI, g_K_sL, g_N_sL, g_B_sL, g_Z_sL, g_K_sR, g_N_sR, g_B_sR, g_Z_sR, g_L_sI, g_R_sI, g_I_sL, g_R_sL, g_I_sR, g_L_sR, g_R_sRv, g_K_nw, g_N_nw, g_B_nw, g_Z_nw, h_R_nw, h_I_nw, h_L_nw, o1, o2, n1, n2, n3, r89_573, r89_574, r89_576, r89_578, r89_578n, r89_578v]
def acts89 : List (Nat × Nat × Nat × Int32) := [(2, 0, 0, 300), (3, 0, 0, 20), (4, 100, 6, 0), (5, 100, 6, 0), (7, 100, 12, 0), (8, 100, 12, 0), (9, 100, 12, 0), (10, 100, 12, 0), (11, 100, 12, 0), (12, 100, 12, 0), (13, 100, 12, 0), (14, 100, 12, 0), (15, 100, 12, 0), (16, 102, 12, 0), (17, 102, 12, 0), (18, 100, 2, 0), (19, 100, 2, 0), (20, 100, 2, 0), (21, 100, 8, 0), (22, 100, 40, 0), (23, 100, 42, 0), (24, 100, 40, 0), (25, 100, 2440, 0), (26, 100, 20, 0), (27, 100, 21, 0), (28, 100, 20, 0), (29, 100, 20, 0), (30, 100, 20, 0), (31, 100, 1220, 0), (32, 100, 600, 0), (33, 100, 620, 0), (45, 0, 0, (-1)), (47, 100, 4, 0), (48, 100, 4, 0), (49, 100, 7, 0), (50, 100, 8, 0), (51, 100, 8, 0), (52, 100, 8, 0), (53, 100, 8, 0), (54, 100, 8, 0), (55, 100, 7, 0), (62, 0, 0, (-1)), (63, 100, 16, 0), (64, 100, 16, 0), (65, 100, 16, 0), (66, 100, 16, 0), (67, 102, 16, 0), (71, 100, 40, 0), (72, 100, 40, 0), (73, 100, 40, 0), (74, 100, 40, 0), (75, 100, 40, 0), (76, 100, 40, 0), (77, 100, 40, 0), (78, 100, 40, 0), (79, 100, 480, 0), (80, 100, 40, 0), (81, 102, 40, 0), (82, 100, 2, 0), (84, 100, 4, 0), (85, 100, 4, 0), (86, 100, 4, 0), (87, 100, 4, 0), (88, 100, 8, 0), (89, 100, 8, 0), (90, 100, 8, 0), (91, 100, 4, 0), (96, 100, 100, 0), (97, 100, 100, 0), (98, 100, 100, 0), (99, 100, 100, 0), (100, 100, 96, 0), (101, 102, 12, 0), (102, 102, 12, 0)]
theorem a89_all {h : xm_H} (o : ob 5 a h) : xm_run (d + 1) 89 4 [some (.ref a)] [] h = xm_run (d + 1) 89 581 [some (.ref a)] [] (asl a acts89 h) := by
  rw [a89_0 o]
  replace o := o.one (e := (2, 0, 0, 300))
  rw [a89_1 o]
  replace o := o.one (e := (3, 0, 0, 20))
  rw [a89_2 o]
  replace o := o.one (e := (4, 100, 6, 0))
  rw [a89_3 o]
  replace o := o.one (e := (5, 100, 6, 0))
  rw [a89_4 o]
  replace o := o.one (e := (7, 100, 12, 0))
  rw [a89_5 o]
  replace o := o.one (e := (8, 100, 12, 0))
  rw [a89_6 o]
  replace o := o.one (e := (9, 100, 12, 0))
  rw [a89_7 o]
  replace o := o.one (e := (10, 100, 12, 0))
  rw [a89_8 o]
  replace o := o.one (e := (11, 100, 12, 0))
  rw [a89_9 o]
  replace o := o.one (e := (12, 100, 12, 0))
  rw [a89_10 o]
  replace o := o.one (e := (13, 100, 12, 0))
  rw [a89_11 o]
  replace o := o.one (e := (14, 100, 12, 0))
  rw [a89_12 o]
  replace o := o.one (e := (15, 100, 12, 0))
  rw [a89_13 o]
  replace o := o.one (e := (16, 102, 12, 0))
  rw [a89_14 o]
  replace o := o.one (e := (17, 102, 12, 0))
  rw [a89_15 o]
  replace o := o.one (e := (18, 100, 2, 0))
  rw [a89_16 o]
  replace o := o.one (e := (19, 100, 2, 0))
  rw [a89_17 o]
  replace o := o.one (e := (20, 100, 2, 0))
  rw [a89_18 o]
  replace o := o.one (e := (21, 100, 8, 0))
  rw [a89_19 o]
  replace o := o.one (e := (22, 100, 40, 0))
  rw [a89_20 o]
  replace o := o.one (e := (23, 100, 42, 0))
  rw [a89_21 o]
  replace o := o.one (e := (24, 100, 40, 0))
  rw [a89_22 o]
  replace o := o.one (e := (25, 100, 2440, 0))
  rw [a89_23 o]
  replace o := o.one (e := (26, 100, 20, 0))
  rw [a89_24 o]
  replace o := o.one (e := (27, 100, 21, 0))
  rw [a89_25 o]
  replace o := o.one (e := (28, 100, 20, 0))
  rw [a89_26 o]
  replace o := o.one (e := (29, 100, 20, 0))
  rw [a89_27 o]
  replace o := o.one (e := (30, 100, 20, 0))
  rw [a89_28 o]
  replace o := o.one (e := (31, 100, 1220, 0))
  rw [a89_29 o]
  replace o := o.one (e := (32, 100, 600, 0))
  rw [a89_30 o]
  replace o := o.one (e := (33, 100, 620, 0))
  rw [a89_31 o]
  replace o := o.one (e := (45, 0, 0, (-1)))
  rw [a89_32 o]
  replace o := o.one (e := (47, 100, 4, 0))
  rw [a89_33 o]
  replace o := o.one (e := (48, 100, 4, 0))
  rw [a89_34 o]
  replace o := o.one (e := (49, 100, 7, 0))
  rw [a89_35 o]
  replace o := o.one (e := (50, 100, 8, 0))
  rw [a89_36 o]
  replace o := o.one (e := (51, 100, 8, 0))
  rw [a89_37 o]
  replace o := o.one (e := (52, 100, 8, 0))
  rw [a89_38 o]
  replace o := o.one (e := (53, 100, 8, 0))
  rw [a89_39 o]
  replace o := o.one (e := (54, 100, 8, 0))
  rw [a89_40 o]
  replace o := o.one (e := (55, 100, 7, 0))
  rw [a89_41 o]
  replace o := o.one (e := (62, 0, 0, (-1)))
  rw [a89_42 o]
  replace o := o.one (e := (63, 100, 16, 0))
  rw [a89_43 o]
  replace o := o.one (e := (64, 100, 16, 0))
  rw [a89_44 o]
  replace o := o.one (e := (65, 100, 16, 0))
  rw [a89_45 o]
  replace o := o.one (e := (66, 100, 16, 0))
  rw [a89_46 o]
  replace o := o.one (e := (67, 102, 16, 0))
  rw [a89_47 o]
  replace o := o.one (e := (71, 100, 40, 0))
  rw [a89_48 o]
  replace o := o.one (e := (72, 100, 40, 0))
  rw [a89_49 o]
  replace o := o.one (e := (73, 100, 40, 0))
  rw [a89_50 o]
  replace o := o.one (e := (74, 100, 40, 0))
  rw [a89_51 o]
  replace o := o.one (e := (75, 100, 40, 0))
  rw [a89_52 o]
  replace o := o.one (e := (76, 100, 40, 0))
  rw [a89_53 o]
  replace o := o.one (e := (77, 100, 40, 0))
  rw [a89_54 o]
  replace o := o.one (e := (78, 100, 40, 0))
  rw [a89_55 o]
  replace o := o.one (e := (79, 100, 480, 0))
  rw [a89_56 o]
  replace o := o.one (e := (80, 100, 40, 0))
  rw [a89_57 o]
  replace o := o.one (e := (81, 102, 40, 0))
  rw [a89_58 o]
  replace o := o.one (e := (82, 100, 2, 0))
  rw [a89_59 o]
  replace o := o.one (e := (84, 100, 4, 0))
  rw [a89_60 o]
  replace o := o.one (e := (85, 100, 4, 0))
  rw [a89_61 o]
  replace o := o.one (e := (86, 100, 4, 0))
  rw [a89_62 o]
  replace o := o.one (e := (87, 100, 4, 0))
  rw [a89_63 o]
  replace o := o.one (e := (88, 100, 8, 0))
  rw [a89_64 o]
  replace o := o.one (e := (89, 100, 8, 0))
  rw [a89_65 o]
  replace o := o.one (e := (90, 100, 8, 0))
  rw [a89_66 o]
  replace o := o.one (e := (91, 100, 4, 0))
  rw [a89_67 o]
  replace o := o.one (e := (96, 100, 100, 0))
  rw [a89_68 o]
  replace o := o.one (e := (97, 100, 100, 0))
  rw [a89_69 o]
  replace o := o.one (e := (98, 100, 100, 0))
  rw [a89_70 o]
  replace o := o.one (e := (99, 100, 100, 0))
  rw [a89_71 o]
  replace o := o.one (e := (100, 100, 96, 0))
  rw [a89_72 o]
  replace o := o.one (e := (101, 102, 12, 0))
  rw [a89_73 o]
  replace o := o.one (e := (102, 102, 12, 0))
  rfl
end M89
