/-! the model's contracts, 38: a cut, the rest -/
set_option maxRecDepth 100000
section M38
variable {d : Nat} {h : xm_H} {M : Nat} {F : xp_F}
theorem rw'.cutE {i : Nat} {u a b m : Int32} {A G : xp_F} (r : rw' A G) : rw' (sp_cutE i u a b (m, A)) (sp_cutE i u a b (m, G)) := by
  unfold sp_cutE
  have e1 : G 0 69 = A 0 69 := r _ _ (by omega) (by decide) (by omega)
  have e2 : G 41 b.toNatClampNeg = A 41 b.toNatClampNeg := r _ _ (by omega) (by decide) (by omega)
  simp only [u2_ap, Nat.reduceEqDiff, false_and, and_false, ↓reduceIte, e1, e2]
  exact r.u2c.u2c.u2c.u2c.u2c.u2c.u2c.u2c
theorem c160t (q : MS h M) {i : Nat} (i40 : i < 40) {u m a b : Int32} (hu : ¬ u = 0) {G : xp_F} (hb : G 0 58 = u) (ib : xm_in b 16 = true) {k c : Int32} {t : List (Option Value)} : xm_run (d + 9) 160 259 (some (.ref M) :: some (.int k) :: some (.int c) :: some (.int a) :: some (.int b) :: some (.int (Int32.ofNat i)) :: some (.int m) :: t) [] (xp_m h M G) = some (.inl (some (.int (Int32.ofNat i))), xp_m h M (sp_cutE i u a b (m, G))) := by
  obtain ⟨i3, e3⟩ := in_nat i40 (by decide)
  have j1 : (if 0 ≤ 10 * m / u - 5 then (if 10 * m / u - 5 ≤ 90 then 10 * m / u - 5 else 90) else 0) = sp_lo m u := rfl
  have j2 : (if (10 * m + u - 1) / u + 5 ≤ 90 then (10 * m + u - 1) / u + 5 else 90) = sp_hi m u := rfl
  simp only [ite_not, ite_self, w8_nil, ok01, ite10, rf_rv, rf_ref, rf_cat, rf_lk2, rf_some, rf_none, w_add, w_cons, cr_int, cr_long, cr_ref, cr_null, is_ref, is_null, l2_int, l2_ref, l2_null, l2_none, ent_nil, ent_int, ent_ref, ent_null, ent_rf, ent_long, ok_0, ok_1, af_ret, af_void, List.tail_cons, List.tail_nil, Nat.reduceAdd, Nat.reduceLeDiff, not_false_eq_true, not_true_eq_false, and_self, and_true, true_and, ne_eq, or_true, true_or, or_false, false_or, eq_self, Nat.reduceEqDiff, ↓reduceIte, false_and, and_false, Nat.le_refl, Nat.zero_le, nz_1, nz_2, nz_3, nz_4, nz_5, nz_6, nz_8, nz_10, nz_12, nz_20, nz_30, nz_60, nz_100, mp_B, mp_Z, mp_S, mp_C, mp_K, mp_N, mp_L, mp_R, mp_I, mp_I0, mp_s, mp_s0, u2_ap, sp_isLedge, sp_isLadder, sp_isPerson, sp_isLiving, sp_isLot, sp_isThere, sp_isSpan, ms_K q, ms_B q, ms_f65 q, ms_f19 q, ms_f80 q, ms_f55 q, ms_f10 q, ms_f11 q, ms_f12 q, ms_f16 q, ms_f79 q, ms_f72 q, ms_f73 q, ms_f74 q, ms_f75 q, ms_f77 q, ms_f78 q, r160_259, r160_261, r160_263, r160_264, r160_265, r160_268, r160_269, r160_270, r160_271, r160_273, r160_275, r160_277, r160_278, r160_279, r160_282, r160_283, r160_284, r160_285, r160_286, r160_289, r160_290, r160_291, r160_292, r160_294, r160_295, r160_298, r160_300, r160_305, r160_306, r160_309, r160_311, r160_316, r160_318, r160_321, r160_302, r160_313, hb, hu, i3, e3]
  simp only [jn, j1]
  simp only [ite_not, ite_self, w8_nil, ok01, ite10, rf_rv, rf_ref, rf_cat, rf_lk2, rf_some, rf_none, w_add, w_cons, cr_int, cr_long, cr_ref, cr_null, is_ref, is_null, l2_int, l2_ref, l2_null, l2_none, ent_nil, ent_int, ent_ref, ent_null, ent_rf, ent_long, ok_0, ok_1, af_ret, af_void, List.tail_cons, List.tail_nil, Nat.reduceAdd, Nat.reduceLeDiff, not_false_eq_true, not_true_eq_false, and_self, and_true, true_and, ne_eq, or_true, true_or, or_false, false_or, eq_self, Nat.reduceEqDiff, ↓reduceIte, false_and, and_false, Nat.le_refl, Nat.zero_le, nz_1, nz_2, nz_3, nz_4, nz_5, nz_6, nz_8, nz_10, nz_12, nz_20, nz_30, nz_60, nz_100, mp_B, mp_Z, mp_S, mp_C, mp_K, mp_N, mp_L, mp_R, mp_I, mp_I0, mp_s, mp_s0, u2_ap, sp_isLedge, sp_isLadder, sp_isPerson, sp_isLiving, sp_isLot, sp_isThere, sp_isSpan, ms_K q, ms_B q, ms_f65 q, ms_f19 q, ms_f80 q, ms_f55 q, ms_f10 q, ms_f11 q, ms_f12 q, ms_f16 q, ms_f79 q, ms_f72 q, ms_f73 q, ms_f74 q, ms_f75 q, ms_f77 q, ms_f78 q, r160_323, r160_324, r160_325, r160_328, r160_330, r160_332, r160_337, r160_339, r160_342, r160_334, hb, hu, i3, e3]
  simp only [jn, j2]
  simp only [ite_not, ite_self, w8_nil, ok01, ite10, rf_rv, rf_ref, rf_cat, rf_lk2, rf_some, rf_none, w_add, w_cons, cr_int, cr_long, cr_ref, cr_null, is_ref, is_null, l2_int, l2_ref, l2_null, l2_none, ent_nil, ent_int, ent_ref, ent_null, ent_rf, ent_long, ok_0, ok_1, af_ret, af_void, List.tail_cons, List.tail_nil, Nat.reduceAdd, Nat.reduceLeDiff, not_false_eq_true, not_true_eq_false, and_self, and_true, true_and, ne_eq, or_true, true_or, or_false, false_or, eq_self, Nat.reduceEqDiff, ↓reduceIte, false_and, and_false, Nat.le_refl, Nat.zero_le, nz_1, nz_2, nz_3, nz_4, nz_5, nz_6, nz_8, nz_10, nz_12, nz_20, nz_30, nz_60, nz_100, mp_B, mp_Z, mp_S, mp_C, mp_K, mp_N, mp_L, mp_R, mp_I, mp_I0, mp_s, mp_s0, u2_ap, sp_isLedge, sp_isLadder, sp_isPerson, sp_isLiving, sp_isLot, sp_isThere, sp_isSpan, ms_K q, ms_B q, ms_f65 q, ms_f19 q, ms_f80 q, ms_f55 q, ms_f10 q, ms_f11 q, ms_f12 q, ms_f16 q, ms_f79 q, ms_f72 q, ms_f73 q, ms_f74 q, ms_f75 q, ms_f77 q, ms_f78 q, r160_344, r160_345, r160_346, r160_349, r160_351, r160_352, r160_353, r160_354, r160_357, r160_359, r160_361, r160_362, r160_363, r160_366, r160_368, r160_369, r160_370, r160_371, r160_374, r160_376, r160_377, r160_378, r160_379, r160_380, r160_383, r160_384, r160_387, r160_388, r160_391, r160_392, r160_395, r160_397, r160_398, r160_399, r160_400, r160_401, r160_402, r160_404, hb, i3, e3, ib]
  rfl
theorem c160 (q : MS h M) (hn : rg (F 0 6) 12) (hl : rg (F 0 46) 4) (hp : rg (F 0 61) 16) (ht : rg (F 0 68) 40) {n : Nat} {L : Nat → Ln} (hm : MR F 0 n L) {k c a b : Int32} (hw : CW F (sp_rows F n L k c a).1 (sp_rows F n L k c a).2.2.2) : ∃ G, xm_met (d + 9) 160 [.ref M, .int k, .int c, .int a, .int b] (xp_m h M F) = some (.inl (some (.int (sp_cut F n L k c a b).1)), xp_m h M G) ∧ rw' (sp_cut F n L k c a b).2 G := by
  have y0 : xm_in 0 2 = true := by decide
  have z0 : (0 : Int32).toNatClampNeg = 0 := rfl
  have e1 := @c147 (d + 6) h M F q k c a
  have e2 := @c157 (d + 6) h M F q hp a
  have e3 := @c157 (d + 6) h M F q hp b
  unfold xm_met sp_cut
  by_cases c0 : sp_canCut F k c a b
  case neg =>
    refine ⟨F, ?_, by rw [if_neg (fun z => c0 z.1)]; exact rw'.rf⟩
    rw [if_neg (fun z => c0 z.1)]
    by_cases c1 : sp_isLadder F k ∧ (0 ≤ c ∧ c ≤ 15) ∧ sp_isPerson F a
    case neg =>
      rw [if_neg c1] at e1
      simp only [ite_not, ite_self, w8_nil, ok01, ite10, rf_rv, rf_ref, rf_cat, rf_lk2, rf_some, rf_none, w_add, w_cons, cr_int, cr_long, cr_ref, cr_null, is_ref, is_null, l2_int, l2_ref, l2_null, l2_none, ent_nil, ent_int, ent_ref, ent_null, ent_rf, ent_long, ok_0, ok_1, af_ret, af_void, List.tail_cons, List.tail_nil, Nat.reduceAdd, Nat.reduceLeDiff, not_false_eq_true, not_true_eq_false, and_self, and_true, true_and, ne_eq, or_true, true_or, or_false, false_or, eq_self, Nat.reduceEqDiff, ↓reduceIte, false_and, and_false, Nat.le_refl, Nat.zero_le, nz_1, nz_2, nz_3, nz_4, nz_5, nz_6, nz_8, nz_10, nz_12, nz_20, nz_30, nz_60, nz_100, mp_B, mp_Z, mp_S, mp_C, mp_K, mp_N, mp_L, mp_R, ms_K q, ms_B q, ms_f65 q, ms_f19 q, ms_f80 q, ms_f55 q, ms_f10 q, ms_f11 q, ms_f12 q, ms_f16 q, ms_f79 q, ms_f72 q, ms_f73 q, ms_f74 q, ms_f75 q, ms_f77 q, ms_f78 q, r160_0, r160_1, r160_2, r160_3, r160_4, r160_10, r160_11, r160_12, r160_18, r160_19, r160_21, r160_27, r160_28, r160_33, r160_34, r160_37, r160_41, r160_42, r160_45, r160_46, r160_47, r160_48, r160_51, r160_52, r160_56, r160_57, r160_60, r160_65, r160_66, r160_7, r160_15, r160_24, r160_30, r160_38, r160_53, r160_62, e1]
    rw [if_pos c1] at e1
    by_cases c2 : sp_isLiving F a
    case neg =>
      rw [if_neg c2] at e2
      simp only [ite_not, ite_self, w8_nil, ok01, ite10, rf_rv, rf_ref, rf_cat, rf_lk2, rf_some, rf_none, w_add, w_cons, cr_int, cr_long, cr_ref, cr_null, is_ref, is_null, l2_int, l2_ref, l2_null, l2_none, ent_nil, ent_int, ent_ref, ent_null, ent_rf, ent_long, ok_0, ok_1, af_ret, af_void, List.tail_cons, List.tail_nil, Nat.reduceAdd, Nat.reduceLeDiff, not_false_eq_true, not_true_eq_false, and_self, and_true, true_and, ne_eq, or_true, true_or, or_false, false_or, eq_self, Nat.reduceEqDiff, ↓reduceIte, false_and, and_false, Nat.le_refl, Nat.zero_le, nz_1, nz_2, nz_3, nz_4, nz_5, nz_6, nz_8, nz_10, nz_12, nz_20, nz_30, nz_60, nz_100, mp_B, mp_Z, mp_S, mp_C, mp_K, mp_N, mp_L, mp_R, ms_K q, ms_B q, ms_f65 q, ms_f19 q, ms_f80 q, ms_f55 q, ms_f10 q, ms_f11 q, ms_f12 q, ms_f16 q, ms_f79 q, ms_f72 q, ms_f73 q, ms_f74 q, ms_f75 q, ms_f77 q, ms_f78 q, r160_0, r160_1, r160_2, r160_3, r160_4, r160_10, r160_11, r160_12, r160_18, r160_19, r160_21, r160_27, r160_28, r160_33, r160_34, r160_37, r160_41, r160_42, r160_45, r160_46, r160_47, r160_48, r160_51, r160_52, r160_56, r160_57, r160_60, r160_65, r160_66, r160_7, r160_15, r160_24, r160_30, r160_38, r160_53, r160_62, e1, e2]
    rw [if_pos c2] at e2
    by_cases c3 : sp_isLiving F b
    case neg =>
      rw [if_neg c3] at e3
      simp only [ite_not, ite_self, w8_nil, ok01, ite10, rf_rv, rf_ref, rf_cat, rf_lk2, rf_some, rf_none, w_add, w_cons, cr_int, cr_long, cr_ref, cr_null, is_ref, is_null, l2_int, l2_ref, l2_null, l2_none, ent_nil, ent_int, ent_ref, ent_null, ent_rf, ent_long, ok_0, ok_1, af_ret, af_void, List.tail_cons, List.tail_nil, Nat.reduceAdd, Nat.reduceLeDiff, not_false_eq_true, not_true_eq_false, and_self, and_true, true_and, ne_eq, or_true, true_or, or_false, false_or, eq_self, Nat.reduceEqDiff, ↓reduceIte, false_and, and_false, Nat.le_refl, Nat.zero_le, nz_1, nz_2, nz_3, nz_4, nz_5, nz_6, nz_8, nz_10, nz_12, nz_20, nz_30, nz_60, nz_100, mp_B, mp_Z, mp_S, mp_C, mp_K, mp_N, mp_L, mp_R, ms_K q, ms_B q, ms_f65 q, ms_f19 q, ms_f80 q, ms_f55 q, ms_f10 q, ms_f11 q, ms_f12 q, ms_f16 q, ms_f79 q, ms_f72 q, ms_f73 q, ms_f74 q, ms_f75 q, ms_f77 q, ms_f78 q, r160_0, r160_1, r160_2, r160_3, r160_4, r160_10, r160_11, r160_12, r160_18, r160_19, r160_21, r160_27, r160_28, r160_33, r160_34, r160_37, r160_41, r160_42, r160_45, r160_46, r160_47, r160_48, r160_51, r160_52, r160_56, r160_57, r160_60, r160_65, r160_66, r160_7, r160_15, r160_24, r160_30, r160_38, r160_53, r160_62, e1, e2, e3]
    rw [if_pos c3] at e3
    have ia := in_cnt hp c2.1
    by_cases c4 : a = b
    · subst c4
      simp only [ite_not, ite_self, w8_nil, ok01, ite10, rf_rv, rf_ref, rf_cat, rf_lk2, rf_some, rf_none, w_add, w_cons, cr_int, cr_long, cr_ref, cr_null, is_ref, is_null, l2_int, l2_ref, l2_null, l2_none, ent_nil, ent_int, ent_ref, ent_null, ent_rf, ent_long, ok_0, ok_1, af_ret, af_void, List.tail_cons, List.tail_nil, Nat.reduceAdd, Nat.reduceLeDiff, not_false_eq_true, not_true_eq_false, and_self, and_true, true_and, ne_eq, or_true, true_or, or_false, false_or, eq_self, Nat.reduceEqDiff, ↓reduceIte, false_and, and_false, Nat.le_refl, Nat.zero_le, nz_1, nz_2, nz_3, nz_4, nz_5, nz_6, nz_8, nz_10, nz_12, nz_20, nz_30, nz_60, nz_100, mp_B, mp_Z, mp_S, mp_C, mp_K, mp_N, mp_L, mp_R, ms_K q, ms_B q, ms_f65 q, ms_f19 q, ms_f80 q, ms_f55 q, ms_f10 q, ms_f11 q, ms_f12 q, ms_f16 q, ms_f79 q, ms_f72 q, ms_f73 q, ms_f74 q, ms_f75 q, ms_f77 q, ms_f78 q, r160_0, r160_1, r160_2, r160_3, r160_4, r160_10, r160_11, r160_12, r160_18, r160_19, r160_21, r160_27, r160_28, r160_33, r160_34, r160_37, r160_41, r160_42, r160_45, r160_46, r160_47, r160_48, r160_51, r160_52, r160_56, r160_57, r160_60, r160_65, r160_66, r160_7, r160_15, r160_24, r160_30, r160_38, r160_53, r160_62, e1, e2]
    by_cases c5 : F 0 62 = a
    case neg =>
      simp only [ite_not, ite_self, w8_nil, ok01, ite10, rf_rv, rf_ref, rf_cat, rf_lk2, rf_some, rf_none, w_add, w_cons, cr_int, cr_long, cr_ref, cr_null, is_ref, is_null, l2_int, l2_ref, l2_null, l2_none, ent_nil, ent_int, ent_ref, ent_null, ent_rf, ent_long, ok_0, ok_1, af_ret, af_void, List.tail_cons, List.tail_nil, Nat.reduceAdd, Nat.reduceLeDiff, not_false_eq_true, not_true_eq_false, and_self, and_true, true_and, ne_eq, or_true, true_or, or_false, false_or, eq_self, Nat.reduceEqDiff, ↓reduceIte, false_and, and_false, Nat.le_refl, Nat.zero_le, nz_1, nz_2, nz_3, nz_4, nz_5, nz_6, nz_8, nz_10, nz_12, nz_20, nz_30, nz_60, nz_100, mp_B, mp_Z, mp_S, mp_C, mp_K, mp_N, mp_L, mp_R, mp_I, mp_I0, ms_K q, ms_B q, ms_f65 q, ms_f19 q, ms_f80 q, ms_f55 q, ms_f10 q, ms_f11 q, ms_f12 q, ms_f16 q, ms_f79 q, ms_f72 q, ms_f73 q, ms_f74 q, ms_f75 q, ms_f77 q, ms_f78 q, r160_0, r160_1, r160_2, r160_3, r160_4, r160_10, r160_11, r160_12, r160_18, r160_19, r160_21, r160_27, r160_28, r160_33, r160_34, r160_37, r160_41, r160_42, r160_45, r160_46, r160_47, r160_48, r160_51, r160_52, r160_56, r160_57, r160_60, r160_65, r160_66, r160_7, r160_15, r160_24, r160_30, r160_38, r160_53, r160_62, e1, e2, e3, c4, c5]
    by_cases c6 : F 41 a.toNatClampNeg < F 15 0
    · simp only [ite_not, ite_self, w8_nil, ok01, ite10, rf_rv, rf_ref, rf_cat, rf_lk2, rf_some, rf_none, w_add, w_cons, cr_int, cr_long, cr_ref, cr_null, is_ref, is_null, l2_int, l2_ref, l2_null, l2_none, ent_nil, ent_int, ent_ref, ent_null, ent_rf, ent_long, ok_0, ok_1, af_ret, af_void, List.tail_cons, List.tail_nil, Nat.reduceAdd, Nat.reduceLeDiff, not_false_eq_true, not_true_eq_false, and_self, and_true, true_and, ne_eq, or_true, true_or, or_false, false_or, eq_self, Nat.reduceEqDiff, ↓reduceIte, false_and, and_false, Nat.le_refl, Nat.zero_le, nz_1, nz_2, nz_3, nz_4, nz_5, nz_6, nz_8, nz_10, nz_12, nz_20, nz_30, nz_60, nz_100, mp_B, mp_Z, mp_S, mp_C, mp_K, mp_N, mp_L, mp_R, mp_I, mp_I0, ms_K q, ms_B q, ms_f65 q, ms_f19 q, ms_f80 q, ms_f55 q, ms_f10 q, ms_f11 q, ms_f12 q, ms_f16 q, ms_f79 q, ms_f72 q, ms_f73 q, ms_f74 q, ms_f75 q, ms_f77 q, ms_f78 q, r160_0, r160_1, r160_2, r160_3, r160_4, r160_10, r160_11, r160_12, r160_18, r160_19, r160_21, r160_27, r160_28, r160_33, r160_34, r160_37, r160_41, r160_42, r160_45, r160_46, r160_47, r160_48, r160_51, r160_52, r160_56, r160_57, r160_60, r160_65, r160_66, r160_7, r160_15, r160_24, r160_30, r160_38, r160_53, r160_62, e1, e2, e3, c4, c5, c6, ia, y0, z0]
    by_cases c7 : F 0 68 = 40
    · simp only [ite_not, ite_self, w8_nil, ok01, ite10, rf_rv, rf_ref, rf_cat, rf_lk2, rf_some, rf_none, w_add, w_cons, cr_int, cr_long, cr_ref, cr_null, is_ref, is_null, l2_int, l2_ref, l2_null, l2_none, ent_nil, ent_int, ent_ref, ent_null, ent_rf, ent_long, ok_0, ok_1, af_ret, af_void, List.tail_cons, List.tail_nil, Nat.reduceAdd, Nat.reduceLeDiff, not_false_eq_true, not_true_eq_false, and_self, and_true, true_and, ne_eq, or_true, true_or, or_false, false_or, eq_self, Nat.reduceEqDiff, ↓reduceIte, false_and, and_false, Nat.le_refl, Nat.zero_le, nz_1, nz_2, nz_3, nz_4, nz_5, nz_6, nz_8, nz_10, nz_12, nz_20, nz_30, nz_60, nz_100, mp_B, mp_Z, mp_S, mp_C, mp_K, mp_N, mp_L, mp_R, mp_I, mp_I0, ms_K q, ms_B q, ms_f65 q, ms_f19 q, ms_f80 q, ms_f55 q, ms_f10 q, ms_f11 q, ms_f12 q, ms_f16 q, ms_f79 q, ms_f72 q, ms_f73 q, ms_f74 q, ms_f75 q, ms_f77 q, ms_f78 q, r160_0, r160_1, r160_2, r160_3, r160_4, r160_10, r160_11, r160_12, r160_18, r160_19, r160_21, r160_27, r160_28, r160_33, r160_34, r160_37, r160_41, r160_42, r160_45, r160_46, r160_47, r160_48, r160_51, r160_52, r160_56, r160_57, r160_60, r160_65, r160_66, r160_7, r160_15, r160_24, r160_30, r160_38, r160_53, r160_62, e1, e2, e3, c4, c5, c6, c7, ia, y0, z0]
    exact absurd ⟨c1, c2, c3, c4, c5, c6, c7⟩ c0
  obtain ⟨c1, c2, c3, c4, c5, c6, c7⟩ := c0
  rw [if_pos c1] at e1
  rw [if_pos c2] at e2
  rw [if_pos c3] at e3
  have ia := in_cnt hp c2.1
  have ib := in_cnt hp c3.1
  obtain ⟨G, m1, m2, b1, b2, b3, b4, b5⟩ := @c151 d h M F q hn n L hm k c a (in_cnt hl c1.1) (in_cnt hp c1.2.2)
  have h7 := @rows_len F n L k c a
  generalize sp_rows F n L k c a = B at *
  by_cases c8 : B.2.2.2.length = 0
  · refine ⟨G, ?_, by rw [if_neg (fun z => z.2 c8)]; exact m2⟩
    rw [if_neg (fun z => z.2 c8)]
    have b4' : G 0 57 = 0 := by rw [b4, c8]; rfl
    simp only [ite_not, ite_self, w8_nil, ok01, ite10, rf_rv, rf_ref, rf_cat, rf_lk2, rf_some, rf_none, w_add, w_cons, cr_int, cr_long, cr_ref, cr_null, is_ref, is_null, l2_int, l2_ref, l2_null, l2_none, ent_nil, ent_int, ent_ref, ent_null, ent_rf, ent_long, ok_0, ok_1, af_ret, af_void, List.tail_cons, List.tail_nil, Nat.reduceAdd, Nat.reduceLeDiff, not_false_eq_true, not_true_eq_false, and_self, and_true, true_and, ne_eq, or_true, true_or, or_false, false_or, eq_self, Nat.reduceEqDiff, ↓reduceIte, false_and, and_false, Nat.le_refl, Nat.zero_le, nz_1, nz_2, nz_3, nz_4, nz_5, nz_6, nz_8, nz_10, nz_12, nz_20, nz_30, nz_60, nz_100, mp_B, mp_Z, mp_S, mp_C, mp_K, mp_N, mp_L, mp_R, mp_I, mp_I0, ms_K q, ms_B q, ms_f65 q, ms_f19 q, ms_f80 q, ms_f55 q, ms_f10 q, ms_f11 q, ms_f12 q, ms_f16 q, ms_f79 q, ms_f72 q, ms_f73 q, ms_f74 q, ms_f75 q, ms_f77 q, ms_f78 q, r160_0, r160_1, r160_2, r160_3, r160_4, r160_10, r160_11, r160_12, r160_18, r160_19, r160_21, r160_27, r160_28, r160_33, r160_34, r160_37, r160_41, r160_42, r160_45, r160_46, r160_47, r160_48, r160_51, r160_52, r160_56, r160_57, r160_60, r160_65, r160_66, r160_67, r160_68, r160_69, r160_70, r160_71, r160_74, r160_75, r160_81, r160_82, r160_7, r160_15, r160_24, r160_30, r160_38, r160_53, r160_62, r160_78, e1, e2, e3, c4, c5, c6, c7, ia, y0, z0, m1, b4']
  rw [if_pos ⟨⟨c1, c2, c3, c4, c5, c6, c7⟩, c8⟩]
  obtain ⟨u, bm, bs, p⟩ := B
  have c8 : ¬ p.length = 0 := c8
  have h7 : p.length ≤ 7 := h7
  have b1 : G 0 58 = u := b1
  have b4 : G 0 57 = Int32.ofNat p.length := b4
  have b5 : ∀ i, i < p.length → G 38 i = Int32.ofNat (nthr p i) := b5
  have hw : CW F u p := hw
  have hu := hw.1 c8
  have b4' : ¬ Int32.ofNat p.length = 0 := fun z => by
    have := congrArg Int32.toInt z
    rw [ti_nat (by omega), show (0 : Int32).toInt = 0 from rfl] at this
    omega
  have i0 := in_new ht c7 (by decide)
  have i1 := in_iff.mp i0
  have et : F 0 68 = Int32.ofNat (F 0 68).toNatClampNeg := rg_nat ht
  have ec := rg_tc ht
  have gl : G 0 68 = F 0 68 := m2 _ _ (by omega) (by decide) (by omega)
  have cc := @c161 (d + 8) h M G q (by rw [gl]; exact ht) (by rw [gl]; exact c7) u 0 0
  rw [gl] at cc
  have f0 : ∀ o j, ¬ (44 ≤ o ∧ o ≤ 54) → ¬ (o = 0 ∧ j = 68) → sp_cutC G u o j = G o j := by
    intro o j h1 h2
    unfold sp_cutC sp_comes sp_comes0
    rw [u2_ap, if_neg (by omega)]
    refine it_inv (fun (H : xp_F) => H o j = G o j) (fun k H h => ?_) _ _ _ ?_
    · show xm_u2 H 52 _ _ o j = _
      rw [u2_ap, if_neg (by omega)]
      exact h
    · rw [u2_ap, if_neg (by omega), u2_ap, if_neg (by omega), u2_ap, if_neg (by omega), u2_ap, if_neg (by omega), u2_ap, if_neg (by omega), u2_ap, if_neg (by omega)]
  have r0 : rw' (sp_cutC F u) (sp_cutC G u) := by
    unfold sp_cutC
    rw [gl]
    exact m2.comes.u2c
  obtain ⟨⟨b', G2⟩, t, e4, s1, s2, s3, s4, s5⟩ := xp_loop2 (P := cuP d h M k c a b (Int32.ofNat (F 0 68).toNatClampNeg)) (n := p.length) (fun j s => s.1 = (sp_cuts F (sp_stays F n L) (sp_cutOf F n L) (F 0 68).toNatClampNeg p (sp_cutC F u) j).1 ∧ rw' (sp_cuts F (sp_stays F n L) (sp_cutOf F n L) (F 0 68).toNatClampNeg p (sp_cutC F u) j).2 s.2 ∧ s.2 0 57 = Int32.ofNat p.length ∧ s.2 0 58 = u ∧ ∀ x, x < p.length → s.2 38 x = Int32.ofNat (nthr p x)) (fun j s t hj hs => c160s q hm (by omega) h7 hw j s t hj hs) p.length 0 (0, sp_cutC G u) [] (Nat.zero_add _) ⟨rfl, r0, (f0 _ _ (by omega) (by omega)).trans b4, (f0 _ _ (by omega) (by omega)).trans b1, fun x hx => (f0 _ _ (by omega) (by omega)).trans (b5 x hx)⟩
  unfold cuP at e4
  rw [show Int32.ofNat 0 = (0 : Int32) from rfl] at e4
  have s1 : b' = (sp_cuts F (sp_stays F n L) (sp_cutOf F n L) (F 0 68).toNatClampNeg p (sp_cutC F u) p.length).1 := s1
  have s2 : rw' (sp_cuts F (sp_stays F n L) (sp_cutOf F n L) (F 0 68).toNatClampNeg p (sp_cutC F u) p.length).2 G2 := s2
  have s3 : G2 0 57 = Int32.ofNat p.length := s3
  have s4 : G2 0 58 = u := s4
  have tl := @c160t d h M q (F 0 68).toNatClampNeg (by omega) u b' a b hu G2 s4 ib k c (some (.int (Int32.ofNat p.length)) :: t)
  refine ⟨sp_cutE (F 0 68).toNatClampNeg u a b (b', G2), ?_, ?_⟩
  · have cz : Int32.ofNat p.length ≤ Int32.ofNat p.length := Int32.le_refl _
    have eC : xm_u2 (sp_comes G u 0 0) 53 (F 0 68).toNatClampNeg 0 = sp_cutC G u := by
      unfold sp_cutC
      rw [gl]
    rw [← et] at e4 tl
    simp only [ite_not, ite_self, w8_nil, ok01, ite10, rf_rv, rf_ref, rf_cat, rf_lk2, rf_some, rf_none, w_add, w_cons, cr_int, cr_long, cr_ref, cr_null, is_ref, is_null, l2_int, l2_ref, l2_null, l2_none, ent_nil, ent_int, ent_ref, ent_null, ent_rf, ent_long, ok_0, ok_1, af_ret, af_void, List.tail_cons, List.tail_nil, Nat.reduceAdd, Nat.reduceLeDiff, not_false_eq_true, not_true_eq_false, and_self, and_true, true_and, ne_eq, or_true, true_or, or_false, false_or, eq_self, Nat.reduceEqDiff, ↓reduceIte, false_and, and_false, Nat.le_refl, Nat.zero_le, nz_1, nz_2, nz_3, nz_4, nz_5, nz_6, nz_8, nz_10, nz_12, nz_20, nz_30, nz_60, nz_100, mp_B, mp_Z, mp_S, mp_C, mp_K, mp_N, mp_L, mp_R, mp_I, mp_I0, mp_s, mp_s0, ms_K q, ms_B q, ms_f65 q, ms_f19 q, ms_f80 q, ms_f55 q, ms_f10 q, ms_f11 q, ms_f12 q, ms_f16 q, ms_f79 q, ms_f72 q, ms_f73 q, ms_f74 q, ms_f75 q, ms_f77 q, ms_f78 q, r160_0, r160_1, r160_2, r160_3, r160_4, r160_10, r160_11, r160_12, r160_18, r160_19, r160_21, r160_27, r160_28, r160_33, r160_34, r160_37, r160_41, r160_42, r160_45, r160_46, r160_47, r160_48, r160_51, r160_52, r160_56, r160_57, r160_60, r160_65, r160_66, r160_67, r160_68, r160_69, r160_70, r160_71, r160_74, r160_75, r160_81, r160_82, r160_83, r160_84, r160_85, r160_88, r160_89, r160_90, r160_93, r160_95, r160_96, r160_98, r160_99, r160_102, r160_104, r160_105, r160_106, r160_107, r160_7, r160_15, r160_24, r160_30, r160_38, r160_53, r160_62, r160_78, e1, e2, e3, c4, c5, c6, c7, ia, y0, z0, m1, b4, b4', b1, cc, i0, eC]
    rw [e4]
    show xm_run (d + 9) 160 109 (some (.ref M) :: some (.int k) :: some (.int c) :: some (.int a) :: some (.int b) :: some (.int (F 0 68)) :: some (.int b') :: some (.int (Int32.ofNat p.length)) :: t) [] (xp_m h M G2) = _
    rw [r160_109]
    simp only [ite_not, ite_self, w8_nil, ok01, ite10, rf_rv, rf_ref, rf_cat, rf_lk2, rf_some, rf_none, w_add, w_cons, cr_int, cr_long, cr_ref, cr_null, is_ref, is_null, l2_int, l2_ref, l2_null, l2_none, ent_nil, ent_int, ent_ref, ent_null, ent_rf, ent_long, ok_0, ok_1, af_ret, af_void, List.tail_cons, List.tail_nil, Nat.reduceAdd, Nat.reduceLeDiff, not_false_eq_true, not_true_eq_false, and_self, and_true, true_and, ne_eq, or_true, true_or, or_false, false_or, eq_self, Nat.reduceEqDiff, ↓reduceIte, false_and, and_false, Nat.le_refl, Nat.zero_le, nz_1, nz_2, nz_3, nz_4, nz_5, nz_6, nz_8, nz_10, nz_12, nz_20, nz_30, nz_60, nz_100, mp_B, mp_Z, mp_S, mp_C, mp_K, mp_N, mp_L, mp_R, mp_I, mp_I0, mp_s, mp_s0, u2_ap, sp_isLedge, sp_isLadder, sp_isPerson, sp_isLiving, sp_isLot, sp_isThere, sp_isSpan, ms_K q, ms_B q, ms_f65 q, ms_f19 q, ms_f80 q, ms_f55 q, ms_f10 q, ms_f11 q, ms_f12 q, ms_f16 q, ms_f79 q, ms_f72 q, ms_f73 q, ms_f74 q, ms_f75 q, ms_f77 q, ms_f78 q, r160_111, r160_112, r160_115, s3, cz]
    exact tl
  · show rw' (sp_cutE (F 0 68).toNatClampNeg u a b _) _
    rw [s1]
    exact s2.cutE
end M38
