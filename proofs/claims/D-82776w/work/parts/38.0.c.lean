/-! the law, case by case -/
set_option maxRecDepth 100000
section LAW
variable {d : Nat} {H Hm H2 : xm_H} {S X M N k : Nat} {sc : Nat → Int32} {v : Int32}
theorem nox_l {y : Nat} {o : Option Value} {h : xm_H} : xm_nox y (some (.inl o, h)) = some (.inl o, h) := Eq.trans (b := some (.inl o, h)) rfl rfl
/-- the script stands -/
def AT (H : xm_H) (S N : Nat) (sc : Nat → Int32) : Prop := xm_K H S = 100 ∧ xm_N H S = N ∧ ∀ j, xm_I H S j = sc j
theorem sc_ix (hk : 6 * k + 6 ≤ N) (hN : N ≤ 384) : (Int32.ofNat (6 * k) + 1 = Int32.ofNat (6 * k + 1) ∧ Int32.ofNat (6 * k) + 2 = Int32.ofNat (6 * k + 2) ∧ Int32.ofNat (6 * k) + 3 = Int32.ofNat (6 * k + 3) ∧ Int32.ofNat (6 * k) + 4 = Int32.ofNat (6 * k + 4) ∧ Int32.ofNat (6 * k) + 5 = Int32.ofNat (6 * k + 5) ∧ Int32.ofNat (6 * k) + 6 = Int32.ofNat (6 * (k + 1))) ∧ (xm_in (Int32.ofNat (6 * k)) N = true ∧ (Int32.ofNat (6 * k)).toNatClampNeg = 6 * k) ∧ (xm_in (Int32.ofNat (6 * k + 1)) N = true ∧ (Int32.ofNat (6 * k + 1)).toNatClampNeg = 6 * k + 1) ∧ (xm_in (Int32.ofNat (6 * k + 2)) N = true ∧ (Int32.ofNat (6 * k + 2)).toNatClampNeg = 6 * k + 2) ∧ (xm_in (Int32.ofNat (6 * k + 3)) N = true ∧ (Int32.ofNat (6 * k + 3)).toNatClampNeg = 6 * k + 3) ∧ (xm_in (Int32.ofNat (6 * k + 4)) N = true ∧ (Int32.ofNat (6 * k + 4)).toNatClampNeg = 6 * k + 4) ∧ xm_in (Int32.ofNat (6 * k + 5)) N = true ∧ (Int32.ofNat (6 * k + 5)).toNatClampNeg = 6 * k + 5 := by
  refine ⟨⟨?_, ?_, ?_, ?_, ?_, ?_⟩, in_nat (by omega) (by omega), in_nat (by omega) (by omega), in_nat (by omega) (by omega), in_nat (by omega) (by omega), in_nat (by omega) (by omega), in_nat (by omega) (by omega)⟩
  · exact (Int32.ofNat_add (6 * k) 1).symm
  · exact (Int32.ofNat_add (6 * k) 2).symm
  · exact (Int32.ofNat_add (6 * k) 3).symm
  · exact (Int32.ofNat_add (6 * k) 4).symm
  · exact (Int32.ofNat_add (6 * k) 5).symm
  · exact (Int32.ofNat_add (6 * k) 6).symm
theorem q294_0 (a : AT H S N sc) (am : AT Hm S N sc) (kx : xm_K H X = 1) (km : xm_K Hm M = 5) (hk : 6 * k + 6 ≤ N) (hN : N ≤ 384) (m1 : xm_met d 1 [.ref X, .int (sc (6 * k + 1)), .int (sc (6 * k + 2)), .int (sc (6 * k + 3))] H = some (.inl (some (.int v)), Hm)) (m2 : xm_met d 90 [.ref M, .int (sc (6 * k + 1)), .int (sc (6 * k + 2)), .int (sc (6 * k + 3))] Hm = some (.inl (some (.int v)), H2)) : xm_run (d + 1) 294 188 [some (.ref S), some (.ref X), some (.ref M), some (.int (Int32.ofNat (6 * k)))] [] H = xm_run (d + 1) 294 18 [some (.ref S), some (.ref X), some (.ref M), some (.int (Int32.ofNat (6 * (k + 1))))] [] H2 := by
  obtain ⟨a1, a2, a3⟩ := a
  obtain ⟨b1, b2, b3⟩ := am
  have ix := sc_ix hk hN
  simp only [ite_not, ite_self, w8_nil, ok01, ite10, rf_rv, rf_ref, rf_cat, rf_lk2, rf_some, rf_none, w_add, w_cons, cr_int, cr_long, cr_ref, cr_null, is_ref, is_null, l2_int, l2_ref, l2_null, l2_none, ent_nil, ent_int, ent_ref, ent_null, ent_rf, ent_long, ok_0, ok_1, af_ret, af_void, List.tail_cons, List.tail_nil, Nat.reduceAdd, Nat.reduceLeDiff, not_false_eq_true, not_true_eq_false, and_self, and_true, true_and, ne_eq, or_true, true_or, or_false, false_or, eq_self, Nat.reduceEqDiff, ↓reduceIte, false_and, and_false, Nat.le_refl, Nat.zero_le, nz_1, nz_2, nz_3, nz_4, nz_5, nz_6, nz_8, nz_10, nz_12, nz_20, nz_30, nz_60, nz_100, a1, a2, a3, b1, b2, b3, kx, km, ix, m1, m2, nox_l, r294_188, r294_189, r294_190, r294_191, r294_192, r294_193, r294_194, r294_195, r294_196, r294_197, r294_198, r294_199, r294_200, r294_201, r294_202, r294_203, r294_204, r294_207, r294_208, r294_209, r294_210, r294_211, r294_212, r294_213, r294_214, r294_215, r294_216, r294_217, r294_218, r294_219, r294_220, r294_221, r294_222, r294_223, r294_229, r294_230, r294_1413, r294_1416, r294_226]
theorem q294_1 (a : AT H S N sc) (am : AT Hm S N sc) (kx : xm_K H X = 1) (km : xm_K Hm M = 5) (hk : 6 * k + 6 ≤ N) (hN : N ≤ 384) (m1 : xm_met d 3 [.ref X, .int (sc (6 * k + 1)), .int (sc (6 * k + 2)), .int (sc (6 * k + 3)), .int (sc (6 * k + 4))] H = some (.inl (some (.int v)), Hm)) (m2 : xm_met d 92 [.ref M, .int (sc (6 * k + 1)), .int (sc (6 * k + 2)), .int (sc (6 * k + 3)), .int (sc (6 * k + 4))] Hm = some (.inl (some (.int v)), H2)) : xm_run (d + 1) 294 231 [some (.ref S), some (.ref X), some (.ref M), some (.int (Int32.ofNat (6 * k)))] [] H = xm_run (d + 1) 294 18 [some (.ref S), some (.ref X), some (.ref M), some (.int (Int32.ofNat (6 * (k + 1))))] [] H2 := by
  obtain ⟨a1, a2, a3⟩ := a
  obtain ⟨b1, b2, b3⟩ := am
  have ix := sc_ix hk hN
  simp only [ite_not, ite_self, w8_nil, ok01, ite10, rf_rv, rf_ref, rf_cat, rf_lk2, rf_some, rf_none, w_add, w_cons, cr_int, cr_long, cr_ref, cr_null, is_ref, is_null, l2_int, l2_ref, l2_null, l2_none, ent_nil, ent_int, ent_ref, ent_null, ent_rf, ent_long, ok_0, ok_1, af_ret, af_void, List.tail_cons, List.tail_nil, Nat.reduceAdd, Nat.reduceLeDiff, not_false_eq_true, not_true_eq_false, and_self, and_true, true_and, ne_eq, or_true, true_or, or_false, false_or, eq_self, Nat.reduceEqDiff, ↓reduceIte, false_and, and_false, Nat.le_refl, Nat.zero_le, nz_1, nz_2, nz_3, nz_4, nz_5, nz_6, nz_8, nz_10, nz_12, nz_20, nz_30, nz_60, nz_100, a1, a2, a3, b1, b2, b3, kx, km, ix, m1, m2, nox_l, r294_231, r294_232, r294_233, r294_234, r294_235, r294_236, r294_237, r294_238, r294_239, r294_240, r294_241, r294_242, r294_243, r294_244, r294_245, r294_246, r294_247, r294_248, r294_249, r294_250, r294_251, r294_252, r294_255, r294_256, r294_257, r294_258, r294_259, r294_260, r294_261, r294_262, r294_263, r294_264, r294_265, r294_266, r294_267, r294_268, r294_269, r294_270, r294_271, r294_272, r294_273, r294_274, r294_275, r294_276, r294_282, r294_283, r294_1413, r294_1416, r294_279]
theorem q294_2 (a : AT H S N sc) (am : AT Hm S N sc) (kx : xm_K H X = 1) (km : xm_K Hm M = 5) (hk : 6 * k + 6 ≤ N) (hN : N ≤ 384) (m1 : xm_met d 4 [.ref X, .int (sc (6 * k + 1)), .int (sc (6 * k + 2))] H = some (.inl (some (.int v)), Hm)) (m2 : xm_met d 94 [.ref M, .int (sc (6 * k + 1)), .int (sc (6 * k + 2))] Hm = some (.inl (some (.int v)), H2)) : xm_run (d + 1) 294 284 [some (.ref S), some (.ref X), some (.ref M), some (.int (Int32.ofNat (6 * k)))] [] H = xm_run (d + 1) 294 18 [some (.ref S), some (.ref X), some (.ref M), some (.int (Int32.ofNat (6 * (k + 1))))] [] H2 := by
  obtain ⟨a1, a2, a3⟩ := a
  obtain ⟨b1, b2, b3⟩ := am
  have ix := sc_ix hk hN
  simp only [ite_not, ite_self, w8_nil, ok01, ite10, rf_rv, rf_ref, rf_cat, rf_lk2, rf_some, rf_none, w_add, w_cons, cr_int, cr_long, cr_ref, cr_null, is_ref, is_null, l2_int, l2_ref, l2_null, l2_none, ent_nil, ent_int, ent_ref, ent_null, ent_rf, ent_long, ok_0, ok_1, af_ret, af_void, List.tail_cons, List.tail_nil, Nat.reduceAdd, Nat.reduceLeDiff, not_false_eq_true, not_true_eq_false, and_self, and_true, true_and, ne_eq, or_true, true_or, or_false, false_or, eq_self, Nat.reduceEqDiff, ↓reduceIte, false_and, and_false, Nat.le_refl, Nat.zero_le, nz_1, nz_2, nz_3, nz_4, nz_5, nz_6, nz_8, nz_10, nz_12, nz_20, nz_30, nz_60, nz_100, a1, a2, a3, b1, b2, b3, kx, km, ix, m1, m2, nox_l, r294_284, r294_285, r294_286, r294_287, r294_288, r294_289, r294_290, r294_291, r294_292, r294_293, r294_294, r294_295, r294_298, r294_299, r294_300, r294_301, r294_302, r294_303, r294_304, r294_305, r294_306, r294_307, r294_308, r294_309, r294_315, r294_316, r294_1413, r294_1416, r294_312]
theorem q294_3 (a : AT H S N sc) (am : AT Hm S N sc) (kx : xm_K H X = 1) (km : xm_K Hm M = 5) (hk : 6 * k + 6 ≤ N) (hN : N ≤ 384) (m1 : xm_met d 6 [.ref X, .int (sc (6 * k + 1))] H = some (.inl (some (.int v)), Hm)) (m2 : xm_met d 96 [.ref M, .int (sc (6 * k + 1))] Hm = some (.inl (some (.int v)), H2)) : xm_run (d + 1) 294 317 [some (.ref S), some (.ref X), some (.ref M), some (.int (Int32.ofNat (6 * k)))] [] H = xm_run (d + 1) 294 18 [some (.ref S), some (.ref X), some (.ref M), some (.int (Int32.ofNat (6 * (k + 1))))] [] H2 := by
  obtain ⟨a1, a2, a3⟩ := a
  obtain ⟨b1, b2, b3⟩ := am
  have ix := sc_ix hk hN
  simp only [ite_not, ite_self, w8_nil, ok01, ite10, rf_rv, rf_ref, rf_cat, rf_lk2, rf_some, rf_none, w_add, w_cons, cr_int, cr_long, cr_ref, cr_null, is_ref, is_null, l2_int, l2_ref, l2_null, l2_none, ent_nil, ent_int, ent_ref, ent_null, ent_rf, ent_long, ok_0, ok_1, af_ret, af_void, List.tail_cons, List.tail_nil, Nat.reduceAdd, Nat.reduceLeDiff, not_false_eq_true, not_true_eq_false, and_self, and_true, true_and, ne_eq, or_true, true_or, or_false, false_or, eq_self, Nat.reduceEqDiff, ↓reduceIte, false_and, and_false, Nat.le_refl, Nat.zero_le, nz_1, nz_2, nz_3, nz_4, nz_5, nz_6, nz_8, nz_10, nz_12, nz_20, nz_30, nz_60, nz_100, a1, a2, a3, b1, b2, b3, kx, km, ix, m1, m2, nox_l, r294_317, r294_318, r294_319, r294_320, r294_321, r294_322, r294_323, r294_326, r294_327, r294_328, r294_329, r294_330, r294_331, r294_332, r294_338, r294_339, r294_1413, r294_1416, r294_335]
theorem q294_4 (a : AT H S N sc) (am : AT Hm S N sc) (kx : xm_K H X = 1) (km : xm_K Hm M = 5) (hk : 6 * k + 6 ≤ N) (hN : N ≤ 384) (m1 : xm_met d 7 [.ref X, .int (sc (6 * k + 1))] H = some (.inl (some (.int v)), Hm)) (m2 : xm_met d 97 [.ref M, .int (sc (6 * k + 1))] Hm = some (.inl (some (.int v)), H2)) : xm_run (d + 1) 294 340 [some (.ref S), some (.ref X), some (.ref M), some (.int (Int32.ofNat (6 * k)))] [] H = xm_run (d + 1) 294 18 [some (.ref S), some (.ref X), some (.ref M), some (.int (Int32.ofNat (6 * (k + 1))))] [] H2 := by
  obtain ⟨a1, a2, a3⟩ := a
  obtain ⟨b1, b2, b3⟩ := am
  have ix := sc_ix hk hN
  simp only [ite_not, ite_self, w8_nil, ok01, ite10, rf_rv, rf_ref, rf_cat, rf_lk2, rf_some, rf_none, w_add, w_cons, cr_int, cr_long, cr_ref, cr_null, is_ref, is_null, l2_int, l2_ref, l2_null, l2_none, ent_nil, ent_int, ent_ref, ent_null, ent_rf, ent_long, ok_0, ok_1, af_ret, af_void, List.tail_cons, List.tail_nil, Nat.reduceAdd, Nat.reduceLeDiff, not_false_eq_true, not_true_eq_false, and_self, and_true, true_and, ne_eq, or_true, true_or, or_false, false_or, eq_self, Nat.reduceEqDiff, ↓reduceIte, false_and, and_false, Nat.le_refl, Nat.zero_le, nz_1, nz_2, nz_3, nz_4, nz_5, nz_6, nz_8, nz_10, nz_12, nz_20, nz_30, nz_60, nz_100, a1, a2, a3, b1, b2, b3, kx, km, ix, m1, m2, nox_l, r294_340, r294_341, r294_342, r294_343, r294_344, r294_345, r294_346, r294_349, r294_350, r294_351, r294_352, r294_353, r294_354, r294_355, r294_361, r294_362, r294_1413, r294_1416, r294_358]
theorem q294_5 (a : AT H S N sc) (am : AT Hm S N sc) (kx : xm_K H X = 1) (km : xm_K Hm M = 5) (hk : 6 * k + 6 ≤ N) (hN : N ≤ 384) (m1 : xm_met d 14 [.ref X, .int (sc (6 * k + 1)), .int (sc (6 * k + 2)), .int (sc (6 * k + 3))] H = some (.inl (some (.int v)), Hm)) (m2 : xm_met d 108 [.ref M, .int (sc (6 * k + 1)), .int (sc (6 * k + 2)), .int (sc (6 * k + 3))] Hm = some (.inl (some (.int v)), H2)) : xm_run (d + 1) 294 363 [some (.ref S), some (.ref X), some (.ref M), some (.int (Int32.ofNat (6 * k)))] [] H = xm_run (d + 1) 294 18 [some (.ref S), some (.ref X), some (.ref M), some (.int (Int32.ofNat (6 * (k + 1))))] [] H2 := by
  obtain ⟨a1, a2, a3⟩ := a
  obtain ⟨b1, b2, b3⟩ := am
  have ix := sc_ix hk hN
  simp only [ite_not, ite_self, w8_nil, ok01, ite10, rf_rv, rf_ref, rf_cat, rf_lk2, rf_some, rf_none, w_add, w_cons, cr_int, cr_long, cr_ref, cr_null, is_ref, is_null, l2_int, l2_ref, l2_null, l2_none, ent_nil, ent_int, ent_ref, ent_null, ent_rf, ent_long, ok_0, ok_1, af_ret, af_void, List.tail_cons, List.tail_nil, Nat.reduceAdd, Nat.reduceLeDiff, not_false_eq_true, not_true_eq_false, and_self, and_true, true_and, ne_eq, or_true, true_or, or_false, false_or, eq_self, Nat.reduceEqDiff, ↓reduceIte, false_and, and_false, Nat.le_refl, Nat.zero_le, nz_1, nz_2, nz_3, nz_4, nz_5, nz_6, nz_8, nz_10, nz_12, nz_20, nz_30, nz_60, nz_100, a1, a2, a3, b1, b2, b3, kx, km, ix, m1, m2, nox_l, r294_363, r294_364, r294_365, r294_366, r294_367, r294_368, r294_369, r294_370, r294_371, r294_372, r294_373, r294_374, r294_375, r294_376, r294_377, r294_378, r294_379, r294_382, r294_383, r294_384, r294_385, r294_386, r294_387, r294_388, r294_389, r294_390, r294_391, r294_392, r294_393, r294_394, r294_395, r294_396, r294_397, r294_398, r294_404, r294_405, r294_1413, r294_1416, r294_401]
theorem q294_6 (a : AT H S N sc) (am : AT Hm S N sc) (kx : xm_K H X = 1) (km : xm_K Hm M = 5) (hk : 6 * k + 6 ≤ N) (hN : N ≤ 384) (m1 : xm_met d 15 [.ref X, .int (sc (6 * k + 1))] H = some (.inl (some (.int v)), Hm)) (m2 : xm_met d 109 [.ref M, .int (sc (6 * k + 1))] Hm = some (.inl (some (.int v)), H2)) : xm_run (d + 1) 294 406 [some (.ref S), some (.ref X), some (.ref M), some (.int (Int32.ofNat (6 * k)))] [] H = xm_run (d + 1) 294 18 [some (.ref S), some (.ref X), some (.ref M), some (.int (Int32.ofNat (6 * (k + 1))))] [] H2 := by
  obtain ⟨a1, a2, a3⟩ := a
  obtain ⟨b1, b2, b3⟩ := am
  have ix := sc_ix hk hN
  simp only [ite_not, ite_self, w8_nil, ok01, ite10, rf_rv, rf_ref, rf_cat, rf_lk2, rf_some, rf_none, w_add, w_cons, cr_int, cr_long, cr_ref, cr_null, is_ref, is_null, l2_int, l2_ref, l2_null, l2_none, ent_nil, ent_int, ent_ref, ent_null, ent_rf, ent_long, ok_0, ok_1, af_ret, af_void, List.tail_cons, List.tail_nil, Nat.reduceAdd, Nat.reduceLeDiff, not_false_eq_true, not_true_eq_false, and_self, and_true, true_and, ne_eq, or_true, true_or, or_false, false_or, eq_self, Nat.reduceEqDiff, ↓reduceIte, false_and, and_false, Nat.le_refl, Nat.zero_le, nz_1, nz_2, nz_3, nz_4, nz_5, nz_6, nz_8, nz_10, nz_12, nz_20, nz_30, nz_60, nz_100, a1, a2, a3, b1, b2, b3, kx, km, ix, m1, m2, nox_l, r294_406, r294_407, r294_408, r294_409, r294_410, r294_411, r294_412, r294_415, r294_416, r294_417, r294_418, r294_419, r294_420, r294_421, r294_427, r294_428, r294_1413, r294_1416, r294_424]
theorem q294_7 (a : AT H S N sc) (am : AT Hm S N sc) (kx : xm_K H X = 1) (km : xm_K Hm M = 5) (hk : 6 * k + 6 ≤ N) (hN : N ≤ 384) (m1 : xm_met d 22 [.ref X, .int (sc (6 * k + 1)), .int (sc (6 * k + 2)), .int (sc (6 * k + 3)), .int (sc (6 * k + 4)), .int (sc (6 * k + 5))] H = some (.inl (some (.int v)), Hm)) (m2 : xm_met d 110 [.ref M, .int (sc (6 * k + 1)), .int (sc (6 * k + 2)), .int (sc (6 * k + 3)), .int (sc (6 * k + 4)), .int (sc (6 * k + 5))] Hm = some (.inl (some (.int v)), H2)) : xm_run (d + 1) 294 429 [some (.ref S), some (.ref X), some (.ref M), some (.int (Int32.ofNat (6 * k)))] [] H = xm_run (d + 1) 294 18 [some (.ref S), some (.ref X), some (.ref M), some (.int (Int32.ofNat (6 * (k + 1))))] [] H2 := by
  obtain ⟨a1, a2, a3⟩ := a
  obtain ⟨b1, b2, b3⟩ := am
  have ix := sc_ix hk hN
  simp only [ite_not, ite_self, w8_nil, ok01, ite10, rf_rv, rf_ref, rf_cat, rf_lk2, rf_some, rf_none, w_add, w_cons, cr_int, cr_long, cr_ref, cr_null, is_ref, is_null, l2_int, l2_ref, l2_null, l2_none, ent_nil, ent_int, ent_ref, ent_null, ent_rf, ent_long, ok_0, ok_1, af_ret, af_void, List.tail_cons, List.tail_nil, Nat.reduceAdd, Nat.reduceLeDiff, not_false_eq_true, not_true_eq_false, and_self, and_true, true_and, ne_eq, or_true, true_or, or_false, false_or, eq_self, Nat.reduceEqDiff, ↓reduceIte, false_and, and_false, Nat.le_refl, Nat.zero_le, nz_1, nz_2, nz_3, nz_4, nz_5, nz_6, nz_8, nz_10, nz_12, nz_20, nz_30, nz_60, nz_100, a1, a2, a3, b1, b2, b3, kx, km, ix, m1, m2, nox_l, r294_429, r294_430, r294_431, r294_432, r294_433, r294_434, r294_435, r294_436, r294_437, r294_438, r294_439, r294_440, r294_441, r294_442, r294_443, r294_444, r294_445, r294_446, r294_447, r294_448, r294_449, r294_450, r294_451, r294_452, r294_453, r294_454, r294_455, r294_458, r294_459, r294_460, r294_461, r294_462, r294_463, r294_464, r294_465, r294_466, r294_467, r294_468, r294_469, r294_470, r294_471, r294_472, r294_473, r294_474, r294_475, r294_476, r294_477, r294_478, r294_479, r294_480, r294_481, r294_482, r294_483, r294_484, r294_490, r294_491, r294_1413, r294_1416, r294_487]
theorem q294_8 (a : AT H S N sc) (am : AT Hm S N sc) (kx : xm_K H X = 1) (km : xm_K Hm M = 5) (hk : 6 * k + 6 ≤ N) (hN : N ≤ 384) (m1 : xm_met d 24 [.ref X, .int (sc (6 * k + 1))] H = some (.inl (some (.int v)), Hm)) (m2 : xm_met d 111 [.ref M, .int (sc (6 * k + 1))] Hm = some (.inl (some (.int v)), H2)) : xm_run (d + 1) 294 492 [some (.ref S), some (.ref X), some (.ref M), some (.int (Int32.ofNat (6 * k)))] [] H = xm_run (d + 1) 294 18 [some (.ref S), some (.ref X), some (.ref M), some (.int (Int32.ofNat (6 * (k + 1))))] [] H2 := by
  obtain ⟨a1, a2, a3⟩ := a
  obtain ⟨b1, b2, b3⟩ := am
  have ix := sc_ix hk hN
  simp only [ite_not, ite_self, w8_nil, ok01, ite10, rf_rv, rf_ref, rf_cat, rf_lk2, rf_some, rf_none, w_add, w_cons, cr_int, cr_long, cr_ref, cr_null, is_ref, is_null, l2_int, l2_ref, l2_null, l2_none, ent_nil, ent_int, ent_ref, ent_null, ent_rf, ent_long, ok_0, ok_1, af_ret, af_void, List.tail_cons, List.tail_nil, Nat.reduceAdd, Nat.reduceLeDiff, not_false_eq_true, not_true_eq_false, and_self, and_true, true_and, ne_eq, or_true, true_or, or_false, false_or, eq_self, Nat.reduceEqDiff, ↓reduceIte, false_and, and_false, Nat.le_refl, Nat.zero_le, nz_1, nz_2, nz_3, nz_4, nz_5, nz_6, nz_8, nz_10, nz_12, nz_20, nz_30, nz_60, nz_100, a1, a2, a3, b1, b2, b3, kx, km, ix, m1, m2, nox_l, r294_492, r294_493, r294_494, r294_495, r294_496, r294_497, r294_498, r294_501, r294_502, r294_503, r294_504, r294_505, r294_506, r294_507, r294_513, r294_514, r294_1413, r294_1416, r294_510]
theorem q294_9 (a : AT H S N sc) (am : AT Hm S N sc) (kx : xm_K H X = 1) (km : xm_K Hm M = 5) (hk : 6 * k + 6 ≤ N) (hN : N ≤ 384) (m1 : xm_met d 18 [.ref X, .int (sc (6 * k + 1))] H = some (.inl (some (.int v)), Hm)) (m2 : xm_met d 112 [.ref M, .int (sc (6 * k + 1))] Hm = some (.inl (some (.int v)), H2)) : xm_run (d + 1) 294 515 [some (.ref S), some (.ref X), some (.ref M), some (.int (Int32.ofNat (6 * k)))] [] H = xm_run (d + 1) 294 18 [some (.ref S), some (.ref X), some (.ref M), some (.int (Int32.ofNat (6 * (k + 1))))] [] H2 := by
  obtain ⟨a1, a2, a3⟩ := a
  obtain ⟨b1, b2, b3⟩ := am
  have ix := sc_ix hk hN
  simp only [ite_not, ite_self, w8_nil, ok01, ite10, rf_rv, rf_ref, rf_cat, rf_lk2, rf_some, rf_none, w_add, w_cons, cr_int, cr_long, cr_ref, cr_null, is_ref, is_null, l2_int, l2_ref, l2_null, l2_none, ent_nil, ent_int, ent_ref, ent_null, ent_rf, ent_long, ok_0, ok_1, af_ret, af_void, List.tail_cons, List.tail_nil, Nat.reduceAdd, Nat.reduceLeDiff, not_false_eq_true, not_true_eq_false, and_self, and_true, true_and, ne_eq, or_true, true_or, or_false, false_or, eq_self, Nat.reduceEqDiff, ↓reduceIte, false_and, and_false, Nat.le_refl, Nat.zero_le, nz_1, nz_2, nz_3, nz_4, nz_5, nz_6, nz_8, nz_10, nz_12, nz_20, nz_30, nz_60, nz_100, a1, a2, a3, b1, b2, b3, kx, km, ix, m1, m2, nox_l, r294_515, r294_516, r294_517, r294_518, r294_519, r294_520, r294_521, r294_524, r294_525, r294_526, r294_527, r294_528, r294_529, r294_530, r294_536, r294_537, r294_1413, r294_1416, r294_533]
theorem q294_10 (a : AT H S N sc) (am : AT Hm S N sc) (kx : xm_K H X = 1) (km : xm_K Hm M = 5) (hk : 6 * k + 6 ≤ N) (hN : N ≤ 384) (m1 : xm_met d 21 [.ref X, .int (sc (6 * k + 1))] H = some (.inl (some (.int v)), Hm)) (m2 : xm_met d 132 [.ref M, .int (sc (6 * k + 1))] Hm = some (.inl (some (.int v)), H2)) : xm_run (d + 1) 294 538 [some (.ref S), some (.ref X), some (.ref M), some (.int (Int32.ofNat (6 * k)))] [] H = xm_run (d + 1) 294 18 [some (.ref S), some (.ref X), some (.ref M), some (.int (Int32.ofNat (6 * (k + 1))))] [] H2 := by
  obtain ⟨a1, a2, a3⟩ := a
  obtain ⟨b1, b2, b3⟩ := am
  have ix := sc_ix hk hN
  simp only [ite_not, ite_self, w8_nil, ok01, ite10, rf_rv, rf_ref, rf_cat, rf_lk2, rf_some, rf_none, w_add, w_cons, cr_int, cr_long, cr_ref, cr_null, is_ref, is_null, l2_int, l2_ref, l2_null, l2_none, ent_nil, ent_int, ent_ref, ent_null, ent_rf, ent_long, ok_0, ok_1, af_ret, af_void, List.tail_cons, List.tail_nil, Nat.reduceAdd, Nat.reduceLeDiff, not_false_eq_true, not_true_eq_false, and_self, and_true, true_and, ne_eq, or_true, true_or, or_false, false_or, eq_self, Nat.reduceEqDiff, ↓reduceIte, false_and, and_false, Nat.le_refl, Nat.zero_le, nz_1, nz_2, nz_3, nz_4, nz_5, nz_6, nz_8, nz_10, nz_12, nz_20, nz_30, nz_60, nz_100, a1, a2, a3, b1, b2, b3, kx, km, ix, m1, m2, nox_l, r294_538, r294_539, r294_540, r294_541, r294_542, r294_543, r294_544, r294_547, r294_548, r294_549, r294_550, r294_551, r294_552, r294_553, r294_559, r294_560, r294_1413, r294_1416, r294_556]
theorem q294_11 (a : AT H S N sc) (am : AT Hm S N sc) (kx : xm_K H X = 1) (km : xm_K Hm M = 5) (hk : 6 * k + 6 ≤ N) (hN : N ≤ 384) (m1 : xm_met d 25 [.ref X, .int (sc (6 * k + 1)), .int (sc (6 * k + 2))] H = some (.inl (some (.int v)), Hm)) (m2 : xm_met d 133 [.ref M, .int (sc (6 * k + 1)), .int (sc (6 * k + 2))] Hm = some (.inl (some (.int v)), H2)) : xm_run (d + 1) 294 561 [some (.ref S), some (.ref X), some (.ref M), some (.int (Int32.ofNat (6 * k)))] [] H = xm_run (d + 1) 294 18 [some (.ref S), some (.ref X), some (.ref M), some (.int (Int32.ofNat (6 * (k + 1))))] [] H2 := by
  obtain ⟨a1, a2, a3⟩ := a
  obtain ⟨b1, b2, b3⟩ := am
  have ix := sc_ix hk hN
  simp only [ite_not, ite_self, w8_nil, ok01, ite10, rf_rv, rf_ref, rf_cat, rf_lk2, rf_some, rf_none, w_add, w_cons, cr_int, cr_long, cr_ref, cr_null, is_ref, is_null, l2_int, l2_ref, l2_null, l2_none, ent_nil, ent_int, ent_ref, ent_null, ent_rf, ent_long, ok_0, ok_1, af_ret, af_void, List.tail_cons, List.tail_nil, Nat.reduceAdd, Nat.reduceLeDiff, not_false_eq_true, not_true_eq_false, and_self, and_true, true_and, ne_eq, or_true, true_or, or_false, false_or, eq_self, Nat.reduceEqDiff, ↓reduceIte, false_and, and_false, Nat.le_refl, Nat.zero_le, nz_1, nz_2, nz_3, nz_4, nz_5, nz_6, nz_8, nz_10, nz_12, nz_20, nz_30, nz_60, nz_100, a1, a2, a3, b1, b2, b3, kx, km, ix, m1, m2, nox_l, r294_561, r294_562, r294_563, r294_564, r294_565, r294_566, r294_567, r294_568, r294_569, r294_570, r294_571, r294_572, r294_575, r294_576, r294_577, r294_578, r294_579, r294_580, r294_581, r294_582, r294_583, r294_584, r294_585, r294_586, r294_592, r294_593, r294_1413, r294_1416, r294_589]
theorem q294_12 (a : AT H S N sc) (am : AT Hm S N sc) (kx : xm_K H X = 1) (km : xm_K Hm M = 5) (hk : 6 * k + 6 ≤ N) (hN : N ≤ 384) (m1 : xm_met d 26 [.ref X, .int (sc (6 * k + 1)), .int (sc (6 * k + 2)), .int (sc (6 * k + 3))] H = some (.inl (some (.int v)), Hm)) (m2 : xm_met d 134 [.ref M, .int (sc (6 * k + 1)), .int (sc (6 * k + 2)), .int (sc (6 * k + 3))] Hm = some (.inl (some (.int v)), H2)) : xm_run (d + 1) 294 594 [some (.ref S), some (.ref X), some (.ref M), some (.int (Int32.ofNat (6 * k)))] [] H = xm_run (d + 1) 294 18 [some (.ref S), some (.ref X), some (.ref M), some (.int (Int32.ofNat (6 * (k + 1))))] [] H2 := by
  obtain ⟨a1, a2, a3⟩ := a
  obtain ⟨b1, b2, b3⟩ := am
  have ix := sc_ix hk hN
  simp only [ite_not, ite_self, w8_nil, ok01, ite10, rf_rv, rf_ref, rf_cat, rf_lk2, rf_some, rf_none, w_add, w_cons, cr_int, cr_long, cr_ref, cr_null, is_ref, is_null, l2_int, l2_ref, l2_null, l2_none, ent_nil, ent_int, ent_ref, ent_null, ent_rf, ent_long, ok_0, ok_1, af_ret, af_void, List.tail_cons, List.tail_nil, Nat.reduceAdd, Nat.reduceLeDiff, not_false_eq_true, not_true_eq_false, and_self, and_true, true_and, ne_eq, or_true, true_or, or_false, false_or, eq_self, Nat.reduceEqDiff, ↓reduceIte, false_and, and_false, Nat.le_refl, Nat.zero_le, nz_1, nz_2, nz_3, nz_4, nz_5, nz_6, nz_8, nz_10, nz_12, nz_20, nz_30, nz_60, nz_100, a1, a2, a3, b1, b2, b3, kx, km, ix, m1, m2, nox_l, r294_594, r294_595, r294_596, r294_597, r294_598, r294_599, r294_600, r294_601, r294_602, r294_603, r294_604, r294_605, r294_606, r294_607, r294_608, r294_609, r294_610, r294_613, r294_614, r294_615, r294_616, r294_617, r294_618, r294_619, r294_620, r294_621, r294_622, r294_623, r294_624, r294_625, r294_626, r294_627, r294_628, r294_629, r294_635, r294_636, r294_1413, r294_1416, r294_632]
theorem q294_13 (a : AT H S N sc) (am : AT Hm S N sc) (kx : xm_K H X = 1) (km : xm_K Hm M = 5) (hk : 6 * k + 6 ≤ N) (hN : N ≤ 384) (m1 : xm_met d 29 [.ref X, .int (sc (6 * k + 1)), .int (sc (6 * k + 2))] H = some (.inl (some (.int v)), Hm)) (m2 : xm_met d 141 [.ref M, .int (sc (6 * k + 1)), .int (sc (6 * k + 2))] Hm = some (.inl (some (.int v)), H2)) : xm_run (d + 1) 294 637 [some (.ref S), some (.ref X), some (.ref M), some (.int (Int32.ofNat (6 * k)))] [] H = xm_run (d + 1) 294 18 [some (.ref S), some (.ref X), some (.ref M), some (.int (Int32.ofNat (6 * (k + 1))))] [] H2 := by
  obtain ⟨a1, a2, a3⟩ := a
  obtain ⟨b1, b2, b3⟩ := am
  have ix := sc_ix hk hN
  simp only [ite_not, ite_self, w8_nil, ok01, ite10, rf_rv, rf_ref, rf_cat, rf_lk2, rf_some, rf_none, w_add, w_cons, cr_int, cr_long, cr_ref, cr_null, is_ref, is_null, l2_int, l2_ref, l2_null, l2_none, ent_nil, ent_int, ent_ref, ent_null, ent_rf, ent_long, ok_0, ok_1, af_ret, af_void, List.tail_cons, List.tail_nil, Nat.reduceAdd, Nat.reduceLeDiff, not_false_eq_true, not_true_eq_false, and_self, and_true, true_and, ne_eq, or_true, true_or, or_false, false_or, eq_self, Nat.reduceEqDiff, ↓reduceIte, false_and, and_false, Nat.le_refl, Nat.zero_le, nz_1, nz_2, nz_3, nz_4, nz_5, nz_6, nz_8, nz_10, nz_12, nz_20, nz_30, nz_60, nz_100, a1, a2, a3, b1, b2, b3, kx, km, ix, m1, m2, nox_l, r294_637, r294_638, r294_639, r294_640, r294_641, r294_642, r294_643, r294_644, r294_645, r294_646, r294_647, r294_648, r294_651, r294_652, r294_653, r294_654, r294_655, r294_656, r294_657, r294_658, r294_659, r294_660, r294_661, r294_662, r294_668, r294_669, r294_1413, r294_1416, r294_665]
theorem q294_14 (a : AT H S N sc) (am : AT Hm S N sc) (kx : xm_K H X = 1) (km : xm_K Hm M = 5) (hk : 6 * k + 6 ≤ N) (hN : N ≤ 384) (m1 : xm_met d 30 [.ref X, .int (sc (6 * k + 1)), .int (sc (6 * k + 2))] H = some (.inl (some (.int v)), Hm)) (m2 : xm_met d 142 [.ref M, .int (sc (6 * k + 1)), .int (sc (6 * k + 2))] Hm = some (.inl (some (.int v)), H2)) : xm_run (d + 1) 294 670 [some (.ref S), some (.ref X), some (.ref M), some (.int (Int32.ofNat (6 * k)))] [] H = xm_run (d + 1) 294 18 [some (.ref S), some (.ref X), some (.ref M), some (.int (Int32.ofNat (6 * (k + 1))))] [] H2 := by
  obtain ⟨a1, a2, a3⟩ := a
  obtain ⟨b1, b2, b3⟩ := am
  have ix := sc_ix hk hN
  simp only [ite_not, ite_self, w8_nil, ok01, ite10, rf_rv, rf_ref, rf_cat, rf_lk2, rf_some, rf_none, w_add, w_cons, cr_int, cr_long, cr_ref, cr_null, is_ref, is_null, l2_int, l2_ref, l2_null, l2_none, ent_nil, ent_int, ent_ref, ent_null, ent_rf, ent_long, ok_0, ok_1, af_ret, af_void, List.tail_cons, List.tail_nil, Nat.reduceAdd, Nat.reduceLeDiff, not_false_eq_true, not_true_eq_false, and_self, and_true, true_and, ne_eq, or_true, true_or, or_false, false_or, eq_self, Nat.reduceEqDiff, ↓reduceIte, false_and, and_false, Nat.le_refl, Nat.zero_le, nz_1, nz_2, nz_3, nz_4, nz_5, nz_6, nz_8, nz_10, nz_12, nz_20, nz_30, nz_60, nz_100, a1, a2, a3, b1, b2, b3, kx, km, ix, m1, m2, nox_l, r294_670, r294_671, r294_672, r294_673, r294_674, r294_675, r294_676, r294_677, r294_678, r294_679, r294_680, r294_681, r294_684, r294_685, r294_686, r294_687, r294_688, r294_689, r294_690, r294_691, r294_692, r294_693, r294_694, r294_695, r294_701, r294_702, r294_1413, r294_1416, r294_698]
theorem q294_15 (a : AT H S N sc) (am : AT Hm S N sc) (kx : xm_K H X = 1) (km : xm_K Hm M = 5) (hk : 6 * k + 6 ≤ N) (hN : N ≤ 384) (m1 : xm_met d 33 [.ref X, .int (sc (6 * k + 1)), .int (sc (6 * k + 2)), .int (sc (6 * k + 3))] H = some (.inl (some (.int v)), Hm)) (m2 : xm_met d 146 [.ref M, .int (sc (6 * k + 1)), .int (sc (6 * k + 2)), .int (sc (6 * k + 3))] Hm = some (.inl (some (.int v)), H2)) : xm_run (d + 1) 294 703 [some (.ref S), some (.ref X), some (.ref M), some (.int (Int32.ofNat (6 * k)))] [] H = xm_run (d + 1) 294 18 [some (.ref S), some (.ref X), some (.ref M), some (.int (Int32.ofNat (6 * (k + 1))))] [] H2 := by
  obtain ⟨a1, a2, a3⟩ := a
  obtain ⟨b1, b2, b3⟩ := am
  have ix := sc_ix hk hN
  simp only [ite_not, ite_self, w8_nil, ok01, ite10, rf_rv, rf_ref, rf_cat, rf_lk2, rf_some, rf_none, w_add, w_cons, cr_int, cr_long, cr_ref, cr_null, is_ref, is_null, l2_int, l2_ref, l2_null, l2_none, ent_nil, ent_int, ent_ref, ent_null, ent_rf, ent_long, ok_0, ok_1, af_ret, af_void, List.tail_cons, List.tail_nil, Nat.reduceAdd, Nat.reduceLeDiff, not_false_eq_true, not_true_eq_false, and_self, and_true, true_and, ne_eq, or_true, true_or, or_false, false_or, eq_self, Nat.reduceEqDiff, ↓reduceIte, false_and, and_false, Nat.le_refl, Nat.zero_le, nz_1, nz_2, nz_3, nz_4, nz_5, nz_6, nz_8, nz_10, nz_12, nz_20, nz_30, nz_60, nz_100, a1, a2, a3, b1, b2, b3, kx, km, ix, m1, m2, nox_l, r294_703, r294_704, r294_705, r294_706, r294_707, r294_708, r294_709, r294_710, r294_711, r294_712, r294_713, r294_714, r294_715, r294_716, r294_717, r294_718, r294_719, r294_722, r294_723, r294_724, r294_725, r294_726, r294_727, r294_728, r294_729, r294_730, r294_731, r294_732, r294_733, r294_734, r294_735, r294_736, r294_737, r294_738, r294_744, r294_745, r294_1413, r294_1416, r294_741]
theorem q294_16 (a : AT H S N sc) (am : AT Hm S N sc) (kx : xm_K H X = 1) (km : xm_K Hm M = 5) (hk : 6 * k + 6 ≤ N) (hN : N ≤ 384) (m1 : xm_met d 37 [.ref X, .int (sc (6 * k + 1)), .int (sc (6 * k + 2)), .int (sc (6 * k + 3)), .int (sc (6 * k + 4))] H = some (.inl (some (.int v)), Hm)) (m2 : xm_met d 150 [.ref M, .int (sc (6 * k + 1)), .int (sc (6 * k + 2)), .int (sc (6 * k + 3)), .int (sc (6 * k + 4))] Hm = some (.inl (some (.int v)), H2)) : xm_run (d + 1) 294 746 [some (.ref S), some (.ref X), some (.ref M), some (.int (Int32.ofNat (6 * k)))] [] H = xm_run (d + 1) 294 18 [some (.ref S), some (.ref X), some (.ref M), some (.int (Int32.ofNat (6 * (k + 1))))] [] H2 := by
  obtain ⟨a1, a2, a3⟩ := a
  obtain ⟨b1, b2, b3⟩ := am
  have ix := sc_ix hk hN
  simp only [ite_not, ite_self, w8_nil, ok01, ite10, rf_rv, rf_ref, rf_cat, rf_lk2, rf_some, rf_none, w_add, w_cons, cr_int, cr_long, cr_ref, cr_null, is_ref, is_null, l2_int, l2_ref, l2_null, l2_none, ent_nil, ent_int, ent_ref, ent_null, ent_rf, ent_long, ok_0, ok_1, af_ret, af_void, List.tail_cons, List.tail_nil, Nat.reduceAdd, Nat.reduceLeDiff, not_false_eq_true, not_true_eq_false, and_self, and_true, true_and, ne_eq, or_true, true_or, or_false, false_or, eq_self, Nat.reduceEqDiff, ↓reduceIte, false_and, and_false, Nat.le_refl, Nat.zero_le, nz_1, nz_2, nz_3, nz_4, nz_5, nz_6, nz_8, nz_10, nz_12, nz_20, nz_30, nz_60, nz_100, a1, a2, a3, b1, b2, b3, kx, km, ix, m1, m2, nox_l, r294_746, r294_747, r294_748, r294_749, r294_750, r294_751, r294_752, r294_753, r294_754, r294_755, r294_756, r294_757, r294_758, r294_759, r294_760, r294_761, r294_762, r294_763, r294_764, r294_765, r294_766, r294_767, r294_770, r294_771, r294_772, r294_773, r294_774, r294_775, r294_776, r294_777, r294_778, r294_779, r294_780, r294_781, r294_782, r294_783, r294_784, r294_785, r294_786, r294_787, r294_788, r294_789, r294_790, r294_791, r294_797, r294_798, r294_1413, r294_1416, r294_794]
theorem q294_17 (a : AT H S N sc) (am : AT Hm S N sc) (kx : xm_K H X = 1) (km : xm_K Hm M = 5) (hk : 6 * k + 6 ≤ N) (hN : N ≤ 384) (m1 : xm_met d 41 [.ref X, .int (sc (6 * k + 1))] H = some (.inl (some (.int v)), Hm)) (m2 : xm_met d 154 [.ref M, .int (sc (6 * k + 1))] Hm = some (.inl (some (.int v)), H2)) : xm_run (d + 1) 294 799 [some (.ref S), some (.ref X), some (.ref M), some (.int (Int32.ofNat (6 * k)))] [] H = xm_run (d + 1) 294 18 [some (.ref S), some (.ref X), some (.ref M), some (.int (Int32.ofNat (6 * (k + 1))))] [] H2 := by
  obtain ⟨a1, a2, a3⟩ := a
  obtain ⟨b1, b2, b3⟩ := am
  have ix := sc_ix hk hN
  simp only [ite_not, ite_self, w8_nil, ok01, ite10, rf_rv, rf_ref, rf_cat, rf_lk2, rf_some, rf_none, w_add, w_cons, cr_int, cr_long, cr_ref, cr_null, is_ref, is_null, l2_int, l2_ref, l2_null, l2_none, ent_nil, ent_int, ent_ref, ent_null, ent_rf, ent_long, ok_0, ok_1, af_ret, af_void, List.tail_cons, List.tail_nil, Nat.reduceAdd, Nat.reduceLeDiff, not_false_eq_true, not_true_eq_false, and_self, and_true, true_and, ne_eq, or_true, true_or, or_false, false_or, eq_self, Nat.reduceEqDiff, ↓reduceIte, false_and, and_false, Nat.le_refl, Nat.zero_le, nz_1, nz_2, nz_3, nz_4, nz_5, nz_6, nz_8, nz_10, nz_12, nz_20, nz_30, nz_60, nz_100, a1, a2, a3, b1, b2, b3, kx, km, ix, m1, m2, nox_l, r294_799, r294_800, r294_801, r294_802, r294_803, r294_804, r294_805, r294_808, r294_809, r294_810, r294_811, r294_812, r294_813, r294_814, r294_820, r294_821, r294_1413, r294_1416, r294_817]
theorem q294_18 (a : AT H S N sc) (am : AT Hm S N sc) (kx : xm_K H X = 1) (km : xm_K Hm M = 5) (hk : 6 * k + 6 ≤ N) (hN : N ≤ 384) (m1 : xm_met d 42 [.ref X, .int (sc (6 * k + 1)), .int (sc (6 * k + 2))] H = some (.inl (some (.int v)), Hm)) (m2 : xm_met d 155 [.ref M, .int (sc (6 * k + 1)), .int (sc (6 * k + 2))] Hm = some (.inl (some (.int v)), H2)) : xm_run (d + 1) 294 822 [some (.ref S), some (.ref X), some (.ref M), some (.int (Int32.ofNat (6 * k)))] [] H = xm_run (d + 1) 294 18 [some (.ref S), some (.ref X), some (.ref M), some (.int (Int32.ofNat (6 * (k + 1))))] [] H2 := by
  obtain ⟨a1, a2, a3⟩ := a
  obtain ⟨b1, b2, b3⟩ := am
  have ix := sc_ix hk hN
  simp only [ite_not, ite_self, w8_nil, ok01, ite10, rf_rv, rf_ref, rf_cat, rf_lk2, rf_some, rf_none, w_add, w_cons, cr_int, cr_long, cr_ref, cr_null, is_ref, is_null, l2_int, l2_ref, l2_null, l2_none, ent_nil, ent_int, ent_ref, ent_null, ent_rf, ent_long, ok_0, ok_1, af_ret, af_void, List.tail_cons, List.tail_nil, Nat.reduceAdd, Nat.reduceLeDiff, not_false_eq_true, not_true_eq_false, and_self, and_true, true_and, ne_eq, or_true, true_or, or_false, false_or, eq_self, Nat.reduceEqDiff, ↓reduceIte, false_and, and_false, Nat.le_refl, Nat.zero_le, nz_1, nz_2, nz_3, nz_4, nz_5, nz_6, nz_8, nz_10, nz_12, nz_20, nz_30, nz_60, nz_100, a1, a2, a3, b1, b2, b3, kx, km, ix, m1, m2, nox_l, r294_822, r294_823, r294_824, r294_825, r294_826, r294_827, r294_828, r294_829, r294_830, r294_831, r294_832, r294_833, r294_836, r294_837, r294_838, r294_839, r294_840, r294_841, r294_842, r294_843, r294_844, r294_845, r294_846, r294_847, r294_853, r294_854, r294_1413, r294_1416, r294_850]
theorem q294_19 (a : AT H S N sc) (am : AT Hm S N sc) (kx : xm_K H X = 1) (km : xm_K Hm M = 5) (hk : 6 * k + 6 ≤ N) (hN : N ≤ 384) (m1 : xm_met d 43 [.ref X, .int (sc (6 * k + 1))] H = some (.inl (some (.int v)), Hm)) (m2 : xm_met d 156 [.ref M, .int (sc (6 * k + 1))] Hm = some (.inl (some (.int v)), H2)) : xm_run (d + 1) 294 855 [some (.ref S), some (.ref X), some (.ref M), some (.int (Int32.ofNat (6 * k)))] [] H = xm_run (d + 1) 294 18 [some (.ref S), some (.ref X), some (.ref M), some (.int (Int32.ofNat (6 * (k + 1))))] [] H2 := by
  obtain ⟨a1, a2, a3⟩ := a
  obtain ⟨b1, b2, b3⟩ := am
  have ix := sc_ix hk hN
  simp only [ite_not, ite_self, w8_nil, ok01, ite10, rf_rv, rf_ref, rf_cat, rf_lk2, rf_some, rf_none, w_add, w_cons, cr_int, cr_long, cr_ref, cr_null, is_ref, is_null, l2_int, l2_ref, l2_null, l2_none, ent_nil, ent_int, ent_ref, ent_null, ent_rf, ent_long, ok_0, ok_1, af_ret, af_void, List.tail_cons, List.tail_nil, Nat.reduceAdd, Nat.reduceLeDiff, not_false_eq_true, not_true_eq_false, and_self, and_true, true_and, ne_eq, or_true, true_or, or_false, false_or, eq_self, Nat.reduceEqDiff, ↓reduceIte, false_and, and_false, Nat.le_refl, Nat.zero_le, nz_1, nz_2, nz_3, nz_4, nz_5, nz_6, nz_8, nz_10, nz_12, nz_20, nz_30, nz_60, nz_100, a1, a2, a3, b1, b2, b3, kx, km, ix, m1, m2, nox_l, r294_855, r294_856, r294_857, r294_858, r294_859, r294_860, r294_861, r294_864, r294_865, r294_866, r294_867, r294_868, r294_869, r294_870, r294_876, r294_877, r294_1413, r294_1416, r294_873]
theorem q294_20 (a : AT H S N sc) (am : AT Hm S N sc) (kx : xm_K H X = 1) (km : xm_K Hm M = 5) (hk : 6 * k + 6 ≤ N) (hN : N ≤ 384) (m1 : xm_met d 46 [.ref X, .int (sc (6 * k + 1))] H = some (.inl (some (.int v)), Hm)) (m2 : xm_met d 158 [.ref M, .int (sc (6 * k + 1))] Hm = some (.inl (some (.int v)), H2)) : xm_run (d + 1) 294 878 [some (.ref S), some (.ref X), some (.ref M), some (.int (Int32.ofNat (6 * k)))] [] H = xm_run (d + 1) 294 18 [some (.ref S), some (.ref X), some (.ref M), some (.int (Int32.ofNat (6 * (k + 1))))] [] H2 := by
  obtain ⟨a1, a2, a3⟩ := a
  obtain ⟨b1, b2, b3⟩ := am
  have ix := sc_ix hk hN
  simp only [ite_not, ite_self, w8_nil, ok01, ite10, rf_rv, rf_ref, rf_cat, rf_lk2, rf_some, rf_none, w_add, w_cons, cr_int, cr_long, cr_ref, cr_null, is_ref, is_null, l2_int, l2_ref, l2_null, l2_none, ent_nil, ent_int, ent_ref, ent_null, ent_rf, ent_long, ok_0, ok_1, af_ret, af_void, List.tail_cons, List.tail_nil, Nat.reduceAdd, Nat.reduceLeDiff, not_false_eq_true, not_true_eq_false, and_self, and_true, true_and, ne_eq, or_true, true_or, or_false, false_or, eq_self, Nat.reduceEqDiff, ↓reduceIte, false_and, and_false, Nat.le_refl, Nat.zero_le, nz_1, nz_2, nz_3, nz_4, nz_5, nz_6, nz_8, nz_10, nz_12, nz_20, nz_30, nz_60, nz_100, a1, a2, a3, b1, b2, b3, kx, km, ix, m1, m2, nox_l, r294_878, r294_879, r294_880, r294_881, r294_882, r294_883, r294_884, r294_887, r294_888, r294_889, r294_890, r294_891, r294_892, r294_893, r294_899, r294_900, r294_1413, r294_1416, r294_896]
theorem q294_21 (a : AT H S N sc) (am : AT Hm S N sc) (kx : xm_K H X = 1) (km : xm_K Hm M = 5) (hk : 6 * k + 6 ≤ N) (hN : N ≤ 384) (m1 : xm_met d 47 [.ref X, .int (sc (6 * k + 1)), .int (sc (6 * k + 2))] H = some (.inl (some (.int v)), Hm)) (m2 : xm_met d 159 [.ref M, .int (sc (6 * k + 1)), .int (sc (6 * k + 2))] Hm = some (.inl (some (.int v)), H2)) : xm_run (d + 1) 294 901 [some (.ref S), some (.ref X), some (.ref M), some (.int (Int32.ofNat (6 * k)))] [] H = xm_run (d + 1) 294 18 [some (.ref S), some (.ref X), some (.ref M), some (.int (Int32.ofNat (6 * (k + 1))))] [] H2 := by
  obtain ⟨a1, a2, a3⟩ := a
  obtain ⟨b1, b2, b3⟩ := am
  have ix := sc_ix hk hN
  simp only [ite_not, ite_self, w8_nil, ok01, ite10, rf_rv, rf_ref, rf_cat, rf_lk2, rf_some, rf_none, w_add, w_cons, cr_int, cr_long, cr_ref, cr_null, is_ref, is_null, l2_int, l2_ref, l2_null, l2_none, ent_nil, ent_int, ent_ref, ent_null, ent_rf, ent_long, ok_0, ok_1, af_ret, af_void, List.tail_cons, List.tail_nil, Nat.reduceAdd, Nat.reduceLeDiff, not_false_eq_true, not_true_eq_false, and_self, and_true, true_and, ne_eq, or_true, true_or, or_false, false_or, eq_self, Nat.reduceEqDiff, ↓reduceIte, false_and, and_false, Nat.le_refl, Nat.zero_le, nz_1, nz_2, nz_3, nz_4, nz_5, nz_6, nz_8, nz_10, nz_12, nz_20, nz_30, nz_60, nz_100, a1, a2, a3, b1, b2, b3, kx, km, ix, m1, m2, nox_l, r294_901, r294_902, r294_903, r294_904, r294_905, r294_906, r294_907, r294_908, r294_909, r294_910, r294_911, r294_912, r294_915, r294_916, r294_917, r294_918, r294_919, r294_920, r294_921, r294_922, r294_923, r294_924, r294_925, r294_926, r294_932, r294_933, r294_1413, r294_1416, r294_929]
theorem q294_22 (a : AT H S N sc) (am : AT Hm S N sc) (kx : xm_K H X = 1) (km : xm_K Hm M = 5) (hk : 6 * k + 6 ≤ N) (hN : N ≤ 384) (m1 : xm_met d 48 [.ref X, .int (sc (6 * k + 1)), .int (sc (6 * k + 2)), .int (sc (6 * k + 3)), .int (sc (6 * k + 4))] H = some (.inl (some (.int v)), Hm)) (m2 : xm_met d 160 [.ref M, .int (sc (6 * k + 1)), .int (sc (6 * k + 2)), .int (sc (6 * k + 3)), .int (sc (6 * k + 4))] Hm = some (.inl (some (.int v)), H2)) : xm_run (d + 1) 294 934 [some (.ref S), some (.ref X), some (.ref M), some (.int (Int32.ofNat (6 * k)))] [] H = xm_run (d + 1) 294 18 [some (.ref S), some (.ref X), some (.ref M), some (.int (Int32.ofNat (6 * (k + 1))))] [] H2 := by
  obtain ⟨a1, a2, a3⟩ := a
  obtain ⟨b1, b2, b3⟩ := am
  have ix := sc_ix hk hN
  simp only [ite_not, ite_self, w8_nil, ok01, ite10, rf_rv, rf_ref, rf_cat, rf_lk2, rf_some, rf_none, w_add, w_cons, cr_int, cr_long, cr_ref, cr_null, is_ref, is_null, l2_int, l2_ref, l2_null, l2_none, ent_nil, ent_int, ent_ref, ent_null, ent_rf, ent_long, ok_0, ok_1, af_ret, af_void, List.tail_cons, List.tail_nil, Nat.reduceAdd, Nat.reduceLeDiff, not_false_eq_true, not_true_eq_false, and_self, and_true, true_and, ne_eq, or_true, true_or, or_false, false_or, eq_self, Nat.reduceEqDiff, ↓reduceIte, false_and, and_false, Nat.le_refl, Nat.zero_le, nz_1, nz_2, nz_3, nz_4, nz_5, nz_6, nz_8, nz_10, nz_12, nz_20, nz_30, nz_60, nz_100, a1, a2, a3, b1, b2, b3, kx, km, ix, m1, m2, nox_l, r294_934, r294_935, r294_936, r294_937, r294_938, r294_939, r294_940, r294_941, r294_942, r294_943, r294_944, r294_945, r294_946, r294_947, r294_948, r294_949, r294_950, r294_951, r294_952, r294_953, r294_954, r294_955, r294_958, r294_959, r294_960, r294_961, r294_962, r294_963, r294_964, r294_965, r294_966, r294_967, r294_968, r294_969, r294_970, r294_971, r294_972, r294_973, r294_974, r294_975, r294_976, r294_977, r294_978, r294_979, r294_985, r294_986, r294_1413, r294_1416, r294_982]
theorem q294_23 (a : AT H S N sc) (am : AT Hm S N sc) (kx : xm_K H X = 1) (km : xm_K Hm M = 5) (hk : 6 * k + 6 ≤ N) (hN : N ≤ 384) (m1 : xm_met d 50 [.ref X, .int (sc (6 * k + 1)), .int (sc (6 * k + 2))] H = some (.inl (some (.int v)), Hm)) (m2 : xm_met d 162 [.ref M, .int (sc (6 * k + 1)), .int (sc (6 * k + 2))] Hm = some (.inl (some (.int v)), H2)) : xm_run (d + 1) 294 987 [some (.ref S), some (.ref X), some (.ref M), some (.int (Int32.ofNat (6 * k)))] [] H = xm_run (d + 1) 294 18 [some (.ref S), some (.ref X), some (.ref M), some (.int (Int32.ofNat (6 * (k + 1))))] [] H2 := by
  obtain ⟨a1, a2, a3⟩ := a
  obtain ⟨b1, b2, b3⟩ := am
  have ix := sc_ix hk hN
  simp only [ite_not, ite_self, w8_nil, ok01, ite10, rf_rv, rf_ref, rf_cat, rf_lk2, rf_some, rf_none, w_add, w_cons, cr_int, cr_long, cr_ref, cr_null, is_ref, is_null, l2_int, l2_ref, l2_null, l2_none, ent_nil, ent_int, ent_ref, ent_null, ent_rf, ent_long, ok_0, ok_1, af_ret, af_void, List.tail_cons, List.tail_nil, Nat.reduceAdd, Nat.reduceLeDiff, not_false_eq_true, not_true_eq_false, and_self, and_true, true_and, ne_eq, or_true, true_or, or_false, false_or, eq_self, Nat.reduceEqDiff, ↓reduceIte, false_and, and_false, Nat.le_refl, Nat.zero_le, nz_1, nz_2, nz_3, nz_4, nz_5, nz_6, nz_8, nz_10, nz_12, nz_20, nz_30, nz_60, nz_100, a1, a2, a3, b1, b2, b3, kx, km, ix, m1, m2, nox_l, r294_987, r294_988, r294_989, r294_990, r294_991, r294_992, r294_993, r294_994, r294_995, r294_996, r294_997, r294_998, r294_1001, r294_1002, r294_1003, r294_1004, r294_1005, r294_1006, r294_1007, r294_1008, r294_1009, r294_1010, r294_1011, r294_1012, r294_1018, r294_1019, r294_1413, r294_1416, r294_1015]
theorem q294_24 (a : AT H S N sc) (am : AT Hm S N sc) (kx : xm_K H X = 1) (km : xm_K Hm M = 5) (hk : 6 * k + 6 ≤ N) (hN : N ≤ 384) (m1 : xm_met d 51 [.ref X, .int (sc (6 * k + 1)), .int (sc (6 * k + 2)), .int (sc (6 * k + 3))] H = some (.inl (some (.int v)), Hm)) (m2 : xm_met d 163 [.ref M, .int (sc (6 * k + 1)), .int (sc (6 * k + 2)), .int (sc (6 * k + 3))] Hm = some (.inl (some (.int v)), H2)) : xm_run (d + 1) 294 1020 [some (.ref S), some (.ref X), some (.ref M), some (.int (Int32.ofNat (6 * k)))] [] H = xm_run (d + 1) 294 18 [some (.ref S), some (.ref X), some (.ref M), some (.int (Int32.ofNat (6 * (k + 1))))] [] H2 := by
  obtain ⟨a1, a2, a3⟩ := a
  obtain ⟨b1, b2, b3⟩ := am
  have ix := sc_ix hk hN
  simp only [ite_not, ite_self, w8_nil, ok01, ite10, rf_rv, rf_ref, rf_cat, rf_lk2, rf_some, rf_none, w_add, w_cons, cr_int, cr_long, cr_ref, cr_null, is_ref, is_null, l2_int, l2_ref, l2_null, l2_none, ent_nil, ent_int, ent_ref, ent_null, ent_rf, ent_long, ok_0, ok_1, af_ret, af_void, List.tail_cons, List.tail_nil, Nat.reduceAdd, Nat.reduceLeDiff, not_false_eq_true, not_true_eq_false, and_self, and_true, true_and, ne_eq, or_true, true_or, or_false, false_or, eq_self, Nat.reduceEqDiff, ↓reduceIte, false_and, and_false, Nat.le_refl, Nat.zero_le, nz_1, nz_2, nz_3, nz_4, nz_5, nz_6, nz_8, nz_10, nz_12, nz_20, nz_30, nz_60, nz_100, a1, a2, a3, b1, b2, b3, kx, km, ix, m1, m2, nox_l, r294_1020, r294_1021, r294_1022, r294_1023, r294_1024, r294_1025, r294_1026, r294_1027, r294_1028, r294_1029, r294_1030, r294_1031, r294_1032, r294_1033, r294_1034, r294_1035, r294_1036, r294_1039, r294_1040, r294_1041, r294_1042, r294_1043, r294_1044, r294_1045, r294_1046, r294_1047, r294_1048, r294_1049, r294_1050, r294_1051, r294_1052, r294_1053, r294_1054, r294_1055, r294_1061, r294_1062, r294_1413, r294_1416, r294_1058]
theorem q294_25 (a : AT H S N sc) (am : AT Hm S N sc) (kx : xm_K H X = 1) (km : xm_K Hm M = 5) (hk : 6 * k + 6 ≤ N) (hN : N ≤ 384) (m1 : xm_met d 53 [.ref X, .int (sc (6 * k + 1)), .int (sc (6 * k + 2))] H = some (.inl (some (.int v)), Hm)) (m2 : xm_met d 166 [.ref M, .int (sc (6 * k + 1)), .int (sc (6 * k + 2))] Hm = some (.inl (some (.int v)), H2)) : xm_run (d + 1) 294 1063 [some (.ref S), some (.ref X), some (.ref M), some (.int (Int32.ofNat (6 * k)))] [] H = xm_run (d + 1) 294 18 [some (.ref S), some (.ref X), some (.ref M), some (.int (Int32.ofNat (6 * (k + 1))))] [] H2 := by
  obtain ⟨a1, a2, a3⟩ := a
  obtain ⟨b1, b2, b3⟩ := am
  have ix := sc_ix hk hN
  simp only [ite_not, ite_self, w8_nil, ok01, ite10, rf_rv, rf_ref, rf_cat, rf_lk2, rf_some, rf_none, w_add, w_cons, cr_int, cr_long, cr_ref, cr_null, is_ref, is_null, l2_int, l2_ref, l2_null, l2_none, ent_nil, ent_int, ent_ref, ent_null, ent_rf, ent_long, ok_0, ok_1, af_ret, af_void, List.tail_cons, List.tail_nil, Nat.reduceAdd, Nat.reduceLeDiff, not_false_eq_true, not_true_eq_false, and_self, and_true, true_and, ne_eq, or_true, true_or, or_false, false_or, eq_self, Nat.reduceEqDiff, ↓reduceIte, false_and, and_false, Nat.le_refl, Nat.zero_le, nz_1, nz_2, nz_3, nz_4, nz_5, nz_6, nz_8, nz_10, nz_12, nz_20, nz_30, nz_60, nz_100, a1, a2, a3, b1, b2, b3, kx, km, ix, m1, m2, nox_l, r294_1063, r294_1064, r294_1065, r294_1066, r294_1067, r294_1068, r294_1069, r294_1070, r294_1071, r294_1072, r294_1073, r294_1074, r294_1077, r294_1078, r294_1079, r294_1080, r294_1081, r294_1082, r294_1083, r294_1084, r294_1085, r294_1086, r294_1087, r294_1088, r294_1094, r294_1095, r294_1413, r294_1416, r294_1091]
theorem q294_26 (a : AT H S N sc) (am : AT Hm S N sc) (kx : xm_K H X = 1) (km : xm_K Hm M = 5) (hk : 6 * k + 6 ≤ N) (hN : N ≤ 384) (m1 : xm_met d 54 [.ref X, .int (sc (6 * k + 1)), .int (sc (6 * k + 2)), .int (sc (6 * k + 3)), .int (sc (6 * k + 4))] H = some (.inl (some (.int v)), Hm)) (m2 : xm_met d 167 [.ref M, .int (sc (6 * k + 1)), .int (sc (6 * k + 2)), .int (sc (6 * k + 3)), .int (sc (6 * k + 4))] Hm = some (.inl (some (.int v)), H2)) : xm_run (d + 1) 294 1096 [some (.ref S), some (.ref X), some (.ref M), some (.int (Int32.ofNat (6 * k)))] [] H = xm_run (d + 1) 294 18 [some (.ref S), some (.ref X), some (.ref M), some (.int (Int32.ofNat (6 * (k + 1))))] [] H2 := by
  obtain ⟨a1, a2, a3⟩ := a
  obtain ⟨b1, b2, b3⟩ := am
  have ix := sc_ix hk hN
  simp only [ite_not, ite_self, w8_nil, ok01, ite10, rf_rv, rf_ref, rf_cat, rf_lk2, rf_some, rf_none, w_add, w_cons, cr_int, cr_long, cr_ref, cr_null, is_ref, is_null, l2_int, l2_ref, l2_null, l2_none, ent_nil, ent_int, ent_ref, ent_null, ent_rf, ent_long, ok_0, ok_1, af_ret, af_void, List.tail_cons, List.tail_nil, Nat.reduceAdd, Nat.reduceLeDiff, not_false_eq_true, not_true_eq_false, and_self, and_true, true_and, ne_eq, or_true, true_or, or_false, false_or, eq_self, Nat.reduceEqDiff, ↓reduceIte, false_and, and_false, Nat.le_refl, Nat.zero_le, nz_1, nz_2, nz_3, nz_4, nz_5, nz_6, nz_8, nz_10, nz_12, nz_20, nz_30, nz_60, nz_100, a1, a2, a3, b1, b2, b3, kx, km, ix, m1, m2, nox_l, r294_1096, r294_1097, r294_1098, r294_1099, r294_1100, r294_1101, r294_1102, r294_1103, r294_1104, r294_1105, r294_1106, r294_1107, r294_1108, r294_1109, r294_1110, r294_1111, r294_1112, r294_1113, r294_1114, r294_1115, r294_1116, r294_1117, r294_1120, r294_1121, r294_1122, r294_1123, r294_1124, r294_1125, r294_1126, r294_1127, r294_1128, r294_1129, r294_1130, r294_1131, r294_1132, r294_1133, r294_1134, r294_1135, r294_1136, r294_1137, r294_1138, r294_1139, r294_1140, r294_1141, r294_1147, r294_1148, r294_1413, r294_1416, r294_1144]
theorem q294_27 (a : AT H S N sc) (am : AT Hm S N sc) (kx : xm_K H X = 1) (km : xm_K Hm M = 5) (hk : 6 * k + 6 ≤ N) (hN : N ≤ 384) (m1 : xm_met d 55 [.ref X, .int (sc (6 * k + 1))] H = some (.inl (some (.int v)), Hm)) (m2 : xm_met d 168 [.ref M, .int (sc (6 * k + 1))] Hm = some (.inl (some (.int v)), H2)) : xm_run (d + 1) 294 1149 [some (.ref S), some (.ref X), some (.ref M), some (.int (Int32.ofNat (6 * k)))] [] H = xm_run (d + 1) 294 18 [some (.ref S), some (.ref X), some (.ref M), some (.int (Int32.ofNat (6 * (k + 1))))] [] H2 := by
  obtain ⟨a1, a2, a3⟩ := a
  obtain ⟨b1, b2, b3⟩ := am
  have ix := sc_ix hk hN
  simp only [ite_not, ite_self, w8_nil, ok01, ite10, rf_rv, rf_ref, rf_cat, rf_lk2, rf_some, rf_none, w_add, w_cons, cr_int, cr_long, cr_ref, cr_null, is_ref, is_null, l2_int, l2_ref, l2_null, l2_none, ent_nil, ent_int, ent_ref, ent_null, ent_rf, ent_long, ok_0, ok_1, af_ret, af_void, List.tail_cons, List.tail_nil, Nat.reduceAdd, Nat.reduceLeDiff, not_false_eq_true, not_true_eq_false, and_self, and_true, true_and, ne_eq, or_true, true_or, or_false, false_or, eq_self, Nat.reduceEqDiff, ↓reduceIte, false_and, and_false, Nat.le_refl, Nat.zero_le, nz_1, nz_2, nz_3, nz_4, nz_5, nz_6, nz_8, nz_10, nz_12, nz_20, nz_30, nz_60, nz_100, a1, a2, a3, b1, b2, b3, kx, km, ix, m1, m2, nox_l, r294_1149, r294_1150, r294_1151, r294_1152, r294_1153, r294_1154, r294_1155, r294_1158, r294_1159, r294_1160, r294_1161, r294_1162, r294_1163, r294_1164, r294_1170, r294_1171, r294_1413, r294_1416, r294_1167]
theorem q294_28 (a : AT H S N sc) (am : AT Hm S N sc) (kx : xm_K H X = 1) (km : xm_K Hm M = 5) (hk : 6 * k + 6 ≤ N) (hN : N ≤ 384) (m1 : xm_met d 58 [.ref X] H = some (.inl (some (.int v)), Hm)) (m2 : xm_met d 171 [.ref M] Hm = some (.inl (some (.int v)), H2)) : xm_run (d + 1) 294 1172 [some (.ref S), some (.ref X), some (.ref M), some (.int (Int32.ofNat (6 * k)))] [] H = xm_run (d + 1) 294 18 [some (.ref S), some (.ref X), some (.ref M), some (.int (Int32.ofNat (6 * (k + 1))))] [] H2 := by
  obtain ⟨a1, a2, a3⟩ := a
  obtain ⟨b1, b2, b3⟩ := am
  have ix := sc_ix hk hN
  simp only [ite_not, ite_self, w8_nil, ok01, ite10, rf_rv, rf_ref, rf_cat, rf_lk2, rf_some, rf_none, w_add, w_cons, cr_int, cr_long, cr_ref, cr_null, is_ref, is_null, l2_int, l2_ref, l2_null, l2_none, ent_nil, ent_int, ent_ref, ent_null, ent_rf, ent_long, ok_0, ok_1, af_ret, af_void, List.tail_cons, List.tail_nil, Nat.reduceAdd, Nat.reduceLeDiff, not_false_eq_true, not_true_eq_false, and_self, and_true, true_and, ne_eq, or_true, true_or, or_false, false_or, eq_self, Nat.reduceEqDiff, ↓reduceIte, false_and, and_false, Nat.le_refl, Nat.zero_le, nz_1, nz_2, nz_3, nz_4, nz_5, nz_6, nz_8, nz_10, nz_12, nz_20, nz_30, nz_60, nz_100, a1, a2, a3, b1, b2, b3, kx, km, ix, m1, m2, nox_l, r294_1172, r294_1173, r294_1176, r294_1177, r294_1183, r294_1184, r294_1413, r294_1416, r294_1180]
theorem q294_29 (a : AT H S N sc) (am : AT Hm S N sc) (kx : xm_K H X = 1) (km : xm_K Hm M = 5) (hk : 6 * k + 6 ≤ N) (hN : N ≤ 384) (m1 : xm_met d 60 [.ref X, .int (sc (6 * k + 1))] H = some (.inl (some (.int v)), Hm)) (m2 : xm_met d 175 [.ref M, .int (sc (6 * k + 1))] Hm = some (.inl (some (.int v)), H2)) : xm_run (d + 1) 294 1185 [some (.ref S), some (.ref X), some (.ref M), some (.int (Int32.ofNat (6 * k)))] [] H = xm_run (d + 1) 294 18 [some (.ref S), some (.ref X), some (.ref M), some (.int (Int32.ofNat (6 * (k + 1))))] [] H2 := by
  obtain ⟨a1, a2, a3⟩ := a
  obtain ⟨b1, b2, b3⟩ := am
  have ix := sc_ix hk hN
  simp only [ite_not, ite_self, w8_nil, ok01, ite10, rf_rv, rf_ref, rf_cat, rf_lk2, rf_some, rf_none, w_add, w_cons, cr_int, cr_long, cr_ref, cr_null, is_ref, is_null, l2_int, l2_ref, l2_null, l2_none, ent_nil, ent_int, ent_ref, ent_null, ent_rf, ent_long, ok_0, ok_1, af_ret, af_void, List.tail_cons, List.tail_nil, Nat.reduceAdd, Nat.reduceLeDiff, not_false_eq_true, not_true_eq_false, and_self, and_true, true_and, ne_eq, or_true, true_or, or_false, false_or, eq_self, Nat.reduceEqDiff, ↓reduceIte, false_and, and_false, Nat.le_refl, Nat.zero_le, nz_1, nz_2, nz_3, nz_4, nz_5, nz_6, nz_8, nz_10, nz_12, nz_20, nz_30, nz_60, nz_100, a1, a2, a3, b1, b2, b3, kx, km, ix, m1, m2, nox_l, r294_1185, r294_1186, r294_1187, r294_1188, r294_1189, r294_1190, r294_1191, r294_1194, r294_1195, r294_1196, r294_1197, r294_1198, r294_1199, r294_1200, r294_1206, r294_1207, r294_1413, r294_1416, r294_1203]
theorem q294_30 (a : AT H S N sc) (am : AT Hm S N sc) (kx : xm_K H X = 1) (km : xm_K Hm M = 5) (hk : 6 * k + 6 ≤ N) (hN : N ≤ 384) (m1 : xm_met d 61 [.ref X, .int (sc (6 * k + 1)), .int (sc (6 * k + 2)), .int (sc (6 * k + 3))] H = some (.inl (some (.int v)), Hm)) (m2 : xm_met d 176 [.ref M, .int (sc (6 * k + 1)), .int (sc (6 * k + 2)), .int (sc (6 * k + 3))] Hm = some (.inl (some (.int v)), H2)) : xm_run (d + 1) 294 1208 [some (.ref S), some (.ref X), some (.ref M), some (.int (Int32.ofNat (6 * k)))] [] H = xm_run (d + 1) 294 18 [some (.ref S), some (.ref X), some (.ref M), some (.int (Int32.ofNat (6 * (k + 1))))] [] H2 := by
  obtain ⟨a1, a2, a3⟩ := a
  obtain ⟨b1, b2, b3⟩ := am
  have ix := sc_ix hk hN
  simp only [ite_not, ite_self, w8_nil, ok01, ite10, rf_rv, rf_ref, rf_cat, rf_lk2, rf_some, rf_none, w_add, w_cons, cr_int, cr_long, cr_ref, cr_null, is_ref, is_null, l2_int, l2_ref, l2_null, l2_none, ent_nil, ent_int, ent_ref, ent_null, ent_rf, ent_long, ok_0, ok_1, af_ret, af_void, List.tail_cons, List.tail_nil, Nat.reduceAdd, Nat.reduceLeDiff, not_false_eq_true, not_true_eq_false, and_self, and_true, true_and, ne_eq, or_true, true_or, or_false, false_or, eq_self, Nat.reduceEqDiff, ↓reduceIte, false_and, and_false, Nat.le_refl, Nat.zero_le, nz_1, nz_2, nz_3, nz_4, nz_5, nz_6, nz_8, nz_10, nz_12, nz_20, nz_30, nz_60, nz_100, a1, a2, a3, b1, b2, b3, kx, km, ix, m1, m2, nox_l, r294_1208, r294_1209, r294_1210, r294_1211, r294_1212, r294_1213, r294_1214, r294_1215, r294_1216, r294_1217, r294_1218, r294_1219, r294_1220, r294_1221, r294_1222, r294_1223, r294_1224, r294_1227, r294_1228, r294_1229, r294_1230, r294_1231, r294_1232, r294_1233, r294_1234, r294_1235, r294_1236, r294_1237, r294_1238, r294_1239, r294_1240, r294_1241, r294_1242, r294_1243, r294_1249, r294_1250, r294_1413, r294_1416, r294_1246]
theorem q294_31 (a : AT H S N sc) (am : AT Hm S N sc) (kx : xm_K H X = 1) (km : xm_K Hm M = 5) (hk : 6 * k + 6 ≤ N) (hN : N ≤ 384) (m1 : xm_met d 62 [.ref X, .int (sc (6 * k + 1)), .int (sc (6 * k + 2)), .int (sc (6 * k + 3))] H = some (.inl (some (.int v)), Hm)) (m2 : xm_met d 177 [.ref M, .int (sc (6 * k + 1)), .int (sc (6 * k + 2)), .int (sc (6 * k + 3))] Hm = some (.inl (some (.int v)), H2)) : xm_run (d + 1) 294 1251 [some (.ref S), some (.ref X), some (.ref M), some (.int (Int32.ofNat (6 * k)))] [] H = xm_run (d + 1) 294 18 [some (.ref S), some (.ref X), some (.ref M), some (.int (Int32.ofNat (6 * (k + 1))))] [] H2 := by
  obtain ⟨a1, a2, a3⟩ := a
  obtain ⟨b1, b2, b3⟩ := am
  have ix := sc_ix hk hN
  simp only [ite_not, ite_self, w8_nil, ok01, ite10, rf_rv, rf_ref, rf_cat, rf_lk2, rf_some, rf_none, w_add, w_cons, cr_int, cr_long, cr_ref, cr_null, is_ref, is_null, l2_int, l2_ref, l2_null, l2_none, ent_nil, ent_int, ent_ref, ent_null, ent_rf, ent_long, ok_0, ok_1, af_ret, af_void, List.tail_cons, List.tail_nil, Nat.reduceAdd, Nat.reduceLeDiff, not_false_eq_true, not_true_eq_false, and_self, and_true, true_and, ne_eq, or_true, true_or, or_false, false_or, eq_self, Nat.reduceEqDiff, ↓reduceIte, false_and, and_false, Nat.le_refl, Nat.zero_le, nz_1, nz_2, nz_3, nz_4, nz_5, nz_6, nz_8, nz_10, nz_12, nz_20, nz_30, nz_60, nz_100, a1, a2, a3, b1, b2, b3, kx, km, ix, m1, m2, nox_l, r294_1251, r294_1252, r294_1253, r294_1254, r294_1255, r294_1256, r294_1257, r294_1258, r294_1259, r294_1260, r294_1261, r294_1262, r294_1263, r294_1264, r294_1265, r294_1266, r294_1267, r294_1270, r294_1271, r294_1272, r294_1273, r294_1274, r294_1275, r294_1276, r294_1277, r294_1278, r294_1279, r294_1280, r294_1281, r294_1282, r294_1283, r294_1284, r294_1285, r294_1286, r294_1292, r294_1293, r294_1413, r294_1416, r294_1289]
theorem q294_32 (a : AT H S N sc) (am : AT Hm S N sc) (kx : xm_K H X = 1) (km : xm_K Hm M = 5) (hk : 6 * k + 6 ≤ N) (hN : N ≤ 384) (m1 : xm_met d 63 [.ref X, .int (sc (6 * k + 1)), .int (sc (6 * k + 2)), .int (sc (6 * k + 3))] H = some (.inl (some (.int v)), Hm)) (m2 : xm_met d 178 [.ref M, .int (sc (6 * k + 1)), .int (sc (6 * k + 2)), .int (sc (6 * k + 3))] Hm = some (.inl (some (.int v)), H2)) : xm_run (d + 1) 294 1294 [some (.ref S), some (.ref X), some (.ref M), some (.int (Int32.ofNat (6 * k)))] [] H = xm_run (d + 1) 294 18 [some (.ref S), some (.ref X), some (.ref M), some (.int (Int32.ofNat (6 * (k + 1))))] [] H2 := by
  obtain ⟨a1, a2, a3⟩ := a
  obtain ⟨b1, b2, b3⟩ := am
  have ix := sc_ix hk hN
  simp only [ite_not, ite_self, w8_nil, ok01, ite10, rf_rv, rf_ref, rf_cat, rf_lk2, rf_some, rf_none, w_add, w_cons, cr_int, cr_long, cr_ref, cr_null, is_ref, is_null, l2_int, l2_ref, l2_null, l2_none, ent_nil, ent_int, ent_ref, ent_null, ent_rf, ent_long, ok_0, ok_1, af_ret, af_void, List.tail_cons, List.tail_nil, Nat.reduceAdd, Nat.reduceLeDiff, not_false_eq_true, not_true_eq_false, and_self, and_true, true_and, ne_eq, or_true, true_or, or_false, false_or, eq_self, Nat.reduceEqDiff, ↓reduceIte, false_and, and_false, Nat.le_refl, Nat.zero_le, nz_1, nz_2, nz_3, nz_4, nz_5, nz_6, nz_8, nz_10, nz_12, nz_20, nz_30, nz_60, nz_100, a1, a2, a3, b1, b2, b3, kx, km, ix, m1, m2, nox_l, r294_1294, r294_1295, r294_1296, r294_1297, r294_1298, r294_1299, r294_1300, r294_1301, r294_1302, r294_1303, r294_1304, r294_1305, r294_1306, r294_1307, r294_1308, r294_1309, r294_1310, r294_1313, r294_1314, r294_1315, r294_1316, r294_1317, r294_1318, r294_1319, r294_1320, r294_1321, r294_1322, r294_1323, r294_1324, r294_1325, r294_1326, r294_1327, r294_1328, r294_1329, r294_1335, r294_1336, r294_1413, r294_1416, r294_1332]
theorem q294_33 (a : AT H S N sc) (am : AT Hm S N sc) (kx : xm_K H X = 1) (km : xm_K Hm M = 5) (hk : 6 * k + 6 ≤ N) (hN : N ≤ 384) (m1 : xm_met d 64 [.ref X, .int (sc (6 * k + 1)), .int (sc (6 * k + 2))] H = some (.inl (some (.int v)), Hm)) (m2 : xm_met d 179 [.ref M, .int (sc (6 * k + 1)), .int (sc (6 * k + 2))] Hm = some (.inl (some (.int v)), H2)) : xm_run (d + 1) 294 1337 [some (.ref S), some (.ref X), some (.ref M), some (.int (Int32.ofNat (6 * k)))] [] H = xm_run (d + 1) 294 18 [some (.ref S), some (.ref X), some (.ref M), some (.int (Int32.ofNat (6 * (k + 1))))] [] H2 := by
  obtain ⟨a1, a2, a3⟩ := a
  obtain ⟨b1, b2, b3⟩ := am
  have ix := sc_ix hk hN
  simp only [ite_not, ite_self, w8_nil, ok01, ite10, rf_rv, rf_ref, rf_cat, rf_lk2, rf_some, rf_none, w_add, w_cons, cr_int, cr_long, cr_ref, cr_null, is_ref, is_null, l2_int, l2_ref, l2_null, l2_none, ent_nil, ent_int, ent_ref, ent_null, ent_rf, ent_long, ok_0, ok_1, af_ret, af_void, List.tail_cons, List.tail_nil, Nat.reduceAdd, Nat.reduceLeDiff, not_false_eq_true, not_true_eq_false, and_self, and_true, true_and, ne_eq, or_true, true_or, or_false, false_or, eq_self, Nat.reduceEqDiff, ↓reduceIte, false_and, and_false, Nat.le_refl, Nat.zero_le, nz_1, nz_2, nz_3, nz_4, nz_5, nz_6, nz_8, nz_10, nz_12, nz_20, nz_30, nz_60, nz_100, a1, a2, a3, b1, b2, b3, kx, km, ix, m1, m2, nox_l, r294_1337, r294_1338, r294_1339, r294_1340, r294_1341, r294_1342, r294_1343, r294_1344, r294_1345, r294_1346, r294_1347, r294_1348, r294_1351, r294_1352, r294_1353, r294_1354, r294_1355, r294_1356, r294_1357, r294_1358, r294_1359, r294_1360, r294_1361, r294_1362, r294_1368, r294_1369, r294_1413, r294_1416, r294_1365]
theorem q294_34 (a : AT H S N sc) (am : AT Hm S N sc) (kx : xm_K H X = 1) (km : xm_K Hm M = 5) (hk : 6 * k + 6 ≤ N) (hN : N ≤ 384) (m1 : xm_met d 65 [.ref X, .int (sc (6 * k + 1)), .int (sc (6 * k + 2)), .int (sc (6 * k + 3))] H = some (.inl (some (.int v)), Hm)) (m2 : xm_met d 180 [.ref M, .int (sc (6 * k + 1)), .int (sc (6 * k + 2)), .int (sc (6 * k + 3))] Hm = some (.inl (some (.int v)), H2)) : xm_run (d + 1) 294 1370 [some (.ref S), some (.ref X), some (.ref M), some (.int (Int32.ofNat (6 * k)))] [] H = xm_run (d + 1) 294 18 [some (.ref S), some (.ref X), some (.ref M), some (.int (Int32.ofNat (6 * (k + 1))))] [] H2 := by
  obtain ⟨a1, a2, a3⟩ := a
  obtain ⟨b1, b2, b3⟩ := am
  have ix := sc_ix hk hN
  simp only [ite_not, ite_self, w8_nil, ok01, ite10, rf_rv, rf_ref, rf_cat, rf_lk2, rf_some, rf_none, w_add, w_cons, cr_int, cr_long, cr_ref, cr_null, is_ref, is_null, l2_int, l2_ref, l2_null, l2_none, ent_nil, ent_int, ent_ref, ent_null, ent_rf, ent_long, ok_0, ok_1, af_ret, af_void, List.tail_cons, List.tail_nil, Nat.reduceAdd, Nat.reduceLeDiff, not_false_eq_true, not_true_eq_false, and_self, and_true, true_and, ne_eq, or_true, true_or, or_false, false_or, eq_self, Nat.reduceEqDiff, ↓reduceIte, false_and, and_false, Nat.le_refl, Nat.zero_le, nz_1, nz_2, nz_3, nz_4, nz_5, nz_6, nz_8, nz_10, nz_12, nz_20, nz_30, nz_60, nz_100, a1, a2, a3, b1, b2, b3, kx, km, ix, m1, m2, nox_l, r294_1370, r294_1371, r294_1372, r294_1373, r294_1374, r294_1375, r294_1376, r294_1377, r294_1378, r294_1379, r294_1380, r294_1381, r294_1382, r294_1383, r294_1384, r294_1385, r294_1386, r294_1389, r294_1390, r294_1391, r294_1392, r294_1393, r294_1394, r294_1395, r294_1396, r294_1397, r294_1398, r294_1399, r294_1400, r294_1401, r294_1402, r294_1403, r294_1404, r294_1405, r294_1411, r294_1412, r294_1413, r294_1416, r294_1408]
/-- the calls of one round: numbers of the methods, how many numbers they take -/
def lwc : List (Nat × Nat × Nat) := [(1, 90, 3), (3, 92, 4), (4, 94, 2), (6, 96, 1), (7, 97, 1), (14, 108, 3), (15, 109, 1), (22, 110, 5), (24, 111, 1), (18, 112, 1), (21, 132, 1), (25, 133, 2), (26, 134, 3), (29, 141, 2), (30, 142, 2), (33, 146, 3), (37, 150, 4), (41, 154, 1), (42, 155, 2), (43, 156, 1), (46, 158, 1), (47, 159, 2), (48, 160, 4), (50, 162, 2), (51, 163, 3), (53, 166, 2), (54, 167, 4), (55, 168, 1), (58, 171, 0), (60, 175, 1), (61, 176, 3), (62, 177, 3), (63, 178, 3), (64, 179, 2), (65, 180, 3)]
/-- the numbers that are given -/
def lwa (sc : Nat → Int32) (k : Nat) : Nat → List Value
  | 0 => []
  | n + 1 => lwa sc k n ++ [.int (sc (6 * k + (n + 1)))]
/-- one round: both answer alike -/
theorem q294a (a : AT H S N sc) (am : AT Hm S N sc) (kx : xm_K H X = 1) (km : xm_K Hm M = 5) (hk : 6 * k + 6 ≤ N) (hN : N ≤ 384) {t : Nat} (ht : t < 35) (e : sc (6 * k) &&& 63 = Int32.ofNat t) (m1 : xm_met d (lwc.getD t (0, 0, 0)).1 (.ref X :: lwa sc k (lwc.getD t (0, 0, 0)).2.2) H = some (.inl (some (.int v)), Hm)) (m2 : xm_met d (lwc.getD t (0, 0, 0)).2.1 (.ref M :: lwa sc k (lwc.getD t (0, 0, 0)).2.2) Hm = some (.inl (some (.int v)), H2)) : xm_run (d + 1) 294 18 [some (.ref S), some (.ref X), some (.ref M), some (.int (Int32.ofNat (6 * k)))] [] H = xm_run (d + 1) 294 18 [some (.ref S), some (.ref X), some (.ref M), some (.int (Int32.ofNat (6 * (k + 1))))] [] H2 := by
  have a0 := a
  obtain ⟨a1, a2, a3⟩ := a
  have ix := sc_ix hk hN
  have k100 : 100 ≤ 100 := Nat.le_refl _
  have lt : ¬ Int32.ofNat N - 6 < Int32.ofNat (6 * k) := fun z => by
    have := Int32.lt_iff_toInt_lt.mp z
    rw [ti_sub (by rw [ti_nat (by omega), show (6 : Int32).toInt = 6 from rfl]; omega), ti_nat (by omega), ti_nat (by omega), show (6 : Int32).toInt = 6 from rfl] at this
    omega
  have st : xm_run (d + 1) 294 18 [some (.ref S), some (.ref X), some (.ref M), some (.int (Int32.ofNat (6 * k)))] [] H = xm_run (d + 1) 294 33 [some (.ref S), some (.ref X), some (.ref M), some (.int (Int32.ofNat (6 * k)))] [.int (Int32.ofNat t)] H := by
    rw [← e]
    simp only [ite_not, ite_self, w8_nil, ok01, ite10, rf_rv, rf_ref, rf_cat, rf_lk2, rf_some, rf_none, w_add, w_cons, cr_int, cr_long, cr_ref, cr_null, is_ref, is_null, l2_int, l2_ref, l2_null, l2_none, ent_nil, ent_int, ent_ref, ent_null, ent_rf, ent_long, ok_0, ok_1, af_ret, af_void, List.tail_cons, List.tail_nil, Nat.reduceAdd, Nat.reduceLeDiff, not_false_eq_true, not_true_eq_false, and_self, and_true, true_and, ne_eq, or_true, true_or, or_false, false_or, eq_self, Nat.reduceEqDiff, ↓reduceIte, false_and, and_false, Nat.le_refl, Nat.zero_le, nz_1, nz_2, nz_3, nz_4, nz_5, nz_6, nz_8, nz_10, nz_12, nz_20, nz_30, nz_60, nz_100, a1, a2, a3, ix, k100, lt, r294_18, r294_19, r294_20, r294_21, r294_23, r294_27, r294_28, r294_29, r294_30, r294_32, r294_24]
  rw [st, r294_33]
  match t, ht with
  | 0, _ =>
    refine Eq.trans ?_ (q294_0 a0 am kx km hk hN m1 m2)
    rfl
  | 1, _ =>
    refine Eq.trans ?_ (q294_1 a0 am kx km hk hN m1 m2)
    rfl
  | 2, _ =>
    refine Eq.trans ?_ (q294_2 a0 am kx km hk hN m1 m2)
    rfl
  | 3, _ =>
    refine Eq.trans ?_ (q294_3 a0 am kx km hk hN m1 m2)
    rfl
  | 4, _ =>
    refine Eq.trans ?_ (q294_4 a0 am kx km hk hN m1 m2)
    rfl
  | 5, _ =>
    refine Eq.trans ?_ (q294_5 a0 am kx km hk hN m1 m2)
    rfl
  | 6, _ =>
    refine Eq.trans ?_ (q294_6 a0 am kx km hk hN m1 m2)
    rfl
  | 7, _ =>
    refine Eq.trans ?_ (q294_7 a0 am kx km hk hN m1 m2)
    rfl
  | 8, _ =>
    refine Eq.trans ?_ (q294_8 a0 am kx km hk hN m1 m2)
    rfl
  | 9, _ =>
    refine Eq.trans ?_ (q294_9 a0 am kx km hk hN m1 m2)
    rfl
  | 10, _ =>
    refine Eq.trans ?_ (q294_10 a0 am kx km hk hN m1 m2)
    rfl
  | 11, _ =>
    refine Eq.trans ?_ (q294_11 a0 am kx km hk hN m1 m2)
    rfl
  | 12, _ =>
    refine Eq.trans ?_ (q294_12 a0 am kx km hk hN m1 m2)
    rfl
  | 13, _ =>
    refine Eq.trans ?_ (q294_13 a0 am kx km hk hN m1 m2)
    rfl
  | 14, _ =>
    refine Eq.trans ?_ (q294_14 a0 am kx km hk hN m1 m2)
    rfl
  | 15, _ =>
    refine Eq.trans ?_ (q294_15 a0 am kx km hk hN m1 m2)
    rfl
  | 16, _ =>
    refine Eq.trans ?_ (q294_16 a0 am kx km hk hN m1 m2)
    rfl
  | 17, _ =>
    refine Eq.trans ?_ (q294_17 a0 am kx km hk hN m1 m2)
    rfl
  | 18, _ =>
    refine Eq.trans ?_ (q294_18 a0 am kx km hk hN m1 m2)
    rfl
  | 19, _ =>
    refine Eq.trans ?_ (q294_19 a0 am kx km hk hN m1 m2)
    rfl
  | 20, _ =>
    refine Eq.trans ?_ (q294_20 a0 am kx km hk hN m1 m2)
    rfl
  | 21, _ =>
    refine Eq.trans ?_ (q294_21 a0 am kx km hk hN m1 m2)
    rfl
  | 22, _ =>
    refine Eq.trans ?_ (q294_22 a0 am kx km hk hN m1 m2)
    rfl
  | 23, _ =>
    refine Eq.trans ?_ (q294_23 a0 am kx km hk hN m1 m2)
    rfl
  | 24, _ =>
    refine Eq.trans ?_ (q294_24 a0 am kx km hk hN m1 m2)
    rfl
  | 25, _ =>
    refine Eq.trans ?_ (q294_25 a0 am kx km hk hN m1 m2)
    rfl
  | 26, _ =>
    refine Eq.trans ?_ (q294_26 a0 am kx km hk hN m1 m2)
    rfl
  | 27, _ =>
    refine Eq.trans ?_ (q294_27 a0 am kx km hk hN m1 m2)
    rfl
  | 28, _ =>
    refine Eq.trans ?_ (q294_28 a0 am kx km hk hN m1 m2)
    rfl
  | 29, _ =>
    refine Eq.trans ?_ (q294_29 a0 am kx km hk hN m1 m2)
    rfl
  | 30, _ =>
    refine Eq.trans ?_ (q294_30 a0 am kx km hk hN m1 m2)
    rfl
  | 31, _ =>
    refine Eq.trans ?_ (q294_31 a0 am kx km hk hN m1 m2)
    rfl
  | 32, _ =>
    refine Eq.trans ?_ (q294_32 a0 am kx km hk hN m1 m2)
    rfl
  | 33, _ =>
    refine Eq.trans ?_ (q294_33 a0 am kx km hk hN m1 m2)
    rfl
  | 34, _ =>
    refine Eq.trans ?_ (q294_34 a0 am kx km hk hN m1 m2)
    rfl
  | t + 35, h => exact absurd h (by omega)
theorem q294o (a : AT H S N sc) (hk : 6 * k + 6 ≤ N) (hN : N ≤ 384) (e : ∀ t, t < 35 → ¬ sc (6 * k) &&& 63 = Int32.ofNat t) : xm_run (d + 1) 294 18 [some (.ref S), some (.ref X), some (.ref M), some (.int (Int32.ofNat (6 * k)))] [] H = xm_run (d + 1) 294 18 [some (.ref S), some (.ref X), some (.ref M), some (.int (Int32.ofNat (6 * (k + 1))))] [] H := by
  obtain ⟨a1, a2, a3⟩ := a
  have ix := sc_ix hk hN
  have k100 : 100 ≤ 100 := Nat.le_refl _
  have lt : ¬ Int32.ofNat N - 6 < Int32.ofNat (6 * k) := fun z => by
    have := Int32.lt_iff_toInt_lt.mp z
    rw [ti_sub (by rw [ti_nat (by omega), show (6 : Int32).toInt = 6 from rfl]; omega), ti_nat (by omega), ti_nat (by omega), show (6 : Int32).toInt = 6 from rfl] at this
    omega
  have st : xm_run (d + 1) 294 18 [some (.ref S), some (.ref X), some (.ref M), some (.int (Int32.ofNat (6 * k)))] [] H = xm_run (d + 1) 294 33 [some (.ref S), some (.ref X), some (.ref M), some (.int (Int32.ofNat (6 * k)))] [.int (sc (6 * k) &&& 63)] H := by
    simp only [ite_not, ite_self, w8_nil, ok01, ite10, rf_rv, rf_ref, rf_cat, rf_lk2, rf_some, rf_none, w_add, w_cons, cr_int, cr_long, cr_ref, cr_null, is_ref, is_null, l2_int, l2_ref, l2_null, l2_none, ent_nil, ent_int, ent_ref, ent_null, ent_rf, ent_long, ok_0, ok_1, af_ret, af_void, List.tail_cons, List.tail_nil, Nat.reduceAdd, Nat.reduceLeDiff, not_false_eq_true, not_true_eq_false, and_self, and_true, true_and, ne_eq, or_true, true_or, or_false, false_or, eq_self, Nat.reduceEqDiff, ↓reduceIte, false_and, and_false, Nat.le_refl, Nat.zero_le, nz_1, nz_2, nz_3, nz_4, nz_5, nz_6, nz_8, nz_10, nz_12, nz_20, nz_30, nz_60, nz_100, a1, a2, a3, ix, k100, lt, r294_18, r294_19, r294_20, r294_21, r294_23, r294_27, r294_28, r294_29, r294_30, r294_32, r294_24]
  rw [st, r294_33]
  rw [if_neg (show ¬ sc (6 * k) &&& 63 = 0 from e 0 (by decide))]
  rw [if_neg (show ¬ sc (6 * k) &&& 63 = 1 from e 1 (by decide))]
  rw [if_neg (show ¬ sc (6 * k) &&& 63 = 2 from e 2 (by decide))]
  rw [if_neg (show ¬ sc (6 * k) &&& 63 = 3 from e 3 (by decide))]
  rw [if_neg (show ¬ sc (6 * k) &&& 63 = 4 from e 4 (by decide))]
  rw [if_neg (show ¬ sc (6 * k) &&& 63 = 5 from e 5 (by decide))]
  rw [if_neg (show ¬ sc (6 * k) &&& 63 = 6 from e 6 (by decide))]
  rw [if_neg (show ¬ sc (6 * k) &&& 63 = 7 from e 7 (by decide))]
  rw [if_neg (show ¬ sc (6 * k) &&& 63 = 8 from e 8 (by decide))]
  rw [if_neg (show ¬ sc (6 * k) &&& 63 = 9 from e 9 (by decide))]
  rw [if_neg (show ¬ sc (6 * k) &&& 63 = 10 from e 10 (by decide))]
  rw [if_neg (show ¬ sc (6 * k) &&& 63 = 11 from e 11 (by decide))]
  rw [if_neg (show ¬ sc (6 * k) &&& 63 = 12 from e 12 (by decide))]
  rw [if_neg (show ¬ sc (6 * k) &&& 63 = 13 from e 13 (by decide))]
  rw [if_neg (show ¬ sc (6 * k) &&& 63 = 14 from e 14 (by decide))]
  rw [if_neg (show ¬ sc (6 * k) &&& 63 = 15 from e 15 (by decide))]
  rw [if_neg (show ¬ sc (6 * k) &&& 63 = 16 from e 16 (by decide))]
  rw [if_neg (show ¬ sc (6 * k) &&& 63 = 17 from e 17 (by decide))]
  rw [if_neg (show ¬ sc (6 * k) &&& 63 = 18 from e 18 (by decide))]
  rw [if_neg (show ¬ sc (6 * k) &&& 63 = 19 from e 19 (by decide))]
  rw [if_neg (show ¬ sc (6 * k) &&& 63 = 20 from e 20 (by decide))]
  rw [if_neg (show ¬ sc (6 * k) &&& 63 = 21 from e 21 (by decide))]
  rw [if_neg (show ¬ sc (6 * k) &&& 63 = 22 from e 22 (by decide))]
  rw [if_neg (show ¬ sc (6 * k) &&& 63 = 23 from e 23 (by decide))]
  rw [if_neg (show ¬ sc (6 * k) &&& 63 = 24 from e 24 (by decide))]
  rw [if_neg (show ¬ sc (6 * k) &&& 63 = 25 from e 25 (by decide))]
  rw [if_neg (show ¬ sc (6 * k) &&& 63 = 26 from e 26 (by decide))]
  rw [if_neg (show ¬ sc (6 * k) &&& 63 = 27 from e 27 (by decide))]
  rw [if_neg (show ¬ sc (6 * k) &&& 63 = 28 from e 28 (by decide))]
  rw [if_neg (show ¬ sc (6 * k) &&& 63 = 29 from e 29 (by decide))]
  rw [if_neg (show ¬ sc (6 * k) &&& 63 = 30 from e 30 (by decide))]
  rw [if_neg (show ¬ sc (6 * k) &&& 63 = 31 from e 31 (by decide))]
  rw [if_neg (show ¬ sc (6 * k) &&& 63 = 32 from e 32 (by decide))]
  rw [if_neg (show ¬ sc (6 * k) &&& 63 = 33 from e 33 (by decide))]
  rw [if_neg (show ¬ sc (6 * k) &&& 63 = 34 from e 34 (by decide))]
  simp only [ite_not, ite_self, w8_nil, ok01, ite10, rf_rv, rf_ref, rf_cat, rf_lk2, rf_some, rf_none, w_add, w_cons, cr_int, cr_long, cr_ref, cr_null, is_ref, is_null, l2_int, l2_ref, l2_null, l2_none, ent_nil, ent_int, ent_ref, ent_null, ent_rf, ent_long, ok_0, ok_1, af_ret, af_void, List.tail_cons, List.tail_nil, Nat.reduceAdd, Nat.reduceLeDiff, not_false_eq_true, not_true_eq_false, and_self, and_true, true_and, ne_eq, or_true, true_or, or_false, false_or, eq_self, Nat.reduceEqDiff, ↓reduceIte, false_and, and_false, Nat.le_refl, Nat.zero_le, nz_1, nz_2, nz_3, nz_4, nz_5, nz_6, nz_8, nz_10, nz_12, nz_20, nz_30, nz_60, nz_100, ix, r294_1413, r294_1416]
theorem q294e (a : AT H S N sc) (hk : N < 6 * k + 6) (hk2 : 6 * k ≤ N) (hN : N ≤ 384) : xm_run (d + 1) 294 18 [some (.ref S), some (.ref X), some (.ref M), some (.int (Int32.ofNat (6 * k)))] [] H = some (.inl (some (.int 1)), H) := by
  obtain ⟨a1, a2, a3⟩ := a
  have k100 : 100 ≤ 100 := Nat.le_refl _
  have o1 : xm_ok .boolean 1 = true := by decide
  have lt : Int32.ofNat N - 6 < Int32.ofNat (6 * k) := by
    rw [Int32.lt_iff_toInt_lt, ti_sub (by rw [ti_nat (by omega), show (6 : Int32).toInt = 6 from rfl]; omega), ti_nat (by omega), ti_nat (by omega), show (6 : Int32).toInt = 6 from rfl]
    omega
  simp only [ite_not, ite_self, w8_nil, ok01, ite10, rf_rv, rf_ref, rf_cat, rf_lk2, rf_some, rf_none, w_add, w_cons, cr_int, cr_long, cr_ref, cr_null, is_ref, is_null, l2_int, l2_ref, l2_null, l2_none, ent_nil, ent_int, ent_ref, ent_null, ent_rf, ent_long, ok_0, ok_1, af_ret, af_void, List.tail_cons, List.tail_nil, Nat.reduceAdd, Nat.reduceLeDiff, not_false_eq_true, not_true_eq_false, and_self, and_true, true_and, ne_eq, or_true, true_or, or_false, false_or, eq_self, Nat.reduceEqDiff, ↓reduceIte, false_and, and_false, Nat.le_refl, Nat.zero_le, nz_1, nz_2, nz_3, nz_4, nz_5, nz_6, nz_8, nz_10, nz_12, nz_20, nz_30, nz_60, nz_100, a1, a2, k100, lt, o1, r294_18, r294_19, r294_20, r294_21, r294_23, r294_1419, r294_1420, r294_24]
end LAW
