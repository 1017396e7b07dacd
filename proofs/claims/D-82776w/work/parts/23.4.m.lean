/-! the model's contracts, 22: the parser's small ones -/
set_option maxRecDepth 100000
section M22
variable {d : Nat} {h : xm_H} {M : Nat} {F : xp_F}
def sp_see (F : xp_F) (j : Nat) : Int32 := if F 0 36 ≤ Int32.ofNat j then -1 else F 28 j
theorem c114 (q : MS h M) (hn : rg (F 0 36) 600) {j : Nat} (hj : j < 100000) : xm_met d 114 [.ref M, .int (Int32.ofNat j)] (xp_m h M F) = some (.inl (some (.int (sp_see F j))), xp_m h M F) := by
  unfold xm_met sp_see
  by_cases c1 : F 0 36 ≤ Int32.ofNat j
  · simp only [ite_not, ite_self, w8_nil, ok01, ite10, rf_rv, rf_ref, rf_cat, rf_lk2, rf_some, rf_none, w_add, w_cons, cr_int, cr_long, cr_ref, cr_null, is_ref, is_null, l2_int, l2_ref, l2_null, l2_none, ent_nil, ent_int, ent_ref, ent_null, ent_rf, ent_long, ok_0, ok_1, af_ret, af_void, List.tail_cons, List.tail_nil, Nat.reduceAdd, Nat.reduceLeDiff, not_false_eq_true, not_true_eq_false, and_self, and_true, true_and, ne_eq, or_true, true_or, or_false, false_or, eq_self, Nat.reduceEqDiff, ↓reduceIte, false_and, and_false, Nat.le_refl, Nat.zero_le, nz_1, nz_2, nz_3, nz_4, nz_5, nz_6, nz_8, nz_10, nz_12, nz_20, nz_30, nz_60, nz_100, mp_B, mp_Z, mp_S, mp_C, mp_K, mp_N, mp_L, mp_R, mp_I, mp_I0, mp_s, mp_s0, u2_ap, sp_isLedge, sp_isLadder, sp_isPerson, sp_isLiving, sp_isLot, sp_isThere, sp_isSpan, ms_K q, ms_B q, ms_f32 q, r114_0, r114_1, r114_2, r114_8, r114_9, r114_12, r114_13, r114_14, r114_17, r114_18, r114_5, c1]
  · have c2 : ¬ (F 0 36).toInt ≤ (Int32.ofNat j).toInt := fun z => c1 (Int32.le_iff_toInt_le.mpr z)
    rw [ti_nat (by omega)] at c2
    have h2 := hn.2
    obtain ⟨i1, e1⟩ := in_nat (show j < 600 by omega) (by decide)
    simp only [ite_not, ite_self, w8_nil, ok01, ite10, rf_rv, rf_ref, rf_cat, rf_lk2, rf_some, rf_none, w_add, w_cons, cr_int, cr_long, cr_ref, cr_null, is_ref, is_null, l2_int, l2_ref, l2_null, l2_none, ent_nil, ent_int, ent_ref, ent_null, ent_rf, ent_long, ok_0, ok_1, af_ret, af_void, List.tail_cons, List.tail_nil, Nat.reduceAdd, Nat.reduceLeDiff, not_false_eq_true, not_true_eq_false, and_self, and_true, true_and, ne_eq, or_true, true_or, or_false, false_or, eq_self, Nat.reduceEqDiff, ↓reduceIte, false_and, and_false, Nat.le_refl, Nat.zero_le, nz_1, nz_2, nz_3, nz_4, nz_5, nz_6, nz_8, nz_10, nz_12, nz_20, nz_30, nz_60, nz_100, mp_B, mp_Z, mp_S, mp_C, mp_K, mp_N, mp_L, mp_R, mp_I, mp_I0, mp_s, mp_s0, u2_ap, sp_isLedge, sp_isLadder, sp_isPerson, sp_isLiving, sp_isLot, sp_isThere, sp_isSpan, ms_K q, ms_B q, ms_f32 q, r114_0, r114_1, r114_2, r114_8, r114_9, r114_12, r114_13, r114_14, r114_17, r114_18, r114_5, c1, i1, e1]
def sp_lay (F : xp_F) (s : Nat) (k v : Int32) : xp_F := xm_u2 (xm_u2 (xm_u2 F 27 (2 * s) k) 27 (2 * s + 1) v) 0 35 (Int32.ofNat (s + 1))
theorem c126 (q : MS h M) {s : Nat} (hs : F 0 35 = Int32.ofNat s) (h6 : s < 610) {k v : Int32} : xm_met d 126 [.ref M, .int k, .int v] (xp_m h M F) = some (.inl none, xp_m h M (sp_lay F s k v)) := by
  obtain ⟨i1, e1⟩ := in_nat (show 2 * s < 1220 by omega) (by decide)
  obtain ⟨i2, e2⟩ := in_nat (show 2 * s + 1 < 1220 by omega) (by decide)
  have x1 : (2 : Int32) * Int32.ofNat s = Int32.ofNat (2 * s) := nat_mul (a := 2)
  unfold xm_met sp_lay
  simp only [ite_not, ite_self, w8_nil, ok01, ite10, rf_rv, rf_ref, rf_cat, rf_lk2, rf_some, rf_none, w_add, w_cons, cr_int, cr_long, cr_ref, cr_null, is_ref, is_null, l2_int, l2_ref, l2_null, l2_none, ent_nil, ent_int, ent_ref, ent_null, ent_rf, ent_long, ok_0, ok_1, af_ret, af_void, List.tail_cons, List.tail_nil, Nat.reduceAdd, Nat.reduceLeDiff, not_false_eq_true, not_true_eq_false, and_self, and_true, true_and, ne_eq, or_true, true_or, or_false, false_or, eq_self, Nat.reduceEqDiff, ↓reduceIte, false_and, and_false, Nat.le_refl, Nat.zero_le, nz_1, nz_2, nz_3, nz_4, nz_5, nz_6, nz_8, nz_10, nz_12, nz_20, nz_30, nz_60, nz_100, mp_B, mp_Z, mp_S, mp_C, mp_K, mp_N, mp_L, mp_R, mp_I, mp_I0, mp_s, mp_s0, u2_ap, sp_isLedge, sp_isLadder, sp_isPerson, sp_isLiving, sp_isLot, sp_isThere, sp_isSpan, ms_K q, ms_B q, ms_f31 q, r126_0, r126_1, r126_4, r126_5, r126_6, r126_9, r126_10, r126_11, r126_12, r126_13, r126_16, r126_17, r126_18, r126_21, r126_22, r126_23, r126_24, r126_25, r126_26, r126_27, r126_28, r126_31, r126_32, r126_33, r126_36, hs, x1, i1, i2, e1, e2, nat_succ]
end M22
