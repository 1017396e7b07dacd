/-! the component's contracts, 23: feeding, what is ruled, lots -/
set_option maxRecDepth 100000
def b8 (x : Int32) : Int32 := x.toInt8.toInt32
theorem b8_b8 {x : Int32} : x.toInt8.toInt32.toInt8.toInt32 = b8 x := by
  unfold b8
  rw [Int8.toInt8_toInt32]
section C23
variable {d : Nat} {h : xm_H} {D : xp_D} {F : xp_F}
def sq_put1 (v z : Int32) (F : xp_F) : xp_F := xm_u2 (xm_u2 F 81 (F 0 36).toNatClampNeg (b8 (v >>> (z &&& 31)))) 0 36 (F 0 36 + 1)
theorem put1_t {v z : Int32} : sq_put1 v z F 0 36 = F 0 36 + 1 := by
  unfold sq_put1
  rw [u2_ap, if_pos ⟨rfl, rfl⟩]
def sq_puts (v : Int32) (F : xp_F) : xp_F := sq_put1 v 0 (sq_put1 v 8 (sq_put1 v 16 (sq_put1 v 24 F)))
theorem c23s (q : CS h D) {v z : Int32} (hz : ¬ z < 0) {G : xp_F} (i1 : xm_in (G 0 36) 600 = true) : xm_run d 23 3 [some (.ref (xd_X D)), some (.int v), some (.int z)] [] (xp_c h D G) = xm_run d 23 3 [some (.ref (xd_X D)), some (.int v), some (.int (z + -8))] [] (xp_c h D (sq_put1 v z G)) := by
  rw [r23_3]
  simp only [ite_not, ite_self, w8_nil, ok01, ite10, rf_rv, rf_ref, rf_cat, rf_lk2, rf_some, rf_none, w_add, w_cons, cr_int, cr_long, cr_ref, cr_null, is_ref, is_null, l2_int, l2_ref, l2_null, l2_none, ent_nil, ent_int, ent_ref, ent_null, ent_rf, ent_long, ok_0, ok_1, af_ret, af_void, List.tail_cons, List.tail_nil, Nat.reduceAdd, Nat.reduceLeDiff, not_false_eq_true, not_true_eq_false, and_self, and_true, true_and, ne_eq, or_true, true_or, or_false, false_or, eq_self, Nat.reduceEqDiff, ↓reduceIte, false_and, and_false, Nat.le_refl, Nat.zero_le, nz_1, nz_2, nz_3, nz_4, nz_5, nz_6, nz_8, nz_10, nz_12, nz_20, nz_30, nz_60, nz_100, mc_B, mc_Z, mc_S, mc_C, mc_K, mc_N, mc_R, mc_I, mc_L, va_Is, va_Ls, va_us, va_iss, u2_ap, sp_isLedge, sp_isLadder, sp_isPerson, sp_isLiving, sp_isLot, sp_isThere, sp_isSpan, cs_K q, cs_B q, mc_s (cs_inj q), cs_f9 q, cs_f10 q, r23_7, r23_8, r23_11, r23_12, r23_15, r23_16, r23_17, r23_18, r23_19, r23_19b, r23_20, r23_21, r23_22, r23_25, r23_26, r23_27, r23_30, r23_33, r23_4, hz, i1, b8_b8, Nat.reduceEqDiff]
  rfl
theorem taped_4 {t : Int32} {k : Nat} (h0 : 0 ≤ t.toInt) (h : t.toInt + 4 ≤ 600) : xm_in t 600 = true ∧ xm_in (t + 1) 600 = true ∧ xm_in (t + 1 + 1) 600 = true ∧ xm_in (t + 1 + 1 + 1) 600 = true ∧ (t + 1 + 1 + 1 + 1).toInt = t.toInt + 4 := by
  have e1 := ti_add1 (n := t) (k := 600) ⟨h0, by omega⟩ (by decide)
  have e2 := ti_add1 (n := t + 1) (k := 600) ⟨by omega, by omega⟩ (by decide)
  have e3 := ti_add1 (n := t + 1 + 1) (k := 600) ⟨by omega, by omega⟩ (by decide)
  have e4 := ti_add1 (n := t + 1 + 1 + 1) (k := 600) ⟨by omega, by omega⟩ (by decide)
  exact ⟨in_iff.mpr (by omega), in_iff.mpr (by omega), in_iff.mpr (by omega), in_iff.mpr (by omega), by omega⟩
theorem c23 (q : CS h D) {v : Int32} (h0 : 0 ≤ (F 0 36).toInt) (h4 : (F 0 36).toInt + 4 ≤ 600) : xm_met d 23 [.ref (xd_X D), .int v] (xp_c h D F) = some (.inl none, xp_c h D (sq_puts v F)) ∧ (sq_puts v F 0 36).toInt = (F 0 36).toInt + 4 := by
  obtain ⟨i1, i2, i3, i4, i5⟩ := taped_4 (k := 0) h0 h4
  have a1 := @c23s d h D q v 24 (by decide) F i1
  have a2 := @c23s d h D q v 16 (by decide) (sq_put1 v 24 F) (by rw [put1_t]; exact i2)
  have a3 := @c23s d h D q v 8 (by decide) (sq_put1 v 16 (sq_put1 v 24 F)) (by rw [put1_t, put1_t]; exact i3)
  have a4 := @c23s d h D q v 0 (by decide) (sq_put1 v 8 (sq_put1 v 16 (sq_put1 v 24 F))) (by rw [put1_t, put1_t, put1_t]; exact i4)
  rw [show (24 : Int32) + -8 = 16 by decide] at a1
  rw [show (16 : Int32) + -8 = 8 by decide] at a2
  rw [show (8 : Int32) + -8 = 0 by decide] at a3
  rw [show (0 : Int32) + -8 = -8 by decide] at a4
  refine ⟨?_, by unfold sq_puts; rw [put1_t, put1_t, put1_t, put1_t]; exact i5⟩
  unfold xm_met
  simp only [ite_not, ite_self, w8_nil, ok01, ite10, rf_rv, rf_ref, rf_cat, rf_lk2, rf_some, rf_none, w_add, w_cons, cr_int, cr_long, cr_ref, cr_null, is_ref, is_null, l2_int, l2_ref, l2_null, l2_none, ent_nil, ent_int, ent_ref, ent_null, ent_rf, ent_long, ok_0, ok_1, af_ret, af_void, List.tail_cons, List.tail_nil, Nat.reduceAdd, Nat.reduceLeDiff, not_false_eq_true, not_true_eq_false, and_self, and_true, true_and, ne_eq, or_true, true_or, or_false, false_or, eq_self, Nat.reduceEqDiff, ↓reduceIte, false_and, and_false, Nat.le_refl, Nat.zero_le, nz_1, nz_2, nz_3, nz_4, nz_5, nz_6, nz_8, nz_10, nz_12, nz_20, nz_30, nz_60, nz_100, r23_0, r23_2]
  rw [a1, a2, a3, a4, r23_3]
  simp only [ite_not, ite_self, w8_nil, ok01, ite10, rf_rv, rf_ref, rf_cat, rf_lk2, rf_some, rf_none, w_add, w_cons, cr_int, cr_long, cr_ref, cr_null, is_ref, is_null, l2_int, l2_ref, l2_null, l2_none, ent_nil, ent_int, ent_ref, ent_null, ent_rf, ent_long, ok_0, ok_1, af_ret, af_void, List.tail_cons, List.tail_nil, Nat.reduceAdd, Nat.reduceLeDiff, not_false_eq_true, not_true_eq_false, and_self, and_true, true_and, ne_eq, or_true, true_or, or_false, false_or, eq_self, Nat.reduceEqDiff, ↓reduceIte, false_and, and_false, Nat.le_refl, Nat.zero_le, nz_1, nz_2, nz_3, nz_4, nz_5, nz_6, nz_8, nz_10, nz_12, nz_20, nz_30, nz_60, nz_100, ent_nil, r23_4, r23_36, (by decide : (-8 : Int32) < 0)]
  rfl
def sq_feed (F : xp_F) (a b c e g : Int32) : xp_F := sq_puts g (sq_puts e (sq_puts c (sq_puts b (sq_puts a F))))
theorem c22 (q : CS h D) (hn : rg (F 0 36) 600) {a b c e g : Int32} : xm_met (d + 1) 22 [.ref (xd_X D), .int a, .int b, .int c, .int e, .int g] (xp_c h D F) = if F 0 36 + 20 ≤ 600 then some (.inl (some (.int (sq_feed F a b c e g 0 36))), xp_c h D (sq_feed F a b c e g)) else some (.inl (some (.int (-1))), xp_c h D F) := by
  unfold xm_met
  by_cases c1 : F 0 36 + 20 ≤ 600
  case neg =>
    rw [if_neg c1]
    simp only [ite_not, ite_self, w8_nil, ok01, ite10, rf_rv, rf_ref, rf_cat, rf_lk2, rf_some, rf_none, w_add, w_cons, cr_int, cr_long, cr_ref, cr_null, is_ref, is_null, l2_int, l2_ref, l2_null, l2_none, ent_nil, ent_int, ent_ref, ent_null, ent_rf, ent_long, ok_0, ok_1, af_ret, af_void, List.tail_cons, List.tail_nil, Nat.reduceAdd, Nat.reduceLeDiff, not_false_eq_true, not_true_eq_false, and_self, and_true, true_and, ne_eq, or_true, true_or, or_false, false_or, eq_self, Nat.reduceEqDiff, ↓reduceIte, false_and, and_false, Nat.le_refl, Nat.zero_le, nz_1, nz_2, nz_3, nz_4, nz_5, nz_6, nz_8, nz_10, nz_12, nz_20, nz_30, nz_60, nz_100, mc_B, mc_Z, mc_S, mc_C, mc_K, mc_N, mc_R, mc_I, mc_L, va_Is, va_Ls, va_us, va_iss, u2_ap, sp_isLedge, sp_isLadder, sp_isPerson, sp_isLiving, sp_isLot, sp_isThere, sp_isSpan, cs_K q, cs_B q, mc_s (cs_inj q), cs_f10 q, r22_0, r22_1, r22_4, r22_6, r22_7, r22_13, r22_14, r22_10, c1]
  rw [if_pos c1]
  have t1 := hn.1
  have t2 := hn.2
  have t3 := ti_add (a := F 0 36) (b := 20) (by rw [show (20 : Int32).toInt = 20 from rfl]; omega)
  rw [show (20 : Int32).toInt = 20 from rfl] at t3
  have t4 := Int32.le_iff_toInt_le.mp c1
  rw [t3, show (600 : Int32).toInt = 600 from rfl] at t4
  obtain ⟨m1, n1⟩ := @c23 d h D F q a t1 (by omega)
  obtain ⟨m2, n2⟩ := @c23 d h D (sq_puts a F) q b (by omega) (by omega)
  obtain ⟨m3, n3⟩ := @c23 d h D (sq_puts b (sq_puts a F)) q c (by omega) (by omega)
  obtain ⟨m4, n4⟩ := @c23 d h D (sq_puts c (sq_puts b (sq_puts a F))) q e (by omega) (by omega)
  obtain ⟨m5, n5⟩ := @c23 d h D (sq_puts e (sq_puts c (sq_puts b (sq_puts a F)))) q g (by omega) (by omega)
  simp only [ite_not, ite_self, w8_nil, ok01, ite10, rf_rv, rf_ref, rf_cat, rf_lk2, rf_some, rf_none, w_add, w_cons, cr_int, cr_long, cr_ref, cr_null, is_ref, is_null, l2_int, l2_ref, l2_null, l2_none, ent_nil, ent_int, ent_ref, ent_null, ent_rf, ent_long, ok_0, ok_1, af_ret, af_void, List.tail_cons, List.tail_nil, Nat.reduceAdd, Nat.reduceLeDiff, not_false_eq_true, not_true_eq_false, and_self, and_true, true_and, ne_eq, or_true, true_or, or_false, false_or, eq_self, Nat.reduceEqDiff, ↓reduceIte, false_and, and_false, Nat.le_refl, Nat.zero_le, nz_1, nz_2, nz_3, nz_4, nz_5, nz_6, nz_8, nz_10, nz_12, nz_20, nz_30, nz_60, nz_100, mc_B, mc_Z, mc_S, mc_C, mc_K, mc_N, mc_R, mc_I, mc_L, va_Is, va_Ls, va_us, va_iss, u2_ap, sp_isLedge, sp_isLadder, sp_isPerson, sp_isLiving, sp_isLot, sp_isThere, sp_isSpan, cs_K q, cs_B q, mc_s (cs_inj q), cs_f10 q, r22_0, r22_1, r22_4, r22_6, r22_7, r22_13, r22_14, r22_15, r22_16, r22_17, r22_20, r22_21, r22_22, r22_25, r22_26, r22_27, r22_30, r22_31, r22_33, r22_36, r22_37, r22_39, r22_42, r22_43, r22_46, r22_10, c1, m1, m2, m3, m4, m5]
  rfl
/-- the component's shares are the model's -/
theorem ix_sh {r w : Int32} (hr : 0 ≤ r ∧ r ≤ 1) (hw : 3 ≤ w ∧ w ≤ 6) : xm_in (w - 3) 4 = true ∧ (w - 3).toNatClampNeg < 4 ∧ (4 * r + w - 3).toNatClampNeg = 4 * r.toNatClampNeg + (w - 3).toNatClampNeg := by
  have h1 := Int32.le_iff_toInt_le.mp hw.1
  have h2 := Int32.le_iff_toInt_le.mp hw.2
  rw [show (3 : Int32).toInt = 3 from rfl] at h1
  rw [show (6 : Int32).toInt = 6 from rfl] at h2
  have a1 := ti_sub (a := w) (b := 3) (by rw [show (3 : Int32).toInt = 3 from rfl]; omega)
  rw [show (3 : Int32).toInt = 3 from rfl] at a1
  refine ⟨in_iff.mpr (by omega), by show (w - 3).toInt.toNat < 4; omega, ?_⟩
  show (4 * r + w - 3).toInt.toNat = 4 * r.toInt.toNat + (w - 3).toInt.toNat
  rcases r01 hr with e | e <;> subst e
  · have : (4 * 0 + w - 3 : Int32) = w - 3 := by rw [Int32.mul_zero, Int32.zero_add]
    rw [this]
    show _ = 4 * 0 + _
    omega
  · have b1 : (4 * 1 + w : Int32).toInt = 4 + w.toInt := by
      rw [ti_add (by rw [show (4 * 1 : Int32).toInt = 4 from by decide]; omega), show (4 * 1 : Int32).toInt = 4 from by decide]
    have b2 : (4 * 1 + w - 3 : Int32).toInt = 1 + w.toInt := by
      rw [ti_sub (by rw [b1, show (3 : Int32).toInt = 3 from rfl]; omega), b1, show (3 : Int32).toInt = 3 from rfl]
      omega
    rw [b2, a1, show (1 : Int32).toInt = 1 from rfl]
    omega
theorem c25 (q : CS h D) {r w : Int32} : xm_met (d + 1) 25 [.ref (xd_X D), .int r, .int w] (xp_c h D F) = some (.inl (some (.int (sp_ruled F r w))), xp_c h D F) := by
  unfold xm_met sp_ruled
  by_cases c1 : 0 ≤ r ∧ r ≤ 1
  case neg =>
    simp only [ite_not, ite_self, w8_nil, ok01, ite10, rf_rv, rf_ref, rf_cat, rf_lk2, rf_some, rf_none, w_add, w_cons, cr_int, cr_long, cr_ref, cr_null, is_ref, is_null, l2_int, l2_ref, l2_null, l2_none, ent_nil, ent_int, ent_ref, ent_null, ent_rf, ent_long, ok_0, ok_1, af_ret, af_void, List.tail_cons, List.tail_nil, Nat.reduceAdd, Nat.reduceLeDiff, not_false_eq_true, not_true_eq_false, and_self, and_true, true_and, ne_eq, or_true, true_or, or_false, false_or, eq_self, Nat.reduceEqDiff, ↓reduceIte, false_and, and_false, Nat.le_refl, Nat.zero_le, nz_1, nz_2, nz_3, nz_4, nz_5, nz_6, nz_8, nz_10, nz_12, nz_20, nz_30, nz_60, nz_100, mc_B, mc_Z, mc_S, mc_C, mc_K, mc_N, mc_R, mc_I, mc_L, va_Is, va_Ls, va_us, va_iss, u2_ap, sp_isLedge, sp_isLadder, sp_isPerson, sp_isLiving, sp_isLot, sp_isThere, sp_isSpan, cs_K q, cs_B q, mc_s (cs_inj q), cs_f17 q, cs_f19 q, r25_0, r25_1, r25_7, r25_8, r25_4, c19, c1]
  have i1 : xm_in r 2 = true := in_lit c1 (by decide)
  have hr : r.toNatClampNeg < 2 := by
    rcases r01 c1 with e | e <;> subst e <;> decide
  have o1 := cs_U q hr
  by_cases c0 : w = 0
  · simp only [ite_not, ite_self, w8_nil, ok01, ite10, rf_rv, rf_ref, rf_cat, rf_lk2, rf_some, rf_none, w_add, w_cons, cr_int, cr_long, cr_ref, cr_null, is_ref, is_null, l2_int, l2_ref, l2_null, l2_none, ent_nil, ent_int, ent_ref, ent_null, ent_rf, ent_long, ok_0, ok_1, af_ret, af_void, List.tail_cons, List.tail_nil, Nat.reduceAdd, Nat.reduceLeDiff, not_false_eq_true, not_true_eq_false, and_self, and_true, true_and, ne_eq, or_true, true_or, or_false, false_or, eq_self, Nat.reduceEqDiff, ↓reduceIte, false_and, and_false, Nat.le_refl, Nat.zero_le, nz_1, nz_2, nz_3, nz_4, nz_5, nz_6, nz_8, nz_10, nz_12, nz_20, nz_30, nz_60, nz_100, mc_B, mc_Z, mc_S, mc_C, mc_K, mc_N, mc_R, mc_I, mc_L, va_Is, va_Ls, va_us, va_iss, u2_ap, sp_isLedge, sp_isLadder, sp_isPerson, sp_isLiving, sp_isLot, sp_isThere, sp_isSpan, cs_K q, cs_B q, mc_s (cs_inj q), cs_f17 q, cs_f19 q, r25_0, r25_1, r25_7, r25_8, r25_9, r25_36, r25_37, r25_40, r25_41, r25_42, r25_43, r25_44, r25_47, r25_48, r25_49, r25_52, r25_53, r25_54, r25_57, r25_58, r25_59, r25_62, r25_63, r25_64, r25_65, r25_67, r25_73, r25_74, r25_77, r25_78, r25_79, r25_82, r25_83, r25_84, r25_85, r25_86, r25_89, r25_90, r25_4, r25_10, r25_70, c19, c1, c0, i1, o1]
  by_cases c3 : w = 1
  · simp only [ite_not, ite_self, w8_nil, ok01, ite10, rf_rv, rf_ref, rf_cat, rf_lk2, rf_some, rf_none, w_add, w_cons, cr_int, cr_long, cr_ref, cr_null, is_ref, is_null, l2_int, l2_ref, l2_null, l2_none, ent_nil, ent_int, ent_ref, ent_null, ent_rf, ent_long, ok_0, ok_1, af_ret, af_void, List.tail_cons, List.tail_nil, Nat.reduceAdd, Nat.reduceLeDiff, not_false_eq_true, not_true_eq_false, and_self, and_true, true_and, ne_eq, or_true, true_or, or_false, false_or, eq_self, Nat.reduceEqDiff, ↓reduceIte, false_and, and_false, Nat.le_refl, Nat.zero_le, nz_1, nz_2, nz_3, nz_4, nz_5, nz_6, nz_8, nz_10, nz_12, nz_20, nz_30, nz_60, nz_100, mc_B, mc_Z, mc_S, mc_C, mc_K, mc_N, mc_R, mc_I, mc_L, va_Is, va_Ls, va_us, va_iss, u2_ap, sp_isLedge, sp_isLadder, sp_isPerson, sp_isLiving, sp_isLot, sp_isThere, sp_isSpan, cs_K q, cs_B q, mc_s (cs_inj q), cs_f17 q, cs_f19 q, r25_0, r25_1, r25_7, r25_8, r25_9, r25_36, r25_37, r25_40, r25_41, r25_42, r25_43, r25_44, r25_47, r25_48, r25_49, r25_52, r25_53, r25_54, r25_57, r25_58, r25_59, r25_62, r25_63, r25_64, r25_65, r25_67, r25_73, r25_74, r25_77, r25_78, r25_79, r25_82, r25_83, r25_84, r25_85, r25_86, r25_89, r25_90, r25_4, r25_10, r25_70, c19, c1, c0, c3, i1, o1]
  by_cases c4 : w = 2
  · simp only [ite_not, ite_self, w8_nil, ok01, ite10, rf_rv, rf_ref, rf_cat, rf_lk2, rf_some, rf_none, w_add, w_cons, cr_int, cr_long, cr_ref, cr_null, is_ref, is_null, l2_int, l2_ref, l2_null, l2_none, ent_nil, ent_int, ent_ref, ent_null, ent_rf, ent_long, ok_0, ok_1, af_ret, af_void, List.tail_cons, List.tail_nil, Nat.reduceAdd, Nat.reduceLeDiff, not_false_eq_true, not_true_eq_false, and_self, and_true, true_and, ne_eq, or_true, true_or, or_false, false_or, eq_self, Nat.reduceEqDiff, ↓reduceIte, false_and, and_false, Nat.le_refl, Nat.zero_le, nz_1, nz_2, nz_3, nz_4, nz_5, nz_6, nz_8, nz_10, nz_12, nz_20, nz_30, nz_60, nz_100, mc_B, mc_Z, mc_S, mc_C, mc_K, mc_N, mc_R, mc_I, mc_L, va_Is, va_Ls, va_us, va_iss, u2_ap, sp_isLedge, sp_isLadder, sp_isPerson, sp_isLiving, sp_isLot, sp_isThere, sp_isSpan, cs_K q, cs_B q, mc_s (cs_inj q), cs_f17 q, cs_f19 q, r25_0, r25_1, r25_7, r25_8, r25_9, r25_36, r25_37, r25_40, r25_41, r25_42, r25_43, r25_44, r25_47, r25_48, r25_49, r25_52, r25_53, r25_54, r25_57, r25_58, r25_59, r25_62, r25_63, r25_64, r25_65, r25_67, r25_73, r25_74, r25_77, r25_78, r25_79, r25_82, r25_83, r25_84, r25_85, r25_86, r25_89, r25_90, r25_4, r25_10, r25_70, c19, c1, c0, c3, c4, i1, o1, (by decide : ¬ (2 : Int32) = 1)]
  by_cases c5 : 3 ≤ w ∧ w ≤ 6
  · obtain ⟨x1, x2, x3⟩ := ix_sh c1 c5
    have o2 := (cs_U q hr).2.2.2.2.2.2.2.2.2.2.2 _ x2
    simp only [ite_not, ite_self, w8_nil, ok01, ite10, rf_rv, rf_ref, rf_cat, rf_lk2, rf_some, rf_none, w_add, w_cons, cr_int, cr_long, cr_ref, cr_null, is_ref, is_null, l2_int, l2_ref, l2_null, l2_none, ent_nil, ent_int, ent_ref, ent_null, ent_rf, ent_long, ok_0, ok_1, af_ret, af_void, List.tail_cons, List.tail_nil, Nat.reduceAdd, Nat.reduceLeDiff, not_false_eq_true, not_true_eq_false, and_self, and_true, true_and, ne_eq, or_true, true_or, or_false, false_or, eq_self, Nat.reduceEqDiff, ↓reduceIte, false_and, and_false, Nat.le_refl, Nat.zero_le, nz_1, nz_2, nz_3, nz_4, nz_5, nz_6, nz_8, nz_10, nz_12, nz_20, nz_30, nz_60, nz_100, mc_B, mc_Z, mc_S, mc_C, mc_K, mc_N, mc_R, mc_I, mc_L, va_Is, va_Ls, va_us, va_iss, u2_ap, sp_isLedge, sp_isLadder, sp_isPerson, sp_isLiving, sp_isLot, sp_isThere, sp_isSpan, cs_K q, cs_B q, mc_s (cs_inj q), cs_f17 q, cs_f19 q, r25_0, r25_1, r25_7, r25_8, r25_9, r25_36, r25_37, r25_40, r25_41, r25_42, r25_43, r25_44, r25_47, r25_48, r25_49, r25_52, r25_53, r25_54, r25_57, r25_58, r25_59, r25_62, r25_63, r25_64, r25_65, r25_67, r25_73, r25_74, r25_77, r25_78, r25_79, r25_82, r25_83, r25_84, r25_85, r25_86, r25_89, r25_90, r25_4, r25_10, r25_70, c19, c2, c1, c0, c3, c4, c5, i1, o1, x1, x3, o2]
  · simp only [ite_not, ite_self, w8_nil, ok01, ite10, rf_rv, rf_ref, rf_cat, rf_lk2, rf_some, rf_none, w_add, w_cons, cr_int, cr_long, cr_ref, cr_null, is_ref, is_null, l2_int, l2_ref, l2_null, l2_none, ent_nil, ent_int, ent_ref, ent_null, ent_rf, ent_long, ok_0, ok_1, af_ret, af_void, List.tail_cons, List.tail_nil, Nat.reduceAdd, Nat.reduceLeDiff, not_false_eq_true, not_true_eq_false, and_self, and_true, true_and, ne_eq, or_true, true_or, or_false, false_or, eq_self, Nat.reduceEqDiff, ↓reduceIte, false_and, and_false, Nat.le_refl, Nat.zero_le, nz_1, nz_2, nz_3, nz_4, nz_5, nz_6, nz_8, nz_10, nz_12, nz_20, nz_30, nz_60, nz_100, mc_B, mc_Z, mc_S, mc_C, mc_K, mc_N, mc_R, mc_I, mc_L, va_Is, va_Ls, va_us, va_iss, u2_ap, sp_isLedge, sp_isLadder, sp_isPerson, sp_isLiving, sp_isLot, sp_isThere, sp_isSpan, cs_K q, cs_B q, mc_s (cs_inj q), cs_f17 q, cs_f19 q, r25_0, r25_1, r25_7, r25_8, r25_9, r25_36, r25_37, r25_40, r25_41, r25_42, r25_43, r25_44, r25_47, r25_48, r25_49, r25_52, r25_53, r25_54, r25_57, r25_58, r25_59, r25_62, r25_63, r25_64, r25_65, r25_67, r25_73, r25_74, r25_77, r25_78, r25_79, r25_82, r25_83, r25_84, r25_85, r25_86, r25_89, r25_90, r25_4, r25_10, r25_70, c19, c2, c1, c0, c3, c4, c5, i1, o1]
end C23
