/-! the component's contracts, 25: a lot's money -/
set_option maxRecDepth 100000
section C25
variable {d : Nat} {h : xm_H} {D : xp_D} {F : xp_F}
theorem part_0 {i l : Nat} {v : Int32} (h0 : F 52 (12 * i + l) = 0) : sp_part F i l v = 0 := by
  unfold sp_part
  rw [h0, show (0 : Int32).toInt64 = 0 by decide, Int64.mul_zero, Int64.zero_div]
  decide
/-- what a ledge gave not, brings nothing -/
theorem pay1_all {i : Nat} {s a : Int32} {l : Nat} {st : Int32 × xp_F} : sp_pay1 F i s a l st = sp_own1 F i s a l (sp_find1 F i s a l st) := by
  unfold sp_pay1
  by_cases c : F 52 (12 * i + l) = 0
  · rw [if_pos c]
    have f : sp_find1 F i s a l st = st := by
      unfold sp_find1
      split
      · rfl
      · rw [part_0 c, Int32.add_zero, u2_self, Int32.sub_zero]
    rw [f]
    unfold sp_own1
    split
    · rfl
    · rw [part_0 c, Int32.add_zero, u2_self, Int32.sub_zero]
  · rw [if_neg c]
theorem c88 (q : CS h D) : xm_met d 88 [.ref (xd_A D 7 0)] (xp_c h D F) = some (.inl (some (.int (sp_shares F))), xp_c h D F) := by
  have o1 := cs_U q (show 0 < 2 by decide)
  have o2 := (cs_U q (show 0 < 2 by decide)).2.2.2.2.2.2.2.2.2.2.2
  have e0 := o2 0 (by decide)
  have e1 := o2 1 (by decide)
  have e2 := o2 2 (by decide)
  have e3 := o2 3 (by decide)
  have z0 : (0 : Int32).toNatClampNeg = 0 := rfl
  have z1 : (1 : Int32).toNatClampNeg = 1 := rfl
  have z2 : (2 : Int32).toNatClampNeg = 2 := rfl
  have z3 : (3 : Int32).toNatClampNeg = 3 := rfl
  have y0 : xm_in 0 4 = true := by decide
  have y1 : xm_in 1 4 = true := by decide
  have y2 : xm_in 2 4 = true := by decide
  have y3 : xm_in 3 4 = true := by decide
  unfold xm_met
  simp only [ite_not, ite_self, w8_nil, ok01, ite10, rf_rv, rf_ref, rf_cat, rf_lk2, rf_some, rf_none, w_add, w_cons, cr_int, cr_long, cr_ref, cr_null, is_ref, is_null, l2_int, l2_ref, l2_null, l2_none, ent_nil, ent_int, ent_ref, ent_null, ent_rf, ent_long, ok_0, ok_1, af_ret, af_void, List.tail_cons, List.tail_nil, Nat.reduceAdd, Nat.reduceLeDiff, not_false_eq_true, not_true_eq_false, and_self, and_true, true_and, ne_eq, or_true, true_or, or_false, false_or, eq_self, Nat.reduceEqDiff, ↓reduceIte, false_and, and_false, Nat.le_refl, Nat.zero_le, nz_1, nz_2, nz_3, nz_4, nz_5, nz_6, nz_8, nz_10, nz_12, nz_20, nz_30, nz_60, nz_100, mc_B, mc_Z, mc_S, mc_C, mc_K, mc_N, mc_R, mc_I, mc_L, va_Is, va_Ls, va_us, va_iss, u2_ap, sp_isLedge, sp_isLadder, sp_isPerson, sp_isLiving, sp_isLot, sp_isThere, sp_isSpan, r88_0, r88_1, r88_4, r88_5, r88_6, r88_7, r88_10, r88_11, r88_12, r88_13, r88_14, r88_17, r88_18, r88_19, r88_20, r88_21, r88_24, r88_25, r88_26, r88_27, o1, e0, e1, e2, e3, z0, z1, z2, z3, y0, y1, y2, y3]
  rfl
/-- persons, villages that are paid -/
def PWy (D : xp_D) (F : xp_F) : Prop := rg (F 0 95) 100 ∧ (∀ l, l < xd_n D 0 → nr (F 9 l) (xd_n D 1)) ∧ ∀ k, nr (F 65 k) 2
theorem nr_lt {x : Int32} {n N : Nat} (hx : xm_in x n = true) (hn : n ≤ N) : xm_in x N = true ∧ x.toNatClampNeg < n := by
  have := in_iff.mp hx
  exact ⟨in_iff.mpr (by omega), by show x.toInt.toNat < n; omega⟩
theorem c222 (q : CS h D) {i : Nat} (hi : i < xd_n D 2) (em : xd_m D i = none) {l : Nat} (hl : l < xd_n D 0) {G : xp_F} (hf : nr (G 9 l) (xd_n D 1)) {v : Int32} : xm_met d 222 [.ref (xd_A D 4 i), .int (Int32.ofNat l), .int v] (xp_c h D G) = some (.inl (some (.int (if G 9 l = -1 then 0 else v))), xp_c h D (if G 9 l = -1 then G else xm_u2 G 42 (G 9 l).toNatClampNeg (G 42 (G 9 l).toNatClampNeg + v))) := by
  have n12 := (cs_n q).1
  have n16 := (cs_n q).2.1
  obtain ⟨o0, -, -, -, o4, -⟩ := cs_C q hi em
  have o1 := cs_L q hl
  obtain ⟨i1, e1⟩ := in_nat (show l < 12 by omega) (by decide)
  unfold xm_met
  by_cases c1 : G 9 l = -1
  · rw [if_pos c1, if_pos c1]
    simp only [ite_not, ite_self, w8_nil, ok01, ite10, rf_rv, rf_ref, rf_cat, rf_lk2, rf_some, rf_none, w_add, w_cons, cr_int, cr_long, cr_ref, cr_null, is_ref, is_null, l2_int, l2_ref, l2_null, l2_none, ent_nil, ent_int, ent_ref, ent_null, ent_rf, ent_long, ok_0, ok_1, af_ret, af_void, List.tail_cons, List.tail_nil, Nat.reduceAdd, Nat.reduceLeDiff, not_false_eq_true, not_true_eq_false, and_self, and_true, true_and, ne_eq, or_true, true_or, or_false, false_or, eq_self, Nat.reduceEqDiff, ↓reduceIte, false_and, and_false, Nat.le_refl, Nat.zero_le, nz_1, nz_2, nz_3, nz_4, nz_5, nz_6, nz_8, nz_10, nz_12, nz_20, nz_30, nz_60, nz_100, mc_B, mc_Z, mc_S, mc_C, mc_K, mc_N, mc_R, mc_I, mc_L, va_Is, va_Ls, va_us, va_iss, u2_ap, sp_isLedge, sp_isLadder, sp_isPerson, sp_isLiving, sp_isLot, sp_isThere, sp_isSpan, cs_K q, cs_f0 q, r222_0, r222_1, r222_4, r222_7, r222_8, r222_9, r222_12, r222_13, r222_14, r222_18, r222_19, r222_15, o0, o4, o1, i1, e1, c1]
  · obtain ⟨x1, x2⟩ := nr_lt (hf.resolve_left c1) n16
    have o2 := cs_P q x2
    rw [if_neg c1, if_neg c1]
    simp only [ite_not, ite_self, w8_nil, ok01, ite10, rf_rv, rf_ref, rf_cat, rf_lk2, rf_some, rf_none, w_add, w_cons, cr_int, cr_long, cr_ref, cr_null, is_ref, is_null, l2_int, l2_ref, l2_null, l2_none, ent_nil, ent_int, ent_ref, ent_null, ent_rf, ent_long, ok_0, ok_1, af_ret, af_void, List.tail_cons, List.tail_nil, Nat.reduceAdd, Nat.reduceLeDiff, not_false_eq_true, not_true_eq_false, and_self, and_true, true_and, ne_eq, or_true, true_or, or_false, false_or, eq_self, Nat.reduceEqDiff, ↓reduceIte, false_and, and_false, Nat.le_refl, Nat.zero_le, nz_1, nz_2, nz_3, nz_4, nz_5, nz_6, nz_8, nz_10, nz_12, nz_20, nz_30, nz_60, nz_100, mc_B, mc_Z, mc_S, mc_C, mc_K, mc_N, mc_R, mc_I, mc_L, va_Is, va_Ls, va_us, va_iss, u2_ap, sp_isLedge, sp_isLadder, sp_isPerson, sp_isLiving, sp_isLot, sp_isThere, sp_isSpan, cs_K q, cs_f0 q, cs_f30 q, mc_s (cs_inj q), r222_0, r222_1, r222_4, r222_7, r222_8, r222_9, r222_12, r222_13, r222_14, r222_18, r222_19, r222_20, r222_21, r222_24, r222_27, r222_28, r222_29, r222_30, r222_33, r222_34, r222_35, r222_38, r222_39, r222_15, o0, o4, o1, o2, i1, e1, c1, x1]
theorem c223 (q : CS h D) {i : Nat} (hi : i < xd_n D 2) (em : xd_m D i = none) {l : Nat} {G : xp_F} (hc : rg (G 0 95) 100) (hb : ∀ k, nr (G 65 k) 2) {v : Int32} : xm_met (d + 1) 223 [.ref (xd_A D 4 i), .int (Int32.ofNat l), .int v] (xp_c h D G) = some (.inl (some (.int (if sp_own G i l = -1 then 0 else v))), xp_c h D (if sp_own G i l = -1 then G else xm_u2 G 55 (sp_own G i l).toNatClampNeg (G 55 (sp_own G i l).toNatClampNeg + v))) := by
  obtain ⟨o0, -, -, -, o4, -⟩ := cs_C q hi em
  have o1 := cs_I q hi
  have o3 := cs_is q hi
  have w := @c59 d h D G q hc (Int32.ofNat l) (G 49 i / 60) (G 49 i)
  rw [show sp_whoseIs G (Int32.ofNat l) (G 49 i / 60) (G 49 i) = sp_own G i l from rfl] at w
  have hn : nr (sp_own G i l) 2 := whoseIs_nr hb
  unfold xm_met
  by_cases c1 : sp_own G i l = -1
  · rw [if_pos c1, if_pos c1]
    rw [c1] at w
    simp only [ite_not, ite_self, w8_nil, ok01, ite10, rf_rv, rf_ref, rf_cat, rf_lk2, rf_some, rf_none, w_add, w_cons, cr_int, cr_long, cr_ref, cr_null, is_ref, is_null, l2_int, l2_ref, l2_null, l2_none, ent_nil, ent_int, ent_ref, ent_null, ent_rf, ent_long, ok_0, ok_1, af_ret, af_void, List.tail_cons, List.tail_nil, Nat.reduceAdd, Nat.reduceLeDiff, not_false_eq_true, not_true_eq_false, and_self, and_true, true_and, ne_eq, or_true, true_or, or_false, false_or, eq_self, Nat.reduceEqDiff, ↓reduceIte, false_and, and_false, Nat.le_refl, Nat.zero_le, nz_1, nz_2, nz_3, nz_4, nz_5, nz_6, nz_8, nz_10, nz_12, nz_20, nz_30, nz_60, nz_100, mc_B, mc_Z, mc_S, mc_C, mc_K, mc_N, mc_R, mc_I, mc_L, va_Is, va_Ls, va_us, va_iss, u2_ap, sp_isLedge, sp_isLadder, sp_isPerson, sp_isLiving, sp_isLot, sp_isThere, sp_isSpan, cs_K q, r223_0, r223_1, r223_4, r223_5, r223_6, r223_9, r223_11, r223_12, r223_13, r223_16, r223_19, r223_20, r223_21, r223_25, r223_26, r223_22, o0, o4, o1, o3, w]
  · have x1 := hn.resolve_left c1
    rw [if_neg c1, if_neg c1]
    simp only [ite_not, ite_self, w8_nil, ok01, ite10, rf_rv, rf_ref, rf_cat, rf_lk2, rf_some, rf_none, w_add, w_cons, cr_int, cr_long, cr_ref, cr_null, is_ref, is_null, l2_int, l2_ref, l2_null, l2_none, ent_nil, ent_int, ent_ref, ent_null, ent_rf, ent_long, ok_0, ok_1, af_ret, af_void, List.tail_cons, List.tail_nil, Nat.reduceAdd, Nat.reduceLeDiff, not_false_eq_true, not_true_eq_false, and_self, and_true, true_and, ne_eq, or_true, true_or, or_false, false_or, eq_self, Nat.reduceEqDiff, ↓reduceIte, false_and, and_false, Nat.le_refl, Nat.zero_le, nz_1, nz_2, nz_3, nz_4, nz_5, nz_6, nz_8, nz_10, nz_12, nz_20, nz_30, nz_60, nz_100, mc_B, mc_Z, mc_S, mc_C, mc_K, mc_N, mc_R, mc_I, mc_L, va_Is, va_Ls, va_us, va_iss, u2_ap, sp_isLedge, sp_isLadder, sp_isPerson, sp_isLiving, sp_isLot, sp_isThere, sp_isSpan, cs_K q, cs_f33 q, mc_s (cs_inj q), r223_0, r223_1, r223_4, r223_5, r223_6, r223_9, r223_11, r223_12, r223_13, r223_16, r223_19, r223_20, r223_21, r223_25, r223_26, r223_27, r223_28, r223_31, r223_34, r223_35, r223_36, r223_37, r223_38, r223_39, r223_40, r223_41, r223_22, o0, o4, o1, o3, w, c1, x1]
end C25
