/-! the component's contracts, 4: ledges that grow -/
set_option maxRecDepth 100000
/-- names of a ledge's fields by slot: of those that are, of those that are tried -/
def nu : Bool → Nat → Nat
  | true, 0 => 3
  | true, 1 => 4
  | true, 2 => 9
  | true, 3 => 5
  | true, 4 => 6
  | true, 5 => 8
  | true, 6 => 10
  | true, 7 => 11
  | true, 8 => 7
  | true, 9 => 12
  | true, k => 3 + k
  | false, k => 90 + k
def rk : Bool → Nat
  | true => 1
  | false => 2
def ra : Bool → Nat
  | true => 0
  | false => 1
theorem nn_1_3 {b : Bool} : (nu b 1 = nu b 3) = False := by cases b <;> decide
theorem nn_1_4 {b : Bool} : (nu b 1 = nu b 4) = False := by cases b <;> decide
theorem nn_1_5 {b : Bool} : (nu b 1 = nu b 5) = False := by cases b <;> decide
theorem nn_1_6 {b : Bool} : (nu b 1 = nu b 6) = False := by cases b <;> decide
theorem nn_1_7 {b : Bool} : (nu b 1 = nu b 7) = False := by cases b <;> decide
theorem nn_1_8 {b : Bool} : (nu b 1 = nu b 8) = False := by cases b <;> decide
theorem nn_1_9 {b : Bool} : (nu b 1 = nu b 9) = False := by cases b <;> decide
theorem nn_1_10 {b : Bool} : (nu b 1 = nu b 10) = False := by cases b <;> decide
theorem nn_3_1 {b : Bool} : (nu b 3 = nu b 1) = False := by cases b <;> decide
theorem nn_3_4 {b : Bool} : (nu b 3 = nu b 4) = False := by cases b <;> decide
theorem nn_3_5 {b : Bool} : (nu b 3 = nu b 5) = False := by cases b <;> decide
theorem nn_3_6 {b : Bool} : (nu b 3 = nu b 6) = False := by cases b <;> decide
theorem nn_3_7 {b : Bool} : (nu b 3 = nu b 7) = False := by cases b <;> decide
theorem nn_3_8 {b : Bool} : (nu b 3 = nu b 8) = False := by cases b <;> decide
theorem nn_3_9 {b : Bool} : (nu b 3 = nu b 9) = False := by cases b <;> decide
theorem nn_3_10 {b : Bool} : (nu b 3 = nu b 10) = False := by cases b <;> decide
theorem nn_4_1 {b : Bool} : (nu b 4 = nu b 1) = False := by cases b <;> decide
theorem nn_4_3 {b : Bool} : (nu b 4 = nu b 3) = False := by cases b <;> decide
theorem nn_4_5 {b : Bool} : (nu b 4 = nu b 5) = False := by cases b <;> decide
theorem nn_4_6 {b : Bool} : (nu b 4 = nu b 6) = False := by cases b <;> decide
theorem nn_4_7 {b : Bool} : (nu b 4 = nu b 7) = False := by cases b <;> decide
theorem nn_4_8 {b : Bool} : (nu b 4 = nu b 8) = False := by cases b <;> decide
theorem nn_4_9 {b : Bool} : (nu b 4 = nu b 9) = False := by cases b <;> decide
theorem nn_4_10 {b : Bool} : (nu b 4 = nu b 10) = False := by cases b <;> decide
theorem nn_5_1 {b : Bool} : (nu b 5 = nu b 1) = False := by cases b <;> decide
theorem nn_5_3 {b : Bool} : (nu b 5 = nu b 3) = False := by cases b <;> decide
theorem nn_5_4 {b : Bool} : (nu b 5 = nu b 4) = False := by cases b <;> decide
theorem nn_5_6 {b : Bool} : (nu b 5 = nu b 6) = False := by cases b <;> decide
theorem nn_5_7 {b : Bool} : (nu b 5 = nu b 7) = False := by cases b <;> decide
theorem nn_5_8 {b : Bool} : (nu b 5 = nu b 8) = False := by cases b <;> decide
theorem nn_5_9 {b : Bool} : (nu b 5 = nu b 9) = False := by cases b <;> decide
theorem nn_5_10 {b : Bool} : (nu b 5 = nu b 10) = False := by cases b <;> decide
theorem nn_6_1 {b : Bool} : (nu b 6 = nu b 1) = False := by cases b <;> decide
theorem nn_6_3 {b : Bool} : (nu b 6 = nu b 3) = False := by cases b <;> decide
theorem nn_6_4 {b : Bool} : (nu b 6 = nu b 4) = False := by cases b <;> decide
theorem nn_6_5 {b : Bool} : (nu b 6 = nu b 5) = False := by cases b <;> decide
theorem nn_6_7 {b : Bool} : (nu b 6 = nu b 7) = False := by cases b <;> decide
theorem nn_6_8 {b : Bool} : (nu b 6 = nu b 8) = False := by cases b <;> decide
theorem nn_6_9 {b : Bool} : (nu b 6 = nu b 9) = False := by cases b <;> decide
theorem nn_6_10 {b : Bool} : (nu b 6 = nu b 10) = False := by cases b <;> decide
theorem nn_7_1 {b : Bool} : (nu b 7 = nu b 1) = False := by cases b <;> decide
theorem nn_7_3 {b : Bool} : (nu b 7 = nu b 3) = False := by cases b <;> decide
theorem nn_7_4 {b : Bool} : (nu b 7 = nu b 4) = False := by cases b <;> decide
theorem nn_7_5 {b : Bool} : (nu b 7 = nu b 5) = False := by cases b <;> decide
theorem nn_7_6 {b : Bool} : (nu b 7 = nu b 6) = False := by cases b <;> decide
theorem nn_7_8 {b : Bool} : (nu b 7 = nu b 8) = False := by cases b <;> decide
theorem nn_7_9 {b : Bool} : (nu b 7 = nu b 9) = False := by cases b <;> decide
theorem nn_7_10 {b : Bool} : (nu b 7 = nu b 10) = False := by cases b <;> decide
theorem nn_8_1 {b : Bool} : (nu b 8 = nu b 1) = False := by cases b <;> decide
theorem nn_8_3 {b : Bool} : (nu b 8 = nu b 3) = False := by cases b <;> decide
theorem nn_8_4 {b : Bool} : (nu b 8 = nu b 4) = False := by cases b <;> decide
theorem nn_8_5 {b : Bool} : (nu b 8 = nu b 5) = False := by cases b <;> decide
theorem nn_8_6 {b : Bool} : (nu b 8 = nu b 6) = False := by cases b <;> decide
theorem nn_8_7 {b : Bool} : (nu b 8 = nu b 7) = False := by cases b <;> decide
theorem nn_8_9 {b : Bool} : (nu b 8 = nu b 9) = False := by cases b <;> decide
theorem nn_8_10 {b : Bool} : (nu b 8 = nu b 10) = False := by cases b <;> decide
theorem nn_9_1 {b : Bool} : (nu b 9 = nu b 1) = False := by cases b <;> decide
theorem nn_9_3 {b : Bool} : (nu b 9 = nu b 3) = False := by cases b <;> decide
theorem nn_9_4 {b : Bool} : (nu b 9 = nu b 4) = False := by cases b <;> decide
theorem nn_9_5 {b : Bool} : (nu b 9 = nu b 5) = False := by cases b <;> decide
theorem nn_9_6 {b : Bool} : (nu b 9 = nu b 6) = False := by cases b <;> decide
theorem nn_9_7 {b : Bool} : (nu b 9 = nu b 7) = False := by cases b <;> decide
theorem nn_9_8 {b : Bool} : (nu b 9 = nu b 8) = False := by cases b <;> decide
theorem nn_9_10 {b : Bool} : (nu b 9 = nu b 10) = False := by cases b <;> decide
theorem nn_10_1 {b : Bool} : (nu b 10 = nu b 1) = False := by cases b <;> decide
theorem nn_10_3 {b : Bool} : (nu b 10 = nu b 3) = False := by cases b <;> decide
theorem nn_10_4 {b : Bool} : (nu b 10 = nu b 4) = False := by cases b <;> decide
theorem nn_10_5 {b : Bool} : (nu b 10 = nu b 5) = False := by cases b <;> decide
theorem nn_10_6 {b : Bool} : (nu b 10 = nu b 6) = False := by cases b <;> decide
theorem nn_10_7 {b : Bool} : (nu b 10 = nu b 7) = False := by cases b <;> decide
theorem nn_10_8 {b : Bool} : (nu b 10 = nu b 8) = False := by cases b <;> decide
theorem nn_10_9 {b : Bool} : (nu b 10 = nu b 9) = False := by cases b <;> decide
theorem nz_1_0 {b : Bool} : (0 = nu b 1) = False := by cases b <;> decide
theorem nz_1_1 {b : Bool} : (1 = nu b 1) = False := by cases b <;> decide
theorem nz_1_2 {b : Bool} : (2 = nu b 1) = False := by cases b <;> decide
theorem nz_3_0 {b : Bool} : (0 = nu b 3) = False := by cases b <;> decide
theorem nz_3_1 {b : Bool} : (1 = nu b 3) = False := by cases b <;> decide
theorem nz_3_2 {b : Bool} : (2 = nu b 3) = False := by cases b <;> decide
theorem nz_4_0 {b : Bool} : (0 = nu b 4) = False := by cases b <;> decide
theorem nz_4_1 {b : Bool} : (1 = nu b 4) = False := by cases b <;> decide
theorem nz_4_2 {b : Bool} : (2 = nu b 4) = False := by cases b <;> decide
theorem nz_5_0 {b : Bool} : (0 = nu b 5) = False := by cases b <;> decide
theorem nz_5_1 {b : Bool} : (1 = nu b 5) = False := by cases b <;> decide
theorem nz_5_2 {b : Bool} : (2 = nu b 5) = False := by cases b <;> decide
theorem nz_6_0 {b : Bool} : (0 = nu b 6) = False := by cases b <;> decide
theorem nz_6_1 {b : Bool} : (1 = nu b 6) = False := by cases b <;> decide
theorem nz_6_2 {b : Bool} : (2 = nu b 6) = False := by cases b <;> decide
theorem nz_7_0 {b : Bool} : (0 = nu b 7) = False := by cases b <;> decide
theorem nz_7_1 {b : Bool} : (1 = nu b 7) = False := by cases b <;> decide
theorem nz_7_2 {b : Bool} : (2 = nu b 7) = False := by cases b <;> decide
theorem nz_8_0 {b : Bool} : (0 = nu b 8) = False := by cases b <;> decide
theorem nz_8_1 {b : Bool} : (1 = nu b 8) = False := by cases b <;> decide
theorem nz_8_2 {b : Bool} : (2 = nu b 8) = False := by cases b <;> decide
theorem nz_9_0 {b : Bool} : (0 = nu b 9) = False := by cases b <;> decide
theorem nz_9_1 {b : Bool} : (1 = nu b 9) = False := by cases b <;> decide
theorem nz_9_2 {b : Bool} : (2 = nu b 9) = False := by cases b <;> decide
theorem nz_10_0 {b : Bool} : (0 = nu b 10) = False := by cases b <;> decide
theorem nz_10_1 {b : Bool} : (1 = nu b 10) = False := by cases b <;> decide
theorem nz_10_2 {b : Bool} : (2 = nu b 10) = False := by cases b <;> decide
theorem cs_Z {h : xm_H} {D : xp_D} (q : CS h D) (b : Bool) {i : Nat} (hi : i < xd_n D 0) : xm_R h (xd_A D 0 (ra b)) i = some (xd_A D (rk b) i) ∧ xm_K h (xd_A D (rk b) i) = 6 ∧ xm_B h ≤ xd_A D (rk b) i ∧ xd_E D (xd_A D (rk b) i) 0 = some (nu b 0, i) ∧ xd_E D (xd_A D (rk b) i) 1 = some (nu b 1, i) ∧ xd_E D (xd_A D (rk b) i) 2 = some (nu b 2, i) ∧ xd_E D (xd_A D (rk b) i) 3 = some (nu b 3, i) ∧ xd_E D (xd_A D (rk b) i) 4 = some (nu b 4, i) ∧ xd_E D (xd_A D (rk b) i) 5 = some (nu b 5, i) ∧ xd_E D (xd_A D (rk b) i) 6 = some (nu b 6, i) ∧ xd_E D (xd_A D (rk b) i) 7 = some (nu b 7, i) ∧ xd_E D (xd_A D (rk b) i) 9 = some (nu b 9, i) ∧ xd_E D (xd_A D (rk b) i) 10 = some (nu b 10, i) ∧ xd_L D (xd_A D (rk b) i) 8 = some (nu b 8, i) := by
  cases b
  · exact cs_T q hi
  · exact cs_L q hi
theorem cs_ZA {h : xm_H} {D : xp_D} (q : CS h D) (b : Bool) : xm_K h (xd_A D 0 (ra b)) = 110 ∧ xm_N h (xd_A D 0 (ra b)) = 12 := by
  cases b
  · exact ⟨(cs_f1 q).2.1, (cs_f1 q).2.2.1⟩
  · exact ⟨(cs_f0 q).2.1, (cs_f0 q).2.2.1⟩
theorem l_fit {w : Int64} (h : -2147483648 ≤ w.toInt ∧ w.toInt < 2147483648) : w.toInt32.toInt64 = w := by
  apply Int64.toInt_inj.mp
  rw [Int32.toInt_toInt64, Int64.toInt_toInt32]
  exact Int.bmod_eq_of_le (by omega) (by omega)
theorem l_grow {a x m : Int32} : (a.toInt64 + x.toInt64 * m.toInt64).toInt32 = a + x * m := by
  rw [Int64.toInt32_add, Int64.toInt32_mul, l2i, l2i, l2i]
theorem l_growfit {a x m : Int32} (h1 : 0 ≤ a.toInt ∧ a.toInt ≤ 1000000) (h2 : 0 ≤ x.toInt ∧ x.toInt ≤ 100000) (h3 : 0 ≤ m.toInt ∧ m.toInt ≤ 9) : (a.toInt64 + x.toInt64 * m.toInt64).toInt32.toInt64 = a.toInt64 + x.toInt64 * m.toInt64 := by
  have e1 : 0 ≤ x.toInt * m.toInt := Int.mul_nonneg h2.1 h3.1
  have e2 : x.toInt * m.toInt ≤ 100000 * 9 := Int.mul_le_mul h2.2 h3.2 h3.1 (by decide)
  have e3 : (x.toInt64 * m.toInt64).toInt = x.toInt * m.toInt := by
    rw [Int64.toInt_mul, Int32.toInt_toInt64, Int32.toInt_toInt64]
    exact Int.bmod_eq_of_le (by omega) (by omega)
  have e4 : (a.toInt64 + x.toInt64 * m.toInt64).toInt = a.toInt + x.toInt * m.toInt := by
    rw [Int64.toInt_add, e3, Int32.toInt_toInt64]
    exact Int.bmod_eq_of_le (by omega) (by omega)
  exact l_fit (by rw [e4]; omega)
section C4
variable {d : Nat} {h : xm_H} {D : xp_D} {F : xp_F} {b : Bool}
def sq_some (b : Bool) (F : xp_F) (l : Nat) (g : Int32) : Int32 := mn (F (nu b 3) l * g) (400 * F (nu b 3) l - F (nu b 4) l)
def sq_grows (b : Bool) (l : Nat) (g m : Int32) (F : xp_F) : xp_F := if 0 < sq_some b F l g then xm_u2 (xm_u2 F (nu b 4) l (F (nu b 4) l + sq_some b F l g)) (nu b 8) l (F (nu b 8) l + sq_some b F l g * m) else F
theorem c184 (q : CS h D) {l : Nat} (hl : l < xd_n D 0) {g m : Int32} (hv : 0 < sq_some b F l g → ((F (nu b 8) l).toInt64 + (sq_some b F l g).toInt64 * m.toInt64).toInt32.toInt64 = (F (nu b 8) l).toInt64 + (sq_some b F l g).toInt64 * m.toInt64) : xm_met (d + 1) 184 [.ref (xd_A D (rk b) l), .int g, .int m] (xp_c h D F) = some (.inl none, xp_c h D (sq_grows b l g m F)) := by
  have o1 := cs_Z q b hl
  have j1 : mn (F (nu b 3) l * g) (400 * F (nu b 3) l - F (nu b 4) l) = sq_some b F l g := rfl
  unfold xm_met sq_grows
  by_cases c1 : 0 < sq_some b F l g
  · have hv := hv c1
    simp only [ite_not, ite_self, w8_nil, ok01, ite10, rf_rv, rf_ref, rf_cat, rf_lk2, rf_some, rf_none, w_add, w_cons, cr_int, cr_long, cr_ref, cr_null, is_ref, is_null, l2_int, l2_ref, l2_null, l2_none, ent_nil, ent_int, ent_ref, ent_null, ent_rf, ent_long, ok_0, ok_1, af_ret, af_void, List.tail_cons, List.tail_nil, Nat.reduceAdd, Nat.reduceLeDiff, not_false_eq_true, not_true_eq_false, and_self, and_true, true_and, ne_eq, or_true, true_or, or_false, false_or, eq_self, Nat.reduceEqDiff, ↓reduceIte, false_and, and_false, Nat.le_refl, Nat.zero_le, nz_1, nz_2, nz_3, nz_4, nz_5, nz_6, nz_8, nz_10, nz_12, nz_20, nz_30, nz_60, nz_100, mc_B, mc_Z, mc_S, mc_C, mc_K, mc_N, mc_R, mc_I, mc_L, va_Is, va_Ls, va_us, va_iss, u2_ap, sp_isLedge, sp_isLadder, sp_isPerson, sp_isLiving, sp_isLot, sp_isThere, sp_isSpan, mc_s (cs_inj q), mc_sL (cs_inj q), nn_1_3, nn_1_4, nn_1_5, nn_1_6, nn_1_7, nn_1_8, nn_1_9, nn_1_10, nn_3_1, nn_3_4, nn_3_5, nn_3_6, nn_3_7, nn_3_8, nn_3_9, nn_3_10, nn_4_1, nn_4_3, nn_4_5, nn_4_6, nn_4_7, nn_4_8, nn_4_9, nn_4_10, nn_5_1, nn_5_3, nn_5_4, nn_5_6, nn_5_7, nn_5_8, nn_5_9, nn_5_10, nn_6_1, nn_6_3, nn_6_4, nn_6_5, nn_6_7, nn_6_8, nn_6_9, nn_6_10, nn_7_1, nn_7_3, nn_7_4, nn_7_5, nn_7_6, nn_7_8, nn_7_9, nn_7_10, nn_8_1, nn_8_3, nn_8_4, nn_8_5, nn_8_6, nn_8_7, nn_8_9, nn_8_10, nn_9_1, nn_9_3, nn_9_4, nn_9_5, nn_9_6, nn_9_7, nn_9_8, nn_9_10, nn_10_1, nn_10_3, nn_10_4, nn_10_5, nn_10_6, nn_10_7, nn_10_8, nn_10_9, nz_1_0, nz_1_1, nz_1_2, nz_3_0, nz_3_1, nz_3_2, nz_4_0, nz_4_1, nz_4_2, nz_5_0, nz_5_1, nz_5_2, nz_6_0, nz_6_1, nz_6_2, nz_7_0, nz_7_1, nz_7_2, nz_8_0, nz_8_1, nz_8_2, nz_9_0, nz_9_1, nz_9_2, nz_10_0, nz_10_1, nz_10_2, r184_0, r184_1, r184_4, r184_5, r184_6, r184_9, r184_10, r184_13, r184_14, r184_15, r184_18, r184_19, r184_22, r184_23, r184_27, r184_28, r184_29, r184_30, r184_33, r184_34, r184_35, r184_38, r184_39, r184_40, r184_43, r184_44, r184_45, r184_46, r184_47, r184_48, r184_49, r184_52, r184_24, o1, mn_def, j1, c1, hv]
    rw [l_grow]
  · simp only [ite_not, ite_self, w8_nil, ok01, ite10, rf_rv, rf_ref, rf_cat, rf_lk2, rf_some, rf_none, w_add, w_cons, cr_int, cr_long, cr_ref, cr_null, is_ref, is_null, l2_int, l2_ref, l2_null, l2_none, ent_nil, ent_int, ent_ref, ent_null, ent_rf, ent_long, ok_0, ok_1, af_ret, af_void, List.tail_cons, List.tail_nil, Nat.reduceAdd, Nat.reduceLeDiff, not_false_eq_true, not_true_eq_false, and_self, and_true, true_and, ne_eq, or_true, true_or, or_false, false_or, eq_self, Nat.reduceEqDiff, ↓reduceIte, false_and, and_false, Nat.le_refl, Nat.zero_le, nz_1, nz_2, nz_3, nz_4, nz_5, nz_6, nz_8, nz_10, nz_12, nz_20, nz_30, nz_60, nz_100, mc_B, mc_Z, mc_S, mc_C, mc_K, mc_N, mc_R, mc_I, mc_L, va_Is, va_Ls, va_us, va_iss, u2_ap, sp_isLedge, sp_isLadder, sp_isPerson, sp_isLiving, sp_isLot, sp_isThere, sp_isSpan, mc_s (cs_inj q), mc_sL (cs_inj q), nn_1_3, nn_1_4, nn_1_5, nn_1_6, nn_1_7, nn_1_8, nn_1_9, nn_1_10, nn_3_1, nn_3_4, nn_3_5, nn_3_6, nn_3_7, nn_3_8, nn_3_9, nn_3_10, nn_4_1, nn_4_3, nn_4_5, nn_4_6, nn_4_7, nn_4_8, nn_4_9, nn_4_10, nn_5_1, nn_5_3, nn_5_4, nn_5_6, nn_5_7, nn_5_8, nn_5_9, nn_5_10, nn_6_1, nn_6_3, nn_6_4, nn_6_5, nn_6_7, nn_6_8, nn_6_9, nn_6_10, nn_7_1, nn_7_3, nn_7_4, nn_7_5, nn_7_6, nn_7_8, nn_7_9, nn_7_10, nn_8_1, nn_8_3, nn_8_4, nn_8_5, nn_8_6, nn_8_7, nn_8_9, nn_8_10, nn_9_1, nn_9_3, nn_9_4, nn_9_5, nn_9_6, nn_9_7, nn_9_8, nn_9_10, nn_10_1, nn_10_3, nn_10_4, nn_10_5, nn_10_6, nn_10_7, nn_10_8, nn_10_9, nz_1_0, nz_1_1, nz_1_2, nz_3_0, nz_3_1, nz_3_2, nz_4_0, nz_4_1, nz_4_2, nz_5_0, nz_5_1, nz_5_2, nz_6_0, nz_6_1, nz_6_2, nz_7_0, nz_7_1, nz_7_2, nz_8_0, nz_8_1, nz_8_2, nz_9_0, nz_9_1, nz_9_2, nz_10_0, nz_10_1, nz_10_2, r184_0, r184_1, r184_4, r184_5, r184_6, r184_9, r184_10, r184_13, r184_14, r184_15, r184_18, r184_19, r184_22, r184_23, r184_27, r184_28, r184_29, r184_30, r184_33, r184_34, r184_35, r184_38, r184_39, r184_40, r184_43, r184_44, r184_45, r184_46, r184_47, r184_48, r184_49, r184_52, r184_24, o1, mn_def, j1, c1]
/-- ledges as they may be -/
def GI (b : Bool) (n : Nat) (F : xp_F) : Prop := ∀ l, l < n → rg (F (nu b 3) l) 9 ∧ 0 ≤ (F (nu b 4) l).toInt ∧ (F (nu b 4) l).toInt ≤ 400 * (F (nu b 3) l).toInt ∧ 0 ≤ (F (nu b 8) l).toInt ∧ (F (nu b 8) l).toInt ≤ 9 * (F (nu b 4) l).toInt
/-- flowers as they may be -/
def GB (F : xp_F) : Prop := ∀ k, k < 6 → rg (F 1 k) 9 ∧ rg (F 2 k) 9
theorem mn_ti {a b : Int32} : (mn a b).toInt = min a.toInt b.toInt := by
  unfold mn
  by_cases h : b < a
  · rw [if_pos h]
    have := Int32.lt_iff_toInt_lt.mp h
    omega
  · rw [if_neg h]
    have h2 : ¬ b.toInt < a.toInt := fun z => h (Int32.lt_iff_toInt_lt.mpr z)
    omega
theorem mx_ti {a b : Int32} : (mx a b).toInt = max a.toInt b.toInt := by
  unfold mx
  by_cases h : a < b
  · rw [if_pos h]
    have := Int32.lt_iff_toInt_lt.mp h
    omega
  · rw [if_neg h]
    have h2 : ¬ a.toInt < b.toInt := fun z => h (Int32.lt_iff_toInt_lt.mpr z)
    omega
theorem some_le {n l : Nat} {g : Int32} (a : GI b n F) (hl : l < n) (hg : rg g 9) (c : 0 < sq_some b F l g) : 0 < (sq_some b F l g).toInt ∧ (sq_some b F l g).toInt ≤ 3600 ∧ (sq_some b F l g).toInt + (F (nu b 4) l).toInt ≤ 400 * (F (nu b 3) l).toInt := by
  obtain ⟨⟨s1, s2⟩, k1, k2, m1, m2⟩ := a l hl
  have c' := Int32.lt_iff_toInt_lt.mp c
  rw [show (0 : Int32).toInt = 0 from rfl] at c'
  have e1 : (400 * F (nu b 3) l).toInt = 400 * (F (nu b 3) l).toInt := by
    rw [ti_mul (by rw [show (400 : Int32).toInt = 400 from rfl]; omega)]
    rfl
  have e2 : (400 * F (nu b 3) l - F (nu b 4) l).toInt = 400 * (F (nu b 3) l).toInt - (F (nu b 4) l).toInt := by
    rw [ti_sub (by rw [e1]; omega), e1]
  have e3 : (sq_some b F l g).toInt ≤ (400 * F (nu b 3) l - F (nu b 4) l).toInt := by
    unfold sq_some
    rw [mn_ti]
    omega
  omega
theorem GI.grows {n l : Nat} {g m : Int32} (a : GI b n F) (hl : l < n) (hg : rg g 9) (hm : rg m 9) : GI b n (sq_grows b l g m F) := by
  unfold sq_grows
  by_cases c : 0 < sq_some b F l g
  case neg =>
    rw [if_neg c]
    exact a
  rw [if_pos c]
  obtain ⟨c1, c2, c3⟩ := some_le a hl hg c
  obtain ⟨⟨s1, s2⟩, k1, k2, m1, m2⟩ := a l hl
  obtain ⟨h1, h2⟩ := hm
  have e1 : 0 ≤ (sq_some b F l g).toInt * m.toInt := Int.mul_nonneg (by omega) h1
  have e2 : (sq_some b F l g).toInt * m.toInt ≤ (sq_some b F l g).toInt * 9 := Int.mul_le_mul_of_nonneg_left (by omega) (by omega)
  have e3 : (F (nu b 4) l + sq_some b F l g).toInt = (F (nu b 4) l).toInt + (sq_some b F l g).toInt := ti_add (by omega)
  have e4 : (sq_some b F l g * m).toInt = (sq_some b F l g).toInt * m.toInt := ti_mul (by omega)
  have e5 : (F (nu b 8) l + sq_some b F l g * m).toInt = (F (nu b 8) l).toInt + (sq_some b F l g).toInt * m.toInt := by
    rw [ti_add (by rw [e4]; omega), e4]
  intro k hk
  by_cases e : k = l
  · subst e
    simp only [u2_ap, nn_1_3, nn_1_4, nn_1_5, nn_1_6, nn_1_7, nn_1_8, nn_1_9, nn_1_10, nn_3_1, nn_3_4, nn_3_5, nn_3_6, nn_3_7, nn_3_8, nn_3_9, nn_3_10, nn_4_1, nn_4_3, nn_4_5, nn_4_6, nn_4_7, nn_4_8, nn_4_9, nn_4_10, nn_5_1, nn_5_3, nn_5_4, nn_5_6, nn_5_7, nn_5_8, nn_5_9, nn_5_10, nn_6_1, nn_6_3, nn_6_4, nn_6_5, nn_6_7, nn_6_8, nn_6_9, nn_6_10, nn_7_1, nn_7_3, nn_7_4, nn_7_5, nn_7_6, nn_7_8, nn_7_9, nn_7_10, nn_8_1, nn_8_3, nn_8_4, nn_8_5, nn_8_6, nn_8_7, nn_8_9, nn_8_10, nn_9_1, nn_9_3, nn_9_4, nn_9_5, nn_9_6, nn_9_7, nn_9_8, nn_9_10, nn_10_1, nn_10_3, nn_10_4, nn_10_5, nn_10_6, nn_10_7, nn_10_8, nn_10_9, nz_1_0, nz_1_1, nz_1_2, nz_3_0, nz_3_1, nz_3_2, nz_4_0, nz_4_1, nz_4_2, nz_5_0, nz_5_1, nz_5_2, nz_6_0, nz_6_1, nz_6_2, nz_7_0, nz_7_1, nz_7_2, nz_8_0, nz_8_1, nz_8_2, nz_9_0, nz_9_1, nz_9_2, nz_10_0, nz_10_1, nz_10_2, and_self, false_and, ↓reduceIte, e3, e5]
    exact ⟨⟨s1, s2⟩, by omega, by omega, by omega, by omega⟩
  · simp only [u2_ap, e, and_false, ↓reduceIte]
    exact a k hk
def sq_grow1 (b : Bool) (x : Int32) (l : Nat) (F : xp_F) : xp_F := sq_grows b l (F 1 (sp_bloom x (F (nu b 1) l)).toNatClampNeg) (F 2 (sp_bloom x (F (nu b 1) l)).toNatClampNeg) F
def sq_grow (b : Bool) (n : Nat) (x : Int32) (F : xp_F) : xp_F := xp_it (sq_grow1 b x) 0 n F
theorem bloom_lt {x y : Int32} (h : rg x 100000) : (sp_bloom x y).toNatClampNeg < 6 := by
  have := in_iff.mp (bloom_in (y := y) h)
  show (sp_bloom x y).toInt.toNat < 6
  omega
theorem grows_o {l o k : Nat} {g m : Int32} (h1 : ¬ o = nu b 4) (h2 : ¬ o = nu b 8) : sq_grows b l g m F o k = F o k := by
  unfold sq_grows
  split
  · rw [u2_ap, if_neg (fun z => h2 z.1), u2_ap, if_neg (fun z => h1 z.1)]
  · rfl
theorem nu_ge {k : Nat} (hk : k ≤ 10) : 3 ≤ nu b k := by
  have : ∀ (b : Bool) (k : Fin 11), 3 ≤ nu b k.val := by decide
  exact this b ⟨k, by omega⟩
theorem GB.ag {G : xp_F} (a : GB F) (h : ∀ o k, (o = 1 ∨ o = 2) → G o k = F o k) : GB G := fun k hk => by
  rw [h 1 k (Or.inl rfl), h 2 k (Or.inr rfl)]
  exact a k hk
theorem GB.grow1 {x : Int32} {l : Nat} (a : GB F) : GB (sq_grow1 b x l F) := a.ag (fun o k ho => grows_o (by have := @nu_ge b 4 (by decide); omega) (by have := @nu_ge b 8 (by decide); omega))
theorem c8 (q : CS h D) (hn : F 0 6 = Int32.ofNat (xd_n D 0)) {x : Int32} (hx : rg x 100000) (hg : GB F) (hi : GI b (xd_n D 0) F) : xm_met (d + 2) 8 [.ref (xd_X D), .ref (xd_A D 0 (ra b)), .int x] (xp_c h D F) = some (.inl none, xp_c h D (sq_grow b (xd_n D 0) x F)) := by
  have n12 := (cs_n q).1
  have za := cs_ZA q b
  obtain ⟨t, e, i1, i2, i3⟩ := xp_loop (P := fun k G t => xm_run (d + 2) 8 2 (some (.ref (xd_X D)) :: some (.ref (xd_A D 0 (ra b))) :: some (.int x) :: some (.int (Int32.ofNat k)) :: t) [] (xp_c h D G)) (n := xd_n D 0) (fun _ (G : xp_F) => G 0 6 = Int32.ofNat (xd_n D 0) ∧ GB G ∧ GI b (xd_n D 0) G) (f := sq_grow1 b x) (fun k G t hk hG => by
    obtain ⟨g1, g2, g3⟩ := hG
    have c0 := lt_nat hk (by omega)
    obtain ⟨j1, e1⟩ := in_nat (show k < 12 by omega) (by decide)
    have o1 := cs_Z q b hk
    have bi := bloom_in (y := G (nu b 1) k) hx
    have bl := bloom_lt (y := G (nu b 1) k) hx
    have v1 := (g2 _ bl).1
    have v2 := (g2 _ bl).2
    have e2 := @c184 (d + 0) h D G b q k hk (G 1 (sp_bloom x (G (nu b 1) k)).toNatClampNeg) (G 2 (sp_bloom x (G (nu b 1) k)).toNatClampNeg) (fun c => by
      obtain ⟨y1, y2, y3⟩ := some_le g3 hk v1 c
      obtain ⟨⟨s1, s2⟩, k1, k2, m1, m2⟩ := g3 k hk
      exact l_growfit ⟨m1, by omega⟩ ⟨by omega, by omega⟩ v2)
    refine ⟨t, ?_, ?_, g2.grow1, g3.grows hk v1 v2⟩
    · show xm_run _ _ _ _ _ _ = _
      rw [r8_2]
      unfold sq_grow1
      simp only [ite_not, ite_self, w8_nil, ok01, ite10, rf_rv, rf_ref, rf_cat, rf_lk2, rf_some, rf_none, w_add, w_cons, cr_int, cr_long, cr_ref, cr_null, is_ref, is_null, l2_int, l2_ref, l2_null, l2_none, ent_nil, ent_int, ent_ref, ent_null, ent_rf, ent_long, ok_0, ok_1, af_ret, af_void, List.tail_cons, List.tail_nil, Nat.reduceAdd, Nat.reduceLeDiff, not_false_eq_true, not_true_eq_false, and_self, and_true, true_and, ne_eq, or_true, true_or, or_false, false_or, eq_self, Nat.reduceEqDiff, ↓reduceIte, false_and, and_false, Nat.le_refl, Nat.zero_le, nz_1, nz_2, nz_3, nz_4, nz_5, nz_6, nz_8, nz_10, nz_12, nz_20, nz_30, nz_60, nz_100, mc_B, mc_Z, mc_S, mc_C, mc_K, mc_N, mc_R, mc_I, mc_L, va_Is, va_Ls, va_us, va_iss, u2_ap, sp_isLedge, sp_isLadder, sp_isPerson, sp_isLiving, sp_isLot, sp_isThere, sp_isSpan, cs_K q, cs_B q, mc_s (cs_inj q), cs_f4 q, cs_f2 q, cs_f3 q, r8_3, r8_4, r8_10, r8_11, r8_12, r8_13, r8_14, r8_17, r8_18, r8_19, r8_20, r8_21, r8_24, r8_27, r8_28, r8_29, r8_32, r8_33, r8_34, r8_35, r8_36, r8_39, r8_42, r8_43, r8_46, r8_49, r8_7, g1, c0, j1, e1, o1, za, bi, c9, e2, nat_succ]
    · rw [← g1]
      exact grows_o (by have := @nu_ge b 4 (by decide); omega) (by have := @nu_ge b 8 (by decide); omega)) _ 0 F [] (Nat.zero_add _) ⟨hn, hg, hi⟩
  have c0 : Int32.ofNat (xd_n D 0) ≤ Int32.ofNat (xd_n D 0) := Int32.le_refl _
  rw [show Int32.ofNat 0 = (0 : Int32) from rfl, show xp_it (sq_grow1 b x) 0 (xd_n D 0) F = sq_grow b (xd_n D 0) x F from rfl] at e
  rw [show xp_it (sq_grow1 b x) 0 (xd_n D 0) F = sq_grow b (xd_n D 0) x F from rfl] at i1
  unfold xm_met
  simp only [ite_not, ite_self, w8_nil, ok01, ite10, rf_rv, rf_ref, rf_cat, rf_lk2, rf_some, rf_none, w_add, w_cons, cr_int, cr_long, cr_ref, cr_null, is_ref, is_null, l2_int, l2_ref, l2_null, l2_none, ent_nil, ent_int, ent_ref, ent_null, ent_rf, ent_long, ok_0, ok_1, af_ret, af_void, List.tail_cons, List.tail_nil, Nat.reduceAdd, Nat.reduceLeDiff, not_false_eq_true, not_true_eq_false, and_self, and_true, true_and, ne_eq, or_true, true_or, or_false, false_or, eq_self, Nat.reduceEqDiff, ↓reduceIte, false_and, and_false, Nat.le_refl, Nat.zero_le, nz_1, nz_2, nz_3, nz_4, nz_5, nz_6, nz_8, nz_10, nz_12, nz_20, nz_30, nz_60, nz_100, r8_0, r8_1]
  rw [e, r8_2]
  simp only [ite_not, ite_self, w8_nil, ok01, ite10, rf_rv, rf_ref, rf_cat, rf_lk2, rf_some, rf_none, w_add, w_cons, cr_int, cr_long, cr_ref, cr_null, is_ref, is_null, l2_int, l2_ref, l2_null, l2_none, ent_nil, ent_int, ent_ref, ent_null, ent_rf, ent_long, ok_0, ok_1, af_ret, af_void, List.tail_cons, List.tail_nil, Nat.reduceAdd, Nat.reduceLeDiff, not_false_eq_true, not_true_eq_false, and_self, and_true, true_and, ne_eq, or_true, true_or, or_false, false_or, eq_self, Nat.reduceEqDiff, ↓reduceIte, false_and, and_false, Nat.le_refl, Nat.zero_le, nz_1, nz_2, nz_3, nz_4, nz_5, nz_6, nz_8, nz_10, nz_12, nz_20, nz_30, nz_60, nz_100, mc_B, mc_Z, mc_S, mc_C, mc_K, mc_N, mc_R, mc_I, mc_L, va_Is, va_Ls, va_us, va_iss, u2_ap, sp_isLedge, sp_isLadder, sp_isPerson, sp_isLiving, sp_isLot, sp_isThere, sp_isSpan, cs_K q, cs_B q, mc_s (cs_inj q), cs_f4 q, cs_f2 q, cs_f3 q, r8_3, r8_4, r8_7, r8_52, i1, c0]
end C4
