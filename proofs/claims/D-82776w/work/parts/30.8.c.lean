/-! a ledge is cut -/
set_option maxRecDepth 100000
theorem q_bd {x y z : Int} (hx : 0 ≤ x) (hx2 : x ≤ 32400) (hy : 0 ≤ y) (hy2 : y ≤ z) (hz : z ≤ 3600) (z0 : 0 < z) : 0 ≤ x * y ∧ x * y ≤ 116640000 ∧ 0 ≤ x * y / z ∧ x * y / z ≤ x := by
  have h1 : 0 ≤ x * y := Int.mul_nonneg hx hy
  have h2 : x * y ≤ x * z := Int.mul_le_mul_of_nonneg_left hy2 hx
  have h3 : x * y ≤ 32400 * 3600 := Int.mul_le_mul hx2 (by omega) hy (by decide)
  refine ⟨h1, by omega, Int.ediv_nonneg h1 (by omega), ?_⟩
  exact Int.ediv_le_of_le_mul z0 h2
/-- long arithmetic on ints that are small -/
theorem l_md {m y c : Int32} (hm : 0 ≤ m.toInt ∧ m.toInt ≤ 32400) (hy : 0 ≤ y.toInt) (hyc : y.toInt ≤ c.toInt) (hc : c.toInt ≤ 3600) (c0 : 0 < c.toInt) : m.toInt64 * y.toInt64 / c.toInt64 = (m * y / c).toInt64 ∧ (m * y / c).toInt = m.toInt * y.toInt / c.toInt ∧ 0 ≤ (m * y / c).toInt ∧ (m * y / c).toInt ≤ m.toInt := by
  obtain ⟨b1, b2, b3, b4⟩ := q_bd hm.1 hm.2 hy hyc hc c0
  have e1 : (m * y).toInt = m.toInt * y.toInt := ti_mul (by omega)
  have e2 : (m * y / c).toInt = m.toInt * y.toInt / c.toInt := by
    rw [ti_div (by rw [e1]; exact b1) c0, e1]
  refine ⟨?_, e2, by rw [e2]; exact b3, by rw [e2]; exact b4⟩
  apply Int64.toInt_inj.mp
  have f1 : (m.toInt64 * y.toInt64).toInt = m.toInt * y.toInt := by
    rw [Int64.toInt_mul, Int32.toInt_toInt64, Int32.toInt_toInt64]
    exact Int.bmod_eq_of_le (by omega) (by omega)
  rw [Int64.toInt_div, f1, Int32.toInt_toInt64, Int32.toInt_toInt64, e2, Int.tdiv_eq_ediv_of_nonneg b1]
  exact Int.bmod_eq_of_le (by omega) (by omega)
theorem l_ne {c : Int32} (c0 : 0 < c.toInt) : ¬ c.toInt64 = 0 := fun z => by
  have := congrArg Int64.toInt z
  rw [Int32.toInt_toInt64, show (0 : Int64).toInt = 0 from rfl] at this
  omega
theorem l_add {a b : Int32} (h : -2147483648 ≤ a.toInt + b.toInt ∧ a.toInt + b.toInt < 2147483648) : a.toInt64 + b.toInt64 = (a + b).toInt64 := by
  apply Int64.toInt_inj.mp
  rw [Int64.toInt_add, Int32.toInt_toInt64, Int32.toInt_toInt64, Int32.toInt_toInt64, ti_add h]
  exact Int.bmod_eq_of_le (by omega) (by omega)
theorem l_sub {a b : Int32} (h : -2147483648 ≤ a.toInt - b.toInt ∧ a.toInt - b.toInt < 2147483648) : a.toInt64 - b.toInt64 = (a - b).toInt64 := by
  apply Int64.toInt_inj.mp
  rw [Int64.toInt_sub, Int32.toInt_toInt64, Int32.toInt_toInt64, Int32.toInt_toInt64, ti_sub h]
  exact Int.bmod_eq_of_le (by omega) (by omega)
theorem l_mul {a b : Int32} (h : -2147483648 ≤ a.toInt * b.toInt ∧ a.toInt * b.toInt < 2147483648) : a.toInt64 * b.toInt64 = (a * b).toInt64 := by
  apply Int64.toInt_inj.mp
  rw [Int64.toInt_mul, Int32.toInt_toInt64, Int32.toInt_toInt64, Int32.toInt_toInt64, ti_mul h]
  exact Int.bmod_eq_of_le (by omega) (by omega)
theorem l_div {a b : Int32} (ha : 0 ≤ a.toInt) (hb : 0 < b.toInt) : a.toInt64 / b.toInt64 = (a / b).toInt64 := by
  apply Int64.toInt_inj.mp
  rw [Int64.toInt_div, Int32.toInt_toInt64, Int32.toInt_toInt64, Int32.toInt_toInt64, ti_div ha hb, Int.tdiv_eq_ediv_of_nonneg ha]
  have h1 : 0 ≤ a.toInt / b.toInt := Int.ediv_nonneg ha (by omega)
  have h2 : a.toInt / b.toInt ≤ a.toInt := Int.ediv_le_self _ ha
  have := Int32.toInt_lt a
  exact Int.bmod_eq_of_le (by omega) (by omega)
section C188
variable {d : Nat} {h : xm_H} {D : xp_D} {F : xp_F} {b : Bool}
/-- a ledge as it may be cut -/
def LKx (b : Bool) (l : Nat) (F : xp_F) : Prop := 0 < (F (nu b 4) l).toInt ∧ (F (nu b 4) l).toInt ≤ 3600 ∧ 0 ≤ (F (nu b 8) l).toInt ∧ (F (nu b 8) l).toInt ≤ 32400
def sq_mad (b : Bool) (F : xp_F) (l : Nat) (x : Int32) : Int32 := F (nu b 8) l * (F (nu b 4) l - x) / F (nu b 4) l
def sq_cutL (b : Bool) (F : xp_F) (l : Nat) (x : Int32) : xp_F := xm_u2 (xm_u2 (xm_u2 (xm_u2 F (nu b 5) l (x * 100 / F (nu b 4) l)) (nu b 4) l x) (nu b 8) l (F (nu b 8) l - sq_mad b F l x)) (nu b 9) l 1
theorem mad_bd {l : Nat} {x : Int32} (k : LKx b l F) (hx : 0 ≤ x.toInt ∧ x.toInt ≤ (F (nu b 4) l).toInt) : (F (nu b 8) l).toInt64 * (F (nu b 4) l - x).toInt64 / (F (nu b 4) l).toInt64 = (sq_mad b F l x).toInt64 ∧ 0 ≤ (sq_mad b F l x).toInt ∧ (sq_mad b F l x).toInt ≤ (F (nu b 8) l).toInt := by
  obtain ⟨k1, k2, k3, k4⟩ := k
  have e : (F (nu b 4) l - x).toInt = (F (nu b 4) l).toInt - x.toInt := ti_sub (by omega)
  obtain ⟨a1, -, a3, a4⟩ := l_md (m := F (nu b 8) l) (y := F (nu b 4) l - x) (c := F (nu b 4) l) ⟨k3, k4⟩ (by omega) (by omega) k2 k1
  exact ⟨a1, a3, a4⟩
theorem c188 (q : CS h D) {l : Nat} (hl : l < xd_n D 0) {x : Int32} (k : LKx b l F) (hx : 0 ≤ x.toInt ∧ x.toInt ≤ (F (nu b 4) l).toInt) : xm_met (d + 1) 188 [.ref (xd_A D (rk b) l), .int x] (xp_c h D F) = some (.inl (some (.long (sq_mad b F l x).toInt64)), xp_c h D (sq_cutL b F l x)) := by
  have o1 := cs_Z q b hl
  obtain ⟨m1, m2, m3⟩ := mad_bd k hx
  obtain ⟨k1, k2, k3, k4⟩ := k
  have n1 := l_ne k1
  have n2 : ¬ F (nu b 4) l = 0 := fun z => by rw [z] at k1; exact absurd k1 (by decide)
  have s1 : (F (nu b 8) l).toInt64 - (sq_mad b F l x).toInt64 = (F (nu b 8) l - sq_mad b F l x).toInt64 := l_sub (by omega)
  have s2 : ((F (nu b 8) l - sq_mad b F l x).toInt64).toInt32.toInt64 = (F (nu b 8) l - sq_mad b F l x).toInt64 := by rw [l2i]
  have o : xm_ok .boolean 1 = true := by decide
  unfold xm_met sq_cutL
  simp only [ite_not, ite_self, w8_nil, ok01, ite10, rf_rv, rf_ref, rf_cat, rf_lk2, rf_some, rf_none, w_add, w_cons, cr_int, cr_long, cr_ref, cr_null, is_ref, is_null, l2_int, l2_ref, l2_null, l2_none, ent_nil, ent_int, ent_ref, ent_null, ent_rf, ent_long, ok_0, ok_1, af_ret, af_void, List.tail_cons, List.tail_nil, Nat.reduceAdd, Nat.reduceLeDiff, not_false_eq_true, not_true_eq_false, and_self, and_true, true_and, ne_eq, or_true, true_or, or_false, false_or, eq_self, Nat.reduceEqDiff, ↓reduceIte, false_and, and_false, Nat.le_refl, Nat.zero_le, nz_1, nz_2, nz_3, nz_4, nz_5, nz_6, nz_8, nz_10, nz_12, nz_20, nz_30, nz_60, nz_100, mc_B, mc_Z, mc_S, mc_C, mc_K, mc_N, mc_R, mc_I, mc_L, va_Is, va_Ls, va_us, va_iss, u2_ap, sp_isLedge, sp_isLadder, sp_isPerson, sp_isLiving, sp_isLot, sp_isThere, sp_isSpan, mc_s (cs_inj q), mc_sL (cs_inj q), nn_1_3, nn_1_4, nn_1_5, nn_1_6, nn_1_7, nn_1_8, nn_1_9, nn_1_10, nn_3_1, nn_3_4, nn_3_5, nn_3_6, nn_3_7, nn_3_8, nn_3_9, nn_3_10, nn_4_1, nn_4_3, nn_4_5, nn_4_6, nn_4_7, nn_4_8, nn_4_9, nn_4_10, nn_5_1, nn_5_3, nn_5_4, nn_5_6, nn_5_7, nn_5_8, nn_5_9, nn_5_10, nn_6_1, nn_6_3, nn_6_4, nn_6_5, nn_6_7, nn_6_8, nn_6_9, nn_6_10, nn_7_1, nn_7_3, nn_7_4, nn_7_5, nn_7_6, nn_7_8, nn_7_9, nn_7_10, nn_8_1, nn_8_3, nn_8_4, nn_8_5, nn_8_6, nn_8_7, nn_8_9, nn_8_10, nn_9_1, nn_9_3, nn_9_4, nn_9_5, nn_9_6, nn_9_7, nn_9_8, nn_9_10, nn_10_1, nn_10_3, nn_10_4, nn_10_5, nn_10_6, nn_10_7, nn_10_8, nn_10_9, nz_1_0, nz_1_1, nz_1_2, nz_3_0, nz_3_1, nz_3_2, nz_4_0, nz_4_1, nz_4_2, nz_5_0, nz_5_1, nz_5_2, nz_6_0, nz_6_1, nz_6_2, nz_7_0, nz_7_1, nz_7_2, nz_8_0, nz_8_1, nz_8_2, nz_9_0, nz_9_1, nz_9_2, nz_10_0, nz_10_1, nz_10_2, r188_0, r188_1, r188_4, r188_5, r188_8, r188_9, r188_10, r188_11, r188_12, r188_13, r188_16, r188_17, r188_18, r188_19, r188_20, r188_21, r188_23, r188_24, r188_25, r188_28, r188_29, r188_32, r188_33, r188_34, r188_37, r188_38, r188_39, r188_42, r188_43, r188_44, r188_47, r188_48, r188_49, r188_52, r188_53, o1, m1, n1, n2, s1, s2, l2i, o]
end C188
