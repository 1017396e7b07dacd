/-! the component reads letters -/
set_option maxRecDepth 100000
section RDL
variable {d : Nat} {h h' : xm_H} {D : xp_D} {F G : xp_F} {c : Nat → Int32} {T : Nat} {z s : Nat}
/-- a string that stands: at a, its signs at b, m of them, f -/
def SX (h : xm_H) (D : xp_D) (a m : Nat) (f : Nat → Int32) : Prop := ∃ b, xm_K h a = 28 ∧ xm_R h a 0 = some b ∧ xm_I h a 1 = 0 ∧ xm_K h b = 101 ∧ xm_N h b = m ∧ (∀ j, j < m → xm_I h b j = f j) ∧ ∀ p, xd_E D a p = none ∧ xd_E D b p = none
def sgl : List Int32 := [59, 43, 45, 42, 47, 40, 41, 60, 61, 62]
def sgf (j : Nat) : Int32 := sgl.getD j 0
/-- the strings of the component -/
def SW (h : xm_H) (D : xp_D) : Prop := xm_C h 100 = .int 1 ∧ (∃ a, xm_C h 21 = .ref a ∧ SX h D a 10 sgf) ∧ ∀ k, k < 21 → ∃ a, xm_R h (xd_A D 0 14) k = some a ∧ SX h D a (wln k) (wdf k)
theorem SX.sm (w : HW h D) (x : hx z s h h') {a m : Nat} {f : Nat → Int32} (q : SX h D a m f) : SM (xp_c h' D G) a m f := by
  obtain ⟨b, a1, a2, a3, a4, a5, a6, a7⟩ := q
  refine ⟨b, ?_, ?_, ?_, ?_, ?_, fun j hj => ?_⟩
  · rw [mc_K]; exact x.K w a1 (by decide)
  · rw [mc_R, x.R w a1 (by decide)]; exact a2
  · rw [mc_I, (a7 1).1, va_In, x.I w a1 (by decide)]; exact a3
  · rw [mc_K]; exact x.K w a4 (by decide)
  · rw [mc_N]; exact x.N w a4 (by decide) a5
  · rw [mc_I, (a7 j).2, va_In, x.I w a4 (by decide)]; exact a6 j hj
/-- the component's tape -/
def TC (F : xp_F) (c : Nat → Int32) (T : Nat) : Prop := TA c T ∧ F 0 36 = Int32.ofNat T ∧ ∀ i, i < T → F 81 i &&& 255 = c i
/-- but for the reader's ints the same -/
def fr86 (F G : xp_F) : Prop := ∀ o k, ¬ o = 86 → G o k = F o k
theorem fr86.rf : fr86 F F := fun _ _ _ => rfl
theorem fr86.tr {H : xp_F} (a : fr86 F G) (b : fr86 G H) : fr86 F H := fun o k h => (b o k h).trans (a o k h)
theorem fr86.u (a : fr86 F G) {k : Nat} {v : Int32} : fr86 F (xm_u2 G 86 k v) := fun o j h => by
  rw [u2_ap, if_neg (by omega)]
  exact a o j h
theorem TC.fr (a : TC F c T) (b : fr86 F G) : TC G c T := ⟨a.1, (b _ _ (by omega)).trans a.2.1, fun i hi => by rw [b _ _ (by omega)]; exact a.2.2 i hi⟩
theorem c70 (q : CS h D) (tc : TC F c T) {i : Nat} (hi : i ≤ 700) (ha : F 86 0 = Int32.ofNat i) : xm_met d 70 [.ref (xd_A D 0 15)] (xp_c h D F) = some (.inl (some (.int (c i))), xp_c h D F) := by
  obtain ⟨t1, t2, t3⟩ := tc
  have t600 := t1.1
  unfold xm_met
  by_cases c1 : i < T
  · have c2 := lt_nat c1 (by omega)
    obtain ⟨i1, i2⟩ := in_nat (show i < 600 by omega) (by decide)
    have e := t3 i c1
    simp only [ite_not, ite_self, w8_nil, ok01, ite10, rf_rv, rf_ref, rf_cat, rf_lk2, rf_some, rf_none, w_add, w_cons, cr_int, cr_long, cr_ref, cr_null, is_ref, is_null, l2_int, l2_ref, l2_null, l2_none, ent_nil, ent_int, ent_ref, ent_null, ent_rf, ent_long, ok_0, ok_1, af_ret, af_void, List.tail_cons, List.tail_nil, Nat.reduceAdd, Nat.reduceLeDiff, not_false_eq_true, not_true_eq_false, and_self, and_true, true_and, ne_eq, or_true, true_or, or_false, false_or, eq_self, Nat.reduceEqDiff, ↓reduceIte, false_and, and_false, Nat.le_refl, Nat.zero_le, nz_1, nz_2, nz_3, nz_4, nz_5, nz_6, nz_8, nz_10, nz_12, nz_20, nz_30, nz_60, nz_100, mc_B, mc_Z, mc_S, mc_C, mc_K, mc_N, mc_R, mc_I, mc_L, va_Is, va_Ls, va_us, va_iss, u2_ap, sp_isLedge, sp_isLadder, sp_isPerson, sp_isLiving, sp_isLot, sp_isThere, sp_isSpan, cs_f15 q, cs_rd q, cs_K q, cs_f10 q, cs_f9 q, r70_0, r70_1, r70_4, r70_5, r70_8, r70_14, r70_15, r70_18, r70_21, r70_22, r70_25, r70_26, r70_29, r70_30, r70_33, r70_34, r70_11, ha, t2, c2, i1, i2, e]
  · have c2 : Int32.ofNat T ≤ Int32.ofNat i := Int32.le_iff_toInt_le.mpr (by rw [ti_nat (by omega), ti_nat (by omega)]; omega)
    have e := t1.2.1 i (by omega)
    simp only [ite_not, ite_self, w8_nil, ok01, ite10, rf_rv, rf_ref, rf_cat, rf_lk2, rf_some, rf_none, w_add, w_cons, cr_int, cr_long, cr_ref, cr_null, is_ref, is_null, l2_int, l2_ref, l2_null, l2_none, ent_nil, ent_int, ent_ref, ent_null, ent_rf, ent_long, ok_0, ok_1, af_ret, af_void, List.tail_cons, List.tail_nil, Nat.reduceAdd, Nat.reduceLeDiff, not_false_eq_true, not_true_eq_false, and_self, and_true, true_and, ne_eq, or_true, true_or, or_false, false_or, eq_self, Nat.reduceEqDiff, ↓reduceIte, false_and, and_false, Nat.le_refl, Nat.zero_le, nz_1, nz_2, nz_3, nz_4, nz_5, nz_6, nz_8, nz_10, nz_12, nz_20, nz_30, nz_60, nz_100, mc_B, mc_Z, mc_S, mc_C, mc_K, mc_N, mc_R, mc_I, mc_L, va_Is, va_Ls, va_us, va_iss, u2_ap, sp_isLedge, sp_isLadder, sp_isPerson, sp_isLiving, sp_isLot, sp_isThere, sp_isSpan, cs_f15 q, cs_rd q, cs_K q, cs_f10 q, cs_f9 q, r70_0, r70_1, r70_4, r70_5, r70_8, r70_14, r70_15, r70_18, r70_21, r70_22, r70_25, r70_26, r70_29, r70_30, r70_33, r70_34, r70_11, ha, t2, c2, e]
theorem c71 {a : Nat} {x : Int32} : xm_met d 71 [.ref a, .int x] h = some (.inl (some (.int (if tL x then 1 else 0))), h) := by
  have o0 : xm_ok .boolean 0 = true := by decide
  have o1 : xm_ok .boolean 1 = true := by decide
  unfold xm_met
  by_cases a1 : x < 97
  · have a2 : ¬ 97 ≤ x := Int32.not_le.mpr a1
    by_cases b1 : x < 65
    · have b2 : ¬ 65 ≤ x := Int32.not_le.mpr b1
      simp only [ite_not, ite_self, w8_nil, ok01, ite10, rf_rv, rf_ref, rf_cat, rf_lk2, rf_some, rf_none, w_add, w_cons, cr_int, cr_long, cr_ref, cr_null, is_ref, is_null, l2_int, l2_ref, l2_null, l2_none, ent_nil, ent_int, ent_ref, ent_null, ent_rf, ent_long, ok_0, ok_1, af_ret, af_void, List.tail_cons, List.tail_nil, Nat.reduceAdd, Nat.reduceLeDiff, not_false_eq_true, not_true_eq_false, and_self, and_true, true_and, ne_eq, or_true, true_or, or_false, false_or, eq_self, Nat.reduceEqDiff, ↓reduceIte, false_and, and_false, Nat.le_refl, Nat.zero_le, nz_1, nz_2, nz_3, nz_4, nz_5, nz_6, nz_8, nz_10, nz_12, nz_20, nz_30, nz_60, nz_100, r71_0, r71_1, r71_6, r71_7, r71_12, r71_13, r71_18, r71_19, r71_24, r71_25, r71_28, r71_29, r71_3, r71_9, r71_15, r71_21, tL, a1, a2, b1, b2, o0]
    · have b2 : 65 ≤ x := Int32.not_lt.mp b1
      by_cases d1 : 90 < x
      · have d2 : ¬ x ≤ 90 := Int32.not_le.mpr d1
        simp only [ite_not, ite_self, w8_nil, ok01, ite10, rf_rv, rf_ref, rf_cat, rf_lk2, rf_some, rf_none, w_add, w_cons, cr_int, cr_long, cr_ref, cr_null, is_ref, is_null, l2_int, l2_ref, l2_null, l2_none, ent_nil, ent_int, ent_ref, ent_null, ent_rf, ent_long, ok_0, ok_1, af_ret, af_void, List.tail_cons, List.tail_nil, Nat.reduceAdd, Nat.reduceLeDiff, not_false_eq_true, not_true_eq_false, and_self, and_true, true_and, ne_eq, or_true, true_or, or_false, false_or, eq_self, Nat.reduceEqDiff, ↓reduceIte, false_and, and_false, Nat.le_refl, Nat.zero_le, nz_1, nz_2, nz_3, nz_4, nz_5, nz_6, nz_8, nz_10, nz_12, nz_20, nz_30, nz_60, nz_100, r71_0, r71_1, r71_6, r71_7, r71_12, r71_13, r71_18, r71_19, r71_24, r71_25, r71_28, r71_29, r71_3, r71_9, r71_15, r71_21, tL, a1, a2, b1, b2, d1, d2, o0]
      · have d2 : x ≤ 90 := Int32.not_lt.mp d1
        simp only [ite_not, ite_self, w8_nil, ok01, ite10, rf_rv, rf_ref, rf_cat, rf_lk2, rf_some, rf_none, w_add, w_cons, cr_int, cr_long, cr_ref, cr_null, is_ref, is_null, l2_int, l2_ref, l2_null, l2_none, ent_nil, ent_int, ent_ref, ent_null, ent_rf, ent_long, ok_0, ok_1, af_ret, af_void, List.tail_cons, List.tail_nil, Nat.reduceAdd, Nat.reduceLeDiff, not_false_eq_true, not_true_eq_false, and_self, and_true, true_and, ne_eq, or_true, true_or, or_false, false_or, eq_self, Nat.reduceEqDiff, ↓reduceIte, false_and, and_false, Nat.le_refl, Nat.zero_le, nz_1, nz_2, nz_3, nz_4, nz_5, nz_6, nz_8, nz_10, nz_12, nz_20, nz_30, nz_60, nz_100, r71_0, r71_1, r71_6, r71_7, r71_12, r71_13, r71_18, r71_19, r71_24, r71_25, r71_28, r71_29, r71_3, r71_9, r71_15, r71_21, tL, a1, a2, b1, b2, d1, d2, o1]
  · have a2 : 97 ≤ x := Int32.not_lt.mp a1
    by_cases e1 : x ≤ 122
    · simp only [ite_not, ite_self, w8_nil, ok01, ite10, rf_rv, rf_ref, rf_cat, rf_lk2, rf_some, rf_none, w_add, w_cons, cr_int, cr_long, cr_ref, cr_null, is_ref, is_null, l2_int, l2_ref, l2_null, l2_none, ent_nil, ent_int, ent_ref, ent_null, ent_rf, ent_long, ok_0, ok_1, af_ret, af_void, List.tail_cons, List.tail_nil, Nat.reduceAdd, Nat.reduceLeDiff, not_false_eq_true, not_true_eq_false, and_self, and_true, true_and, ne_eq, or_true, true_or, or_false, false_or, eq_self, Nat.reduceEqDiff, ↓reduceIte, false_and, and_false, Nat.le_refl, Nat.zero_le, nz_1, nz_2, nz_3, nz_4, nz_5, nz_6, nz_8, nz_10, nz_12, nz_20, nz_30, nz_60, nz_100, r71_0, r71_1, r71_6, r71_7, r71_12, r71_13, r71_18, r71_19, r71_24, r71_25, r71_28, r71_29, r71_3, r71_9, r71_15, r71_21, tL, a1, a2, e1, o1]
    · have b1 : ¬ x < 65 := fun z => by
        have := Int32.lt_iff_toInt_lt.mp z
        have := Int32.le_iff_toInt_le.mp a2
        rw [show (97 : Int32).toInt = 97 from rfl] at this
        rw [show (65 : Int32).toInt = 65 from rfl] at *
        omega
      have b2 : 65 ≤ x := Int32.not_lt.mp b1
      have d1 : 90 < x := by
        rw [Int32.lt_iff_toInt_lt]
        have := Int32.le_iff_toInt_le.mp a2
        rw [show (97 : Int32).toInt = 97 from rfl] at this
        rw [show (90 : Int32).toInt = 90 from rfl]
        omega
      have d2 : ¬ x ≤ 90 := Int32.not_le.mpr d1
      simp only [ite_not, ite_self, w8_nil, ok01, ite10, rf_rv, rf_ref, rf_cat, rf_lk2, rf_some, rf_none, w_add, w_cons, cr_int, cr_long, cr_ref, cr_null, is_ref, is_null, l2_int, l2_ref, l2_null, l2_none, ent_nil, ent_int, ent_ref, ent_null, ent_rf, ent_long, ok_0, ok_1, af_ret, af_void, List.tail_cons, List.tail_nil, Nat.reduceAdd, Nat.reduceLeDiff, not_false_eq_true, not_true_eq_false, and_self, and_true, true_and, ne_eq, or_true, true_or, or_false, false_or, eq_self, Nat.reduceEqDiff, ↓reduceIte, false_and, and_false, Nat.le_refl, Nat.zero_le, nz_1, nz_2, nz_3, nz_4, nz_5, nz_6, nz_8, nz_10, nz_12, nz_20, nz_30, nz_60, nz_100, r71_0, r71_1, r71_6, r71_7, r71_12, r71_13, r71_18, r71_19, r71_24, r71_25, r71_28, r71_29, r71_3, r71_9, r71_15, r71_21, tL, a1, a2, e1, b1, b2, d1, d2, o0]
theorem c73 {a : Nat} {x : Int32} : xm_met d 73 [.ref a, .int x] h = some (.inl (some (.int (if tD x then 1 else 0))), h) := by
  have o0 : xm_ok .boolean 0 = true := by decide
  have o1 : xm_ok .boolean 1 = true := by decide
  unfold xm_met
  by_cases a1 : x < 48
  · have a2 : ¬ 48 ≤ x := Int32.not_le.mpr a1
    simp only [ite_not, ite_self, w8_nil, ok01, ite10, rf_rv, rf_ref, rf_cat, rf_lk2, rf_some, rf_none, w_add, w_cons, cr_int, cr_long, cr_ref, cr_null, is_ref, is_null, l2_int, l2_ref, l2_null, l2_none, ent_nil, ent_int, ent_ref, ent_null, ent_rf, ent_long, ok_0, ok_1, af_ret, af_void, List.tail_cons, List.tail_nil, Nat.reduceAdd, Nat.reduceLeDiff, not_false_eq_true, not_true_eq_false, and_self, and_true, true_and, ne_eq, or_true, true_or, or_false, false_or, eq_self, Nat.reduceEqDiff, ↓reduceIte, false_and, and_false, Nat.le_refl, Nat.zero_le, nz_1, nz_2, nz_3, nz_4, nz_5, nz_6, nz_8, nz_10, nz_12, nz_20, nz_30, nz_60, nz_100, r73_0, r73_1, r73_6, r73_7, r73_12, r73_13, r73_16, r73_17, r73_3, r73_9, tD, a1, a2, o0]
  · have a2 : 48 ≤ x := Int32.not_lt.mp a1
    by_cases d1 : 57 < x
    · have d2 : ¬ x ≤ 57 := Int32.not_le.mpr d1
      simp only [ite_not, ite_self, w8_nil, ok01, ite10, rf_rv, rf_ref, rf_cat, rf_lk2, rf_some, rf_none, w_add, w_cons, cr_int, cr_long, cr_ref, cr_null, is_ref, is_null, l2_int, l2_ref, l2_null, l2_none, ent_nil, ent_int, ent_ref, ent_null, ent_rf, ent_long, ok_0, ok_1, af_ret, af_void, List.tail_cons, List.tail_nil, Nat.reduceAdd, Nat.reduceLeDiff, not_false_eq_true, not_true_eq_false, and_self, and_true, true_and, ne_eq, or_true, true_or, or_false, false_or, eq_self, Nat.reduceEqDiff, ↓reduceIte, false_and, and_false, Nat.le_refl, Nat.zero_le, nz_1, nz_2, nz_3, nz_4, nz_5, nz_6, nz_8, nz_10, nz_12, nz_20, nz_30, nz_60, nz_100, r73_0, r73_1, r73_6, r73_7, r73_12, r73_13, r73_16, r73_17, r73_3, r73_9, tD, a1, a2, d1, d2, o0]
    · have d2 : x ≤ 57 := Int32.not_lt.mp d1
      simp only [ite_not, ite_self, w8_nil, ok01, ite10, rf_rv, rf_ref, rf_cat, rf_lk2, rf_some, rf_none, w_add, w_cons, cr_int, cr_long, cr_ref, cr_null, is_ref, is_null, l2_int, l2_ref, l2_null, l2_none, ent_nil, ent_int, ent_ref, ent_null, ent_rf, ent_long, ok_0, ok_1, af_ret, af_void, List.tail_cons, List.tail_nil, Nat.reduceAdd, Nat.reduceLeDiff, not_false_eq_true, not_true_eq_false, and_self, and_true, true_and, ne_eq, or_true, true_or, or_false, false_or, eq_self, Nat.reduceEqDiff, ↓reduceIte, false_and, and_false, Nat.le_refl, Nat.zero_le, nz_1, nz_2, nz_3, nz_4, nz_5, nz_6, nz_8, nz_10, nz_12, nz_20, nz_30, nz_60, nz_100, r73_0, r73_1, r73_6, r73_7, r73_12, r73_13, r73_16, r73_17, r73_3, r73_9, tD, a1, a2, d1, d2, o1]
theorem byt : ∀ n, n < 256 → ((Int32.ofNat n).toUInt32 % 65536).toInt32 = Int32.ofNat n ∧ (n < 128 → (Int32.ofNat n).toInt8.toInt32 = Int32.ofNat n) ∧ ((∃ j, j < 10 ∧ sgf j = (Int32.ofNat n).toInt8.toInt32) ↔ tG (Int32.ofNat n)) := by decide +kernel
theorem i_nat {x : Int32} (h : 0 ≤ x.toInt) : x = Int32.ofNat x.toInt.toNat := i_eq (by rw [ti_nat (by have := Int32.toInt_lt x; omega)]; omega)
theorem tL_rg {x : Int32} (h : tL x) : 1 ≤ x.toInt ∧ x.toInt ≤ 127 := by
  rcases h with ⟨a, b⟩ | ⟨a, b⟩
  · have a := Int32.le_iff_toInt_le.mp a
    have b := Int32.le_iff_toInt_le.mp b
    rw [show (97 : Int32).toInt = 97 from rfl] at a
    rw [show (122 : Int32).toInt = 122 from rfl] at b
    omega
  · have a := Int32.le_iff_toInt_le.mp a
    have b := Int32.le_iff_toInt_le.mp b
    rw [show (65 : Int32).toInt = 65 from rfl] at a
    rw [show (90 : Int32).toInt = 90 from rfl] at b
    omega
end RDL
