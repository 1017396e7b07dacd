/-! a cut comes: its making -/
set_option maxRecDepth 100000
theorem l_lo {m u : Int32} (hm : 0 ≤ m.toInt ∧ m.toInt ≤ 1000000) (hu : 0 < u.toInt ∧ u.toInt ≤ 10000000) : ((10 : Int64) * m.toInt64 / u.toInt64).toInt32 = 10 * m / u ∧ (((10 : Int64) * m.toInt64 + u.toInt64 - 1) / u.toInt64).toInt32 = (10 * m + u - 1) / u ∧ 0 ≤ (10 * m / u).toInt ∧ 0 ≤ ((10 * m + u - 1) / u).toInt ∧ (10 * m / u).toInt ≤ 10000000 ∧ ((10 * m + u - 1) / u).toInt ≤ 20000000 := by
  have t10 : (10 : Int32).toInt = 10 := rfl
  have t1 : (1 : Int32).toInt = 1 := rfl
  have q10 : (10 : Int64) = (10 : Int32).toInt64 := rfl
  have q1 : (1 : Int64) = (1 : Int32).toInt64 := rfl
  have e1 : (10 * m).toInt = 10 * m.toInt := by rw [ti_mul (by rw [t10]; omega), t10]
  have e2 : (10 * m + u).toInt = 10 * m.toInt + u.toInt := by rw [ti_add (by rw [e1]; omega), e1]
  have e3 : (10 * m + u - 1).toInt = 10 * m.toInt + u.toInt - 1 := by rw [ti_sub (by rw [e2, t1]; omega), e2, t1]
  have d1 : (10 * m / u).toInt = 10 * m.toInt / u.toInt := by rw [ti_div (by rw [e1]; omega) hu.1, e1]
  have d2 : ((10 * m + u - 1) / u).toInt = (10 * m.toInt + u.toInt - 1) / u.toInt := by rw [ti_div (by rw [e3]; omega) hu.1, e3]
  have b1 : 0 ≤ 10 * m.toInt / u.toInt := Int.ediv_nonneg (by omega) (by omega)
  have b2 : 0 ≤ (10 * m.toInt + u.toInt - 1) / u.toInt := Int.ediv_nonneg (by omega) (by omega)
  have b3 : 10 * m.toInt / u.toInt ≤ 10 * m.toInt := Int.ediv_le_self _ (by omega)
  have b4 : (10 * m.toInt + u.toInt - 1) / u.toInt ≤ 10 * m.toInt + u.toInt - 1 := Int.ediv_le_self _ (by omega)
  refine ⟨?_, ?_, by omega, by omega, by omega, by omega⟩
  · rw [q10, l_mul (by rw [t10]; omega), l_div (by rw [e1]; omega) hu.1, l2i]
  · rw [q10, q1, l_mul (by rw [t10]; omega), l_add (by rw [e1]; omega), l_sub (by rw [e2, t1]; omega), l_div (by rw [e3]; omega) hu.1, l2i]
theorem lohi {m u : Int32} (hm : 0 ≤ m.toInt ∧ m.toInt ≤ 1000000) (hu : 0 < u.toInt ∧ u.toInt ≤ 10000000) : mx 0 (mn 90 (10 * m / u - 5)) = sp_lo m u ∧ mx 0 (mn 90 ((10 * m + u - 1) / u + 5)) = sp_hi m u ∧ rg (sp_lo m u) 90 ∧ rg (sp_hi m u) 90 := by
  obtain ⟨-, -, b1, b2, b3, b4⟩ := l_lo hm hu
  have t5 : (5 : Int32).toInt = 5 := rfl
  have t0 : (0 : Int32).toInt = 0 := rfl
  have t90 : (90 : Int32).toInt = 90 := rfl
  have e1 : (10 * m / u - 5).toInt = (10 * m / u).toInt - 5 := by rw [ti_sub (by rw [t5]; omega), t5]
  have e2 : ((10 * m + u - 1) / u + 5).toInt = ((10 * m + u - 1) / u).toInt + 5 := by rw [ti_add (by rw [t5]; omega), t5]
  have s1 : mx 0 (mn 90 (10 * m / u - 5)) = sp_lo m u := by
    refine i_eq ?_
    rw [mx_ti, mn_ti, t0, t90]
    unfold sp_lo
    by_cases c1 : (0 : Int32) ≤ 10 * m / u - 5
    · have c1' := Int32.le_iff_toInt_le.mp c1
      rw [t0] at c1'
      rw [if_pos c1]
      by_cases c2 : 10 * m / u - 5 ≤ 90
      · have c2' := Int32.le_iff_toInt_le.mp c2
        rw [t90] at c2'
        rw [if_pos c2]
        omega
      · have c2' : ¬ (10 * m / u - 5).toInt ≤ 90 := fun z => c2 (Int32.le_iff_toInt_le.mpr (by rw [t90]; exact z))
        rw [if_neg c2, t90]
        omega
    · have c1' : ¬ 0 ≤ (10 * m / u - 5).toInt := fun z => c1 (Int32.le_iff_toInt_le.mpr (by rw [t0]; exact z))
      rw [if_neg c1, t0]
      omega
  have s2 : mx 0 (mn 90 ((10 * m + u - 1) / u + 5)) = sp_hi m u := by
    refine i_eq ?_
    rw [mx_ti, mn_ti, t0, t90]
    unfold sp_hi
    by_cases c2 : (10 * m + u - 1) / u + 5 ≤ 90
    · have c2' := Int32.le_iff_toInt_le.mp c2
      rw [t90] at c2'
      rw [if_pos c2]
      omega
    · have c2' : ¬ ((10 * m + u - 1) / u + 5).toInt ≤ 90 := fun z => c2 (Int32.le_iff_toInt_le.mpr (by rw [t90]; exact z))
      rw [if_neg c2, t90]
      omega
  refine ⟨s1, s2, ?_, ?_⟩
  · rw [← s1]
    constructor
    · rw [mx_ti, t0]
      omega
    · rw [mx_ti, mn_ti, t0, t90]
      omega
  · rw [← s2]
    constructor
    · rw [mx_ti, t0]
      omega
    · rw [mx_ti, mn_ti, t0, t90]
      omega
section CUTN
variable {d : Nat} {h g : xm_H} {D : xp_D} {F : xp_F}
abbrev nH217 (g : xm_H) (a X : Nat) (u dt lo hi ct rp : Int32) : xm_H := xm_sI (xm_sI (xm_sR (xm_nw (xm_sI (xm_sI (xm_sI (xm_sI (xm_sI (xm_sR (xm_sR g a 9 (some X)) a 5 (some X)) a 4 1) a 0 u) a 1 dt) a 2 lo) a 3 hi) 100 12 12) a 8 (some (xm_Z g))) a 6 ct) a 7 rp
theorem c217 (w : HW g D) {a X : Nat} (hk : xm_K g a = 20) (hB : xm_B g ≤ a) (he : ∀ p, xd_E D a p = none) {u dt m ct rp : Int32} (hm : 0 ≤ m.toInt ∧ m.toInt ≤ 1000000) (hu : 0 < u.toInt ∧ u.toInt ≤ 10000000) : xm_met (d + 3) 217 [.ref a, .ref X, .int u, .int dt, .long m.toInt64, .int ct, .int rp] (xp_c g D F) = some (.inl none, xp_c (nH217 g a X u dt (sp_lo m u) (sp_hi m u) ct rp) D F) := by
  obtain ⟨l1, l2, -⟩ := l_lo hm hu
  obtain ⟨s1, s2, -⟩ := lohi hm hu
  have n1 := l_ne hu.1
  have az := w.lt hk (by decide)
  have nz : ¬ a = xm_Z g := by omega
  have o : xm_is 18 20 = true := rfl
  have i1 : ¬ (12 : Int32) < 0 := by decide
  have i2 : (12 : Int32).toNatClampNeg = 12 := rfl
  have i3 : 12 ≤ 100000 := by decide
  have w1 : HW (xm_sI (xm_sI (xm_sI (xm_sI (xm_sI (xm_sR (xm_sR g a 9 (some X)) a 5 (some X)) a 4 1) a 0 u) a 1 dt) a 2 (sp_lo m u)) a 3 (sp_hi m u)) D := w
  unfold xm_met
  simp only [ite_not, ite_self, w8_nil, ok01, ite10, rf_rv, rf_ref, rf_cat, rf_lk2, rf_some, rf_none, w_add, w_cons, cr_int, cr_long, cr_ref, cr_null, is_ref, is_null, l2_int, l2_ref, l2_null, l2_none, ent_nil, ent_int, ent_ref, ent_null, ent_rf, ent_long, ok_0, ok_1, af_ret, af_void, List.tail_cons, List.tail_nil, Nat.reduceAdd, Nat.reduceLeDiff, not_false_eq_true, not_true_eq_false, and_self, and_true, true_and, ne_eq, or_true, true_or, or_false, false_or, eq_self, Nat.reduceEqDiff, ↓reduceIte, false_and, and_false, Nat.le_refl, Nat.zero_le, nz_1, nz_2, nz_3, nz_4, nz_5, nz_6, nz_8, nz_10, nz_12, nz_20, nz_30, nz_60, nz_100, mc_B, mc_Z, mc_S, mc_C, mc_K, mc_N, mc_R, mc_I, mc_L, va_Is, va_Ls, va_us, va_iss, u2_ap, sp_isLedge, sp_isLadder, sp_isPerson, sp_isLiving, sp_isLot, sp_isThere, sp_isSpan, g_K_sI, g_N_sI, g_B_sI, g_Z_sI, g_K_sL, g_N_sL, g_B_sL, g_Z_sL, g_K_sR, g_N_sR, g_B_sR, g_Z_sR, g_L_sI, g_R_sI, g_I_sL, g_R_sL, g_I_sR, g_L_sR, g_R_sRv, g_K_nw, g_N_nw, g_B_nw, g_Z_nw, h_R_nw, h_I_nw, h_L_nw, r217_0, r217_1, r217_2, r217_2n, r217_2v, r217_5, r217_6, r217_7, r217_8, r217_9, r217_12, r217_14, r217_15, r217_16, r217_17, r217_18, r217_19, r217_20, r217_21, r217_24, r217_26, r217_27, r217_28, r217_29, r217_30, r217_31, r217_32, r217_33, r217_34, r217_35, r217_36, r217_37, r217_38, r217_41, r217_42, r217_44, r217_46, r217_46n, r217_46v, r217_49, r217_50, r217_52, r217_55, r217_56, r217_58, r217_61, hk, hB, o, c214, l1, l2, s1, s2, n1, mc_sR, mc_sn, he, mc_nw w1, i1, i2, i3, nz]
theorem mc_cpn {a n : Nat} {f : Nat → Int32} (he : ∀ k, xd_E D a k = none) : xm_cp (xp_c h D F) a 0 n f = xp_c (xm_cp h a 0 n f) D F := by
  have e1 : (fun a' k' => if a' = a ∧ 0 ≤ k' ∧ k' < 0 + n then f (k' - 0) else va_I (xd_E D a' k') F (h.2.2.2.1 a' k')) = fun b j => va_I (xd_E D b j) F (if b = a ∧ 0 ≤ j ∧ j < 0 + n then f (j - 0) else h.2.2.2.1 b j) := by
    funext b j
    by_cases e : b = a ∧ 0 ≤ j ∧ j < 0 + n
    · rw [if_pos e, if_pos e, e.1, he]
      rfl
    · rw [if_neg e, if_neg e]
  exact congrArg (fun x => ((h.1, h.2.1, h.2.2.1, x, (fun a k => va_L (xd_L D a k) F (h.2.2.2.2.1 a k)), h.2.2.2.2.2) : xm_H)) e1
end CUTN
