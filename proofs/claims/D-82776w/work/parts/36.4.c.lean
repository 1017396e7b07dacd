/-! the component's first objects -/
set_option maxRecDepth 100000
section M0B
variable {d : Nat} {a : Nat} {h h1 h2 hB : xm_H}
theorem s0_2 (o : ob 1 a h) : ∃ h', xm_run (d + 1) 0 22 [some (.ref a)] [] h = xm_run (d + 1) 0 54 [some (.ref a)] [] h' ∧ og 1 6 a [2] h h' ∧ xm_R h' a 2 = some (xm_Z h) ∧ xm_K h' (xm_Z h) = 100 ∧ xm_N h' (xm_Z h) = 6 ∧ ∀ p, xm_I h' (xm_Z h) p = if p < 6 then 5 else 0 := by
  obtain ⟨o1, o2, o3, o4⟩ := o
  have n6 : ¬ (6 : Int32) < 0 ∧ (6 : Int32).toNatClampNeg ≤ 100000 := by decide
  have e6 : (6 : Int32).toNatClampNeg = 6 := by decide
  have za : ¬ a = xm_Z h := by omega
  have Bz : xm_B h ≤ xm_Z h := by omega
  have x : hx 1 6 h (xm_sI (xm_sI (xm_sI (xm_sI (xm_sI (xm_sI (xm_nw h 100 6 6) (xm_Z h) 0 5) (xm_Z h) 1 5) (xm_Z h) 2 5) (xm_Z h) 3 5) (xm_Z h) 4 5) (xm_Z h) 5 5) := ((((((hx_nw (h := h) (kd := 100) (n := 6) (s := 6)).sI (Nat.le_refl _)).sI (Nat.le_refl _)).sI (Nat.le_refl _)).sI (Nat.le_refl _)).sI (Nat.le_refl _)).sI (Nat.le_refl _)
  refine ⟨xm_sR (xm_sI (xm_sI (xm_sI (xm_sI (xm_sI (xm_sI (xm_nw h 100 6 6) (xm_Z h) 0 5) (xm_Z h) 1 5) (xm_Z h) 2 5) (xm_Z h) 3 5) (xm_Z h) 4 5) (xm_Z h) 5 5) a 2 (some (xm_Z h)), ?_, og.ofx x rfl rfl (fun y hy => ?_) ⟨o1, o2, o3, o4⟩, by rw [h_R_sR, if_pos ⟨rfl, rfl⟩], ?_, ?_, fun p => ?_⟩
  · have i0 : xm_in 0 6 = true ∧ (0 : Int32).toNatClampNeg = 0 := by decide
    have i1 : xm_in 1 6 = true ∧ (1 : Int32).toNatClampNeg = 1 := by decide
    have i2 : xm_in 2 6 = true ∧ (2 : Int32).toNatClampNeg = 2 := by decide
    have i3 : xm_in 3 6 = true ∧ (3 : Int32).toNatClampNeg = 3 := by decide
    have i4 : xm_in 4 6 = true ∧ (4 : Int32).toNatClampNeg = 4 := by decide
    have i5 : xm_in 5 6 = true ∧ (5 : Int32).toNatClampNeg = 5 := by decide
    simp only [ite_not, ite_self, w8_nil, ok01, ite10, rf_rv, rf_ref, rf_cat, rf_lk2, rf_some, rf_none, w_add, w_cons, cr_int, cr_long, cr_ref, cr_null, is_ref, is_null, l2_int, l2_ref, l2_null, l2_none, ent_nil, ent_int, ent_ref, ent_null, ent_rf, ent_long, ok_0, ok_1, af_ret, af_void, List.tail_cons, List.tail_nil, Nat.reduceAdd, Nat.reduceLeDiff, not_false_eq_true, not_true_eq_false, and_self, and_true, true_and, ne_eq, or_true, true_or, or_false, false_or, eq_self, Nat.reduceEqDiff, ↓reduceIte, false_and, and_false, Nat.le_refl, Nat.zero_le, nz_1, nz_2, nz_3, nz_4, nz_5, nz_6, nz_8, nz_10, nz_12, nz_20, nz_30, nz_60, nz_100, g_K_sI, g_N_sI, g_B_sI, g_Z_sI, g_K_sL, g_N_sL, g_B_sL, g_Z_sL, g_K_sR, g_N_sR, g_B_sR, g_Z_sR, g_L_sI, g_R_sI, g_I_sL, g_R_sL, g_I_sR, g_L_sR, g_R_sRv, g_K_nw, g_N_nw, g_B_nw, g_Z_nw, h_R_nw, h_I_nw, h_L_nw, o1, o2, n6, e6, za, Bz, i0, i1, i2, i3, i4, i5, r0_22, r0_23, r0_25, r0_27, r0_28, r0_29, r0_30, r0_31, r0_32, r0_33, r0_34, r0_35, r0_36, r0_37, r0_38, r0_39, r0_40, r0_41, r0_42, r0_43, r0_44, r0_45, r0_46, r0_47, r0_48, r0_49, r0_50, r0_51, r0_51n, r0_51v]
  · have hy : xm_Z h + 1 ≤ y := hy
    show xm_K (xm_nw h 100 6 6) y = 0
    rw [h_K_nw, if_neg (by omega)]
    exact o4 y (by omega)
  · show xm_K (xm_nw h 100 6 6) (xm_Z h) = 100
    rw [h_K_nw, if_pos rfl]
  · show xm_N (xm_nw h 100 6 6) (xm_Z h) = 6
    rw [h_N_nw, if_pos rfl]
  · show xm_I (xm_sI (xm_sI (xm_sI (xm_sI (xm_sI (xm_sI (xm_nw h 100 6 6) (xm_Z h) 0 5) (xm_Z h) 1 5) (xm_Z h) 2 5) (xm_Z h) 3 5) (xm_Z h) 4 5) (xm_Z h) 5 5) (xm_Z h) p = _
    simp only [h_I_sI, h_I_nw, true_and, ↓reduceIte]
    by_cases c5 : p = 5
    · rw [if_pos c5, if_pos (by omega)]
    rw [if_neg c5]
    by_cases c4 : p = 4
    · rw [if_pos c4, if_pos (by omega)]
    rw [if_neg c4]
    by_cases c3 : p = 3
    · rw [if_pos c3, if_pos (by omega)]
    rw [if_neg c3]
    by_cases c22 : p = 2
    · rw [if_pos c22, if_pos (by omega)]
    rw [if_neg c22]
    by_cases c1 : p = 1
    · rw [if_pos c1, if_pos (by omega)]
    rw [if_neg c1]
    by_cases c0 : p = 0
    · rw [if_pos c0, if_pos (by omega)]
    rw [if_neg c0, if_neg (by omega)]
theorem c230 {b q1 q2 : Nat} (k : xm_K h b = 2) (hB : xm_B h ≤ b) (c1 : xm_C h 104 = .ref q1) (c2' : xm_C h 105 = .ref q2) : ∃ h', xm_met (d + 1) 230 [.ref b, .null, .null, .int 0, .int 0] h = some (.inl none, h') ∧ ∀ z s h0, xm_Z h0 ≤ b → hx z s h0 h → hx z s h0 h' ∧ xm_Z h' = xm_Z h ∧ xm_S h' = xm_S h ∧ xm_K h' = xm_K h ∧ xm_I h' = xm_I h := by
  have is : xm_is 22 2 = true := by decide
  have n0 : ¬ ¬ (0 : Int32) = 0 := by decide
  refine ⟨xm_sR (xm_sR (xm_sR (xm_sR (xm_sR (xm_sR (xm_sR h b 0 (some b)) b 1 (some q1)) b 2 (some q2)) b 1 none) b 3 none) b 0 none) b 2 none, ?_, fun z s h0 h1 x => ⟨((((((x.sR h1).sR h1).sR h1).sR h1).sR h1).sR h1).sR h1, rfl, rfl, rfl, rfl⟩⟩
  unfold xm_met
  simp only [ite_not, ite_self, w8_nil, ok01, ite10, rf_rv, rf_ref, rf_cat, rf_lk2, rf_some, rf_none, w_add, w_cons, cr_int, cr_long, cr_ref, cr_null, is_ref, is_null, l2_int, l2_ref, l2_null, l2_none, ent_nil, ent_int, ent_ref, ent_null, ent_rf, ent_long, ok_0, ok_1, af_ret, af_void, List.tail_cons, List.tail_nil, Nat.reduceAdd, Nat.reduceLeDiff, not_false_eq_true, not_true_eq_false, and_self, and_true, true_and, ne_eq, or_true, true_or, or_false, false_or, eq_self, Nat.reduceEqDiff, ↓reduceIte, false_and, and_false, Nat.le_refl, Nat.zero_le, nz_1, nz_2, nz_3, nz_4, nz_5, nz_6, nz_8, nz_10, nz_12, nz_20, nz_30, nz_60, nz_100, g_K_sI, g_N_sI, g_B_sI, g_Z_sI, g_K_sL, g_N_sL, g_B_sL, g_Z_sL, g_K_sR, g_N_sR, g_B_sR, g_Z_sR, g_L_sI, g_R_sI, g_I_sL, g_R_sL, g_I_sR, g_L_sR, g_R_sRv, g_K_nw, g_N_nw, g_B_nw, g_Z_nw, h_R_nw, h_I_nw, h_L_nw, h_C_sR, k, hB, c1, c2', is, r230_0, r230_1, r230_4, r230_5, r230_6, r230_6n, r230_6v, r230_9, r230_10, r230_13, r230_13n, r230_13v, r230_16, r230_17, r230_20, r230_20n, r230_20v, r230_23, r230_28, r230_32, r230_33, r230_36, r230_37, r230_38, r230_38n, r230_38v, r230_41, r230_42, r230_43, r230_43n, r230_43v, r230_46, r230_47, r230_48, r230_48n, r230_48v, r230_51, r230_55, r230_56, r230_57, r230_57n, r230_57v, r230_60, r230_25, r230_52]
theorem c231 {b q1 q2 : Nat} (k : xm_K h b = 2) (hB : xm_B h ≤ b) (c1 : xm_C h 104 = .ref q1) (c2' : xm_C h 105 = .ref q2) : ∃ h', xm_met (d + 3) 66 [.ref b] h = some (.inl none, h') ∧ ∀ z s h0, xm_Z h0 ≤ b → hx z s h0 h → hx z s h0 h' ∧ xm_Z h' = xm_Z h ∧ xm_S h' = xm_S h ∧ xm_K h' = xm_K h ∧ xm_I h' = xm_I h := by
  obtain ⟨h', m, f⟩ := c230 (d := d) k hB c1 c2'
  refine ⟨h', ?_, f⟩
  have m2 : xm_met (d + 2) 231 [.ref b, .null, .null, .int 0, .int 0] h = some (.inl none, h') := by
    unfold xm_met
    simp only [ite_not, ite_self, w8_nil, ok01, ite10, rf_rv, rf_ref, rf_cat, rf_lk2, rf_some, rf_none, w_add, w_cons, cr_int, cr_long, cr_ref, cr_null, is_ref, is_null, l2_int, l2_ref, l2_null, l2_none, ent_nil, ent_int, ent_ref, ent_null, ent_rf, ent_long, ok_0, ok_1, af_ret, af_void, List.tail_cons, List.tail_nil, Nat.reduceAdd, Nat.reduceLeDiff, not_false_eq_true, not_true_eq_false, and_self, and_true, true_and, ne_eq, or_true, true_or, or_false, false_or, eq_self, Nat.reduceEqDiff, ↓reduceIte, false_and, and_false, Nat.le_refl, Nat.zero_le, nz_1, nz_2, nz_3, nz_4, nz_5, nz_6, nz_8, nz_10, nz_12, nz_20, nz_30, nz_60, nz_100, m, r231_0, r231_1, r231_2, r231_3, r231_4, r231_6, r231_9, ent_nil]
  unfold xm_met
  simp only [ite_not, ite_self, w8_nil, ok01, ite10, rf_rv, rf_ref, rf_cat, rf_lk2, rf_some, rf_none, w_add, w_cons, cr_int, cr_long, cr_ref, cr_null, is_ref, is_null, l2_int, l2_ref, l2_null, l2_none, ent_nil, ent_int, ent_ref, ent_null, ent_rf, ent_long, ok_0, ok_1, af_ret, af_void, List.tail_cons, List.tail_nil, Nat.reduceAdd, Nat.reduceLeDiff, not_false_eq_true, not_true_eq_false, and_self, and_true, true_and, ne_eq, or_true, true_or, or_false, false_or, eq_self, Nat.reduceEqDiff, ↓reduceIte, false_and, and_false, Nat.le_refl, Nat.zero_le, nz_1, nz_2, nz_3, nz_4, nz_5, nz_6, nz_8, nz_10, nz_12, nz_20, nz_30, nz_60, nz_100, m2, r66_0, r66_1, r66_2, r66_3, r66_4, r66_5, r66_8, ent_nil]
theorem s0_13 (o : ob 1 a h) {q1 q2 : Nat} (c1 : xm_C h 104 = .ref q1) (c2' : xm_C h 105 = .ref q2) : ∃ h', xm_run (d + 4) 0 89 [some (.ref a)] [] h = xm_run (d + 4) 0 100 [some (.ref a)] [] h' ∧ og 1 8 a [13] h h' ∧ xm_R h' a 13 = some (xm_Z h) ∧ xm_K h' (xm_Z h) = 2 ∧ ∀ p, xm_I h' (xm_Z h) p = 0 := by
  obtain ⟨o1, o2, o3, o4⟩ := o
  have Bz : xm_B h ≤ xm_Z h := by omega
  obtain ⟨h1, m, f⟩ := c231 (d := d) (h := xm_nw h 2 0 8) (b := xm_Z h) (by rw [h_K_nw, if_pos rfl]) Bz c1 c2'
  obtain ⟨x, z1, s1, k1, i1⟩ := f 1 8 h (Nat.le_refl _) (hx_nw (kd := 2) (n := 0) (s := 8))
  have kz : xm_K h1 (xm_Z h) = 2 := by rw [k1, h_K_nw, if_pos rfl]
  have ka : xm_K h1 a = 1 := by rw [k1, h_K_nw, if_neg (by omega)]; exact o1
  have Ba : xm_B h1 ≤ a := by rw [x.1]; exact o2
  refine ⟨xm_sR h1 a 13 (some (xm_Z h)), ?_, og.ofx x z1 s1 (fun y hy => ?_) ⟨o1, o2, o3, o4⟩, by rw [h_R_sR, if_pos ⟨rfl, rfl⟩], kz, fun p => ?_⟩
  · simp only [ite_not, ite_self, w8_nil, ok01, ite10, rf_rv, rf_ref, rf_cat, rf_lk2, rf_some, rf_none, w_add, w_cons, cr_int, cr_long, cr_ref, cr_null, is_ref, is_null, l2_int, l2_ref, l2_null, l2_none, ent_nil, ent_int, ent_ref, ent_null, ent_rf, ent_long, ok_0, ok_1, af_ret, af_void, List.tail_cons, List.tail_nil, Nat.reduceAdd, Nat.reduceLeDiff, not_false_eq_true, not_true_eq_false, and_self, and_true, true_and, ne_eq, or_true, true_or, or_false, false_or, eq_self, Nat.reduceEqDiff, ↓reduceIte, false_and, and_false, Nat.le_refl, Nat.zero_le, nz_1, nz_2, nz_3, nz_4, nz_5, nz_6, nz_8, nz_10, nz_12, nz_20, nz_30, nz_60, nz_100, ka, Ba, m, r0_89, r0_90, r0_93, r0_94, r0_97, r0_97n, r0_97v]
  · rw [k1, h_K_nw, if_neg (by rw [z1] at hy; have : xm_Z (xm_nw h 2 0 8) = xm_Z h + 1 := rfl; omega)]
    exact o4 y (by rw [z1] at hy; have : xm_Z (xm_nw h 2 0 8) = xm_Z h + 1 := rfl; omega)
  · show xm_I h1 (xm_Z h) p = 0
    rw [i1, h_I_nw, if_pos rfl]
/-- words laid in a row -/
def wdr (q : Nat → Nat) (z0 : Nat) : Nat → xm_H → xm_H
  | 0, h => h
  | n + 1, h => xm_sR (wdr q z0 n h) z0 n (some (q n))
theorem wdr_R {q : Nat → Nat} {z0 : Nat} : ∀ n {h : xm_H}, xm_K (wdr q z0 n h) = xm_K h ∧ xm_N (wdr q z0 n h) = xm_N h ∧ xm_Z (wdr q z0 n h) = xm_Z h ∧ xm_S (wdr q z0 n h) = xm_S h ∧ xm_B (wdr q z0 n h) = xm_B h ∧ xm_C (wdr q z0 n h) = xm_C h ∧ (∀ k, k < n → xm_R (wdr q z0 n h) z0 k = some (q k)) ∧ ∀ z s h0, xm_Z h0 ≤ z0 → hx z s h0 h → hx z s h0 (wdr q z0 n h)
  | 0, _ => ⟨rfl, rfl, rfl, rfl, rfl, rfl, fun k hk => absurd hk (by omega), fun _ _ _ _ x => x⟩
  | n + 1, h => by
    obtain ⟨i1, i2, i3, i4, i5, i6, i7, i8⟩ := wdr_R (q := q) (z0 := z0) n (h := h)
    refine ⟨i1, i2, i3, i4, i5, i6, fun k hk => ?_, fun z s h0 hz x => (i8 z s h0 hz x).sR hz⟩
    show xm_R (xm_sR (wdr q z0 n h) z0 n (some (q n))) z0 k = _
    rw [h_R_sR]
    by_cases c : k = n
    · rw [if_pos ⟨rfl, c⟩, c]
    · rw [if_neg (fun y => c y.2)]
      exact i7 k (by omega)
theorem w0_0 {z0 : Nat} {q : Nat → Nat} (kz : xm_K h z0 = 111) (nz : xm_N h z0 = 21) (Bz : xm_B h ≤ z0) (cq : xm_C h 0 = .ref (q 0)) (kq : xm_K h (q 0) = 28) {ls : List (Option Value)} : xm_run d 0 106 ls [.ref z0, .ref a] h = xm_run d 0 111 ls [.ref z0, .ref a] (xm_sR h z0 0 (some (q 0))) := by
  have ik : xm_in 0 21 = true ∧ (0 : Int32).toNatClampNeg = 0 := by decide
  have el : xm_el 111 28 = true := by decide
  simp only [ite_not, ite_self, w8_nil, ok01, ite10, rf_rv, rf_ref, rf_cat, rf_lk2, rf_some, rf_none, w_add, w_cons, cr_int, cr_long, cr_ref, cr_null, is_ref, is_null, l2_int, l2_ref, l2_null, l2_none, ent_nil, ent_int, ent_ref, ent_null, ent_rf, ent_long, ok_0, ok_1, af_ret, af_void, List.tail_cons, List.tail_nil, Nat.reduceAdd, Nat.reduceLeDiff, not_false_eq_true, not_true_eq_false, and_self, and_true, true_and, ne_eq, or_true, true_or, or_false, false_or, eq_self, Nat.reduceEqDiff, ↓reduceIte, false_and, and_false, Nat.le_refl, Nat.zero_le, nz_1, nz_2, nz_3, nz_4, nz_5, nz_6, nz_8, nz_10, nz_12, nz_20, nz_30, nz_60, nz_100, kz, nz, Bz, cq, kq, ik, el, r0_106, r0_107, r0_108, r0_110]
theorem w0_1 {z0 : Nat} {q : Nat → Nat} (kz : xm_K h z0 = 111) (nz : xm_N h z0 = 21) (Bz : xm_B h ≤ z0) (cq : xm_C h 1 = .ref (q 1)) (kq : xm_K h (q 1) = 28) {ls : List (Option Value)} : xm_run d 0 111 ls [.ref z0, .ref a] h = xm_run d 0 116 ls [.ref z0, .ref a] (xm_sR h z0 1 (some (q 1))) := by
  have ik : xm_in 1 21 = true ∧ (1 : Int32).toNatClampNeg = 1 := by decide
  have el : xm_el 111 28 = true := by decide
  simp only [ite_not, ite_self, w8_nil, ok01, ite10, rf_rv, rf_ref, rf_cat, rf_lk2, rf_some, rf_none, w_add, w_cons, cr_int, cr_long, cr_ref, cr_null, is_ref, is_null, l2_int, l2_ref, l2_null, l2_none, ent_nil, ent_int, ent_ref, ent_null, ent_rf, ent_long, ok_0, ok_1, af_ret, af_void, List.tail_cons, List.tail_nil, Nat.reduceAdd, Nat.reduceLeDiff, not_false_eq_true, not_true_eq_false, and_self, and_true, true_and, ne_eq, or_true, true_or, or_false, false_or, eq_self, Nat.reduceEqDiff, ↓reduceIte, false_and, and_false, Nat.le_refl, Nat.zero_le, nz_1, nz_2, nz_3, nz_4, nz_5, nz_6, nz_8, nz_10, nz_12, nz_20, nz_30, nz_60, nz_100, kz, nz, Bz, cq, kq, ik, el, r0_111, r0_112, r0_113, r0_115]
theorem w0_2 {z0 : Nat} {q : Nat → Nat} (kz : xm_K h z0 = 111) (nz : xm_N h z0 = 21) (Bz : xm_B h ≤ z0) (cq : xm_C h 2 = .ref (q 2)) (kq : xm_K h (q 2) = 28) {ls : List (Option Value)} : xm_run d 0 116 ls [.ref z0, .ref a] h = xm_run d 0 121 ls [.ref z0, .ref a] (xm_sR h z0 2 (some (q 2))) := by
  have ik : xm_in 2 21 = true ∧ (2 : Int32).toNatClampNeg = 2 := by decide
  have el : xm_el 111 28 = true := by decide
  simp only [ite_not, ite_self, w8_nil, ok01, ite10, rf_rv, rf_ref, rf_cat, rf_lk2, rf_some, rf_none, w_add, w_cons, cr_int, cr_long, cr_ref, cr_null, is_ref, is_null, l2_int, l2_ref, l2_null, l2_none, ent_nil, ent_int, ent_ref, ent_null, ent_rf, ent_long, ok_0, ok_1, af_ret, af_void, List.tail_cons, List.tail_nil, Nat.reduceAdd, Nat.reduceLeDiff, not_false_eq_true, not_true_eq_false, and_self, and_true, true_and, ne_eq, or_true, true_or, or_false, false_or, eq_self, Nat.reduceEqDiff, ↓reduceIte, false_and, and_false, Nat.le_refl, Nat.zero_le, nz_1, nz_2, nz_3, nz_4, nz_5, nz_6, nz_8, nz_10, nz_12, nz_20, nz_30, nz_60, nz_100, kz, nz, Bz, cq, kq, ik, el, r0_116, r0_117, r0_118, r0_120]
theorem w0_3 {z0 : Nat} {q : Nat → Nat} (kz : xm_K h z0 = 111) (nz : xm_N h z0 = 21) (Bz : xm_B h ≤ z0) (cq : xm_C h 3 = .ref (q 3)) (kq : xm_K h (q 3) = 28) {ls : List (Option Value)} : xm_run d 0 121 ls [.ref z0, .ref a] h = xm_run d 0 126 ls [.ref z0, .ref a] (xm_sR h z0 3 (some (q 3))) := by
  have ik : xm_in 3 21 = true ∧ (3 : Int32).toNatClampNeg = 3 := by decide
  have el : xm_el 111 28 = true := by decide
  simp only [ite_not, ite_self, w8_nil, ok01, ite10, rf_rv, rf_ref, rf_cat, rf_lk2, rf_some, rf_none, w_add, w_cons, cr_int, cr_long, cr_ref, cr_null, is_ref, is_null, l2_int, l2_ref, l2_null, l2_none, ent_nil, ent_int, ent_ref, ent_null, ent_rf, ent_long, ok_0, ok_1, af_ret, af_void, List.tail_cons, List.tail_nil, Nat.reduceAdd, Nat.reduceLeDiff, not_false_eq_true, not_true_eq_false, and_self, and_true, true_and, ne_eq, or_true, true_or, or_false, false_or, eq_self, Nat.reduceEqDiff, ↓reduceIte, false_and, and_false, Nat.le_refl, Nat.zero_le, nz_1, nz_2, nz_3, nz_4, nz_5, nz_6, nz_8, nz_10, nz_12, nz_20, nz_30, nz_60, nz_100, kz, nz, Bz, cq, kq, ik, el, r0_121, r0_122, r0_123, r0_125]
theorem w0_4 {z0 : Nat} {q : Nat → Nat} (kz : xm_K h z0 = 111) (nz : xm_N h z0 = 21) (Bz : xm_B h ≤ z0) (cq : xm_C h 4 = .ref (q 4)) (kq : xm_K h (q 4) = 28) {ls : List (Option Value)} : xm_run d 0 126 ls [.ref z0, .ref a] h = xm_run d 0 131 ls [.ref z0, .ref a] (xm_sR h z0 4 (some (q 4))) := by
  have ik : xm_in 4 21 = true ∧ (4 : Int32).toNatClampNeg = 4 := by decide
  have el : xm_el 111 28 = true := by decide
  simp only [ite_not, ite_self, w8_nil, ok01, ite10, rf_rv, rf_ref, rf_cat, rf_lk2, rf_some, rf_none, w_add, w_cons, cr_int, cr_long, cr_ref, cr_null, is_ref, is_null, l2_int, l2_ref, l2_null, l2_none, ent_nil, ent_int, ent_ref, ent_null, ent_rf, ent_long, ok_0, ok_1, af_ret, af_void, List.tail_cons, List.tail_nil, Nat.reduceAdd, Nat.reduceLeDiff, not_false_eq_true, not_true_eq_false, and_self, and_true, true_and, ne_eq, or_true, true_or, or_false, false_or, eq_self, Nat.reduceEqDiff, ↓reduceIte, false_and, and_false, Nat.le_refl, Nat.zero_le, nz_1, nz_2, nz_3, nz_4, nz_5, nz_6, nz_8, nz_10, nz_12, nz_20, nz_30, nz_60, nz_100, kz, nz, Bz, cq, kq, ik, el, r0_126, r0_127, r0_128, r0_130]
theorem w0_5 {z0 : Nat} {q : Nat → Nat} (kz : xm_K h z0 = 111) (nz : xm_N h z0 = 21) (Bz : xm_B h ≤ z0) (cq : xm_C h 5 = .ref (q 5)) (kq : xm_K h (q 5) = 28) {ls : List (Option Value)} : xm_run d 0 131 ls [.ref z0, .ref a] h = xm_run d 0 136 ls [.ref z0, .ref a] (xm_sR h z0 5 (some (q 5))) := by
  have ik : xm_in 5 21 = true ∧ (5 : Int32).toNatClampNeg = 5 := by decide
  have el : xm_el 111 28 = true := by decide
  simp only [ite_not, ite_self, w8_nil, ok01, ite10, rf_rv, rf_ref, rf_cat, rf_lk2, rf_some, rf_none, w_add, w_cons, cr_int, cr_long, cr_ref, cr_null, is_ref, is_null, l2_int, l2_ref, l2_null, l2_none, ent_nil, ent_int, ent_ref, ent_null, ent_rf, ent_long, ok_0, ok_1, af_ret, af_void, List.tail_cons, List.tail_nil, Nat.reduceAdd, Nat.reduceLeDiff, not_false_eq_true, not_true_eq_false, and_self, and_true, true_and, ne_eq, or_true, true_or, or_false, false_or, eq_self, Nat.reduceEqDiff, ↓reduceIte, false_and, and_false, Nat.le_refl, Nat.zero_le, nz_1, nz_2, nz_3, nz_4, nz_5, nz_6, nz_8, nz_10, nz_12, nz_20, nz_30, nz_60, nz_100, kz, nz, Bz, cq, kq, ik, el, r0_131, r0_132, r0_133, r0_135]
theorem w0_6 {z0 : Nat} {q : Nat → Nat} (kz : xm_K h z0 = 111) (nz : xm_N h z0 = 21) (Bz : xm_B h ≤ z0) (cq : xm_C h 6 = .ref (q 6)) (kq : xm_K h (q 6) = 28) {ls : List (Option Value)} : xm_run d 0 136 ls [.ref z0, .ref a] h = xm_run d 0 142 ls [.ref z0, .ref a] (xm_sR h z0 6 (some (q 6))) := by
  have ik : xm_in 6 21 = true ∧ (6 : Int32).toNatClampNeg = 6 := by decide
  have el : xm_el 111 28 = true := by decide
  simp only [ite_not, ite_self, w8_nil, ok01, ite10, rf_rv, rf_ref, rf_cat, rf_lk2, rf_some, rf_none, w_add, w_cons, cr_int, cr_long, cr_ref, cr_null, is_ref, is_null, l2_int, l2_ref, l2_null, l2_none, ent_nil, ent_int, ent_ref, ent_null, ent_rf, ent_long, ok_0, ok_1, af_ret, af_void, List.tail_cons, List.tail_nil, Nat.reduceAdd, Nat.reduceLeDiff, not_false_eq_true, not_true_eq_false, and_self, and_true, true_and, ne_eq, or_true, true_or, or_false, false_or, eq_self, Nat.reduceEqDiff, ↓reduceIte, false_and, and_false, Nat.le_refl, Nat.zero_le, nz_1, nz_2, nz_3, nz_4, nz_5, nz_6, nz_8, nz_10, nz_12, nz_20, nz_30, nz_60, nz_100, kz, nz, Bz, cq, kq, ik, el, r0_136, r0_137, r0_139, r0_141]
theorem w0_7 {z0 : Nat} {q : Nat → Nat} (kz : xm_K h z0 = 111) (nz : xm_N h z0 = 21) (Bz : xm_B h ≤ z0) (cq : xm_C h 7 = .ref (q 7)) (kq : xm_K h (q 7) = 28) {ls : List (Option Value)} : xm_run d 0 142 ls [.ref z0, .ref a] h = xm_run d 0 148 ls [.ref z0, .ref a] (xm_sR h z0 7 (some (q 7))) := by
  have ik : xm_in 7 21 = true ∧ (7 : Int32).toNatClampNeg = 7 := by decide
  have el : xm_el 111 28 = true := by decide
  simp only [ite_not, ite_self, w8_nil, ok01, ite10, rf_rv, rf_ref, rf_cat, rf_lk2, rf_some, rf_none, w_add, w_cons, cr_int, cr_long, cr_ref, cr_null, is_ref, is_null, l2_int, l2_ref, l2_null, l2_none, ent_nil, ent_int, ent_ref, ent_null, ent_rf, ent_long, ok_0, ok_1, af_ret, af_void, List.tail_cons, List.tail_nil, Nat.reduceAdd, Nat.reduceLeDiff, not_false_eq_true, not_true_eq_false, and_self, and_true, true_and, ne_eq, or_true, true_or, or_false, false_or, eq_self, Nat.reduceEqDiff, ↓reduceIte, false_and, and_false, Nat.le_refl, Nat.zero_le, nz_1, nz_2, nz_3, nz_4, nz_5, nz_6, nz_8, nz_10, nz_12, nz_20, nz_30, nz_60, nz_100, kz, nz, Bz, cq, kq, ik, el, r0_142, r0_143, r0_145, r0_147]
theorem w0_8 {z0 : Nat} {q : Nat → Nat} (kz : xm_K h z0 = 111) (nz : xm_N h z0 = 21) (Bz : xm_B h ≤ z0) (cq : xm_C h 8 = .ref (q 8)) (kq : xm_K h (q 8) = 28) {ls : List (Option Value)} : xm_run d 0 148 ls [.ref z0, .ref a] h = xm_run d 0 154 ls [.ref z0, .ref a] (xm_sR h z0 8 (some (q 8))) := by
  have ik : xm_in 8 21 = true ∧ (8 : Int32).toNatClampNeg = 8 := by decide
  have el : xm_el 111 28 = true := by decide
  simp only [ite_not, ite_self, w8_nil, ok01, ite10, rf_rv, rf_ref, rf_cat, rf_lk2, rf_some, rf_none, w_add, w_cons, cr_int, cr_long, cr_ref, cr_null, is_ref, is_null, l2_int, l2_ref, l2_null, l2_none, ent_nil, ent_int, ent_ref, ent_null, ent_rf, ent_long, ok_0, ok_1, af_ret, af_void, List.tail_cons, List.tail_nil, Nat.reduceAdd, Nat.reduceLeDiff, not_false_eq_true, not_true_eq_false, and_self, and_true, true_and, ne_eq, or_true, true_or, or_false, false_or, eq_self, Nat.reduceEqDiff, ↓reduceIte, false_and, and_false, Nat.le_refl, Nat.zero_le, nz_1, nz_2, nz_3, nz_4, nz_5, nz_6, nz_8, nz_10, nz_12, nz_20, nz_30, nz_60, nz_100, kz, nz, Bz, cq, kq, ik, el, r0_148, r0_149, r0_151, r0_153]
theorem w0_9 {z0 : Nat} {q : Nat → Nat} (kz : xm_K h z0 = 111) (nz : xm_N h z0 = 21) (Bz : xm_B h ≤ z0) (cq : xm_C h 9 = .ref (q 9)) (kq : xm_K h (q 9) = 28) {ls : List (Option Value)} : xm_run d 0 154 ls [.ref z0, .ref a] h = xm_run d 0 160 ls [.ref z0, .ref a] (xm_sR h z0 9 (some (q 9))) := by
  have ik : xm_in 9 21 = true ∧ (9 : Int32).toNatClampNeg = 9 := by decide
  have el : xm_el 111 28 = true := by decide
  simp only [ite_not, ite_self, w8_nil, ok01, ite10, rf_rv, rf_ref, rf_cat, rf_lk2, rf_some, rf_none, w_add, w_cons, cr_int, cr_long, cr_ref, cr_null, is_ref, is_null, l2_int, l2_ref, l2_null, l2_none, ent_nil, ent_int, ent_ref, ent_null, ent_rf, ent_long, ok_0, ok_1, af_ret, af_void, List.tail_cons, List.tail_nil, Nat.reduceAdd, Nat.reduceLeDiff, not_false_eq_true, not_true_eq_false, and_self, and_true, true_and, ne_eq, or_true, true_or, or_false, false_or, eq_self, Nat.reduceEqDiff, ↓reduceIte, false_and, and_false, Nat.le_refl, Nat.zero_le, nz_1, nz_2, nz_3, nz_4, nz_5, nz_6, nz_8, nz_10, nz_12, nz_20, nz_30, nz_60, nz_100, kz, nz, Bz, cq, kq, ik, el, r0_154, r0_155, r0_157, r0_159]
theorem w0_10 {z0 : Nat} {q : Nat → Nat} (kz : xm_K h z0 = 111) (nz : xm_N h z0 = 21) (Bz : xm_B h ≤ z0) (cq : xm_C h 10 = .ref (q 10)) (kq : xm_K h (q 10) = 28) {ls : List (Option Value)} : xm_run d 0 160 ls [.ref z0, .ref a] h = xm_run d 0 166 ls [.ref z0, .ref a] (xm_sR h z0 10 (some (q 10))) := by
  have ik : xm_in 10 21 = true ∧ (10 : Int32).toNatClampNeg = 10 := by decide
  have el : xm_el 111 28 = true := by decide
  simp only [ite_not, ite_self, w8_nil, ok01, ite10, rf_rv, rf_ref, rf_cat, rf_lk2, rf_some, rf_none, w_add, w_cons, cr_int, cr_long, cr_ref, cr_null, is_ref, is_null, l2_int, l2_ref, l2_null, l2_none, ent_nil, ent_int, ent_ref, ent_null, ent_rf, ent_long, ok_0, ok_1, af_ret, af_void, List.tail_cons, List.tail_nil, Nat.reduceAdd, Nat.reduceLeDiff, not_false_eq_true, not_true_eq_false, and_self, and_true, true_and, ne_eq, or_true, true_or, or_false, false_or, eq_self, Nat.reduceEqDiff, ↓reduceIte, false_and, and_false, Nat.le_refl, Nat.zero_le, nz_1, nz_2, nz_3, nz_4, nz_5, nz_6, nz_8, nz_10, nz_12, nz_20, nz_30, nz_60, nz_100, kz, nz, Bz, cq, kq, ik, el, r0_160, r0_161, r0_163, r0_165]
theorem w0_11 {z0 : Nat} {q : Nat → Nat} (kz : xm_K h z0 = 111) (nz : xm_N h z0 = 21) (Bz : xm_B h ≤ z0) (cq : xm_C h 11 = .ref (q 11)) (kq : xm_K h (q 11) = 28) {ls : List (Option Value)} : xm_run d 0 166 ls [.ref z0, .ref a] h = xm_run d 0 172 ls [.ref z0, .ref a] (xm_sR h z0 11 (some (q 11))) := by
  have ik : xm_in 11 21 = true ∧ (11 : Int32).toNatClampNeg = 11 := by decide
  have el : xm_el 111 28 = true := by decide
  simp only [ite_not, ite_self, w8_nil, ok01, ite10, rf_rv, rf_ref, rf_cat, rf_lk2, rf_some, rf_none, w_add, w_cons, cr_int, cr_long, cr_ref, cr_null, is_ref, is_null, l2_int, l2_ref, l2_null, l2_none, ent_nil, ent_int, ent_ref, ent_null, ent_rf, ent_long, ok_0, ok_1, af_ret, af_void, List.tail_cons, List.tail_nil, Nat.reduceAdd, Nat.reduceLeDiff, not_false_eq_true, not_true_eq_false, and_self, and_true, true_and, ne_eq, or_true, true_or, or_false, false_or, eq_self, Nat.reduceEqDiff, ↓reduceIte, false_and, and_false, Nat.le_refl, Nat.zero_le, nz_1, nz_2, nz_3, nz_4, nz_5, nz_6, nz_8, nz_10, nz_12, nz_20, nz_30, nz_60, nz_100, kz, nz, Bz, cq, kq, ik, el, r0_166, r0_167, r0_169, r0_171]
theorem w0_12 {z0 : Nat} {q : Nat → Nat} (kz : xm_K h z0 = 111) (nz : xm_N h z0 = 21) (Bz : xm_B h ≤ z0) (cq : xm_C h 12 = .ref (q 12)) (kq : xm_K h (q 12) = 28) {ls : List (Option Value)} : xm_run d 0 172 ls [.ref z0, .ref a] h = xm_run d 0 178 ls [.ref z0, .ref a] (xm_sR h z0 12 (some (q 12))) := by
  have ik : xm_in 12 21 = true ∧ (12 : Int32).toNatClampNeg = 12 := by decide
  have el : xm_el 111 28 = true := by decide
  simp only [ite_not, ite_self, w8_nil, ok01, ite10, rf_rv, rf_ref, rf_cat, rf_lk2, rf_some, rf_none, w_add, w_cons, cr_int, cr_long, cr_ref, cr_null, is_ref, is_null, l2_int, l2_ref, l2_null, l2_none, ent_nil, ent_int, ent_ref, ent_null, ent_rf, ent_long, ok_0, ok_1, af_ret, af_void, List.tail_cons, List.tail_nil, Nat.reduceAdd, Nat.reduceLeDiff, not_false_eq_true, not_true_eq_false, and_self, and_true, true_and, ne_eq, or_true, true_or, or_false, false_or, eq_self, Nat.reduceEqDiff, ↓reduceIte, false_and, and_false, Nat.le_refl, Nat.zero_le, nz_1, nz_2, nz_3, nz_4, nz_5, nz_6, nz_8, nz_10, nz_12, nz_20, nz_30, nz_60, nz_100, kz, nz, Bz, cq, kq, ik, el, r0_172, r0_173, r0_175, r0_177]
theorem w0_13 {z0 : Nat} {q : Nat → Nat} (kz : xm_K h z0 = 111) (nz : xm_N h z0 = 21) (Bz : xm_B h ≤ z0) (cq : xm_C h 13 = .ref (q 13)) (kq : xm_K h (q 13) = 28) {ls : List (Option Value)} : xm_run d 0 178 ls [.ref z0, .ref a] h = xm_run d 0 184 ls [.ref z0, .ref a] (xm_sR h z0 13 (some (q 13))) := by
  have ik : xm_in 13 21 = true ∧ (13 : Int32).toNatClampNeg = 13 := by decide
  have el : xm_el 111 28 = true := by decide
  simp only [ite_not, ite_self, w8_nil, ok01, ite10, rf_rv, rf_ref, rf_cat, rf_lk2, rf_some, rf_none, w_add, w_cons, cr_int, cr_long, cr_ref, cr_null, is_ref, is_null, l2_int, l2_ref, l2_null, l2_none, ent_nil, ent_int, ent_ref, ent_null, ent_rf, ent_long, ok_0, ok_1, af_ret, af_void, List.tail_cons, List.tail_nil, Nat.reduceAdd, Nat.reduceLeDiff, not_false_eq_true, not_true_eq_false, and_self, and_true, true_and, ne_eq, or_true, true_or, or_false, false_or, eq_self, Nat.reduceEqDiff, ↓reduceIte, false_and, and_false, Nat.le_refl, Nat.zero_le, nz_1, nz_2, nz_3, nz_4, nz_5, nz_6, nz_8, nz_10, nz_12, nz_20, nz_30, nz_60, nz_100, kz, nz, Bz, cq, kq, ik, el, r0_178, r0_179, r0_181, r0_183]
theorem w0_14 {z0 : Nat} {q : Nat → Nat} (kz : xm_K h z0 = 111) (nz : xm_N h z0 = 21) (Bz : xm_B h ≤ z0) (cq : xm_C h 14 = .ref (q 14)) (kq : xm_K h (q 14) = 28) {ls : List (Option Value)} : xm_run d 0 184 ls [.ref z0, .ref a] h = xm_run d 0 190 ls [.ref z0, .ref a] (xm_sR h z0 14 (some (q 14))) := by
  have ik : xm_in 14 21 = true ∧ (14 : Int32).toNatClampNeg = 14 := by decide
  have el : xm_el 111 28 = true := by decide
  simp only [ite_not, ite_self, w8_nil, ok01, ite10, rf_rv, rf_ref, rf_cat, rf_lk2, rf_some, rf_none, w_add, w_cons, cr_int, cr_long, cr_ref, cr_null, is_ref, is_null, l2_int, l2_ref, l2_null, l2_none, ent_nil, ent_int, ent_ref, ent_null, ent_rf, ent_long, ok_0, ok_1, af_ret, af_void, List.tail_cons, List.tail_nil, Nat.reduceAdd, Nat.reduceLeDiff, not_false_eq_true, not_true_eq_false, and_self, and_true, true_and, ne_eq, or_true, true_or, or_false, false_or, eq_self, Nat.reduceEqDiff, ↓reduceIte, false_and, and_false, Nat.le_refl, Nat.zero_le, nz_1, nz_2, nz_3, nz_4, nz_5, nz_6, nz_8, nz_10, nz_12, nz_20, nz_30, nz_60, nz_100, kz, nz, Bz, cq, kq, ik, el, r0_184, r0_185, r0_187, r0_189]
theorem w0_15 {z0 : Nat} {q : Nat → Nat} (kz : xm_K h z0 = 111) (nz : xm_N h z0 = 21) (Bz : xm_B h ≤ z0) (cq : xm_C h 15 = .ref (q 15)) (kq : xm_K h (q 15) = 28) {ls : List (Option Value)} : xm_run d 0 190 ls [.ref z0, .ref a] h = xm_run d 0 196 ls [.ref z0, .ref a] (xm_sR h z0 15 (some (q 15))) := by
  have ik : xm_in 15 21 = true ∧ (15 : Int32).toNatClampNeg = 15 := by decide
  have el : xm_el 111 28 = true := by decide
  simp only [ite_not, ite_self, w8_nil, ok01, ite10, rf_rv, rf_ref, rf_cat, rf_lk2, rf_some, rf_none, w_add, w_cons, cr_int, cr_long, cr_ref, cr_null, is_ref, is_null, l2_int, l2_ref, l2_null, l2_none, ent_nil, ent_int, ent_ref, ent_null, ent_rf, ent_long, ok_0, ok_1, af_ret, af_void, List.tail_cons, List.tail_nil, Nat.reduceAdd, Nat.reduceLeDiff, not_false_eq_true, not_true_eq_false, and_self, and_true, true_and, ne_eq, or_true, true_or, or_false, false_or, eq_self, Nat.reduceEqDiff, ↓reduceIte, false_and, and_false, Nat.le_refl, Nat.zero_le, nz_1, nz_2, nz_3, nz_4, nz_5, nz_6, nz_8, nz_10, nz_12, nz_20, nz_30, nz_60, nz_100, kz, nz, Bz, cq, kq, ik, el, r0_190, r0_191, r0_193, r0_195]
theorem w0_16 {z0 : Nat} {q : Nat → Nat} (kz : xm_K h z0 = 111) (nz : xm_N h z0 = 21) (Bz : xm_B h ≤ z0) (cq : xm_C h 16 = .ref (q 16)) (kq : xm_K h (q 16) = 28) {ls : List (Option Value)} : xm_run d 0 196 ls [.ref z0, .ref a] h = xm_run d 0 202 ls [.ref z0, .ref a] (xm_sR h z0 16 (some (q 16))) := by
  have ik : xm_in 16 21 = true ∧ (16 : Int32).toNatClampNeg = 16 := by decide
  have el : xm_el 111 28 = true := by decide
  simp only [ite_not, ite_self, w8_nil, ok01, ite10, rf_rv, rf_ref, rf_cat, rf_lk2, rf_some, rf_none, w_add, w_cons, cr_int, cr_long, cr_ref, cr_null, is_ref, is_null, l2_int, l2_ref, l2_null, l2_none, ent_nil, ent_int, ent_ref, ent_null, ent_rf, ent_long, ok_0, ok_1, af_ret, af_void, List.tail_cons, List.tail_nil, Nat.reduceAdd, Nat.reduceLeDiff, not_false_eq_true, not_true_eq_false, and_self, and_true, true_and, ne_eq, or_true, true_or, or_false, false_or, eq_self, Nat.reduceEqDiff, ↓reduceIte, false_and, and_false, Nat.le_refl, Nat.zero_le, nz_1, nz_2, nz_3, nz_4, nz_5, nz_6, nz_8, nz_10, nz_12, nz_20, nz_30, nz_60, nz_100, kz, nz, Bz, cq, kq, ik, el, r0_196, r0_197, r0_199, r0_201]
theorem w0_17 {z0 : Nat} {q : Nat → Nat} (kz : xm_K h z0 = 111) (nz : xm_N h z0 = 21) (Bz : xm_B h ≤ z0) (cq : xm_C h 17 = .ref (q 17)) (kq : xm_K h (q 17) = 28) {ls : List (Option Value)} : xm_run d 0 202 ls [.ref z0, .ref a] h = xm_run d 0 208 ls [.ref z0, .ref a] (xm_sR h z0 17 (some (q 17))) := by
  have ik : xm_in 17 21 = true ∧ (17 : Int32).toNatClampNeg = 17 := by decide
  have el : xm_el 111 28 = true := by decide
  simp only [ite_not, ite_self, w8_nil, ok01, ite10, rf_rv, rf_ref, rf_cat, rf_lk2, rf_some, rf_none, w_add, w_cons, cr_int, cr_long, cr_ref, cr_null, is_ref, is_null, l2_int, l2_ref, l2_null, l2_none, ent_nil, ent_int, ent_ref, ent_null, ent_rf, ent_long, ok_0, ok_1, af_ret, af_void, List.tail_cons, List.tail_nil, Nat.reduceAdd, Nat.reduceLeDiff, not_false_eq_true, not_true_eq_false, and_self, and_true, true_and, ne_eq, or_true, true_or, or_false, false_or, eq_self, Nat.reduceEqDiff, ↓reduceIte, false_and, and_false, Nat.le_refl, Nat.zero_le, nz_1, nz_2, nz_3, nz_4, nz_5, nz_6, nz_8, nz_10, nz_12, nz_20, nz_30, nz_60, nz_100, kz, nz, Bz, cq, kq, ik, el, r0_202, r0_203, r0_205, r0_207]
theorem w0_18 {z0 : Nat} {q : Nat → Nat} (kz : xm_K h z0 = 111) (nz : xm_N h z0 = 21) (Bz : xm_B h ≤ z0) (cq : xm_C h 18 = .ref (q 18)) (kq : xm_K h (q 18) = 28) {ls : List (Option Value)} : xm_run d 0 208 ls [.ref z0, .ref a] h = xm_run d 0 214 ls [.ref z0, .ref a] (xm_sR h z0 18 (some (q 18))) := by
  have ik : xm_in 18 21 = true ∧ (18 : Int32).toNatClampNeg = 18 := by decide
  have el : xm_el 111 28 = true := by decide
  simp only [ite_not, ite_self, w8_nil, ok01, ite10, rf_rv, rf_ref, rf_cat, rf_lk2, rf_some, rf_none, w_add, w_cons, cr_int, cr_long, cr_ref, cr_null, is_ref, is_null, l2_int, l2_ref, l2_null, l2_none, ent_nil, ent_int, ent_ref, ent_null, ent_rf, ent_long, ok_0, ok_1, af_ret, af_void, List.tail_cons, List.tail_nil, Nat.reduceAdd, Nat.reduceLeDiff, not_false_eq_true, not_true_eq_false, and_self, and_true, true_and, ne_eq, or_true, true_or, or_false, false_or, eq_self, Nat.reduceEqDiff, ↓reduceIte, false_and, and_false, Nat.le_refl, Nat.zero_le, nz_1, nz_2, nz_3, nz_4, nz_5, nz_6, nz_8, nz_10, nz_12, nz_20, nz_30, nz_60, nz_100, kz, nz, Bz, cq, kq, ik, el, r0_208, r0_209, r0_211, r0_213]
theorem w0_19 {z0 : Nat} {q : Nat → Nat} (kz : xm_K h z0 = 111) (nz : xm_N h z0 = 21) (Bz : xm_B h ≤ z0) (cq : xm_C h 19 = .ref (q 19)) (kq : xm_K h (q 19) = 28) {ls : List (Option Value)} : xm_run d 0 214 ls [.ref z0, .ref a] h = xm_run d 0 220 ls [.ref z0, .ref a] (xm_sR h z0 19 (some (q 19))) := by
  have ik : xm_in 19 21 = true ∧ (19 : Int32).toNatClampNeg = 19 := by decide
  have el : xm_el 111 28 = true := by decide
  simp only [ite_not, ite_self, w8_nil, ok01, ite10, rf_rv, rf_ref, rf_cat, rf_lk2, rf_some, rf_none, w_add, w_cons, cr_int, cr_long, cr_ref, cr_null, is_ref, is_null, l2_int, l2_ref, l2_null, l2_none, ent_nil, ent_int, ent_ref, ent_null, ent_rf, ent_long, ok_0, ok_1, af_ret, af_void, List.tail_cons, List.tail_nil, Nat.reduceAdd, Nat.reduceLeDiff, not_false_eq_true, not_true_eq_false, and_self, and_true, true_and, ne_eq, or_true, true_or, or_false, false_or, eq_self, Nat.reduceEqDiff, ↓reduceIte, false_and, and_false, Nat.le_refl, Nat.zero_le, nz_1, nz_2, nz_3, nz_4, nz_5, nz_6, nz_8, nz_10, nz_12, nz_20, nz_30, nz_60, nz_100, kz, nz, Bz, cq, kq, ik, el, r0_214, r0_215, r0_217, r0_219]
theorem w0_20 {z0 : Nat} {q : Nat → Nat} (kz : xm_K h z0 = 111) (nz : xm_N h z0 = 21) (Bz : xm_B h ≤ z0) (cq : xm_C h 20 = .ref (q 20)) (kq : xm_K h (q 20) = 28) {ls : List (Option Value)} : xm_run d 0 220 ls [.ref z0, .ref a] h = xm_run d 0 226 ls [.ref z0, .ref a] (xm_sR h z0 20 (some (q 20))) := by
  have ik : xm_in 20 21 = true ∧ (20 : Int32).toNatClampNeg = 20 := by decide
  have el : xm_el 111 28 = true := by decide
  simp only [ite_not, ite_self, w8_nil, ok01, ite10, rf_rv, rf_ref, rf_cat, rf_lk2, rf_some, rf_none, w_add, w_cons, cr_int, cr_long, cr_ref, cr_null, is_ref, is_null, l2_int, l2_ref, l2_null, l2_none, ent_nil, ent_int, ent_ref, ent_null, ent_rf, ent_long, ok_0, ok_1, af_ret, af_void, List.tail_cons, List.tail_nil, Nat.reduceAdd, Nat.reduceLeDiff, not_false_eq_true, not_true_eq_false, and_self, and_true, true_and, ne_eq, or_true, true_or, or_false, false_or, eq_self, Nat.reduceEqDiff, ↓reduceIte, false_and, and_false, Nat.le_refl, Nat.zero_le, nz_1, nz_2, nz_3, nz_4, nz_5, nz_6, nz_8, nz_10, nz_12, nz_20, nz_30, nz_60, nz_100, kz, nz, Bz, cq, kq, ik, el, r0_220, r0_221, r0_223, r0_225]
theorem s0_14 (o : ob 1 a h) {q : Nat → Nat} (cq : ∀ k, k < 21 → xm_C h k = .ref (q k) ∧ xm_K h (q k) = 28) : ∃ h', xm_run (d + 1) 0 100 [some (.ref a)] [] h = xm_run (d + 1) 0 229 [some (.ref a)] [] h' ∧ og 1 21 a [14] h h' ∧ xm_R h' a 14 = some (xm_Z h) ∧ xm_K h' (xm_Z h) = 111 ∧ xm_N h' (xm_Z h) = 21 ∧ ∀ k, k < 21 → xm_R h' (xm_Z h) k = some (q k) := by
  obtain ⟨o1, o2, o3, o4⟩ := o
  have Bz : xm_B h ≤ xm_Z h := by omega
  have n21 : ¬ (21 : Int32) < 0 ∧ (21 : Int32).toNatClampNeg ≤ 100000 := by decide
  have e21 : (21 : Int32).toNatClampNeg = 21 := by decide
  have za : ¬ a = xm_Z h := by omega
  have kz : ∀ n, xm_K (wdr q (xm_Z h) n (xm_nw h 111 21 21)) (xm_Z h) = 111 := fun n => by rw [(wdr_R n).1, h_K_nw, if_pos rfl]
  have nz : ∀ n, xm_N (wdr q (xm_Z h) n (xm_nw h 111 21 21)) (xm_Z h) = 21 := fun n => by rw [(wdr_R n).2.1, h_N_nw, if_pos rfl]
  have bz : ∀ n, xm_B (wdr q (xm_Z h) n (xm_nw h 111 21 21)) ≤ xm_Z h := fun n => by rw [(wdr_R n).2.2.2.2.1]; exact Bz
  have cz : ∀ n k, k < 21 → xm_C (wdr q (xm_Z h) n (xm_nw h 111 21 21)) k = .ref (q k) := fun n k hk => by rw [(wdr_R n).2.2.2.2.2.1]; exact (cq k hk).1
  have qz : ∀ k, k < 21 → q k < xm_Z h := fun k hk => by
    false_or_by_contra
    have e := (cq k hk).2
    rw [o4 _ (by omega)] at e
    exact absurd e (by decide)
  have kq : ∀ n k, k < 21 → xm_K (wdr q (xm_Z h) n (xm_nw h 111 21 21)) (q k) = 28 := fun n k hk => by
    rw [(wdr_R n).1, h_K_nw, if_neg (by have := qz k hk; omega)]
    exact (cq k hk).2
  obtain ⟨r1, r2, r3, r4, r5, r6, r7, r8⟩ := wdr_R (q := q) (z0 := xm_Z h) 21 (h := xm_nw h 111 21 21)
  have x := r8 1 21 h (Nat.le_refl _) (hx_nw (kd := 111) (n := 21) (s := 21))
  have ka : xm_K (wdr q (xm_Z h) 21 (xm_nw h 111 21 21)) a = 1 := by rw [r1, h_K_nw, if_neg za]; exact o1
  have Ba : xm_B (wdr q (xm_Z h) 21 (xm_nw h 111 21 21)) ≤ a := by rw [r5]; exact o2
  refine ⟨xm_sR (wdr q (xm_Z h) 21 (xm_nw h 111 21 21)) a 14 (some (xm_Z h)), ?_, og.ofx x r3 r4 (fun y hy => ?_) ⟨o1, o2, o3, o4⟩, by rw [h_R_sR, if_pos ⟨rfl, rfl⟩], kz 21, nz 21, fun k hk => ?_⟩
  · have st : xm_run (d + 1) 0 100 [some (.ref a)] [] h = xm_run (d + 1) 0 106 [some (.ref a)] [.ref (xm_Z h), .ref a] (wdr q (xm_Z h) 0 (xm_nw h 111 21 21)) := by
      simp only [ite_not, ite_self, w8_nil, ok01, ite10, rf_rv, rf_ref, rf_cat, rf_lk2, rf_some, rf_none, w_add, w_cons, cr_int, cr_long, cr_ref, cr_null, is_ref, is_null, l2_int, l2_ref, l2_null, l2_none, ent_nil, ent_int, ent_ref, ent_null, ent_rf, ent_long, ok_0, ok_1, af_ret, af_void, List.tail_cons, List.tail_nil, Nat.reduceAdd, Nat.reduceLeDiff, not_false_eq_true, not_true_eq_false, and_self, and_true, true_and, ne_eq, or_true, true_or, or_false, false_or, eq_self, Nat.reduceEqDiff, ↓reduceIte, false_and, and_false, Nat.le_refl, Nat.zero_le, nz_1, nz_2, nz_3, nz_4, nz_5, nz_6, nz_8, nz_10, nz_12, nz_20, nz_30, nz_60, nz_100, n21, e21, r0_100, r0_101, r0_103]
      rfl
    rw [st]
    rw [w0_0 (q := q) (kz 0) (nz 0) (bz 0) (cz 0 0 (by decide)) (kq 0 0 (by decide))]
    show xm_run (d + 1) 0 111 [some (.ref a)] [.ref (xm_Z h), .ref a] (wdr q (xm_Z h) 1 (xm_nw h 111 21 21)) = _
    rw [w0_1 (q := q) (kz 1) (nz 1) (bz 1) (cz 1 1 (by decide)) (kq 1 1 (by decide))]
    show xm_run (d + 1) 0 116 [some (.ref a)] [.ref (xm_Z h), .ref a] (wdr q (xm_Z h) 2 (xm_nw h 111 21 21)) = _
    rw [w0_2 (q := q) (kz 2) (nz 2) (bz 2) (cz 2 2 (by decide)) (kq 2 2 (by decide))]
    show xm_run (d + 1) 0 121 [some (.ref a)] [.ref (xm_Z h), .ref a] (wdr q (xm_Z h) 3 (xm_nw h 111 21 21)) = _
    rw [w0_3 (q := q) (kz 3) (nz 3) (bz 3) (cz 3 3 (by decide)) (kq 3 3 (by decide))]
    show xm_run (d + 1) 0 126 [some (.ref a)] [.ref (xm_Z h), .ref a] (wdr q (xm_Z h) 4 (xm_nw h 111 21 21)) = _
    rw [w0_4 (q := q) (kz 4) (nz 4) (bz 4) (cz 4 4 (by decide)) (kq 4 4 (by decide))]
    show xm_run (d + 1) 0 131 [some (.ref a)] [.ref (xm_Z h), .ref a] (wdr q (xm_Z h) 5 (xm_nw h 111 21 21)) = _
    rw [w0_5 (q := q) (kz 5) (nz 5) (bz 5) (cz 5 5 (by decide)) (kq 5 5 (by decide))]
    show xm_run (d + 1) 0 136 [some (.ref a)] [.ref (xm_Z h), .ref a] (wdr q (xm_Z h) 6 (xm_nw h 111 21 21)) = _
    rw [w0_6 (q := q) (kz 6) (nz 6) (bz 6) (cz 6 6 (by decide)) (kq 6 6 (by decide))]
    show xm_run (d + 1) 0 142 [some (.ref a)] [.ref (xm_Z h), .ref a] (wdr q (xm_Z h) 7 (xm_nw h 111 21 21)) = _
    rw [w0_7 (q := q) (kz 7) (nz 7) (bz 7) (cz 7 7 (by decide)) (kq 7 7 (by decide))]
    show xm_run (d + 1) 0 148 [some (.ref a)] [.ref (xm_Z h), .ref a] (wdr q (xm_Z h) 8 (xm_nw h 111 21 21)) = _
    rw [w0_8 (q := q) (kz 8) (nz 8) (bz 8) (cz 8 8 (by decide)) (kq 8 8 (by decide))]
    show xm_run (d + 1) 0 154 [some (.ref a)] [.ref (xm_Z h), .ref a] (wdr q (xm_Z h) 9 (xm_nw h 111 21 21)) = _
    rw [w0_9 (q := q) (kz 9) (nz 9) (bz 9) (cz 9 9 (by decide)) (kq 9 9 (by decide))]
    show xm_run (d + 1) 0 160 [some (.ref a)] [.ref (xm_Z h), .ref a] (wdr q (xm_Z h) 10 (xm_nw h 111 21 21)) = _
    rw [w0_10 (q := q) (kz 10) (nz 10) (bz 10) (cz 10 10 (by decide)) (kq 10 10 (by decide))]
    show xm_run (d + 1) 0 166 [some (.ref a)] [.ref (xm_Z h), .ref a] (wdr q (xm_Z h) 11 (xm_nw h 111 21 21)) = _
    rw [w0_11 (q := q) (kz 11) (nz 11) (bz 11) (cz 11 11 (by decide)) (kq 11 11 (by decide))]
    show xm_run (d + 1) 0 172 [some (.ref a)] [.ref (xm_Z h), .ref a] (wdr q (xm_Z h) 12 (xm_nw h 111 21 21)) = _
    rw [w0_12 (q := q) (kz 12) (nz 12) (bz 12) (cz 12 12 (by decide)) (kq 12 12 (by decide))]
    show xm_run (d + 1) 0 178 [some (.ref a)] [.ref (xm_Z h), .ref a] (wdr q (xm_Z h) 13 (xm_nw h 111 21 21)) = _
    rw [w0_13 (q := q) (kz 13) (nz 13) (bz 13) (cz 13 13 (by decide)) (kq 13 13 (by decide))]
    show xm_run (d + 1) 0 184 [some (.ref a)] [.ref (xm_Z h), .ref a] (wdr q (xm_Z h) 14 (xm_nw h 111 21 21)) = _
    rw [w0_14 (q := q) (kz 14) (nz 14) (bz 14) (cz 14 14 (by decide)) (kq 14 14 (by decide))]
    show xm_run (d + 1) 0 190 [some (.ref a)] [.ref (xm_Z h), .ref a] (wdr q (xm_Z h) 15 (xm_nw h 111 21 21)) = _
    rw [w0_15 (q := q) (kz 15) (nz 15) (bz 15) (cz 15 15 (by decide)) (kq 15 15 (by decide))]
    show xm_run (d + 1) 0 196 [some (.ref a)] [.ref (xm_Z h), .ref a] (wdr q (xm_Z h) 16 (xm_nw h 111 21 21)) = _
    rw [w0_16 (q := q) (kz 16) (nz 16) (bz 16) (cz 16 16 (by decide)) (kq 16 16 (by decide))]
    show xm_run (d + 1) 0 202 [some (.ref a)] [.ref (xm_Z h), .ref a] (wdr q (xm_Z h) 17 (xm_nw h 111 21 21)) = _
    rw [w0_17 (q := q) (kz 17) (nz 17) (bz 17) (cz 17 17 (by decide)) (kq 17 17 (by decide))]
    show xm_run (d + 1) 0 208 [some (.ref a)] [.ref (xm_Z h), .ref a] (wdr q (xm_Z h) 18 (xm_nw h 111 21 21)) = _
    rw [w0_18 (q := q) (kz 18) (nz 18) (bz 18) (cz 18 18 (by decide)) (kq 18 18 (by decide))]
    show xm_run (d + 1) 0 214 [some (.ref a)] [.ref (xm_Z h), .ref a] (wdr q (xm_Z h) 19 (xm_nw h 111 21 21)) = _
    rw [w0_19 (q := q) (kz 19) (nz 19) (bz 19) (cz 19 19 (by decide)) (kq 19 19 (by decide))]
    show xm_run (d + 1) 0 220 [some (.ref a)] [.ref (xm_Z h), .ref a] (wdr q (xm_Z h) 20 (xm_nw h 111 21 21)) = _
    rw [w0_20 (q := q) (kz 20) (nz 20) (bz 20) (cz 20 20 (by decide)) (kq 20 20 (by decide))]
    show xm_run (d + 1) 0 226 [some (.ref a)] [.ref (xm_Z h), .ref a] (wdr q (xm_Z h) 21 (xm_nw h 111 21 21)) = _
    simp only [ite_not, ite_self, w8_nil, ok01, ite10, rf_rv, rf_ref, rf_cat, rf_lk2, rf_some, rf_none, w_add, w_cons, cr_int, cr_long, cr_ref, cr_null, is_ref, is_null, l2_int, l2_ref, l2_null, l2_none, ent_nil, ent_int, ent_ref, ent_null, ent_rf, ent_long, ok_0, ok_1, af_ret, af_void, List.tail_cons, List.tail_nil, Nat.reduceAdd, Nat.reduceLeDiff, not_false_eq_true, not_true_eq_false, and_self, and_true, true_and, ne_eq, or_true, true_or, or_false, false_or, eq_self, Nat.reduceEqDiff, ↓reduceIte, false_and, and_false, Nat.le_refl, Nat.zero_le, nz_1, nz_2, nz_3, nz_4, nz_5, nz_6, nz_8, nz_10, nz_12, nz_20, nz_30, nz_60, nz_100, ka, Ba, r0_226, r0_226n, r0_226v]
  · rw [r3] at hy
    have hy : xm_Z h + 1 ≤ y := hy
    rw [r1, h_K_nw, if_neg (by omega)]
    exact o4 y (by omega)
  · rw [h_R_sR, if_neg (fun y => za y.1.symm)]
    exact r7 k hk
end M0B
