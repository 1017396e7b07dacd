/-! the component's first objects: reader, rows, customs -/
set_option maxRecDepth 100000
section M0C
variable {d : Nat} {a : Nat} {h h1 h2 hB : xm_H}
theorem c67 {b x : Nat} (k : xm_K h b = 3) (hB : xm_B h ≤ b) : xm_met (d + 1) 67 [.ref b, .ref x] h = some (.inl none, xm_sR h b 7 (some x)) := by
  unfold xm_met
  simp only [ite_not, ite_self, w8_nil, ok01, ite10, rf_rv, rf_ref, rf_cat, rf_lk2, rf_some, rf_none, w_add, w_cons, cr_int, cr_long, cr_ref, cr_null, is_ref, is_null, l2_int, l2_ref, l2_null, l2_none, ent_nil, ent_int, ent_ref, ent_null, ent_rf, ent_long, ok_0, ok_1, af_ret, af_void, List.tail_cons, List.tail_nil, Nat.reduceAdd, Nat.reduceLeDiff, not_false_eq_true, not_true_eq_false, and_self, and_true, true_and, ne_eq, or_true, true_or, or_false, false_or, eq_self, Nat.reduceEqDiff, ↓reduceIte, false_and, and_false, Nat.le_refl, Nat.zero_le, nz_1, nz_2, nz_3, nz_4, nz_5, nz_6, nz_8, nz_10, nz_12, nz_20, nz_30, nz_60, nz_100, k, hB, r67_0, r67_1, r67_2, r67_2n, r67_2v, r67_5, r67_6, r67_9, ent_nil]
theorem s0_15 (o : ob 1 a h) : ∃ h', xm_run (d + 2) 0 229 [some (.ref a)] [] h = xm_run (d + 2) 0 241 [some (.ref a)] [] h' ∧ og 1 8 a [15] h h' ∧ xm_R h' a 15 = some (xm_Z h) ∧ xm_K h' (xm_Z h) = 3 ∧ xm_R h' (xm_Z h) 7 = some a ∧ ∀ p, xm_I h' (xm_Z h) p = 0 := by
  obtain ⟨o1, o2, o3, o4⟩ := o
  have Bz : xm_B h ≤ xm_Z h := by omega
  have za : ¬ a = xm_Z h := by omega
  have x : hx 1 8 h (xm_sR (xm_nw h 3 0 8) (xm_Z h) 7 (some a)) := (hx_nw (h := h) (kd := 3) (n := 0) (s := 8)).sR (Nat.le_refl _)
  have m := c67 (d := d) (h := xm_nw h 3 0 8) (b := xm_Z h) (x := a) (by rw [h_K_nw, if_pos rfl]) Bz
  have kz : xm_K (xm_sR (xm_nw h 3 0 8) (xm_Z h) 7 (some a)) (xm_Z h) = 3 := by rw [h_K_sR, h_K_nw, if_pos rfl]
  have ka : xm_K (xm_sR (xm_nw h 3 0 8) (xm_Z h) 7 (some a)) a = 1 := by rw [h_K_sR, h_K_nw, if_neg za]; exact o1
  have Ba : xm_B (xm_sR (xm_nw h 3 0 8) (xm_Z h) 7 (some a)) ≤ a := o2
  refine ⟨xm_sR (xm_sR (xm_nw h 3 0 8) (xm_Z h) 7 (some a)) a 15 (some (xm_Z h)), ?_, og.ofx x rfl rfl (fun y hy => ?_) ⟨o1, o2, o3, o4⟩, by rw [h_R_sR, if_pos ⟨rfl, rfl⟩], kz, ?_, fun p => ?_⟩
  · simp only [ite_not, ite_self, w8_nil, ok01, ite10, rf_rv, rf_ref, rf_cat, rf_lk2, rf_some, rf_none, w_add, w_cons, cr_int, cr_long, cr_ref, cr_null, is_ref, is_null, l2_int, l2_ref, l2_null, l2_none, ent_nil, ent_int, ent_ref, ent_null, ent_rf, ent_long, ok_0, ok_1, af_ret, af_void, List.tail_cons, List.tail_nil, Nat.reduceAdd, Nat.reduceLeDiff, not_false_eq_true, not_true_eq_false, and_self, and_true, true_and, ne_eq, or_true, true_or, or_false, false_or, eq_self, Nat.reduceEqDiff, ↓reduceIte, false_and, and_false, Nat.le_refl, Nat.zero_le, nz_1, nz_2, nz_3, nz_4, nz_5, nz_6, nz_8, nz_10, nz_12, nz_20, nz_30, nz_60, nz_100, m, ka, Ba, r0_229, r0_230, r0_233, r0_234, r0_235, r0_238, r0_238n, r0_238v]
  · have hy : xm_Z h + 1 ≤ y := hy
    show xm_K (xm_nw h 3 0 8) y = 0
    rw [h_K_nw, if_neg (by omega)]
    exact o4 y (by omega)
  · rw [h_R_sR, if_neg (fun y => za y.1.symm), h_R_sR, if_pos ⟨rfl, rfl⟩]
  · show xm_I (xm_nw h 3 0 8) (xm_Z h) p = 0
    rw [h_I_nw, if_pos rfl]
theorem s0_16 (o : ob 1 a h) : ∃ h', xm_run (d + 1) 0 241 [some (.ref a)] [] h = xm_run (d + 1) 0 252 [some (.ref a)] [] h' ∧ og 3 42 a [16] h h' ∧ xm_R h' a 16 = some (xm_Z h) ∧ xm_K h' (xm_Z h) = 112 ∧ xm_N h' (xm_Z h) = 2 ∧ xm_R h' (xm_Z h) 0 = some (xm_Z h + 1) ∧ xm_R h' (xm_Z h) 1 = some (xm_Z h + 2) ∧ xm_K h' (xm_Z h + 1) = 113 ∧ xm_N h' (xm_Z h + 1) = 20 ∧ xm_K h' (xm_Z h + 2) = 113 ∧ xm_N h' (xm_Z h + 2) = 20 := by
  obtain ⟨o1, o2, o3, o4⟩ := o
  have za : ¬ a = xm_Z h := by omega
  have n20 : ¬ (20 : Int32) < 0 ∧ (20 : Int32).toNatClampNeg ≤ 1000 := by decide
  have e20 : (20 : Int32).toNatClampNeg = 20 := by decide
  have K : ∀ y, xm_K (xm_sR (xm_sR (xm_nw (xm_nw (xm_nw h 112 2 2) 113 20 20) 113 20 20) (xm_Z h) 0 (some (xm_Z h + 1))) (xm_Z h) 1 (some (xm_Z h + 2))) y = if y = xm_Z h + 2 then 113 else if y = xm_Z h + 1 then 113 else if y = xm_Z h then 112 else xm_K h y := fun _ => rfl
  have N : ∀ y, xm_N (xm_sR (xm_sR (xm_nw (xm_nw (xm_nw h 112 2 2) 113 20 20) 113 20 20) (xm_Z h) 0 (some (xm_Z h + 1))) (xm_Z h) 1 (some (xm_Z h + 2))) y = if y = xm_Z h + 2 then 20 else if y = xm_Z h + 1 then 20 else if y = xm_Z h then 2 else xm_N h y := fun _ => rfl
  have x : hx 3 42 h (xm_sR (xm_sR (xm_nw (xm_nw (xm_nw h 112 2 2) 113 20 20) 113 20 20) (xm_Z h) 0 (some (xm_Z h + 1))) (xm_Z h) 1 (some (xm_Z h + 2))) := ((((hx_nw (h := h) (kd := 112) (n := 2) (s := 2)).tr (hx_nw (kd := 113) (n := 20) (s := 20))).tr (hx_nw (kd := 113) (n := 20) (s := 20))).sR (Nat.le_refl _)).sR (Nat.le_refl _)
  have ka : xm_K (xm_sR (xm_sR (xm_nw (xm_nw (xm_nw h 112 2 2) 113 20 20) 113 20 20) (xm_Z h) 0 (some (xm_Z h + 1))) (xm_Z h) 1 (some (xm_Z h + 2))) a = 1 := by
    rw [K, if_neg (by omega), if_neg (by omega), if_neg za]
    exact o1
  have Ba : xm_B (xm_sR (xm_sR (xm_nw (xm_nw (xm_nw h 112 2 2) 113 20 20) 113 20 20) (xm_Z h) 0 (some (xm_Z h + 1))) (xm_Z h) 1 (some (xm_Z h + 2))) ≤ a := o2
  refine ⟨xm_sR (xm_sR (xm_sR (xm_nw (xm_nw (xm_nw h 112 2 2) 113 20 20) 113 20 20) (xm_Z h) 0 (some (xm_Z h + 1))) (xm_Z h) 1 (some (xm_Z h + 2))) a 16 (some (xm_Z h)), ?_, og.ofx x rfl rfl (fun y hy => ?_) ⟨o1, o2, o3, o4⟩, by rw [h_R_sR, if_pos ⟨rfl, rfl⟩], ?_, ?_, ?_, ?_, ?_, ?_, ?_, ?_⟩
  · simp only [ite_not, ite_self, w8_nil, ok01, ite10, rf_rv, rf_ref, rf_cat, rf_lk2, rf_some, rf_none, w_add, w_cons, cr_int, cr_long, cr_ref, cr_null, is_ref, is_null, l2_int, l2_ref, l2_null, l2_none, ent_nil, ent_int, ent_ref, ent_null, ent_rf, ent_long, ok_0, ok_1, af_ret, af_void, List.tail_cons, List.tail_nil, Nat.reduceAdd, Nat.reduceLeDiff, not_false_eq_true, not_true_eq_false, and_self, and_true, true_and, ne_eq, or_true, true_or, or_false, false_or, eq_self, Nat.reduceEqDiff, ↓reduceIte, false_and, and_false, Nat.le_refl, Nat.zero_le, nz_1, nz_2, nz_3, nz_4, nz_5, nz_6, nz_8, nz_10, nz_12, nz_20, nz_30, nz_60, nz_100, n20, e20, ka, Ba, r0_241, r0_242, r0_243, r0_245, r0_249, r0_249n, r0_249v]
  · have hy : xm_Z h + 3 ≤ y := hy
    rw [K, if_neg (by omega), if_neg (by omega), if_neg (by omega)]
    exact o4 y (by omega)
  · rw [h_K_sR, K, if_neg (by omega), if_neg (by omega), if_pos rfl]
  · rw [h_N_sR, N, if_neg (by omega), if_neg (by omega), if_pos rfl]
  · rw [h_R_sR, if_neg (by omega), h_R_sR, if_neg (by omega), h_R_sR, if_pos ⟨rfl, rfl⟩]
  · rw [h_R_sR, if_neg (by omega), h_R_sR, if_pos ⟨rfl, rfl⟩]
  · rw [h_K_sR, K, if_neg (by omega), if_pos rfl]
  · rw [h_N_sR, N, if_neg (by omega), if_pos rfl]
  · rw [h_K_sR, K, if_pos rfl]
  · rw [h_N_sR, N, if_pos rfl]
/-- customs i laid in the row z0 -/
abbrev cst (z0 i : Nat) (H : xm_H) : xm_H := xm_sR (xm_sI (xm_sR (xm_nw (xm_nw H 4 0 5) 100 4 4) (xm_Z H) 0 (some (xm_Z H + 1))) (xm_Z H) 2 20) z0 i (some (xm_Z H))
theorem cst_f {z0 i : Nat} {H : xm_H} (hz : z0 < xm_Z H) : (∀ y, xm_K (cst z0 i H) y = if y = xm_Z H + 1 then 100 else if y = xm_Z H then 4 else xm_K H y) ∧ (∀ y, xm_N (cst z0 i H) y = if y = xm_Z H + 1 then 4 else if y = xm_Z H then 0 else xm_N H y) ∧ (∀ y p, xm_I (cst z0 i H) y p = if y = xm_Z H ∧ p = 2 then 20 else if y = xm_Z H + 1 then 0 else if y = xm_Z H then 0 else xm_I H y p) ∧ (∀ y p, xm_R (cst z0 i H) y p = if y = z0 ∧ p = i then some (xm_Z H) else if y = xm_Z H ∧ p = 0 then some (xm_Z H + 1) else if y = xm_Z H + 1 then none else if y = xm_Z H then none else xm_R H y p) ∧ ∀ z s h0, xm_Z h0 ≤ z0 → hx z s h0 H → hx (z + 2) (s + 9) h0 (cst z0 i H) := by
  refine ⟨fun _ => rfl, fun _ => rfl, fun y p => ?_, fun y p => ?_, fun z s h0 hz0 x => ?_⟩
  · show xm_I (xm_sI (xm_sR (xm_nw (xm_nw H 4 0 5) 100 4 4) (xm_Z H) 0 (some (xm_Z H + 1))) (xm_Z H) 2 20) y p = _
    rw [h_I_sI]
    by_cases c : y = xm_Z H ∧ p = 2
    · rw [if_pos c, if_pos c]
    rw [if_neg c, if_neg c, h_I_sR, h_I_nw, h_I_nw]
    rfl
  · rw [h_R_sR]
    by_cases c : y = z0 ∧ p = i
    · rw [if_pos c, if_pos c]
    rw [if_neg c, if_neg c, h_R_sI, h_R_sR]
    by_cases c1 : y = xm_Z H ∧ p = 0
    · rw [if_pos c1, if_pos c1]
    rw [if_neg c1, if_neg c1, h_R_nw, h_R_nw]
    rfl
  · have zz : xm_Z h0 ≤ xm_Z H := x.2.2.1
    exact ((((((x.tr (hx_nw (kd := 4) (n := 0) (s := 5))).tr (hx_nw (kd := 100) (n := 4) (s := 4))).sR zz).sI zz).sR hz0)).mono (by omega) (by omega)
theorem s0_19 (o : ob 1 a h) : ∃ h', xm_run (d + 2) 0 267 [some (.ref a)] [] h = xm_run (d + 2) 0 295 [some (.ref a)] [] h' ∧ og 5 20 a [19] h h' ∧ xm_R h' a 19 = some (xm_Z h) ∧ xm_K h' (xm_Z h) = 114 ∧ xm_N h' (xm_Z h) = 2 ∧ (xm_R h' (xm_Z h) 0 = some (xm_Z h + 1) ∧ xm_K h' (xm_Z h + 1) = 4 ∧ xm_R h' (xm_Z h + 1) 0 = some (xm_Z h + 2) ∧ xm_K h' (xm_Z h + 2) = 100 ∧ xm_N h' (xm_Z h + 2) = 4 ∧ (∀ p, xm_I h' (xm_Z h + 1) p = if p = 2 then 20 else 0) ∧ ∀ p, xm_I h' (xm_Z h + 2) p = 0) ∧ xm_R h' (xm_Z h) 1 = some (xm_Z h + 3) ∧ xm_K h' (xm_Z h + 3) = 4 ∧ xm_R h' (xm_Z h + 3) 0 = some (xm_Z h + 4) ∧ xm_K h' (xm_Z h + 4) = 100 ∧ xm_N h' (xm_Z h + 4) = 4 ∧ (∀ p, xm_I h' (xm_Z h + 3) p = if p = 2 then 20 else 0) ∧ ∀ p, xm_I h' (xm_Z h + 4) p = 0 := by
  obtain ⟨o1, o2, o3, o4⟩ := o
  have za : ¬ a = xm_Z h := by omega
  have Bz : xm_B h ≤ xm_Z h := by omega
  have z1 : xm_Z (xm_nw h 114 2 2) = xm_Z h + 1 := rfl
  have z2 : xm_Z (cst (xm_Z h) 0 (xm_nw h 114 2 2)) = xm_Z h + 3 := rfl
  have z3 : xm_Z (cst (xm_Z h) 1 (cst (xm_Z h) 0 (xm_nw h 114 2 2))) = xm_Z h + 5 := rfl
  obtain ⟨k1, n1, i1, r1, x1⟩ := cst_f (z0 := xm_Z h) (i := 0) (H := xm_nw h 114 2 2) (Nat.lt_succ_self _)
  obtain ⟨k2, n2, i2, r2, x2⟩ := cst_f (z0 := xm_Z h) (i := 1) (H := cst (xm_Z h) 0 (xm_nw h 114 2 2)) (by rw [z2]; omega)
  have xx := x2 3 11 h (Nat.le_refl _) (x1 1 2 h (Nat.le_refl _) (hx_nw (kd := 114) (n := 2) (s := 2)))
  have step : ∀ {H : xm_H}, xm_K H (xm_Z h) = 114 → xm_N H (xm_Z h) = 2 → xm_B H = xm_B h → xm_Z h < xm_Z H → xm_run (d + 2) 0 272 [some (.ref a)] [.ref (xm_Z h), .ref a] H = xm_run (d + 2) 0 282 [some (.ref a)] [.ref (xm_Z h), .ref a] (cst (xm_Z h) 0 H) ∧ xm_run (d + 2) 0 282 [some (.ref a)] [.ref (xm_Z h), .ref a] H = xm_run (d + 2) 0 292 [some (.ref a)] [.ref (xm_Z h), .ref a] (cst (xm_Z h) 1 H) := by
    intro H hk hn hb hz
    have el : xm_el 114 4 = true := by decide
    have i0 : xm_in 0 2 = true ∧ (0 : Int32).toNatClampNeg = 0 := by decide
    have i1 : xm_in 1 2 = true ∧ (1 : Int32).toNatClampNeg = 1 := by decide
    have m := c87 (d := d) (h := xm_nw H 4 0 5) (a := xm_Z H) (by rw [h_K_nw, if_pos rfl]) (by show xm_B H ≤ _; omega) (by show ¬ xm_Z H = xm_Z H + 1; omega)
    have m : xm_met (d + 1) 87 [.ref (xm_Z H)] (xm_nw H 4 0 5) = some (.inl none, xm_sI (xm_sR (xm_nw (xm_nw H 4 0 5) 100 4 4) (xm_Z H) 0 (some (xm_Z H + 1))) (xm_Z H) 2 20) := m
    have gk : xm_K (xm_sI (xm_sR (xm_nw (xm_nw H 4 0 5) 100 4 4) (xm_Z H) 0 (some (xm_Z H + 1))) (xm_Z H) 2 20) (xm_Z h) = 114 := by
      show (if xm_Z h = xm_Z H + 1 then 100 else if xm_Z h = xm_Z H then 4 else xm_K H (xm_Z h)) = 114
      rw [if_neg (by omega), if_neg (by omega)]
      exact hk
    have gn : xm_N (xm_sI (xm_sR (xm_nw (xm_nw H 4 0 5) 100 4 4) (xm_Z H) 0 (some (xm_Z H + 1))) (xm_Z H) 2 20) (xm_Z h) = 2 := by
      show (if xm_Z h = xm_Z H + 1 then 4 else if xm_Z h = xm_Z H then 0 else xm_N H (xm_Z h)) = 2
      rw [if_neg (by omega), if_neg (by omega)]
      exact hn
    have g4 : xm_K (xm_sI (xm_sR (xm_nw (xm_nw H 4 0 5) 100 4 4) (xm_Z H) 0 (some (xm_Z H + 1))) (xm_Z H) 2 20) (xm_Z H) = 4 := by
      show (if xm_Z H = xm_Z H + 1 then 100 else if xm_Z H = xm_Z H then 4 else xm_K H (xm_Z H)) = 4
      rw [if_neg (by omega), if_pos rfl]
    have gb : xm_B (xm_sI (xm_sR (xm_nw (xm_nw H 4 0 5) 100 4 4) (xm_Z H) 0 (some (xm_Z H + 1))) (xm_Z H) 2 20) ≤ xm_Z h := by
      show xm_B H ≤ _
      omega
    constructor
    · simp only [ite_not, ite_self, w8_nil, ok01, ite10, rf_rv, rf_ref, rf_cat, rf_lk2, rf_some, rf_none, w_add, w_cons, cr_int, cr_long, cr_ref, cr_null, is_ref, is_null, l2_int, l2_ref, l2_null, l2_none, ent_nil, ent_int, ent_ref, ent_null, ent_rf, ent_long, ok_0, ok_1, af_ret, af_void, List.tail_cons, List.tail_nil, Nat.reduceAdd, Nat.reduceLeDiff, not_false_eq_true, not_true_eq_false, and_self, and_true, true_and, ne_eq, or_true, true_or, or_false, false_or, eq_self, Nat.reduceEqDiff, ↓reduceIte, false_and, and_false, Nat.le_refl, Nat.zero_le, nz_1, nz_2, nz_3, nz_4, nz_5, nz_6, nz_8, nz_10, nz_12, nz_20, nz_30, nz_60, nz_100, m, gk, gn, g4, gb, el, i0, r0_272, r0_273, r0_274, r0_277, r0_278, r0_281]
    · simp only [ite_not, ite_self, w8_nil, ok01, ite10, rf_rv, rf_ref, rf_cat, rf_lk2, rf_some, rf_none, w_add, w_cons, cr_int, cr_long, cr_ref, cr_null, is_ref, is_null, l2_int, l2_ref, l2_null, l2_none, ent_nil, ent_int, ent_ref, ent_null, ent_rf, ent_long, ok_0, ok_1, af_ret, af_void, List.tail_cons, List.tail_nil, Nat.reduceAdd, Nat.reduceLeDiff, not_false_eq_true, not_true_eq_false, and_self, and_true, true_and, ne_eq, or_true, true_or, or_false, false_or, eq_self, Nat.reduceEqDiff, ↓reduceIte, false_and, and_false, Nat.le_refl, Nat.zero_le, nz_1, nz_2, nz_3, nz_4, nz_5, nz_6, nz_8, nz_10, nz_12, nz_20, nz_30, nz_60, nz_100, m, gk, gn, g4, gb, el, i1, r0_282, r0_283, r0_284, r0_287, r0_288, r0_291]
  have s1 := (step (H := xm_nw h 114 2 2) (by rw [h_K_nw, if_pos rfl]) (by rw [h_N_nw, if_pos rfl]) rfl (Nat.lt_succ_self _)).1
  have s2 := (step (H := cst (xm_Z h) 0 (xm_nw h 114 2 2)) (by rw [k1, z1, if_neg (by omega), if_neg (by omega), h_K_nw, if_pos rfl]) (by rw [n1, z1, if_neg (by omega), if_neg (by omega), h_N_nw, if_pos rfl]) rfl (by rw [z2]; omega)).2
  rw [z1] at k1 n1 i1 r1
  rw [z2] at k2 n2 i2 r2
  have ka : xm_K (cst (xm_Z h) 1 (cst (xm_Z h) 0 (xm_nw h 114 2 2))) a = 1 := by
    rw [k2, if_neg (by omega), if_neg (by omega), k1, if_neg (by omega), if_neg (by omega), h_K_nw, if_neg za]
    exact o1
  have Ba : xm_B (cst (xm_Z h) 1 (cst (xm_Z h) 0 (xm_nw h 114 2 2))) ≤ a := o2
  have n2' : ¬ (2 : Int32) < 0 ∧ (2 : Int32).toNatClampNeg ≤ 100000 := by decide
  have e2' : (2 : Int32).toNatClampNeg = 2 := by decide
  have gr : ∀ y p, ¬ y = a → xm_R (xm_sR (cst (xm_Z h) 1 (cst (xm_Z h) 0 (xm_nw h 114 2 2))) a 19 (some (xm_Z h))) y p = xm_R (cst (xm_Z h) 1 (cst (xm_Z h) 0 (xm_nw h 114 2 2))) y p := fun y p hy => by rw [h_R_sR, if_neg (fun z => hy z.1)]
  refine ⟨xm_sR (cst (xm_Z h) 1 (cst (xm_Z h) 0 (xm_nw h 114 2 2))) a 19 (some (xm_Z h)), ?_, og.ofx xx z3 rfl (fun y hy => ?_) ⟨o1, o2, o3, o4⟩, by rw [h_R_sR, if_pos ⟨rfl, rfl⟩], ?_, ?_, ⟨?_, ?_, ?_, ?_, ?_, fun p => ?_, fun p => ?_⟩, ?_, ?_, ?_, ?_, ?_, fun p => ?_, fun p => ?_⟩
  · have st : xm_run (d + 2) 0 267 [some (.ref a)] [] h = xm_run (d + 2) 0 272 [some (.ref a)] [.ref (xm_Z h), .ref a] (xm_nw h 114 2 2) := by
      simp only [ite_not, ite_self, w8_nil, ok01, ite10, rf_rv, rf_ref, rf_cat, rf_lk2, rf_some, rf_none, w_add, w_cons, cr_int, cr_long, cr_ref, cr_null, is_ref, is_null, l2_int, l2_ref, l2_null, l2_none, ent_nil, ent_int, ent_ref, ent_null, ent_rf, ent_long, ok_0, ok_1, af_ret, af_void, List.tail_cons, List.tail_nil, Nat.reduceAdd, Nat.reduceLeDiff, not_false_eq_true, not_true_eq_false, and_self, and_true, true_and, ne_eq, or_true, true_or, or_false, false_or, eq_self, Nat.reduceEqDiff, ↓reduceIte, false_and, and_false, Nat.le_refl, Nat.zero_le, nz_1, nz_2, nz_3, nz_4, nz_5, nz_6, nz_8, nz_10, nz_12, nz_20, nz_30, nz_60, nz_100, n2', e2', r0_267, r0_268, r0_269]
    rw [st, s1, s2]
    simp only [ite_not, ite_self, w8_nil, ok01, ite10, rf_rv, rf_ref, rf_cat, rf_lk2, rf_some, rf_none, w_add, w_cons, cr_int, cr_long, cr_ref, cr_null, is_ref, is_null, l2_int, l2_ref, l2_null, l2_none, ent_nil, ent_int, ent_ref, ent_null, ent_rf, ent_long, ok_0, ok_1, af_ret, af_void, List.tail_cons, List.tail_nil, Nat.reduceAdd, Nat.reduceLeDiff, not_false_eq_true, not_true_eq_false, and_self, and_true, true_and, ne_eq, or_true, true_or, or_false, false_or, eq_self, Nat.reduceEqDiff, ↓reduceIte, false_and, and_false, Nat.le_refl, Nat.zero_le, nz_1, nz_2, nz_3, nz_4, nz_5, nz_6, nz_8, nz_10, nz_12, nz_20, nz_30, nz_60, nz_100, ka, Ba, r0_292, r0_292n, r0_292v]
  · have hy : xm_Z h + 5 ≤ y := hy
    rw [k2, if_neg (by omega), if_neg (by omega), k1, if_neg (by omega), if_neg (by omega), h_K_nw, if_neg (by omega)]
    exact o4 y (by omega)
  · rw [h_K_sR, k2, if_neg (by omega), if_neg (by omega), k1, if_neg (by omega), if_neg (by omega), h_K_nw, if_pos rfl]
  · rw [h_N_sR, n2, if_neg (by omega), if_neg (by omega), n1, if_neg (by omega), if_neg (by omega), h_N_nw, if_pos rfl]
  · rw [gr _ _ (by omega), r2, if_neg (by omega), if_neg (by omega), if_neg (by omega), if_neg (by omega), r1, if_pos ⟨rfl, rfl⟩]
  · rw [h_K_sR, k2, if_neg (by omega), if_neg (by omega), k1, if_neg (by omega), if_pos rfl]
  · rw [gr _ _ (by omega), r2, if_neg (by omega), if_neg (by omega), if_neg (by omega), if_neg (by omega), r1, if_neg (by omega), if_pos ⟨rfl, rfl⟩]
  · rw [h_K_sR, k2, if_neg (by omega), if_neg (by omega), k1, if_pos rfl]
  · rw [h_N_sR, n2, if_neg (by omega), if_neg (by omega), n1, if_pos rfl]
  · rw [h_I_sR, i2, if_neg (by omega), if_neg (by omega), if_neg (by omega), i1]
    by_cases c : p = 2
    · rw [if_pos ⟨rfl, c⟩, if_pos c]
    · rw [if_neg (fun y => c y.2), if_neg (by omega), if_pos rfl, if_neg c]
  · rw [h_I_sR, i2, if_neg (by omega), if_neg (by omega), if_neg (by omega), i1, if_neg (by omega), if_pos rfl]
  · rw [gr _ _ (by omega), r2, if_pos ⟨rfl, rfl⟩]
  · rw [h_K_sR, k2, if_neg (by omega), if_pos rfl]
  · rw [gr _ _ (by omega), r2, if_neg (by omega), if_pos ⟨rfl, rfl⟩]
  · rw [h_K_sR, k2, if_pos rfl]
  · rw [h_N_sR, n2, if_pos rfl]
  · rw [h_I_sR, i2]
    by_cases c : p = 2
    · rw [if_pos ⟨rfl, c⟩, if_pos c]
    · rw [if_neg (fun y => c y.2), if_neg (by omega), if_pos rfl, if_neg c]
  · rw [h_I_sR, i2, if_neg (by omega), if_pos rfl]
end M0C
