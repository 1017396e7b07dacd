/-! strings made -/
set_option maxRecDepth 100000
section STR
variable {d : Nat} {h h' : xm_H} {D : xp_D} {F : xp_F} {z s : Nat}
/-- a heap grown out of one that is put: put, too -/
theorem raw_ext (w : HW h D) {H : xm_H} (x : hx z s (xp_c h D F) H) (k : ∀ a, xm_Z H ≤ a → xm_K H a = 0) : ∃ h', H = xp_c h' D F ∧ hx z s h h' ∧ HW h' D ∧ ∀ a p, xm_Z h ≤ a → xm_I h' a p = xm_I H a p := by
  obtain ⟨x1, x2, x3, x4, x5, x6⟩ := x
  have x3 : xm_Z h ≤ xm_Z H := x3
  refine ⟨(H.1, H.2.1, H.2.2.1, (fun a p => if a < xm_Z h then h.2.2.2.1 a p else H.2.2.2.1 a p), (fun a p => if a < xm_Z h then h.2.2.2.2.1 a p else H.2.2.2.2.1 a p), H.2.2.2.2.2), ?_, ?_, ?_, ?_⟩
  · have e1 : H.2.2.2.1 = fun a p => va_I (xd_E D a p) F (if a < xm_Z h then h.2.2.2.1 a p else H.2.2.2.1 a p) := by
      funext a p
      by_cases c : a < xm_Z h
      · rw [if_pos c]
        exact ((x6 a c).2.2 p).1
      · rw [if_neg c, (w.2.1 a p (by omega)).1]
        rfl
    have e2 : H.2.2.2.2.1 = fun a p => va_L (xd_L D a p) F (if a < xm_Z h then h.2.2.2.2.1 a p else H.2.2.2.2.1 a p) := by
      funext a p
      by_cases c : a < xm_Z h
      · rw [if_pos c]
        exact ((x6 a c).2.2 p).2.1
      · rw [if_neg c, (w.2.1 a p (by omega)).2]
        rfl
    exact congr (congrArg (fun x y => ((H.1, H.2.1, H.2.2.1, x, y, H.2.2.2.2.2) : xm_H)) e1) e2
  · refine ⟨x1, x2, x3, x4, x5, fun a ha => ⟨(x6 a ha).1, (x6 a ha).2.1, fun p => ⟨?_, ?_, ((x6 a ha).2.2 p).2.2⟩⟩⟩
    · exact if_pos ha
    · exact if_pos ha
  · refine ⟨?_, fun a p ha => w.2.1 a p (by have ha : xm_Z H ≤ a := ha; omega), k⟩
    show xm_B H ≤ xm_Z H
    have : xm_B H = xm_B h := x1
    have := w.1
    omega
  · intro a p ha
    exact if_neg (by omega)
theorem c280 {n : Int32} (hn : 0 ≤ n) : xm_met d 280 [.int 0, .int n] h = some (.inl none, h) := by
  unfold xm_met
  simp only [ite_not, ite_self, w8_nil, ok01, ite10, rf_rv, rf_ref, rf_cat, rf_lk2, rf_some, rf_none, w_add, w_cons, cr_int, cr_long, cr_ref, cr_null, is_ref, is_null, l2_int, l2_ref, l2_null, l2_none, ent_nil, ent_int, ent_ref, ent_null, ent_rf, ent_long, ok_0, ok_1, af_ret, af_void, List.tail_cons, List.tail_nil, Nat.reduceAdd, Nat.reduceLeDiff, not_false_eq_true, not_true_eq_false, and_self, and_true, true_and, ne_eq, or_true, true_or, or_false, false_or, eq_self, Nat.reduceEqDiff, ↓reduceIte, false_and, and_false, Nat.le_refl, Nat.zero_le, nz_1, nz_2, nz_3, nz_4, nz_5, nz_6, nz_8, nz_10, nz_12, nz_20, nz_30, nz_60, nz_100, r280_0, r280_1, r280_8, r280_12, r280_16, r280_26, r280_36, r280_37, r280_2, hn]
theorem c279 {b m : Nat} (kb : xm_K h b = 101) (nb : xm_N h b = 12) (hm : m < 12) (hz : ¬ b = xm_Z h) (hBz : xm_B h ≤ xm_Z h) (hf : ∀ j, j < m → xm_ok .byte (xm_I h b j) = true) : xm_met (d + 1) 279 [.ref b, .int 0, .int (Int32.ofNat m)] h = some (.inl (some (.ref (xm_Z h))), xm_cp (xm_nw h 101 m m) (xm_Z h) 0 m (fun j => xm_I h b j)) := by
  have m0 : ¬ Int32.ofNat m < 0 := by rw [Int32.lt_iff_toInt_lt, ti_nat (by omega), show (0 : Int32).toInt = 0 from rfl]; omega
  have m0' : (0 : Int32) ≤ Int32.ofNat m := Int32.not_lt.mp m0
  have tm : (Int32.ofNat m).toNatClampNeg = m := tc_nat (by omega)
  have ml : m ≤ 100000 := by omega
  have c1 := c280 (d := d) (h := h) m0'
  have s0 : Int32.ofNat m - 0 = Int32.ofNat m := Int32.sub_zero _
  have l12 : Int32.ofNat m < Int32.ofNat 12 := by rw [Int32.lt_iff_toInt_lt, ti_nat (by omega), ti_nat (by omega)]; omega
  have s12 : Int32.ofNat 12 - 0 = Int32.ofNat 12 := Int32.sub_zero _
  have k100 : 100 ≤ 101 := by decide
  have z0 : (0 : Int32).toNatClampNeg = 0 := by decide
  unfold xm_met
  simp only [ite_not, ite_self, w8_nil, ok01, ite10, rf_rv, rf_ref, rf_cat, rf_lk2, rf_some, rf_none, w_add, w_cons, cr_int, cr_long, cr_ref, cr_null, is_ref, is_null, l2_int, l2_ref, l2_null, l2_none, ent_nil, ent_int, ent_ref, ent_null, ent_rf, ent_long, ok_0, ok_1, af_ret, af_void, List.tail_cons, List.tail_nil, Nat.reduceAdd, Nat.reduceLeDiff, not_false_eq_true, not_true_eq_false, and_self, and_true, true_and, ne_eq, or_true, true_or, or_false, false_or, eq_self, Nat.reduceEqDiff, ↓reduceIte, false_and, and_false, Nat.le_refl, Nat.zero_le, nz_1, nz_2, nz_3, nz_4, nz_5, nz_6, nz_8, nz_10, nz_12, nz_20, nz_30, nz_60, nz_100, g_K_sI, g_N_sI, g_B_sI, g_Z_sI, g_K_sL, g_N_sL, g_B_sL, g_Z_sL, g_K_sR, g_N_sR, g_B_sR, g_Z_sR, g_L_sI, g_R_sI, g_I_sL, g_R_sL, g_I_sR, g_L_sR, g_R_sRv, g_K_nw, g_N_nw, g_B_nw, g_Z_nw, h_R_nw, h_I_nw, h_L_nw, r279_0, r279_1, r279_2, r279_5, r279_6, r279_7, r279_8, r279_9, r279_10, r279_12, r279_14, r279_15, r279_16, r279_18, r279_19, r279_20, r279_21, r279_22, r279_23, r279_24, ent_nil, c1, m0, ml, tm, s0, kb, nb, hz, k100, s12, l12]
  rw [r279_27]
  · simp only [ite_not, ite_self, w8_nil, ok01, ite10, rf_rv, rf_ref, rf_cat, rf_lk2, rf_some, rf_none, w_add, w_cons, cr_int, cr_long, cr_ref, cr_null, is_ref, is_null, l2_int, l2_ref, l2_null, l2_none, ent_nil, ent_int, ent_ref, ent_null, ent_rf, ent_long, ok_0, ok_1, af_ret, af_void, List.tail_cons, List.tail_nil, Nat.reduceAdd, Nat.reduceLeDiff, not_false_eq_true, not_true_eq_false, and_self, and_true, true_and, ne_eq, or_true, true_or, or_false, false_or, eq_self, Nat.reduceEqDiff, ↓reduceIte, false_and, and_false, Nat.le_refl, Nat.zero_le, nz_1, nz_2, nz_3, nz_4, nz_5, nz_6, nz_8, nz_10, nz_12, nz_20, nz_30, nz_60, nz_100, r279_30, r279_32, tm, z0, Nat.zero_add, h_I_nw, hz]
  · simp only [h_K_nw, h_N_nw, h_B_nw, h_I_nw, hz, kb, nb, tm, z0, Nat.zero_add, ↓reduceIte, if_neg hz]
    refine ⟨Or.inr ⟨trivial, ?_⟩, trivial, hBz, fun e => e, m0, by decide, by decide, by omega, by omega, by decide⟩
    rw [List.all_eq_true]
    intro j hj
    first | exact ok_fit (hf j (List.mem_range.mp hj)) | exact hf j (List.mem_range.mp hj)
theorem c278 {b m : Nat} (kb : xm_K h b = 101) (nb : xm_N h b = 12) (hm : m < 12) (hz : ¬ b = xm_Z h) (hBz : xm_B h ≤ xm_Z h) (hf : ∀ j, j < m → xm_ok .byte (xm_I h b j) = true) : xm_met (d + 2) 278 [.ref b, .int 0, .int (Int32.ofNat m)] h = some (.inl (some (.ref (xm_Z h))), xm_cp (xm_nw h 101 m m) (xm_Z h) 0 m (fun j => xm_I h b j)) := by
  have c1 := c279 (d := d) kb nb hm hz hBz hf
  have ne : ¬ Int32.ofNat m = Int32.ofNat 12 := fun e => by
    have := congrArg Int32.toInt e
    rw [ti_nat (by omega), ti_nat (by omega)] at this
    omega
  have k100 : 100 ≤ 101 := by decide
  unfold xm_met
  simp only [ite_not, ite_self, w8_nil, ok01, ite10, rf_rv, rf_ref, rf_cat, rf_lk2, rf_some, rf_none, w_add, w_cons, cr_int, cr_long, cr_ref, cr_null, is_ref, is_null, l2_int, l2_ref, l2_null, l2_none, ent_nil, ent_int, ent_ref, ent_null, ent_rf, ent_long, ok_0, ok_1, af_ret, af_void, List.tail_cons, List.tail_nil, Nat.reduceAdd, Nat.reduceLeDiff, not_false_eq_true, not_true_eq_false, and_self, and_true, true_and, ne_eq, or_true, true_or, or_false, false_or, eq_self, Nat.reduceEqDiff, ↓reduceIte, false_and, and_false, Nat.le_refl, Nat.zero_le, nz_1, nz_2, nz_3, nz_4, nz_5, nz_6, nz_8, nz_10, nz_12, nz_20, nz_30, nz_60, nz_100, r278_0, r278_4, r278_5, r278_6, r278_10, r278_11, r278_12, r278_13, r278_16, r278_17, r278_24, r278_1, r278_7, kb, nb, k100, ne, c1]
end STR
