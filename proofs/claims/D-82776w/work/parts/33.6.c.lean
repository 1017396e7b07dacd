/-! strings made, compared, sought in -/
set_option maxRecDepth 100000
section STQ
variable {d : Nat} {h h' : xm_H} {D : xp_D} {F : xp_F} {z s : Nat}
theorem c242 {a b : Nat} (hk : xm_K h a = 27) (hr : xm_R h a 0 = some b) : xm_met d 242 [.ref a] h = some (.inl (some (.ref b)), h) := by
  unfold xm_met
  simp only [ite_not, ite_self, w8_nil, ok01, ite10, rf_rv, rf_ref, rf_cat, rf_lk2, rf_some, rf_none, w_add, w_cons, cr_int, cr_long, cr_ref, cr_null, is_ref, is_null, l2_int, l2_ref, l2_null, l2_none, ent_nil, ent_int, ent_ref, ent_null, ent_rf, ent_long, ok_0, ok_1, af_ret, af_void, List.tail_cons, List.tail_nil, Nat.reduceAdd, Nat.reduceLeDiff, not_false_eq_true, not_true_eq_false, and_self, and_true, true_and, ne_eq, or_true, true_or, or_false, false_or, eq_self, Nat.reduceEqDiff, ↓reduceIte, false_and, and_false, Nat.le_refl, Nat.zero_le, nz_1, nz_2, nz_3, nz_4, nz_5, nz_6, nz_8, nz_10, nz_12, nz_20, nz_30, nz_60, nz_100, r242_0, r242_1, r242_4, ent_nil, hk, hr, i27]
theorem c250 {s a b m : Nat} (hc : xm_C h 100 = .int 1) (ks : xm_K h s = 28) (bs : xm_B h ≤ s) (hk : xm_K h a = 27) (h1 : xm_I h a 1 = 0) (h3 : xm_I h a 3 = Int32.ofNat m) (hr : xm_R h a 0 = some b) (kb : xm_K h b = 101) (nb : xm_N h b = 12) (hm : m < 12) (sb : ¬ b = s) (bz : ¬ b = xm_Z h) (sz : ¬ s = xm_Z h) (hBz : xm_B h ≤ xm_Z h) (hf : ∀ j, j < m → xm_ok .byte (xm_I h b j) = true) : xm_met (d + 3) 250 [.ref s, .ref a, .null] h = some (.inl none, xm_sR (xm_cp (xm_nw (xm_sI h s 1 0) 101 m m) (xm_Z h) 0 m (fun j => xm_I h b j)) s 0 (some (xm_Z h))) := by
  have m1 := c242 (d := d + 2) hk hr
  have m2 := c244 (d := d + 1) (h := h) hk
  have m3 := c240 (d := d + 2) hc hk h1
  have e : ∀ j, xm_I (xm_sI h s 1 0) b j = xm_I h b j := fun j => by rw [h_I_sI, if_neg (fun z => sb z.1)]
  have m4 := c278 (d := d) (h := xm_sI h s 1 0) (b := b) (m := m) kb nb hm bz hBz (fun j hj => by rw [e]; exact hf j hj)
  have e2 : (fun j => xm_I (xm_sI h s 1 0) b j) = fun j => xm_I h b j := funext e
  rw [e2] at m4
  have m4 : xm_met (d + 2) 278 [.ref b, .int 0, .int (Int32.ofNat m)] (xm_sI h s 1 0) = some (.inl (some (.ref (xm_Z h))), xm_cp (xm_nw (xm_sI h s 1 0) 101 m m) (xm_Z h) 0 m (fun j => xm_I h b j)) := m4
  have o : xm_ok .byte 0 = true := by decide
  have n1 : ¬ (1 : Int32) = 0 := by decide
  have K5 : xm_K (xm_cp (xm_nw (xm_sI h s 1 0) 101 m m) (xm_Z h) 0 m (fun j => xm_I h b j)) s = 28 := by
    show (if s = xm_Z h then 101 else xm_K h s) = 28
    rw [if_neg sz]
    exact ks
  have B5 : xm_B (xm_cp (xm_nw (xm_sI h s 1 0) 101 m m) (xm_Z h) 0 m (fun j => xm_I h b j)) ≤ s := bs
  unfold xm_met
  simp only [ite_not, ite_self, w8_nil, ok01, ite10, rf_rv, rf_ref, rf_cat, rf_lk2, rf_some, rf_none, w_add, w_cons, cr_int, cr_long, cr_ref, cr_null, is_ref, is_null, l2_int, l2_ref, l2_null, l2_none, ent_nil, ent_int, ent_ref, ent_null, ent_rf, ent_long, ok_0, ok_1, af_ret, af_void, List.tail_cons, List.tail_nil, Nat.reduceAdd, Nat.reduceLeDiff, not_false_eq_true, not_true_eq_false, and_self, and_true, true_and, ne_eq, or_true, true_or, or_false, false_or, eq_self, Nat.reduceEqDiff, ↓reduceIte, false_and, and_false, Nat.le_refl, Nat.zero_le, nz_1, nz_2, nz_3, nz_4, nz_5, nz_6, nz_8, nz_10, nz_12, nz_20, nz_30, nz_60, nz_100, g_K_sI, g_N_sI, g_B_sI, g_Z_sI, g_K_sL, g_N_sL, g_B_sL, g_Z_sL, g_K_sR, g_N_sR, g_B_sR, g_Z_sR, g_L_sI, g_R_sI, g_I_sL, g_R_sL, g_I_sR, g_L_sR, g_R_sRv, g_K_nw, g_N_nw, g_B_nw, g_Z_nw, h_R_nw, h_I_nw, h_L_nw, r250_0, r250_1, r250_4, r250_5, r250_8, r250_9, r250_10, r250_13, r250_15, r250_16, r250_22, r250_23, r250_24, r250_27, r250_28, r250_29, r250_30, r250_32, r250_35, r250_35n, r250_35v, r250_38, r250_97, r250_19, m1, m2, m3, h3, hk, ks, bs, o, n1, m4, K5, B5]
theorem hx.cpz (x : hx z s h h') {a p n : Nat} {f : Nat → Int32} (ha : xm_Z h ≤ a) : hx z s h (xm_cp h' a p n f) := by
  obtain ⟨a1, a2, a3, a4, a5, a6⟩ := x
  refine ⟨a1, a2, a3, a4, a5, fun b hb => ?_⟩
  obtain ⟨c1, c2, c3⟩ := a6 b hb
  refine ⟨c1, c2, fun q => ⟨?_, (c3 q).2.1, (c3 q).2.2⟩⟩
  rw [h_I_cp, if_neg (by omega)]
  exact (c3 q).1
/-- a string that was made: at s, its signs at b, m of them, f -/
def SM (h : xm_H) (s m : Nat) (f : Nat → Int32) : Prop := ∃ b, xm_K h s = 28 ∧ xm_R h s 0 = some b ∧ xm_I h s 1 = 0 ∧ xm_K h b = 101 ∧ xm_N h b = m ∧ ∀ j, j < m → xm_I h b j = f j
theorem c246 {a b m : Nat} (hc : xm_C h 100 = .int 1) (hk : xm_K h a = 27) (h1 : xm_I h a 1 = 0) (h3 : xm_I h a 3 = Int32.ofNat m) (hr : xm_R h a 0 = some b) (kb : xm_K h b = 101) (nb : xm_N h b = 12) (hm : m < 12) (az : a < xm_Z h) (bz : b < xm_Z h) (hBz : xm_B h ≤ xm_Z h) (hf : ∀ j, j < m → xm_ok .byte (xm_I h b j) = true) (k0 : ∀ x, xm_Z h ≤ x → xm_K h x = 0) : ∃ h', xm_met (d + 5) 246 [.ref a] h = some (.inl (some (.ref (xm_Z h))), h') ∧ hx 2 (4 + m) h h' ∧ SM h' (xm_Z h) m (fun j => xm_I h b j) ∧ (∀ x, xm_Z h' ≤ x → xm_K h' x = 0) ∧ xm_Z h' = xm_Z h + 2 ∧ xm_R h' (xm_Z h) 0 = some (xm_Z h + 1) := by
  have nwK : ∀ x, x < xm_Z h → xm_K (xm_nw h 28 0 4) x = xm_K h x := fun x hx => by rw [h_K_nw, if_neg (by omega)]
  have nwN : ∀ x, x < xm_Z h → xm_N (xm_nw h 28 0 4) x = xm_N h x := fun x hx => by rw [h_N_nw, if_neg (by omega)]
  have nwI : ∀ x p, x < xm_Z h → xm_I (xm_nw h 28 0 4) x p = xm_I h x p := fun x p hx => by rw [h_I_nw, if_neg (by omega)]
  have nwR : ∀ x p, x < xm_Z h → xm_R (xm_nw h 28 0 4) x p = xm_R h x p := fun x p hx => by rw [h_R_nw, if_neg (by omega)]
  have ks : xm_K (xm_nw h 28 0 4) (xm_Z h) = 28 := by rw [h_K_nw, if_pos rfl]
  have zz : xm_Z (xm_nw h 28 0 4) = xm_Z h + 1 := rfl
  have eI : (fun j => xm_I (xm_nw h 28 0 4) b j) = fun j => xm_I h b j := funext fun j => nwI b j bz
  have m1 := c250 (d := d) (h := xm_nw h 28 0 4) (s := xm_Z h) (a := a) (b := b) (m := m) hc ks hBz ((nwK a az).trans hk) ((nwI a 1 az).trans h1) ((nwI a 3 az).trans h3) ((nwR a 0 az).trans hr) ((nwK b bz).trans kb) ((nwN b bz).trans nb) hm (by omega) (by rw [zz]; omega) (by rw [zz]; omega) (by rw [zz]; show xm_B h ≤ _; omega) (fun j hj => by rw [nwI b j bz]; exact hf j hj)
  rw [eI, zz] at m1
  refine ⟨xm_sR (xm_cp (xm_nw (xm_sI (xm_nw h 28 0 4) (xm_Z h) 1 0) 101 m m) (xm_Z h + 1) 0 m (fun j => xm_I h b j)) (xm_Z h) 0 (some (xm_Z h + 1)), ?_, ?_, ⟨xm_Z h + 1, ?_, ?_, ?_, ?_, ?_, fun j hj => ?_⟩, fun x hx => ?_, rfl, by rw [h_R_sR, if_pos ⟨rfl, rfl⟩]⟩
  · unfold xm_met
    have m2 : xm_met (d + 4) 249 [.ref (xm_Z h), .ref a] (xm_nw h 28 0 4) = some (.inl none, xm_sR (xm_cp (xm_nw (xm_sI (xm_nw h 28 0 4) (xm_Z h) 1 0) 101 m m) (xm_Z h + 1) 0 m (fun j => xm_I h b j)) (xm_Z h) 0 (some (xm_Z h + 1))) := by
      unfold xm_met
      simp only [ite_not, ite_self, w8_nil, ok01, ite10, rf_rv, rf_ref, rf_cat, rf_lk2, rf_some, rf_none, w_add, w_cons, cr_int, cr_long, cr_ref, cr_null, is_ref, is_null, l2_int, l2_ref, l2_null, l2_none, ent_nil, ent_int, ent_ref, ent_null, ent_rf, ent_long, ok_0, ok_1, af_ret, af_void, List.tail_cons, List.tail_nil, Nat.reduceAdd, Nat.reduceLeDiff, not_false_eq_true, not_true_eq_false, and_self, and_true, true_and, ne_eq, or_true, true_or, or_false, false_or, eq_self, Nat.reduceEqDiff, ↓reduceIte, false_and, and_false, Nat.le_refl, Nat.zero_le, nz_1, nz_2, nz_3, nz_4, nz_5, nz_6, nz_8, nz_10, nz_12, nz_20, nz_30, nz_60, nz_100, r249_0, r249_1, r249_2, r249_3, r249_6, ent_nil, ks, m1]
    simp only [ite_not, ite_self, w8_nil, ok01, ite10, rf_rv, rf_ref, rf_cat, rf_lk2, rf_some, rf_none, w_add, w_cons, cr_int, cr_long, cr_ref, cr_null, is_ref, is_null, l2_int, l2_ref, l2_null, l2_none, ent_nil, ent_int, ent_ref, ent_null, ent_rf, ent_long, ok_0, ok_1, af_ret, af_void, List.tail_cons, List.tail_nil, Nat.reduceAdd, Nat.reduceLeDiff, not_false_eq_true, not_true_eq_false, and_self, and_true, true_and, ne_eq, or_true, true_or, or_false, false_or, eq_self, Nat.reduceEqDiff, ↓reduceIte, false_and, and_false, Nat.le_refl, Nat.zero_le, nz_1, nz_2, nz_3, nz_4, nz_5, nz_6, nz_8, nz_10, nz_12, nz_20, nz_30, nz_60, nz_100, r246_0, r246_3, r246_4, r246_5, r246_8, ent_nil, m2]
  · have x1 : hx 1 4 h (xm_sI (xm_nw h 28 0 4) (xm_Z h) 1 0) := (hx_nw (kd := 28) (n := 0) (s := 4)).sI (Nat.le_refl _)
    have x2 : hx (1 + 1) (4 + m) h (xm_nw (xm_sI (xm_nw h 28 0 4) (xm_Z h) 1 0) 101 m m) := x1.tr hx_nw
    exact (x2.cpz (by omega)).sR (Nat.le_refl _)
  · show xm_K (xm_nw (xm_nw h 28 0 4) 101 m m) (xm_Z h) = 28
    rw [h_K_nw, zz, if_neg (by omega), ks]
  · rw [h_R_sR, if_pos ⟨rfl, rfl⟩]
  · show xm_I (xm_cp (xm_nw (xm_sI (xm_nw h 28 0 4) (xm_Z h) 1 0) 101 m m) (xm_Z h + 1) 0 m (fun j => xm_I h b j)) (xm_Z h) 1 = 0
    rw [h_I_cp, if_neg (by omega), h_I_nw, if_neg (by show ¬ xm_Z h = xm_Z h + 1; omega), h_I_sI, if_pos ⟨rfl, rfl⟩]
  · show xm_K (xm_nw (xm_nw h 28 0 4) 101 m m) (xm_Z h + 1) = 101
    rw [h_K_nw, zz, if_pos rfl]
  · show xm_N (xm_nw (xm_nw h 28 0 4) 101 m m) (xm_Z h + 1) = m
    rw [h_N_nw, zz, if_pos rfl]
  · show xm_I (xm_cp (xm_nw (xm_sI (xm_nw h 28 0 4) (xm_Z h) 1 0) 101 m m) (xm_Z h + 1) 0 m (fun j => xm_I h b j)) (xm_Z h + 1) j = xm_I h b j
    rw [h_I_cp, if_pos (by omega), Nat.sub_zero]
  · have hx : xm_Z h + 2 ≤ x := hx
    show xm_K (xm_nw (xm_nw h 28 0 4) 101 m m) x = 0
    rw [h_K_nw, zz, if_neg (by omega), h_K_nw, if_neg (by omega)]
    exact k0 x (by omega)
/-- rows of bytes compared -/
theorem c283 {a b m n : Nat} (ka : xm_K h a = 101) (kb : xm_K h b = 101) (na : xm_N h a = m) (nb : xm_N h b = n) (hm : m ≤ 1000) (hn : n ≤ 1000) : ∃ r : Int32, xm_met d 283 [.ref a, .ref b] h = some (.inl (some (.int r)), h) ∧ ((r = 1 ∧ m = n ∧ ∀ j, j < m → xm_I h a j = xm_I h b j) ∨ (r = 0 ∧ ¬ (m = n ∧ ∀ j, j < m → xm_I h a j = xm_I h b j))) := by
  have k100 : 100 ≤ 101 := by decide
  have o0 : xm_ok .boolean 0 = true := by decide
  have o1 : xm_ok .boolean 1 = true := by decide
  by_cases e : m = n
  · subst e
    have loop : ∀ k j, j + k = m → (∀ i, i < j → xm_I h a i = xm_I h b i) → ∃ r : Int32, xm_run d 283 9 [some (.ref a), some (.ref b), some (.int (Int32.ofNat j))] [] h = some (.inl (some (.int r)), h) ∧ ((r = 1 ∧ ∀ j, j < m → xm_I h a j = xm_I h b j) ∨ (r = 0 ∧ ¬ ∀ j, j < m → xm_I h a j = xm_I h b j)) := by
      intro k
      induction k with
      | zero =>
        intro j hj hi
        have hj : j = m := by omega
        subst hj
        refine ⟨1, ?_, Or.inl ⟨rfl, hi⟩⟩
        rw [r283_9]
        simp only [ite_not, ite_self, w8_nil, ok01, ite10, rf_rv, rf_ref, rf_cat, rf_lk2, rf_some, rf_none, w_add, w_cons, cr_int, cr_long, cr_ref, cr_null, is_ref, is_null, l2_int, l2_ref, l2_null, l2_none, ent_nil, ent_int, ent_ref, ent_null, ent_rf, ent_long, ok_0, ok_1, af_ret, af_void, List.tail_cons, List.tail_nil, Nat.reduceAdd, Nat.reduceLeDiff, not_false_eq_true, not_true_eq_false, and_self, and_true, true_and, ne_eq, or_true, true_or, or_false, false_or, eq_self, Nat.reduceEqDiff, ↓reduceIte, false_and, and_false, Nat.le_refl, Nat.zero_le, nz_1, nz_2, nz_3, nz_4, nz_5, nz_6, nz_8, nz_10, nz_12, nz_20, nz_30, nz_60, nz_100, r283_10, r283_11, r283_15, r283_16, r283_17, r283_18, r283_19, r283_20, r283_24, r283_25, r283_26, r283_29, r283_32, r283_33, r283_34, r283_35, r283_12, r283_21, ka, na, k100, Int32.le_refl, o1]
      | succ k ih =>
        intro j hj hi
        have c0 := lt_nat (show j < m by omega) (by omega)
        obtain ⟨i1, i2⟩ := in_nat (show j < m by omega) (by omega)
        by_cases c1 : xm_I h a j = xm_I h b j
        · obtain ⟨r, e1, e2⟩ := ih (j + 1) (by omega) (fun i hi' => by
            by_cases c2 : i = j
            · rw [c2]
              exact c1
            · exact hi i (by omega))
          refine ⟨r, ?_, e2⟩
          rw [← e1, r283_9]
          simp only [ite_not, ite_self, w8_nil, ok01, ite10, rf_rv, rf_ref, rf_cat, rf_lk2, rf_some, rf_none, w_add, w_cons, cr_int, cr_long, cr_ref, cr_null, is_ref, is_null, l2_int, l2_ref, l2_null, l2_none, ent_nil, ent_int, ent_ref, ent_null, ent_rf, ent_long, ok_0, ok_1, af_ret, af_void, List.tail_cons, List.tail_nil, Nat.reduceAdd, Nat.reduceLeDiff, not_false_eq_true, not_true_eq_false, and_self, and_true, true_and, ne_eq, or_true, true_or, or_false, false_or, eq_self, Nat.reduceEqDiff, ↓reduceIte, false_and, and_false, Nat.le_refl, Nat.zero_le, nz_1, nz_2, nz_3, nz_4, nz_5, nz_6, nz_8, nz_10, nz_12, nz_20, nz_30, nz_60, nz_100, r283_10, r283_11, r283_15, r283_16, r283_17, r283_18, r283_19, r283_20, r283_24, r283_25, r283_26, r283_29, r283_32, r283_33, r283_34, r283_35, r283_12, r283_21, ka, kb, na, nb, k100, c0, i1, i2, c1, nat_succ]
        · refine ⟨0, ?_, Or.inr ⟨rfl, fun z => c1 (z j (by omega))⟩⟩
          rw [r283_9]
          simp only [ite_not, ite_self, w8_nil, ok01, ite10, rf_rv, rf_ref, rf_cat, rf_lk2, rf_some, rf_none, w_add, w_cons, cr_int, cr_long, cr_ref, cr_null, is_ref, is_null, l2_int, l2_ref, l2_null, l2_none, ent_nil, ent_int, ent_ref, ent_null, ent_rf, ent_long, ok_0, ok_1, af_ret, af_void, List.tail_cons, List.tail_nil, Nat.reduceAdd, Nat.reduceLeDiff, not_false_eq_true, not_true_eq_false, and_self, and_true, true_and, ne_eq, or_true, true_or, or_false, false_or, eq_self, Nat.reduceEqDiff, ↓reduceIte, false_and, and_false, Nat.le_refl, Nat.zero_le, nz_1, nz_2, nz_3, nz_4, nz_5, nz_6, nz_8, nz_10, nz_12, nz_20, nz_30, nz_60, nz_100, r283_10, r283_11, r283_15, r283_16, r283_17, r283_18, r283_19, r283_20, r283_24, r283_25, r283_26, r283_29, r283_32, r283_33, r283_34, r283_35, r283_12, r283_21, ka, kb, na, nb, k100, c0, i1, i2, c1, o0]
    obtain ⟨r, e1, e2⟩ := loop m 0 (by omega) (fun i hi => absurd hi (by omega))
    refine ⟨r, ?_, ?_⟩
    · rw [← e1]
      unfold xm_met
      simp only [ite_not, ite_self, w8_nil, ok01, ite10, rf_rv, rf_ref, rf_cat, rf_lk2, rf_some, rf_none, w_add, w_cons, cr_int, cr_long, cr_ref, cr_null, is_ref, is_null, l2_int, l2_ref, l2_null, l2_none, ent_nil, ent_int, ent_ref, ent_null, ent_rf, ent_long, ok_0, ok_1, af_ret, af_void, List.tail_cons, List.tail_nil, Nat.reduceAdd, Nat.reduceLeDiff, not_false_eq_true, not_true_eq_false, and_self, and_true, true_and, ne_eq, or_true, true_or, or_false, false_or, eq_self, Nat.reduceEqDiff, ↓reduceIte, false_and, and_false, Nat.le_refl, Nat.zero_le, nz_1, nz_2, nz_3, nz_4, nz_5, nz_6, nz_8, nz_10, nz_12, nz_20, nz_30, nz_60, nz_100, r283_0, r283_1, r283_2, r283_3, r283_7, r283_8, r283_4, ka, kb, na, nb, k100]
      rfl
    · rcases e2 with ⟨e2, e3⟩ | ⟨e2, e3⟩
      · exact Or.inl ⟨e2, rfl, e3⟩
      · exact Or.inr ⟨e2, fun z => e3 z.2⟩
  · have ne : ¬ Int32.ofNat m = Int32.ofNat n := fun z => by
      have := congrArg Int32.toInt z
      rw [ti_nat (by omega), ti_nat (by omega)] at this
      omega
    refine ⟨0, ?_, Or.inr ⟨rfl, fun z => e z.1⟩⟩
    unfold xm_met
    simp only [ite_not, ite_self, w8_nil, ok01, ite10, rf_rv, rf_ref, rf_cat, rf_lk2, rf_some, rf_none, w_add, w_cons, cr_int, cr_long, cr_ref, cr_null, is_ref, is_null, l2_int, l2_ref, l2_null, l2_none, ent_nil, ent_int, ent_ref, ent_null, ent_rf, ent_long, ok_0, ok_1, af_ret, af_void, List.tail_cons, List.tail_nil, Nat.reduceAdd, Nat.reduceLeDiff, not_false_eq_true, not_true_eq_false, and_self, and_true, true_and, ne_eq, or_true, true_or, or_false, false_or, eq_self, Nat.reduceEqDiff, ↓reduceIte, false_and, and_false, Nat.le_refl, Nat.zero_le, nz_1, nz_2, nz_3, nz_4, nz_5, nz_6, nz_8, nz_10, nz_12, nz_20, nz_30, nz_60, nz_100, r283_0, r283_1, r283_2, r283_3, r283_7, r283_8, r283_34, r283_35, r283_4, ka, kb, na, nb, k100, ne, o0]
theorem c251 {a b m n : Nat} {f g : Nat → Int32} (hc : xm_C h 100 = .int 1) (ab : ¬ a = b) (sa : SM h a m f) (sb : SM h b n g) (hm : m ≤ 1000) (hn : n ≤ 1000) : ∃ r : Int32, xm_met (d + 1) 251 [.ref a, .ref b] h = some (.inl (some (.int r)), h) ∧ ((r = 1 ∧ m = n ∧ ∀ j, j < m → f j = g j) ∨ (r = 0 ∧ ¬ (m = n ∧ ∀ j, j < m → f j = g j))) := by
  obtain ⟨x, a1, a2, a3, a4, a5, a6⟩ := sa
  obtain ⟨y, b1, b2, b3, b4, b5, b6⟩ := sb
  obtain ⟨r, e1, e2⟩ := c283 (d := d) a4 b4 a5 b5 hm hn
  have n1 : ¬ (1 : Int32) = 0 := by decide
  have o0 : xm_ok .boolean 0 = true := by decide
  have o1 : xm_ok .boolean 1 = true := by decide
  have eq : (m = n ∧ ∀ j, j < m → xm_I h x j = xm_I h y j) ↔ (m = n ∧ ∀ j, j < m → f j = g j) := by
    constructor
    · rintro ⟨z1, z2⟩
      exact ⟨z1, fun j hj => ((a6 j hj).symm.trans (z2 j hj)).trans (b6 j (by omega))⟩
    · rintro ⟨z1, z2⟩
      exact ⟨z1, fun j hj => ((a6 j hj).trans (z2 j hj)).trans (b6 j (by omega)).symm⟩
  refine ⟨r, ?_, ?_⟩
  · unfold xm_met
    rcases e2 with ⟨e2, -⟩ | ⟨e2, -⟩
    · rw [e2] at e1 ⊢
      simp only [ite_not, ite_self, w8_nil, ok01, ite10, rf_rv, rf_ref, rf_cat, rf_lk2, rf_some, rf_none, w_add, w_cons, cr_int, cr_long, cr_ref, cr_null, is_ref, is_null, l2_int, l2_ref, l2_null, l2_none, ent_nil, ent_int, ent_ref, ent_null, ent_rf, ent_long, ok_0, ok_1, af_ret, af_void, List.tail_cons, List.tail_nil, Nat.reduceAdd, Nat.reduceLeDiff, not_false_eq_true, not_true_eq_false, and_self, and_true, true_and, ne_eq, or_true, true_or, or_false, false_or, eq_self, Nat.reduceEqDiff, ↓reduceIte, false_and, and_false, Nat.le_refl, Nat.zero_le, nz_1, nz_2, nz_3, nz_4, nz_5, nz_6, nz_8, nz_10, nz_12, nz_20, nz_30, nz_60, nz_100, r251_0, r251_1, r251_5, r251_6, r251_7, r251_8, r251_14, r251_15, r251_18, r251_19, r251_25, r251_26, r251_29, r251_30, r251_36, r251_37, r251_40, r251_41, r251_44, r251_50, r251_51, r251_54, r251_55, r251_2, r251_11, r251_22, r251_33, r251_47, hc, ab, a1, a2, a3, b1, b2, b3, n1, e1, o1]
    · rw [e2] at e1 ⊢
      simp only [ite_not, ite_self, w8_nil, ok01, ite10, rf_rv, rf_ref, rf_cat, rf_lk2, rf_some, rf_none, w_add, w_cons, cr_int, cr_long, cr_ref, cr_null, is_ref, is_null, l2_int, l2_ref, l2_null, l2_none, ent_nil, ent_int, ent_ref, ent_null, ent_rf, ent_long, ok_0, ok_1, af_ret, af_void, List.tail_cons, List.tail_nil, Nat.reduceAdd, Nat.reduceLeDiff, not_false_eq_true, not_true_eq_false, and_self, and_true, true_and, ne_eq, or_true, true_or, or_false, false_or, eq_self, Nat.reduceEqDiff, ↓reduceIte, false_and, and_false, Nat.le_refl, Nat.zero_le, nz_1, nz_2, nz_3, nz_4, nz_5, nz_6, nz_8, nz_10, nz_12, nz_20, nz_30, nz_60, nz_100, r251_0, r251_1, r251_5, r251_6, r251_7, r251_8, r251_14, r251_15, r251_18, r251_19, r251_25, r251_26, r251_29, r251_30, r251_36, r251_37, r251_40, r251_41, r251_44, r251_50, r251_51, r251_54, r251_55, r251_2, r251_11, r251_22, r251_33, r251_47, hc, ab, a1, a2, a3, b1, b2, b3, n1, e1, o0]
  · rw [← eq]
    exact e2
/-- a sign sought -/
theorem c286 {b m : Nat} {x : Int32} (kb : xm_K h b = 101) (nb : xm_N h b = m) (hm : m ≤ 1000) : ∃ r : Int32, xm_met d 286 [.ref b, .int x, .int 0, .int (Int32.ofNat m)] h = some (.inl (some (.int r)), h) ∧ ((0 ≤ r ∧ ∃ j, j < m ∧ xm_I h b j = x.toInt8.toInt32) ∨ (r < 0 ∧ ∀ j, j < m → ¬ xm_I h b j = x.toInt8.toInt32)) := by
  have loop : ∀ k j, j + k = m → (∀ i, i < j → ¬ xm_I h b i = x.toInt8.toInt32) → ∃ r : Int32, xm_run d 286 7 [some (.ref b), some (.int x), some (.int 0), some (.int (Int32.ofNat m)), some (.int x.toInt8.toInt32), some (.int (Int32.ofNat j))] [] h = some (.inl (some (.int r)), h) ∧ ((0 ≤ r ∧ ∃ j, j < m ∧ xm_I h b j = x.toInt8.toInt32) ∨ (r < 0 ∧ ∀ j, j < m → ¬ xm_I h b j = x.toInt8.toInt32)) := by
    intro k
    induction k with
    | zero =>
      intro j hj hi
      have hj : j = m := by omega
      subst hj
      refine ⟨-1, ?_, Or.inr ⟨by decide, hi⟩⟩
      rw [r286_7]
      simp only [ite_not, ite_self, w8_nil, ok01, ite10, rf_rv, rf_ref, rf_cat, rf_lk2, rf_some, rf_none, w_add, w_cons, cr_int, cr_long, cr_ref, cr_null, is_ref, is_null, l2_int, l2_ref, l2_null, l2_none, ent_nil, ent_int, ent_ref, ent_null, ent_rf, ent_long, ok_0, ok_1, af_ret, af_void, List.tail_cons, List.tail_nil, Nat.reduceAdd, Nat.reduceLeDiff, not_false_eq_true, not_true_eq_false, and_self, and_true, true_and, ne_eq, or_true, true_or, or_false, false_or, eq_self, Nat.reduceEqDiff, ↓reduceIte, false_and, and_false, Nat.le_refl, Nat.zero_le, nz_1, nz_2, nz_3, nz_4, nz_5, nz_6, nz_8, nz_10, nz_12, nz_20, nz_30, nz_60, nz_100, r286_9, r286_13, r286_14, r286_16, r286_17, r286_22, r286_24, r286_25, r286_28, r286_31, r286_32, r286_10, r286_19, Int32.le_refl]
    | succ k ih =>
      intro j hj hi
      have c0 := lt_nat (show j < m by omega) (by omega)
      obtain ⟨i1, i2⟩ := in_nat (show j < m by omega) (by omega)
      by_cases c1 : xm_I h b j = x.toInt8.toInt32
      · refine ⟨Int32.ofNat j, ?_, Or.inl ⟨by rw [Int32.le_iff_toInt_le, ti_nat (by omega), show (0 : Int32).toInt = 0 from rfl]; omega, j, by omega, c1⟩⟩
        rw [r286_7]
        simp only [ite_not, ite_self, w8_nil, ok01, ite10, rf_rv, rf_ref, rf_cat, rf_lk2, rf_some, rf_none, w_add, w_cons, cr_int, cr_long, cr_ref, cr_null, is_ref, is_null, l2_int, l2_ref, l2_null, l2_none, ent_nil, ent_int, ent_ref, ent_null, ent_rf, ent_long, ok_0, ok_1, af_ret, af_void, List.tail_cons, List.tail_nil, Nat.reduceAdd, Nat.reduceLeDiff, not_false_eq_true, not_true_eq_false, and_self, and_true, true_and, ne_eq, or_true, true_or, or_false, false_or, eq_self, Nat.reduceEqDiff, ↓reduceIte, false_and, and_false, Nat.le_refl, Nat.zero_le, nz_1, nz_2, nz_3, nz_4, nz_5, nz_6, nz_8, nz_10, nz_12, nz_20, nz_30, nz_60, nz_100, r286_9, r286_13, r286_14, r286_16, r286_17, r286_22, r286_24, r286_25, r286_28, r286_31, r286_32, r286_10, r286_19, kb, nb, c0, i1, i2, c1]
      · obtain ⟨r, e1, e2⟩ := ih (j + 1) (by omega) (fun i hi' => by
          by_cases c2 : i = j
          · rw [c2]
            exact c1
          · exact hi i (by omega))
        refine ⟨r, ?_, e2⟩
        rw [← e1, r286_7]
        simp only [ite_not, ite_self, w8_nil, ok01, ite10, rf_rv, rf_ref, rf_cat, rf_lk2, rf_some, rf_none, w_add, w_cons, cr_int, cr_long, cr_ref, cr_null, is_ref, is_null, l2_int, l2_ref, l2_null, l2_none, ent_nil, ent_int, ent_ref, ent_null, ent_rf, ent_long, ok_0, ok_1, af_ret, af_void, List.tail_cons, List.tail_nil, Nat.reduceAdd, Nat.reduceLeDiff, not_false_eq_true, not_true_eq_false, and_self, and_true, true_and, ne_eq, or_true, true_or, or_false, false_or, eq_self, Nat.reduceEqDiff, ↓reduceIte, false_and, and_false, Nat.le_refl, Nat.zero_le, nz_1, nz_2, nz_3, nz_4, nz_5, nz_6, nz_8, nz_10, nz_12, nz_20, nz_30, nz_60, nz_100, r286_9, r286_13, r286_14, r286_16, r286_17, r286_22, r286_24, r286_25, r286_28, r286_31, r286_32, r286_10, r286_19, kb, nb, c0, i1, i2, c1, nat_succ]
  obtain ⟨r, e1, e2⟩ := loop m 0 (by omega) (fun i hi => absurd hi (by omega))
  refine ⟨r, ?_, e2⟩
  rw [← e1]
  unfold xm_met
  simp only [ite_not, ite_self, w8_nil, ok01, ite10, rf_rv, rf_ref, rf_cat, rf_lk2, rf_some, rf_none, w_add, w_cons, cr_int, cr_long, cr_ref, cr_null, is_ref, is_null, l2_int, l2_ref, l2_null, l2_none, ent_nil, ent_int, ent_ref, ent_null, ent_rf, ent_long, ok_0, ok_1, af_ret, af_void, List.tail_cons, List.tail_nil, Nat.reduceAdd, Nat.reduceLeDiff, not_false_eq_true, not_true_eq_false, and_self, and_true, true_and, ne_eq, or_true, true_or, or_false, false_or, eq_self, Nat.reduceEqDiff, ↓reduceIte, false_and, and_false, Nat.le_refl, Nat.zero_le, nz_1, nz_2, nz_3, nz_4, nz_5, nz_6, nz_8, nz_10, nz_12, nz_20, nz_30, nz_60, nz_100, r286_0, r286_1, r286_2, r286_4, r286_5, ent_nil]
  rfl
theorem c285 {x : Int32} (h0 : ¬ x < 0) (h1 : ¬ 255 < x) : xm_met d 285 [.int x] h = some (.inl (some (.int 1)), h) := by
  unfold xm_met
  have o : xm_ok .boolean 1 = true := by decide
  simp only [ite_not, ite_self, w8_nil, ok01, ite10, rf_rv, rf_ref, rf_cat, rf_lk2, rf_some, rf_none, w_add, w_cons, cr_int, cr_long, cr_ref, cr_null, is_ref, is_null, l2_int, l2_ref, l2_null, l2_none, ent_nil, ent_int, ent_ref, ent_null, ent_rf, ent_long, ok_0, ok_1, af_ret, af_void, List.tail_cons, List.tail_nil, Nat.reduceAdd, Nat.reduceLeDiff, not_false_eq_true, not_true_eq_false, and_self, and_true, true_and, ne_eq, or_true, true_or, or_false, false_or, eq_self, Nat.reduceEqDiff, ↓reduceIte, false_and, and_false, Nat.le_refl, Nat.zero_le, nz_1, nz_2, nz_3, nz_4, nz_5, nz_6, nz_8, nz_10, nz_12, nz_20, nz_30, nz_60, nz_100, r285_0, r285_4, r285_5, r285_11, r285_12, r285_15, r285_16, r285_1, r285_8, h0, h1, o]
theorem c254 {a : Nat} (hc : xm_C h 100 = .int 1) (hk : xm_K h a = 28) (h1 : xm_I h a 1 = 0) : xm_met d 254 [.ref a] h = some (.inl (some (.int 1)), h) := by
  unfold xm_met
  have o : xm_ok .boolean 1 = true := by decide
  have n1 : ¬ (1 : Int32) = 0 := by decide
  simp only [ite_not, ite_self, w8_nil, ok01, ite10, rf_rv, rf_ref, rf_cat, rf_lk2, rf_some, rf_none, w_add, w_cons, cr_int, cr_long, cr_ref, cr_null, is_ref, is_null, l2_int, l2_ref, l2_null, l2_none, ent_nil, ent_int, ent_ref, ent_null, ent_rf, ent_long, ok_0, ok_1, af_ret, af_void, List.tail_cons, List.tail_nil, Nat.reduceAdd, Nat.reduceLeDiff, not_false_eq_true, not_true_eq_false, and_self, and_true, true_and, ne_eq, or_true, true_or, or_false, false_or, eq_self, Nat.reduceEqDiff, ↓reduceIte, false_and, and_false, Nat.le_refl, Nat.zero_le, nz_1, nz_2, nz_3, nz_4, nz_5, nz_6, nz_8, nz_10, nz_12, nz_20, nz_30, nz_60, nz_100, r254_0, r254_6, r254_7, r254_13, r254_14, r254_17, r254_18, r254_3, r254_10, hc, hk, h1, n1, o]
theorem c255 {a b m : Nat} (hc : xm_C h 100 = .int 1) (hk : xm_K h a = 28) (h1 : xm_I h a 1 = 0) (hr : xm_R h a 0 = some b) (kb : xm_K h b = 101) (nb : xm_N h b = m) : xm_met (d + 1) 255 [.ref a] h = some (.inl (some (.int (Int32.ofNat m))), h) := by
  have n1 : ¬ (1 : Int32) = 0 := by decide
  have o : xm_ok .byte 0 = true := by decide
  have k100 : 100 ≤ 101 := by decide
  have m1 : xm_met d 256 [.ref a] h = some (.inl (some (.int 0)), h) := by
    unfold xm_met
    simp only [ite_not, ite_self, w8_nil, ok01, ite10, rf_rv, rf_ref, rf_cat, rf_lk2, rf_some, rf_none, w_add, w_cons, cr_int, cr_long, cr_ref, cr_null, is_ref, is_null, l2_int, l2_ref, l2_null, l2_none, ent_nil, ent_int, ent_ref, ent_null, ent_rf, ent_long, ok_0, ok_1, af_ret, af_void, List.tail_cons, List.tail_nil, Nat.reduceAdd, Nat.reduceLeDiff, not_false_eq_true, not_true_eq_false, and_self, and_true, true_and, ne_eq, or_true, true_or, or_false, false_or, eq_self, Nat.reduceEqDiff, ↓reduceIte, false_and, and_false, Nat.le_refl, Nat.zero_le, nz_1, nz_2, nz_3, nz_4, nz_5, nz_6, nz_8, nz_10, nz_12, nz_20, nz_30, nz_60, nz_100, r256_0, r256_6, r256_7, r256_10, r256_13, r256_14, r256_3, hc, hk, h1, n1, o]
  unfold xm_met
  simp only [ite_not, ite_self, w8_nil, ok01, ite10, rf_rv, rf_ref, rf_cat, rf_lk2, rf_some, rf_none, w_add, w_cons, cr_int, cr_long, cr_ref, cr_null, is_ref, is_null, l2_int, l2_ref, l2_null, l2_none, ent_nil, ent_int, ent_ref, ent_null, ent_rf, ent_long, ok_0, ok_1, af_ret, af_void, List.tail_cons, List.tail_nil, Nat.reduceAdd, Nat.reduceLeDiff, not_false_eq_true, not_true_eq_false, and_self, and_true, true_and, ne_eq, or_true, true_or, or_false, false_or, eq_self, Nat.reduceEqDiff, ↓reduceIte, false_and, and_false, Nat.le_refl, Nat.zero_le, nz_1, nz_2, nz_3, nz_4, nz_5, nz_6, nz_8, nz_10, nz_12, nz_20, nz_30, nz_60, nz_100, r255_0, r255_1, r255_4, r255_5, r255_6, r255_9, r255_10, ent_nil, hk, hr, kb, nb, k100, m1, sh0]
theorem c252 {a m : Nat} {x : Int32} {f : Nat → Int32} (hc : xm_C h 100 = .int 1) (sa : SM h a m f) (hm : m ≤ 1000) (m0 : 0 < m) (h0 : ¬ x < 0) (h1 : ¬ 255 < x) : ∃ r : Int32, xm_met (d + 3) 252 [.ref a, .int x] h = some (.inl (some (.int r)), h) ∧ ((0 ≤ r ∧ ∃ j, j < m ∧ f j = x.toInt8.toInt32) ∨ (r < 0 ∧ ∀ j, j < m → ¬ f j = x.toInt8.toInt32)) := by
  obtain ⟨b, a1, a2, a3, a4, a5, a6⟩ := sa
  obtain ⟨r, e1, e2⟩ := c286 (d := d) (x := x) a4 a5 hm
  have n1 : ¬ (1 : Int32) = 0 := by decide
  have k100 : 100 ≤ 101 := by decide
  have m3 := c254 (d := d + 1) hc a1 a3
  have m4 := c255 (d := d) hc a1 a3 a2 a4 a5
  have m5 := c285 (d := d) (h := h) h0 h1
  have l0 : ¬ (0 : Int32) < 0 := by decide
  have lm : ¬ Int32.ofNat m < Int32.ofNat m := Int32.lt_irrefl
  have l1 : (0 : Int32) < Int32.ofNat m := by rw [Int32.lt_iff_toInt_lt, ti_nat (by omega), show (0 : Int32).toInt = 0 from rfl]; omega
  have m6 : xm_met (d + 1) 284 [.ref b, .int x, .int 0, .int (Int32.ofNat m)] h = some (.inl (some (.int r)), h) := by
    unfold xm_met
    simp only [ite_not, ite_self, w8_nil, ok01, ite10, rf_rv, rf_ref, rf_cat, rf_lk2, rf_some, rf_none, w_add, w_cons, cr_int, cr_long, cr_ref, cr_null, is_ref, is_null, l2_int, l2_ref, l2_null, l2_none, ent_nil, ent_int, ent_ref, ent_null, ent_rf, ent_long, ok_0, ok_1, af_ret, af_void, List.tail_cons, List.tail_nil, Nat.reduceAdd, Nat.reduceLeDiff, not_false_eq_true, not_true_eq_false, and_self, and_true, true_and, ne_eq, or_true, true_or, or_false, false_or, eq_self, Nat.reduceEqDiff, ↓reduceIte, false_and, and_false, Nat.le_refl, Nat.zero_le, nz_1, nz_2, nz_3, nz_4, nz_5, nz_6, nz_8, nz_10, nz_12, nz_20, nz_30, nz_60, nz_100, r284_0, r284_1, r284_7, r284_8, r284_9, r284_10, r284_11, r284_14, r284_15, r284_16, r284_17, r284_18, r284_21, r284_22, r284_23, r284_27, r284_28, r284_29, r284_30, r284_31, r284_32, r284_33, r284_36, r284_4, r284_24, a4, a5, k100, m5, n1, l0, lm, l1, e1]
  have m7 : xm_met (d + 2) 253 [.ref a, .int x, .int 0] h = some (.inl (some (.int r)), h) := by
    unfold xm_met
    simp only [ite_not, ite_self, w8_nil, ok01, ite10, rf_rv, rf_ref, rf_cat, rf_lk2, rf_some, rf_none, w_add, w_cons, cr_int, cr_long, cr_ref, cr_null, is_ref, is_null, l2_int, l2_ref, l2_null, l2_none, ent_nil, ent_int, ent_ref, ent_null, ent_rf, ent_long, ok_0, ok_1, af_ret, af_void, List.tail_cons, List.tail_nil, Nat.reduceAdd, Nat.reduceLeDiff, not_false_eq_true, not_true_eq_false, and_self, and_true, true_and, ne_eq, or_true, true_or, or_false, false_or, eq_self, Nat.reduceEqDiff, ↓reduceIte, false_and, and_false, Nat.le_refl, Nat.zero_le, nz_1, nz_2, nz_3, nz_4, nz_5, nz_6, nz_8, nz_10, nz_12, nz_20, nz_30, nz_60, nz_100, r253_0, r253_1, r253_7, r253_8, r253_11, r253_12, r253_13, r253_14, r253_17, r253_20, r253_36, r253_4, a1, a2, a4, a5, k100, m3, m4, n1, m6]
  refine ⟨r, ?_, ?_⟩
  · unfold xm_met
    simp only [ite_not, ite_self, w8_nil, ok01, ite10, rf_rv, rf_ref, rf_cat, rf_lk2, rf_some, rf_none, w_add, w_cons, cr_int, cr_long, cr_ref, cr_null, is_ref, is_null, l2_int, l2_ref, l2_null, l2_none, ent_nil, ent_int, ent_ref, ent_null, ent_rf, ent_long, ok_0, ok_1, af_ret, af_void, List.tail_cons, List.tail_nil, Nat.reduceAdd, Nat.reduceLeDiff, not_false_eq_true, not_true_eq_false, and_self, and_true, true_and, ne_eq, or_true, true_or, or_false, false_or, eq_self, Nat.reduceEqDiff, ↓reduceIte, false_and, and_false, Nat.le_refl, Nat.zero_le, nz_1, nz_2, nz_3, nz_4, nz_5, nz_6, nz_8, nz_10, nz_12, nz_20, nz_30, nz_60, nz_100, r252_0, r252_1, r252_2, r252_3, r252_6, ent_nil, a1, m7]
  · rcases e2 with ⟨e2, j, hj, e3⟩ | ⟨e2, e3⟩
    · exact Or.inl ⟨e2, j, hj, (a6 j hj).symm.trans e3⟩
    · exact Or.inr ⟨e2, fun j hj z => e3 j hj ((a6 j hj).trans z)⟩
end STQ
