/-! the component reads a line, any -/
set_option maxRecDepth 100000
section RDM
variable {d : Nat} {h h' : xm_H} {D : xp_D} {F G : xp_F} {c : Nat → Int32} {T : Nat} {z s : Nat}
theorem c75_6 (q : CS h D) (w : HW h D) (sw : SW h D) (tc : TC F c T) {i : Nat} (hi : i ≤ T) (qs : QS F c T i 0 G) : lO h D F c T i (xm_met (d + 111) 75 [.ref (xd_A D 0 15), .int 15] (xp_c h D G)) (pl c T 6 i) := by
  have n12 : ¬ (15 : Int32) = 12 := by decide
  have n13 : ¬ (15 : Int32) = 13 := by decide
  have n14 : ¬ (15 : Int32) = 14 := by decide
  have m3 : ¬ (6 : Int32) = 3 := by decide
  have m4 : ¬ (6 : Int32) = 4 := by decide
  have m5 : ¬ (6 : Int32) = 5 := by decide
  unfold pl
  rw [if_neg m3, if_neg m4, if_neg m5]
  have em : (if (6 : Int32) = 6 then (9 : Int32) else 20) = 9 := by decide
  rw [em]
  have xn := hx_nw (h := h) (kd := 16) (n := 0) (s := 4)
  have wn : HW (xm_nw h 16 0 4) D := w.nw
  have qn := q.hx w xn
  have nb := c82 (d := d + 102) qn wn (sw.hx q w xn) tc hi qs (m := 9)
  generalize nbr c T 9 i = r0 at nb ⊢
  cases r0 with
  | inl x =>
    obtain ⟨G2, m2, ft⟩ := nb
    refine ⟨_, G2, ?_, xn.mono (by omega) (by omega), wn, ft⟩
    unfold xm_met
    simp only [ite_not, ite_self, w8_nil, ok01, ite10, rf_rv, rf_ref, rf_cat, rf_lk2, rf_some, rf_none, w_add, w_cons, cr_int, cr_long, cr_ref, cr_null, is_ref, is_null, l2_int, l2_ref, l2_null, l2_none, ent_nil, ent_int, ent_ref, ent_null, ent_rf, ent_long, ok_0, ok_1, af_ret, af_void, List.tail_cons, List.tail_nil, Nat.reduceAdd, Nat.reduceLeDiff, not_false_eq_true, not_true_eq_false, and_self, and_true, true_and, ne_eq, or_true, true_or, or_false, false_or, eq_self, Nat.reduceEqDiff, ↓reduceIte, false_and, and_false, Nat.le_refl, Nat.zero_le, nz_1, nz_2, nz_3, nz_4, nz_5, nz_6, nz_8, nz_10, nz_12, nz_20, nz_30, nz_60, nz_100, mc_B, mc_Z, mc_S, mc_C, mc_K, mc_N, mc_R, mc_I, mc_L, va_Is, va_Ls, va_us, va_iss, u2_ap, sp_isLedge, sp_isLadder, sp_isPerson, sp_isLiving, sp_isLot, sp_isThere, sp_isSpan, cs_f15 q, cs_f15 qn, mc_nw w, af_thr, thr_c qn, r75_0, r75_144, r75_147, r75_148, r75_149, r75_150, r75_152, r75_155, r75_158, r75_1, ent_nil, n12, n13, n14, m2]
  | inr x =>
    obtain ⟨vv, q2⟩ := x
    obtain ⟨h2, G2, m2, x2, w2, qs2, l2, l3⟩ := nb
    have l2 : i < q2 := l2
    have l3 : q2 ≤ T := l3
    obtain ⟨y1, y2, y3, y4, y5, y6, y7, y8, y9⟩ := tell_new (kd := 16) (Or.inr (Or.inl rfl)) w x2 w2 (u := -1) (v := vv)
    have y10 := c209 (d := d + 107) (h := xp_c h2 D G2) (a := xm_Z h) (y := vv) (by rw [mc_K]; exact y3) (by rw [mc_B]; exact y4)
    rw [y5 G2] at y10
    have ev : vv = lnum (.num vv.toInt) := by
      show vv = Int32.ofInt vv.toInt
      rw [Int32.ofInt_toInt]
    refine ⟨_, G2, xm_Z h, ?_, y1.mono (by show 4 + 1 ≤ 6 * (q2 - i) + 2; omega) (by show 40 + 4 ≤ 48 * (q2 - i) + 8; omega), y2, qs2, ⟨Or.inr (Or.inr ⟨m3, m4, Or.inr (Or.inl y3), y7⟩), (show (3 : Int32) ≤ 6 ∧ (6 : Int32) ≤ 7 by decide), y6, fun e => absurd e (show ¬ (6 : Int32) = 5 by decide), fun e => ⟨y3, y9.trans ev⟩, fun e => absurd e (show ¬ (6 : Int32) = 7 by decide)⟩, by show i ≤ q2; omega, l3⟩
    unfold xm_met
    simp only [ite_not, ite_self, w8_nil, ok01, ite10, rf_rv, rf_ref, rf_cat, rf_lk2, rf_some, rf_none, w_add, w_cons, cr_int, cr_long, cr_ref, cr_null, is_ref, is_null, l2_int, l2_ref, l2_null, l2_none, ent_nil, ent_int, ent_ref, ent_null, ent_rf, ent_long, ok_0, ok_1, af_ret, af_void, List.tail_cons, List.tail_nil, Nat.reduceAdd, Nat.reduceLeDiff, not_false_eq_true, not_true_eq_false, and_self, and_true, true_and, ne_eq, or_true, true_or, or_false, false_or, eq_self, Nat.reduceEqDiff, ↓reduceIte, false_and, and_false, Nat.le_refl, Nat.zero_le, nz_1, nz_2, nz_3, nz_4, nz_5, nz_6, nz_8, nz_10, nz_12, nz_20, nz_30, nz_60, nz_100, mc_B, mc_Z, mc_S, mc_C, mc_K, mc_N, mc_R, mc_I, mc_L, va_Is, va_Ls, va_us, va_iss, u2_ap, sp_isLedge, sp_isLadder, sp_isPerson, sp_isLiving, sp_isLot, sp_isThere, sp_isSpan, cs_f15 q, cs_f15 qn, mc_nw w, r75_0, r75_144, r75_147, r75_148, r75_149, r75_150, r75_152, r75_155, r75_158, r75_1, ent_nil, n12, n13, n14, m2, y10]
theorem c75_7 (q : CS h D) (w : HW h D) (sw : SW h D) (tc : TC F c T) {i : Nat} (hi : i ≤ T) (qs : QS F c T i 0 G) : lO h D F c T i (xm_met (d + 111) 75 [.ref (xd_A D 0 15), .int 16] (xp_c h D G)) (pl c T 7 i) := by
  have n12 : ¬ (16 : Int32) = 12 := by decide
  have n13 : ¬ (16 : Int32) = 13 := by decide
  have n14 : ¬ (16 : Int32) = 14 := by decide
  have n15 : ¬ (16 : Int32) = 15 := by decide
  have m3 : ¬ (7 : Int32) = 3 := by decide
  have m4 : ¬ (7 : Int32) = 4 := by decide
  have m5 : ¬ (7 : Int32) = 5 := by decide
  unfold pl
  rw [if_neg m3, if_neg m4, if_neg m5]
  have em : (if (7 : Int32) = 6 then (9 : Int32) else 20) = 20 := by decide
  rw [em]
  have xn := hx_nw (h := h) (kd := 17) (n := 0) (s := 4)
  have wn : HW (xm_nw h 17 0 4) D := w.nw
  have qn := q.hx w xn
  have nb := c82 (d := d + 102) qn wn (sw.hx q w xn) tc hi qs (m := 20)
  generalize nbr c T 20 i = r0 at nb ⊢
  cases r0 with
  | inl x =>
    obtain ⟨G2, m2, ft⟩ := nb
    refine ⟨_, G2, ?_, xn.mono (by omega) (by omega), wn, ft⟩
    unfold xm_met
    simp only [ite_not, ite_self, w8_nil, ok01, ite10, rf_rv, rf_ref, rf_cat, rf_lk2, rf_some, rf_none, w_add, w_cons, cr_int, cr_long, cr_ref, cr_null, is_ref, is_null, l2_int, l2_ref, l2_null, l2_none, ent_nil, ent_int, ent_ref, ent_null, ent_rf, ent_long, ok_0, ok_1, af_ret, af_void, List.tail_cons, List.tail_nil, Nat.reduceAdd, Nat.reduceLeDiff, not_false_eq_true, not_true_eq_false, and_self, and_true, true_and, ne_eq, or_true, true_or, or_false, false_or, eq_self, Nat.reduceEqDiff, ↓reduceIte, false_and, and_false, Nat.le_refl, Nat.zero_le, nz_1, nz_2, nz_3, nz_4, nz_5, nz_6, nz_8, nz_10, nz_12, nz_20, nz_30, nz_60, nz_100, mc_B, mc_Z, mc_S, mc_C, mc_K, mc_N, mc_R, mc_I, mc_L, va_Is, va_Ls, va_us, va_iss, u2_ap, sp_isLedge, sp_isLadder, sp_isPerson, sp_isLiving, sp_isLot, sp_isThere, sp_isSpan, cs_f15 q, cs_f15 qn, mc_nw w, af_thr, thr_c qn, r75_0, r75_159, r75_162, r75_163, r75_164, r75_165, r75_167, r75_170, r75_173, r75_1, ent_nil, n12, n13, n14, n15, m2]
  | inr x =>
    obtain ⟨vv, q2⟩ := x
    obtain ⟨h2, G2, m2, x2, w2, qs2, l2, l3⟩ := nb
    have l2 : i < q2 := l2
    have l3 : q2 ≤ T := l3
    obtain ⟨y1, y2, y3, y4, y5, y6, y7, y8, y9⟩ := tell_new (kd := 17) (Or.inr (Or.inr rfl)) w x2 w2 (u := -1) (v := vv)
    have y10 := c211 (d := d + 107) (h := xp_c h2 D G2) (a := xm_Z h) (y := vv) (by rw [mc_K]; exact y3) (by rw [mc_B]; exact y4)
    rw [y5 G2] at y10
    have ev : vv = lnum (.num vv.toInt) := by
      show vv = Int32.ofInt vv.toInt
      rw [Int32.ofInt_toInt]
    refine ⟨_, G2, xm_Z h, ?_, y1.mono (by show 4 + 1 ≤ 6 * (q2 - i) + 2; omega) (by show 40 + 4 ≤ 48 * (q2 - i) + 8; omega), y2, qs2, ⟨Or.inr (Or.inr ⟨m3, m4, Or.inr (Or.inr y3), y7⟩), (show (3 : Int32) ≤ 7 ∧ (7 : Int32) ≤ 7 by decide), y6, fun e => absurd e (show ¬ (7 : Int32) = 5 by decide), fun e => absurd e (show ¬ (7 : Int32) = 6 by decide), fun e => ⟨y3, y9.trans ev⟩⟩, by show i ≤ q2; omega, l3⟩
    unfold xm_met
    simp only [ite_not, ite_self, w8_nil, ok01, ite10, rf_rv, rf_ref, rf_cat, rf_lk2, rf_some, rf_none, w_add, w_cons, cr_int, cr_long, cr_ref, cr_null, is_ref, is_null, l2_int, l2_ref, l2_null, l2_none, ent_nil, ent_int, ent_ref, ent_null, ent_rf, ent_long, ok_0, ok_1, af_ret, af_void, List.tail_cons, List.tail_nil, Nat.reduceAdd, Nat.reduceLeDiff, not_false_eq_true, not_true_eq_false, and_self, and_true, true_and, ne_eq, or_true, true_or, or_false, false_or, eq_self, Nat.reduceEqDiff, ↓reduceIte, false_and, and_false, Nat.le_refl, Nat.zero_le, nz_1, nz_2, nz_3, nz_4, nz_5, nz_6, nz_8, nz_10, nz_12, nz_20, nz_30, nz_60, nz_100, mc_B, mc_Z, mc_S, mc_C, mc_K, mc_N, mc_R, mc_I, mc_L, va_Is, va_Ls, va_us, va_iss, u2_ap, sp_isLedge, sp_isLadder, sp_isPerson, sp_isLiving, sp_isLot, sp_isThere, sp_isSpan, cs_f15 q, cs_f15 qn, mc_nw w, r75_0, r75_159, r75_162, r75_163, r75_164, r75_165, r75_167, r75_170, r75_173, r75_1, ent_nil, n12, n13, n14, n15, m2, y10]
theorem c75 (q : CS h D) (w : HW h D) (sw : SW h D) (tc : TC F c T) {i : Nat} {k : Int32} (hk : 3 ≤ k ∧ k ≤ 7) (hi : i ≤ T) (qs : QS F c T i 0 G) : lO h D F c T i (xm_met (d + 111) 75 [.ref (xd_A D 0 15), .int (k + 9)] (xp_c h D G)) (pl c T k i) := by
  by_cases k3 : k = 3
  · rw [k3]
    exact c75_3 q w sw tc hi qs
  by_cases k4 : k = 4
  · rw [k4]
    exact c75_4 q w sw tc hi qs
  by_cases k5 : k = 5
  · rw [k5]
    exact c75_5 q w sw tc hi qs
  by_cases k6 : k = 6
  · rw [k6]
    exact c75_6 q w sw tc hi qs
  have k7 : k = 7 := by
    have h1 := Int32.le_iff_toInt_le.mp hk.1
    have h2 := Int32.le_iff_toInt_le.mp hk.2
    rw [show (3 : Int32).toInt = 3 from rfl] at h1
    rw [show (7 : Int32).toInt = 7 from rfl] at h2
    have n3 : ¬ k.toInt = 3 := fun z => k3 (i_eq z)
    have n4 : ¬ k.toInt = 4 := fun z => k4 (i_eq z)
    have n5 : ¬ k.toInt = 5 := fun z => k5 (i_eq z)
    have n6 : ¬ k.toInt = 6 := fun z => k6 (i_eq z)
    exact i_eq (show k.toInt = 7 by omega)
  rw [k7]
  exact c75_7 q w sw tc hi qs
end RDM
