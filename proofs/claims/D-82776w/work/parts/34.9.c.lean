/-! the component reads a line -/
set_option maxRecDepth 100000
section RDLL
variable {d : Nat} {h h' : xm_H} {D : xp_D} {F G : xp_F} {c : Nat → Int32} {T : Nat} {z s : Nat}
theorem c82 (q : CS h D) (w : HW h D) (sw : SW h D) (tc : TC F c T) {i dp : Nat} (hi : i ≤ T) (a : QS F c T i dp G) {m : Int32} : match nbr c T m i with
    | .inl x => ∃ G', xm_met (d + 8) 82 [.ref (xd_A D 0 15), .int 0, .int m] (xp_c h D G) = some (.inr (xd_A D 0 13), xp_c h D G') ∧ FT F x.1 x.2 G'
    | .inr x => ∃ h' G', xm_met (d + 8) 82 [.ref (xd_A D 0 15), .int 0, .int m] (xp_c h D G) = some (.inl (some (.int x.1)), xp_c h' D G') ∧ hx 4 40 h h' ∧ HW h' D ∧ QS F c T x.2 dp G' ∧ i < x.2 ∧ x.2 ≤ T := by
  have n := c82n (d := d + 6) q a (l := 0) (m := m)
  unfold nbr
  by_cases c1 : lK c T i = 2
  · rw [if_pos c1]
    have l1 := lE_lt tc.1 hi (by rw [c1]; decide)
    have r0 := (lV_rg c1).1
    have l0 : 0 ≤ lV c T i := Int32.le_iff_toInt_le.mpr r0
    by_cases c22 : m < lV c T i
    · rw [if_pos c22]
      exact n.2 c1 (fun z => absurd z.2 (Int32.not_le.mpr c22))
    · rw [if_neg c22]
      obtain ⟨h', G', m1, x, w', qs⟩ := c82y (d := d) q w sw tc hi a (l := 0) (m := m) c1 ⟨l0, Int32.not_lt.mp c22⟩
      exact ⟨h', G', m1, x, w', qs, l1.1, l1.2⟩
  · rw [if_neg c1]
    exact n.1 c1
theorem c84 (q : CS h D) (w : HW h D) (sw : SW h D) (tc : TC F c T) {i : Nat} {t : Tm} (hi : i ≤ T) (hn : ¬ lK c T i = 0) (qs : QS F c T i 0 G) : cO h D F c T 0 (lE c T i) i (xm_met (d + 110) 84 [.ref (xd_A D 0 15)] (xp_c h D G)) (pz c T (8 * T + 8) 8 0 t (lE c T i)) := by
  have l1 := lE_lt tc.1 hi hn
  obtain ⟨h1, G1, m1, x1, w1, qs1⟩ := qs.next (d := d + 102) q w sw tc hi
  have e : xm_met (d + 110) 84 [.ref (xd_A D 0 15)] (xp_c h D G) = xm_run (d + 110) 84 4 [some (.ref (xd_A D 0 15))] [] (xp_c h1 D G1) := by
    unfold xm_met
    simp only [ite_not, ite_self, w8_nil, ok01, ite10, rf_rv, rf_ref, rf_cat, rf_lk2, rf_some, rf_none, w_add, w_cons, cr_int, cr_long, cr_ref, cr_null, is_ref, is_null, l2_int, l2_ref, l2_null, l2_none, ent_nil, ent_int, ent_ref, ent_null, ent_rf, ent_long, ok_0, ok_1, af_ret, af_void, List.tail_cons, List.tail_nil, Nat.reduceAdd, Nat.reduceLeDiff, not_false_eq_true, not_true_eq_false, and_self, and_true, true_and, ne_eq, or_true, true_or, or_false, false_or, eq_self, Nat.reduceEqDiff, ↓reduceIte, false_and, and_false, Nat.le_refl, Nat.zero_le, nz_1, nz_2, nz_3, nz_4, nz_5, nz_6, nz_8, nz_10, nz_12, nz_20, nz_30, nz_60, nz_100, mc_B, mc_Z, mc_S, mc_C, mc_K, mc_N, mc_R, mc_I, mc_L, va_Is, va_Ls, va_us, va_iss, u2_ap, sp_isLedge, sp_isLadder, sp_isPerson, sp_isLiving, sp_isLot, sp_isThere, sp_isSpan, cs_f15 q, r84_0, r84_1, ent_nil, m1]
  exact cO_eq e (cO_tr (x1.mono (by omega) (by omega)) (by omega) l1.2 (cR_all tc (8 * T + 8) 8 0 t (lE c T i) (lE c T i) h1 G1 0 [] (by decide) l1.2 (by omega) (q.hx w x1) w1 (sw.hx q w x1) (fun z => nomatch z) (fun _ => rfl) qs1 (pz_fl tc.1 _ 8 0 t (lE c T i) l1.2 (fun z => nomatch z) (by show 8 * (T - lE c T i) + 5 + 1 ≤ _; omega)) (d + 110) (by show _ + 14 ≤ _; omega)))
/-- what reading a line comes to -/
def lO (h : xm_H) (D : xp_D) (F : xp_F) (c : Nat → Int32) (T i : Nat) (v : xm_V) (r : (Int32 × Nat) ⊕ (Ln × Nat)) : Prop := match r with
  | .inl x => ∃ h' G, v = some (.inr (xd_A D 0 13), xp_c h' D G) ∧ hx (6 * (T - i) + 2) (48 * (T - i) + 8) h h' ∧ HW h' D ∧ FT F x.1 x.2 G
  | .inr x => ∃ h' G a, v = some (.inl (some (.ref a)), xp_c h' D G) ∧ hx (6 * (x.2 - i) + 2) (48 * (x.2 - i) + 8) h h' ∧ HW h' D ∧ QS F c T x.2 0 G ∧ LQ h' D x.1 a ∧ i ≤ x.2 ∧ x.2 ≤ T
theorem c75_3 (q : CS h D) (w : HW h D) (sw : SW h D) (tc : TC F c T) {i : Nat} (hi : i ≤ T) (qs : QS F c T i 0 G) : lO h D F c T i (xm_met (d + 111) 75 [.ref (xd_A D 0 15), .int 12] (xp_c h D G)) (pl c T 3 i) := by
  have t600 := tc.1.1
  have r := cR_all tc (8 * T + 8) 3 0 (.num 0) i i h G 0 [] (by decide) hi (by omega) q w sw (fun z => nomatch z) (fun _ => rfl) qs (pz_fl tc.1 _ 3 0 (.num 0) i hi (fun z => nomatch z) (by show 8 * (T - i) + 2 + 1 ≤ _; omega)) (d + 110) (by show _ + 11 ≤ _; omega)
  have ok := pz_ok tc.1 (8 * T + 8) 3 0 (.num 0) i hi (fun z => nomatch z)
  unfold pl
  rw [if_pos rfl]
  generalize pz c T (8 * T + 8) 3 0 (.num 0) i = r0 at r ok ⊢
  have n1 : ¬ (1 : Int32) = 0 := by decide
  cases r0 with
  | inl x =>
    obtain ⟨h2, G2, m2, x2, w2, ft⟩ := r
    have m2 : xm_met (d + 110) 76 [.ref (xd_A D 0 15)] (xp_c h D G) = _ := m2
    refine ⟨h2, G2, ?_, x2.mono (by omega) (by omega), w2, ft⟩
    unfold xm_met
    simp only [ite_not, ite_self, w8_nil, ok01, ite10, rf_rv, rf_ref, rf_cat, rf_lk2, rf_some, rf_none, w_add, w_cons, cr_int, cr_long, cr_ref, cr_null, is_ref, is_null, l2_int, l2_ref, l2_null, l2_none, ent_nil, ent_int, ent_ref, ent_null, ent_rf, ent_long, ok_0, ok_1, af_ret, af_void, List.tail_cons, List.tail_nil, Nat.reduceAdd, Nat.reduceLeDiff, not_false_eq_true, not_true_eq_false, and_self, and_true, true_and, ne_eq, or_true, true_or, or_false, false_or, eq_self, Nat.reduceEqDiff, ↓reduceIte, false_and, and_false, Nat.le_refl, Nat.zero_le, nz_1, nz_2, nz_3, nz_4, nz_5, nz_6, nz_8, nz_10, nz_12, nz_20, nz_30, nz_60, nz_100, mc_B, mc_Z, mc_S, mc_C, mc_K, mc_N, mc_R, mc_I, mc_L, va_Is, va_Ls, va_us, va_iss, u2_ap, sp_isLedge, sp_isLadder, sp_isPerson, sp_isLiving, sp_isLot, sp_isThere, sp_isSpan, cs_f15 q, af_thr, thr_c (q.hx w x2), r75_0, r75_32, r75_33, r75_36, r75_37, r75_40, r75_41, r75_42, r75_43, r75_45, r75_51, r75_52, r75_55, r75_58, r75_59, r75_62, r75_1, r75_48, m2]
  | inr x =>
    obtain ⟨t1, q1⟩ := x
    obtain ⟨h2, G2, b, m2, x2, w2, qs2, to2, th2, l2, l3⟩ := r
    have m2 : xm_met (d + 110) 76 [.ref (xd_A D 0 15)] (xp_c h D G) = _ := m2
    have x2 : hx (6 * (q1 - i)) (48 * (q1 - i)) h h2 := x2
    have q2' := q.hx w x2
    have sw2 := sw.hx q w x2
    have l2 : i ≤ q1 := l2
    have l3 : q1 ≤ T := l3
    have th2 : th t1 + i ≤ q1 := th2
    have wt : wf false t1 := ok.1
    have xn := hx_nw (h := h2) (kd := 12) (n := 0) (s := 2)
    have wn : HW (xm_nw h2 12 0 2) D := w2.nw
    have qn := q2'.hx w2 xn
    have swn := sw2.hx q2' w2 xn
    have s17 : xm_met (d + 110) 83 [.ref (xd_A D 0 15), .int 17] (xp_c (xm_nw h2 12 0 2) D G2) = some (.inl (some (.int (if lK c T q1 = 8 then 1 else 0))), xp_c (xm_nw h2 12 0 2) D G2) := c83 (d := d + 110) qn qs2.1 (k := 17) (by decide)
    show lO h D F c T i _ (if lK c T q1 = 8 then pw (pz c T (8 * T + 8) 8 0 (.num 0) (lE c T q1)) _ else _)
    by_cases c1 : lK c T q1 = 8
    · rw [if_pos c1] at s17 ⊢
      have l4 := lE_lt tc.1 l3 (by rw [c1]; decide)
      have r := c84 (d := d) qn wn swn tc (t := .num 0) l3 (by rw [c1]; decide) qs2
      have ok := pz_ok tc.1 (8 * T + 8) 8 0 (.num 0) (lE c T q1) l4.2 (fun z => nomatch z)
      generalize pz c T (8 * T + 8) 8 0 (.num 0) (lE c T q1) = r0 at r ok ⊢
      cases r0 with
      | inl x =>
        obtain ⟨h4, G4, m4, x4, w4, ft⟩ := r
        refine ⟨h4, G4, ?_, ((x2.tr xn).tr x4).mono (by omega) (by omega), w4, ft⟩
        unfold xm_met
        simp only [ite_not, ite_self, w8_nil, ok01, ite10, rf_rv, rf_ref, rf_cat, rf_lk2, rf_some, rf_none, w_add, w_cons, cr_int, cr_long, cr_ref, cr_null, is_ref, is_null, l2_int, l2_ref, l2_null, l2_none, ent_nil, ent_int, ent_ref, ent_null, ent_rf, ent_long, ok_0, ok_1, af_ret, af_void, List.tail_cons, List.tail_nil, Nat.reduceAdd, Nat.reduceLeDiff, not_false_eq_true, not_true_eq_false, and_self, and_true, true_and, ne_eq, or_true, true_or, or_false, false_or, eq_self, Nat.reduceEqDiff, ↓reduceIte, false_and, and_false, Nat.le_refl, Nat.zero_le, nz_1, nz_2, nz_3, nz_4, nz_5, nz_6, nz_8, nz_10, nz_12, nz_20, nz_30, nz_60, nz_100, mc_B, mc_Z, mc_S, mc_C, mc_K, mc_N, mc_R, mc_I, mc_L, va_Is, va_Ls, va_us, va_iss, u2_ap, sp_isLedge, sp_isLadder, sp_isPerson, sp_isLiving, sp_isLot, sp_isThere, sp_isSpan, cs_f15 q, cs_f15 q2', cs_f15 qn, mc_nw w2, af_thr, thr_c (qn.hx wn x4), r75_0, r75_32, r75_33, r75_36, r75_37, r75_40, r75_41, r75_42, r75_43, r75_45, r75_51, r75_52, r75_55, r75_58, r75_59, r75_62, r75_1, r75_48, m2, s17, n1, m4]
      | inr x =>
        obtain ⟨t2, q2⟩ := x
        obtain ⟨h4, G4, e, m4, x4, w4, qs4, to4, th4, l5, l6⟩ := r
        have x4 : hx (6 * (q2 - q1)) (48 * (q2 - q1)) (xm_nw h2 12 0 2) h4 := x4
        have l5 : q1 ≤ q2 := l5
        have l6 : q2 ≤ T := l6
        have th4 : th t2 + lE c T q1 ≤ q2 := th4
        have wu : wf true t2 := ok.1
        obtain ⟨-, y1, y2, -, y4, y5⟩ := leave_new w2 x4 w4 wt (by omega) to2
        have y5 := y5 (d + 108) G4 (some e)
        have y5 : xm_met (d + 110) 201 [.ref (xm_Z h2), .ref b, .ref e] (xp_c h4 D G4) = _ := y5
        refine ⟨_, G4, xm_Z h2, ?_, (x2.tr (y1 (some e))).mono (by show 6 * (q1 - i) + (6 * (q2 - q1) + 1) ≤ 6 * (q2 - i) + 2; omega) (by show 48 * (q1 - i) + (48 * (q2 - q1) + 2) ≤ 48 * (q2 - i) + 8; omega), y2 _, qs4, y4 t2 e wu (by omega) to4, by show i ≤ q2; omega, l6⟩
        unfold xm_met
        simp only [ite_not, ite_self, w8_nil, ok01, ite10, rf_rv, rf_ref, rf_cat, rf_lk2, rf_some, rf_none, w_add, w_cons, cr_int, cr_long, cr_ref, cr_null, is_ref, is_null, l2_int, l2_ref, l2_null, l2_none, ent_nil, ent_int, ent_ref, ent_null, ent_rf, ent_long, ok_0, ok_1, af_ret, af_void, List.tail_cons, List.tail_nil, Nat.reduceAdd, Nat.reduceLeDiff, not_false_eq_true, not_true_eq_false, and_self, and_true, true_and, ne_eq, or_true, true_or, or_false, false_or, eq_self, Nat.reduceEqDiff, ↓reduceIte, false_and, and_false, Nat.le_refl, Nat.zero_le, nz_1, nz_2, nz_3, nz_4, nz_5, nz_6, nz_8, nz_10, nz_12, nz_20, nz_30, nz_60, nz_100, mc_B, mc_Z, mc_S, mc_C, mc_K, mc_N, mc_R, mc_I, mc_L, va_Is, va_Ls, va_us, va_iss, u2_ap, sp_isLedge, sp_isLadder, sp_isPerson, sp_isLiving, sp_isLot, sp_isThere, sp_isSpan, cs_f15 q, cs_f15 q2', cs_f15 qn, mc_nw w2, r75_0, r75_32, r75_33, r75_36, r75_37, r75_40, r75_41, r75_42, r75_43, r75_45, r75_51, r75_52, r75_55, r75_58, r75_59, r75_62, r75_1, r75_48, m2, s17, n1, m4, y5]
    · rw [if_neg c1] at s17 ⊢
      obtain ⟨y0, y1, y2, y3, -, y5⟩ := leave_new w2 hx.rf wn (z := 0) (s := 0) wt (by omega) to2
      have y5 := y5 (d + 108) G2 none
      have y5 : xm_met (d + 110) 201 [.ref (xm_Z h2), .ref b, .null] (xp_c (xm_nw h2 12 0 2) D G2) = _ := y5
      refine ⟨_, G2, xm_Z h2, ?_, (x2.tr y0).mono (by show 6 * (q1 - i) + (0 + 1) ≤ 6 * (q1 - i) + 2; omega) (by show 48 * (q1 - i) + (0 + 2) ≤ 48 * (q1 - i) + 8; omega), y2 _, qs2, y3, l2, l3⟩
      unfold xm_met
      simp only [ite_not, ite_self, w8_nil, ok01, ite10, rf_rv, rf_ref, rf_cat, rf_lk2, rf_some, rf_none, w_add, w_cons, cr_int, cr_long, cr_ref, cr_null, is_ref, is_null, l2_int, l2_ref, l2_null, l2_none, ent_nil, ent_int, ent_ref, ent_null, ent_rf, ent_long, ok_0, ok_1, af_ret, af_void, List.tail_cons, List.tail_nil, Nat.reduceAdd, Nat.reduceLeDiff, not_false_eq_true, not_true_eq_false, and_self, and_true, true_and, ne_eq, or_true, true_or, or_false, false_or, eq_self, Nat.reduceEqDiff, ↓reduceIte, false_and, and_false, Nat.le_refl, Nat.zero_le, nz_1, nz_2, nz_3, nz_4, nz_5, nz_6, nz_8, nz_10, nz_12, nz_20, nz_30, nz_60, nz_100, mc_B, mc_Z, mc_S, mc_C, mc_K, mc_N, mc_R, mc_I, mc_L, va_Is, va_Ls, va_us, va_iss, u2_ap, sp_isLedge, sp_isLadder, sp_isPerson, sp_isLiving, sp_isLot, sp_isThere, sp_isSpan, cs_f15 q, cs_f15 q2', cs_f15 qn, mc_nw w2, r75_0, r75_32, r75_33, r75_36, r75_37, r75_40, r75_41, r75_42, r75_43, r75_45, r75_51, r75_52, r75_55, r75_58, r75_59, r75_62, r75_1, r75_48, m2, s17, y5]
theorem c75_4 (q : CS h D) (w : HW h D) (sw : SW h D) (tc : TC F c T) {i : Nat} (hi : i ≤ T) (qs : QS F c T i 0 G) : lO h D F c T i (xm_met (d + 111) 75 [.ref (xd_A D 0 15), .int 13] (xp_c h D G)) (pl c T 4 i) := by
  have t600 := tc.1.1
  have n1 : ¬ (1 : Int32) = 0 := by decide
  have n43 : ¬ (4 : Int32) = 3 := by decide
  have n12 : ¬ (13 : Int32) = 12 := by decide
  have s17 : xm_met (d + 110) 83 [.ref (xd_A D 0 15), .int 17] (xp_c h D G) = some (.inl (some (.int (if lK c T i = 8 then 1 else 0))), xp_c h D G) := c83 (d := d + 110) q qs.1 (k := 17) (by decide)
  unfold pl
  rw [if_neg n43, if_pos rfl]
  by_cases c1 : lK c T i = 8
  · rw [if_pos c1] at s17 ⊢
    have l1 := lE_lt tc.1 hi (by rw [c1]; decide)
    have xn := hx_nw (h := h) (kd := 14) (n := 0) (s := 2)
    have wn : HW (xm_nw h 14 0 2) D := w.nw
    have qn := q.hx w xn
    have r := c84 (d := d) qn wn (sw.hx q w xn) tc (t := .num 0) hi (by rw [c1]; decide) qs
    have ok := pz_ok tc.1 (8 * T + 8) 8 0 (.num 0) (lE c T i) l1.2 (fun z => nomatch z)
    generalize pz c T (8 * T + 8) 8 0 (.num 0) (lE c T i) = r0 at r ok ⊢
    cases r0 with
    | inl x =>
      obtain ⟨h4, G4, m4, x4, w4, ft⟩ := r
      refine ⟨h4, G4, ?_, (xn.tr x4).mono (by omega) (by omega), w4, ft⟩
      unfold xm_met
      simp only [ite_not, ite_self, w8_nil, ok01, ite10, rf_rv, rf_ref, rf_cat, rf_lk2, rf_some, rf_none, w_add, w_cons, cr_int, cr_long, cr_ref, cr_null, is_ref, is_null, l2_int, l2_ref, l2_null, l2_none, ent_nil, ent_int, ent_ref, ent_null, ent_rf, ent_long, ok_0, ok_1, af_ret, af_void, List.tail_cons, List.tail_nil, Nat.reduceAdd, Nat.reduceLeDiff, not_false_eq_true, not_true_eq_false, and_self, and_true, true_and, ne_eq, or_true, true_or, or_false, false_or, eq_self, Nat.reduceEqDiff, ↓reduceIte, false_and, and_false, Nat.le_refl, Nat.zero_le, nz_1, nz_2, nz_3, nz_4, nz_5, nz_6, nz_8, nz_10, nz_12, nz_20, nz_30, nz_60, nz_100, mc_B, mc_Z, mc_S, mc_C, mc_K, mc_N, mc_R, mc_I, mc_L, va_Is, va_Ls, va_us, va_iss, u2_ap, sp_isLedge, sp_isLadder, sp_isPerson, sp_isLiving, sp_isLot, sp_isThere, sp_isSpan, cs_f15 q, cs_f15 qn, mc_nw w, af_thr, thr_c (qn.hx wn x4), r75_0, r75_63, r75_64, r75_66, r75_72, r75_73, r75_76, r75_77, r75_80, r75_81, r75_82, r75_85, r75_88, r75_1, r75_69, n12, s17, n1, m4]
    | inr x =>
      obtain ⟨t2, q2⟩ := x
      obtain ⟨h4, G4, e, m4, x4, w4, qs4, to4, th4, l5, l6⟩ := r
      have x4 : hx (6 * (q2 - i)) (48 * (q2 - i)) (xm_nw h 14 0 2) h4 := x4
      have l5 : i ≤ q2 := l5
      have l6 : q2 ≤ T := l6
      have th4 : th t2 + lE c T i ≤ q2 := th4
      have wu : wf true t2 := ok.1
      obtain ⟨y1, y2, y3, y4⟩ := bar_new w x4 w4 wu (by omega) to4
      have y4 := y4 (d + 108) G4
      refine ⟨_, G4, xm_Z h, ?_, y1.mono (by show 6 * (q2 - i) + 1 ≤ 6 * (q2 - i) + 2; omega) (by show 48 * (q2 - i) + 2 ≤ 48 * (q2 - i) + 8; omega), y2, qs4, y3, l5, l6⟩
      unfold xm_met
      simp only [ite_not, ite_self, w8_nil, ok01, ite10, rf_rv, rf_ref, rf_cat, rf_lk2, rf_some, rf_none, w_add, w_cons, cr_int, cr_long, cr_ref, cr_null, is_ref, is_null, l2_int, l2_ref, l2_null, l2_none, ent_nil, ent_int, ent_ref, ent_null, ent_rf, ent_long, ok_0, ok_1, af_ret, af_void, List.tail_cons, List.tail_nil, Nat.reduceAdd, Nat.reduceLeDiff, not_false_eq_true, not_true_eq_false, and_self, and_true, true_and, ne_eq, or_true, true_or, or_false, false_or, eq_self, Nat.reduceEqDiff, ↓reduceIte, false_and, and_false, Nat.le_refl, Nat.zero_le, nz_1, nz_2, nz_3, nz_4, nz_5, nz_6, nz_8, nz_10, nz_12, nz_20, nz_30, nz_60, nz_100, mc_B, mc_Z, mc_S, mc_C, mc_K, mc_N, mc_R, mc_I, mc_L, va_Is, va_Ls, va_us, va_iss, u2_ap, sp_isLedge, sp_isLadder, sp_isPerson, sp_isLiving, sp_isLot, sp_isThere, sp_isSpan, cs_f15 q, cs_f15 qn, mc_nw w, r75_0, r75_63, r75_64, r75_66, r75_72, r75_73, r75_76, r75_77, r75_80, r75_81, r75_82, r75_85, r75_88, r75_1, r75_69, n12, s17, n1, m4, y4]
  · rw [if_neg c1] at s17 ⊢
    have m3 := c81 (d := d + 109) (G := G) q
    refine ⟨h, sp_flt G 1, ?_, hx.rf, w, qs.flt⟩
    unfold xm_met
    simp only [ite_not, ite_self, w8_nil, ok01, ite10, rf_rv, rf_ref, rf_cat, rf_lk2, rf_some, rf_none, w_add, w_cons, cr_int, cr_long, cr_ref, cr_null, is_ref, is_null, l2_int, l2_ref, l2_null, l2_none, ent_nil, ent_int, ent_ref, ent_null, ent_rf, ent_long, ok_0, ok_1, af_ret, af_void, List.tail_cons, List.tail_nil, Nat.reduceAdd, Nat.reduceLeDiff, not_false_eq_true, not_true_eq_false, and_self, and_true, true_and, ne_eq, or_true, true_or, or_false, false_or, eq_self, Nat.reduceEqDiff, ↓reduceIte, false_and, and_false, Nat.le_refl, Nat.zero_le, nz_1, nz_2, nz_3, nz_4, nz_5, nz_6, nz_8, nz_10, nz_12, nz_20, nz_30, nz_60, nz_100, mc_B, mc_Z, mc_S, mc_C, mc_K, mc_N, mc_R, mc_I, mc_L, va_Is, va_Ls, va_us, va_iss, u2_ap, sp_isLedge, sp_isLadder, sp_isPerson, sp_isLiving, sp_isLot, sp_isThere, sp_isSpan, cs_f15 q, thr_c q, r75_0, r75_63, r75_64, r75_66, r75_72, r75_73, r75_76, r75_77, r75_80, r75_81, r75_82, r75_85, r75_88, r75_1, r75_69, n12, s17, m3]
theorem lK_150 {q : Nat} (h : 150 ≤ lK c T q ∧ lK c T q ≤ 153) : ∃ k, (8 ≤ k ∧ k < 12) ∧ lK c T q = cod k ∧ lK c T q - 150 = Int32.ofNat (k - 8) := by
  have : (150 ≤ lK c T q ∧ lK c T q ≤ 153) → ∃ k, (8 ≤ k ∧ k < 12) ∧ lK c T q = cod k ∧ lK c T q - 150 = Int32.ofNat (k - 8) := lK_all (P := fun x => (150 ≤ x ∧ x ≤ 153) → ∃ k, (8 ≤ k ∧ k < 12) ∧ x = cod k ∧ x - 150 = Int32.ofNat (k - 8)) (by
    intro k hk h
    simp only [wds, List.mem_cons, List.not_mem_nil, or_false] at hk
    rcases hk with rfl | rfl | rfl | rfl | rfl | rfl | rfl | rfl | rfl | rfl | rfl | rfl | rfl | rfl | rfl | rfl | rfl | rfl | rfl | rfl | rfl | rfl
    all_goals first | exact absurd h (by decide) | exact ⟨8, by decide⟩ | exact ⟨9, by decide⟩ | exact ⟨10, by decide⟩ | exact ⟨11, by decide⟩) (fun h => absurd h (by decide)) (fun h => absurd h (by decide)) (by
    intro k hk h
    rcases hk with rfl | rfl | rfl | rfl | rfl | rfl | rfl | rfl | rfl | rfl
    all_goals exact absurd h (by decide))
  exact this h
theorem cod_11 : ∀ k, k < 21 → ¬ (150 ≤ cod k ∧ cod k ≤ 153) → ¬ ((8 : Int32) ≤ Int32.ofNat k ∧ Int32.ofNat k ≤ 11) := by decide +kernel
theorem cod_12 : ∀ k, k < 12 → 8 ≤ k → (8 : Int32) ≤ Int32.ofNat k ∧ Int32.ofNat k ≤ 11 ∧ Int32.ofNat k - 8 = Int32.ofNat (k - 8) := by decide +kernel
theorem c75_5 (q : CS h D) (w : HW h D) (sw : SW h D) (tc : TC F c T) {i : Nat} (hi : i ≤ T) (qs : QS F c T i 0 G) : lO h D F c T i (xm_met (d + 111) 75 [.ref (xd_A D 0 15), .int 14] (xp_c h D G)) (pl c T 5 i) := by
  have n1 : ¬ (1 : Int32) = 0 := by decide
  have n53 : ¬ (5 : Int32) = 3 := by decide
  have n54 : ¬ (5 : Int32) = 4 := by decide
  have n12 : ¬ (14 : Int32) = 12 := by decide
  have n13 : ¬ (14 : Int32) = 13 := by decide
  have t2 := qs.1.2.2.1
  unfold pl
  rw [if_neg n53, if_neg n54, if_pos rfl]
  by_cases c1 : 150 ≤ lK c T i ∧ lK c T i ≤ 153
  · rw [if_pos c1]
    obtain ⟨k, ⟨k8, k12⟩, ek, ev⟩ := lK_150 c1
    have l1 := lE_lt tc.1 hi (by rw [ek]; exact (cod_ne k (by omega)).2.1)
    have v := qs.1.2.2.2.2.2 k (by omega) ek
    have t4 : G 86 2 = 2 := by rw [t2, ek]; exact cTk_cod k (by omega)
    obtain ⟨b1, b2, b3⟩ := cod_12 k k12 k8
    obtain ⟨h1, G1, m1, x1, w1, qs1⟩ := qs.next (d := d + 103) q w sw tc hi
    have q1' := q.hx w x1
    have sw1 := sw.hx q w x1
    have xn := hx_nw (h := h1) (kd := 15) (n := 0) (s := 4)
    have wn : HW (xm_nw h1 15 0 4) D := w1.nw
    have qn := q1'.hx w1 xn
    have nb := c82 (d := d + 102) qn wn (sw1.hx q1' w1 xn) tc l1.2 qs1 (m := 99)
    rw [ev]
    generalize nbr c T 99 (lE c T i) = r0 at nb ⊢
    cases r0 with
    | inl x =>
      obtain ⟨G2, m2, ft⟩ := nb
      refine ⟨_, G2, ?_, (x1.tr xn).mono (by omega) (by omega), wn, ft⟩
      unfold xm_met
      simp only [ite_not, ite_self, w8_nil, ok01, ite10, rf_rv, rf_ref, rf_cat, rf_lk2, rf_some, rf_none, w_add, w_cons, cr_int, cr_long, cr_ref, cr_null, is_ref, is_null, l2_int, l2_ref, l2_null, l2_none, ent_nil, ent_int, ent_ref, ent_null, ent_rf, ent_long, ok_0, ok_1, af_ret, af_void, List.tail_cons, List.tail_nil, Nat.reduceAdd, Nat.reduceLeDiff, not_false_eq_true, not_true_eq_false, and_self, and_true, true_and, ne_eq, or_true, true_or, or_false, false_or, eq_self, Nat.reduceEqDiff, ↓reduceIte, false_and, and_false, Nat.le_refl, Nat.zero_le, nz_1, nz_2, nz_3, nz_4, nz_5, nz_6, nz_8, nz_10, nz_12, nz_20, nz_30, nz_60, nz_100, mc_B, mc_Z, mc_S, mc_C, mc_K, mc_N, mc_R, mc_I, mc_L, va_Is, va_Ls, va_us, va_iss, u2_ap, sp_isLedge, sp_isLadder, sp_isPerson, sp_isLiving, sp_isLot, sp_isThere, sp_isSpan, cs_f15 q, cs_f15 q1', cs_f15 qn, cs_rd q, mc_nw w1, c2, af_thr, thr_c qn, r75_0, r75_89, r75_90, r75_93, r75_97, r75_98, r75_101, r75_103, r75_105, r75_111, r75_112, r75_115, r75_116, r75_117, r75_120, r75_122, r75_123, r75_124, r75_125, r75_128, r75_131, r75_132, r75_133, r75_134, r75_135, r75_137, r75_140, r75_143, r75_1, r75_94, r75_108, n12, n13, t4, v, b1, b2, b3, n1, m1, m2]
    | inr x =>
      obtain ⟨vv, q2⟩ := x
      obtain ⟨h2, G2, m2, x2, w2, qs2, l2, l3⟩ := nb
      have l2 : lE c T i < q2 := l2
      have l3 : q2 ≤ T := l3
      obtain ⟨y1, y2, y3, y4, y5, y6, y7, y8, y9⟩ := tell_new (kd := 15) (Or.inl rfl) w1 x2 w2 (u := Int32.ofNat (k - 8)) (v := vv)
      have y10 := c207 (d := d + 108) (h := xp_c h2 D G2) (a := xm_Z h1) (x := Int32.ofNat (k - 8)) (y := vv) (Or.inl (by rw [mc_K]; exact y3)) (by rw [mc_B]; exact y4)
      rw [y5 G2] at y10
      have tk : (Int32.ofNat (k - 8)).toInt = ((k - 8 : Nat) : Int) := ti_nat (by omega)
      refine ⟨_, G2, xm_Z h1, ?_, (x1.tr y1).mono (by show 4 + (4 + 1) ≤ 6 * (q2 - i) + 2; omega) (by show 40 + (40 + 4) ≤ 48 * (q2 - i) + 8; omega), y2, qs2, ⟨Or.inr (Or.inr ⟨n53, n54, Or.inl y3, y7⟩), (show (3 : Int32) ≤ 5 ∧ (5 : Int32) ≤ 7 by decide), y6, fun _ => ⟨y3, ?_, ?_, ?_⟩, fun e => absurd e (show ¬ (5 : Int32) = 6 by decide), fun e => absurd e (show ¬ (5 : Int32) = 7 by decide)⟩, by show i ≤ q2; omega, l3⟩
      · unfold xm_met
        simp only [ite_not, ite_self, w8_nil, ok01, ite10, rf_rv, rf_ref, rf_cat, rf_lk2, rf_some, rf_none, w_add, w_cons, cr_int, cr_long, cr_ref, cr_null, is_ref, is_null, l2_int, l2_ref, l2_null, l2_none, ent_nil, ent_int, ent_ref, ent_null, ent_rf, ent_long, ok_0, ok_1, af_ret, af_void, List.tail_cons, List.tail_nil, Nat.reduceAdd, Nat.reduceLeDiff, not_false_eq_true, not_true_eq_false, and_self, and_true, true_and, ne_eq, or_true, true_or, or_false, false_or, eq_self, Nat.reduceEqDiff, ↓reduceIte, false_and, and_false, Nat.le_refl, Nat.zero_le, nz_1, nz_2, nz_3, nz_4, nz_5, nz_6, nz_8, nz_10, nz_12, nz_20, nz_30, nz_60, nz_100, mc_B, mc_Z, mc_S, mc_C, mc_K, mc_N, mc_R, mc_I, mc_L, va_Is, va_Ls, va_us, va_iss, u2_ap, sp_isLedge, sp_isLadder, sp_isPerson, sp_isLiving, sp_isLot, sp_isThere, sp_isSpan, cs_f15 q, cs_f15 q1', cs_f15 qn, cs_rd q, mc_nw w1, c2, r75_0, r75_89, r75_90, r75_93, r75_97, r75_98, r75_101, r75_103, r75_105, r75_111, r75_112, r75_115, r75_116, r75_117, r75_120, r75_122, r75_123, r75_124, r75_125, r75_128, r75_131, r75_132, r75_133, r75_134, r75_135, r75_137, r75_140, r75_143, r75_1, r75_94, r75_108, n12, n13, t4, v, b1, b2, b3, n1, m1, m2, y10]
      · rw [y8]
        show _ = Int32.ofNat ((Int32.ofNat (k - 8)).toInt.toNat)
        rw [tk]
        rfl
      · show (Int32.ofNat (k - 8)).toInt.toNat < 4
        rw [tk]
        omega
      · rw [y9]
        show vv = Int32.ofInt vv.toInt
        rw [Int32.ofInt_toInt]
  · rw [if_neg c1]
    have m3 := c81 (d := d + 109) (G := G) q
    refine ⟨h, sp_flt G 1, ?_, hx.rf, w, qs.flt⟩
    unfold xm_met
    by_cases c4 : G 86 2 = 2
    · obtain ⟨k, hk, ek⟩ := lK_cod (t2.symm.trans c4)
      have v := qs.1.2.2.2.2.2 k hk ek
      have nb := cod_11 k hk (by rw [← ek]; exact c1)
      simp only [ite_not, ite_self, w8_nil, ok01, ite10, rf_rv, rf_ref, rf_cat, rf_lk2, rf_some, rf_none, w_add, w_cons, cr_int, cr_long, cr_ref, cr_null, is_ref, is_null, l2_int, l2_ref, l2_null, l2_none, ent_nil, ent_int, ent_ref, ent_null, ent_rf, ent_long, ok_0, ok_1, af_ret, af_void, List.tail_cons, List.tail_nil, Nat.reduceAdd, Nat.reduceLeDiff, not_false_eq_true, not_true_eq_false, and_self, and_true, true_and, ne_eq, or_true, true_or, or_false, false_or, eq_self, Nat.reduceEqDiff, ↓reduceIte, false_and, and_false, Nat.le_refl, Nat.zero_le, nz_1, nz_2, nz_3, nz_4, nz_5, nz_6, nz_8, nz_10, nz_12, nz_20, nz_30, nz_60, nz_100, mc_B, mc_Z, mc_S, mc_C, mc_K, mc_N, mc_R, mc_I, mc_L, va_Is, va_Ls, va_us, va_iss, u2_ap, sp_isLedge, sp_isLadder, sp_isPerson, sp_isLiving, sp_isLot, sp_isThere, sp_isSpan, cs_f15 q, cs_rd q, c2, thr_c q, r75_0, r75_89, r75_90, r75_93, r75_97, r75_98, r75_101, r75_103, r75_105, r75_111, r75_112, r75_115, r75_116, r75_117, r75_120, r75_122, r75_123, r75_124, r75_125, r75_128, r75_131, r75_132, r75_133, r75_134, r75_135, r75_137, r75_140, r75_143, r75_1, r75_94, r75_108, n12, n13, c4, v, nb, m3]
    · simp only [ite_not, ite_self, w8_nil, ok01, ite10, rf_rv, rf_ref, rf_cat, rf_lk2, rf_some, rf_none, w_add, w_cons, cr_int, cr_long, cr_ref, cr_null, is_ref, is_null, l2_int, l2_ref, l2_null, l2_none, ent_nil, ent_int, ent_ref, ent_null, ent_rf, ent_long, ok_0, ok_1, af_ret, af_void, List.tail_cons, List.tail_nil, Nat.reduceAdd, Nat.reduceLeDiff, not_false_eq_true, not_true_eq_false, and_self, and_true, true_and, ne_eq, or_true, true_or, or_false, false_or, eq_self, Nat.reduceEqDiff, ↓reduceIte, false_and, and_false, Nat.le_refl, Nat.zero_le, nz_1, nz_2, nz_3, nz_4, nz_5, nz_6, nz_8, nz_10, nz_12, nz_20, nz_30, nz_60, nz_100, mc_B, mc_Z, mc_S, mc_C, mc_K, mc_N, mc_R, mc_I, mc_L, va_Is, va_Ls, va_us, va_iss, u2_ap, sp_isLedge, sp_isLadder, sp_isPerson, sp_isLiving, sp_isLot, sp_isThere, sp_isSpan, cs_f15 q, cs_rd q, thr_c q, r75_0, r75_89, r75_90, r75_93, r75_97, r75_98, r75_101, r75_103, r75_105, r75_111, r75_112, r75_115, r75_116, r75_117, r75_120, r75_122, r75_123, r75_124, r75_125, r75_128, r75_131, r75_132, r75_133, r75_134, r75_135, r75_137, r75_140, r75_143, r75_1, r75_94, r75_108, n12, n13, c4, m3]
end RDLL
