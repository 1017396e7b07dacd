/-! the component reads terms: one condition; and all -/
set_option maxRecDepth 100000
section CRY
variable {d : Nat} {h h' : xm_H} {D : xp_D} {F G : xp_F} {c : Nat → Int32} {T : Nat} {z s : Nat}
theorem c86 (tc : TC F c T) {n : Nat} (ih : crI D F c T n) {dp : Nat} {t : Tm} {i : Nat} {h : xm_H} {G : xp_F} {a : Nat} {l : List (Option Value)} (hi : i ≤ T) (h8 : dp ≤ 8) (q : CS h D) (w : HW h D) (sw : SW h D) (qs : QS F c T i dp G) (fl : flt (pz c T (n + 1) 5 dp t i)) {X : Nat} (hX : 12 * (8 - dp) + 12 ≤ X) : cO h D F c T dp i i (cX h D X 5 G a l) (pz c T (n + 1) 5 dp t i) := by
  obtain ⟨Y, eY⟩ : ∃ Y, X = Y + 12 := ⟨X - 12, by omega⟩
  subst eY
  show cO h D F c T dp i i (xm_met (Y + 12) 86 [.ref (xd_A D 0 15)] (xp_c h D G)) _
  have n1 : ¬ (1 : Int32) = 0 := by decide
  have s20 := c83 (d := Y + 11) q qs.1 (k := 20) (by decide)
  have s20 : xm_met (Y + 11) 83 [.ref (xd_A D 0 15), .int 20] (xp_c h D G) = some (.inl (some (.int (if lK c T i = 11 then 1 else 0))), xp_c h D G) := s20
  rw [pz_e5] at fl ⊢
  by_cases c1 : lK c T i = 11
  · rw [if_pos c1] at s20
    rw [if_pos c1] at fl ⊢
    have o := c80 (d := Y + 3) q w sw tc hi h8 qs
    by_cases c3 : dp = 8
    · rw [if_pos c3]
      obtain ⟨G', m, ft⟩ := o.1 c3
      refine ⟨h, G', ?_, hx.rf, w, ft⟩
      unfold xm_met
      simp only [ite_not, ite_self, w8_nil, ok01, ite10, rf_rv, rf_ref, rf_cat, rf_lk2, rf_some, rf_none, w_add, w_cons, cr_int, cr_long, cr_ref, cr_null, is_ref, is_null, l2_int, l2_ref, l2_null, l2_none, ent_nil, ent_int, ent_ref, ent_null, ent_rf, ent_long, ok_0, ok_1, af_ret, af_void, List.tail_cons, List.tail_nil, Nat.reduceAdd, Nat.reduceLeDiff, not_false_eq_true, not_true_eq_false, and_self, and_true, true_and, ne_eq, or_true, true_or, or_false, false_or, eq_self, Nat.reduceEqDiff, ↓reduceIte, false_and, and_false, Nat.le_refl, Nat.zero_le, nz_1, nz_2, nz_3, nz_4, nz_5, nz_6, nz_8, nz_10, nz_12, nz_20, nz_30, nz_60, nz_100, mc_B, mc_Z, mc_S, mc_C, mc_K, mc_N, mc_R, mc_I, mc_L, va_Is, va_Ls, va_us, va_iss, u2_ap, sp_isLedge, sp_isLadder, sp_isPerson, sp_isLiving, sp_isLot, sp_isThere, sp_isSpan, cs_f15 q, af_thr, thr_c q, r86_0, r86_1, r86_3, r86_9, r86_10, r86_13, r86_16, r86_17, r86_18, r86_21, r86_24, r86_25, r86_26, r86_27, r86_30, r86_31, r86_32, r86_35, r86_36, r86_6, s20, n1, m]
    · rw [if_neg c3] at fl ⊢
      obtain ⟨h1, G1, m1, x1, w1, qs1⟩ := o.2 c3
      have q1' := q.hx w x1
      have sw1 := sw.hx q w x1
      have l1 := lE_lt tc.1 hi (by rw [c1]; decide)
      have xn := hx_nw (h := h1) (kd := 13) (n := 0) (s := 1)
      have wn : HW (xm_nw h1 13 0 1) D := w1.nw
      have qn := q1'.hx w1 xn
      have r := ih 5 (dp + 1) t (lE c T i) (lE c T i) (xm_nw h1 13 0 1) G1 0 [] (by decide) l1.2 (by omega) qn wn (sw1.hx q1' w1 xn) (fun z => nomatch z) (fun _ => rfl) qs1 (flt_1 fl) (Y + 11) (by show _ + 12 ≤ _; omega)
      generalize pz c T n 5 (dp + 1) t (lE c T i) = r0 at r fl ⊢
      cases r0 with
      | inl x =>
        obtain ⟨h2, G2, m2, x2, w2, ft⟩ := r
        have m2 : xm_met (Y + 11) 86 [.ref (xd_A D 0 15)] (xp_c (xm_nw h1 13 0 1) D G1) = _ := m2
        refine ⟨h2, G2, ?_, ((x1.tr xn).tr x2).mono (by omega) (by omega), w2, ft⟩
        unfold xm_met
        simp only [ite_not, ite_self, w8_nil, ok01, ite10, rf_rv, rf_ref, rf_cat, rf_lk2, rf_some, rf_none, w_add, w_cons, cr_int, cr_long, cr_ref, cr_null, is_ref, is_null, l2_int, l2_ref, l2_null, l2_none, ent_nil, ent_int, ent_ref, ent_null, ent_rf, ent_long, ok_0, ok_1, af_ret, af_void, List.tail_cons, List.tail_nil, Nat.reduceAdd, Nat.reduceLeDiff, not_false_eq_true, not_true_eq_false, and_self, and_true, true_and, ne_eq, or_true, true_or, or_false, false_or, eq_self, Nat.reduceEqDiff, ↓reduceIte, false_and, and_false, Nat.le_refl, Nat.zero_le, nz_1, nz_2, nz_3, nz_4, nz_5, nz_6, nz_8, nz_10, nz_12, nz_20, nz_30, nz_60, nz_100, mc_B, mc_Z, mc_S, mc_C, mc_K, mc_N, mc_R, mc_I, mc_L, va_Is, va_Ls, va_us, va_iss, u2_ap, sp_isLedge, sp_isLadder, sp_isPerson, sp_isLiving, sp_isLot, sp_isThere, sp_isSpan, cs_f15 q, cs_f15 q1', cs_f15 qn, mc_nw w1, af_thr, thr_c (qn.hx wn x2), r86_0, r86_1, r86_3, r86_9, r86_10, r86_13, r86_16, r86_17, r86_18, r86_21, r86_24, r86_25, r86_26, r86_27, r86_30, r86_31, r86_32, r86_35, r86_36, r86_6, s20, n1, m1, m2]
      | inr x =>
        obtain ⟨t1, q1⟩ := x
        obtain ⟨h2, G2, b, m2, x2, w2, qs2, to2, th2, l2, l3⟩ := r
        have m2 : xm_met (Y + 11) 86 [.ref (xd_A D 0 15)] (xp_c (xm_nw h1 13 0 1) D G1) = _ := m2
        have x2 : hx (6 * (q1 - lE c T i)) (48 * (q1 - lE c T i)) (xm_nw h1 13 0 1) h2 := x2
        have l2 : lE c T i ≤ q1 := l2
        have l3 : q1 ≤ T := l3
        have th2 : th t1 + lE c T i ≤ q1 := th2
        obtain ⟨y1, y2, y3, y4⟩ := not_new w1 x2 w2 to2
        have y4 := y4 (Y + 9) G2
        have q3' := q1'.hx w1 y1
        have hd : G2 86 4 = Int32.ofNat (dp + 1) := qs2.2.1
        have ed : Int32.ofNat (dp + 1) - 1 = Int32.ofNat dp := by rw [← nat_succ, i_as]
        refine ⟨_, _, xm_Z h1, ?_, (x1.tr y1).mono (by show 4 + (6 * (q1 - lE c T i) + 1) ≤ 6 * (q1 - i); omega) (by show 40 + (48 * (q1 - lE c T i) + 1) ≤ 48 * (q1 - i); omega), y2, qs2.cl, y3, by show th t1 + 1 + i ≤ q1; omega, by show i ≤ q1; omega, l3⟩
        unfold xm_met
        simp only [ite_not, ite_self, w8_nil, ok01, ite10, rf_rv, rf_ref, rf_cat, rf_lk2, rf_some, rf_none, w_add, w_cons, cr_int, cr_long, cr_ref, cr_null, is_ref, is_null, l2_int, l2_ref, l2_null, l2_none, ent_nil, ent_int, ent_ref, ent_null, ent_rf, ent_long, ok_0, ok_1, af_ret, af_void, List.tail_cons, List.tail_nil, Nat.reduceAdd, Nat.reduceLeDiff, not_false_eq_true, not_true_eq_false, and_self, and_true, true_and, ne_eq, or_true, true_or, or_false, false_or, eq_self, Nat.reduceEqDiff, ↓reduceIte, false_and, and_false, Nat.le_refl, Nat.zero_le, nz_1, nz_2, nz_3, nz_4, nz_5, nz_6, nz_8, nz_10, nz_12, nz_20, nz_30, nz_60, nz_100, mc_B, mc_Z, mc_S, mc_C, mc_K, mc_N, mc_R, mc_I, mc_L, va_Is, va_Ls, va_us, va_iss, u2_ap, sp_isLedge, sp_isLadder, sp_isPerson, sp_isLiving, sp_isLot, sp_isThere, sp_isSpan, cs_f15 q, cs_f15 q1', cs_f15 qn, cs_f15 q3', cs_B q3', cs_rd q3', mc_s (cs_inj q3'), mc_nw w1, r86_0, r86_1, r86_3, r86_9, r86_10, r86_13, r86_16, r86_17, r86_18, r86_21, r86_24, r86_25, r86_26, r86_27, r86_30, r86_31, r86_32, r86_35, r86_36, r86_6, s20, n1, m1, m2, y4, hd, ed]
  rw [if_neg c1] at s20
  rw [if_neg c1] at fl ⊢
  have r := ih 3 dp t i i h G 0 [] (by decide) hi h8 q w sw (fun z => nomatch z) (fun _ => rfl) qs (flt_1 fl) (Y + 11) (by show _ + 11 ≤ _; omega)
  have ok := pz_ok tc.1 n 3 dp t i hi (fun z => nomatch z)
  generalize pz c T n 3 dp t i = r0 at r ok fl ⊢
  cases r0 with
  | inl x =>
    obtain ⟨h2, G2, m2, x2, w2, ft⟩ := r
    have m2 : xm_met (Y + 11) 76 [.ref (xd_A D 0 15)] (xp_c h D G) = _ := m2
    refine ⟨h2, G2, ?_, x2, w2, ft⟩
    unfold xm_met
    simp only [ite_not, ite_self, w8_nil, ok01, ite10, rf_rv, rf_ref, rf_cat, rf_lk2, rf_some, rf_none, w_add, w_cons, cr_int, cr_long, cr_ref, cr_null, is_ref, is_null, l2_int, l2_ref, l2_null, l2_none, ent_nil, ent_int, ent_ref, ent_null, ent_rf, ent_long, ok_0, ok_1, af_ret, af_void, List.tail_cons, List.tail_nil, Nat.reduceAdd, Nat.reduceLeDiff, not_false_eq_true, not_true_eq_false, and_self, and_true, true_and, ne_eq, or_true, true_or, or_false, false_or, eq_self, Nat.reduceEqDiff, ↓reduceIte, false_and, and_false, Nat.le_refl, Nat.zero_le, nz_1, nz_2, nz_3, nz_4, nz_5, nz_6, nz_8, nz_10, nz_12, nz_20, nz_30, nz_60, nz_100, mc_B, mc_Z, mc_S, mc_C, mc_K, mc_N, mc_R, mc_I, mc_L, va_Is, va_Ls, va_us, va_iss, u2_ap, sp_isLedge, sp_isLadder, sp_isPerson, sp_isLiving, sp_isLot, sp_isThere, sp_isSpan, cs_f15 q, af_thr, thr_c (q.hx w x2), r86_0, r86_1, r86_3, r86_37, r86_38, r86_41, r86_42, r86_43, r86_45, r86_51, r86_52, r86_54, r86_60, r86_61, r86_63, r86_69, r86_70, r86_73, r86_74, r86_75, r86_78, r86_79, r86_80, r86_81, r86_84, r86_87, r86_88, r86_89, r86_90, r86_91, r86_94, r86_97, r86_6, r86_48, r86_57, r86_66, s20, m2]
  | inr x =>
    obtain ⟨t1, q1⟩ := x
    obtain ⟨h2, G2, b, m2, x2, w2, qs2, to2, th2, l2, l3⟩ := r
    have m2 : xm_met (Y + 11) 76 [.ref (xd_A D 0 15)] (xp_c h D G) = _ := m2
    have x2 : hx (6 * (q1 - i)) (48 * (q1 - i)) h h2 := x2
    have q2' := q.hx w x2
    have sw2 := sw.hx q w x2
    have l2 : i ≤ q1 := l2
    have l3 : q1 ≤ T := l3
    have th2 : th t1 + i ≤ q1 := th2
    have b1 : i + 1 ≤ q1 := ok.2.1
    have w1' : wf false t1 := ok.1
    have s60 : xm_met (Y + 11) 79 [.ref (xd_A D 0 15), .int 60] (xp_c h2 D G2) = some (.inl (some (.int (if lK c T q1 = 60 then 1 else 0))), xp_c h2 D G2) := c79 (d := Y + 11) q2' qs2.1 (x := 60) (by decide)
    have s61 : xm_met (Y + 11) 79 [.ref (xd_A D 0 15), .int 61] (xp_c h2 D G2) = some (.inl (some (.int (if lK c T q1 = 61 then 1 else 0))), xp_c h2 D G2) := c79 (d := Y + 11) q2' qs2.1 (x := 61) (by decide)
    have s62 : xm_met (Y + 11) 79 [.ref (xd_A D 0 15), .int 62] (xp_c h2 D G2) = some (.inl (some (.int (if lK c T q1 = 62 then 1 else 0))), xp_c h2 D G2) := c79 (d := Y + 11) q2' qs2.1 (x := 62) (by decide)
    have fl : flt (if lK c T q1 = 60 ∨ lK c T q1 = 61 ∨ lK c T q1 = 62 then pb (pz c T n 3 dp t1 (lE c T q1)) fun t2 q2 => .inr (.mulL (cmpc (lK c T q1)) (.add t1 t2), q2) else .inl (1, lS c T q1)) := fl
    show cO h D F c T dp i i _ (if lK c T q1 = 60 ∨ lK c T q1 = 61 ∨ lK c T q1 = 62 then pb (pz c T n 3 dp t1 (lE c T q1)) fun t2 q2 => .inr (.mulL (cmpc (lK c T q1)) (.add t1 t2), q2) else .inl (1, lS c T q1))
    by_cases c2 : lK c T q1 = 60 ∨ lK c T q1 = 61 ∨ lK c T q1 = 62
    · rw [if_pos c2] at fl ⊢
      have l4 := lE_lt tc.1 l3 (fun z => by rw [z] at c2; exact absurd c2 (by decide))
      obtain ⟨h3, G3, m3, x3, w3, qs3⟩ := qs2.next (d := Y + 4) q2' w2 sw2 tc l3
      have q3' := q2'.hx w2 x3
      have sw3 := sw2.hx q2' w2 x3
      have xn := hx_nw (h := h3) (kd := 10) (n := 0) (s := 3)
      have wn : HW (xm_nw h3 10 0 3) D := w3.nw
      have qn := q3'.hx w3 xn
      have r := ih 3 dp t1 (lE c T q1) (lE c T q1) (xm_nw h3 10 0 3) G3 0 [] (by decide) l4.2 h8 qn wn (sw3.hx q3' w3 xn) (fun z => nomatch z) (fun _ => rfl) qs3 (flt_1 fl) (Y + 11) (by show _ + 11 ≤ _; omega)
      generalize pz c T n 3 dp t1 (lE c T q1) = r0 at r fl ⊢
      by_cases e60 : lK c T q1 = 60
      · rw [if_pos e60] at s60
        have v : G2 86 3 = 60 := (qs2.1.2.2.2.2.1 (show tG (lK c T q1) by rw [e60]; decide)).trans e60
        have vc : ((60 : Int32).toUInt32 % 65536).toInt32 = 60 := i2c 60 (by decide)
        have ce : cmpc (lK c T q1) = 13 := by rw [e60]; decide
        rw [ce]
        cases r0 with
        | inl x =>
          obtain ⟨h4, G4, m4, x4, w4, ft⟩ := r
          have m4 : xm_met (Y + 11) 76 [.ref (xd_A D 0 15)] (xp_c (xm_nw h3 10 0 3) D G3) = _ := m4
          refine ⟨h4, G4, ?_, (((x2.tr x3).tr xn).tr x4).mono (by omega) (by omega), w4, ft⟩
          unfold xm_met
          simp only [ite_not, ite_self, w8_nil, ok01, ite10, rf_rv, rf_ref, rf_cat, rf_lk2, rf_some, rf_none, w_add, w_cons, cr_int, cr_long, cr_ref, cr_null, is_ref, is_null, l2_int, l2_ref, l2_null, l2_none, ent_nil, ent_int, ent_ref, ent_null, ent_rf, ent_long, ok_0, ok_1, af_ret, af_void, List.tail_cons, List.tail_nil, Nat.reduceAdd, Nat.reduceLeDiff, not_false_eq_true, not_true_eq_false, and_self, and_true, true_and, ne_eq, or_true, true_or, or_false, false_or, eq_self, Nat.reduceEqDiff, ↓reduceIte, false_and, and_false, Nat.le_refl, Nat.zero_le, nz_1, nz_2, nz_3, nz_4, nz_5, nz_6, nz_8, nz_10, nz_12, nz_20, nz_30, nz_60, nz_100, mc_B, mc_Z, mc_S, mc_C, mc_K, mc_N, mc_R, mc_I, mc_L, va_Is, va_Ls, va_us, va_iss, u2_ap, sp_isLedge, sp_isLadder, sp_isPerson, sp_isLiving, sp_isLot, sp_isThere, sp_isSpan, cs_f15 q, cs_f15 q2', cs_f15 q3', cs_f15 qn, cs_rd q2', mc_nw w3, af_thr, thr_c (qn.hx wn x4), r86_0, r86_1, r86_3, r86_37, r86_38, r86_41, r86_42, r86_43, r86_45, r86_51, r86_52, r86_54, r86_60, r86_61, r86_63, r86_69, r86_70, r86_73, r86_74, r86_75, r86_78, r86_79, r86_80, r86_81, r86_84, r86_87, r86_88, r86_89, r86_90, r86_91, r86_94, r86_97, r86_6, r86_48, r86_57, r86_66, s20, m2, s60, n1, v, vc, m3, m4]
        | inr x =>
          obtain ⟨t2, q2⟩ := x
          obtain ⟨h4, G4, e, m4, x4, w4, qs4, to4, th4, l5, l6⟩ := r
          have m4 : xm_met (Y + 11) 76 [.ref (xd_A D 0 15)] (xp_c (xm_nw h3 10 0 3) D G3) = _ := m4
          have x4 : hx (6 * (q2 - lE c T q1)) (48 * (q2 - lE c T q1)) (xm_nw h3 10 0 3) h4 := x4
          have l5 : lE c T q1 ≤ q2 := l5
          have l6 : q2 ≤ T := l6
          have th4 : th t2 + lE c T q1 ≤ q2 := th4
          obtain ⟨y1, y2, y3, y4⟩ := two_new w3 x4 w4 (o := 13) (TO.hx w2 x3 _ _ to2) to4
          have y5 : xm_met (Y + 11) 195 [.ref (xm_Z h3), .ref b, .int 60, .ref e] (xp_c h4 D G4) = some (.inl none, xp_c (nTwo h4 (xm_Z h3) b 60 e) D G4) := y4 (Y + 9) G4
          refine ⟨_, G4, xm_Z h3, ?_, ((x2.tr x3).tr y1).mono (by show 6 * (q1 - i) + 4 + (6 * (q2 - lE c T q1) + 1) ≤ 6 * (q2 - i); omega) (by show 48 * (q1 - i) + 40 + (48 * (q2 - lE c T q1) + 3) ≤ 48 * (q2 - i); omega), y2, qs4, y3, by show max (th t1) (th t2) + 1 + i ≤ q2; omega, by show i ≤ q2; omega, l6⟩
          unfold xm_met
          simp only [ite_not, ite_self, w8_nil, ok01, ite10, rf_rv, rf_ref, rf_cat, rf_lk2, rf_some, rf_none, w_add, w_cons, cr_int, cr_long, cr_ref, cr_null, is_ref, is_null, l2_int, l2_ref, l2_null, l2_none, ent_nil, ent_int, ent_ref, ent_null, ent_rf, ent_long, ok_0, ok_1, af_ret, af_void, List.tail_cons, List.tail_nil, Nat.reduceAdd, Nat.reduceLeDiff, not_false_eq_true, not_true_eq_false, and_self, and_true, true_and, ne_eq, or_true, true_or, or_false, false_or, eq_self, Nat.reduceEqDiff, ↓reduceIte, false_and, and_false, Nat.le_refl, Nat.zero_le, nz_1, nz_2, nz_3, nz_4, nz_5, nz_6, nz_8, nz_10, nz_12, nz_20, nz_30, nz_60, nz_100, mc_B, mc_Z, mc_S, mc_C, mc_K, mc_N, mc_R, mc_I, mc_L, va_Is, va_Ls, va_us, va_iss, u2_ap, sp_isLedge, sp_isLadder, sp_isPerson, sp_isLiving, sp_isLot, sp_isThere, sp_isSpan, cs_f15 q, cs_f15 q2', cs_f15 q3', cs_f15 qn, cs_rd q2', mc_nw w3, r86_0, r86_1, r86_3, r86_37, r86_38, r86_41, r86_42, r86_43, r86_45, r86_51, r86_52, r86_54, r86_60, r86_61, r86_63, r86_69, r86_70, r86_73, r86_74, r86_75, r86_78, r86_79, r86_80, r86_81, r86_84, r86_87, r86_88, r86_89, r86_90, r86_91, r86_94, r86_97, r86_6, r86_48, r86_57, r86_66, s20, m2, s60, n1, v, vc, m3, m4, y5]
          rfl
      rw [if_neg e60] at s60
      by_cases e61 : lK c T q1 = 61
      · rw [if_pos e61] at s61
        have v : G2 86 3 = 61 := (qs2.1.2.2.2.2.1 (show tG (lK c T q1) by rw [e61]; decide)).trans e61
        have vc : ((61 : Int32).toUInt32 % 65536).toInt32 = 61 := i2c 61 (by decide)
        have ce : cmpc (lK c T q1) = 14 := by rw [e61]; decide
        rw [ce]
        cases r0 with
        | inl x =>
          obtain ⟨h4, G4, m4, x4, w4, ft⟩ := r
          have m4 : xm_met (Y + 11) 76 [.ref (xd_A D 0 15)] (xp_c (xm_nw h3 10 0 3) D G3) = _ := m4
          refine ⟨h4, G4, ?_, (((x2.tr x3).tr xn).tr x4).mono (by omega) (by omega), w4, ft⟩
          unfold xm_met
          simp only [ite_not, ite_self, w8_nil, ok01, ite10, rf_rv, rf_ref, rf_cat, rf_lk2, rf_some, rf_none, w_add, w_cons, cr_int, cr_long, cr_ref, cr_null, is_ref, is_null, l2_int, l2_ref, l2_null, l2_none, ent_nil, ent_int, ent_ref, ent_null, ent_rf, ent_long, ok_0, ok_1, af_ret, af_void, List.tail_cons, List.tail_nil, Nat.reduceAdd, Nat.reduceLeDiff, not_false_eq_true, not_true_eq_false, and_self, and_true, true_and, ne_eq, or_true, true_or, or_false, false_or, eq_self, Nat.reduceEqDiff, ↓reduceIte, false_and, and_false, Nat.le_refl, Nat.zero_le, nz_1, nz_2, nz_3, nz_4, nz_5, nz_6, nz_8, nz_10, nz_12, nz_20, nz_30, nz_60, nz_100, mc_B, mc_Z, mc_S, mc_C, mc_K, mc_N, mc_R, mc_I, mc_L, va_Is, va_Ls, va_us, va_iss, u2_ap, sp_isLedge, sp_isLadder, sp_isPerson, sp_isLiving, sp_isLot, sp_isThere, sp_isSpan, cs_f15 q, cs_f15 q2', cs_f15 q3', cs_f15 qn, cs_rd q2', mc_nw w3, af_thr, thr_c (qn.hx wn x4), r86_0, r86_1, r86_3, r86_37, r86_38, r86_41, r86_42, r86_43, r86_45, r86_51, r86_52, r86_54, r86_60, r86_61, r86_63, r86_69, r86_70, r86_73, r86_74, r86_75, r86_78, r86_79, r86_80, r86_81, r86_84, r86_87, r86_88, r86_89, r86_90, r86_91, r86_94, r86_97, r86_6, r86_48, r86_57, r86_66, s20, m2, s60, s61, n1, v, vc, m3, m4]
        | inr x =>
          obtain ⟨t2, q2⟩ := x
          obtain ⟨h4, G4, e, m4, x4, w4, qs4, to4, th4, l5, l6⟩ := r
          have m4 : xm_met (Y + 11) 76 [.ref (xd_A D 0 15)] (xp_c (xm_nw h3 10 0 3) D G3) = _ := m4
          have x4 : hx (6 * (q2 - lE c T q1)) (48 * (q2 - lE c T q1)) (xm_nw h3 10 0 3) h4 := x4
          have l5 : lE c T q1 ≤ q2 := l5
          have l6 : q2 ≤ T := l6
          have th4 : th t2 + lE c T q1 ≤ q2 := th4
          obtain ⟨y1, y2, y3, y4⟩ := two_new w3 x4 w4 (o := 14) (TO.hx w2 x3 _ _ to2) to4
          have y5 : xm_met (Y + 11) 195 [.ref (xm_Z h3), .ref b, .int 61, .ref e] (xp_c h4 D G4) = some (.inl none, xp_c (nTwo h4 (xm_Z h3) b 61 e) D G4) := y4 (Y + 9) G4
          refine ⟨_, G4, xm_Z h3, ?_, ((x2.tr x3).tr y1).mono (by show 6 * (q1 - i) + 4 + (6 * (q2 - lE c T q1) + 1) ≤ 6 * (q2 - i); omega) (by show 48 * (q1 - i) + 40 + (48 * (q2 - lE c T q1) + 3) ≤ 48 * (q2 - i); omega), y2, qs4, y3, by show max (th t1) (th t2) + 1 + i ≤ q2; omega, by show i ≤ q2; omega, l6⟩
          unfold xm_met
          simp only [ite_not, ite_self, w8_nil, ok01, ite10, rf_rv, rf_ref, rf_cat, rf_lk2, rf_some, rf_none, w_add, w_cons, cr_int, cr_long, cr_ref, cr_null, is_ref, is_null, l2_int, l2_ref, l2_null, l2_none, ent_nil, ent_int, ent_ref, ent_null, ent_rf, ent_long, ok_0, ok_1, af_ret, af_void, List.tail_cons, List.tail_nil, Nat.reduceAdd, Nat.reduceLeDiff, not_false_eq_true, not_true_eq_false, and_self, and_true, true_and, ne_eq, or_true, true_or, or_false, false_or, eq_self, Nat.reduceEqDiff, ↓reduceIte, false_and, and_false, Nat.le_refl, Nat.zero_le, nz_1, nz_2, nz_3, nz_4, nz_5, nz_6, nz_8, nz_10, nz_12, nz_20, nz_30, nz_60, nz_100, mc_B, mc_Z, mc_S, mc_C, mc_K, mc_N, mc_R, mc_I, mc_L, va_Is, va_Ls, va_us, va_iss, u2_ap, sp_isLedge, sp_isLadder, sp_isPerson, sp_isLiving, sp_isLot, sp_isThere, sp_isSpan, cs_f15 q, cs_f15 q2', cs_f15 q3', cs_f15 qn, cs_rd q2', mc_nw w3, r86_0, r86_1, r86_3, r86_37, r86_38, r86_41, r86_42, r86_43, r86_45, r86_51, r86_52, r86_54, r86_60, r86_61, r86_63, r86_69, r86_70, r86_73, r86_74, r86_75, r86_78, r86_79, r86_80, r86_81, r86_84, r86_87, r86_88, r86_89, r86_90, r86_91, r86_94, r86_97, r86_6, r86_48, r86_57, r86_66, s20, m2, s60, s61, n1, v, vc, m3, m4, y5]
          rfl
      rw [if_neg e61] at s61
      · have e62 : lK c T q1 = 62 := (c2.resolve_left e60).resolve_left e61
        rw [if_pos e62] at s62
        have v : G2 86 3 = 62 := (qs2.1.2.2.2.2.1 (show tG (lK c T q1) by rw [e62]; decide)).trans e62
        have vc : ((62 : Int32).toUInt32 % 65536).toInt32 = 62 := i2c 62 (by decide)
        have ce : cmpc (lK c T q1) = 15 := by rw [e62]; decide
        rw [ce]
        cases r0 with
        | inl x =>
          obtain ⟨h4, G4, m4, x4, w4, ft⟩ := r
          have m4 : xm_met (Y + 11) 76 [.ref (xd_A D 0 15)] (xp_c (xm_nw h3 10 0 3) D G3) = _ := m4
          refine ⟨h4, G4, ?_, (((x2.tr x3).tr xn).tr x4).mono (by omega) (by omega), w4, ft⟩
          unfold xm_met
          simp only [ite_not, ite_self, w8_nil, ok01, ite10, rf_rv, rf_ref, rf_cat, rf_lk2, rf_some, rf_none, w_add, w_cons, cr_int, cr_long, cr_ref, cr_null, is_ref, is_null, l2_int, l2_ref, l2_null, l2_none, ent_nil, ent_int, ent_ref, ent_null, ent_rf, ent_long, ok_0, ok_1, af_ret, af_void, List.tail_cons, List.tail_nil, Nat.reduceAdd, Nat.reduceLeDiff, not_false_eq_true, not_true_eq_false, and_self, and_true, true_and, ne_eq, or_true, true_or, or_false, false_or, eq_self, Nat.reduceEqDiff, ↓reduceIte, false_and, and_false, Nat.le_refl, Nat.zero_le, nz_1, nz_2, nz_3, nz_4, nz_5, nz_6, nz_8, nz_10, nz_12, nz_20, nz_30, nz_60, nz_100, mc_B, mc_Z, mc_S, mc_C, mc_K, mc_N, mc_R, mc_I, mc_L, va_Is, va_Ls, va_us, va_iss, u2_ap, sp_isLedge, sp_isLadder, sp_isPerson, sp_isLiving, sp_isLot, sp_isThere, sp_isSpan, cs_f15 q, cs_f15 q2', cs_f15 q3', cs_f15 qn, cs_rd q2', mc_nw w3, af_thr, thr_c (qn.hx wn x4), r86_0, r86_1, r86_3, r86_37, r86_38, r86_41, r86_42, r86_43, r86_45, r86_51, r86_52, r86_54, r86_60, r86_61, r86_63, r86_69, r86_70, r86_73, r86_74, r86_75, r86_78, r86_79, r86_80, r86_81, r86_84, r86_87, r86_88, r86_89, r86_90, r86_91, r86_94, r86_97, r86_6, r86_48, r86_57, r86_66, s20, m2, s60, s61, s62, n1, v, vc, m3, m4]
        | inr x =>
          obtain ⟨t2, q2⟩ := x
          obtain ⟨h4, G4, e, m4, x4, w4, qs4, to4, th4, l5, l6⟩ := r
          have m4 : xm_met (Y + 11) 76 [.ref (xd_A D 0 15)] (xp_c (xm_nw h3 10 0 3) D G3) = _ := m4
          have x4 : hx (6 * (q2 - lE c T q1)) (48 * (q2 - lE c T q1)) (xm_nw h3 10 0 3) h4 := x4
          have l5 : lE c T q1 ≤ q2 := l5
          have l6 : q2 ≤ T := l6
          have th4 : th t2 + lE c T q1 ≤ q2 := th4
          obtain ⟨y1, y2, y3, y4⟩ := two_new w3 x4 w4 (o := 15) (TO.hx w2 x3 _ _ to2) to4
          have y5 : xm_met (Y + 11) 195 [.ref (xm_Z h3), .ref b, .int 62, .ref e] (xp_c h4 D G4) = some (.inl none, xp_c (nTwo h4 (xm_Z h3) b 62 e) D G4) := y4 (Y + 9) G4
          refine ⟨_, G4, xm_Z h3, ?_, ((x2.tr x3).tr y1).mono (by show 6 * (q1 - i) + 4 + (6 * (q2 - lE c T q1) + 1) ≤ 6 * (q2 - i); omega) (by show 48 * (q1 - i) + 40 + (48 * (q2 - lE c T q1) + 3) ≤ 48 * (q2 - i); omega), y2, qs4, y3, by show max (th t1) (th t2) + 1 + i ≤ q2; omega, by show i ≤ q2; omega, l6⟩
          unfold xm_met
          simp only [ite_not, ite_self, w8_nil, ok01, ite10, rf_rv, rf_ref, rf_cat, rf_lk2, rf_some, rf_none, w_add, w_cons, cr_int, cr_long, cr_ref, cr_null, is_ref, is_null, l2_int, l2_ref, l2_null, l2_none, ent_nil, ent_int, ent_ref, ent_null, ent_rf, ent_long, ok_0, ok_1, af_ret, af_void, List.tail_cons, List.tail_nil, Nat.reduceAdd, Nat.reduceLeDiff, not_false_eq_true, not_true_eq_false, and_self, and_true, true_and, ne_eq, or_true, true_or, or_false, false_or, eq_self, Nat.reduceEqDiff, ↓reduceIte, false_and, and_false, Nat.le_refl, Nat.zero_le, nz_1, nz_2, nz_3, nz_4, nz_5, nz_6, nz_8, nz_10, nz_12, nz_20, nz_30, nz_60, nz_100, mc_B, mc_Z, mc_S, mc_C, mc_K, mc_N, mc_R, mc_I, mc_L, va_Is, va_Ls, va_us, va_iss, u2_ap, sp_isLedge, sp_isLadder, sp_isPerson, sp_isLiving, sp_isLot, sp_isThere, sp_isSpan, cs_f15 q, cs_f15 q2', cs_f15 q3', cs_f15 qn, cs_rd q2', mc_nw w3, r86_0, r86_1, r86_3, r86_37, r86_38, r86_41, r86_42, r86_43, r86_45, r86_51, r86_52, r86_54, r86_60, r86_61, r86_63, r86_69, r86_70, r86_73, r86_74, r86_75, r86_78, r86_79, r86_80, r86_81, r86_84, r86_87, r86_88, r86_89, r86_90, r86_91, r86_94, r86_97, r86_6, r86_48, r86_57, r86_66, s20, m2, s60, s61, s62, n1, v, vc, m3, m4, y5]
          rfl
    · rw [if_neg c2]
      rw [if_neg (fun z => c2 (Or.inl z))] at s60
      rw [if_neg (fun z => c2 (Or.inr (Or.inl z)))] at s61
      rw [if_neg (fun z => c2 (Or.inr (Or.inr z)))] at s62
      have m3 := c81 (d := Y + 10) (G := G2) q2'
      refine ⟨h2, sp_flt G2 1, ?_, x2.mono (by omega) (by omega), w2, qs2.flt⟩
      unfold xm_met
      simp only [ite_not, ite_self, w8_nil, ok01, ite10, rf_rv, rf_ref, rf_cat, rf_lk2, rf_some, rf_none, w_add, w_cons, cr_int, cr_long, cr_ref, cr_null, is_ref, is_null, l2_int, l2_ref, l2_null, l2_none, ent_nil, ent_int, ent_ref, ent_null, ent_rf, ent_long, ok_0, ok_1, af_ret, af_void, List.tail_cons, List.tail_nil, Nat.reduceAdd, Nat.reduceLeDiff, not_false_eq_true, not_true_eq_false, and_self, and_true, true_and, ne_eq, or_true, true_or, or_false, false_or, eq_self, Nat.reduceEqDiff, ↓reduceIte, false_and, and_false, Nat.le_refl, Nat.zero_le, nz_1, nz_2, nz_3, nz_4, nz_5, nz_6, nz_8, nz_10, nz_12, nz_20, nz_30, nz_60, nz_100, mc_B, mc_Z, mc_S, mc_C, mc_K, mc_N, mc_R, mc_I, mc_L, va_Is, va_Ls, va_us, va_iss, u2_ap, sp_isLedge, sp_isLadder, sp_isPerson, sp_isLiving, sp_isLot, sp_isThere, sp_isSpan, cs_f15 q, cs_f15 q2', thr_c q2', r86_0, r86_1, r86_3, r86_37, r86_38, r86_41, r86_42, r86_43, r86_45, r86_51, r86_52, r86_54, r86_60, r86_61, r86_63, r86_69, r86_70, r86_73, r86_74, r86_75, r86_78, r86_79, r86_80, r86_81, r86_84, r86_87, r86_88, r86_89, r86_90, r86_91, r86_94, r86_97, r86_6, r86_48, r86_57, r86_66, s20, m2, s60, s61, s62, m3]
theorem cR_all (tc : TC F c T) : ∀ n, crI D F c T n
  | 0, g, dp, t, i, p, h, G, a, l, hg, hi, h8, q, w, sw, w0, w1, qs, fl, X, hX => absurd rfl fl
  | n + 1, g, dp, t, i, p, h, G, a, l, hg, hi, h8, q, w, sw, w0, w1, qs, fl, X, hX => by
    have ih := cR_all tc n
    match g with
    | 0 =>
      rw [w1 (by decide)]
      exact c78 tc ih hi h8 q w sw qs fl hX
    | 1 =>
      rw [w1 (by decide)]
      exact c77h tc ih hi h8 q w sw qs fl hX
    | 2 => exact c77l tc ih hi h8 q w sw qs (w0 rfl).1 (w0 rfl).2.1 (w0 rfl).2.2 fl hX
    | 3 =>
      rw [w1 (by decide)]
      exact c76h tc ih hi h8 q w sw qs fl hX
    | 4 => exact c76l tc ih hi h8 q w sw qs (w0 rfl).1 (w0 rfl).2.1 (w0 rfl).2.2 fl hX
    | 5 =>
      rw [w1 (by decide)]
      exact c86 tc ih hi h8 q w sw qs fl hX
    | 6 =>
      rw [w1 (by decide)]
      exact c85h tc ih hi h8 q w sw qs fl hX
    | 7 => exact c85l tc ih hi h8 q w sw qs (w0 rfl).1 (w0 rfl).2.1 (w0 rfl).2.2 fl hX
    | 8 =>
      rw [w1 (by decide)]
      exact c84h tc ih hi h8 q w sw qs fl hX
    | 9 => exact c84l tc ih hi h8 q w sw qs (w0 rfl).1 (w0 rfl).2.1 (w0 rfl).2.2 fl hX
    | g + 10 => exact absurd hg (by omega)
end CRY
