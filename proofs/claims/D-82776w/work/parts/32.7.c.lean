/-! texts: the model reads terms, one condition; and all -/
set_option maxRecDepth 100000
section MRY
variable {d : Nat} {h : xm_H} {M : Nat} {F F0 : xp_F} {c : Nat → Int32} {T : Nat}
theorem PS.cl {i dp s : Nat} {G : xp_F} (a : PS F0 c T i (dp + 1) s G) : PS F0 c T i dp s (xm_u2 G 0 44 (Int32.ofNat dp)) := ⟨⟨by rw [u2_ap, if_neg (by decide)]; exact a.1.1, by rw [u2_ap, if_neg (by decide)]; exact a.1.2.1, by rw [u2_ap, if_neg (by decide)]; exact a.1.2.2.1, fun z => by rw [u2_ap, if_neg (by decide)]; exact a.1.2.2.2 z⟩, by rw [u2_ap, if_pos ⟨rfl, rfl⟩], by rw [u2_ap, if_neg (by decide)]; exact a.2.2.1, a.2.2.2.u (by omega)⟩
theorem c129 (q : MS h M) (tp : TP F0 c T) {n : Nat} (ih : mrI h M F0 c T n) {dp : Nat} {t : Tm} {i s : Nat} {F : xp_F} {l : List (Option Value)} (hi : i ≤ T) (h8 : dp ≤ 8) (hs : s ≤ i) (a : PS F0 c T i dp s F) (fl : flt (pz c T (n + 1) 5 dp t i)) {D : Nat} (hD : 12 * (8 - dp) + 7 ≤ D) : mO h M F0 c T dp s s i F (mX h M D 5 F l) (pz c T (n + 1) 5 dp t i) := by
  obtain ⟨X, eX⟩ : ∃ X, D = X + 7 := ⟨D - 7, by omega⟩
  subst eX
  have t600 := tp.1.1
  have tk : F 0 38 = lK c T i := a.1.2.1
  show mO h M F0 c T dp s s i F (xm_met (X + 7) 129 [.ref M] (xp_m h M F)) _
  rw [pz_e5] at fl ⊢
  by_cases c1 : lK c T i = 11
  · rw [c1] at tk
    rw [if_pos c1] at fl ⊢
    have o := c124 (d := X + 3) q tp hi h8 a
    by_cases c3 : dp = 8
    · rw [if_pos c3]
      obtain ⟨G, m, pf⟩ := o.1 c3
      refine ⟨G, ?_, pf⟩
      unfold xm_met
      simp only [ite_not, ite_self, w8_nil, ok01, ite10, rf_rv, rf_ref, rf_cat, rf_lk2, rf_some, rf_none, w_add, w_cons, cr_int, cr_long, cr_ref, cr_null, is_ref, is_null, l2_int, l2_ref, l2_null, l2_none, ent_nil, ent_int, ent_ref, ent_null, ent_rf, ent_long, ok_0, ok_1, af_ret, af_void, List.tail_cons, List.tail_nil, Nat.reduceAdd, Nat.reduceLeDiff, not_false_eq_true, not_true_eq_false, and_self, and_true, true_and, ne_eq, or_true, true_or, or_false, false_or, eq_self, Nat.reduceEqDiff, ↓reduceIte, false_and, and_false, Nat.le_refl, Nat.zero_le, nz_1, nz_2, nz_3, nz_4, nz_5, nz_6, nz_8, nz_10, nz_12, nz_20, nz_30, nz_60, nz_100, mp_B, mp_Z, mp_S, mp_C, mp_K, mp_N, mp_L, mp_R, mp_I, mp_I0, mp_s, mp_s0, u2_ap, sp_isLedge, sp_isLadder, sp_isPerson, sp_isLiving, sp_isLot, sp_isThere, sp_isSpan, ms_K q, ms_B q, r129_0, r129_1, r129_4, r129_9, r129_10, r129_16, r129_17, r129_23, r129_24, r129_25, r129_26, r129_27, r129_30, r129_31, r129_32, r129_35, r129_36, r129_38, r129_39, r129_42, r129_43, r129_6, r129_13, r129_20, tk, m]
    · rw [if_neg c3] at fl ⊢
      obtain ⟨G1, m1, a1, fr1⟩ := o.2 c3
      have l1 := lE_lt tp.1 hi (by rw [c1]; decide)
      have r := ih 5 (dp + 1) t (lE c T i) s s G1 [] (by decide) l1.2 (by omega) (by omega) (fun z => nomatch z) (fun _ => rfl) a1 (flt_1 fl) (X + 6) (by show _ + 7 ≤ _; omega)
      have ok := pz_ok tp.1 n 5 (dp + 1) t (lE c T i) l1.2 (fun z => nomatch z)
      generalize pz c T n 5 (dp + 1) t (lE c T i) = r0 at r ok fl ⊢
      cases r0 with
      | inl x =>
        obtain ⟨G, m, pf⟩ := r
        have m : xm_met (X + 6) 129 [.ref M] (xp_m h M G1) = _ := m
        refine ⟨G, ?_, pf⟩
        unfold xm_met
        simp only [ite_not, ite_self, w8_nil, ok01, ite10, rf_rv, rf_ref, rf_cat, rf_lk2, rf_some, rf_none, w_add, w_cons, cr_int, cr_long, cr_ref, cr_null, is_ref, is_null, l2_int, l2_ref, l2_null, l2_none, ent_nil, ent_int, ent_ref, ent_null, ent_rf, ent_long, ok_0, ok_1, af_ret, af_void, List.tail_cons, List.tail_nil, Nat.reduceAdd, Nat.reduceLeDiff, not_false_eq_true, not_true_eq_false, and_self, and_true, true_and, ne_eq, or_true, true_or, or_false, false_or, eq_self, Nat.reduceEqDiff, ↓reduceIte, false_and, and_false, Nat.le_refl, Nat.zero_le, nz_1, nz_2, nz_3, nz_4, nz_5, nz_6, nz_8, nz_10, nz_12, nz_20, nz_30, nz_60, nz_100, mp_B, mp_Z, mp_S, mp_C, mp_K, mp_N, mp_L, mp_R, mp_I, mp_I0, mp_s, mp_s0, u2_ap, sp_isLedge, sp_isLadder, sp_isPerson, sp_isLiving, sp_isLot, sp_isThere, sp_isSpan, ms_K q, ms_B q, r129_0, r129_1, r129_4, r129_9, r129_10, r129_16, r129_17, r129_23, r129_24, r129_25, r129_26, r129_27, r129_30, r129_31, r129_32, r129_35, r129_36, r129_38, r129_39, r129_42, r129_43, r129_6, r129_13, r129_20, tk, m1, m]
      | inr x =>
        obtain ⟨t1, q1⟩ := x
        obtain ⟨G2, s2, m, a2, k2, sg2, l2, l3⟩ := r
        have m : xm_met (X + 6) 129 [.ref M] (xp_m h M G1) = _ := m
        obtain ⟨w1, b1, b2⟩ := ok
        have b1 : lE c T i + 1 ≤ q1 := b1
        have b2 : q1 ≤ T := b2
        have l3 : s2 + lE c T i ≤ s + q1 := l3
        have hd : G2 0 44 = Int32.ofNat (dp + 1) := a2.2.1
        have ed : Int32.ofNat (dp + 1) - 1 = Int32.ofNat dp := by rw [← nat_succ, i_as]
        obtain ⟨G3, m3, a3, k3, f3⟩ := a2.cl.lay (d := X + 6) q (show s2 < 610 by omega) (k := 16) (v := 0)
        have kc : kp2 s2 G2 (xm_u2 G2 0 44 (Int32.ofNat dp)) := fun j _ => by rw [u2_ap, if_neg (by omega)]
        have k23 := kc.tr k3 (Nat.le_refl _)
        refine ⟨G3, s2 + 1, ?_, a3, ((kp2.of fr1).tr k2 (Nat.le_refl _)).tr k23 l2, ⟨s2, sg_kp w1 sg2 k23, rfl, congrArg Prod.fst f3⟩, by omega, by show s2 + 1 + i ≤ s + q1; omega⟩
        unfold xm_met
        simp only [ite_not, ite_self, w8_nil, ok01, ite10, rf_rv, rf_ref, rf_cat, rf_lk2, rf_some, rf_none, w_add, w_cons, cr_int, cr_long, cr_ref, cr_null, is_ref, is_null, l2_int, l2_ref, l2_null, l2_none, ent_nil, ent_int, ent_ref, ent_null, ent_rf, ent_long, ok_0, ok_1, af_ret, af_void, List.tail_cons, List.tail_nil, Nat.reduceAdd, Nat.reduceLeDiff, not_false_eq_true, not_true_eq_false, and_self, and_true, true_and, ne_eq, or_true, true_or, or_false, false_or, eq_self, Nat.reduceEqDiff, ↓reduceIte, false_and, and_false, Nat.le_refl, Nat.zero_le, nz_1, nz_2, nz_3, nz_4, nz_5, nz_6, nz_8, nz_10, nz_12, nz_20, nz_30, nz_60, nz_100, mp_B, mp_Z, mp_S, mp_C, mp_K, mp_N, mp_L, mp_R, mp_I, mp_I0, mp_s, mp_s0, u2_ap, sp_isLedge, sp_isLadder, sp_isPerson, sp_isLiving, sp_isLot, sp_isThere, sp_isSpan, ms_K q, ms_B q, r129_0, r129_1, r129_4, r129_9, r129_10, r129_16, r129_17, r129_23, r129_24, r129_25, r129_26, r129_27, r129_30, r129_31, r129_32, r129_35, r129_36, r129_38, r129_39, r129_42, r129_43, r129_6, r129_13, r129_20, tk, m1, m, hd, ed, m3]
  rw [if_neg c1] at fl ⊢
  have r := ih 3 dp t i s s F [] (by decide) hi h8 hs (fun z => nomatch z) (fun _ => rfl) a (flt_1 fl) (X + 6) (by show _ + 6 ≤ _; omega)
  have ok := pz_ok tp.1 n 3 dp t i hi (fun z => nomatch z)
  generalize pz c T n 3 dp t i = r0 at r ok fl ⊢
  cases r0 with
  | inl x =>
    obtain ⟨G, m, pf⟩ := r
    have m : xm_met (X + 6) 121 [.ref M] (xp_m h M F) = _ := m
    refine ⟨G, ?_, pf⟩
    unfold xm_met
    simp only [ite_not, ite_self, w8_nil, ok01, ite10, rf_rv, rf_ref, rf_cat, rf_lk2, rf_some, rf_none, w_add, w_cons, cr_int, cr_long, cr_ref, cr_null, is_ref, is_null, l2_int, l2_ref, l2_null, l2_none, ent_nil, ent_int, ent_ref, ent_null, ent_rf, ent_long, ok_0, ok_1, af_ret, af_void, List.tail_cons, List.tail_nil, Nat.reduceAdd, Nat.reduceLeDiff, not_false_eq_true, not_true_eq_false, and_self, and_true, true_and, ne_eq, or_true, true_or, or_false, false_or, eq_self, Nat.reduceEqDiff, ↓reduceIte, false_and, and_false, Nat.le_refl, Nat.zero_le, nz_1, nz_2, nz_3, nz_4, nz_5, nz_6, nz_8, nz_10, nz_12, nz_20, nz_30, nz_60, nz_100, mp_B, mp_Z, mp_S, mp_C, mp_K, mp_N, mp_L, mp_R, mp_I, mp_I0, mp_s, mp_s0, u2_ap, sp_isLedge, sp_isLadder, sp_isPerson, sp_isLiving, sp_isLot, sp_isThere, sp_isSpan, ms_K q, ms_B q, r129_0, r129_1, r129_4, r129_44, r129_45, r129_51, r129_52, r129_53, r129_54, r129_57, r129_62, r129_64, r129_67, r129_68, r129_71, r129_76, r129_78, r129_81, r129_82, r129_85, r129_90, r129_92, r129_95, r129_96, r129_97, r129_98, r129_102, r129_103, r129_104, r129_107, r129_108, r129_109, r129_112, r129_113, r129_119, r129_120, r129_121, r129_122, r129_123, r129_124, r129_127, r129_128, r129_6, r129_48, r129_59, r129_73, r129_87, r129_99, r129_116, tk, c1, m]
  | inr x =>
    obtain ⟨t1, q1⟩ := x
    obtain ⟨G2, s2, m, a2, k2, sg2, l2, l3⟩ := r
    have m : xm_met (X + 6) 121 [.ref M] (xp_m h M F) = _ := m
    obtain ⟨w1, b1, b2⟩ := ok
    have b1 : i + 1 ≤ q1 := b1
    have b2 : q1 ≤ T := b2
    have l3 : s2 + i ≤ s + q1 := l3
    have tk2 : G2 0 38 = lK c T q1 := a2.1.2.1
    have fl : flt (if lK c T q1 = 60 ∨ lK c T q1 = 61 ∨ lK c T q1 = 62 then pb (pz c T n 3 dp t1 (lE c T q1)) fun t2 q2 => .inr (.mulL (cmpc (lK c T q1)) (.add t1 t2), q2) else .inl (1, lS c T q1)) := fl
    show mO h M F0 c T dp s s i F _ (if lK c T q1 = 60 ∨ lK c T q1 = 61 ∨ lK c T q1 = 62 then pb (pz c T n 3 dp t1 (lE c T q1)) fun t2 q2 => .inr (.mulL (cmpc (lK c T q1)) (.add t1 t2), q2) else .inl (1, lS c T q1))
    by_cases c2 : lK c T q1 = 60 ∨ lK c T q1 = 61 ∨ lK c T q1 = 62
    · rw [if_pos c2] at fl ⊢
      have l4 := lE_lt tp.1 b2 (fun z => by rw [z] at c2; exact absurd c2 (by decide))
      obtain ⟨G3, m3, a3, -, fr3⟩ := a2.next (d := X + 4) q tp b2
      have r := ih 3 dp t1 (lE c T q1) s2 s2 G3 [] (by decide) l4.2 h8 (by omega) (fun z => nomatch z) (fun _ => rfl) a3 (flt_1 fl) (X + 6) (by show _ + 6 ≤ _; omega)
      have ok := pz_ok tp.1 n 3 dp t1 (lE c T q1) l4.2 (fun z => nomatch z)
      generalize pz c T n 3 dp t1 (lE c T q1) = r0 at r ok fl ⊢
      by_cases e60 : lK c T q1 = 60
      · rw [e60] at tk2 ⊢
        have hm : ¬ (13 : Int32) = -1 := by decide
        have ce : cmpc 60 = 13 := by decide
        rw [ce]
        cases r0 with
        | inl x =>
          obtain ⟨G, m4, pf⟩ := r
          have m4 : xm_met (X + 6) 121 [.ref M] (xp_m h M G3) = _ := m4
          refine ⟨G, ?_, pf⟩
          unfold xm_met
          simp only [ite_not, ite_self, w8_nil, ok01, ite10, rf_rv, rf_ref, rf_cat, rf_lk2, rf_some, rf_none, w_add, w_cons, cr_int, cr_long, cr_ref, cr_null, is_ref, is_null, l2_int, l2_ref, l2_null, l2_none, ent_nil, ent_int, ent_ref, ent_null, ent_rf, ent_long, ok_0, ok_1, af_ret, af_void, List.tail_cons, List.tail_nil, Nat.reduceAdd, Nat.reduceLeDiff, not_false_eq_true, not_true_eq_false, and_self, and_true, true_and, ne_eq, or_true, true_or, or_false, false_or, eq_self, Nat.reduceEqDiff, ↓reduceIte, false_and, and_false, Nat.le_refl, Nat.zero_le, nz_1, nz_2, nz_3, nz_4, nz_5, nz_6, nz_8, nz_10, nz_12, nz_20, nz_30, nz_60, nz_100, mp_B, mp_Z, mp_S, mp_C, mp_K, mp_N, mp_L, mp_R, mp_I, mp_I0, mp_s, mp_s0, u2_ap, sp_isLedge, sp_isLadder, sp_isPerson, sp_isLiving, sp_isLot, sp_isThere, sp_isSpan, ms_K q, ms_B q, r129_0, r129_1, r129_4, r129_44, r129_45, r129_51, r129_52, r129_53, r129_54, r129_57, r129_62, r129_64, r129_67, r129_68, r129_71, r129_76, r129_78, r129_81, r129_82, r129_85, r129_90, r129_92, r129_95, r129_96, r129_97, r129_98, r129_102, r129_103, r129_104, r129_107, r129_108, r129_109, r129_112, r129_113, r129_119, r129_120, r129_121, r129_122, r129_123, r129_124, r129_127, r129_128, r129_6, r129_48, r129_59, r129_73, r129_87, r129_99, r129_116, tk, c1, m, tk2, hm, m3, m4]
        | inr x =>
          obtain ⟨t2, q2⟩ := x
          obtain ⟨G4, s4, m4, a4, k4, sg4, l5, l6⟩ := r
          have m4 : xm_met (X + 6) 121 [.ref M] (xp_m h M G3) = _ := m4
          obtain ⟨w2, b3, b4⟩ := ok
          have b3 : lE c T q1 + 1 ≤ q2 := b3
          have b4 : q2 ≤ T := b4
          have l6 : s4 + lE c T q1 ≤ s2 + q2 := l6
          obtain ⟨G5, m5, a5, k5, f5⟩ := a4.lay (d := X + 6) q (show s4 < 610 by omega) (k := 13) (v := 0)
          have k25 : kp2 s2 G2 G5 := ((kp2.of fr3).tr k4 (Nat.le_refl _)).tr k5 l5
          refine ⟨G5, s4 + 1, ?_, a5, k2.tr k25 l2, ⟨s2, s4, sg_kp w1 sg2 k25, sg_kp w2 sg4 k5, rfl, congrArg Prod.fst f5⟩, by omega, by show s4 + 1 + i ≤ s + q2; omega⟩
          unfold xm_met
          simp only [ite_not, ite_self, w8_nil, ok01, ite10, rf_rv, rf_ref, rf_cat, rf_lk2, rf_some, rf_none, w_add, w_cons, cr_int, cr_long, cr_ref, cr_null, is_ref, is_null, l2_int, l2_ref, l2_null, l2_none, ent_nil, ent_int, ent_ref, ent_null, ent_rf, ent_long, ok_0, ok_1, af_ret, af_void, List.tail_cons, List.tail_nil, Nat.reduceAdd, Nat.reduceLeDiff, not_false_eq_true, not_true_eq_false, and_self, and_true, true_and, ne_eq, or_true, true_or, or_false, false_or, eq_self, Nat.reduceEqDiff, ↓reduceIte, false_and, and_false, Nat.le_refl, Nat.zero_le, nz_1, nz_2, nz_3, nz_4, nz_5, nz_6, nz_8, nz_10, nz_12, nz_20, nz_30, nz_60, nz_100, mp_B, mp_Z, mp_S, mp_C, mp_K, mp_N, mp_L, mp_R, mp_I, mp_I0, mp_s, mp_s0, u2_ap, sp_isLedge, sp_isLadder, sp_isPerson, sp_isLiving, sp_isLot, sp_isThere, sp_isSpan, ms_K q, ms_B q, r129_0, r129_1, r129_4, r129_44, r129_45, r129_51, r129_52, r129_53, r129_54, r129_57, r129_62, r129_64, r129_67, r129_68, r129_71, r129_76, r129_78, r129_81, r129_82, r129_85, r129_90, r129_92, r129_95, r129_96, r129_97, r129_98, r129_102, r129_103, r129_104, r129_107, r129_108, r129_109, r129_112, r129_113, r129_119, r129_120, r129_121, r129_122, r129_123, r129_124, r129_127, r129_128, r129_6, r129_48, r129_59, r129_73, r129_87, r129_99, r129_116, tk, c1, m, tk2, hm, m3, m4, m5]
      by_cases e61 : lK c T q1 = 61
      · rw [e61] at tk2 ⊢
        have n0 : ¬ (61 : Int32) = 60 := by decide
        have hm : ¬ (14 : Int32) = -1 := by decide
        have ce : cmpc 61 = 14 := by decide
        rw [ce]
        cases r0 with
        | inl x =>
          obtain ⟨G, m4, pf⟩ := r
          have m4 : xm_met (X + 6) 121 [.ref M] (xp_m h M G3) = _ := m4
          refine ⟨G, ?_, pf⟩
          unfold xm_met
          simp only [ite_not, ite_self, w8_nil, ok01, ite10, rf_rv, rf_ref, rf_cat, rf_lk2, rf_some, rf_none, w_add, w_cons, cr_int, cr_long, cr_ref, cr_null, is_ref, is_null, l2_int, l2_ref, l2_null, l2_none, ent_nil, ent_int, ent_ref, ent_null, ent_rf, ent_long, ok_0, ok_1, af_ret, af_void, List.tail_cons, List.tail_nil, Nat.reduceAdd, Nat.reduceLeDiff, not_false_eq_true, not_true_eq_false, and_self, and_true, true_and, ne_eq, or_true, true_or, or_false, false_or, eq_self, Nat.reduceEqDiff, ↓reduceIte, false_and, and_false, Nat.le_refl, Nat.zero_le, nz_1, nz_2, nz_3, nz_4, nz_5, nz_6, nz_8, nz_10, nz_12, nz_20, nz_30, nz_60, nz_100, mp_B, mp_Z, mp_S, mp_C, mp_K, mp_N, mp_L, mp_R, mp_I, mp_I0, mp_s, mp_s0, u2_ap, sp_isLedge, sp_isLadder, sp_isPerson, sp_isLiving, sp_isLot, sp_isThere, sp_isSpan, ms_K q, ms_B q, r129_0, r129_1, r129_4, r129_44, r129_45, r129_51, r129_52, r129_53, r129_54, r129_57, r129_62, r129_64, r129_67, r129_68, r129_71, r129_76, r129_78, r129_81, r129_82, r129_85, r129_90, r129_92, r129_95, r129_96, r129_97, r129_98, r129_102, r129_103, r129_104, r129_107, r129_108, r129_109, r129_112, r129_113, r129_119, r129_120, r129_121, r129_122, r129_123, r129_124, r129_127, r129_128, r129_6, r129_48, r129_59, r129_73, r129_87, r129_99, r129_116, tk, c1, m, tk2, n0, hm, m3, m4]
        | inr x =>
          obtain ⟨t2, q2⟩ := x
          obtain ⟨G4, s4, m4, a4, k4, sg4, l5, l6⟩ := r
          have m4 : xm_met (X + 6) 121 [.ref M] (xp_m h M G3) = _ := m4
          obtain ⟨w2, b3, b4⟩ := ok
          have b3 : lE c T q1 + 1 ≤ q2 := b3
          have b4 : q2 ≤ T := b4
          have l6 : s4 + lE c T q1 ≤ s2 + q2 := l6
          obtain ⟨G5, m5, a5, k5, f5⟩ := a4.lay (d := X + 6) q (show s4 < 610 by omega) (k := 14) (v := 0)
          have k25 : kp2 s2 G2 G5 := ((kp2.of fr3).tr k4 (Nat.le_refl _)).tr k5 l5
          refine ⟨G5, s4 + 1, ?_, a5, k2.tr k25 l2, ⟨s2, s4, sg_kp w1 sg2 k25, sg_kp w2 sg4 k5, rfl, congrArg Prod.fst f5⟩, by omega, by show s4 + 1 + i ≤ s + q2; omega⟩
          unfold xm_met
          simp only [ite_not, ite_self, w8_nil, ok01, ite10, rf_rv, rf_ref, rf_cat, rf_lk2, rf_some, rf_none, w_add, w_cons, cr_int, cr_long, cr_ref, cr_null, is_ref, is_null, l2_int, l2_ref, l2_null, l2_none, ent_nil, ent_int, ent_ref, ent_null, ent_rf, ent_long, ok_0, ok_1, af_ret, af_void, List.tail_cons, List.tail_nil, Nat.reduceAdd, Nat.reduceLeDiff, not_false_eq_true, not_true_eq_false, and_self, and_true, true_and, ne_eq, or_true, true_or, or_false, false_or, eq_self, Nat.reduceEqDiff, ↓reduceIte, false_and, and_false, Nat.le_refl, Nat.zero_le, nz_1, nz_2, nz_3, nz_4, nz_5, nz_6, nz_8, nz_10, nz_12, nz_20, nz_30, nz_60, nz_100, mp_B, mp_Z, mp_S, mp_C, mp_K, mp_N, mp_L, mp_R, mp_I, mp_I0, mp_s, mp_s0, u2_ap, sp_isLedge, sp_isLadder, sp_isPerson, sp_isLiving, sp_isLot, sp_isThere, sp_isSpan, ms_K q, ms_B q, r129_0, r129_1, r129_4, r129_44, r129_45, r129_51, r129_52, r129_53, r129_54, r129_57, r129_62, r129_64, r129_67, r129_68, r129_71, r129_76, r129_78, r129_81, r129_82, r129_85, r129_90, r129_92, r129_95, r129_96, r129_97, r129_98, r129_102, r129_103, r129_104, r129_107, r129_108, r129_109, r129_112, r129_113, r129_119, r129_120, r129_121, r129_122, r129_123, r129_124, r129_127, r129_128, r129_6, r129_48, r129_59, r129_73, r129_87, r129_99, r129_116, tk, c1, m, tk2, n0, hm, m3, m4, m5]
      · have e62 : lK c T q1 = 62 := (c2.resolve_left e60).resolve_left e61
        rw [e62] at tk2 ⊢
        have n0 : ¬ (62 : Int32) = 60 := by decide
        have n1 : ¬ (62 : Int32) = 61 := by decide
        have hm : ¬ (15 : Int32) = -1 := by decide
        have ce : cmpc 62 = 15 := by decide
        rw [ce]
        cases r0 with
        | inl x =>
          obtain ⟨G, m4, pf⟩ := r
          have m4 : xm_met (X + 6) 121 [.ref M] (xp_m h M G3) = _ := m4
          refine ⟨G, ?_, pf⟩
          unfold xm_met
          simp only [ite_not, ite_self, w8_nil, ok01, ite10, rf_rv, rf_ref, rf_cat, rf_lk2, rf_some, rf_none, w_add, w_cons, cr_int, cr_long, cr_ref, cr_null, is_ref, is_null, l2_int, l2_ref, l2_null, l2_none, ent_nil, ent_int, ent_ref, ent_null, ent_rf, ent_long, ok_0, ok_1, af_ret, af_void, List.tail_cons, List.tail_nil, Nat.reduceAdd, Nat.reduceLeDiff, not_false_eq_true, not_true_eq_false, and_self, and_true, true_and, ne_eq, or_true, true_or, or_false, false_or, eq_self, Nat.reduceEqDiff, ↓reduceIte, false_and, and_false, Nat.le_refl, Nat.zero_le, nz_1, nz_2, nz_3, nz_4, nz_5, nz_6, nz_8, nz_10, nz_12, nz_20, nz_30, nz_60, nz_100, mp_B, mp_Z, mp_S, mp_C, mp_K, mp_N, mp_L, mp_R, mp_I, mp_I0, mp_s, mp_s0, u2_ap, sp_isLedge, sp_isLadder, sp_isPerson, sp_isLiving, sp_isLot, sp_isThere, sp_isSpan, ms_K q, ms_B q, r129_0, r129_1, r129_4, r129_44, r129_45, r129_51, r129_52, r129_53, r129_54, r129_57, r129_62, r129_64, r129_67, r129_68, r129_71, r129_76, r129_78, r129_81, r129_82, r129_85, r129_90, r129_92, r129_95, r129_96, r129_97, r129_98, r129_102, r129_103, r129_104, r129_107, r129_108, r129_109, r129_112, r129_113, r129_119, r129_120, r129_121, r129_122, r129_123, r129_124, r129_127, r129_128, r129_6, r129_48, r129_59, r129_73, r129_87, r129_99, r129_116, tk, c1, m, tk2, n0, n1, hm, m3, m4]
        | inr x =>
          obtain ⟨t2, q2⟩ := x
          obtain ⟨G4, s4, m4, a4, k4, sg4, l5, l6⟩ := r
          have m4 : xm_met (X + 6) 121 [.ref M] (xp_m h M G3) = _ := m4
          obtain ⟨w2, b3, b4⟩ := ok
          have b3 : lE c T q1 + 1 ≤ q2 := b3
          have b4 : q2 ≤ T := b4
          have l6 : s4 + lE c T q1 ≤ s2 + q2 := l6
          obtain ⟨G5, m5, a5, k5, f5⟩ := a4.lay (d := X + 6) q (show s4 < 610 by omega) (k := 15) (v := 0)
          have k25 : kp2 s2 G2 G5 := ((kp2.of fr3).tr k4 (Nat.le_refl _)).tr k5 l5
          refine ⟨G5, s4 + 1, ?_, a5, k2.tr k25 l2, ⟨s2, s4, sg_kp w1 sg2 k25, sg_kp w2 sg4 k5, rfl, congrArg Prod.fst f5⟩, by omega, by show s4 + 1 + i ≤ s + q2; omega⟩
          unfold xm_met
          simp only [ite_not, ite_self, w8_nil, ok01, ite10, rf_rv, rf_ref, rf_cat, rf_lk2, rf_some, rf_none, w_add, w_cons, cr_int, cr_long, cr_ref, cr_null, is_ref, is_null, l2_int, l2_ref, l2_null, l2_none, ent_nil, ent_int, ent_ref, ent_null, ent_rf, ent_long, ok_0, ok_1, af_ret, af_void, List.tail_cons, List.tail_nil, Nat.reduceAdd, Nat.reduceLeDiff, not_false_eq_true, not_true_eq_false, and_self, and_true, true_and, ne_eq, or_true, true_or, or_false, false_or, eq_self, Nat.reduceEqDiff, ↓reduceIte, false_and, and_false, Nat.le_refl, Nat.zero_le, nz_1, nz_2, nz_3, nz_4, nz_5, nz_6, nz_8, nz_10, nz_12, nz_20, nz_30, nz_60, nz_100, mp_B, mp_Z, mp_S, mp_C, mp_K, mp_N, mp_L, mp_R, mp_I, mp_I0, mp_s, mp_s0, u2_ap, sp_isLedge, sp_isLadder, sp_isPerson, sp_isLiving, sp_isLot, sp_isThere, sp_isSpan, ms_K q, ms_B q, r129_0, r129_1, r129_4, r129_44, r129_45, r129_51, r129_52, r129_53, r129_54, r129_57, r129_62, r129_64, r129_67, r129_68, r129_71, r129_76, r129_78, r129_81, r129_82, r129_85, r129_90, r129_92, r129_95, r129_96, r129_97, r129_98, r129_102, r129_103, r129_104, r129_107, r129_108, r129_109, r129_112, r129_113, r129_119, r129_120, r129_121, r129_122, r129_123, r129_124, r129_127, r129_128, r129_6, r129_48, r129_59, r129_73, r129_87, r129_99, r129_116, tk, c1, m, tk2, n0, n1, hm, m3, m4, m5]
    · rw [if_neg c2]
      obtain ⟨G, m3, pf⟩ := a2.bad (d := X + 6) q (k := 1)
      refine ⟨G, ?_, pf⟩
      have n0 : ¬ lK c T q1 = 60 := fun z => c2 (Or.inl z)
      have n1 : ¬ lK c T q1 = 61 := fun z => c2 (Or.inr (Or.inl z))
      have n2 : ¬ lK c T q1 = 62 := fun z => c2 (Or.inr (Or.inr z))
      unfold xm_met
      simp only [ite_not, ite_self, w8_nil, ok01, ite10, rf_rv, rf_ref, rf_cat, rf_lk2, rf_some, rf_none, w_add, w_cons, cr_int, cr_long, cr_ref, cr_null, is_ref, is_null, l2_int, l2_ref, l2_null, l2_none, ent_nil, ent_int, ent_ref, ent_null, ent_rf, ent_long, ok_0, ok_1, af_ret, af_void, List.tail_cons, List.tail_nil, Nat.reduceAdd, Nat.reduceLeDiff, not_false_eq_true, not_true_eq_false, and_self, and_true, true_and, ne_eq, or_true, true_or, or_false, false_or, eq_self, Nat.reduceEqDiff, ↓reduceIte, false_and, and_false, Nat.le_refl, Nat.zero_le, nz_1, nz_2, nz_3, nz_4, nz_5, nz_6, nz_8, nz_10, nz_12, nz_20, nz_30, nz_60, nz_100, mp_B, mp_Z, mp_S, mp_C, mp_K, mp_N, mp_L, mp_R, mp_I, mp_I0, mp_s, mp_s0, u2_ap, sp_isLedge, sp_isLadder, sp_isPerson, sp_isLiving, sp_isLot, sp_isThere, sp_isSpan, ms_K q, ms_B q, r129_0, r129_1, r129_4, r129_44, r129_45, r129_51, r129_52, r129_53, r129_54, r129_57, r129_62, r129_64, r129_67, r129_68, r129_71, r129_76, r129_78, r129_81, r129_82, r129_85, r129_90, r129_92, r129_95, r129_96, r129_97, r129_98, r129_102, r129_103, r129_104, r129_107, r129_108, r129_109, r129_112, r129_113, r129_119, r129_120, r129_121, r129_122, r129_123, r129_124, r129_127, r129_128, r129_6, r129_48, r129_59, r129_73, r129_87, r129_99, r129_116, tk, c1, m, tk2, n0, n1, n2, m3]
theorem mR_all (q : MS h M) (tp : TP F0 c T) : ∀ n, mrI h M F0 c T n
  | 0, g, dp, t, i, b, s, F, l, hg, hi, h8, hs, w0, w1, a, fl, D, hD => absurd rfl fl
  | n + 1, g, dp, t, i, b, s, F, l, hg, hi, h8, hs, w0, w1, a, fl, D, hD => by
    have ih := mR_all q tp n
    match g with
    | 0 =>
      rw [w1 (by decide)]
      exact c123 q tp ih hi h8 hs a fl hD
    | 1 =>
      rw [w1 (by decide)]
      exact c122h q tp ih hi h8 hs a fl hD
    | 2 => exact c122l q tp ih hi h8 hs (w0 rfl).1 (w0 rfl).2 a fl hD
    | 3 =>
      rw [w1 (by decide)]
      exact c121h q tp ih hi h8 hs a fl hD
    | 4 => exact c121l q tp ih hi h8 hs (w0 rfl).1 (w0 rfl).2 a fl hD
    | 5 =>
      rw [w1 (by decide)]
      exact c129 q tp ih hi h8 hs a fl hD
    | 6 =>
      rw [w1 (by decide)]
      exact c128h q tp ih hi h8 hs a fl hD
    | 7 => exact c128l q tp ih hi h8 hs (w0 rfl).1 (w0 rfl).2 a fl hD
    | 8 =>
      rw [w1 (by decide)]
      exact c127h q tp ih hi h8 hs a fl hD
    | 9 => exact c127l q tp ih hi h8 hs (w0 rfl).1 (w0 rfl).2 a fl hD
    | g + 10 => exact absurd hg (by omega)
end MRY
