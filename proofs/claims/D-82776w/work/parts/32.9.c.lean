/-! texts: the model reads a line's body -/
set_option maxRecDepth 100000
section MLI
variable {d : Nat} {h : xm_H} {M : Nat} {F F0 : xp_F} {c : Nat → Int32} {T : Nat}
/-- what reading a line's body comes to -/
def iO (h : xm_H) (M : Nat) (F0 : xp_F) (c : Nat → Int32) (T j : Nat) (k : Int32) (s i : Nat) (F : xp_F) (v : xm_V) (r : (Int32 × Nat) ⊕ (Ln × Nat)) : Prop := match r with
  | .inl x => ∃ G, v = some (.inl (some (.int 0)), xp_m h M G) ∧ PE F0 x.1 x.2 G
  | .inr x => ∃ G F1 s', v = some (.inl (some (.int 1)), xp_m h M G) ∧ PS F1 c T x.2 0 s' G ∧ kp2 s F G ∧ FB G j k x.1 s s' ∧ f6 j F0 F1 ∧ s ≤ s' ∧ i ≤ x.2 ∧ x.2 ≤ T ∧ s' + i ≤ s + x.2
theorem rd_t (q : MS h M) (tp : TP F0 c T) {g : Nat} (hg : g = 3 ∨ g = 8) {i s : Nat} (hi : i ≤ T) (hs : s ≤ i) (a : PS F0 c T i 0 s F) {t : Tm} {l : List (Option Value)} : mO h M F0 c T 0 s s i F (mX h M (d + 105) g F l) (pz c T (8 * T + 8) g 0 t i) ∧ pok (cnd g) T (i + 1) (pz c T (8 * T + 8) g 0 t i) := by
  rcases hg with rfl | rfl
  · exact ⟨mR_all q tp _ 3 0 t i s s F l (by decide) hi (by omega) hs (fun z => nomatch z) (fun _ => rfl) a (pz_fl tp.1 _ 3 0 t i hi (fun z => nomatch z) (by show 8 * (T - i) + 2 + 1 ≤ _; omega)) (d + 105) (by show _ + 6 ≤ _; omega), pz_ok tp.1 _ 3 0 t i hi (fun z => nomatch z)⟩
  · exact ⟨mR_all q tp _ 8 0 t i s s F l (by decide) hi (by omega) hs (fun z => nomatch z) (fun _ => rfl) a (pz_fl tp.1 _ 8 0 t i hi (fun z => nomatch z) (by show 8 * (T - i) + 5 + 1 ≤ _; omega)) (d + 105) (by show _ + 9 ≤ _; omega), pz_ok tp.1 _ 8 0 t i hi (fun z => nomatch z)⟩
theorem u27 {k o : Nat} {G : xp_F} {j : Nat} {v : Int32} (ho : ¬ o = 27) : xm_u2 G o j v 27 k = G 27 k := by rw [u2_ap, if_neg (by omega)]
theorem c120_3 (q : MS h M) (tp : TP F0 c T) {i j s : Nat} (hi : i ≤ T) (hs : s ≤ i) (a : PS F0 c T i 0 s F) (hj : F 0 34 = Int32.ofNat j) (j20 : j < 20) : iO h M F0 c T j 3 s i F (xm_met (d + 106) 120 [.ref M, .int 3] (xp_m h M F)) (pl c T 3 i) := by
  have t600 := tp.1.1
  have ij := in_nat (show j < 20 from j20) (by decide)
  have r := rd_t (d := d) q tp (g := 3) (Or.inl rfl) hi hs a (t := .num 0) (l := [])
  unfold pl
  rw [if_pos rfl]
  obtain ⟨r, ok⟩ := r
  generalize pz c T (8 * T + 8) 3 0 (.num 0) i = r0 at r ok ⊢
  cases r0 with
  | inl x =>
    obtain ⟨G, m, pf⟩ := r
    have m : xm_met (d + 105) 121 [.ref M] (xp_m h M F) = _ := m
    refine ⟨G, ?_, pf.e fq.rf⟩
    unfold xm_met
    simp only [ite_not, ite_self, w8_nil, ok01, ite10, rf_rv, rf_ref, rf_cat, rf_lk2, rf_some, rf_none, w_add, w_cons, cr_int, cr_long, cr_ref, cr_null, is_ref, is_null, l2_int, l2_ref, l2_null, l2_none, ent_nil, ent_int, ent_ref, ent_null, ent_rf, ent_long, ok_0, ok_1, af_ret, af_void, List.tail_cons, List.tail_nil, Nat.reduceAdd, Nat.reduceLeDiff, not_false_eq_true, not_true_eq_false, and_self, and_true, true_and, ne_eq, or_true, true_or, or_false, false_or, eq_self, Nat.reduceEqDiff, ↓reduceIte, false_and, and_false, Nat.le_refl, Nat.zero_le, nz_1, nz_2, nz_3, nz_4, nz_5, nz_6, nz_8, nz_10, nz_12, nz_20, nz_30, nz_60, nz_100, mp_B, mp_Z, mp_S, mp_C, mp_K, mp_N, mp_L, mp_R, mp_I, mp_I0, mp_s, mp_s0, u2_ap, sp_isLedge, sp_isLadder, sp_isPerson, sp_isLiving, sp_isLot, sp_isThere, sp_isSpan, ms_K q, ms_B q, ms_f28 q, ms_f29 q, r120_0, r120_28, r120_29, r120_35, r120_36, r120_37, r120_38, r120_41, r120_42, r120_45, r120_46, r120_49, r120_50, r120_51, r120_54, r120_59, r120_60, r120_61, r120_62, r120_65, r120_66, r120_69, r120_70, r120_71, r120_73, r120_79, r120_80, r120_86, r120_87, r120_90, r120_91, r120_92, r120_93, r120_96, r120_99, r120_102, r120_108, r120_109, r120_110, r120_113, r120_114, r120_115, r120_118, r120_119, r120_122, r120_123, r120_126, r120_129, r120_130, r120_131, r120_132, r120_135, r120_136, r120_138, r120_141, r120_142, r120_143, r120_144, r120_149, r120_151, r120_154, r120_156, r120_159, r120_1, r120_32, r120_56, r120_76, r120_83, r120_105, r120_146, xm_sw, m]
  | inr x =>
    obtain ⟨t1, q1⟩ := x
    obtain ⟨G2, s2, m, a2, k2, sg2, l2, l3⟩ := r
    have m : xm_met (d + 105) 121 [.ref M] (xp_m h M F) = _ := m
    obtain ⟨w1, b1, b2⟩ := ok
    have b1 : i + 1 ≤ q1 := b1
    have b2 : q1 ≤ T := b2
    have l3 : s2 + i ≤ s + q1 := l3
    have j2 : G2 0 34 = Int32.ofNat j := (a2.2.2.2 _ _ (by omega) (by omega)).trans ((a.2.2.2 _ _ (by omega) (by omega)).symm.trans hj)
    have fs : G2 0 35 = Int32.ofNat s2 := a2.2.2.1
    have tk : G2 0 38 = lK c T q1 := a2.1.2.1
    have a3 := a2.set (o := 24) (k := j) (v := Int32.ofNat s2) (by omega)
    have k3 : kp2 s F (xm_u2 G2 24 j (Int32.ofNat s2)) := fun z hz => (u27 (by omega)).trans (k2 z hz)
    have sg3 : sg (cf (xm_u2 G2 24 j (Int32.ofNat s2))) t1 s s2 := sg_kp w1 sg2 (fun z hz => u27 (by omega))
    show iO h M F0 c T j 3 s i F _ (if lK c T q1 = 8 then _ else _)
    by_cases c1 : lK c T q1 = 8
    · rw [if_pos c1]
      rw [c1] at tk
      have l4 := lE_lt tp.1 b2 (by rw [c1]; decide)
      have tp3 := tp.set (o := 24) (k := j) (v := Int32.ofNat s2) (by omega)
      obtain ⟨G4, m4, a4, -, fr4⟩ := a3.next (d := d + 103) q tp3 b2
      have r := rd_t (d := d) q tp3 (g := 8) (Or.inr rfl) l4.2 (by omega) a4 (t := .num 0) (l := [])
      obtain ⟨r, ok⟩ := r
      show iO h M F0 c T j 3 s i F _ (pw (pz c T (8 * T + 8) 8 0 (.num 0) (lE c T q1)) _)
      generalize pz c T (8 * T + 8) 8 0 (.num 0) (lE c T q1) = r0 at r ok ⊢
      cases r0 with
      | inl x =>
        obtain ⟨G, m5, pf⟩ := r
        have m5 : xm_met (d + 105) 127 [.ref M] (xp_m h M G4) = _ := m5
        refine ⟨G, ?_, pf.e (fq.rf.u (by omega))⟩
        unfold xm_met
        simp only [ite_not, ite_self, w8_nil, ok01, ite10, rf_rv, rf_ref, rf_cat, rf_lk2, rf_some, rf_none, w_add, w_cons, cr_int, cr_long, cr_ref, cr_null, is_ref, is_null, l2_int, l2_ref, l2_null, l2_none, ent_nil, ent_int, ent_ref, ent_null, ent_rf, ent_long, ok_0, ok_1, af_ret, af_void, List.tail_cons, List.tail_nil, Nat.reduceAdd, Nat.reduceLeDiff, not_false_eq_true, not_true_eq_false, and_self, and_true, true_and, ne_eq, or_true, true_or, or_false, false_or, eq_self, Nat.reduceEqDiff, ↓reduceIte, false_and, and_false, Nat.le_refl, Nat.zero_le, nz_1, nz_2, nz_3, nz_4, nz_5, nz_6, nz_8, nz_10, nz_12, nz_20, nz_30, nz_60, nz_100, mp_B, mp_Z, mp_S, mp_C, mp_K, mp_N, mp_L, mp_R, mp_I, mp_I0, mp_s, mp_s0, u2_ap, sp_isLedge, sp_isLadder, sp_isPerson, sp_isLiving, sp_isLot, sp_isThere, sp_isSpan, ms_K q, ms_B q, ms_f28 q, ms_f29 q, r120_0, r120_28, r120_29, r120_35, r120_36, r120_37, r120_38, r120_41, r120_42, r120_45, r120_46, r120_49, r120_50, r120_51, r120_54, r120_59, r120_60, r120_61, r120_62, r120_65, r120_66, r120_69, r120_70, r120_71, r120_73, r120_79, r120_80, r120_86, r120_87, r120_90, r120_91, r120_92, r120_93, r120_96, r120_99, r120_102, r120_108, r120_109, r120_110, r120_113, r120_114, r120_115, r120_118, r120_119, r120_122, r120_123, r120_126, r120_129, r120_130, r120_131, r120_132, r120_135, r120_136, r120_138, r120_141, r120_142, r120_143, r120_144, r120_149, r120_151, r120_154, r120_156, r120_159, r120_1, r120_32, r120_56, r120_76, r120_83, r120_105, r120_146, xm_sw, m, j2, fs, tk, ij, m4, m5]
      | inr x =>
        obtain ⟨t2, q2⟩ := x
        obtain ⟨G5, s5, m5, a5, k5, sg5, l5, l6⟩ := r
        have m5 : xm_met (d + 105) 127 [.ref M] (xp_m h M G4) = _ := m5
        obtain ⟨w2, b3, b4⟩ := ok
        have b3 : lE c T q1 + 1 ≤ q2 := b3
        have b4 : q2 ≤ T := b4
        have l6 : s5 + lE c T q1 ≤ s2 + q2 := l6
        have k45 : kp2 s2 (xm_u2 G2 24 j (Int32.ofNat s2)) G5 := (kp2.of fr4).tr k5 (Nat.le_refl _)
        refine ⟨G5, _, s5, ?_, a5, k3.tr k45 l2, ⟨rfl, fun _ => ⟨s2, ?_, by omega, w1, sg_kp w1 sg3 k45, w2, sg5⟩, fun z => absurd z (by decide), fun z => absurd z (by decide), fun z => absurd z (by decide)⟩, f6.u (by omega), by omega, by show i ≤ q2; omega, b4, by show s5 + i ≤ s + q2; omega⟩
        · unfold xm_met
          simp only [ite_not, ite_self, w8_nil, ok01, ite10, rf_rv, rf_ref, rf_cat, rf_lk2, rf_some, rf_none, w_add, w_cons, cr_int, cr_long, cr_ref, cr_null, is_ref, is_null, l2_int, l2_ref, l2_null, l2_none, ent_nil, ent_int, ent_ref, ent_null, ent_rf, ent_long, ok_0, ok_1, af_ret, af_void, List.tail_cons, List.tail_nil, Nat.reduceAdd, Nat.reduceLeDiff, not_false_eq_true, not_true_eq_false, and_self, and_true, true_and, ne_eq, or_true, true_or, or_false, false_or, eq_self, Nat.reduceEqDiff, ↓reduceIte, false_and, and_false, Nat.le_refl, Nat.zero_le, nz_1, nz_2, nz_3, nz_4, nz_5, nz_6, nz_8, nz_10, nz_12, nz_20, nz_30, nz_60, nz_100, mp_B, mp_Z, mp_S, mp_C, mp_K, mp_N, mp_L, mp_R, mp_I, mp_I0, mp_s, mp_s0, u2_ap, sp_isLedge, sp_isLadder, sp_isPerson, sp_isLiving, sp_isLot, sp_isThere, sp_isSpan, ms_K q, ms_B q, ms_f28 q, ms_f29 q, r120_0, r120_28, r120_29, r120_35, r120_36, r120_37, r120_38, r120_41, r120_42, r120_45, r120_46, r120_49, r120_50, r120_51, r120_54, r120_59, r120_60, r120_61, r120_62, r120_65, r120_66, r120_69, r120_70, r120_71, r120_73, r120_79, r120_80, r120_86, r120_87, r120_90, r120_91, r120_92, r120_93, r120_96, r120_99, r120_102, r120_108, r120_109, r120_110, r120_113, r120_114, r120_115, r120_118, r120_119, r120_122, r120_123, r120_126, r120_129, r120_130, r120_131, r120_132, r120_135, r120_136, r120_138, r120_141, r120_142, r120_143, r120_144, r120_149, r120_151, r120_154, r120_156, r120_159, r120_1, r120_32, r120_56, r120_76, r120_83, r120_105, r120_146, xm_sw, m, j2, fs, tk, ij, m4, m5]
        · rw [a5.2.2.2 _ _ (by omega) (by omega), u2_ap, if_pos ⟨rfl, rfl⟩]
    · rw [if_neg c1]
      refine ⟨_, _, s2, ?_, a3, k3, ⟨rfl, fun _ => ⟨s2, ?_, by omega, w1, sg3, rfl⟩, fun z => absurd z (by decide), fun z => absurd z (by decide), fun z => absurd z (by decide)⟩, f6.u (by omega), by omega, by show i ≤ q1; omega, b2, l3⟩
      · unfold xm_met
        simp only [ite_not, ite_self, w8_nil, ok01, ite10, rf_rv, rf_ref, rf_cat, rf_lk2, rf_some, rf_none, w_add, w_cons, cr_int, cr_long, cr_ref, cr_null, is_ref, is_null, l2_int, l2_ref, l2_null, l2_none, ent_nil, ent_int, ent_ref, ent_null, ent_rf, ent_long, ok_0, ok_1, af_ret, af_void, List.tail_cons, List.tail_nil, Nat.reduceAdd, Nat.reduceLeDiff, not_false_eq_true, not_true_eq_false, and_self, and_true, true_and, ne_eq, or_true, true_or, or_false, false_or, eq_self, Nat.reduceEqDiff, ↓reduceIte, false_and, and_false, Nat.le_refl, Nat.zero_le, nz_1, nz_2, nz_3, nz_4, nz_5, nz_6, nz_8, nz_10, nz_12, nz_20, nz_30, nz_60, nz_100, mp_B, mp_Z, mp_S, mp_C, mp_K, mp_N, mp_L, mp_R, mp_I, mp_I0, mp_s, mp_s0, u2_ap, sp_isLedge, sp_isLadder, sp_isPerson, sp_isLiving, sp_isLot, sp_isThere, sp_isSpan, ms_K q, ms_B q, ms_f28 q, ms_f29 q, r120_0, r120_28, r120_29, r120_35, r120_36, r120_37, r120_38, r120_41, r120_42, r120_45, r120_46, r120_49, r120_50, r120_51, r120_54, r120_59, r120_60, r120_61, r120_62, r120_65, r120_66, r120_69, r120_70, r120_71, r120_73, r120_79, r120_80, r120_86, r120_87, r120_90, r120_91, r120_92, r120_93, r120_96, r120_99, r120_102, r120_108, r120_109, r120_110, r120_113, r120_114, r120_115, r120_118, r120_119, r120_122, r120_123, r120_126, r120_129, r120_130, r120_131, r120_132, r120_135, r120_136, r120_138, r120_141, r120_142, r120_143, r120_144, r120_149, r120_151, r120_154, r120_156, r120_159, r120_1, r120_32, r120_56, r120_76, r120_83, r120_105, r120_146, xm_sw, m, j2, fs, tk, c1, ij]
      · rw [u2_ap, if_pos ⟨rfl, rfl⟩]
theorem c120_4 (q : MS h M) (tp : TP F0 c T) {i j s : Nat} (hi : i ≤ T) (hs : s ≤ i) (a : PS F0 c T i 0 s F) : iO h M F0 c T j 4 s i F (xm_met (d + 106) 120 [.ref M, .int 4] (xp_m h M F)) (pl c T 4 i) := by
  have t600 := tp.1.1
  have nd := c125 (d := d + 102) q tp hi a (k := 8)
  unfold pl
  have n43 : ¬ (4 : Int32) = 3 := by decide
  rw [if_neg n43, if_pos rfl]
  by_cases c1 : lK c T i = 8
  · rw [if_pos c1]
    obtain ⟨G1, m1, a1, fr1⟩ := nd.1 c1
    have l1 := lE_lt tp.1 hi (by rw [c1]; decide)
    have r := rd_t (d := d) q tp (g := 8) (Or.inr rfl) l1.2 (by omega) a1 (t := .num 0) (l := [])
    obtain ⟨r, ok⟩ := r
    generalize pz c T (8 * T + 8) 8 0 (.num 0) (lE c T i) = r0 at r ok ⊢
    cases r0 with
    | inl x =>
      obtain ⟨G, m5, pf⟩ := r
      have m5 : xm_met (d + 105) 127 [.ref M] (xp_m h M G1) = _ := m5
      refine ⟨G, ?_, pf.e fq.rf⟩
      unfold xm_met
      simp only [ite_not, ite_self, w8_nil, ok01, ite10, rf_rv, rf_ref, rf_cat, rf_lk2, rf_some, rf_none, w_add, w_cons, cr_int, cr_long, cr_ref, cr_null, is_ref, is_null, l2_int, l2_ref, l2_null, l2_none, ent_nil, ent_int, ent_ref, ent_null, ent_rf, ent_long, ok_0, ok_1, af_ret, af_void, List.tail_cons, List.tail_nil, Nat.reduceAdd, Nat.reduceLeDiff, not_false_eq_true, not_true_eq_false, and_self, and_true, true_and, ne_eq, or_true, true_or, or_false, false_or, eq_self, Nat.reduceEqDiff, ↓reduceIte, false_and, and_false, Nat.le_refl, Nat.zero_le, nz_1, nz_2, nz_3, nz_4, nz_5, nz_6, nz_8, nz_10, nz_12, nz_20, nz_30, nz_60, nz_100, mp_B, mp_Z, mp_S, mp_C, mp_K, mp_N, mp_L, mp_R, mp_I, mp_I0, mp_s, mp_s0, u2_ap, sp_isLedge, sp_isLadder, sp_isPerson, sp_isLiving, sp_isLot, sp_isThere, sp_isSpan, ms_K q, ms_B q, ms_f28 q, ms_f29 q, r120_0, r120_28, r120_29, r120_35, r120_36, r120_37, r120_38, r120_41, r120_42, r120_45, r120_46, r120_49, r120_50, r120_51, r120_54, r120_59, r120_60, r120_61, r120_62, r120_65, r120_66, r120_69, r120_70, r120_71, r120_73, r120_79, r120_80, r120_86, r120_87, r120_90, r120_91, r120_92, r120_93, r120_96, r120_99, r120_102, r120_108, r120_109, r120_110, r120_113, r120_114, r120_115, r120_118, r120_119, r120_122, r120_123, r120_126, r120_129, r120_130, r120_131, r120_132, r120_135, r120_136, r120_138, r120_141, r120_142, r120_143, r120_144, r120_149, r120_151, r120_154, r120_156, r120_159, r120_1, r120_32, r120_56, r120_76, r120_83, r120_105, r120_146, xm_sw, n43, m1, m5]
    | inr x =>
      obtain ⟨t2, q2⟩ := x
      obtain ⟨G5, s5, m5, a5, k5, sg5, l5, l6⟩ := r
      have m5 : xm_met (d + 105) 127 [.ref M] (xp_m h M G1) = _ := m5
      obtain ⟨w2, b3, b4⟩ := ok
      have b3 : lE c T i + 1 ≤ q2 := b3
      have b4 : q2 ≤ T := b4
      have l6 : s5 + lE c T i ≤ s + q2 := l6
      refine ⟨G5, F0, s5, ?_, a5, (kp2.of fr1).tr k5 (Nat.le_refl _), ⟨rfl, fun z => absurd z (by decide), fun _ => ⟨t2, rfl, w2, sg5⟩, fun z => absurd z (by decide), fun z => absurd z (by decide)⟩, fun _ _ _ => rfl, by omega, by show i ≤ q2; omega, b4, by show s5 + i ≤ s + q2; omega⟩
      unfold xm_met
      simp only [ite_not, ite_self, w8_nil, ok01, ite10, rf_rv, rf_ref, rf_cat, rf_lk2, rf_some, rf_none, w_add, w_cons, cr_int, cr_long, cr_ref, cr_null, is_ref, is_null, l2_int, l2_ref, l2_null, l2_none, ent_nil, ent_int, ent_ref, ent_null, ent_rf, ent_long, ok_0, ok_1, af_ret, af_void, List.tail_cons, List.tail_nil, Nat.reduceAdd, Nat.reduceLeDiff, not_false_eq_true, not_true_eq_false, and_self, and_true, true_and, ne_eq, or_true, true_or, or_false, false_or, eq_self, Nat.reduceEqDiff, ↓reduceIte, false_and, and_false, Nat.le_refl, Nat.zero_le, nz_1, nz_2, nz_3, nz_4, nz_5, nz_6, nz_8, nz_10, nz_12, nz_20, nz_30, nz_60, nz_100, mp_B, mp_Z, mp_S, mp_C, mp_K, mp_N, mp_L, mp_R, mp_I, mp_I0, mp_s, mp_s0, u2_ap, sp_isLedge, sp_isLadder, sp_isPerson, sp_isLiving, sp_isLot, sp_isThere, sp_isSpan, ms_K q, ms_B q, ms_f28 q, ms_f29 q, r120_0, r120_28, r120_29, r120_35, r120_36, r120_37, r120_38, r120_41, r120_42, r120_45, r120_46, r120_49, r120_50, r120_51, r120_54, r120_59, r120_60, r120_61, r120_62, r120_65, r120_66, r120_69, r120_70, r120_71, r120_73, r120_79, r120_80, r120_86, r120_87, r120_90, r120_91, r120_92, r120_93, r120_96, r120_99, r120_102, r120_108, r120_109, r120_110, r120_113, r120_114, r120_115, r120_118, r120_119, r120_122, r120_123, r120_126, r120_129, r120_130, r120_131, r120_132, r120_135, r120_136, r120_138, r120_141, r120_142, r120_143, r120_144, r120_149, r120_151, r120_154, r120_156, r120_159, r120_1, r120_32, r120_56, r120_76, r120_83, r120_105, r120_146, xm_sw, n43, m1, m5]
  · rw [if_neg c1]
    obtain ⟨G1, m1, pf⟩ := nd.2 c1
    refine ⟨G1, ?_, pf.e fq.rf⟩
    unfold xm_met
    simp only [ite_not, ite_self, w8_nil, ok01, ite10, rf_rv, rf_ref, rf_cat, rf_lk2, rf_some, rf_none, w_add, w_cons, cr_int, cr_long, cr_ref, cr_null, is_ref, is_null, l2_int, l2_ref, l2_null, l2_none, ent_nil, ent_int, ent_ref, ent_null, ent_rf, ent_long, ok_0, ok_1, af_ret, af_void, List.tail_cons, List.tail_nil, Nat.reduceAdd, Nat.reduceLeDiff, not_false_eq_true, not_true_eq_false, and_self, and_true, true_and, ne_eq, or_true, true_or, or_false, false_or, eq_self, Nat.reduceEqDiff, ↓reduceIte, false_and, and_false, Nat.le_refl, Nat.zero_le, nz_1, nz_2, nz_3, nz_4, nz_5, nz_6, nz_8, nz_10, nz_12, nz_20, nz_30, nz_60, nz_100, mp_B, mp_Z, mp_S, mp_C, mp_K, mp_N, mp_L, mp_R, mp_I, mp_I0, mp_s, mp_s0, u2_ap, sp_isLedge, sp_isLadder, sp_isPerson, sp_isLiving, sp_isLot, sp_isThere, sp_isSpan, ms_K q, ms_B q, ms_f28 q, ms_f29 q, r120_0, r120_28, r120_29, r120_35, r120_36, r120_37, r120_38, r120_41, r120_42, r120_45, r120_46, r120_49, r120_50, r120_51, r120_54, r120_59, r120_60, r120_61, r120_62, r120_65, r120_66, r120_69, r120_70, r120_71, r120_73, r120_79, r120_80, r120_86, r120_87, r120_90, r120_91, r120_92, r120_93, r120_96, r120_99, r120_102, r120_108, r120_109, r120_110, r120_113, r120_114, r120_115, r120_118, r120_119, r120_122, r120_123, r120_126, r120_129, r120_130, r120_131, r120_132, r120_135, r120_136, r120_138, r120_141, r120_142, r120_143, r120_144, r120_149, r120_151, r120_154, r120_156, r120_159, r120_1, r120_32, r120_56, r120_76, r120_83, r120_105, r120_146, xm_sw, n43, m1]
theorem rn_all {P : Int32 → Prop} [DecidablePred P] : ∀ n p j, p ≤ j → j < rn P c n p → P (c j)
  | 0, p, j, h1, h2 => absurd h2 (by show ¬ j < p; omega)
  | n + 1, p, j, h1, h2 => by
    unfold rn at h2
    by_cases h3 : P (c p)
    · rw [if_pos h3] at h2
      by_cases h4 : j = p
      · rw [h4]
        exact h3
      · exact rn_all n (p + 1) j (by omega) h2
    · rw [if_neg h3] at h2
      omega
theorem dgv_rg {s : Nat} : ∀ m, m ≤ 4 → (∀ j, j < m → tD (c (s + j))) → rg (dgv c s m) (10 ^ m - 1)
  | 0, _, _ => ⟨by show (0 : Int) ≤ (0 : Int32).toInt; decide, by show (0 : Int32).toInt ≤ (0 : Int); decide⟩
  | m + 1, h4, hd => by
    obtain ⟨a1, a2⟩ := dgv_rg m (by omega) (fun j hj => hd j (by omega))
    obtain ⟨b1, b2⟩ := hd m (by omega)
    have b1 := Int32.le_iff_toInt_le.mp b1
    have b2 := Int32.le_iff_toInt_le.mp b2
    rw [show (48 : Int32).toInt = 48 from rfl] at b1
    rw [show (57 : Int32).toInt = 57 from rfl] at b2
    have p : 1 ≤ 10 ^ m ∧ 10 ^ m ≤ 1000 := ⟨Nat.pos_of_ne_zero (by simp), Nat.pow_le_pow_right (by omega) (show m ≤ 3 by omega)⟩
    have e1 : (10 * dgv c s m).toInt = 10 * (dgv c s m).toInt := by rw [ti_mul (by rw [show (10 : Int32).toInt = 10 from rfl]; omega)]; rfl
    have e2 : (10 * dgv c s m + c (s + m)).toInt = 10 * (dgv c s m).toInt + (c (s + m)).toInt := by rw [ti_add (by rw [e1]; omega), e1]
    have e3 : (10 * dgv c s m + c (s + m) - 48).toInt = 10 * (dgv c s m).toInt + (c (s + m)).toInt - 48 := by rw [ti_sub (by rw [e2, show (48 : Int32).toInt = 48 from rfl]; omega), e2]; rfl
    have e4 : dgv c s (m + 1) = 10 * dgv c s m + c (s + m) - 48 := rfl
    unfold rg
    rw [e4, e3, Nat.pow_succ]
    omega
theorem lK_2 {q : Nat} (h : lK c T q = 2) : ¬ c (lS c T q) = -1 ∧ ¬ tL (c (lS c T q)) ∧ tD (c (lS c T q)) ∧ lE c T q - lS c T q < 5 := by
  unfold lK at h
  by_cases c1 : c (lS c T q) = -1
  · rw [if_pos c1] at h
    exact absurd h (by decide)
  rw [if_neg c1] at h
  by_cases c22 : tL (c (lS c T q))
  · rw [if_pos c22] at h
    by_cases c3 : lE c T q - lS c T q < 9
    · rw [if_pos c3] at h
      exact absurd h word_2
    · rw [if_neg c3] at h
      exact absurd h (by decide)
  rw [if_neg c22] at h
  by_cases c3 : tD (c (lS c T q))
  · rw [if_pos c3] at h
    by_cases c4 : lE c T q - lS c T q < 5
    · exact ⟨c1, c22, c3, c4⟩
    · rw [if_neg c4] at h
      exact absurd h (by decide)
  rw [if_neg c3] at h
  by_cases c4 : tG (c (lS c T q))
  · rw [if_pos c4] at h
    rw [h] at c4
    exact absurd c4 (by decide)
  · rw [if_neg c4] at h
    exact absurd h (by decide)
/-- a number's value -/
theorem lV_rg {q : Nat} (h : lK c T q = 2) : rg (lV c T q) 9999 := by
  obtain ⟨c1, c22, c3, c4⟩ := lK_2 h
  have eE : lE c T q = rn tD c (T - lS c T q) (lS c T q) := by unfold lE; rw [if_neg c1, if_neg c22, if_pos c3]
  have r := dgv_rg (c := c) (s := lS c T q) (min (lE c T q - lS c T q) 4) (by omega) (fun j hj => rn_all (T - lS c T q) (lS c T q) _ (by omega) (by rw [← eE]; omega))
  have p : 10 ^ (min (lE c T q - lS c T q) 4) ≤ 10000 := Nat.pow_le_pow_right (by omega) (show min (lE c T q - lS c T q) 4 ≤ 4 by omega)
  have p2 : 1 ≤ 10 ^ (min (lE c T q - lS c T q) 4) := Nat.pos_of_ne_zero (by simp)
  unfold lV
  unfold rg at r ⊢
  omega
theorem nbr_rg {q : Nat} {m : Int32} {x : Int32 × Nat} (h : nbr c T m q = .inr x) : 0 ≤ x.1.toInt ∧ x.1.toInt ≤ m.toInt := by
  unfold nbr at h
  by_cases c1 : lK c T q = 2
  · rw [if_pos c1] at h
    by_cases c22 : m < lV c T q
    · rw [if_pos c22] at h
      exact nomatch h
    · rw [if_neg c22] at h
      have e := (Sum.inr.inj h).symm
      rw [e]
      exact ⟨(lV_rg c1).1, Int32.le_iff_toInt_le.mp (Int32.not_lt.mp c22)⟩
  · rw [if_neg c1] at h
    exact nomatch h
theorem c120_5 (q : MS h M) (tp : TP F0 c T) {i j s : Nat} (hi : i ≤ T) (hs : s ≤ i) (a : PS F0 c T i 0 s F) (hj : F 0 34 = Int32.ofNat j) (j20 : j < 20) : iO h M F0 c T j 5 s i F (xm_met (d + 106) 120 [.ref M, .int 5] (xp_m h M F)) (pl c T 5 i) := by
  have t600 := tp.1.1
  have ij := in_nat (show j < 20 from j20) (by decide)
  have n53 : ¬ (5 : Int32) = 3 := by decide
  have n54 : ¬ (5 : Int32) = 4 := by decide
  have tk : F 0 38 = lK c T i := a.1.2.1
  unfold pl
  rw [if_neg n53, if_neg n54, if_pos rfl]
  by_cases c1 : 150 ≤ lK c T i ∧ lK c T i ≤ 153
  · rw [if_pos c1]
    have c1a := Int32.le_iff_toInt_le.mp c1.1
    have c1b := Int32.le_iff_toInt_le.mp c1.2
    have t150 : (150 : Int32).toInt = 150 := rfl
    rw [t150] at c1a
    rw [show (153 : Int32).toInt = 153 from rfl] at c1b
    have l1 := lE_lt tp.1 hi (fun z => by rw [z] at c1; exact absurd c1 (by decide))
    have ew : (lK c T i - 150).toInt = (lK c T i).toInt - 150 := by rw [ti_sub (by rw [t150]; omega), t150]
    have a1 := a.set (o := 25) (k := j) (v := lK c T i - 150) (by omega)
    have tp1 := tp.set (o := 25) (k := j) (v := lK c T i - 150) (by omega)
    obtain ⟨G1, m1, a2, -, fr1⟩ := a1.next (d := d + 103) q tp1 hi
    have j1 : G1 0 34 = Int32.ofNat j := (a2.2.2.2 _ _ (by omega) (by omega)).trans (by rw [u2_ap, if_neg (by omega)]; exact ((a.2.2.2 _ _ (by omega) (by omega)).symm.trans hj))
    have n := c130 (d := d + 102) q tp1 l1.2 a2 j1 j20 (m := 99)
    have rgv := fun {x : Int32 × Nat} => nbr_rg (c := c) (T := T) (q := lE c T i) (m := 99) (x := x)
    generalize nbr c T 99 (lE c T i) = r0 at n rgv ⊢
    cases r0 with
    | inl x =>
      obtain ⟨G, m2, pf⟩ := n
      refine ⟨G, ?_, pf.e (fq.rf.u (by omega))⟩
      unfold xm_met
      simp only [ite_not, ite_self, w8_nil, ok01, ite10, rf_rv, rf_ref, rf_cat, rf_lk2, rf_some, rf_none, w_add, w_cons, cr_int, cr_long, cr_ref, cr_null, is_ref, is_null, l2_int, l2_ref, l2_null, l2_none, ent_nil, ent_int, ent_ref, ent_null, ent_rf, ent_long, ok_0, ok_1, af_ret, af_void, List.tail_cons, List.tail_nil, Nat.reduceAdd, Nat.reduceLeDiff, not_false_eq_true, not_true_eq_false, and_self, and_true, true_and, ne_eq, or_true, true_or, or_false, false_or, eq_self, Nat.reduceEqDiff, ↓reduceIte, false_and, and_false, Nat.le_refl, Nat.zero_le, nz_1, nz_2, nz_3, nz_4, nz_5, nz_6, nz_8, nz_10, nz_12, nz_20, nz_30, nz_60, nz_100, mp_B, mp_Z, mp_S, mp_C, mp_K, mp_N, mp_L, mp_R, mp_I, mp_I0, mp_s, mp_s0, u2_ap, sp_isLedge, sp_isLadder, sp_isPerson, sp_isLiving, sp_isLot, sp_isThere, sp_isSpan, ms_K q, ms_B q, ms_f28 q, ms_f29 q, r120_0, r120_28, r120_29, r120_35, r120_36, r120_37, r120_38, r120_41, r120_42, r120_45, r120_46, r120_49, r120_50, r120_51, r120_54, r120_59, r120_60, r120_61, r120_62, r120_65, r120_66, r120_69, r120_70, r120_71, r120_73, r120_79, r120_80, r120_86, r120_87, r120_90, r120_91, r120_92, r120_93, r120_96, r120_99, r120_102, r120_108, r120_109, r120_110, r120_113, r120_114, r120_115, r120_118, r120_119, r120_122, r120_123, r120_126, r120_129, r120_130, r120_131, r120_132, r120_135, r120_136, r120_138, r120_141, r120_142, r120_143, r120_144, r120_149, r120_151, r120_154, r120_156, r120_159, r120_1, r120_32, r120_56, r120_76, r120_83, r120_105, r120_146, xm_sw, n53, n54, c91, tk, c1.1, c1.2, hj, ij, m1, m2]
    | inr x =>
      obtain ⟨v, q2⟩ := x
      obtain ⟨G, m2, a3, fr2, l2, l3⟩ := n
      have l2 : lE c T i < q2 := l2
      have rv : rg v 99 := rgv rfl
      have g25 : G 25 j = lK c T i - 150 := by rw [a3.2.2.2 _ _ (by omega) (by omega), u2_ap, if_neg (by omega), u2_ap, if_pos ⟨rfl, rfl⟩]
      have g26 : G 26 j = v := by rw [a3.2.2.2 _ _ (by omega) (by omega), u2_ap, if_pos ⟨rfl, rfl⟩]
      refine ⟨G, _, s, ?_, a3, fun z _ => (fr2 z).trans ((fr1 z).trans (by rw [u2_ap, if_neg (by omega)])), ⟨rfl, fun z => absurd z n53, fun z => absurd z n54, fun _ => ⟨(lK c T i - 150).toInt.toNat, v, by omega, rv, ?_, ?_, g26⟩, fun z => absurd z (by decide)⟩, (f6.u (by omega)).tr (f6.u (by omega)), by omega, by show i ≤ q2; omega, l3, by show s + i ≤ s + q2; omega⟩
      · unfold xm_met
        simp only [ite_not, ite_self, w8_nil, ok01, ite10, rf_rv, rf_ref, rf_cat, rf_lk2, rf_some, rf_none, w_add, w_cons, cr_int, cr_long, cr_ref, cr_null, is_ref, is_null, l2_int, l2_ref, l2_null, l2_none, ent_nil, ent_int, ent_ref, ent_null, ent_rf, ent_long, ok_0, ok_1, af_ret, af_void, List.tail_cons, List.tail_nil, Nat.reduceAdd, Nat.reduceLeDiff, not_false_eq_true, not_true_eq_false, and_self, and_true, true_and, ne_eq, or_true, true_or, or_false, false_or, eq_self, Nat.reduceEqDiff, ↓reduceIte, false_and, and_false, Nat.le_refl, Nat.zero_le, nz_1, nz_2, nz_3, nz_4, nz_5, nz_6, nz_8, nz_10, nz_12, nz_20, nz_30, nz_60, nz_100, mp_B, mp_Z, mp_S, mp_C, mp_K, mp_N, mp_L, mp_R, mp_I, mp_I0, mp_s, mp_s0, u2_ap, sp_isLedge, sp_isLadder, sp_isPerson, sp_isLiving, sp_isLot, sp_isThere, sp_isSpan, ms_K q, ms_B q, ms_f28 q, ms_f29 q, r120_0, r120_28, r120_29, r120_35, r120_36, r120_37, r120_38, r120_41, r120_42, r120_45, r120_46, r120_49, r120_50, r120_51, r120_54, r120_59, r120_60, r120_61, r120_62, r120_65, r120_66, r120_69, r120_70, r120_71, r120_73, r120_79, r120_80, r120_86, r120_87, r120_90, r120_91, r120_92, r120_93, r120_96, r120_99, r120_102, r120_108, r120_109, r120_110, r120_113, r120_114, r120_115, r120_118, r120_119, r120_122, r120_123, r120_126, r120_129, r120_130, r120_131, r120_132, r120_135, r120_136, r120_138, r120_141, r120_142, r120_143, r120_144, r120_149, r120_151, r120_154, r120_156, r120_159, r120_1, r120_32, r120_56, r120_76, r120_83, r120_105, r120_146, xm_sw, n53, n54, c91, tk, c1.1, c1.2, hj, ij, m1, m2]
      · show Int.Internal.Linear.Expr.add (.num (lK c T i - 150).toInt) (.num v.toInt) = _
        rw [show (((lK c T i - 150).toInt.toNat : Nat) : Int) = (lK c T i - 150).toInt by omega]
      · rw [g25]
        apply i_eq
        rw [ti_nat (by omega)]
        omega
  · rw [if_neg c1]
    obtain ⟨G, m1, pf⟩ := a.bad (d := d + 105) q (k := 1)
    refine ⟨G, ?_, pf.e fq.rf⟩
    unfold xm_met
    simp only [ite_not, ite_self, w8_nil, ok01, ite10, rf_rv, rf_ref, rf_cat, rf_lk2, rf_some, rf_none, w_add, w_cons, cr_int, cr_long, cr_ref, cr_null, is_ref, is_null, l2_int, l2_ref, l2_null, l2_none, ent_nil, ent_int, ent_ref, ent_null, ent_rf, ent_long, ok_0, ok_1, af_ret, af_void, List.tail_cons, List.tail_nil, Nat.reduceAdd, Nat.reduceLeDiff, not_false_eq_true, not_true_eq_false, and_self, and_true, true_and, ne_eq, or_true, true_or, or_false, false_or, eq_self, Nat.reduceEqDiff, ↓reduceIte, false_and, and_false, Nat.le_refl, Nat.zero_le, nz_1, nz_2, nz_3, nz_4, nz_5, nz_6, nz_8, nz_10, nz_12, nz_20, nz_30, nz_60, nz_100, mp_B, mp_Z, mp_S, mp_C, mp_K, mp_N, mp_L, mp_R, mp_I, mp_I0, mp_s, mp_s0, u2_ap, sp_isLedge, sp_isLadder, sp_isPerson, sp_isLiving, sp_isLot, sp_isThere, sp_isSpan, ms_K q, ms_B q, ms_f28 q, ms_f29 q, r120_0, r120_28, r120_29, r120_35, r120_36, r120_37, r120_38, r120_41, r120_42, r120_45, r120_46, r120_49, r120_50, r120_51, r120_54, r120_59, r120_60, r120_61, r120_62, r120_65, r120_66, r120_69, r120_70, r120_71, r120_73, r120_79, r120_80, r120_86, r120_87, r120_90, r120_91, r120_92, r120_93, r120_96, r120_99, r120_102, r120_108, r120_109, r120_110, r120_113, r120_114, r120_115, r120_118, r120_119, r120_122, r120_123, r120_126, r120_129, r120_130, r120_131, r120_132, r120_135, r120_136, r120_138, r120_141, r120_142, r120_143, r120_144, r120_149, r120_151, r120_154, r120_156, r120_159, r120_1, r120_32, r120_56, r120_76, r120_83, r120_105, r120_146, xm_sw, n53, n54, c91, tk, c1, m1]
theorem c120_6 (q : MS h M) (tp : TP F0 c T) {i j s : Nat} {k : Int32} (hk : k = 6 ∨ k = 7) (hi : i ≤ T) (hs : s ≤ i) (a : PS F0 c T i 0 s F) (hj : F 0 34 = Int32.ofNat j) (j20 : j < 20) : iO h M F0 c T j k s i F (xm_met (d + 106) 120 [.ref M, .int k] (xp_m h M F)) (pl c T k i) := by
  have n63 : ¬ k = 3 := by rcases hk with rfl | rfl <;> decide
  have n64 : ¬ k = 4 := by rcases hk with rfl | rfl <;> decide
  have n65 : ¬ k = 5 := by rcases hk with rfl | rfl <;> decide
  have m20 : (if k = 6 then (9 : Int32) else 20).toInt ≤ 20 := by split <;> decide
  unfold pl
  rw [if_neg n63, if_neg n64, if_neg n65]
  have n := c130 (d := d + 102) q tp hi a hj j20 (m := if k = 6 then 9 else 20)
  have rgv := fun {x : Int32 × Nat} => nbr_rg (c := c) (T := T) (q := i) (m := if k = 6 then 9 else 20) (x := x)
  have st : ∀ (r : Int32) (G : xp_F), (r = 0 ∨ r = 1) → xm_met (d + 105) 130 [.ref M, .int (if k = 6 then 9 else 20)] (xp_m h M F) = some (.inl (some (.int r)), xp_m h M G) → xm_met (d + 106) 120 [.ref M, .int k] (xp_m h M F) = some (.inl (some (.int r)), xp_m h M G) := by
    intro r G hr m
    have ok : xm_ok .boolean r = true := by rcases hr with rfl | rfl <;> decide
    unfold xm_met
    by_cases c1 : k = 6
    · subst c1
      rw [if_pos rfl] at m
      simp only [ite_not, ite_self, w8_nil, ok01, ite10, rf_rv, rf_ref, rf_cat, rf_lk2, rf_some, rf_none, w_add, w_cons, cr_int, cr_long, cr_ref, cr_null, is_ref, is_null, l2_int, l2_ref, l2_null, l2_none, ent_nil, ent_int, ent_ref, ent_null, ent_rf, ent_long, ok_0, ok_1, af_ret, af_void, List.tail_cons, List.tail_nil, Nat.reduceAdd, Nat.reduceLeDiff, not_false_eq_true, not_true_eq_false, and_self, and_true, true_and, ne_eq, or_true, true_or, or_false, false_or, eq_self, Nat.reduceEqDiff, ↓reduceIte, false_and, and_false, Nat.le_refl, Nat.zero_le, nz_1, nz_2, nz_3, nz_4, nz_5, nz_6, nz_8, nz_10, nz_12, nz_20, nz_30, nz_60, nz_100, mp_B, mp_Z, mp_S, mp_C, mp_K, mp_N, mp_L, mp_R, mp_I, mp_I0, mp_s, mp_s0, u2_ap, sp_isLedge, sp_isLadder, sp_isPerson, sp_isLiving, sp_isLot, sp_isThere, sp_isSpan, ms_K q, ms_B q, ms_f28 q, ms_f29 q, r120_0, r120_28, r120_29, r120_35, r120_36, r120_37, r120_38, r120_41, r120_42, r120_45, r120_46, r120_49, r120_50, r120_51, r120_54, r120_59, r120_60, r120_61, r120_62, r120_65, r120_66, r120_69, r120_70, r120_71, r120_73, r120_79, r120_80, r120_86, r120_87, r120_90, r120_91, r120_92, r120_93, r120_96, r120_99, r120_102, r120_108, r120_109, r120_110, r120_113, r120_114, r120_115, r120_118, r120_119, r120_122, r120_123, r120_126, r120_129, r120_130, r120_131, r120_132, r120_135, r120_136, r120_138, r120_141, r120_142, r120_143, r120_144, r120_149, r120_151, r120_154, r120_156, r120_159, r120_1, r120_32, r120_56, r120_76, r120_83, r120_105, r120_146, xm_sw, n63, n64, n65, m, ok]
    · rw [if_neg c1] at m
      simp only [ite_not, ite_self, w8_nil, ok01, ite10, rf_rv, rf_ref, rf_cat, rf_lk2, rf_some, rf_none, w_add, w_cons, cr_int, cr_long, cr_ref, cr_null, is_ref, is_null, l2_int, l2_ref, l2_null, l2_none, ent_nil, ent_int, ent_ref, ent_null, ent_rf, ent_long, ok_0, ok_1, af_ret, af_void, List.tail_cons, List.tail_nil, Nat.reduceAdd, Nat.reduceLeDiff, not_false_eq_true, not_true_eq_false, and_self, and_true, true_and, ne_eq, or_true, true_or, or_false, false_or, eq_self, Nat.reduceEqDiff, ↓reduceIte, false_and, and_false, Nat.le_refl, Nat.zero_le, nz_1, nz_2, nz_3, nz_4, nz_5, nz_6, nz_8, nz_10, nz_12, nz_20, nz_30, nz_60, nz_100, mp_B, mp_Z, mp_S, mp_C, mp_K, mp_N, mp_L, mp_R, mp_I, mp_I0, mp_s, mp_s0, u2_ap, sp_isLedge, sp_isLadder, sp_isPerson, sp_isLiving, sp_isLot, sp_isThere, sp_isSpan, ms_K q, ms_B q, ms_f28 q, ms_f29 q, r120_0, r120_28, r120_29, r120_35, r120_36, r120_37, r120_38, r120_41, r120_42, r120_45, r120_46, r120_49, r120_50, r120_51, r120_54, r120_59, r120_60, r120_61, r120_62, r120_65, r120_66, r120_69, r120_70, r120_71, r120_73, r120_79, r120_80, r120_86, r120_87, r120_90, r120_91, r120_92, r120_93, r120_96, r120_99, r120_102, r120_108, r120_109, r120_110, r120_113, r120_114, r120_115, r120_118, r120_119, r120_122, r120_123, r120_126, r120_129, r120_130, r120_131, r120_132, r120_135, r120_136, r120_138, r120_141, r120_142, r120_143, r120_144, r120_149, r120_151, r120_154, r120_156, r120_159, r120_1, r120_32, r120_56, r120_76, r120_83, r120_105, r120_146, xm_sw, n63, n64, n65, c1, m, ok]
  generalize nbr c T (if k = 6 then 9 else 20) i = r0 at n rgv ⊢
  cases r0 with
  | inl x =>
    obtain ⟨G, m2, pf⟩ := n
    exact ⟨G, st _ _ (Or.inl rfl) m2, pf.e fq.rf⟩
  | inr x =>
    obtain ⟨v, q2⟩ := x
    obtain ⟨G, m2, a3, fr2, l2, l3⟩ := n
    have l2 : i < q2 := l2
    have rv := rgv rfl
    refine ⟨G, _, s, st _ _ (Or.inr rfl) m2, a3, fun z _ => fr2 z, ⟨rfl, fun z => absurd z n63, fun z => absurd z n64, fun z => absurd z n65, fun _ => ⟨v, ⟨rv.1, Int.le_trans rv.2 m20⟩, rfl, ?_⟩⟩, f6.u (by omega), by omega, by show i ≤ q2; omega, l3, by show s + i ≤ s + q2; omega⟩
    rw [a3.2.2.2 _ _ (by omega) (by omega), u2_ap, if_pos ⟨rfl, rfl⟩]
end MLI
