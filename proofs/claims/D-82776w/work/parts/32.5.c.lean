/-! texts: the model reads terms, the walk -/
set_option maxRecDepth 100000
theorem sg_ag {c1 c2 : Nat → Int32 × Int32} {k : Bool} {t : Tm} (hw : wf k t) : ∀ {b e : Nat}, sg c1 t b e → (∀ j, b ≤ j → j < e → c2 j = c1 j) → sg c2 t b e := by
  refine wf_ind (P := fun k t => ∀ {b e : Nat}, sg c1 t b e → (∀ j, b ≤ j → j < e → c2 j = c1 j) → sg c2 t b e) ?_ ?_ ?_ ?_ ?_ ?_ ?_ t k hw
  · intro v b e h a
    obtain ⟨h1, h2, h3⟩ := h
    rw [← a b (Nat.le_refl _) (by omega)] at h2 h3
    exact ⟨h1, h2, h3⟩
  · intro v hv b e h a
    obtain ⟨h1, h2⟩ := h
    rw [← a b (Nat.le_refl _) (by omega)] at h2
    exact ⟨h1, h2⟩
  · intro t v hv w ih b e h a
    obtain ⟨m, h1, h2, h3, h4⟩ := h
    have l := sg_lt w h1
    rw [← a m (by omega) (by omega)] at h3 h4
    exact ⟨m, ih h1 (fun j j1 j2 => a j j1 (by omega)), h2, h3, h4⟩
  · intro o t u ho w1 w2 ih1 ih2 b e h a
    obtain ⟨m, n, h1, h2, h3, h4⟩ := h
    have l1 := sg_lt w1 h1
    have l2 := sg_lt w2 h2
    rw [← a n (by omega) (by omega)] at h4
    exact ⟨m, n, ih1 h1 (fun j j1 j2 => a j j1 (by omega)), ih2 h2 (fun j j1 j2 => a j (by omega) (by omega)), h3, h4⟩
  · intro t w ih b e h a
    obtain ⟨m, h1, h2, h3⟩ := h
    have l := sg_lt w h1
    rw [← a m (by omega) (by omega)] at h3
    exact ⟨m, ih h1 (fun j j1 j2 => a j j1 (by omega)), h2, h3⟩
  · intro o t u ho w1 w2 ih1 ih2 b e h a
    obtain ⟨m, n, h1, h2, h3, h4⟩ := h
    have l1 := sg_lt w1 h1
    have l2 := sg_lt w2 h2
    rw [← a n (by omega) (by omega)] at h4
    exact ⟨m, n, ih1 h1 (fun j j1 j2 => a j j1 (by omega)), ih2 h2 (fun j j1 j2 => a j (by omega) (by omega)), h3, h4⟩
  · intro o t u ho w1 w2 ih1 ih2 b e h a
    obtain ⟨m, n, h1, h2, h3, h4⟩ := h
    have l1 := sg_lt w1 h1
    have l2 := sg_lt w2 h2
    rw [← a n (by omega) (by omega)] at h4
    exact ⟨m, n, ih1 h1 (fun j j1 j2 => a j j1 (by omega)), ih2 h2 (fun j j1 j2 => a j (by omega) (by omega)), h3, h4⟩
theorem sg_kp {F G : xp_F} {k : Bool} {t : Tm} {b s : Nat} (hw : wf k t) (h : sg (cf F) t b s) (a : kp2 s F G) : sg (cf G) t b s := sg_ag hw h (fun j _ h2 => by
  unfold cf
  rw [a _ (by omega), a _ (by omega)])
section MRW
variable {d : Nat} {h : xm_H} {M : Nat} {F F0 : xp_F} {c : Nat → Int32} {T : Nat}
/-- what is read comes to what is told of n steps -/
def mrI (h : xm_H) (M : Nat) (F0 : xp_F) (c : Nat → Int32) (T n : Nat) : Prop := ∀ g dp t i b s F l, g < 10 → i ≤ T → dp ≤ 8 → s ≤ i → (lo g 0 = 0 → wf (cnd g) t ∧ sg (cf F) t b s) → (¬ lo g 0 = 0 → b = s) → PS F0 c T i dp s F → flt (pz c T n g dp t i) → ∀ D, 12 * (8 - dp) + rkd g ≤ D → mO h M F0 c T dp b s i F (mX h M D g F l) (pz c T n g dp t i)
theorem c123 (q : MS h M) (tp : TP F0 c T) {n : Nat} (ih : mrI h M F0 c T n) {dp : Nat} {t : Tm} {i s : Nat} {F : xp_F} {l : List (Option Value)} (hi : i ≤ T) (h8 : dp ≤ 8) (hs : s ≤ i) (a : PS F0 c T i dp s F) (fl : flt (pz c T (n + 1) 0 dp t i)) {D : Nat} (hD : 12 * (8 - dp) + 4 ≤ D) : mO h M F0 c T dp s s i F (mX h M D 0 F l) (pz c T (n + 1) 0 dp t i) := by
  obtain ⟨X, eX⟩ : ∃ X, D = X + 4 := ⟨D - 4, by omega⟩
  subst eX
  have t600 := tp.1.1
  have tk : F 0 38 = lK c T i := a.1.2.1
  show mO h M F0 c T dp s s i F (xm_met (X + 4) 123 [.ref M] (xp_m h M F)) _
  rw [pz_e0] at fl ⊢
  by_cases c1 : lK c T i = 40
  · rw [c1] at tk
    rw [if_pos c1] at fl ⊢
    have o := c124 (d := X) q tp hi h8 a
    by_cases c3 : dp = 8
    · rw [if_pos c3]
      obtain ⟨G, m, pf⟩ := o.1 c3
      refine ⟨G, ?_, pf⟩
      unfold xm_met
      simp only [ite_not, ite_self, w8_nil, ok01, ite10, rf_rv, rf_ref, rf_cat, rf_lk2, rf_some, rf_none, w_add, w_cons, cr_int, cr_long, cr_ref, cr_null, is_ref, is_null, l2_int, l2_ref, l2_null, l2_none, ent_nil, ent_int, ent_ref, ent_null, ent_rf, ent_long, ok_0, ok_1, af_ret, af_void, List.tail_cons, List.tail_nil, Nat.reduceAdd, Nat.reduceLeDiff, not_false_eq_true, not_true_eq_false, and_self, and_true, true_and, ne_eq, or_true, true_or, or_false, false_or, eq_self, Nat.reduceEqDiff, ↓reduceIte, false_and, and_false, Nat.le_refl, Nat.zero_le, nz_1, nz_2, nz_3, nz_4, nz_5, nz_6, nz_8, nz_10, nz_12, nz_20, nz_30, nz_60, nz_100, mp_B, mp_Z, mp_S, mp_C, mp_K, mp_N, mp_L, mp_R, mp_I, mp_I0, mp_s, mp_s0, u2_ap, sp_isLedge, sp_isLadder, sp_isPerson, sp_isLiving, sp_isLot, sp_isThere, sp_isSpan, ms_K q, ms_B q, r123_0, r123_1, r123_4, r123_9, r123_10, r123_16, r123_17, r123_23, r123_24, r123_26, r123_32, r123_33, r123_34, r123_35, r123_36, r123_39, r123_40, r123_41, r123_44, r123_45, r123_46, r123_47, r123_50, r123_54, r123_55, r123_58, r123_64, r123_65, r123_66, r123_69, r123_70, r123_71, r123_72, r123_75, r123_79, r123_80, r123_83, r123_84, r123_85, r123_88, r123_89, r123_92, r123_93, r123_94, r123_97, r123_100, r123_101, r123_104, r123_105, r123_6, r123_13, r123_20, r123_29, r123_51, r123_61, r123_76, tk, m]
    · rw [if_neg c3] at fl ⊢
      obtain ⟨G1, m1, a1, fr1⟩ := o.2 c3
      have l1 := lE_lt tp.1 hi (by rw [c1]; decide)
      have r := ih 3 (dp + 1) t (lE c T i) s s G1 [] (by decide) l1.2 (by omega) (by omega) (fun z => nomatch z) (fun _ => rfl) a1 (by
        generalize pz c T n 3 (dp + 1) t (lE c T i) = r at fl ⊢
        cases r with
        | inl x => exact fl
        | inr x => trivial) (X + 3) (by show _ + 6 ≤ _; omega)
      have ok := pz_ok tp.1 n 3 (dp + 1) t (lE c T i) l1.2 (fun z => nomatch z)
      generalize pz c T n 3 (dp + 1) t (lE c T i) = r0 at r ok fl ⊢
      cases r0 with
      | inl x =>
        obtain ⟨G, m, pf⟩ := r
        have m : xm_met (X + 3) 121 [.ref M] (xp_m h M G1) = _ := m
        refine ⟨G, ?_, pf⟩
        unfold xm_met
        simp only [ite_not, ite_self, w8_nil, ok01, ite10, rf_rv, rf_ref, rf_cat, rf_lk2, rf_some, rf_none, w_add, w_cons, cr_int, cr_long, cr_ref, cr_null, is_ref, is_null, l2_int, l2_ref, l2_null, l2_none, ent_nil, ent_int, ent_ref, ent_null, ent_rf, ent_long, ok_0, ok_1, af_ret, af_void, List.tail_cons, List.tail_nil, Nat.reduceAdd, Nat.reduceLeDiff, not_false_eq_true, not_true_eq_false, and_self, and_true, true_and, ne_eq, or_true, true_or, or_false, false_or, eq_self, Nat.reduceEqDiff, ↓reduceIte, false_and, and_false, Nat.le_refl, Nat.zero_le, nz_1, nz_2, nz_3, nz_4, nz_5, nz_6, nz_8, nz_10, nz_12, nz_20, nz_30, nz_60, nz_100, mp_B, mp_Z, mp_S, mp_C, mp_K, mp_N, mp_L, mp_R, mp_I, mp_I0, mp_s, mp_s0, u2_ap, sp_isLedge, sp_isLadder, sp_isPerson, sp_isLiving, sp_isLot, sp_isThere, sp_isSpan, ms_K q, ms_B q, r123_0, r123_1, r123_4, r123_9, r123_10, r123_16, r123_17, r123_23, r123_24, r123_26, r123_32, r123_33, r123_34, r123_35, r123_36, r123_39, r123_40, r123_41, r123_44, r123_45, r123_46, r123_47, r123_50, r123_54, r123_55, r123_58, r123_64, r123_65, r123_66, r123_69, r123_70, r123_71, r123_72, r123_75, r123_79, r123_80, r123_83, r123_84, r123_85, r123_88, r123_89, r123_92, r123_93, r123_94, r123_97, r123_100, r123_101, r123_104, r123_105, r123_6, r123_13, r123_20, r123_29, r123_51, r123_61, r123_76, tk, m1, m]
      | inr x =>
        obtain ⟨t1, q1⟩ := x
        obtain ⟨G2, s2, m, a2, k2, sg2, l2, l3⟩ := r
        have m : xm_met (X + 3) 121 [.ref M] (xp_m h M G1) = _ := m
        obtain ⟨w1, b1, b2⟩ := ok
        have b1 : lE c T i + 1 ≤ q1 := b1
        have b2 : q1 ≤ T := b2
        have l3 : s2 + lE c T i ≤ s + q1 := l3
        have nd := c125 (d := X) q tp b2 a2 (k := 41)
        show mO h M F0 c T dp s s i F _ (if lK c T q1 = 41 then .inr (t1, lE c T q1) else .inl (1, lS c T q1))
        by_cases c4 : lK c T q1 = 41
        · rw [if_pos c4]
          have l4 := lE_lt tp.1 b2 (by rw [c4]; decide)
          obtain ⟨G3, m3, a3, fr3⟩ := nd.1 c4
          have hd : G3 0 44 = Int32.ofNat (dp + 1) := a3.2.1
          have ed : Int32.ofNat (dp + 1) - 1 = Int32.ofNat dp := by rw [← nat_succ, i_as]
          refine ⟨xm_u2 G3 0 44 (Int32.ofNat dp), s2, ?_, ⟨⟨?_, ?_, ?_, fun z => ?_⟩, ?_, ?_, a3.2.2.2.u (by omega)⟩, fun j hj => ?_, ?_, l2, by omega⟩
          · unfold xm_met
            simp only [ite_not, ite_self, w8_nil, ok01, ite10, rf_rv, rf_ref, rf_cat, rf_lk2, rf_some, rf_none, w_add, w_cons, cr_int, cr_long, cr_ref, cr_null, is_ref, is_null, l2_int, l2_ref, l2_null, l2_none, ent_nil, ent_int, ent_ref, ent_null, ent_rf, ent_long, ok_0, ok_1, af_ret, af_void, List.tail_cons, List.tail_nil, Nat.reduceAdd, Nat.reduceLeDiff, not_false_eq_true, not_true_eq_false, and_self, and_true, true_and, ne_eq, or_true, true_or, or_false, false_or, eq_self, Nat.reduceEqDiff, ↓reduceIte, false_and, and_false, Nat.le_refl, Nat.zero_le, nz_1, nz_2, nz_3, nz_4, nz_5, nz_6, nz_8, nz_10, nz_12, nz_20, nz_30, nz_60, nz_100, mp_B, mp_Z, mp_S, mp_C, mp_K, mp_N, mp_L, mp_R, mp_I, mp_I0, mp_s, mp_s0, u2_ap, sp_isLedge, sp_isLadder, sp_isPerson, sp_isLiving, sp_isLot, sp_isThere, sp_isSpan, ms_K q, ms_B q, r123_0, r123_1, r123_4, r123_9, r123_10, r123_16, r123_17, r123_23, r123_24, r123_26, r123_32, r123_33, r123_34, r123_35, r123_36, r123_39, r123_40, r123_41, r123_44, r123_45, r123_46, r123_47, r123_50, r123_54, r123_55, r123_58, r123_64, r123_65, r123_66, r123_69, r123_70, r123_71, r123_72, r123_75, r123_79, r123_80, r123_83, r123_84, r123_85, r123_88, r123_89, r123_92, r123_93, r123_94, r123_97, r123_100, r123_101, r123_104, r123_105, r123_6, r123_13, r123_20, r123_29, r123_51, r123_61, r123_76, tk, m1, m, m3, hd, ed]
          · rw [u2_ap, if_neg (by decide)]; exact a3.1.1
          · rw [u2_ap, if_neg (by decide)]; exact a3.1.2.1
          · rw [u2_ap, if_neg (by decide)]; exact a3.1.2.2.1
          · rw [u2_ap, if_neg (by decide)]; exact a3.1.2.2.2 z
          · rw [u2_ap, if_pos ⟨rfl, rfl⟩]
          · rw [u2_ap, if_neg (by decide)]; exact a3.2.2.1
          · rw [u2_ap, if_neg (by omega), fr3, k2 j hj, fr1]
          · exact sg_kp w1 sg2 (fun j _ => by rw [u2_ap, if_neg (by omega), fr3])
        · rw [if_neg c4]
          obtain ⟨G3, m3, pf⟩ := nd.2 c4
          refine ⟨G3, ?_, pf⟩
          unfold xm_met
          simp only [ite_not, ite_self, w8_nil, ok01, ite10, rf_rv, rf_ref, rf_cat, rf_lk2, rf_some, rf_none, w_add, w_cons, cr_int, cr_long, cr_ref, cr_null, is_ref, is_null, l2_int, l2_ref, l2_null, l2_none, ent_nil, ent_int, ent_ref, ent_null, ent_rf, ent_long, ok_0, ok_1, af_ret, af_void, List.tail_cons, List.tail_nil, Nat.reduceAdd, Nat.reduceLeDiff, not_false_eq_true, not_true_eq_false, and_self, and_true, true_and, ne_eq, or_true, true_or, or_false, false_or, eq_self, Nat.reduceEqDiff, ↓reduceIte, false_and, and_false, Nat.le_refl, Nat.zero_le, nz_1, nz_2, nz_3, nz_4, nz_5, nz_6, nz_8, nz_10, nz_12, nz_20, nz_30, nz_60, nz_100, mp_B, mp_Z, mp_S, mp_C, mp_K, mp_N, mp_L, mp_R, mp_I, mp_I0, mp_s, mp_s0, u2_ap, sp_isLedge, sp_isLadder, sp_isPerson, sp_isLiving, sp_isLot, sp_isThere, sp_isSpan, ms_K q, ms_B q, r123_0, r123_1, r123_4, r123_9, r123_10, r123_16, r123_17, r123_23, r123_24, r123_26, r123_32, r123_33, r123_34, r123_35, r123_36, r123_39, r123_40, r123_41, r123_44, r123_45, r123_46, r123_47, r123_50, r123_54, r123_55, r123_58, r123_64, r123_65, r123_66, r123_69, r123_70, r123_71, r123_72, r123_75, r123_79, r123_80, r123_83, r123_84, r123_85, r123_88, r123_89, r123_92, r123_93, r123_94, r123_97, r123_100, r123_101, r123_104, r123_105, r123_6, r123_13, r123_20, r123_29, r123_51, r123_61, r123_76, tk, m1, m, m3]
  rw [if_neg c1] at fl ⊢
  by_cases c22 : lK c T i = 2
  · rw [c22] at tk
    have c40 : ¬ (2 : Int32) = 40 := by decide
    rw [if_pos c22]
    have l1 := lE_lt tp.1 hi (by rw [c22]; decide)
    have v := a.1.2.2.2 c22
    obtain ⟨G1, m1, a1, k1, f1⟩ := a.lay (d := X + 3) q (show s < 610 by omega) (k := 0) (v := lV c T i)
    obtain ⟨G2, m2, a2, -, fr2⟩ := a1.next (d := X + 1) q tp hi
    refine ⟨G2, s + 1, ?_, a2, fun j hj => (fr2 j).trans (k1 j hj), ⟨rfl, ?_, ?_⟩, by omega, by show s + 1 + i ≤ s + lE c T i; omega⟩
    · unfold xm_met
      simp only [ite_not, ite_self, w8_nil, ok01, ite10, rf_rv, rf_ref, rf_cat, rf_lk2, rf_some, rf_none, w_add, w_cons, cr_int, cr_long, cr_ref, cr_null, is_ref, is_null, l2_int, l2_ref, l2_null, l2_none, ent_nil, ent_int, ent_ref, ent_null, ent_rf, ent_long, ok_0, ok_1, af_ret, af_void, List.tail_cons, List.tail_nil, Nat.reduceAdd, Nat.reduceLeDiff, not_false_eq_true, not_true_eq_false, and_self, and_true, true_and, ne_eq, or_true, true_or, or_false, false_or, eq_self, Nat.reduceEqDiff, ↓reduceIte, false_and, and_false, Nat.le_refl, Nat.zero_le, nz_1, nz_2, nz_3, nz_4, nz_5, nz_6, nz_8, nz_10, nz_12, nz_20, nz_30, nz_60, nz_100, mp_B, mp_Z, mp_S, mp_C, mp_K, mp_N, mp_L, mp_R, mp_I, mp_I0, mp_s, mp_s0, u2_ap, sp_isLedge, sp_isLadder, sp_isPerson, sp_isLiving, sp_isLot, sp_isThere, sp_isSpan, ms_K q, ms_B q, r123_0, r123_1, r123_4, r123_9, r123_10, r123_16, r123_17, r123_23, r123_24, r123_26, r123_32, r123_33, r123_34, r123_35, r123_36, r123_39, r123_40, r123_41, r123_44, r123_45, r123_46, r123_47, r123_50, r123_54, r123_55, r123_58, r123_64, r123_65, r123_66, r123_69, r123_70, r123_71, r123_72, r123_75, r123_79, r123_80, r123_83, r123_84, r123_85, r123_88, r123_89, r123_92, r123_93, r123_94, r123_97, r123_100, r123_101, r123_104, r123_105, r123_6, r123_13, r123_20, r123_29, r123_51, r123_61, r123_76, tk, c40, v, m1, m2]
    · show G2 27 (2 * s) = 0
      rw [fr2]
      exact congrArg Prod.fst f1
    · show G2 27 (2 * s + 1) = Int32.ofInt (lV c T i).toInt
      rw [fr2, Int32.ofInt_toInt]
      exact congrArg Prod.snd f1
  rw [if_neg c22] at fl ⊢
  by_cases c3 : 201 ≤ lK c T i
  · rw [if_pos c3]
    have l1 := lE_lt tp.1 hi (fun z => by rw [z] at c3; exact absurd c3 (by decide))
    obtain ⟨v8, v208⟩ := lK_var c3
    obtain ⟨G1, m1, a1, k1, f1⟩ := a.lay (d := X + 3) q (show s < 610 by omega) (k := 1 + lK c T i - 201) (v := F 0 40)
    obtain ⟨G2, m2, a2, -, fr2⟩ := a1.next (d := X + 1) q tp hi
    refine ⟨G2, s + 1, ?_, a2, fun j hj => (fr2 j).trans (k1 j hj), ⟨rfl, ?_⟩, by omega, by show s + 1 + i ≤ s + lE c T i; omega⟩
    · unfold xm_met
      simp only [ite_not, ite_self, w8_nil, ok01, ite10, rf_rv, rf_ref, rf_cat, rf_lk2, rf_some, rf_none, w_add, w_cons, cr_int, cr_long, cr_ref, cr_null, is_ref, is_null, l2_int, l2_ref, l2_null, l2_none, ent_nil, ent_int, ent_ref, ent_null, ent_rf, ent_long, ok_0, ok_1, af_ret, af_void, List.tail_cons, List.tail_nil, Nat.reduceAdd, Nat.reduceLeDiff, not_false_eq_true, not_true_eq_false, and_self, and_true, true_and, ne_eq, or_true, true_or, or_false, false_or, eq_self, Nat.reduceEqDiff, ↓reduceIte, false_and, and_false, Nat.le_refl, Nat.zero_le, nz_1, nz_2, nz_3, nz_4, nz_5, nz_6, nz_8, nz_10, nz_12, nz_20, nz_30, nz_60, nz_100, mp_B, mp_Z, mp_S, mp_C, mp_K, mp_N, mp_L, mp_R, mp_I, mp_I0, mp_s, mp_s0, u2_ap, sp_isLedge, sp_isLadder, sp_isPerson, sp_isLiving, sp_isLot, sp_isThere, sp_isSpan, ms_K q, ms_B q, r123_0, r123_1, r123_4, r123_9, r123_10, r123_16, r123_17, r123_23, r123_24, r123_26, r123_32, r123_33, r123_34, r123_35, r123_36, r123_39, r123_40, r123_41, r123_44, r123_45, r123_46, r123_47, r123_50, r123_54, r123_55, r123_58, r123_64, r123_65, r123_66, r123_69, r123_70, r123_71, r123_72, r123_75, r123_79, r123_80, r123_83, r123_84, r123_85, r123_88, r123_89, r123_92, r123_93, r123_94, r123_97, r123_100, r123_101, r123_104, r123_105, r123_6, r123_13, r123_20, r123_29, r123_51, r123_61, r123_76, tk, c1, c22, c3, m1, m2]
    · show G2 27 (2 * s) = Int32.ofNat ((lK c T i - 201).toNatClampNeg + 1)
      rw [fr2]
      refine (congrArg Prod.fst f1).trans ?_
      show 1 + lK c T i - 201 = _
      have c3' := Int32.le_iff_toInt_le.mp c3
      rw [show (201 : Int32).toInt = 201 from rfl] at c3'
      apply i_eq
      have t201 : (201 : Int32).toInt = 201 := rfl
      have t1 : (1 : Int32).toInt = 1 := rfl
      have e1 : (1 + lK c T i).toInt = 1 + (lK c T i).toInt := by rw [ti_add (by rw [t1]; omega), t1]
      have e2 : (1 + lK c T i - 201).toInt = (lK c T i).toInt - 200 := by rw [ti_sub (by rw [e1, t201]; omega), e1, t201]; omega
      have e3 : (lK c T i - 201).toInt = (lK c T i).toInt - 201 := by rw [ti_sub (by rw [t201]; omega), t201]
      rw [e2, ti_nat (by omega)]
      show _ = (((lK c T i - 201).toInt.toNat + 1 : Nat) : Int)
      rw [e3]
      omega
  · rw [if_neg c3]
    obtain ⟨G, m, pf⟩ := a.bad (d := X + 3) q (k := 1)
    refine ⟨G, ?_, pf⟩
    unfold xm_met
    simp only [ite_not, ite_self, w8_nil, ok01, ite10, rf_rv, rf_ref, rf_cat, rf_lk2, rf_some, rf_none, w_add, w_cons, cr_int, cr_long, cr_ref, cr_null, is_ref, is_null, l2_int, l2_ref, l2_null, l2_none, ent_nil, ent_int, ent_ref, ent_null, ent_rf, ent_long, ok_0, ok_1, af_ret, af_void, List.tail_cons, List.tail_nil, Nat.reduceAdd, Nat.reduceLeDiff, not_false_eq_true, not_true_eq_false, and_self, and_true, true_and, ne_eq, or_true, true_or, or_false, false_or, eq_self, Nat.reduceEqDiff, ↓reduceIte, false_and, and_false, Nat.le_refl, Nat.zero_le, nz_1, nz_2, nz_3, nz_4, nz_5, nz_6, nz_8, nz_10, nz_12, nz_20, nz_30, nz_60, nz_100, mp_B, mp_Z, mp_S, mp_C, mp_K, mp_N, mp_L, mp_R, mp_I, mp_I0, mp_s, mp_s0, u2_ap, sp_isLedge, sp_isLadder, sp_isPerson, sp_isLiving, sp_isLot, sp_isThere, sp_isSpan, ms_K q, ms_B q, r123_0, r123_1, r123_4, r123_9, r123_10, r123_16, r123_17, r123_23, r123_24, r123_26, r123_32, r123_33, r123_34, r123_35, r123_36, r123_39, r123_40, r123_41, r123_44, r123_45, r123_46, r123_47, r123_50, r123_54, r123_55, r123_58, r123_64, r123_65, r123_66, r123_69, r123_70, r123_71, r123_72, r123_75, r123_79, r123_80, r123_83, r123_84, r123_85, r123_88, r123_89, r123_92, r123_93, r123_94, r123_97, r123_100, r123_101, r123_104, r123_105, r123_6, r123_13, r123_20, r123_29, r123_51, r123_61, r123_76, tk, c1, c22, c3, m]
end MRW
