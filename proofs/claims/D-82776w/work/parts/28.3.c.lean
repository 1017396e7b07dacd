/-! the component's contracts, 22: a sale that is found -/
set_option maxRecDepth 100000
section C22
variable {d : Nat} {h : xm_H} {D : xp_D} {F : xp_F}
/-- lots and buyers as they may be -/
def WS (D : xp_D) (F : xp_F) : Prop := (∀ i, i < xd_n D 2 → 0 ≤ (F 44 i).toInt ∧ (F 44 i).toInt ≤ 10000000) ∧ ∀ b, b < xd_n D 3 → 0 ≤ (F 59 b).toInt ∧ (F 59 b).toInt ≤ 99999
theorem sales0_63 {k : Nat} (hk : k < 4) : sp_sales0 F 63 k = 0 := by
  have := it_up (f := fun b (G : xp_F) => xm_u2 G 63 b 0) (n := 4) (fun j (G : xp_F) => ∀ k, k < j → G 63 k = 0) (fun j G hj hG k hk => by
    show xm_u2 G 63 j 0 63 k = 0
    rw [u2_ap]
    by_cases e : k = j
    · rw [if_pos ⟨rfl, e⟩]
    · rw [if_neg (fun z => e z.2)]
      exact hG k (by omega)) 4 0 (xm_u2 (sp_listed F) 0 93 (-1)) (Nat.zero_add _) (fun k hk => absurd hk (Nat.not_lt_zero _))
  exact this k hk
theorem sales0_ne {o k : Nat} (h : ¬ o = 63) : sp_sales0 F o k = xm_u2 (sp_listed F) 0 93 (-1) o k := by
  unfold sp_sales0
  refine it_inv (fun (G : xp_F) => G o k = xm_u2 (sp_listed F) 0 93 (-1) o k) (fun b G hG => ?_) _ _ _ rfl
  show xm_u2 G 63 b 0 o k = _
  rw [u2_ap, if_neg (fun z => h z.1)]
  exact hG
theorem adj_z {G : xp_F} (v : xd_vis D) (hz : ∀ k, k < 4 → G 63 k = 0) : xp_c h D (adj G) = xp_c h D G := xp_c_ag v (fun o k hm => by
  unfold adj
  by_cases e : o = 59 ∧ k < 4
  · rw [if_pos e, hz k e.2, e.1, Int32.sub_zero]
  · rw [if_neg e, if_neg (fun z => hm (by unfold mnm; omega))])
theorem c56 (q : CS h D) (v : xd_vis D) (hn : CN D F) (hw : WS D F) : xm_met (d + 10) 56 [.ref (xd_X D)] (xp_c h D F) = some (.inl none, xp_c h D (sp_sales F)) := by
  have hl := hn.i q
  have n40 := (cs_n q).2.2.1
  have tl : (F 0 68).toNatClampNeg = xd_n D 2 := by rw [hn.2.2.1, tc_nat (by omega)]
  obtain ⟨t, e, k', m, a1, a2, a3, a4, a5⟩ := xp_loopx (P := fun k G t => xm_run (d + 10) 56 7 (some (.ref (xd_X D)) :: some (.int (Int32.ofNat k)) :: t) [] (xp_c h D G)) (Q := fun G t => xm_run (d + 10) 56 65 (some (.ref (xd_X D)) :: t) [] (xp_c h D G)) (n := (F 0 68).toNatClampNeg) (fun k G => ls F G k) (f := sp_list1) (fun k G t hk hG => by
    obtain ⟨i1, e1, c0, -, -⟩ := lp_k hl (by decide) hk
    have hs := hG.step hl hk
    obtain ⟨m, a1, a2, a3, a4, a5⟩ := hG
    have g0 := a5 0 68 (by decide) (by decide)
    have hk2 : k < xd_n D 2 := by omega
    have o1 := cs_I q hk2
    have o2 := cs_is q hk2
    by_cases c1 : G 0 92 < 8
    case neg =>
      refine Or.inr ⟨⟨some (.int (Int32.ofNat k)) :: t, ?_⟩, fun j => if_neg (fun z => c1 z.1)⟩
      show xm_run _ _ _ _ _ _ = _
      have c1' : 8 ≤ G 0 92 := Int32.not_lt.mp c1
      rw [r56_7]
      simp only [ite_not, ite_self, w8_nil, ok01, ite10, rf_rv, rf_ref, rf_cat, rf_lk2, rf_some, rf_none, w_add, w_cons, cr_int, cr_long, cr_ref, cr_null, is_ref, is_null, l2_int, l2_ref, l2_null, l2_none, ent_nil, ent_int, ent_ref, ent_null, ent_rf, ent_long, ok_0, ok_1, af_ret, af_void, List.tail_cons, List.tail_nil, Nat.reduceAdd, Nat.reduceLeDiff, not_false_eq_true, not_true_eq_false, and_self, and_true, true_and, ne_eq, or_true, true_or, or_false, false_or, eq_self, Nat.reduceEqDiff, ↓reduceIte, false_and, and_false, Nat.le_refl, Nat.zero_le, nz_1, nz_2, nz_3, nz_4, nz_5, nz_6, nz_8, nz_10, nz_12, nz_20, nz_30, nz_60, nz_100, mc_B, mc_Z, mc_S, mc_C, mc_K, mc_N, mc_R, mc_I, mc_L, va_Is, va_Ls, va_us, va_iss, u2_ap, sp_isLedge, sp_isLadder, sp_isPerson, sp_isLiving, sp_isLot, sp_isThere, sp_isSpan, cs_K q, cs_B q, mc_s (cs_inj q), cs_f37 q, cs_f43 q, r56_8, r56_9, r56_15, r56_16, r56_19, r56_12, r56_21, g0, c0, c1']
    refine Or.inl ⟨t, ?_, hs⟩
    show xm_run _ _ _ _ _ _ = _
    unfold sp_list1
    have c1' : ¬ 8 ≤ G 0 92 := Int32.not_le.mpr c1
    rw [r56_7]
    by_cases c3 : G 54 k = 0
    · simp only [ite_not, ite_self, w8_nil, ok01, ite10, rf_rv, rf_ref, rf_cat, rf_lk2, rf_some, rf_none, w_add, w_cons, cr_int, cr_long, cr_ref, cr_null, is_ref, is_null, l2_int, l2_ref, l2_null, l2_none, ent_nil, ent_int, ent_ref, ent_null, ent_rf, ent_long, ok_0, ok_1, af_ret, af_void, List.tail_cons, List.tail_nil, Nat.reduceAdd, Nat.reduceLeDiff, not_false_eq_true, not_true_eq_false, and_self, and_true, true_and, ne_eq, or_true, true_or, or_false, false_or, eq_self, Nat.reduceEqDiff, ↓reduceIte, false_and, and_false, Nat.le_refl, Nat.zero_le, nz_1, nz_2, nz_3, nz_4, nz_5, nz_6, nz_8, nz_10, nz_12, nz_20, nz_30, nz_60, nz_100, mc_B, mc_Z, mc_S, mc_C, mc_K, mc_N, mc_R, mc_I, mc_L, va_Is, va_Ls, va_us, va_iss, u2_ap, sp_isLedge, sp_isLadder, sp_isPerson, sp_isLiving, sp_isLot, sp_isThere, sp_isSpan, cs_K q, cs_B q, mc_s (cs_inj q), cs_f37 q, cs_f43 q, cs_f36 q, cs_f39 q, r56_8, r56_9, r56_15, r56_16, r56_19, r56_24, r56_25, r56_28, r56_29, r56_30, r56_36, r56_39, r56_40, r56_43, r56_44, r56_47, r56_48, r56_49, r56_50, r56_51, r56_54, r56_55, r56_56, r56_59, r56_62, r56_12, r56_21, r56_33, g0, c0, c1, c1', c3, i1, e1, o1, o2, nat_succ]
    · have c1'' := Int32.lt_iff_toInt_lt.mp c1
      rw [a1, ti_nat (by omega), show (8 : Int32).toInt = 8 from rfl] at c1''
      obtain ⟨i2, e2⟩ := in_nat (show m < 8 by omega) (by decide)
      rw [← a1] at i2 e2
      simp only [ite_not, ite_self, w8_nil, ok01, ite10, rf_rv, rf_ref, rf_cat, rf_lk2, rf_some, rf_none, w_add, w_cons, cr_int, cr_long, cr_ref, cr_null, is_ref, is_null, l2_int, l2_ref, l2_null, l2_none, ent_nil, ent_int, ent_ref, ent_null, ent_rf, ent_long, ok_0, ok_1, af_ret, af_void, List.tail_cons, List.tail_nil, Nat.reduceAdd, Nat.reduceLeDiff, not_false_eq_true, not_true_eq_false, and_self, and_true, true_and, ne_eq, or_true, true_or, or_false, false_or, eq_self, Nat.reduceEqDiff, ↓reduceIte, false_and, and_false, Nat.le_refl, Nat.zero_le, nz_1, nz_2, nz_3, nz_4, nz_5, nz_6, nz_8, nz_10, nz_12, nz_20, nz_30, nz_60, nz_100, mc_B, mc_Z, mc_S, mc_C, mc_K, mc_N, mc_R, mc_I, mc_L, va_Is, va_Ls, va_us, va_iss, u2_ap, sp_isLedge, sp_isLadder, sp_isPerson, sp_isLiving, sp_isLot, sp_isThere, sp_isSpan, cs_K q, cs_B q, mc_s (cs_inj q), cs_f37 q, cs_f43 q, cs_f36 q, cs_f39 q, r56_8, r56_9, r56_15, r56_16, r56_19, r56_24, r56_25, r56_28, r56_29, r56_30, r56_36, r56_39, r56_40, r56_43, r56_44, r56_47, r56_48, r56_49, r56_50, r56_51, r56_54, r56_55, r56_56, r56_59, r56_62, r56_12, r56_21, r56_33, g0, c0, c1, c1', c3, i1, e1, i2, e2, o1, o2, nat_succ]) (fun G t hG => by
    obtain ⟨m, a1, a2, a3, a4, a5⟩ := hG
    have g0 := a5 0 68 (by decide) (by decide)
    have c0 := (lp_end hl (by decide)).1
    refine ⟨some (.int (Int32.ofNat (F 0 68).toNatClampNeg)) :: t, ?_⟩
    show xm_run _ _ _ _ _ _ = _
    rw [r56_7]
    simp only [ite_not, ite_self, w8_nil, ok01, ite10, rf_rv, rf_ref, rf_cat, rf_lk2, rf_some, rf_none, w_add, w_cons, cr_int, cr_long, cr_ref, cr_null, is_ref, is_null, l2_int, l2_ref, l2_null, l2_none, ent_nil, ent_int, ent_ref, ent_null, ent_rf, ent_long, ok_0, ok_1, af_ret, af_void, List.tail_cons, List.tail_nil, Nat.reduceAdd, Nat.reduceLeDiff, not_false_eq_true, not_true_eq_false, and_self, and_true, true_and, ne_eq, or_true, true_or, or_false, false_or, eq_self, Nat.reduceEqDiff, ↓reduceIte, false_and, and_false, Nat.le_refl, Nat.zero_le, nz_1, nz_2, nz_3, nz_4, nz_5, nz_6, nz_8, nz_10, nz_12, nz_20, nz_30, nz_60, nz_100, mc_B, mc_Z, mc_S, mc_C, mc_K, mc_N, mc_R, mc_I, mc_L, va_Is, va_Ls, va_us, va_iss, u2_ap, sp_isLedge, sp_isLadder, sp_isPerson, sp_isLiving, sp_isLot, sp_isThere, sp_isSpan, cs_K q, cs_B q, mc_s (cs_inj q), cs_f37 q, r56_8, r56_9, r56_12, g0, c0]) _ 0 (xm_u2 F 0 92 0) [] (Nat.zero_add _) ls.init
  rw [show Int32.ofNat 0 = (0 : Int32) from rfl, show xp_it sp_list1 0 (F 0 68).toNatClampNeg (xm_u2 F 0 92 0) = sp_listed F from rfl] at e
  rw [show xp_it sp_list1 0 (F 0 68).toNatClampNeg (xm_u2 F 0 92 0) = sp_listed F from rfl] at a1 a4 a5
  have en : sp_salesN F = m := by
    unfold sp_salesN
    rw [a1, tc_nat (by omega)]
  have f0 : ∀ o k, ¬ o = 60 → ¬ o = 63 → ¬ (o = 0 ∧ (k = 92 ∨ k = 93)) → sp_sales0 F o k = F o k := fun o k h1 h2 h3 => by
    rw [sales0_ne h2, u2_ap, if_neg (by omega)]
    exact a5 o k h1 (by omega)
  have hO : OB D m (sp_sales0 F) := by
    refine ⟨by rw [sales0_ne (by decide), u2_ap, if_neg (by decide)]; exact a1, a2, ?_, fun b hb => ?_, fun j hj => ?_⟩
    · rw [f0 0 83 (by decide) (by decide) (by decide)]
      exact hn.2.2.2
    · have b4 := (cs_n q).2.2.2
      rw [sales0_63 (by omega), f0 59 b (by decide) (by decide) (by omega)]
      have := hw.2 b hb
      rw [show (0 : Int32).toInt = 0 from rfl]
      omega
    · obtain ⟨x1, x2⟩ := a4 j hj
      have x3 := in_iff.mp x1
      have x4 := Int32.lt_iff_toInt_lt.mp x2
      rw [hn.2.2.1, ti_nat (by omega)] at x4
      have x5 : sp_sales0 F 60 j = sp_listed F 60 j := by rw [sales0_ne (by decide), u2_ap, if_neg (by omega)]
      refine ⟨(sp_listed F 60 j).toNatClampNeg, ?_, ?_, ?_⟩
      · show (sp_listed F 60 j).toInt.toNat < _
        omega
      · rw [x5]
        exact rg_nat (N := 40) ⟨x3.1, by omega⟩
      · rw [f0 44 _ (by decide) (by decide) (by omega)]
        exact hw.1 _ (by show (sp_listed F 60 j).toInt.toNat < _; omega)
  have e3 := @c57 (d + (8 - m)) h D q m m 0 0 0 (sp_sales0 F) (Nat.zero_add _) hO
  rw [show d + (8 - m) + m + 1 = d + 9 by omega, show Int32.ofNat 0 = (0 : Int32) from rfl, adj_z v (fun k hk => sales0_63 hk)] at e3
  have e4 : xp_c h D (sp_sales0 F) = xp_c h D (xm_u2 (sp_listed F) 0 93 (-1)) := xp_c_ag v (fun o k hm => sales0_ne (fun z => hm (by unfold mnm; omega)))
  rw [e4, adj_z v (fun k hk => by rw [offers_p m, sales0_63 hk])] at e3
  unfold xm_met
  rw [show d + 10 = d + 9 + 1 from rfl] at e ⊢
  simp only [ite_not, ite_self, w8_nil, ok01, ite10, rf_rv, rf_ref, rf_cat, rf_lk2, rf_some, rf_none, w_add, w_cons, cr_int, cr_long, cr_ref, cr_null, is_ref, is_null, l2_int, l2_ref, l2_null, l2_none, ent_nil, ent_int, ent_ref, ent_null, ent_rf, ent_long, ok_0, ok_1, af_ret, af_void, List.tail_cons, List.tail_nil, Nat.reduceAdd, Nat.reduceLeDiff, not_false_eq_true, not_true_eq_false, and_self, and_true, true_and, ne_eq, or_true, true_or, or_false, false_or, eq_self, Nat.reduceEqDiff, ↓reduceIte, false_and, and_false, Nat.le_refl, Nat.zero_le, nz_1, nz_2, nz_3, nz_4, nz_5, nz_6, nz_8, nz_10, nz_12, nz_20, nz_30, nz_60, nz_100, mc_B, mc_Z, mc_S, mc_C, mc_K, mc_N, mc_R, mc_I, mc_L, va_Is, va_Ls, va_us, va_iss, u2_ap, sp_isLedge, sp_isLadder, sp_isPerson, sp_isLiving, sp_isLot, sp_isThere, sp_isSpan, cs_K q, cs_B q, mc_s (cs_inj q), cs_f43 q, r56_0, r56_1, r56_2, r56_5, r56_6]
  rw [e]
  simp only [ite_not, ite_self, w8_nil, ok01, ite10, rf_rv, rf_ref, rf_cat, rf_lk2, rf_some, rf_none, w_add, w_cons, cr_int, cr_long, cr_ref, cr_null, is_ref, is_null, l2_int, l2_ref, l2_null, l2_none, ent_nil, ent_int, ent_ref, ent_null, ent_rf, ent_long, ok_0, ok_1, af_ret, af_void, List.tail_cons, List.tail_nil, Nat.reduceAdd, Nat.reduceLeDiff, not_false_eq_true, not_true_eq_false, and_self, and_true, true_and, ne_eq, or_true, true_or, or_false, false_or, eq_self, Nat.reduceEqDiff, ↓reduceIte, false_and, and_false, Nat.le_refl, Nat.zero_le, nz_1, nz_2, nz_3, nz_4, nz_5, nz_6, nz_8, nz_10, nz_12, nz_20, nz_30, nz_60, nz_100, mc_B, mc_Z, mc_S, mc_C, mc_K, mc_N, mc_R, mc_I, mc_L, va_Is, va_Ls, va_us, va_iss, u2_ap, sp_isLedge, sp_isLadder, sp_isPerson, sp_isLiving, sp_isLot, sp_isThere, sp_isSpan, cs_K q, cs_B q, mc_s (cs_inj q), cs_f44 q, r56_65, r56_66, r56_67, r56_70, r56_71, r56_72, r56_73, r56_74, r56_77, e3]
  unfold sp_sales
  rw [en]
theorem c55f (q : CS h D) {w : Int32} (hw : ¬ w < 2) {n : Nat} (hn : n ≤ 8) (ho : F 0 92 = Int32.ofNat n) (hi : ∀ j, j < n → xm_in (F 60 j) 40 = true) : ∀ c k, k + c = n → xm_run d 55 25 [some (.ref (xd_X D)), some (.int w), some (.int (Int32.ofNat k))] [] (xp_c h D F) = some (.inl (some (.int (sp_to F w k c))), xp_c h D F) := by
  have hw' : ¬ w.toInt < 2 := fun z => hw (Int32.lt_iff_toInt_lt.mpr z)
  intro c
  induction c with
  | zero =>
    intro k e
    have : k = n := by omega
    subst this
    have c0 : Int32.ofNat k ≤ Int32.ofNat k := Int32.le_refl _
    unfold sp_to
    rw [r55_25]
    simp only [ite_not, ite_self, w8_nil, ok01, ite10, rf_rv, rf_ref, rf_cat, rf_lk2, rf_some, rf_none, w_add, w_cons, cr_int, cr_long, cr_ref, cr_null, is_ref, is_null, l2_int, l2_ref, l2_null, l2_none, ent_nil, ent_int, ent_ref, ent_null, ent_rf, ent_long, ok_0, ok_1, af_ret, af_void, List.tail_cons, List.tail_nil, Nat.reduceAdd, Nat.reduceLeDiff, not_false_eq_true, not_true_eq_false, and_self, and_true, true_and, ne_eq, or_true, true_or, or_false, false_or, eq_self, Nat.reduceEqDiff, ↓reduceIte, false_and, and_false, Nat.le_refl, Nat.zero_le, nz_1, nz_2, nz_3, nz_4, nz_5, nz_6, nz_8, nz_10, nz_12, nz_20, nz_30, nz_60, nz_100, mc_B, mc_Z, mc_S, mc_C, mc_K, mc_N, mc_R, mc_I, mc_L, va_Is, va_Ls, va_us, va_iss, u2_ap, sp_isLedge, sp_isLadder, sp_isPerson, sp_isLiving, sp_isLot, sp_isThere, sp_isSpan, cs_K q, cs_B q, mc_s (cs_inj q), cs_f43 q, cs_f39 q, cs_f41 q, r55_26, r55_27, r55_33, r55_34, r55_36, r55_37, r55_40, r55_41, r55_42, r55_46, r55_47, r55_50, r55_51, r55_52, r55_53, r55_56, r55_59, r55_60, r55_30, r55_43, ho, c0]
  | succ c ih =>
    intro k e
    have c0 := lt_nat (show k < n by omega) (by omega)
    obtain ⟨i1, e1⟩ := in_nat (show k < 8 by omega) (by decide)
    have x1 := in_iff.mp (hi k (by omega))
    have ee : (w = 10 + F 60 k) = (F 60 k = w - 10) := by
      have t10 : (10 : Int32).toInt = 10 := rfl
      have lw := Int32.toInt_lt w
      have a1 : (10 + F 60 k).toInt = 10 + (F 60 k).toInt := by rw [ti_add (by rw [t10]; omega), t10]
      have a2 : (w - 10).toInt = w.toInt - 10 := by rw [ti_sub (by rw [t10]; omega), t10]
      apply propext
      constructor
      · intro z
        apply i_eq
        rw [a2, z, a1]
        omega
      · intro z
        apply i_eq
        rw [a1, z, a2]
        omega
    have := ih (k + 1) (by omega)
    unfold sp_to
    rw [r55_25]
    by_cases c1 : F 60 k = w - 10
    · rw [if_pos c1]
      have c1' : w = 10 + F 60 k := by rw [ee]; exact c1
      simp only [ite_not, ite_self, w8_nil, ok01, ite10, rf_rv, rf_ref, rf_cat, rf_lk2, rf_some, rf_none, w_add, w_cons, cr_int, cr_long, cr_ref, cr_null, is_ref, is_null, l2_int, l2_ref, l2_null, l2_none, ent_nil, ent_int, ent_ref, ent_null, ent_rf, ent_long, ok_0, ok_1, af_ret, af_void, List.tail_cons, List.tail_nil, Nat.reduceAdd, Nat.reduceLeDiff, not_false_eq_true, not_true_eq_false, and_self, and_true, true_and, ne_eq, or_true, true_or, or_false, false_or, eq_self, Nat.reduceEqDiff, ↓reduceIte, false_and, and_false, Nat.le_refl, Nat.zero_le, nz_1, nz_2, nz_3, nz_4, nz_5, nz_6, nz_8, nz_10, nz_12, nz_20, nz_30, nz_60, nz_100, mc_B, mc_Z, mc_S, mc_C, mc_K, mc_N, mc_R, mc_I, mc_L, va_Is, va_Ls, va_us, va_iss, u2_ap, sp_isLedge, sp_isLadder, sp_isPerson, sp_isLiving, sp_isLot, sp_isThere, sp_isSpan, cs_K q, cs_B q, mc_s (cs_inj q), cs_f43 q, cs_f39 q, cs_f41 q, r55_26, r55_27, r55_33, r55_34, r55_36, r55_37, r55_40, r55_41, r55_42, r55_46, r55_47, r55_50, r55_51, r55_52, r55_53, r55_56, r55_59, r55_60, r55_30, r55_43, ho, c0, i1, e1, eq_true c1']
    · rw [if_neg c1]
      simp only [ite_not, ite_self, w8_nil, ok01, ite10, rf_rv, rf_ref, rf_cat, rf_lk2, rf_some, rf_none, w_add, w_cons, cr_int, cr_long, cr_ref, cr_null, is_ref, is_null, l2_int, l2_ref, l2_null, l2_none, ent_nil, ent_int, ent_ref, ent_null, ent_rf, ent_long, ok_0, ok_1, af_ret, af_void, List.tail_cons, List.tail_nil, Nat.reduceAdd, Nat.reduceLeDiff, not_false_eq_true, not_true_eq_false, and_self, and_true, true_and, ne_eq, or_true, true_or, or_false, false_or, eq_self, Nat.reduceEqDiff, ↓reduceIte, false_and, and_false, Nat.le_refl, Nat.zero_le, nz_1, nz_2, nz_3, nz_4, nz_5, nz_6, nz_8, nz_10, nz_12, nz_20, nz_30, nz_60, nz_100, mc_B, mc_Z, mc_S, mc_C, mc_K, mc_N, mc_R, mc_I, mc_L, va_Is, va_Ls, va_us, va_iss, u2_ap, sp_isLedge, sp_isLadder, sp_isPerson, sp_isLiving, sp_isLot, sp_isThere, sp_isSpan, cs_K q, cs_B q, mc_s (cs_inj q), cs_f43 q, cs_f39 q, cs_f41 q, r55_26, r55_27, r55_33, r55_34, r55_36, r55_37, r55_40, r55_41, r55_42, r55_46, r55_47, r55_50, r55_51, r55_52, r55_53, r55_56, r55_59, r55_60, r55_30, r55_43, ho, c0, i1, e1, ee, c1, nat_succ]
      exact this
theorem c55n (q : CS h D) {w : Int32} (hw : w.toInt < 2) {n : Nat} (hn : n ≤ 8) (ho : F 0 92 = Int32.ofNat n) (hi : ∀ j, j < n → xm_in (F 60 j) 40 = true) : ∀ c k, k + c = n → xm_run d 55 25 [some (.ref (xd_X D)), some (.int w), some (.int (Int32.ofNat k))] [] (xp_c h D F) = some (.inl (some (.int (-1))), xp_c h D F) := by
  intro c
  induction c with
  | zero =>
    intro k e
    have : k = n := by omega
    subst this
    have c0 : Int32.ofNat k ≤ Int32.ofNat k := Int32.le_refl _
    rw [r55_25]
    simp only [ite_not, ite_self, w8_nil, ok01, ite10, rf_rv, rf_ref, rf_cat, rf_lk2, rf_some, rf_none, w_add, w_cons, cr_int, cr_long, cr_ref, cr_null, is_ref, is_null, l2_int, l2_ref, l2_null, l2_none, ent_nil, ent_int, ent_ref, ent_null, ent_rf, ent_long, ok_0, ok_1, af_ret, af_void, List.tail_cons, List.tail_nil, Nat.reduceAdd, Nat.reduceLeDiff, not_false_eq_true, not_true_eq_false, and_self, and_true, true_and, ne_eq, or_true, true_or, or_false, false_or, eq_self, Nat.reduceEqDiff, ↓reduceIte, false_and, and_false, Nat.le_refl, Nat.zero_le, nz_1, nz_2, nz_3, nz_4, nz_5, nz_6, nz_8, nz_10, nz_12, nz_20, nz_30, nz_60, nz_100, mc_B, mc_Z, mc_S, mc_C, mc_K, mc_N, mc_R, mc_I, mc_L, va_Is, va_Ls, va_us, va_iss, u2_ap, sp_isLedge, sp_isLadder, sp_isPerson, sp_isLiving, sp_isLot, sp_isThere, sp_isSpan, cs_K q, cs_B q, mc_s (cs_inj q), cs_f43 q, cs_f39 q, cs_f41 q, r55_26, r55_27, r55_33, r55_34, r55_36, r55_37, r55_40, r55_41, r55_42, r55_46, r55_47, r55_50, r55_51, r55_52, r55_53, r55_56, r55_59, r55_60, r55_30, r55_43, ho, c0]
  | succ c ih =>
    intro k e
    have c0 := lt_nat (show k < n by omega) (by omega)
    obtain ⟨i1, e1⟩ := in_nat (show k < 8 by omega) (by decide)
    have x1 := in_iff.mp (hi k (by omega))
    have t10 : (10 : Int32).toInt = 10 := rfl
    have ne : ¬ w = 10 + F 60 k := fun z => by
      have := congrArg Int32.toInt z
      rw [ti_add (by rw [t10]; omega), t10] at this
      omega
    rw [r55_25]
    simp only [ite_not, ite_self, w8_nil, ok01, ite10, rf_rv, rf_ref, rf_cat, rf_lk2, rf_some, rf_none, w_add, w_cons, cr_int, cr_long, cr_ref, cr_null, is_ref, is_null, l2_int, l2_ref, l2_null, l2_none, ent_nil, ent_int, ent_ref, ent_null, ent_rf, ent_long, ok_0, ok_1, af_ret, af_void, List.tail_cons, List.tail_nil, Nat.reduceAdd, Nat.reduceLeDiff, not_false_eq_true, not_true_eq_false, and_self, and_true, true_and, ne_eq, or_true, true_or, or_false, false_or, eq_self, Nat.reduceEqDiff, ↓reduceIte, false_and, and_false, Nat.le_refl, Nat.zero_le, nz_1, nz_2, nz_3, nz_4, nz_5, nz_6, nz_8, nz_10, nz_12, nz_20, nz_30, nz_60, nz_100, mc_B, mc_Z, mc_S, mc_C, mc_K, mc_N, mc_R, mc_I, mc_L, va_Is, va_Ls, va_us, va_iss, u2_ap, sp_isLedge, sp_isLadder, sp_isPerson, sp_isLiving, sp_isLot, sp_isThere, sp_isSpan, cs_K q, cs_B q, mc_s (cs_inj q), cs_f43 q, cs_f39 q, cs_f41 q, r55_26, r55_27, r55_33, r55_34, r55_36, r55_37, r55_40, r55_41, r55_42, r55_46, r55_47, r55_50, r55_51, r55_52, r55_53, r55_56, r55_59, r55_60, r55_30, r55_43, ho, c0, i1, e1, ne, nat_succ]
    exact ih (k + 1) (by omega)
theorem c55 (q : CS h D) (v : xd_vis D) (hn : CN D F) (hw : WS D F) {w : Int32} : xm_met (d + 11) 55 [.ref (xd_X D), .int w] (xp_c h D F) = some (.inl (some (.int (sp_sale F w))), xp_c h D (sp_sales F)) := by
  have e := @c56 d h D F q v hn hw
  obtain ⟨n1, n2, n3⟩ := @sales_n F (hn.i q)
  have hi : ∀ j, j < sp_salesN F → xm_in (sp_sales F 60 j) 40 = true := fun j hj => (n3 j hj).1
  unfold xm_met sp_sale
  rw [show d + 11 = d + 10 + 1 from rfl]
  by_cases c0 : w = 0
  · have c1 : w < 2 := by rw [c0]; decide
    rw [if_pos c1, if_pos c0]
    simp only [ite_not, ite_self, w8_nil, ok01, ite10, rf_rv, rf_ref, rf_cat, rf_lk2, rf_some, rf_none, w_add, w_cons, cr_int, cr_long, cr_ref, cr_null, is_ref, is_null, l2_int, l2_ref, l2_null, l2_none, ent_nil, ent_int, ent_ref, ent_null, ent_rf, ent_long, ok_0, ok_1, af_ret, af_void, List.tail_cons, List.tail_nil, Nat.reduceAdd, Nat.reduceLeDiff, not_false_eq_true, not_true_eq_false, and_self, and_true, true_and, ne_eq, or_true, true_or, or_false, false_or, eq_self, Nat.reduceEqDiff, ↓reduceIte, false_and, and_false, Nat.le_refl, Nat.zero_le, nz_1, nz_2, nz_3, nz_4, nz_5, nz_6, nz_8, nz_10, nz_12, nz_20, nz_30, nz_60, nz_100, mc_B, mc_Z, mc_S, mc_C, mc_K, mc_N, mc_R, mc_I, mc_L, va_Is, va_Ls, va_us, va_iss, u2_ap, sp_isLedge, sp_isLadder, sp_isPerson, sp_isLiving, sp_isLot, sp_isThere, sp_isSpan, cs_K q, cs_B q, mc_s (cs_inj q), cs_f44 q, cs_f45 q, r55_0, r55_1, r55_4, r55_8, r55_9, r55_12, r55_13, r55_14, r55_18, r55_19, r55_22, r55_5, r55_15, e, c0]
  by_cases c1 : w = 1
  · have c3 : w < 2 := by rw [c1]; decide
    rw [if_pos c3, if_neg c0, if_pos c1]
    simp only [ite_not, ite_self, w8_nil, ok01, ite10, rf_rv, rf_ref, rf_cat, rf_lk2, rf_some, rf_none, w_add, w_cons, cr_int, cr_long, cr_ref, cr_null, is_ref, is_null, l2_int, l2_ref, l2_null, l2_none, ent_nil, ent_int, ent_ref, ent_null, ent_rf, ent_long, ok_0, ok_1, af_ret, af_void, List.tail_cons, List.tail_nil, Nat.reduceAdd, Nat.reduceLeDiff, not_false_eq_true, not_true_eq_false, and_self, and_true, true_and, ne_eq, or_true, true_or, or_false, false_or, eq_self, Nat.reduceEqDiff, ↓reduceIte, false_and, and_false, Nat.le_refl, Nat.zero_le, nz_1, nz_2, nz_3, nz_4, nz_5, nz_6, nz_8, nz_10, nz_12, nz_20, nz_30, nz_60, nz_100, mc_B, mc_Z, mc_S, mc_C, mc_K, mc_N, mc_R, mc_I, mc_L, va_Is, va_Ls, va_us, va_iss, u2_ap, sp_isLedge, sp_isLadder, sp_isPerson, sp_isLiving, sp_isLot, sp_isThere, sp_isSpan, cs_K q, cs_B q, mc_s (cs_inj q), cs_f44 q, cs_f45 q, r55_0, r55_1, r55_4, r55_8, r55_9, r55_12, r55_13, r55_14, r55_18, r55_19, r55_22, r55_5, r55_15, e, c0, c1]
  by_cases c3 : w < 2
  · rw [if_pos c3, if_neg c0, if_neg c1]
    have f := @c55n (d + 10 + 1) h D (sp_sales F) q w (by have := Int32.lt_iff_toInt_lt.mp c3; rw [show (2 : Int32).toInt = 2 from rfl] at this; exact this) _ n1 n2 hi (sp_salesN F) 0 (Nat.zero_add _)
    rw [show Int32.ofNat 0 = (0 : Int32) from rfl] at f
    simp only [ite_not, ite_self, w8_nil, ok01, ite10, rf_rv, rf_ref, rf_cat, rf_lk2, rf_some, rf_none, w_add, w_cons, cr_int, cr_long, cr_ref, cr_null, is_ref, is_null, l2_int, l2_ref, l2_null, l2_none, ent_nil, ent_int, ent_ref, ent_null, ent_rf, ent_long, ok_0, ok_1, af_ret, af_void, List.tail_cons, List.tail_nil, Nat.reduceAdd, Nat.reduceLeDiff, not_false_eq_true, not_true_eq_false, and_self, and_true, true_and, ne_eq, or_true, true_or, or_false, false_or, eq_self, Nat.reduceEqDiff, ↓reduceIte, false_and, and_false, Nat.le_refl, Nat.zero_le, nz_1, nz_2, nz_3, nz_4, nz_5, nz_6, nz_8, nz_10, nz_12, nz_20, nz_30, nz_60, nz_100, mc_B, mc_Z, mc_S, mc_C, mc_K, mc_N, mc_R, mc_I, mc_L, va_Is, va_Ls, va_us, va_iss, u2_ap, sp_isLedge, sp_isLadder, sp_isPerson, sp_isLiving, sp_isLot, sp_isThere, sp_isSpan, cs_K q, cs_B q, mc_s (cs_inj q), cs_f44 q, cs_f45 q, r55_0, r55_1, r55_4, r55_8, r55_9, r55_12, r55_13, r55_14, r55_18, r55_19, r55_22, r55_23, r55_24, r55_5, r55_15, e, c0, c1]
    exact f
  · rw [if_neg c3]
    have f := @c55f (d + 10 + 1) h D (sp_sales F) q w c3 _ n1 n2 hi (sp_salesN F) 0 (Nat.zero_add _)
    rw [show Int32.ofNat 0 = (0 : Int32) from rfl] at f
    simp only [ite_not, ite_self, w8_nil, ok01, ite10, rf_rv, rf_ref, rf_cat, rf_lk2, rf_some, rf_none, w_add, w_cons, cr_int, cr_long, cr_ref, cr_null, is_ref, is_null, l2_int, l2_ref, l2_null, l2_none, ent_nil, ent_int, ent_ref, ent_null, ent_rf, ent_long, ok_0, ok_1, af_ret, af_void, List.tail_cons, List.tail_nil, Nat.reduceAdd, Nat.reduceLeDiff, not_false_eq_true, not_true_eq_false, and_self, and_true, true_and, ne_eq, or_true, true_or, or_false, false_or, eq_self, Nat.reduceEqDiff, ↓reduceIte, false_and, and_false, Nat.le_refl, Nat.zero_le, nz_1, nz_2, nz_3, nz_4, nz_5, nz_6, nz_8, nz_10, nz_12, nz_20, nz_30, nz_60, nz_100, mc_B, mc_Z, mc_S, mc_C, mc_K, mc_N, mc_R, mc_I, mc_L, va_Is, va_Ls, va_us, va_iss, u2_ap, sp_isLedge, sp_isLadder, sp_isPerson, sp_isLiving, sp_isLot, sp_isThere, sp_isSpan, cs_K q, cs_B q, mc_s (cs_inj q), cs_f44 q, cs_f45 q, r55_0, r55_1, r55_4, r55_8, r55_9, r55_12, r55_13, r55_14, r55_18, r55_19, r55_22, r55_23, r55_24, r55_5, r55_15, e, c0, c1]
    exact f
end C22
