/-! the model's contracts, 19: one dies -/
set_option maxRecDepth 100000
section M19
variable {d : Nat} {h : xm_H} {M : Nat} {F : xp_F}
/-- no one, or one of sixteen -/
def pr (x : Int32) : Prop := x = -1 ∨ ∃ j, j < 16 ∧ x = Int32.ofNat j
abbrev sp_goOn (F : xp_F) (s r : Int32) : Prop := ¬ r = -1 ∧ F 43 r.toNatClampNeg = 0 ∧ s >>> (r &&& 31) &&& 1 = 0
def sp_heirW (F : xp_F) : Nat → Int32 → Int32 → Int32
  | 0, _, r => r
  | n + 1, s, r => if sp_goOn F s r then sp_heirW F n (s ||| 1 <<< (r &&& 31)) (F 40 r.toNatClampNeg) else r
theorem heirW_pr (hh : ∀ p, pr (F 40 p)) : ∀ n s r, pr r → pr (sp_heirW F n s r)
  | 0, _, _, h => h
  | n + 1, s, r, h => by
    unfold sp_heirW
    split
    · exact heirW_pr hh n _ _ (hh _)
    · exact h
theorem c156w (q : MS h M) (hh : ∀ p, pr (F 40 p)) {p : Int32} : ∀ (n : Nat) (s r : Int32), fr (bit s) 16 ≤ n → pr r → ∃ s', xm_run (d + 3) 156 38 [some (.ref M), some (.int p), some (.int s), some (.int r)] [] (xp_m h M F) = xm_run (d + 3) 156 76 [some (.ref M), some (.int p), some (.int s'), some (.int (sp_heirW F (n + 1) s r))] [] (xp_m h M F) := by
  intro n
  induction n with
  | zero =>
    intro s r hs hr
    rw [r156_38]
    unfold sp_heirW
    by_cases c1 : r = -1
    · refine ⟨s, ?_⟩
      simp only [ite_not, ite_self, w8_nil, ok01, ite10, rf_rv, rf_ref, rf_cat, rf_lk2, rf_some, rf_none, w_add, w_cons, cr_int, cr_long, cr_ref, cr_null, is_ref, is_null, l2_int, l2_ref, l2_null, l2_none, ent_nil, ent_int, ent_ref, ent_null, ent_rf, ent_long, ok_0, ok_1, af_ret, af_void, List.tail_cons, List.tail_nil, Nat.reduceAdd, Nat.reduceLeDiff, not_false_eq_true, not_true_eq_false, and_self, and_true, true_and, ne_eq, or_true, true_or, or_false, false_or, eq_self, Nat.reduceEqDiff, ↓reduceIte, false_and, and_false, Nat.le_refl, Nat.zero_le, nz_1, nz_2, nz_3, nz_4, nz_5, nz_6, nz_8, nz_10, nz_12, nz_20, nz_30, nz_60, nz_100, mp_B, mp_Z, mp_S, mp_C, mp_K, mp_N, mp_L, mp_R, mp_I, mp_I0, mp_s, mp_s0, u2_ap, sp_isLedge, sp_isLadder, sp_isPerson, sp_isLiving, sp_isLot, sp_isThere, sp_isSpan, ms_K q, ms_B q, ms_f67 q, ms_f64 q, sp_goOn, r156_39, r156_43, r156_44, r156_47, r156_48, r156_52, r156_53, r156_54, r156_55, r156_56, r156_60, r156_61, r156_62, r156_63, r156_64, r156_65, r156_66, r156_67, r156_70, r156_71, r156_72, r156_73, r156_40, r156_49, r156_57, c1]
    obtain ⟨j, hj, e⟩ := hr.resolve_left c1
    obtain ⟨i1, i2⟩ := in_nat hj (by decide)
    rw [← e] at i1 i2
    by_cases c2 : F 43 j = 0
    case neg =>
      refine ⟨s, ?_⟩
      simp only [ite_not, ite_self, w8_nil, ok01, ite10, rf_rv, rf_ref, rf_cat, rf_lk2, rf_some, rf_none, w_add, w_cons, cr_int, cr_long, cr_ref, cr_null, is_ref, is_null, l2_int, l2_ref, l2_null, l2_none, ent_nil, ent_int, ent_ref, ent_null, ent_rf, ent_long, ok_0, ok_1, af_ret, af_void, List.tail_cons, List.tail_nil, Nat.reduceAdd, Nat.reduceLeDiff, not_false_eq_true, not_true_eq_false, and_self, and_true, true_and, ne_eq, or_true, true_or, or_false, false_or, eq_self, Nat.reduceEqDiff, ↓reduceIte, false_and, and_false, Nat.le_refl, Nat.zero_le, nz_1, nz_2, nz_3, nz_4, nz_5, nz_6, nz_8, nz_10, nz_12, nz_20, nz_30, nz_60, nz_100, mp_B, mp_Z, mp_S, mp_C, mp_K, mp_N, mp_L, mp_R, mp_I, mp_I0, mp_s, mp_s0, u2_ap, sp_isLedge, sp_isLadder, sp_isPerson, sp_isLiving, sp_isLot, sp_isThere, sp_isSpan, ms_K q, ms_B q, ms_f67 q, ms_f64 q, sp_goOn, r156_39, r156_43, r156_44, r156_47, r156_48, r156_52, r156_53, r156_54, r156_55, r156_56, r156_60, r156_61, r156_62, r156_63, r156_64, r156_65, r156_66, r156_67, r156_70, r156_71, r156_72, r156_73, r156_40, r156_49, r156_57, c1, c2, i1, i2]
    by_cases c3 : s >>> (r &&& 31) &&& 1 = 0
    · exfalso
      rw [e, bit_shr (by omega)] at c3
      have := fr_lt (p := bit s) (p' := fun _ => true) (fun _ _ => rfl) c3 rfl 16 hj
      omega
    · refine ⟨s, ?_⟩
      simp only [ite_not, ite_self, w8_nil, ok01, ite10, rf_rv, rf_ref, rf_cat, rf_lk2, rf_some, rf_none, w_add, w_cons, cr_int, cr_long, cr_ref, cr_null, is_ref, is_null, l2_int, l2_ref, l2_null, l2_none, ent_nil, ent_int, ent_ref, ent_null, ent_rf, ent_long, ok_0, ok_1, af_ret, af_void, List.tail_cons, List.tail_nil, Nat.reduceAdd, Nat.reduceLeDiff, not_false_eq_true, not_true_eq_false, and_self, and_true, true_and, ne_eq, or_true, true_or, or_false, false_or, eq_self, Nat.reduceEqDiff, ↓reduceIte, false_and, and_false, Nat.le_refl, Nat.zero_le, nz_1, nz_2, nz_3, nz_4, nz_5, nz_6, nz_8, nz_10, nz_12, nz_20, nz_30, nz_60, nz_100, mp_B, mp_Z, mp_S, mp_C, mp_K, mp_N, mp_L, mp_R, mp_I, mp_I0, mp_s, mp_s0, u2_ap, sp_isLedge, sp_isLadder, sp_isPerson, sp_isLiving, sp_isLot, sp_isThere, sp_isSpan, ms_K q, ms_B q, ms_f67 q, ms_f64 q, sp_goOn, r156_39, r156_43, r156_44, r156_47, r156_48, r156_52, r156_53, r156_54, r156_55, r156_56, r156_60, r156_61, r156_62, r156_63, r156_64, r156_65, r156_66, r156_67, r156_70, r156_71, r156_72, r156_73, r156_40, r156_49, r156_57, c1, c2, c3, i1, i2]
  | succ n ih =>
    intro s r hs hr
    rw [r156_38]
    rw [sp_heirW]
    by_cases c1 : r = -1
    · refine ⟨s, ?_⟩
      simp only [ite_not, ite_self, w8_nil, ok01, ite10, rf_rv, rf_ref, rf_cat, rf_lk2, rf_some, rf_none, w_add, w_cons, cr_int, cr_long, cr_ref, cr_null, is_ref, is_null, l2_int, l2_ref, l2_null, l2_none, ent_nil, ent_int, ent_ref, ent_null, ent_rf, ent_long, ok_0, ok_1, af_ret, af_void, List.tail_cons, List.tail_nil, Nat.reduceAdd, Nat.reduceLeDiff, not_false_eq_true, not_true_eq_false, and_self, and_true, true_and, ne_eq, or_true, true_or, or_false, false_or, eq_self, Nat.reduceEqDiff, ↓reduceIte, false_and, and_false, Nat.le_refl, Nat.zero_le, nz_1, nz_2, nz_3, nz_4, nz_5, nz_6, nz_8, nz_10, nz_12, nz_20, nz_30, nz_60, nz_100, mp_B, mp_Z, mp_S, mp_C, mp_K, mp_N, mp_L, mp_R, mp_I, mp_I0, mp_s, mp_s0, u2_ap, sp_isLedge, sp_isLadder, sp_isPerson, sp_isLiving, sp_isLot, sp_isThere, sp_isSpan, ms_K q, ms_B q, ms_f67 q, ms_f64 q, sp_goOn, r156_39, r156_43, r156_44, r156_47, r156_48, r156_52, r156_53, r156_54, r156_55, r156_56, r156_60, r156_61, r156_62, r156_63, r156_64, r156_65, r156_66, r156_67, r156_70, r156_71, r156_72, r156_73, r156_40, r156_49, r156_57, c1]
    obtain ⟨j, hj, e⟩ := hr.resolve_left c1
    obtain ⟨i1, i2⟩ := in_nat hj (by decide)
    rw [← e] at i1 i2
    by_cases c2 : F 43 j = 0
    case neg =>
      refine ⟨s, ?_⟩
      simp only [ite_not, ite_self, w8_nil, ok01, ite10, rf_rv, rf_ref, rf_cat, rf_lk2, rf_some, rf_none, w_add, w_cons, cr_int, cr_long, cr_ref, cr_null, is_ref, is_null, l2_int, l2_ref, l2_null, l2_none, ent_nil, ent_int, ent_ref, ent_null, ent_rf, ent_long, ok_0, ok_1, af_ret, af_void, List.tail_cons, List.tail_nil, Nat.reduceAdd, Nat.reduceLeDiff, not_false_eq_true, not_true_eq_false, and_self, and_true, true_and, ne_eq, or_true, true_or, or_false, false_or, eq_self, Nat.reduceEqDiff, ↓reduceIte, false_and, and_false, Nat.le_refl, Nat.zero_le, nz_1, nz_2, nz_3, nz_4, nz_5, nz_6, nz_8, nz_10, nz_12, nz_20, nz_30, nz_60, nz_100, mp_B, mp_Z, mp_S, mp_C, mp_K, mp_N, mp_L, mp_R, mp_I, mp_I0, mp_s, mp_s0, u2_ap, sp_isLedge, sp_isLadder, sp_isPerson, sp_isLiving, sp_isLot, sp_isThere, sp_isSpan, ms_K q, ms_B q, ms_f67 q, ms_f64 q, sp_goOn, r156_39, r156_43, r156_44, r156_47, r156_48, r156_52, r156_53, r156_54, r156_55, r156_56, r156_60, r156_61, r156_62, r156_63, r156_64, r156_65, r156_66, r156_67, r156_70, r156_71, r156_72, r156_73, r156_40, r156_49, r156_57, c1, c2, i1, i2]
    by_cases c3 : s >>> (r &&& 31) &&& 1 = 0
    case neg =>
      refine ⟨s, ?_⟩
      simp only [ite_not, ite_self, w8_nil, ok01, ite10, rf_rv, rf_ref, rf_cat, rf_lk2, rf_some, rf_none, w_add, w_cons, cr_int, cr_long, cr_ref, cr_null, is_ref, is_null, l2_int, l2_ref, l2_null, l2_none, ent_nil, ent_int, ent_ref, ent_null, ent_rf, ent_long, ok_0, ok_1, af_ret, af_void, List.tail_cons, List.tail_nil, Nat.reduceAdd, Nat.reduceLeDiff, not_false_eq_true, not_true_eq_false, and_self, and_true, true_and, ne_eq, or_true, true_or, or_false, false_or, eq_self, Nat.reduceEqDiff, ↓reduceIte, false_and, and_false, Nat.le_refl, Nat.zero_le, nz_1, nz_2, nz_3, nz_4, nz_5, nz_6, nz_8, nz_10, nz_12, nz_20, nz_30, nz_60, nz_100, mp_B, mp_Z, mp_S, mp_C, mp_K, mp_N, mp_L, mp_R, mp_I, mp_I0, mp_s, mp_s0, u2_ap, sp_isLedge, sp_isLadder, sp_isPerson, sp_isLiving, sp_isLot, sp_isThere, sp_isSpan, ms_K q, ms_B q, ms_f67 q, ms_f64 q, sp_goOn, r156_39, r156_43, r156_44, r156_47, r156_48, r156_52, r156_53, r156_54, r156_55, r156_56, r156_60, r156_61, r156_62, r156_63, r156_64, r156_65, r156_66, r156_67, r156_70, r156_71, r156_72, r156_73, r156_40, r156_49, r156_57, c1, c2, c3, i1, i2]
    have c3' := c3
    rw [e, bit_shr (by omega)] at c3'
    have hb : ∀ k, k < 32 → bit (s ||| 1 <<< (r &&& 31)) k = (bit s k || decide (k = j)) := fun k hk => by
      rw [e]
      exact bit_set (by omega) hk
    have hl : ∀ m, m ≤ 32 → fr (bit (s ||| 1 <<< (r &&& 31))) m = fr (fun k => bit s k || decide (k = j)) m := by
      intro m
      induction m with
      | zero => intro _; rfl
      | succ m im =>
        intro hm
        unfold fr
        rw [im (by omega), hb m (by omega)]
    have hf := fr_lt (p := bit s) (p' := fun k => bit s k || decide (k = j)) (fun k hk => by rw [hk]; rfl) c3' (by simp) 16 hj
    obtain ⟨s', e'⟩ := ih (s ||| 1 <<< (r &&& 31)) (F 40 j) (by rw [hl 16 (by decide)]; omega) (hh j)
    refine ⟨s', ?_⟩
    simp only [ite_not, ite_self, w8_nil, ok01, ite10, rf_rv, rf_ref, rf_cat, rf_lk2, rf_some, rf_none, w_add, w_cons, cr_int, cr_long, cr_ref, cr_null, is_ref, is_null, l2_int, l2_ref, l2_null, l2_none, ent_nil, ent_int, ent_ref, ent_null, ent_rf, ent_long, ok_0, ok_1, af_ret, af_void, List.tail_cons, List.tail_nil, Nat.reduceAdd, Nat.reduceLeDiff, not_false_eq_true, not_true_eq_false, and_self, and_true, true_and, ne_eq, or_true, true_or, or_false, false_or, eq_self, Nat.reduceEqDiff, ↓reduceIte, false_and, and_false, Nat.le_refl, Nat.zero_le, nz_1, nz_2, nz_3, nz_4, nz_5, nz_6, nz_8, nz_10, nz_12, nz_20, nz_30, nz_60, nz_100, mp_B, mp_Z, mp_S, mp_C, mp_K, mp_N, mp_L, mp_R, mp_I, mp_I0, mp_s, mp_s0, u2_ap, sp_isLedge, sp_isLadder, sp_isPerson, sp_isLiving, sp_isLot, sp_isThere, sp_isSpan, ms_K q, ms_B q, ms_f67 q, ms_f64 q, sp_goOn, r156_39, r156_43, r156_44, r156_47, r156_48, r156_52, r156_53, r156_54, r156_55, r156_56, r156_60, r156_61, r156_62, r156_63, r156_64, r156_65, r156_66, r156_67, r156_70, r156_71, r156_72, r156_73, r156_40, r156_49, r156_57, c1, c2, c3, i1, i2]
    exact e'
end M19
