/-! the model's contracts, 6: growing -/
set_option maxRecDepth 100000
section M6
variable {d : Nat} {h : xm_H} {M : Nat} {F : xp_F}
theorem mon_ti {x : Int32} (h : rg x 100000) : (sp_mon x).toInt = 3 * (x.toInt / 60 % 2) + x.toInt % 60 / 20 := by
  have h1 := h.1
  have h2 := h.2
  have a1 := ti_div (b := 60) h1 (by decide)
  rw [show (60 : Int32).toInt = 60 from rfl] at a1
  have a2 := ti_rem (a := x / 60) (b := 2) (by omega) (by decide)
  rw [show (2 : Int32).toInt = 2 from rfl, a1] at a2
  have a3 := ti_rem (a := x) (b := 60) h1 (by decide)
  rw [show (60 : Int32).toInt = 60 from rfl] at a3
  have a4 := ti_div (a := x - x / 60 * 60) (b := 20) (by omega) (by decide)
  rw [show (20 : Int32).toInt = 20 from rfl, a3] at a4
  have a5 := ti_mul (a := 3) (b := x / 60 - x / 60 / 2 * 2) (by rw [show (3 : Int32).toInt = 3 from rfl]; omega)
  rw [show (3 : Int32).toInt = 3 from rfl, a2] at a5
  unfold sp_mon
  rw [ti_add (by omega), a5, a4]
theorem mon_in {x : Int32} (h : rg x 100000) : xm_in (sp_mon x) 6 = true := by
  have := mon_ti h
  have := h.1
  exact in_iff.mpr (by omega)
/-- the month whose flowers there are at a height -/
def sp_bloom (x y : Int32) : Int32 := if 50 ≤ y then sp_mon x + 5 - (sp_mon x + 5) / 6 * 6 else sp_mon x
theorem bloom_in {x y : Int32} (h : rg x 100000) : xm_in (sp_bloom x y) 6 = true := by
  unfold sp_bloom
  split
  · have e := mon_ti h
    have := h.1
    have a1 := ti_add (a := sp_mon x) (b := 5) (by rw [show (5 : Int32).toInt = 5 from rfl]; omega)
    rw [show (5 : Int32).toInt = 5 from rfl] at a1
    have a2 := ti_rem (a := sp_mon x + 5) (b := 6) (by omega) (by decide)
    rw [show (6 : Int32).toInt = 6 from rfl] at a2
    exact in_iff.mpr (by omega)
  · exact mon_in h
def sp_some (F : xp_F) (l : Nat) : Int32 := mn (F 5 l * F 1 (sp_bloom (F 0 0) (F 4 l)).toNatClampNeg) (400 * F 5 l - F 6 l)
def sp_grow1 (l : Nat) (F : xp_F) : xp_F := if 0 < sp_some F l then xm_u2 (xm_u2 F 6 l (F 6 l + sp_some F l)) 7 l (F 7 l + sp_some F l * F 2 (sp_bloom (F 0 0) (F 4 l)).toNatClampNeg) else F
def sp_grow (F : xp_F) : xp_F := xp_it sp_grow1 0 (F 0 6).toNatClampNeg F
theorem grow1_0 {l : Nat} {j : Nat} : sp_grow1 l F 0 j = F 0 j := by
  unfold sp_grow1
  split <;> simp only [u2_ap, Nat.reduceEqDiff, false_and, ↓reduceIte]
theorem c99s (q : MS h M) {F0 : xp_F} (hn : rg (F0 0 6) 12) (hd : rg (F0 0 0) 100000) (k : Nat) (F : xp_F) (t : List (Option Value)) (hk : k < (F0 0 6).toNatClampNeg) (hi : ∀ j, F 0 j = F0 0 j) : ∃ t', xm_run (d + 2) 99 2 (some (.ref M) :: some (.int (Int32.ofNat k)) :: t) [] (xp_m h M F) = xm_run (d + 2) 99 2 (some (.ref M) :: some (.int (Int32.ofNat (k + 1))) :: t') [] (xp_m h M (sp_grow1 k F)) ∧ ∀ j, sp_grow1 k F 0 j = F0 0 j := by
  obtain ⟨i1, e1, c0, -, -⟩ := lp_k hn (by decide) hk
  have i2 := bloom_in (y := F 4 k) hd
  rw [← hi 0] at i2
  rw [← hi 6] at c0
  have j1 : (if 50 ≤ F 4 k then sp_mon (F 0 0) + 5 - (sp_mon (F 0 0) + 5) / 6 * 6 else sp_mon (F 0 0)) = sp_bloom (F 0 0) (F 4 k) := rfl
  have j2 : mn (F 5 k * F 1 (sp_bloom (F 0 0) (F 4 k)).toNatClampNeg) (400 * F 5 k - F 6 k) = sp_some F k := rfl
  refine ⟨some (.int (sp_bloom (F 0 0) (F 4 k))) :: some (.int (sp_some F k)) :: some (.int (400 * F 5 k - F 6 k)) :: t.tail.tail.tail, ?_, fun j => grow1_0.trans (hi j)⟩
  rw [r99_2]
  simp only [ite_not, ite_self, w8_nil, ok01, ite10, rf_rv, rf_ref, rf_cat, rf_lk2, rf_some, rf_none, w_add, w_cons, cr_int, cr_long, cr_ref, cr_null, is_ref, is_null, l2_int, l2_ref, l2_null, l2_none, ent_nil, ent_int, ent_ref, ent_null, ent_rf, ent_long, ok_0, ok_1, af_ret, af_void, List.tail_cons, List.tail_nil, Nat.reduceAdd, Nat.reduceLeDiff, not_false_eq_true, not_true_eq_false, and_self, and_true, true_and, ne_eq, or_true, true_or, or_false, false_or, eq_self, Nat.reduceEqDiff, ↓reduceIte, false_and, and_false, Nat.le_refl, Nat.zero_le, nz_1, nz_2, nz_3, nz_4, nz_5, nz_6, nz_8, nz_10, nz_12, nz_20, nz_30, nz_60, nz_100, mp_B, mp_Z, mp_S, mp_C, mp_K, mp_N, mp_L, mp_R, mp_I, mp_I0, mp_s, mp_s0, u2_ap, sp_isLedge, sp_isLadder, sp_isPerson, sp_isLiving, sp_isLot, sp_isThere, sp_isSpan, ms_K q, ms_B q, ms_f8 q, ms_f9 q, ms_f4 q, ms_f10 q, ms_f11 q, ms_f5 q, r99_3, r99_4, r99_10, r99_11, r99_14, r99_15, r99_16, r99_21, r99_22, r99_25, r99_28, r99_29, r99_32, r99_33, r99_34, r99_36, r99_7, r99_18, c100 q, c0, i1, e1]
  simp only [jn, j1]
  simp only [ite_not, ite_self, w8_nil, ok01, ite10, rf_rv, rf_ref, rf_cat, rf_lk2, rf_some, rf_none, w_add, w_cons, cr_int, cr_long, cr_ref, cr_null, is_ref, is_null, l2_int, l2_ref, l2_null, l2_none, ent_nil, ent_int, ent_ref, ent_null, ent_rf, ent_long, ok_0, ok_1, af_ret, af_void, List.tail_cons, List.tail_nil, Nat.reduceAdd, Nat.reduceLeDiff, not_false_eq_true, not_true_eq_false, and_self, and_true, true_and, ne_eq, or_true, true_or, or_false, false_or, eq_self, Nat.reduceEqDiff, ↓reduceIte, false_and, and_false, Nat.le_refl, Nat.zero_le, nz_1, nz_2, nz_3, nz_4, nz_5, nz_6, nz_8, nz_10, nz_12, nz_20, nz_30, nz_60, nz_100, mp_B, mp_Z, mp_S, mp_C, mp_K, mp_N, mp_L, mp_R, mp_I, mp_I0, mp_s, mp_s0, u2_ap, sp_isLedge, sp_isLadder, sp_isPerson, sp_isLiving, sp_isLot, sp_isThere, sp_isSpan, ms_K q, ms_B q, ms_f8 q, ms_f9 q, ms_f4 q, ms_f10 q, ms_f11 q, ms_f5 q, r99_37, r99_38, r99_39, r99_42, r99_43, r99_44, r99_45, r99_48, r99_49, r99_50, r99_51, r99_52, r99_55, r99_56, r99_59, r99_60, r99_61, r99_62, r99_63, r99_66, r99_67, r99_68, r99_69, r99_71, r99_72, r99_77, r99_78, r99_81, r99_74, i1, e1, i2]
  simp only [jn, mn_le, j2]
  by_cases c1 : 0 < sp_some F k
  · simp only [ite_not, ite_self, w8_nil, ok01, ite10, rf_rv, rf_ref, rf_cat, rf_lk2, rf_some, rf_none, w_add, w_cons, cr_int, cr_long, cr_ref, cr_null, is_ref, is_null, l2_int, l2_ref, l2_null, l2_none, ent_nil, ent_int, ent_ref, ent_null, ent_rf, ent_long, ok_0, ok_1, af_ret, af_void, List.tail_cons, List.tail_nil, Nat.reduceAdd, Nat.reduceLeDiff, not_false_eq_true, not_true_eq_false, and_self, and_true, true_and, ne_eq, or_true, true_or, or_false, false_or, eq_self, Nat.reduceEqDiff, ↓reduceIte, false_and, and_false, Nat.le_refl, Nat.zero_le, nz_1, nz_2, nz_3, nz_4, nz_5, nz_6, nz_8, nz_10, nz_12, nz_20, nz_30, nz_60, nz_100, mp_B, mp_Z, mp_S, mp_C, mp_K, mp_N, mp_L, mp_R, mp_I, mp_I0, mp_s, mp_s0, u2_ap, sp_isLedge, sp_isLadder, sp_isPerson, sp_isLiving, sp_isLot, sp_isThere, sp_isSpan, ms_K q, ms_B q, ms_f8 q, ms_f9 q, ms_f4 q, ms_f10 q, ms_f11 q, ms_f5 q, r99_83, r99_84, r99_88, r99_91, r99_92, r99_95, r99_96, r99_97, r99_98, r99_99, r99_100, r99_101, r99_102, r99_105, r99_106, r99_107, r99_108, r99_109, r99_110, r99_113, r99_114, r99_115, r99_116, r99_117, r99_118, r99_121, r99_85, i1, e1, i2, c1, nat_succ]
    rw [sp_grow1, if_pos c1]
  · simp only [ite_not, ite_self, w8_nil, ok01, ite10, rf_rv, rf_ref, rf_cat, rf_lk2, rf_some, rf_none, w_add, w_cons, cr_int, cr_long, cr_ref, cr_null, is_ref, is_null, l2_int, l2_ref, l2_null, l2_none, ent_nil, ent_int, ent_ref, ent_null, ent_rf, ent_long, ok_0, ok_1, af_ret, af_void, List.tail_cons, List.tail_nil, Nat.reduceAdd, Nat.reduceLeDiff, not_false_eq_true, not_true_eq_false, and_self, and_true, true_and, ne_eq, or_true, true_or, or_false, false_or, eq_self, Nat.reduceEqDiff, ↓reduceIte, false_and, and_false, Nat.le_refl, Nat.zero_le, nz_1, nz_2, nz_3, nz_4, nz_5, nz_6, nz_8, nz_10, nz_12, nz_20, nz_30, nz_60, nz_100, mp_B, mp_Z, mp_S, mp_C, mp_K, mp_N, mp_L, mp_R, mp_I, mp_I0, mp_s, mp_s0, u2_ap, sp_isLedge, sp_isLadder, sp_isPerson, sp_isLiving, sp_isLot, sp_isThere, sp_isSpan, ms_K q, ms_B q, ms_f8 q, ms_f9 q, ms_f4 q, ms_f10 q, ms_f11 q, ms_f5 q, r99_83, r99_84, r99_88, r99_91, r99_92, r99_95, r99_96, r99_97, r99_98, r99_99, r99_100, r99_101, r99_102, r99_105, r99_106, r99_107, r99_108, r99_109, r99_110, r99_113, r99_114, r99_115, r99_116, r99_117, r99_118, r99_121, r99_85, i1, e1, i2, c1, nat_succ]
    rw [sp_grow1, if_neg c1]
theorem c99 (q : MS h M) (hn : rg (F 0 6) 12) (hd : rg (F 0 0) 100000) : xm_met (d + 2) 99 [.ref M] (xp_m h M F) = some (.inl none, xp_m h M (sp_grow F)) := by
  obtain ⟨t, e, i⟩ := xp_loop (P := fun k F t => xm_run (d + 2) 99 2 (some (.ref M) :: some (.int (Int32.ofNat k)) :: t) [] (xp_m h M F)) (fun _ G => ∀ j, G 0 j = F 0 j) (fun k G t hk hi => c99s q hn hd k G t hk hi) _ 0 F [] (Nat.zero_add _) (fun _ => rfl)
  unfold xm_met
  simp only [ite_not, ite_self, w8_nil, ok01, ite10, rf_rv, rf_ref, rf_cat, rf_lk2, rf_some, rf_none, w_add, w_cons, cr_int, cr_long, cr_ref, cr_null, is_ref, is_null, l2_int, l2_ref, l2_null, l2_none, ent_nil, ent_int, ent_ref, ent_null, ent_rf, ent_long, ok_0, ok_1, af_ret, af_void, List.tail_cons, List.tail_nil, Nat.reduceAdd, Nat.reduceLeDiff, not_false_eq_true, not_true_eq_false, and_self, and_true, true_and, ne_eq, or_true, true_or, or_false, false_or, eq_self, Nat.reduceEqDiff, ↓reduceIte, false_and, and_false, Nat.le_refl, Nat.zero_le, nz_1, nz_2, nz_3, nz_4, nz_5, nz_6, nz_8, nz_10, nz_12, nz_20, nz_30, nz_60, nz_100, r99_0, r99_1, nat_0]
  rw [e]
  have c0 := (lp_end hn (by decide)).1
  have i6 := i 6
  rw [r99_2]
  rw [show xp_it sp_grow1 0 (F 0 6).toNatClampNeg F = sp_grow F from rfl] at i6 ⊢
  rw [← i6] at c0
  simp only [ite_not, ite_self, w8_nil, ok01, ite10, rf_rv, rf_ref, rf_cat, rf_lk2, rf_some, rf_none, w_add, w_cons, cr_int, cr_long, cr_ref, cr_null, is_ref, is_null, l2_int, l2_ref, l2_null, l2_none, ent_nil, ent_int, ent_ref, ent_null, ent_rf, ent_long, ok_0, ok_1, af_ret, af_void, List.tail_cons, List.tail_nil, Nat.reduceAdd, Nat.reduceLeDiff, not_false_eq_true, not_true_eq_false, and_self, and_true, true_and, ne_eq, or_true, true_or, or_false, false_or, eq_self, Nat.reduceEqDiff, ↓reduceIte, false_and, and_false, Nat.le_refl, Nat.zero_le, nz_1, nz_2, nz_3, nz_4, nz_5, nz_6, nz_8, nz_10, nz_12, nz_20, nz_30, nz_60, nz_100, mp_B, mp_Z, mp_S, mp_C, mp_K, mp_N, mp_L, mp_R, mp_I, mp_I0, mp_s, mp_s0, u2_ap, sp_isLedge, sp_isLadder, sp_isPerson, sp_isLiving, sp_isLot, sp_isThere, sp_isSpan, ms_K q, ms_B q, ms_f8 q, ms_f9 q, ms_f4 q, ms_f10 q, ms_f11 q, ms_f5 q, r99_3, r99_4, r99_7, r99_124, i6] at c0 ⊢
  simp only [c0, ↓reduceIte, r99_124]
end M6
