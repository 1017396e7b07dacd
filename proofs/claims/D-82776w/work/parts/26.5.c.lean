/-! the component's contracts, 5: a season's end -/
set_option maxRecDepth 100000
theorem ab_def {x : Int32} : (if 0 ≤ x then x else 0 - x) = ab x := by
  unfold ab
  by_cases h : x < 0
  · have h2 : ¬ 0 ≤ x := Int32.not_le.mpr h
    rw [if_pos h, if_neg h2, Int32.zero_sub]
  · have h2 : 0 ≤ x := Int32.not_lt.mp h
    rw [if_neg h, if_pos h2]
theorem l_z : (0 : Int32).toInt64 = 0 := Eq.trans (b := 0) (by decide) rfl
theorem l_z2 : (0 : Int64).toInt32 = 0 := Eq.trans (b := 0) (by decide) rfl
section C5
variable {d : Nat} {h : xm_H} {D : xp_D} {F : xp_F} {b : Bool}
def sq_chg (b : Bool) (F : xp_F) (l : Nat) (v y : Int32) : Int32 := if v = 0 then 0 else mx 0 (mn 9 (v + y - (if F (nu b 10) l = 0 then 0 else 3)))
theorem c186 (q : CS h D) {l : Nat} (hl : l < xd_n D 0) {v y : Int32} : xm_met (d + 2) 186 [.ref (xd_A D (rk b) l), .int v, .int y] (xp_c h D F) = some (.inl (some (.int (sq_chg b F l v y))), xp_c h D F) := by
  have o1 := cs_Z q b hl
  unfold xm_met sq_chg
  by_cases c1 : v = 0
  · simp only [ite_not, ite_self, w8_nil, ok01, ite10, rf_rv, rf_ref, rf_cat, rf_lk2, rf_some, rf_none, w_add, w_cons, cr_int, cr_long, cr_ref, cr_null, is_ref, is_null, l2_int, l2_ref, l2_null, l2_none, ent_nil, ent_int, ent_ref, ent_null, ent_rf, ent_long, ok_0, ok_1, af_ret, af_void, List.tail_cons, List.tail_nil, Nat.reduceAdd, Nat.reduceLeDiff, not_false_eq_true, not_true_eq_false, and_self, and_true, true_and, ne_eq, or_true, true_or, or_false, false_or, eq_self, Nat.reduceEqDiff, ↓reduceIte, false_and, and_false, Nat.le_refl, Nat.zero_le, nz_1, nz_2, nz_3, nz_4, nz_5, nz_6, nz_8, nz_10, nz_12, nz_20, nz_30, nz_60, nz_100, mc_B, mc_Z, mc_S, mc_C, mc_K, mc_N, mc_R, mc_I, mc_L, va_Is, va_Ls, va_us, va_iss, u2_ap, sp_isLedge, sp_isLadder, sp_isPerson, sp_isLiving, sp_isLot, sp_isThere, sp_isSpan, r186_0, r186_4, r186_5, r186_1, r186_30, c1]
  · by_cases c2 : F (nu b 10) l = 0
    · simp only [ite_not, ite_self, w8_nil, ok01, ite10, rf_rv, rf_ref, rf_cat, rf_lk2, rf_some, rf_none, w_add, w_cons, cr_int, cr_long, cr_ref, cr_null, is_ref, is_null, l2_int, l2_ref, l2_null, l2_none, ent_nil, ent_int, ent_ref, ent_null, ent_rf, ent_long, ok_0, ok_1, af_ret, af_void, List.tail_cons, List.tail_nil, Nat.reduceAdd, Nat.reduceLeDiff, not_false_eq_true, not_true_eq_false, and_self, and_true, true_and, ne_eq, or_true, true_or, or_false, false_or, eq_self, Nat.reduceEqDiff, ↓reduceIte, false_and, and_false, Nat.le_refl, Nat.zero_le, nz_1, nz_2, nz_3, nz_4, nz_5, nz_6, nz_8, nz_10, nz_12, nz_20, nz_30, nz_60, nz_100, mc_B, mc_Z, mc_S, mc_C, mc_K, mc_N, mc_R, mc_I, mc_L, va_Is, va_Ls, va_us, va_iss, u2_ap, sp_isLedge, sp_isLadder, sp_isPerson, sp_isLiving, sp_isLot, sp_isThere, sp_isSpan, r186_0, r186_4, r186_5, r186_8, r186_9, r186_10, r186_11, r186_12, r186_18, r186_19, r186_22, r186_23, r186_24, r186_25, r186_27, r186_30, r186_1, r186_15, c1, c2, o1, c12]
    · simp only [ite_not, ite_self, w8_nil, ok01, ite10, rf_rv, rf_ref, rf_cat, rf_lk2, rf_some, rf_none, w_add, w_cons, cr_int, cr_long, cr_ref, cr_null, is_ref, is_null, l2_int, l2_ref, l2_null, l2_none, ent_nil, ent_int, ent_ref, ent_null, ent_rf, ent_long, ok_0, ok_1, af_ret, af_void, List.tail_cons, List.tail_nil, Nat.reduceAdd, Nat.reduceLeDiff, not_false_eq_true, not_true_eq_false, and_self, and_true, true_and, ne_eq, or_true, true_or, or_false, false_or, eq_self, Nat.reduceEqDiff, ↓reduceIte, false_and, and_false, Nat.le_refl, Nat.zero_le, nz_1, nz_2, nz_3, nz_4, nz_5, nz_6, nz_8, nz_10, nz_12, nz_20, nz_30, nz_60, nz_100, mc_B, mc_Z, mc_S, mc_C, mc_K, mc_N, mc_R, mc_I, mc_L, va_Is, va_Ls, va_us, va_iss, u2_ap, sp_isLedge, sp_isLadder, sp_isPerson, sp_isLiving, sp_isLot, sp_isThere, sp_isSpan, r186_0, r186_4, r186_5, r186_8, r186_9, r186_10, r186_11, r186_12, r186_18, r186_19, r186_22, r186_23, r186_24, r186_25, r186_27, r186_30, r186_1, r186_15, c1, c2, o1, c12]
def sq_by (F : xp_F) (b : Bool) (l : Nat) : Int32 := if F (nu b 5) l < 50 then (if F (nu b 5) l < 25 then -2 else 0) else 1
def sq_se1 (b : Bool) (l : Nat) (F : xp_F) : xp_F := xm_u2 (xm_u2 (xm_u2 (xm_u2 (xm_u2 (xm_u2 (xm_u2 (xm_u2 F (nu b 3) l (sq_chg b F l (F (nu b 3) l) (sq_by F b l))) (nu b 6) l (sq_chg b F l (F (nu b 6) l) (-2))) (nu b 7) l (mx 2 (sq_chg b F l (F (nu b 7) l) 1))) (nu b 4) l 0) (nu b 8) l 0) (nu b 5) l 100) (nu b 9) l 0) (nu b 10) l 0
theorem chg_ag {G : xp_F} {l : Nat} {v y : Int32} (e : G (nu b 10) l = F (nu b 10) l) : sq_chg b G l v y = sq_chg b F l v y := by
  unfold sq_chg
  rw [e]
theorem c185 (q : CS h D) {l : Nat} (hl : l < xd_n D 0) : xm_met (d + 3) 185 [.ref (xd_A D (rk b) l)] (xp_c h D F) = some (.inl none, xp_c h D (sq_se1 b l F)) := by
  have o1 := cs_Z q b hl
  have j1 : (if F (nu b 5) l < 50 then (if F (nu b 5) l < 25 then (-2 : Int32) else 0) else 1) = sq_by F b l := rfl
  have e1 := fun (G : xp_F) (v y : Int32) => @c186 d h D G b q l hl v y
  have a1 : ∀ (x v y : Int32), sq_chg b (xm_u2 F (nu b 3) l x) l v y = sq_chg b F l v y := fun x v y => chg_ag (by simp only [u2_ap, nn_10_3, false_and, ↓reduceIte])
  have a2 : ∀ (x x2 v y : Int32), sq_chg b (xm_u2 (xm_u2 F (nu b 3) l x) (nu b 6) l x2) l v y = sq_chg b F l v y := fun x x2 v y => chg_ag (by simp only [u2_ap, nn_10_3, nn_10_6, false_and, ↓reduceIte])
  unfold xm_met
  simp only [ite_not, ite_self, w8_nil, ok01, ite10, rf_rv, rf_ref, rf_cat, rf_lk2, rf_some, rf_none, w_add, w_cons, cr_int, cr_long, cr_ref, cr_null, is_ref, is_null, l2_int, l2_ref, l2_null, l2_none, ent_nil, ent_int, ent_ref, ent_null, ent_rf, ent_long, ok_0, ok_1, af_ret, af_void, List.tail_cons, List.tail_nil, Nat.reduceAdd, Nat.reduceLeDiff, not_false_eq_true, not_true_eq_false, and_self, and_true, true_and, ne_eq, or_true, true_or, or_false, false_or, eq_self, Nat.reduceEqDiff, ↓reduceIte, false_and, and_false, Nat.le_refl, Nat.zero_le, nz_1, nz_2, nz_3, nz_4, nz_5, nz_6, nz_8, nz_10, nz_12, nz_20, nz_30, nz_60, nz_100, mc_B, mc_Z, mc_S, mc_C, mc_K, mc_N, mc_R, mc_I, mc_L, va_Is, va_Ls, va_us, va_iss, u2_ap, sp_isLedge, sp_isLadder, sp_isPerson, sp_isLiving, sp_isLot, sp_isThere, sp_isSpan, mc_s (cs_inj q), nn_1_3, nn_1_4, nn_1_5, nn_1_6, nn_1_7, nn_1_8, nn_1_9, nn_1_10, nn_3_1, nn_3_4, nn_3_5, nn_3_6, nn_3_7, nn_3_8, nn_3_9, nn_3_10, nn_4_1, nn_4_3, nn_4_5, nn_4_6, nn_4_7, nn_4_8, nn_4_9, nn_4_10, nn_5_1, nn_5_3, nn_5_4, nn_5_6, nn_5_7, nn_5_8, nn_5_9, nn_5_10, nn_6_1, nn_6_3, nn_6_4, nn_6_5, nn_6_7, nn_6_8, nn_6_9, nn_6_10, nn_7_1, nn_7_3, nn_7_4, nn_7_5, nn_7_6, nn_7_8, nn_7_9, nn_7_10, nn_8_1, nn_8_3, nn_8_4, nn_8_5, nn_8_6, nn_8_7, nn_8_9, nn_8_10, nn_9_1, nn_9_3, nn_9_4, nn_9_5, nn_9_6, nn_9_7, nn_9_8, nn_9_10, nn_10_1, nn_10_3, nn_10_4, nn_10_5, nn_10_6, nn_10_7, nn_10_8, nn_10_9, nz_1_0, nz_1_1, nz_1_2, nz_3_0, nz_3_1, nz_3_2, nz_4_0, nz_4_1, nz_4_2, nz_5_0, nz_5_1, nz_5_2, nz_6_0, nz_6_1, nz_6_2, nz_7_0, nz_7_1, nz_7_2, nz_8_0, nz_8_1, nz_8_2, nz_9_0, nz_9_1, nz_9_2, nz_10_0, nz_10_1, nz_10_2, r185_0, r185_1, r185_2, r185_3, r185_6, r185_7, r185_10, r185_15, r185_16, r185_19, r185_20, r185_23, r185_28, r185_29, r185_32, r185_12, r185_25, o1]
  simp only [jn, j1]
  simp only [ite_not, ite_self, w8_nil, ok01, ite10, rf_rv, rf_ref, rf_cat, rf_lk2, rf_some, rf_none, w_add, w_cons, cr_int, cr_long, cr_ref, cr_null, is_ref, is_null, l2_int, l2_ref, l2_null, l2_none, ent_nil, ent_int, ent_ref, ent_null, ent_rf, ent_long, ok_0, ok_1, af_ret, af_void, List.tail_cons, List.tail_nil, Nat.reduceAdd, Nat.reduceLeDiff, not_false_eq_true, not_true_eq_false, and_self, and_true, true_and, ne_eq, or_true, true_or, or_false, false_or, eq_self, Nat.reduceEqDiff, ↓reduceIte, false_and, and_false, Nat.le_refl, Nat.zero_le, nz_1, nz_2, nz_3, nz_4, nz_5, nz_6, nz_8, nz_10, nz_12, nz_20, nz_30, nz_60, nz_100, mc_B, mc_Z, mc_S, mc_C, mc_K, mc_N, mc_R, mc_I, mc_L, va_Is, va_Ls, va_us, va_iss, u2_ap, sp_isLedge, sp_isLadder, sp_isPerson, sp_isLiving, sp_isLot, sp_isThere, sp_isSpan, mc_s (cs_inj q), mc_sL (cs_inj q), nn_1_3, nn_1_4, nn_1_5, nn_1_6, nn_1_7, nn_1_8, nn_1_9, nn_1_10, nn_3_1, nn_3_4, nn_3_5, nn_3_6, nn_3_7, nn_3_8, nn_3_9, nn_3_10, nn_4_1, nn_4_3, nn_4_5, nn_4_6, nn_4_7, nn_4_8, nn_4_9, nn_4_10, nn_5_1, nn_5_3, nn_5_4, nn_5_6, nn_5_7, nn_5_8, nn_5_9, nn_5_10, nn_6_1, nn_6_3, nn_6_4, nn_6_5, nn_6_7, nn_6_8, nn_6_9, nn_6_10, nn_7_1, nn_7_3, nn_7_4, nn_7_5, nn_7_6, nn_7_8, nn_7_9, nn_7_10, nn_8_1, nn_8_3, nn_8_4, nn_8_5, nn_8_6, nn_8_7, nn_8_9, nn_8_10, nn_9_1, nn_9_3, nn_9_4, nn_9_5, nn_9_6, nn_9_7, nn_9_8, nn_9_10, nn_10_1, nn_10_3, nn_10_4, nn_10_5, nn_10_6, nn_10_7, nn_10_8, nn_10_9, nz_1_0, nz_1_1, nz_1_2, nz_3_0, nz_3_1, nz_3_2, nz_4_0, nz_4_1, nz_4_2, nz_5_0, nz_5_1, nz_5_2, nz_6_0, nz_6_1, nz_6_2, nz_7_0, nz_7_1, nz_7_2, nz_8_0, nz_8_1, nz_8_2, nz_9_0, nz_9_1, nz_9_2, nz_10_0, nz_10_1, nz_10_2, r185_34, r185_37, r185_40, r185_41, r185_42, r185_43, r185_46, r185_48, r185_51, r185_54, r185_55, r185_56, r185_57, r185_58, r185_61, r185_62, r185_65, r185_68, r185_71, r185_72, r185_73, r185_76, r185_77, r185_78, r185_81, r185_82, r185_84, r185_87, r185_88, r185_89, r185_92, r185_93, r185_94, r185_97, ent_nil, o1, e1, a1, a2, mx_def, l_z, l_z2]
  rfl
def sq_apart (b : Bool) (F : xp_F) (l o : Nat) : Int32 := ab (F (nu b 0) l - F (nu b 0) o) + ab (F (nu b 1) l - F (nu b 1) o) / 10
theorem c187 (q : CS h D) {l o : Nat} (hl : l < xd_n D 0) (ho : o < xd_n D 0) : xm_met (d + 1) 187 [.ref (xd_A D (rk b) l), .ref (xd_A D (rk b) o)] (xp_c h D F) = some (.inl (some (.int (sq_apart b F l o))), xp_c h D F) := by
  have o1 := cs_Z q b hl
  have o2 := cs_Z q b ho
  unfold xm_met sq_apart
  simp only [ite_not, ite_self, w8_nil, ok01, ite10, rf_rv, rf_ref, rf_cat, rf_lk2, rf_some, rf_none, w_add, w_cons, cr_int, cr_long, cr_ref, cr_null, is_ref, is_null, l2_int, l2_ref, l2_null, l2_none, ent_nil, ent_int, ent_ref, ent_null, ent_rf, ent_long, ok_0, ok_1, af_ret, af_void, List.tail_cons, List.tail_nil, Nat.reduceAdd, Nat.reduceLeDiff, not_false_eq_true, not_true_eq_false, and_self, and_true, true_and, ne_eq, or_true, true_or, or_false, false_or, eq_self, Nat.reduceEqDiff, ↓reduceIte, false_and, and_false, Nat.le_refl, Nat.zero_le, nz_1, nz_2, nz_3, nz_4, nz_5, nz_6, nz_8, nz_10, nz_12, nz_20, nz_30, nz_60, nz_100, mc_B, mc_Z, mc_S, mc_C, mc_K, mc_N, mc_R, mc_I, mc_L, va_Is, va_Ls, va_us, va_iss, u2_ap, sp_isLedge, sp_isLadder, sp_isPerson, sp_isLiving, sp_isLot, sp_isThere, sp_isSpan, r187_0, r187_1, r187_4, r187_5, r187_8, r187_9, r187_12, r187_13, r187_16, r187_17, r187_20, r187_21, r187_24, r187_26, r187_27, r187_28, ent_nil, o1, o2, ab_def]
def sq_near (b : Bool) (F : xp_F) (l o : Nat) (x : Int32) : Int32 := if 6 ≤ F (nu b 3) o ∧ (x = -1 ∨ sq_apart b F l o < sq_apart b F l x.toNatClampNeg) then Int32.ofNat o else x
def sq_nearest (b : Bool) (n : Nat) (F : xp_F) (l : Nat) : Int32 := xp_it (sq_near b F l) 0 n (-1)
def ofl (n : Nat) (x : Int32) : Prop := x = -1 ∨ ∃ j, j < n ∧ x = Int32.ofNat j
theorem near_ofl {n l o : Nat} {x : Int32} (ho : o < n) (hx : ofl n x) : ofl n (sq_near b F l o x) := by
  unfold sq_near
  split
  · exact Or.inr ⟨o, ho, rfl⟩
  · exact hx
theorem c13 (q : CS h D) (hn : F 0 6 = Int32.ofNat (xd_n D 0)) {l : Nat} (hl : l < xd_n D 0) : xm_met (d + 2) 13 [.ref (xd_X D), .ref (xd_A D 0 (ra b)), .int (Int32.ofNat l)] (xp_c h D F) = some (.inl (some (.int (sq_nearest b (xd_n D 0) F l))), xp_c h D F) ∧ ofl (xd_n D 0) (sq_nearest b (xd_n D 0) F l) := by
  have n12 := (cs_n q).1
  have za := cs_ZA q b
  obtain ⟨l1, l2⟩ := in_nat (show l < 12 by omega) (by decide)
  have o0 := cs_Z q b hl
  obtain ⟨t, e, i⟩ := xp_loop (P := fun k x t => xm_run (d + 2) 13 5 (some (.ref (xd_X D)) :: some (.ref (xd_A D 0 (ra b))) :: some (.int (Int32.ofNat l)) :: some (.int x) :: some (.int (Int32.ofNat k)) :: t) [] (xp_c h D F)) (n := xd_n D 0) (fun _ x => ofl (xd_n D 0) x) (f := sq_near b F l) (fun k x t hk hx => by
    have c0 := lt_nat hk (by omega)
    obtain ⟨j1, e1⟩ := in_nat (show k < 12 by omega) (by decide)
    have o1 := cs_Z q b hk
    have f1 := @c187 d h D F b q l k hl hk
    refine ⟨t, ?_, near_ofl hk hx⟩
    show xm_run _ _ _ _ _ _ = _
    rw [r13_5]
    unfold sq_near
    by_cases c1 : 6 ≤ F (nu b 3) k
    case neg =>
      have c1' : F (nu b 3) k < 6 := Int32.not_le.mp c1
      simp only [ite_not, ite_self, w8_nil, ok01, ite10, rf_rv, rf_ref, rf_cat, rf_lk2, rf_some, rf_none, w_add, w_cons, cr_int, cr_long, cr_ref, cr_null, is_ref, is_null, l2_int, l2_ref, l2_null, l2_none, ent_nil, ent_int, ent_ref, ent_null, ent_rf, ent_long, ok_0, ok_1, af_ret, af_void, List.tail_cons, List.tail_nil, Nat.reduceAdd, Nat.reduceLeDiff, not_false_eq_true, not_true_eq_false, and_self, and_true, true_and, ne_eq, or_true, true_or, or_false, false_or, eq_self, Nat.reduceEqDiff, ↓reduceIte, false_and, and_false, Nat.le_refl, Nat.zero_le, nz_1, nz_2, nz_3, nz_4, nz_5, nz_6, nz_8, nz_10, nz_12, nz_20, nz_30, nz_60, nz_100, mc_B, mc_Z, mc_S, mc_C, mc_K, mc_N, mc_R, mc_I, mc_L, va_Is, va_Ls, va_us, va_iss, u2_ap, sp_isLedge, sp_isLadder, sp_isPerson, sp_isLiving, sp_isLot, sp_isThere, sp_isSpan, cs_K q, cs_B q, mc_s (cs_inj q), cs_f4 q, r13_7, r13_8, r13_14, r13_15, r13_17, r13_18, r13_21, r13_26, r13_27, r13_31, r13_32, r13_33, r13_34, r13_35, r13_37, r13_38, r13_41, r13_42, r13_43, r13_44, r13_45, r13_46, r13_47, r13_53, r13_55, r13_56, r13_59, r13_11, r13_23, r13_28, r13_50, hn, c0, j1, e1, o1, za, c1, c1', nat_succ]
    have c1' : ¬ F (nu b 3) k < 6 := Int32.not_lt.mpr c1
    by_cases c3 : x = -1
    · simp only [ite_not, ite_self, w8_nil, ok01, ite10, rf_rv, rf_ref, rf_cat, rf_lk2, rf_some, rf_none, w_add, w_cons, cr_int, cr_long, cr_ref, cr_null, is_ref, is_null, l2_int, l2_ref, l2_null, l2_none, ent_nil, ent_int, ent_ref, ent_null, ent_rf, ent_long, ok_0, ok_1, af_ret, af_void, List.tail_cons, List.tail_nil, Nat.reduceAdd, Nat.reduceLeDiff, not_false_eq_true, not_true_eq_false, and_self, and_true, true_and, ne_eq, or_true, true_or, or_false, false_or, eq_self, Nat.reduceEqDiff, ↓reduceIte, false_and, and_false, Nat.le_refl, Nat.zero_le, nz_1, nz_2, nz_3, nz_4, nz_5, nz_6, nz_8, nz_10, nz_12, nz_20, nz_30, nz_60, nz_100, mc_B, mc_Z, mc_S, mc_C, mc_K, mc_N, mc_R, mc_I, mc_L, va_Is, va_Ls, va_us, va_iss, u2_ap, sp_isLedge, sp_isLadder, sp_isPerson, sp_isLiving, sp_isLot, sp_isThere, sp_isSpan, cs_K q, cs_B q, mc_s (cs_inj q), cs_f4 q, r13_7, r13_8, r13_14, r13_15, r13_17, r13_18, r13_21, r13_26, r13_27, r13_31, r13_32, r13_33, r13_34, r13_35, r13_37, r13_38, r13_41, r13_42, r13_43, r13_44, r13_45, r13_46, r13_47, r13_53, r13_55, r13_56, r13_59, r13_11, r13_23, r13_28, r13_50, hn, c0, j1, e1, o1, za, c1, c1', c3, nat_succ]
    obtain ⟨j, hj, ej⟩ := hx.resolve_left c3
    obtain ⟨j3, j4⟩ := in_nat (show j < 12 by omega) (by decide)
    rw [← ej] at j3 j4
    have o2 := cs_Z q b hj
    have f2 := @c187 d h D F b q l j hl hj
    by_cases c4 : sq_apart b F l k < sq_apart b F l j
    · have c4' : ¬ sq_apart b F l j ≤ sq_apart b F l k := Int32.not_le.mpr c4
      simp only [ite_not, ite_self, w8_nil, ok01, ite10, rf_rv, rf_ref, rf_cat, rf_lk2, rf_some, rf_none, w_add, w_cons, cr_int, cr_long, cr_ref, cr_null, is_ref, is_null, l2_int, l2_ref, l2_null, l2_none, ent_nil, ent_int, ent_ref, ent_null, ent_rf, ent_long, ok_0, ok_1, af_ret, af_void, List.tail_cons, List.tail_nil, Nat.reduceAdd, Nat.reduceLeDiff, not_false_eq_true, not_true_eq_false, and_self, and_true, true_and, ne_eq, or_true, true_or, or_false, false_or, eq_self, Nat.reduceEqDiff, ↓reduceIte, false_and, and_false, Nat.le_refl, Nat.zero_le, nz_1, nz_2, nz_3, nz_4, nz_5, nz_6, nz_8, nz_10, nz_12, nz_20, nz_30, nz_60, nz_100, mc_B, mc_Z, mc_S, mc_C, mc_K, mc_N, mc_R, mc_I, mc_L, va_Is, va_Ls, va_us, va_iss, u2_ap, sp_isLedge, sp_isLadder, sp_isPerson, sp_isLiving, sp_isLot, sp_isThere, sp_isSpan, cs_K q, cs_B q, mc_s (cs_inj q), cs_f4 q, r13_7, r13_8, r13_14, r13_15, r13_17, r13_18, r13_21, r13_26, r13_27, r13_31, r13_32, r13_33, r13_34, r13_35, r13_37, r13_38, r13_41, r13_42, r13_43, r13_44, r13_45, r13_46, r13_47, r13_53, r13_55, r13_56, r13_59, r13_11, r13_23, r13_28, r13_50, hn, c0, j1, e1, l1, l2, o0, o1, o2, j3, j4, za, c1, c1', c3, c4, c4', f1, f2, nat_succ]
    · have c4' : sq_apart b F l j ≤ sq_apart b F l k := Int32.not_lt.mp c4
      simp only [ite_not, ite_self, w8_nil, ok01, ite10, rf_rv, rf_ref, rf_cat, rf_lk2, rf_some, rf_none, w_add, w_cons, cr_int, cr_long, cr_ref, cr_null, is_ref, is_null, l2_int, l2_ref, l2_null, l2_none, ent_nil, ent_int, ent_ref, ent_null, ent_rf, ent_long, ok_0, ok_1, af_ret, af_void, List.tail_cons, List.tail_nil, Nat.reduceAdd, Nat.reduceLeDiff, not_false_eq_true, not_true_eq_false, and_self, and_true, true_and, ne_eq, or_true, true_or, or_false, false_or, eq_self, Nat.reduceEqDiff, ↓reduceIte, false_and, and_false, Nat.le_refl, Nat.zero_le, nz_1, nz_2, nz_3, nz_4, nz_5, nz_6, nz_8, nz_10, nz_12, nz_20, nz_30, nz_60, nz_100, mc_B, mc_Z, mc_S, mc_C, mc_K, mc_N, mc_R, mc_I, mc_L, va_Is, va_Ls, va_us, va_iss, u2_ap, sp_isLedge, sp_isLadder, sp_isPerson, sp_isLiving, sp_isLot, sp_isThere, sp_isSpan, cs_K q, cs_B q, mc_s (cs_inj q), cs_f4 q, r13_7, r13_8, r13_14, r13_15, r13_17, r13_18, r13_21, r13_26, r13_27, r13_31, r13_32, r13_33, r13_34, r13_35, r13_37, r13_38, r13_41, r13_42, r13_43, r13_44, r13_45, r13_46, r13_47, r13_53, r13_55, r13_56, r13_59, r13_11, r13_23, r13_28, r13_50, hn, c0, j1, e1, l1, l2, o0, o1, o2, j3, j4, za, c1, c1', c3, c4, c4', f1, f2, nat_succ]) _ 0 (-1) [] (Nat.zero_add _) (Or.inl rfl)
  refine ⟨?_, i⟩
  have c0 : Int32.ofNat (xd_n D 0) ≤ Int32.ofNat (xd_n D 0) := Int32.le_refl _
  rw [show Int32.ofNat 0 = (0 : Int32) from rfl] at e
  unfold xm_met sq_nearest
  simp only [ite_not, ite_self, w8_nil, ok01, ite10, rf_rv, rf_ref, rf_cat, rf_lk2, rf_some, rf_none, w_add, w_cons, cr_int, cr_long, cr_ref, cr_null, is_ref, is_null, l2_int, l2_ref, l2_null, l2_none, ent_nil, ent_int, ent_ref, ent_null, ent_rf, ent_long, ok_0, ok_1, af_ret, af_void, List.tail_cons, List.tail_nil, Nat.reduceAdd, Nat.reduceLeDiff, not_false_eq_true, not_true_eq_false, and_self, and_true, true_and, ne_eq, or_true, true_or, or_false, false_or, eq_self, Nat.reduceEqDiff, ↓reduceIte, false_and, and_false, Nat.le_refl, Nat.zero_le, nz_1, nz_2, nz_3, nz_4, nz_5, nz_6, nz_8, nz_10, nz_12, nz_20, nz_30, nz_60, nz_100, r13_0, r13_1, r13_2, r13_3]
  rw [e, r13_5]
  simp only [ite_not, ite_self, w8_nil, ok01, ite10, rf_rv, rf_ref, rf_cat, rf_lk2, rf_some, rf_none, w_add, w_cons, cr_int, cr_long, cr_ref, cr_null, is_ref, is_null, l2_int, l2_ref, l2_null, l2_none, ent_nil, ent_int, ent_ref, ent_null, ent_rf, ent_long, ok_0, ok_1, af_ret, af_void, List.tail_cons, List.tail_nil, Nat.reduceAdd, Nat.reduceLeDiff, not_false_eq_true, not_true_eq_false, and_self, and_true, true_and, ne_eq, or_true, true_or, or_false, false_or, eq_self, Nat.reduceEqDiff, ↓reduceIte, false_and, and_false, Nat.le_refl, Nat.zero_le, nz_1, nz_2, nz_3, nz_4, nz_5, nz_6, nz_8, nz_10, nz_12, nz_20, nz_30, nz_60, nz_100, mc_B, mc_Z, mc_S, mc_C, mc_K, mc_N, mc_R, mc_I, mc_L, va_Is, va_Ls, va_us, va_iss, u2_ap, sp_isLedge, sp_isLadder, sp_isPerson, sp_isLiving, sp_isLot, sp_isThere, sp_isSpan, cs_K q, cs_B q, mc_s (cs_inj q), cs_f4 q, r13_7, r13_8, r13_11, r13_62, r13_63, hn, c0]
def sq_sw1 (b : Bool) (n : Nat) (l : Nat) (F : xp_F) : xp_F := if F (nu b 3) l = 0 ∧ ¬ sq_nearest b n F l = -1 then xm_u2 (xm_u2 F (nu b 3) (sq_nearest b n F l).toNatClampNeg (F (nu b 3) (sq_nearest b n F l).toNatClampNeg - 2)) (nu b 3) l 2 else F
def sq_ends (b : Bool) (n : Nat) (F : xp_F) : xp_F := xp_it (sq_sw1 b n) 0 n (xp_it (sq_se1 b) 0 n F)
theorem se1_o {l o k : Nat} (h : ∀ j, 3 ≤ j → j ≤ 10 → ¬ o = nu b j) : sq_se1 b l F o k = F o k := by
  unfold sq_se1
  rw [u2_ap, if_neg (fun z => h 10 (by decide) (by decide) z.1), u2_ap, if_neg (fun z => h 9 (by decide) (by decide) z.1), u2_ap, if_neg (fun z => h 5 (by decide) (by decide) z.1), u2_ap, if_neg (fun z => h 8 (by decide) (by decide) z.1), u2_ap, if_neg (fun z => h 4 (by decide) (by decide) z.1), u2_ap, if_neg (fun z => h 7 (by decide) (by decide) z.1), u2_ap, if_neg (fun z => h 6 (by decide) (by decide) z.1), u2_ap, if_neg (fun z => h 3 (by decide) (by decide) z.1)]
theorem sqw_o {n l o k : Nat} (h : ¬ o = nu b 3) : sq_sw1 b n l F o k = F o k := by
  unfold sq_sw1
  split
  · rw [u2_ap, if_neg (fun z => h z.1), u2_ap, if_neg (fun z => h z.1)]
  · rfl
theorem no0 {j : Nat} (hj : j ≤ 10) : ¬ 0 = nu b j := by
  have := @nu_ge b j hj
  omega
theorem c11 (q : CS h D) (hn : F 0 6 = Int32.ofNat (xd_n D 0)) : xm_met (d + 4) 11 [.ref (xd_X D), .ref (xd_A D 0 (ra b))] (xp_c h D F) = some (.inl none, xp_c h D (sq_ends b (xd_n D 0) F)) := by
  have n12 := (cs_n q).1
  have za := cs_ZA q b
  have cz : Int32.ofNat (xd_n D 0) ≤ Int32.ofNat (xd_n D 0) := Int32.le_refl _
  obtain ⟨t, e, i⟩ := xp_loop (P := fun k G t => xm_run (d + 4) 11 2 (some (.ref (xd_X D)) :: some (.ref (xd_A D 0 (ra b))) :: some (.int (Int32.ofNat k)) :: t) [] (xp_c h D G)) (n := xd_n D 0) (fun _ (G : xp_F) => G 0 6 = Int32.ofNat (xd_n D 0)) (f := sq_se1 b) (fun k G t hk hG => by
    have c0 := lt_nat hk (by omega)
    obtain ⟨j1, e1⟩ := in_nat (show k < 12 by omega) (by decide)
    have o1 := cs_Z q b hk
    have e2 := @c185 d h D G b q k hk
    refine ⟨t, ?_, (se1_o (fun j _ h2 => no0 h2)).trans hG⟩
    show xm_run _ _ _ _ _ _ = _
    rw [r11_2]
    simp only [ite_not, ite_self, w8_nil, ok01, ite10, rf_rv, rf_ref, rf_cat, rf_lk2, rf_some, rf_none, w_add, w_cons, cr_int, cr_long, cr_ref, cr_null, is_ref, is_null, l2_int, l2_ref, l2_null, l2_none, ent_nil, ent_int, ent_ref, ent_null, ent_rf, ent_long, ok_0, ok_1, af_ret, af_void, List.tail_cons, List.tail_nil, Nat.reduceAdd, Nat.reduceLeDiff, not_false_eq_true, not_true_eq_false, and_self, and_true, true_and, ne_eq, or_true, true_or, or_false, false_or, eq_self, Nat.reduceEqDiff, ↓reduceIte, false_and, and_false, Nat.le_refl, Nat.zero_le, nz_1, nz_2, nz_3, nz_4, nz_5, nz_6, nz_8, nz_10, nz_12, nz_20, nz_30, nz_60, nz_100, mc_B, mc_Z, mc_S, mc_C, mc_K, mc_N, mc_R, mc_I, mc_L, va_Is, va_Ls, va_us, va_iss, u2_ap, sp_isLedge, sp_isLadder, sp_isPerson, sp_isLiving, sp_isLot, sp_isThere, sp_isSpan, cs_K q, cs_B q, mc_s (cs_inj q), cs_f4 q, r11_3, r11_4, r11_10, r11_11, r11_12, r11_13, r11_16, r11_19, r11_7, hG, c0, j1, e1, o1, za, e2, nat_succ]) _ 0 F [] (Nat.zero_add _) hn
  obtain ⟨t2, e3, i2⟩ := xp_loop (P := fun k G t => xm_run (d + 4) 11 24 (some (.ref (xd_X D)) :: some (.ref (xd_A D 0 (ra b))) :: some (.int (Int32.ofNat k)) :: t) [] (xp_c h D G)) (n := xd_n D 0) (fun _ (G : xp_F) => G 0 6 = Int32.ofNat (xd_n D 0)) (f := sq_sw1 b (xd_n D 0)) (fun k G t hk hG => by
    have c0 := lt_nat hk (by omega)
    obtain ⟨j1, e1⟩ := in_nat (show k < 12 by omega) (by decide)
    have o1 := cs_Z q b hk
    obtain ⟨e2, f2⟩ := @c13 (d + 1) h D G b q hG k hk
    have hI : sq_sw1 b (xd_n D 0) k G 0 6 = Int32.ofNat (xd_n D 0) := (sqw_o (no0 (by decide))).trans hG
    unfold sq_sw1 at hI ⊢
    by_cases c1 : G (nu b 3) k = 0
    case neg =>
      refine ⟨some (.int (-1)) :: t.tail, ?_, hI⟩
      show xm_run _ _ _ _ _ _ = _
      rw [r11_24]
      simp only [ite_not, ite_self, w8_nil, ok01, ite10, rf_rv, rf_ref, rf_cat, rf_lk2, rf_some, rf_none, w_add, w_cons, cr_int, cr_long, cr_ref, cr_null, is_ref, is_null, l2_int, l2_ref, l2_null, l2_none, ent_nil, ent_int, ent_ref, ent_null, ent_rf, ent_long, ok_0, ok_1, af_ret, af_void, List.tail_cons, List.tail_nil, Nat.reduceAdd, Nat.reduceLeDiff, not_false_eq_true, not_true_eq_false, and_self, and_true, true_and, ne_eq, or_true, true_or, or_false, false_or, eq_self, Nat.reduceEqDiff, ↓reduceIte, false_and, and_false, Nat.le_refl, Nat.zero_le, nz_1, nz_2, nz_3, nz_4, nz_5, nz_6, nz_8, nz_10, nz_12, nz_20, nz_30, nz_60, nz_100, mc_B, mc_Z, mc_S, mc_C, mc_K, mc_N, mc_R, mc_I, mc_L, va_Is, va_Ls, va_us, va_iss, u2_ap, sp_isLedge, sp_isLadder, sp_isPerson, sp_isLiving, sp_isLot, sp_isThere, sp_isSpan, cs_K q, cs_B q, mc_s (cs_inj q), cs_f4 q, r11_25, r11_26, r11_32, r11_33, r11_34, r11_35, r11_41, r11_42, r11_43, r11_44, r11_47, r11_50, r11_51, r11_52, r11_53, r11_57, r11_60, r11_61, r11_62, r11_63, r11_64, r11_67, r11_68, r11_69, r11_72, r11_73, r11_74, r11_75, r11_76, r11_79, r11_82, r11_29, r11_38, r11_54, hG, c0, j1, e1, o1, za, c1, nat_succ]
    by_cases c3 : sq_nearest b (xd_n D 0) G k = -1
    · refine ⟨some (.int (-1)) :: t.tail, ?_, hI⟩
      show xm_run _ _ _ _ _ _ = _
      rw [c3] at e2
      rw [r11_24]
      simp only [ite_not, ite_self, w8_nil, ok01, ite10, rf_rv, rf_ref, rf_cat, rf_lk2, rf_some, rf_none, w_add, w_cons, cr_int, cr_long, cr_ref, cr_null, is_ref, is_null, l2_int, l2_ref, l2_null, l2_none, ent_nil, ent_int, ent_ref, ent_null, ent_rf, ent_long, ok_0, ok_1, af_ret, af_void, List.tail_cons, List.tail_nil, Nat.reduceAdd, Nat.reduceLeDiff, not_false_eq_true, not_true_eq_false, and_self, and_true, true_and, ne_eq, or_true, true_or, or_false, false_or, eq_self, Nat.reduceEqDiff, ↓reduceIte, false_and, and_false, Nat.le_refl, Nat.zero_le, nz_1, nz_2, nz_3, nz_4, nz_5, nz_6, nz_8, nz_10, nz_12, nz_20, nz_30, nz_60, nz_100, mc_B, mc_Z, mc_S, mc_C, mc_K, mc_N, mc_R, mc_I, mc_L, va_Is, va_Ls, va_us, va_iss, u2_ap, sp_isLedge, sp_isLadder, sp_isPerson, sp_isLiving, sp_isLot, sp_isThere, sp_isSpan, cs_K q, cs_B q, mc_s (cs_inj q), cs_f4 q, r11_25, r11_26, r11_32, r11_33, r11_34, r11_35, r11_41, r11_42, r11_43, r11_44, r11_47, r11_50, r11_51, r11_52, r11_53, r11_57, r11_60, r11_61, r11_62, r11_63, r11_64, r11_67, r11_68, r11_69, r11_72, r11_73, r11_74, r11_75, r11_76, r11_79, r11_82, r11_29, r11_38, r11_54, hG, c0, j1, e1, o1, za, c1, e2, c3, nat_succ]
    obtain ⟨j, hj, ej⟩ := f2.resolve_left c3
    obtain ⟨j3, j4⟩ := in_nat (show j < 12 by omega) (by decide)
    rw [← ej] at j3 j4
    have o2 := cs_Z q b hj
    refine ⟨some (.int (sq_nearest b (xd_n D 0) G k)) :: t.tail, ?_, hI⟩
    show xm_run _ _ _ _ _ _ = _
    rw [r11_24]
    simp only [ite_not, ite_self, w8_nil, ok01, ite10, rf_rv, rf_ref, rf_cat, rf_lk2, rf_some, rf_none, w_add, w_cons, cr_int, cr_long, cr_ref, cr_null, is_ref, is_null, l2_int, l2_ref, l2_null, l2_none, ent_nil, ent_int, ent_ref, ent_null, ent_rf, ent_long, ok_0, ok_1, af_ret, af_void, List.tail_cons, List.tail_nil, Nat.reduceAdd, Nat.reduceLeDiff, not_false_eq_true, not_true_eq_false, and_self, and_true, true_and, ne_eq, or_true, true_or, or_false, false_or, eq_self, Nat.reduceEqDiff, ↓reduceIte, false_and, and_false, Nat.le_refl, Nat.zero_le, nz_1, nz_2, nz_3, nz_4, nz_5, nz_6, nz_8, nz_10, nz_12, nz_20, nz_30, nz_60, nz_100, mc_B, mc_Z, mc_S, mc_C, mc_K, mc_N, mc_R, mc_I, mc_L, va_Is, va_Ls, va_us, va_iss, u2_ap, sp_isLedge, sp_isLadder, sp_isPerson, sp_isLiving, sp_isLot, sp_isThere, sp_isSpan, cs_K q, cs_B q, mc_s (cs_inj q), cs_f4 q, r11_25, r11_26, r11_32, r11_33, r11_34, r11_35, r11_41, r11_42, r11_43, r11_44, r11_47, r11_50, r11_51, r11_52, r11_53, r11_57, r11_60, r11_61, r11_62, r11_63, r11_64, r11_67, r11_68, r11_69, r11_72, r11_73, r11_74, r11_75, r11_76, r11_79, r11_82, r11_29, r11_38, r11_54, hG, c0, j1, e1, o1, o2, za, c1, e2, c3, j3, j4, nat_succ]) _ 0 (xp_it (sq_se1 b) 0 (xd_n D 0) F) t (Nat.zero_add _) i
  rw [show Int32.ofNat 0 = (0 : Int32) from rfl] at e e3
  unfold xm_met
  simp only [ite_not, ite_self, w8_nil, ok01, ite10, rf_rv, rf_ref, rf_cat, rf_lk2, rf_some, rf_none, w_add, w_cons, cr_int, cr_long, cr_ref, cr_null, is_ref, is_null, l2_int, l2_ref, l2_null, l2_none, ent_nil, ent_int, ent_ref, ent_null, ent_rf, ent_long, ok_0, ok_1, af_ret, af_void, List.tail_cons, List.tail_nil, Nat.reduceAdd, Nat.reduceLeDiff, not_false_eq_true, not_true_eq_false, and_self, and_true, true_and, ne_eq, or_true, true_or, or_false, false_or, eq_self, Nat.reduceEqDiff, ↓reduceIte, false_and, and_false, Nat.le_refl, Nat.zero_le, nz_1, nz_2, nz_3, nz_4, nz_5, nz_6, nz_8, nz_10, nz_12, nz_20, nz_30, nz_60, nz_100, r11_0, r11_1]
  rw [e, r11_2]
  simp only [ite_not, ite_self, w8_nil, ok01, ite10, rf_rv, rf_ref, rf_cat, rf_lk2, rf_some, rf_none, w_add, w_cons, cr_int, cr_long, cr_ref, cr_null, is_ref, is_null, l2_int, l2_ref, l2_null, l2_none, ent_nil, ent_int, ent_ref, ent_null, ent_rf, ent_long, ok_0, ok_1, af_ret, af_void, List.tail_cons, List.tail_nil, Nat.reduceAdd, Nat.reduceLeDiff, not_false_eq_true, not_true_eq_false, and_self, and_true, true_and, ne_eq, or_true, true_or, or_false, false_or, eq_self, Nat.reduceEqDiff, ↓reduceIte, false_and, and_false, Nat.le_refl, Nat.zero_le, nz_1, nz_2, nz_3, nz_4, nz_5, nz_6, nz_8, nz_10, nz_12, nz_20, nz_30, nz_60, nz_100, mc_B, mc_Z, mc_S, mc_C, mc_K, mc_N, mc_R, mc_I, mc_L, va_Is, va_Ls, va_us, va_iss, u2_ap, sp_isLedge, sp_isLadder, sp_isPerson, sp_isLiving, sp_isLot, sp_isThere, sp_isSpan, cs_K q, cs_B q, mc_s (cs_inj q), cs_f4 q, r11_3, r11_4, r11_7, r11_22, r11_23, i, cz]
  rw [e3, r11_24]
  simp only [ite_not, ite_self, w8_nil, ok01, ite10, rf_rv, rf_ref, rf_cat, rf_lk2, rf_some, rf_none, w_add, w_cons, cr_int, cr_long, cr_ref, cr_null, is_ref, is_null, l2_int, l2_ref, l2_null, l2_none, ent_nil, ent_int, ent_ref, ent_null, ent_rf, ent_long, ok_0, ok_1, af_ret, af_void, List.tail_cons, List.tail_nil, Nat.reduceAdd, Nat.reduceLeDiff, not_false_eq_true, not_true_eq_false, and_self, and_true, true_and, ne_eq, or_true, true_or, or_false, false_or, eq_self, Nat.reduceEqDiff, ↓reduceIte, false_and, and_false, Nat.le_refl, Nat.zero_le, nz_1, nz_2, nz_3, nz_4, nz_5, nz_6, nz_8, nz_10, nz_12, nz_20, nz_30, nz_60, nz_100, mc_B, mc_Z, mc_S, mc_C, mc_K, mc_N, mc_R, mc_I, mc_L, va_Is, va_Ls, va_us, va_iss, u2_ap, sp_isLedge, sp_isLadder, sp_isPerson, sp_isLiving, sp_isLot, sp_isThere, sp_isSpan, cs_K q, cs_B q, mc_s (cs_inj q), cs_f4 q, r11_25, r11_26, r11_29, r11_85, i2, cz]
  rfl
end C5
