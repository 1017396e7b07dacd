/-! the component's contracts, 11: asked, reach -/
set_option maxRecDepth 100000
section C11
variable {d : Nat} {h : xm_H} {D : xp_D} {F : xp_F} {b : Bool}
/-- but for the component's own names the same -/
def cq (F G : xp_F) : Prop := ∀ o k, ¬ (o = 80 ∨ (82 ≤ o ∧ o ≤ 85) ∨ 101 ≤ o) → G o k = F o k
theorem cq.rf : cq F F := fun _ _ _ => rfl
theorem cq.tr {G H : xp_F} (a : cq F G) (c : cq G H) : cq F H := fun o k ho => (c o k ho).trans (a o k ho)
theorem cq.u {o k : Nat} {v : Int32} (ho : o = 80 ∨ (82 ≤ o ∧ o ≤ 85) ∨ 101 ≤ o) : cq F (xm_u2 F o k v) := fun x y hx => by rw [u2_ap, if_neg (by omega)]
theorem hset_cq {l : Nat} {x w : Int32} : cq F (sq_hset b F l x w) := by
  intro o k ho
  unfold sq_hset
  rw [u2_ap, if_neg (by omega), u2_ap, if_neg (by omega), u2_ap, if_neg (by omega), u2_ap, if_neg (by omega), u2_ap, if_neg (by omega), u2_ap, if_neg (by omega), u2_ap, if_neg (by omega), u2_ap, if_neg (by omega)]
theorem ask_cq {l r n : Nat} {x w : Int32} {L : Nat → Ln} : cq F (sq_ask b F l x w r n L) := hset_cq.tr ((cq.u (by decide)).tr (cq.u (by decide)))
theorem ask_l {l r n : Nat} {x w : Int32} {L : Nat → Ln} : sq_ask b F l x w r n L 101 r = sp_leaves (sq_has b F l x w) L n := by
  unfold sq_ask
  rw [u2_ap, if_neg (by omega), u2_ap, if_pos ⟨rfl, rfl⟩]
theorem ask_b {l r n : Nat} {x w : Int32} {L : Nat → Ln} : sq_ask b F l x w r n L 102 r = sp_barred (sq_has b F l x w) L n := by
  unfold sq_ask
  rw [u2_ap, if_pos ⟨rfl, rfl⟩]
theorem ask_o {l r n o k : Nat} {x w : Int32} {L : Nat → Ln} (h1 : ¬ o = 82) (h2 : ¬ o = 101) (h3 : ¬ o = 102) : sq_ask b F l x w r n L o k = F o k := by
  unfold sq_ask sq_hset
  rw [u2_ap, if_neg (by omega), u2_ap, if_neg (by omega), u2_ap, if_neg (by omega), u2_ap, if_neg (by omega), u2_ap, if_neg (by omega), u2_ap, if_neg (by omega), u2_ap, if_neg (by omega), u2_ap, if_neg (by omega), u2_ap, if_neg (by omega), u2_ap, if_neg (by omega)]
theorem has_cq {G : xp_F} (a : cq F G) {l : Nat} : sp_has G l = sp_has F l := by
  funext k
  unfold sp_has
  rw [a 0 0 (by decide), a 0 1 (by decide), a 4 l (by decide), a 5 l (by decide), a 6 l (by decide)]
theorem c28 (q : CS h D) {l r : Nat} (hl : l < xd_n D 0) (hr : r < 2) : xm_met d 28 [.ref (xd_A D (rk b) l), .ref (xd_A D 7 r)] (xp_c h D F) = some (.inl (some (.int (sp_left (F (nu b 4) l) (F 101 r)))), xp_c h D F) := by
  have o1 := cs_Z q b hl
  have o2 := cs_U q hr
  have e : F (nu b 4) l * F 101 r + 100 - 1 = F (nu b 4) l * F 101 r + 99 := by
    rw [Int32.sub_eq_add_neg, Int32.add_assoc]
    rfl
  unfold xm_met sp_left
  simp only [ite_not, ite_self, w8_nil, ok01, ite10, rf_rv, rf_ref, rf_cat, rf_lk2, rf_some, rf_none, w_add, w_cons, cr_int, cr_long, cr_ref, cr_null, is_ref, is_null, l2_int, l2_ref, l2_null, l2_none, ent_nil, ent_int, ent_ref, ent_null, ent_rf, ent_long, ok_0, ok_1, af_ret, af_void, List.tail_cons, List.tail_nil, Nat.reduceAdd, Nat.reduceLeDiff, not_false_eq_true, not_true_eq_false, and_self, and_true, true_and, ne_eq, or_true, true_or, or_false, false_or, eq_self, Nat.reduceEqDiff, ↓reduceIte, false_and, and_false, Nat.le_refl, Nat.zero_le, nz_1, nz_2, nz_3, nz_4, nz_5, nz_6, nz_8, nz_10, nz_12, nz_20, nz_30, nz_60, nz_100, mc_B, mc_Z, mc_S, mc_C, mc_K, mc_N, mc_R, mc_I, mc_L, va_Is, va_Ls, va_us, va_iss, u2_ap, sp_isLedge, sp_isLadder, sp_isPerson, sp_isLiving, sp_isLot, sp_isThere, sp_isSpan, r28_0, r28_1, r28_4, r28_5, r28_8, r28_9, r28_11, r28_12, r28_13, r28_14, r28_16, r28_17, o1, o2, e]
theorem CN.cq {G : xp_F} (a : CN D F) (c : cq F G) : CN D G := by
  unfold CN
  rw [c 0 6 (by decide), c 0 61 (by decide), c 0 68 (by decide), c 0 83 (by decide)]
  exact a
/-- but for what asking writes the same -/
def cr (F G : xp_F) : Prop := ∀ o k, ¬ o = 82 → ¬ o = 83 → ¬ o = 101 → ¬ o = 102 → G o k = F o k
theorem cr.rf : cr F F := fun _ _ _ _ _ _ => rfl
theorem cr.cq {G : xp_F} (a : cr F G) : cq F G := fun o k h => a o k (by omega) (by omega) (by omega) (by omega)
theorem cr.tr {G H : xp_F} (a : cr F G) (b : cr G H) : cr F H := fun o k h1 h2 h3 h4 => (b o k h1 h2 h3 h4).trans (a o k h1 h2 h3 h4)
theorem cr.u {k : Nat} {v : Int32} : cr F (xm_u2 F 83 k v) := fun o _ _ h2 _ _ => by rw [u2_ap, if_neg (fun z => h2 z.1)]
theorem ask_cr {b : Bool} {l r n : Nat} {x w : Int32} {L : Nat → Ln} : cr F (sq_ask b F l x w r n L) := fun o k h1 h2 h3 h4 => ask_o h1 h3 h4
theorem c26 (q : CS h D) (hn : CN D F) {n0 n1 : Nat} {L0 L1 : Nat → Ln} (h0 : CR h D 0 n0 L0) (h1 : CR h D 1 n1 L1) (m0 : F 14 0 = Int32.ofNat n0) (m1 : F 14 1 = Int32.ofNat n1) {r l w : Int32} : ∃ G, xm_met (d + 704) 26 [.ref (xd_X D), .int r, .int l, .int w] (xp_c h D F) = some (.inl (some (.int (sp_asked F n0 L0 n1 L1 r l w))), xp_c h D G) ∧ cr F G := by
  unfold xm_met sp_asked
  rw [show d + 704 = d + 703 + 1 from rfl]
  by_cases c1 : 0 ≤ r ∧ r ≤ 1
  case neg =>
    refine ⟨F, ?_, cr.rf⟩
    simp only [ite_not, ite_self, w8_nil, ok01, ite10, rf_rv, rf_ref, rf_cat, rf_lk2, rf_some, rf_none, w_add, w_cons, cr_int, cr_long, cr_ref, cr_null, is_ref, is_null, l2_int, l2_ref, l2_null, l2_none, ent_nil, ent_int, ent_ref, ent_null, ent_rf, ent_long, ok_0, ok_1, af_ret, af_void, List.tail_cons, List.tail_nil, Nat.reduceAdd, Nat.reduceLeDiff, not_false_eq_true, not_true_eq_false, and_self, and_true, true_and, ne_eq, or_true, true_or, or_false, false_or, eq_self, Nat.reduceEqDiff, ↓reduceIte, false_and, and_false, Nat.le_refl, Nat.zero_le, nz_1, nz_2, nz_3, nz_4, nz_5, nz_6, nz_8, nz_10, nz_12, nz_20, nz_30, nz_60, nz_100, mc_B, mc_Z, mc_S, mc_C, mc_K, mc_N, mc_R, mc_I, mc_L, va_Is, va_Ls, va_us, va_iss, u2_ap, sp_isLedge, sp_isLadder, sp_isPerson, sp_isLiving, sp_isLot, sp_isThere, sp_isSpan, cs_K q, cs_B q, mc_s (cs_inj q), cs_f0 q, cs_f5 q, cs_f6 q, r26_0, r26_1, r26_7, r26_8, r26_9, r26_15, r26_16, r26_17, r26_18, r26_24, r26_25, r26_4, r26_12, r26_21, c19, c1]
  by_cases c3 : sp_isLedge F l
  case neg =>
    refine ⟨F, ?_, cr.rf⟩
    simp only [ite_not, ite_self, w8_nil, ok01, ite10, rf_rv, rf_ref, rf_cat, rf_lk2, rf_some, rf_none, w_add, w_cons, cr_int, cr_long, cr_ref, cr_null, is_ref, is_null, l2_int, l2_ref, l2_null, l2_none, ent_nil, ent_int, ent_ref, ent_null, ent_rf, ent_long, ok_0, ok_1, af_ret, af_void, List.tail_cons, List.tail_nil, Nat.reduceAdd, Nat.reduceLeDiff, not_false_eq_true, not_true_eq_false, and_self, and_true, true_and, ne_eq, or_true, true_or, or_false, false_or, eq_self, Nat.reduceEqDiff, ↓reduceIte, false_and, and_false, Nat.le_refl, Nat.zero_le, nz_1, nz_2, nz_3, nz_4, nz_5, nz_6, nz_8, nz_10, nz_12, nz_20, nz_30, nz_60, nz_100, mc_B, mc_Z, mc_S, mc_C, mc_K, mc_N, mc_R, mc_I, mc_L, va_Is, va_Ls, va_us, va_iss, u2_ap, sp_isLedge, sp_isLadder, sp_isPerson, sp_isLiving, sp_isLot, sp_isThere, sp_isSpan, cs_K q, cs_B q, mc_s (cs_inj q), cs_f0 q, cs_f5 q, cs_f6 q, r26_0, r26_1, r26_7, r26_8, r26_9, r26_15, r26_16, r26_17, r26_18, r26_24, r26_25, r26_4, r26_12, r26_21, c19, c5 q hn, c1, c3]
  by_cases c4 : 0 ≤ w ∧ w ≤ 2
  case neg =>
    have w0 : ¬ w = 0 := fun z => c4 (by rw [z]; decide)
    have w1 : ¬ w = 1 := fun z => c4 (by rw [z]; decide)
    have w2 : ¬ w = 2 := fun z => c4 (by rw [z]; decide)
    refine ⟨F, ?_, cr.rf⟩
    simp only [ite_not, ite_self, w8_nil, ok01, ite10, rf_rv, rf_ref, rf_cat, rf_lk2, rf_some, rf_none, w_add, w_cons, cr_int, cr_long, cr_ref, cr_null, is_ref, is_null, l2_int, l2_ref, l2_null, l2_none, ent_nil, ent_int, ent_ref, ent_null, ent_rf, ent_long, ok_0, ok_1, af_ret, af_void, List.tail_cons, List.tail_nil, Nat.reduceAdd, Nat.reduceLeDiff, not_false_eq_true, not_true_eq_false, and_self, and_true, true_and, ne_eq, or_true, true_or, or_false, false_or, eq_self, Nat.reduceEqDiff, ↓reduceIte, false_and, and_false, Nat.le_refl, Nat.zero_le, nz_1, nz_2, nz_3, nz_4, nz_5, nz_6, nz_8, nz_10, nz_12, nz_20, nz_30, nz_60, nz_100, mc_B, mc_Z, mc_S, mc_C, mc_K, mc_N, mc_R, mc_I, mc_L, va_Is, va_Ls, va_us, va_iss, u2_ap, sp_isLedge, sp_isLadder, sp_isPerson, sp_isLiving, sp_isLot, sp_isThere, sp_isSpan, cs_K q, cs_B q, mc_s (cs_inj q), cs_f0 q, cs_f5 q, cs_f6 q, r26_0, r26_1, r26_7, r26_8, r26_9, r26_15, r26_16, r26_17, r26_18, r26_24, r26_25, r26_4, r26_12, r26_21, c19, c5 q hn, c2, c1, c3, c4, w0, w1, w2]
  have i1 := in_cnt (hn.l q) c3
  have hl := hn.ll q c3
  have o1 := cs_L q hl
  have hr : r.toNatClampNeg < 2 := by
    rcases r01 c1 with e | e <;> subst e <;> decide
  have er : r = Int32.ofNat r.toNatClampNeg := by
    rcases r01 c1 with e | e <;> subst e <;> rfl
  have hC : CR h D r.toNatClampNeg (if r = 0 then n0 else n1) (if r = 0 then L0 else L1) := by
    rcases r01 c1 with e | e <;> subst e
    · exact h0
    · exact h1
  have hm : F 14 r.toNatClampNeg = Int32.ofNat (if r = 0 then n0 else n1) := by
    rcases r01 c1 with e | e <;> subst e
    · exact m0
    · exact m1
  generalize (if r = 0 then n0 else n1) = n at hC hm ⊢
  generalize (if r = 0 then L0 else L1) = L at hC ⊢
  have e1 := @c27 d h D F true q _ hr n L hC hm _ hl (F 0 0) (F 0 1)
  have e2 := @c28 (d + 703) h D (sq_ask true F l.toNatClampNeg (F 0 0) (F 0 1) r.toNatClampNeg n L) true q _ _ hl hr
  rw [← er] at e1
  rw [ask_l, ask_o (show ¬ nu true 4 = 82 by decide) (by decide) (by decide)] at e2
  rw [show rk true = 1 from rfl] at e1 e2
  have o2 := cs_U q hr
  refine ⟨sq_ask true F l.toNatClampNeg (F 0 0) (F 0 1) r.toNatClampNeg n L, ?_, ask_cr⟩
  have bb := barred_01 (s := sp_has F l.toNatClampNeg) (L := L) n
  have eb : sq_ask true F l.toNatClampNeg (F 0 0) (F 0 1) r.toNatClampNeg n L 102 r.toNatClampNeg = sp_barred (sp_has F l.toNatClampNeg) L n := ask_b
  have el : sq_ask true F l.toNatClampNeg (F 0 0) (F 0 1) r.toNatClampNeg n L 101 r.toNatClampNeg = sp_leaves (sp_has F l.toNatClampNeg) L n := ask_l
  by_cases w0 : w = 0
  · by_cases c6 : sp_barred (sp_has F l.toNatClampNeg) L n = 0
    · simp only [ite_not, ite_self, w8_nil, ok01, ite10, rf_rv, rf_ref, rf_cat, rf_lk2, rf_some, rf_none, w_add, w_cons, cr_int, cr_long, cr_ref, cr_null, is_ref, is_null, l2_int, l2_ref, l2_null, l2_none, ent_nil, ent_int, ent_ref, ent_null, ent_rf, ent_long, ok_0, ok_1, af_ret, af_void, List.tail_cons, List.tail_nil, Nat.reduceAdd, Nat.reduceLeDiff, not_false_eq_true, not_true_eq_false, and_self, and_true, true_and, ne_eq, or_true, true_or, or_false, false_or, eq_self, Nat.reduceEqDiff, ↓reduceIte, false_and, and_false, Nat.le_refl, Nat.zero_le, nz_1, nz_2, nz_3, nz_4, nz_5, nz_6, nz_8, nz_10, nz_12, nz_20, nz_30, nz_60, nz_100, mc_B, mc_Z, mc_S, mc_C, mc_K, mc_N, mc_R, mc_I, mc_L, va_Is, va_Ls, va_us, va_iss, u2_ap, sp_isLedge, sp_isLadder, sp_isPerson, sp_isLiving, sp_isLot, sp_isThere, sp_isSpan, cs_K q, cs_B q, mc_s (cs_inj q), cs_f0 q, cs_f5 q, cs_f6 q, r26_0, r26_1, r26_7, r26_8, r26_9, r26_15, r26_16, r26_17, r26_18, r26_24, r26_25, r26_26, r26_27, r26_28, r26_29, r26_32, r26_33, r26_34, r26_35, r26_38, r26_39, r26_42, r26_45, r26_47, r26_51, r26_53, r26_59, r26_60, r26_63, r26_64, r26_67, r26_68, r26_72, r26_74, r26_77, r26_80, r26_81, r26_84, r26_85, r26_86, r26_88, r26_91, r26_4, r26_12, r26_21, r26_48, r26_56, r26_69, c19, c5 q hn, c2, c1, c3, c4, i1, o1, o2, e1, w0, eb, c6, (by decide : (0 : Int32) ≤ 0), (by decide : (0 : Int32) ≤ 2)]
    · simp only [ite_not, ite_self, w8_nil, ok01, ite10, rf_rv, rf_ref, rf_cat, rf_lk2, rf_some, rf_none, w_add, w_cons, cr_int, cr_long, cr_ref, cr_null, is_ref, is_null, l2_int, l2_ref, l2_null, l2_none, ent_nil, ent_int, ent_ref, ent_null, ent_rf, ent_long, ok_0, ok_1, af_ret, af_void, List.tail_cons, List.tail_nil, Nat.reduceAdd, Nat.reduceLeDiff, not_false_eq_true, not_true_eq_false, and_self, and_true, true_and, ne_eq, or_true, true_or, or_false, false_or, eq_self, Nat.reduceEqDiff, ↓reduceIte, false_and, and_false, Nat.le_refl, Nat.zero_le, nz_1, nz_2, nz_3, nz_4, nz_5, nz_6, nz_8, nz_10, nz_12, nz_20, nz_30, nz_60, nz_100, mc_B, mc_Z, mc_S, mc_C, mc_K, mc_N, mc_R, mc_I, mc_L, va_Is, va_Ls, va_us, va_iss, u2_ap, sp_isLedge, sp_isLadder, sp_isPerson, sp_isLiving, sp_isLot, sp_isThere, sp_isSpan, cs_K q, cs_B q, mc_s (cs_inj q), cs_f0 q, cs_f5 q, cs_f6 q, r26_0, r26_1, r26_7, r26_8, r26_9, r26_15, r26_16, r26_17, r26_18, r26_24, r26_25, r26_26, r26_27, r26_28, r26_29, r26_32, r26_33, r26_34, r26_35, r26_38, r26_39, r26_42, r26_45, r26_47, r26_51, r26_53, r26_59, r26_60, r26_63, r26_64, r26_67, r26_68, r26_72, r26_74, r26_77, r26_80, r26_81, r26_84, r26_85, r26_86, r26_88, r26_91, r26_4, r26_12, r26_21, r26_48, r26_56, r26_69, c19, c5 q hn, c2, c1, c3, c4, i1, o1, o2, e1, w0, eb, c6, (by decide : (0 : Int32) ≤ 0), (by decide : (0 : Int32) ≤ 2)]
  by_cases w1 : w = 1
  · simp only [ite_not, ite_self, w8_nil, ok01, ite10, rf_rv, rf_ref, rf_cat, rf_lk2, rf_some, rf_none, w_add, w_cons, cr_int, cr_long, cr_ref, cr_null, is_ref, is_null, l2_int, l2_ref, l2_null, l2_none, ent_nil, ent_int, ent_ref, ent_null, ent_rf, ent_long, ok_0, ok_1, af_ret, af_void, List.tail_cons, List.tail_nil, Nat.reduceAdd, Nat.reduceLeDiff, not_false_eq_true, not_true_eq_false, and_self, and_true, true_and, ne_eq, or_true, true_or, or_false, false_or, eq_self, Nat.reduceEqDiff, ↓reduceIte, false_and, and_false, Nat.le_refl, Nat.zero_le, nz_1, nz_2, nz_3, nz_4, nz_5, nz_6, nz_8, nz_10, nz_12, nz_20, nz_30, nz_60, nz_100, mc_B, mc_Z, mc_S, mc_C, mc_K, mc_N, mc_R, mc_I, mc_L, va_Is, va_Ls, va_us, va_iss, u2_ap, sp_isLedge, sp_isLadder, sp_isPerson, sp_isLiving, sp_isLot, sp_isThere, sp_isSpan, cs_K q, cs_B q, mc_s (cs_inj q), cs_f0 q, cs_f5 q, cs_f6 q, r26_0, r26_1, r26_7, r26_8, r26_9, r26_15, r26_16, r26_17, r26_18, r26_24, r26_25, r26_26, r26_27, r26_28, r26_29, r26_32, r26_33, r26_34, r26_35, r26_38, r26_39, r26_42, r26_45, r26_47, r26_51, r26_53, r26_59, r26_60, r26_63, r26_64, r26_67, r26_68, r26_72, r26_74, r26_77, r26_80, r26_81, r26_84, r26_85, r26_86, r26_88, r26_91, r26_4, r26_12, r26_21, r26_48, r26_56, r26_69, c19, c5 q hn, c2, c1, c3, c4, i1, o1, o2, e1, w0, w1, el, (by decide : (0 : Int32) ≤ 1), (by decide : (1 : Int32) ≤ 2)]
  have w2 : w = 2 := by
    have x1 := Int32.le_iff_toInt_le.mp c4.1
    have x2 := Int32.le_iff_toInt_le.mp c4.2
    rw [show (0 : Int32).toInt = 0 from rfl] at x1
    rw [show (2 : Int32).toInt = 2 from rfl] at x2
    have y0 : ¬ w.toInt = 0 := fun z => w0 (i_eq z)
    have y1 : ¬ w.toInt = 1 := fun z => w1 (i_eq z)
    exact i_eq (show w.toInt = (2 : Int32).toInt by rw [show (2 : Int32).toInt = 2 from rfl]; omega)
  simp only [ite_not, ite_self, w8_nil, ok01, ite10, rf_rv, rf_ref, rf_cat, rf_lk2, rf_some, rf_none, w_add, w_cons, cr_int, cr_long, cr_ref, cr_null, is_ref, is_null, l2_int, l2_ref, l2_null, l2_none, ent_nil, ent_int, ent_ref, ent_null, ent_rf, ent_long, ok_0, ok_1, af_ret, af_void, List.tail_cons, List.tail_nil, Nat.reduceAdd, Nat.reduceLeDiff, not_false_eq_true, not_true_eq_false, and_self, and_true, true_and, ne_eq, or_true, true_or, or_false, false_or, eq_self, Nat.reduceEqDiff, ↓reduceIte, false_and, and_false, Nat.le_refl, Nat.zero_le, nz_1, nz_2, nz_3, nz_4, nz_5, nz_6, nz_8, nz_10, nz_12, nz_20, nz_30, nz_60, nz_100, mc_B, mc_Z, mc_S, mc_C, mc_K, mc_N, mc_R, mc_I, mc_L, va_Is, va_Ls, va_us, va_iss, u2_ap, sp_isLedge, sp_isLadder, sp_isPerson, sp_isLiving, sp_isLot, sp_isThere, sp_isSpan, cs_K q, cs_B q, mc_s (cs_inj q), cs_f0 q, cs_f5 q, cs_f6 q, r26_0, r26_1, r26_7, r26_8, r26_9, r26_15, r26_16, r26_17, r26_18, r26_24, r26_25, r26_26, r26_27, r26_28, r26_29, r26_32, r26_33, r26_34, r26_35, r26_38, r26_39, r26_42, r26_45, r26_47, r26_51, r26_53, r26_59, r26_60, r26_63, r26_64, r26_67, r26_68, r26_72, r26_74, r26_77, r26_80, r26_81, r26_84, r26_85, r26_86, r26_88, r26_91, r26_4, r26_12, r26_21, r26_48, r26_56, r26_69, c19, c5 q hn, c2, c1, c3, c4, i1, o1, o2, e1, w0, w1, w2, e2, (by decide : (0 : Int32) ≤ 2), (by decide : (2 : Int32) ≤ 2), (by decide : ¬ (2 : Int32) = 1)]
  rfl
end C11
