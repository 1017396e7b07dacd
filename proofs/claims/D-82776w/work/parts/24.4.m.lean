/-! the model's contracts, 30: a season that is foreseen -/
set_option maxRecDepth 100000
section M30
variable {d : Nat} {h : xm_H} {M : Nat} {F : xp_F}
theorem day_ti {x : Int32} (h : 0 ≤ x.toInt) : (sp_day x).toInt = x.toInt % 60 := ti_rem h (by decide)
def sp_rest (F : xp_F) : xp_F := xp_it (fun _ => sp_goes) 0 (59 - ((F 0 0).toInt % 60).toNat) F
theorem c182a (q : MS h M) {r : Int32} : ∀ (c k : Nat) (F : xp_F), rg (F 0 6) 12 → 0 ≤ (F 0 0).toInt → (F 0 0).toInt + c ≤ 99999 → (F 0 0).toInt % 60 + c = 59 → xm_run (d + 5) 182 0 [some (.ref M), some (.int r)] [] (xp_m h M F) = xm_run (d + 5) 182 16 [some (.ref M), some (.int r)] [] (xp_m h M (xp_it (fun _ => sp_goes) k c F)) := by
  intro c
  induction c with
  | zero =>
    intro k F hn h0 h1 h2
    have e := day_ti h0
    have c1 : 59 ≤ sp_day (F 0 0) := Int32.le_iff_toInt_le.mpr (by rw [e, show (59 : Int32).toInt = 59 from rfl]; omega)
    unfold sp_day at c1
    rw [r182_0]
    simp only [ite_not, ite_self, w8_nil, ok01, ite10, rf_rv, rf_ref, rf_cat, rf_lk2, rf_some, rf_none, w_add, w_cons, cr_int, cr_long, cr_ref, cr_null, is_ref, is_null, l2_int, l2_ref, l2_null, l2_none, ent_nil, ent_int, ent_ref, ent_null, ent_rf, ent_long, ok_0, ok_1, af_ret, af_void, List.tail_cons, List.tail_nil, Nat.reduceAdd, Nat.reduceLeDiff, not_false_eq_true, not_true_eq_false, and_self, and_true, true_and, ne_eq, or_true, true_or, or_false, false_or, eq_self, Nat.reduceEqDiff, ↓reduceIte, false_and, and_false, Nat.le_refl, Nat.zero_le, nz_1, nz_2, nz_3, nz_4, nz_5, nz_6, nz_8, nz_10, nz_12, nz_20, nz_30, nz_60, nz_100, mp_B, mp_Z, mp_S, mp_C, mp_K, mp_N, mp_L, mp_R, mp_I, mp_I0, mp_s, mp_s0, u2_ap, sp_isLedge, sp_isLadder, sp_isPerson, sp_isLiving, sp_isLot, sp_isThere, sp_isSpan, ms_K q, ms_B q, ms_f16 q, ms_f10 q, ms_f12 q, r182_1, r182_4, r182_6, c102 q, c1]
    rfl
  | succ c ih =>
    intro k F hn h0 h1 h2
    have e := day_ti h0
    have c1 : ¬ 59 ≤ sp_day (F 0 0) := fun z => by
      have := Int32.le_iff_toInt_le.mp z
      rw [e, show (59 : Int32).toInt = 59 from rfl] at this
      omega
    unfold sp_day at c1
    have hd : rg (F 0 0) 100000 := ⟨h0, by omega⟩
    have e2 := @c98 d h M F q hn hd
    have e3 : (sp_goes F 0 0).toInt = (F 0 0).toInt + 1 := by
      rw [goes_d]
      exact ti_add1 hd (by decide)
    have e4 := ih (k + 1) (sp_goes F) (by rw [goes_6]; exact hn) (by omega) (by omega) (by omega)
    rw [r182_0]
    simp only [ite_not, ite_self, w8_nil, ok01, ite10, rf_rv, rf_ref, rf_cat, rf_lk2, rf_some, rf_none, w_add, w_cons, cr_int, cr_long, cr_ref, cr_null, is_ref, is_null, l2_int, l2_ref, l2_null, l2_none, ent_nil, ent_int, ent_ref, ent_null, ent_rf, ent_long, ok_0, ok_1, af_ret, af_void, List.tail_cons, List.tail_nil, Nat.reduceAdd, Nat.reduceLeDiff, not_false_eq_true, not_true_eq_false, and_self, and_true, true_and, ne_eq, or_true, true_or, or_false, false_or, eq_self, Nat.reduceEqDiff, ↓reduceIte, false_and, and_false, Nat.le_refl, Nat.zero_le, nz_1, nz_2, nz_3, nz_4, nz_5, nz_6, nz_8, nz_10, nz_12, nz_20, nz_30, nz_60, nz_100, mp_B, mp_Z, mp_S, mp_C, mp_K, mp_N, mp_L, mp_R, mp_I, mp_I0, mp_s, mp_s0, u2_ap, sp_isLedge, sp_isLadder, sp_isPerson, sp_isLiving, sp_isLot, sp_isThere, sp_isSpan, ms_K q, ms_B q, ms_f16 q, ms_f10 q, ms_f12 q, r182_1, r182_4, r182_9, r182_10, r182_13, r182_6, c102 q, c1, e2]
    exact e4
def sp_fore1 (L : Nat → Ln) (n l : Nat) (s : Int32 × xp_F) : Int32 × xp_F := if s.2 12 l = 0 ∧ sp_barred (sp_has s.2 l) L n = 0 ∧ sp_stays s.2 n L l < s.2 6 l then
    (s.1 + (s.2 6 l - sp_stays s.2 n L l), xm_u2 (xm_u2 (xm_u2 s.2 8 l (100 * sp_stays s.2 n L l / s.2 6 l)) 6 l (sp_stays s.2 n L l)) 12 l 1) else s
def sp_fores (L : Nat → Ln) (n : Nat) (F : xp_F) (l : Nat) : Int32 × xp_F := xp_up (sp_fore1 L n) (0, sp_rest F) l
def sp_foresees (L : Nat → Ln) (n : Nat) (F : xp_F) : Int32 × xp_F := ((sp_fores L n F (F 0 6).toNatClampNeg).1, sp_goes (sp_fores L n F (F 0 6).toNatClampNeg).2)
theorem rest_gP {o k : Nat} (p : gP o k) : sp_rest F o k = F o k := it_inv (fun (G : xp_F) => G o k = F o k) (fun _ G h => (goes_gP p).trans h) _ _ _ rfl
theorem rest_6 : sp_rest F 0 6 = F 0 6 := it_inv (fun (G : xp_F) => G 0 6 = F 0 6) (fun _ G h => goes_6.trans h) _ _ _ rfl
theorem fore1_o {L : Nat → Ln} {n l o k : Nat} {s : Int32 × xp_F} (h1 : ¬ o = 8) (h2 : ¬ o = 6) (h3 : ¬ o = 12) : (sp_fore1 L n l s).2 o k = s.2 o k := by
  unfold sp_fore1
  split
  · show xm_u2 _ _ _ _ o k = _
    rw [u2_ap, if_neg (fun z => h3 z.1), u2_ap, if_neg (fun z => h2 z.1), u2_ap, if_neg (fun z => h1 z.1)]
  · rfl
theorem fores_o {L : Nat → Ln} {n l o k : Nat} (h1 : ¬ o = 8) (h2 : ¬ o = 6) (h3 : ¬ o = 12) : (sp_fores L n F l).2 o k = sp_rest F o k :=
  up_inv (fun (s : Int32 × xp_F) => s.2 o k = sp_rest F o k) (fun _ s h => (fore1_o h1 h2 h3).trans h) rfl l
theorem fores_gP {L : Nat → Ln} {n l o k : Nat} (p : gP o k) : (sp_fores L n F l).2 o k = F o k := (fores_o (by omega) (by omega) (by omega)).trans (rest_gP p)
theorem fores_6 {L : Nat → Ln} {n l : Nat} : (sp_fores L n F l).2 0 6 = F 0 6 := (fores_o (by decide) (by decide) (by decide)).trans rest_6
theorem goes_it_d {c : Nat} : ∀ (k : Nat) (F : xp_F), 0 ≤ (F 0 0).toInt → (F 0 0).toInt + c ≤ 99999 → (xp_it (fun _ => sp_goes) k c F 0 0).toInt = (F 0 0).toInt + c := by
  induction c with
  | zero => exact fun k F _ _ => by show (F 0 0).toInt = _; omega
  | succ c ih =>
    intro k F h0 h1
    have e3 : (sp_goes F 0 0).toInt = (F 0 0).toInt + 1 := by
      rw [goes_d]
      exact ti_add1 (k := 100000) ⟨h0, by omega⟩ (by decide)
    show (xp_it (fun _ => sp_goes) (k + 1) c (sp_goes F) 0 0).toInt = _
    rw [ih (k + 1) (sp_goes F) (by omega) (by omega), e3]
    omega
theorem rest_d (h0 : 0 ≤ (F 0 0).toInt) (h1 : (F 0 0).toInt ≤ 99000) : (sp_rest F 0 0).toInt = (F 0 0).toInt + 59 - (F 0 0).toInt % 60 := by
  unfold sp_rest
  rw [goes_it_d 0 F h0 (by omega)]
  omega
theorem fores_d {L : Nat → Ln} {n l : Nat} : (sp_fores L n F l).2 0 0 = sp_rest F 0 0 := fores_o (by decide) (by decide) (by decide)
noncomputable def foP (d : Nat) (h : xm_H) (M : Nat) (r : Int32) (l : Nat) (s : Int32 × xp_F) (t : List (Option Value)) : xm_V := xm_run (d + 6) 182 20 (some (.ref M) :: some (.int r) :: some (.int s.1) :: some (.int (Int32.ofNat l)) :: t) [] (xp_m h M s.2)
theorem left_0 {v : Int32} : sp_left 0 v = 0 := by
  unfold sp_left
  rw [Int32.zero_mul]
  decide
theorem c182s (q : MS h M) (hn : rg (F 0 6) 12) {r : Int32} (hr : rg r 1) {n : Nat} {L : Nat → Ln} (hm : MR F r.toNatClampNeg n L) (l : Nat) (s : Int32 × xp_F) (t : List (Option Value)) (hl : l < (F 0 6).toNatClampNeg) (hs : s.1 = (sp_fores L n F l).1 ∧ pq 0 (sp_fores L n F l).2 s.2) : ∃ (s' : Int32 × xp_F) (t' : List (Option Value)), foP d h M r l s t = foP d h M r (l + 1) s' t' ∧ s'.1 = (sp_fores L n F (l + 1)).1 ∧ pq 0 (sp_fores L n F (l + 1)).2 s'.2 := by
  have up : sp_fores L n F (l + 1) = sp_fore1 L n l (sp_fores L n F l) := rfl
  have g6a := @fores_6 F L n l
  have gPa := @fores_gP F L n l
  rw [up]
  obtain ⟨b, G⟩ := s
  generalize sp_fores L n F l = S at *
  obtain ⟨B, A⟩ := S
  have h1 : b = B := hs.1
  subst h1
  have h2 : pq 0 A G := hs.2
  have g6 : A 0 6 = F 0 6 := g6a
  have gP' : ∀ {o k : Nat}, gP o k → A o k = F o k := gPa
  obtain ⟨i1, e1, c0, -, -⟩ := lp_k hn (by decide) hl
  have g0 := (h2.1 0 6 (by decide)).trans g6
  have mA : MR A r.toNatClampNeg n L := hm.gP (fun o k h1 _ => gP' (Or.inl h1))
  have mG := mA.pq h2
  have x1 := h2.1 12 l (by decide)
  unfold sp_fore1 foP
  show ∃ (s' : Int32 × xp_F) (t' : List (Option Value)), xm_run (d + 6) 182 20 (some (.ref M) :: some (.int r) :: some (.int b) :: some (.int (Int32.ofNat l)) :: t) [] (xp_m h M G) = _ ∧ _
  rw [r182_20]
  by_cases c1 : A 12 l = 0
  case neg =>
    rw [if_neg (fun z => c1 z.1)]
    refine ⟨(b, G), t, ?_, rfl, h2⟩
    simp only [ite_not, ite_self, w8_nil, ok01, ite10, rf_rv, rf_ref, rf_cat, rf_lk2, rf_some, rf_none, w_add, w_cons, cr_int, cr_long, cr_ref, cr_null, is_ref, is_null, l2_int, l2_ref, l2_null, l2_none, ent_nil, ent_int, ent_ref, ent_null, ent_rf, ent_long, ok_0, ok_1, af_ret, af_void, List.tail_cons, List.tail_nil, Nat.reduceAdd, Nat.reduceLeDiff, not_false_eq_true, not_true_eq_false, and_self, and_true, true_and, ne_eq, or_true, true_or, or_false, false_or, eq_self, Nat.reduceEqDiff, ↓reduceIte, false_and, and_false, Nat.le_refl, Nat.zero_le, nz_1, nz_2, nz_3, nz_4, nz_5, nz_6, nz_8, nz_10, nz_12, nz_20, nz_30, nz_60, nz_100, mp_B, mp_Z, mp_S, mp_C, mp_K, mp_N, mp_L, mp_R, mp_I, mp_I0, mp_s, mp_s0, u2_ap, sp_isLedge, sp_isLadder, sp_isPerson, sp_isLiving, sp_isLot, sp_isThere, sp_isSpan, ms_K q, ms_B q, ms_f16 q, ms_f10 q, ms_f12 q, r182_21, r182_22, r182_28, r182_29, r182_32, r182_33, r182_37, r182_38, r182_39, r182_40, r182_46, r182_49, r182_50, r182_51, r182_52, r182_55, r182_57, r182_58, r182_61, r182_62, r182_63, r182_68, r182_71, r182_72, r182_73, r182_76, r182_77, r182_78, r182_80, r182_81, r182_82, r182_83, r182_84, r182_87, r182_88, r182_90, r182_92, r182_93, r182_94, r182_97, r182_98, r182_99, r182_100, r182_101, r182_102, r182_105, r182_106, r182_108, r182_109, r182_110, r182_113, r182_114, r182_115, r182_115b, r182_116, r182_119, r182_25, r182_34, r182_43, r182_65, g0, c0, i1, e1, x1, c1, nat_succ]
  obtain ⟨G1, m1, p1⟩ := @c135 (d + 1) h M G q r (Int32.ofNat l) hr i1 n L mG
  rw [e1, h2.has] at m1
  have p1' := h2.tr p1 (Nat.le_refl _)
  by_cases c2 : sp_barred (sp_has A l) L n = 0
  case neg =>
    rw [if_neg (fun z => c2 z.2.1)]
    refine ⟨(b, G1), t, ?_, rfl, p1'⟩
    simp only [ite_not, ite_self, w8_nil, ok01, ite10, rf_rv, rf_ref, rf_cat, rf_lk2, rf_some, rf_none, w_add, w_cons, cr_int, cr_long, cr_ref, cr_null, is_ref, is_null, l2_int, l2_ref, l2_null, l2_none, ent_nil, ent_int, ent_ref, ent_null, ent_rf, ent_long, ok_0, ok_1, af_ret, af_void, List.tail_cons, List.tail_nil, Nat.reduceAdd, Nat.reduceLeDiff, not_false_eq_true, not_true_eq_false, and_self, and_true, true_and, ne_eq, or_true, true_or, or_false, false_or, eq_self, Nat.reduceEqDiff, ↓reduceIte, false_and, and_false, Nat.le_refl, Nat.zero_le, nz_1, nz_2, nz_3, nz_4, nz_5, nz_6, nz_8, nz_10, nz_12, nz_20, nz_30, nz_60, nz_100, mp_B, mp_Z, mp_S, mp_C, mp_K, mp_N, mp_L, mp_R, mp_I, mp_I0, mp_s, mp_s0, u2_ap, sp_isLedge, sp_isLadder, sp_isPerson, sp_isLiving, sp_isLot, sp_isThere, sp_isSpan, ms_K q, ms_B q, ms_f16 q, ms_f10 q, ms_f12 q, r182_21, r182_22, r182_28, r182_29, r182_32, r182_33, r182_37, r182_38, r182_39, r182_40, r182_46, r182_49, r182_50, r182_51, r182_52, r182_55, r182_57, r182_58, r182_61, r182_62, r182_63, r182_68, r182_71, r182_72, r182_73, r182_76, r182_77, r182_78, r182_80, r182_81, r182_82, r182_83, r182_84, r182_87, r182_88, r182_90, r182_92, r182_93, r182_94, r182_97, r182_98, r182_99, r182_100, r182_101, r182_102, r182_105, r182_106, r182_108, r182_109, r182_110, r182_113, r182_114, r182_115, r182_115b, r182_116, r182_119, r182_25, r182_34, r182_43, r182_65, g0, c0, i1, e1, x1, c1, m1, c2, nat_succ]
  rw [c2] at m1
  obtain ⟨G2, m2, p2⟩ := @c140 d h M G1 q r (Int32.ofNat l) hr i1 n L (mG.pq p1)
  have p2' := p1'.tr p2 (Nat.le_refl _)
  rw [e1, p1'.has, p1'.1 6 l (by decide), show sp_left (A 6 l) (sp_leaves (sp_has A l) L n) = sp_stays A n L l from rfl] at m2
  have x2 := p2'.1 6 l (by decide)
  by_cases c3 : sp_stays A n L l < A 6 l
  case neg =>
    rw [if_neg (fun z => c3 z.2.2)]
    refine ⟨(b, G2), some (.int (sp_stays A n L l)) :: t.tail, ?_, rfl, p2'⟩
    have c3' : A 6 l ≤ sp_stays A n L l := Int32.not_lt.mp c3
    simp only [ite_not, ite_self, w8_nil, ok01, ite10, rf_rv, rf_ref, rf_cat, rf_lk2, rf_some, rf_none, w_add, w_cons, cr_int, cr_long, cr_ref, cr_null, is_ref, is_null, l2_int, l2_ref, l2_null, l2_none, ent_nil, ent_int, ent_ref, ent_null, ent_rf, ent_long, ok_0, ok_1, af_ret, af_void, List.tail_cons, List.tail_nil, Nat.reduceAdd, Nat.reduceLeDiff, not_false_eq_true, not_true_eq_false, and_self, and_true, true_and, ne_eq, or_true, true_or, or_false, false_or, eq_self, Nat.reduceEqDiff, ↓reduceIte, false_and, and_false, Nat.le_refl, Nat.zero_le, nz_1, nz_2, nz_3, nz_4, nz_5, nz_6, nz_8, nz_10, nz_12, nz_20, nz_30, nz_60, nz_100, mp_B, mp_Z, mp_S, mp_C, mp_K, mp_N, mp_L, mp_R, mp_I, mp_I0, mp_s, mp_s0, u2_ap, sp_isLedge, sp_isLadder, sp_isPerson, sp_isLiving, sp_isLot, sp_isThere, sp_isSpan, ms_K q, ms_B q, ms_f16 q, ms_f10 q, ms_f12 q, r182_21, r182_22, r182_28, r182_29, r182_32, r182_33, r182_37, r182_38, r182_39, r182_40, r182_46, r182_49, r182_50, r182_51, r182_52, r182_55, r182_57, r182_58, r182_61, r182_62, r182_63, r182_68, r182_71, r182_72, r182_73, r182_76, r182_77, r182_78, r182_80, r182_81, r182_82, r182_83, r182_84, r182_87, r182_88, r182_90, r182_92, r182_93, r182_94, r182_97, r182_98, r182_99, r182_100, r182_101, r182_102, r182_105, r182_106, r182_108, r182_109, r182_110, r182_113, r182_114, r182_115, r182_115b, r182_116, r182_119, r182_25, r182_34, r182_43, r182_65, g0, c0, i1, e1, x1, c1, m1, c2, m2, x2, c3, c3', nat_succ]
  have c3' : ¬ A 6 l ≤ sp_stays A n L l := Int32.not_le.mpr c3
  have nz : ¬ A 6 l = 0 := fun z => by
    unfold sp_stays at c3
    rw [z, left_0] at c3
    exact absurd c3 (by decide)
  rw [if_pos ⟨c1, c2, c3⟩]
  refine ⟨(b + (A 6 l - sp_stays A n L l), xm_u2 (xm_u2 (xm_u2 G2 8 l (100 * sp_stays A n L l / A 6 l)) 6 l (sp_stays A n L l)) 12 l 1), some (.int (sp_stays A n L l)) :: t.tail, ?_, rfl, ?_⟩
  · simp only [ite_not, ite_self, w8_nil, ok01, ite10, rf_rv, rf_ref, rf_cat, rf_lk2, rf_some, rf_none, w_add, w_cons, cr_int, cr_long, cr_ref, cr_null, is_ref, is_null, l2_int, l2_ref, l2_null, l2_none, ent_nil, ent_int, ent_ref, ent_null, ent_rf, ent_long, ok_0, ok_1, af_ret, af_void, List.tail_cons, List.tail_nil, Nat.reduceAdd, Nat.reduceLeDiff, not_false_eq_true, not_true_eq_false, and_self, and_true, true_and, ne_eq, or_true, true_or, or_false, false_or, eq_self, Nat.reduceEqDiff, ↓reduceIte, false_and, and_false, Nat.le_refl, Nat.zero_le, nz_1, nz_2, nz_3, nz_4, nz_5, nz_6, nz_8, nz_10, nz_12, nz_20, nz_30, nz_60, nz_100, mp_B, mp_Z, mp_S, mp_C, mp_K, mp_N, mp_L, mp_R, mp_I, mp_I0, mp_s, mp_s0, u2_ap, sp_isLedge, sp_isLadder, sp_isPerson, sp_isLiving, sp_isLot, sp_isThere, sp_isSpan, ms_K q, ms_B q, ms_f16 q, ms_f10 q, ms_f12 q, r182_21, r182_22, r182_28, r182_29, r182_32, r182_33, r182_37, r182_38, r182_39, r182_40, r182_46, r182_49, r182_50, r182_51, r182_52, r182_55, r182_57, r182_58, r182_61, r182_62, r182_63, r182_68, r182_71, r182_72, r182_73, r182_76, r182_77, r182_78, r182_80, r182_81, r182_82, r182_83, r182_84, r182_87, r182_88, r182_90, r182_92, r182_93, r182_94, r182_97, r182_98, r182_99, r182_100, r182_101, r182_102, r182_105, r182_106, r182_108, r182_109, r182_110, r182_113, r182_114, r182_115, r182_115b, r182_116, r182_119, r182_25, r182_34, r182_43, r182_65, g0, c0, i1, e1, x1, c1, m1, c2, m2, x2, c3, c3', nz, nat_succ]
  · refine ⟨fun o k ho => ?_, fun k hk => absurd hk (Nat.not_lt_zero _)⟩
    show xm_u2 (xm_u2 (xm_u2 G2 8 l (100 * sp_stays A n L l / A 6 l)) 6 l (sp_stays A n L l)) 12 l 1 o k = xm_u2 (xm_u2 (xm_u2 A 8 l (100 * sp_stays A n L l / A 6 l)) 6 l (sp_stays A n L l)) 12 l 1 o k
    simp only [u2_ap, p2'.1 o k ho]
theorem c182 (q : MS h M) (hn : rg (F 0 6) 12) (h0 : 0 ≤ (F 0 0).toInt) (h1 : (F 0 0).toInt ≤ 99000) {r : Int32} (hr : rg r 1) {n : Nat} {L : Nat → Ln} (hm : MR F r.toNatClampNeg n L) : ∃ G, xm_met (d + 6) 182 [.ref M, .int r] (xp_m h M F) = some (.inl (some (.int (sp_foresees L n F).1)), xp_m h M G) ∧ pq 0 (sp_foresees L n F).2 G := by
  have a := @c182a (d + 1) h M q r (59 - ((F 0 0).toInt % 60).toNat) 0 F hn h0 (by omega) (by omega)
  rw [show d + 1 + 5 = d + 6 from rfl, show xp_it (fun _ => sp_goes) 0 (59 - ((F 0 0).toInt % 60).toNat) F = sp_rest F from rfl] at a
  obtain ⟨⟨b, G⟩, t, e, i1, i2⟩ := xp_loop2 (P := foP d h M r) (n := (F 0 6).toNatClampNeg) (fun l s => s.1 = (sp_fores L n F l).1 ∧ pq 0 (sp_fores L n F l).2 s.2) (fun l s t hl hs => c182s q hn hr hm l s t hl hs) _ 0 (0, sp_rest F) [] (Nat.zero_add _) ⟨rfl, pq.rf⟩
  have i1 : b = (sp_fores L n F (F 0 6).toNatClampNeg).1 := i1
  have i2 : pq 0 (sp_fores L n F (F 0 6).toNatClampNeg).2 G := i2
  have g6 := (i2.1 0 6 (by decide)).trans fores_6
  have gd := (i2.1 0 0 (by decide)).trans fores_d
  have rd := rest_d h0 h1
  have c0 := (lp_end hn (by decide)).1
  have e3 := @c98 (d + 1) h M G q (by rw [g6]; exact hn) ⟨by rw [gd]; omega, by rw [gd]; omega⟩
  unfold foP at e
  rw [show Int32.ofNat 0 = (0 : Int32) from rfl] at e
  refine ⟨sp_goes G, ?_, i2.goes⟩
  unfold xm_met sp_foresees
  rw [← i1]
  show xm_run (d + 6) 182 0 [some (.ref M), some (.int r)] [] (xp_m h M F) = _
  rw [a]
  simp only [ite_not, ite_self, w8_nil, ok01, ite10, rf_rv, rf_ref, rf_cat, rf_lk2, rf_some, rf_none, w_add, w_cons, cr_int, cr_long, cr_ref, cr_null, is_ref, is_null, l2_int, l2_ref, l2_null, l2_none, ent_nil, ent_int, ent_ref, ent_null, ent_rf, ent_long, ok_0, ok_1, af_ret, af_void, List.tail_cons, List.tail_nil, Nat.reduceAdd, Nat.reduceLeDiff, not_false_eq_true, not_true_eq_false, and_self, and_true, true_and, ne_eq, or_true, true_or, or_false, false_or, eq_self, Nat.reduceEqDiff, ↓reduceIte, false_and, and_false, Nat.le_refl, Nat.zero_le, nz_1, nz_2, nz_3, nz_4, nz_5, nz_6, nz_8, nz_10, nz_12, nz_20, nz_30, nz_60, nz_100, r182_16, r182_17, r182_18, r182_19]
  rw [e]
  show xm_run _ _ _ (some (.ref M) :: some (.int r) :: some (.int b) :: some (.int (Int32.ofNat (F 0 6).toNatClampNeg)) :: t) _ (xp_m h M G) = _
  rw [r182_20]
  simp only [ite_not, ite_self, w8_nil, ok01, ite10, rf_rv, rf_ref, rf_cat, rf_lk2, rf_some, rf_none, w_add, w_cons, cr_int, cr_long, cr_ref, cr_null, is_ref, is_null, l2_int, l2_ref, l2_null, l2_none, ent_nil, ent_int, ent_ref, ent_null, ent_rf, ent_long, ok_0, ok_1, af_ret, af_void, List.tail_cons, List.tail_nil, Nat.reduceAdd, Nat.reduceLeDiff, not_false_eq_true, not_true_eq_false, and_self, and_true, true_and, ne_eq, or_true, true_or, or_false, false_or, eq_self, Nat.reduceEqDiff, ↓reduceIte, false_and, and_false, Nat.le_refl, Nat.zero_le, nz_1, nz_2, nz_3, nz_4, nz_5, nz_6, nz_8, nz_10, nz_12, nz_20, nz_30, nz_60, nz_100, mp_B, mp_Z, mp_S, mp_C, mp_K, mp_N, mp_L, mp_R, mp_I, mp_I0, mp_s, mp_s0, u2_ap, sp_isLedge, sp_isLadder, sp_isPerson, sp_isLiving, sp_isLot, sp_isThere, sp_isSpan, ms_K q, ms_B q, ms_f16 q, ms_f10 q, ms_f12 q, r182_21, r182_22, r182_25, r182_122, r182_123, r182_126, r182_127, g6, c0, e3]
end M30
