/-! the model's contracts, 15: what stays, what is reached -/
set_option maxRecDepth 100000
section M15
variable {d : Nat} {h : xm_H} {M : Nat} {F : xp_F}
noncomputable def lvP (d : Nat) (h : xm_H) (M : Nat) (r l : Int32) (k : Nat) (s : Int32 × xp_F) (t : List (Option Value)) : xm_V := xm_run (d + 4) 139 5 (some (.ref M) :: some (.int r) :: some (.int l) :: some (.int s.1) :: some (.int (Int32.ofNat k)) :: t) [] (xp_m h M s.2)
theorem c139s (q : MS h M) {r l : Int32} (hr : rg r 1) (hl : xm_in l 12 = true) {n : Nat} {L : Nat → Ln} (hm : MR F r.toNatClampNeg n L) (k : Nat) (s : Int32 × xp_F) (t : List (Option Value)) (hk : k < n) (hi : s.1 = xp_up (sp_leave1 (sp_has F l.toNatClampNeg) L) 0 k ∧ pq 0 F s.2) : ∃ (s' : Int32 × xp_F) (t' : List (Option Value)), lvP d h M r l k s t = lvP d h M r l (k + 1) s' t' ∧ s'.1 = xp_up (sp_leave1 (sp_has F l.toNatClampNeg) L) 0 (k + 1) ∧ pq 0 F s'.2 := by
  obtain ⟨b, G⟩ := s
  obtain ⟨hb, hp⟩ := hi
  have hp : pq 0 F G := hp
  have hb : b = xp_up (sp_leave1 (sp_has F l.toNatClampNeg) L) 0 k := hb
  have hg := hm.pq hp
  have hn := hm.2.1
  obtain ⟨g1, g2, g3⟩ := hg
  obtain ⟨⟨a1, a2⟩, ⟨a3, a4⟩, a5, a6⟩ := ix_line hr (show k < 20 by omega)
  have c0 := lt_nat hk (by omega)
  have ir := rg_in (N := 2) hr (by decide)
  obtain ⟨s1, s2, s3⟩ := g3 k hk
  have up : xp_up (sp_leave1 (sp_has F l.toNatClampNeg) L) 0 (k + 1) = sp_leave1 (sp_has F l.toNatClampNeg) L k b := by rw [hb]; rfl
  rw [up]
  unfold sp_leave1 lvP
  show ∃ (s' : Int32 × xp_F) (t' : List (Option Value)), xm_run (d + 4) 139 5 (some (.ref M) :: some (.int r) :: some (.int l) :: some (.int b) :: some (.int (Int32.ofNat k)) :: t) [] (xp_m h M G) = _ ∧ _
  rw [r139_5]
  by_cases c2 : (L k).1 = 3
  case neg =>
    rw [if_neg (fun y => c2 y.1)]
    refine ⟨(b, G), t, ?_, rfl, hp⟩
    simp only [ite_not, ite_self, w8_nil, ok01, ite10, rf_rv, rf_ref, rf_cat, rf_lk2, rf_some, rf_none, w_add, w_cons, cr_int, cr_long, cr_ref, cr_null, is_ref, is_null, l2_int, l2_ref, l2_null, l2_none, ent_nil, ent_int, ent_ref, ent_null, ent_rf, ent_long, ok_0, ok_1, af_ret, af_void, List.tail_cons, List.tail_nil, Nat.reduceAdd, Nat.reduceLeDiff, not_false_eq_true, not_true_eq_false, and_self, and_true, true_and, ne_eq, or_true, true_or, or_false, false_or, eq_self, Nat.reduceEqDiff, ↓reduceIte, false_and, and_false, Nat.le_refl, Nat.zero_le, nz_1, nz_2, nz_3, nz_4, nz_5, nz_6, nz_8, nz_10, nz_12, nz_20, nz_30, nz_60, nz_100, mp_B, mp_Z, mp_S, mp_C, mp_K, mp_N, mp_L, mp_R, mp_I, mp_I0, mp_s, mp_s0, u2_ap, sp_isLedge, sp_isLadder, sp_isPerson, sp_isLiving, sp_isLot, sp_isThere, sp_isSpan, ms_K q, ms_B q, ms_f18 q, ms_f22 q, ms_f24 q, ms_f23 q, r139_7, r139_8, r139_11, r139_12, r139_16, r139_17, r139_20, r139_22, r139_23, r139_24, r139_26, r139_27, r139_28, r139_32, r139_35, r139_36, r139_39, r139_41, r139_42, r139_43, r139_45, r139_46, r139_47, r139_49, r139_50, r139_53, r139_55, r139_56, r139_57, r139_59, r139_60, r139_61, r139_62, r139_63, r139_65, r139_67, r139_72, r139_73, r139_74, r139_75, r139_77, r139_79, r139_82, r139_86, r139_89, r139_90, r139_91, r139_92, r139_93, r139_96, r139_98, r139_99, r139_100, r139_102, r139_103, r139_104, r139_106, r139_109, r139_111, r139_113, r139_117, r139_119, r139_122, r139_123, r139_124, r139_127, r139_13, r139_29, r139_69, r139_83, r139_114, g1, ir, c0, a1, a2, s1, c2, nat_succ]
  obtain ⟨x, w, e, f1, f2, f3, f4, f5, f6, f7⟩ := s2 c2
  cases ho : (L k).2.2 with
  | none =>
    rw [ho] at f7
    have f7 : w = e := f7
    subst f7
    obtain ⟨G2, m1, m2⟩ := @c136 d h M G q r l hr hl x w f4 false _ f5 f6
    rw [hp.has] at m1
    have cw : Int32.ofNat w ≤ Int32.ofNat w := Int32.le_refl _
    rw [if_pos ⟨c2, rfl⟩]
    refine ⟨(mx (ev (sp_has F l.toNatClampNeg) (L k).2.1) b, G2), some (.int (Int32.ofNat w)) :: some (.int (Int32.ofNat w)) :: some (.int (ev (sp_has F l.toNatClampNeg) (L k).2.1)) :: t.tail.tail.tail, ?_, rfl, hp.tr m2 (Nat.le_refl _)⟩
    simp only [ite_not, ite_self, w8_nil, ok01, ite10, rf_rv, rf_ref, rf_cat, rf_lk2, rf_some, rf_none, w_add, w_cons, cr_int, cr_long, cr_ref, cr_null, is_ref, is_null, l2_int, l2_ref, l2_null, l2_none, ent_nil, ent_int, ent_ref, ent_null, ent_rf, ent_long, ok_0, ok_1, af_ret, af_void, List.tail_cons, List.tail_nil, Nat.reduceAdd, Nat.reduceLeDiff, not_false_eq_true, not_true_eq_false, and_self, and_true, true_and, ne_eq, or_true, true_or, or_false, false_or, eq_self, Nat.reduceEqDiff, ↓reduceIte, false_and, and_false, Nat.le_refl, Nat.zero_le, nz_1, nz_2, nz_3, nz_4, nz_5, nz_6, nz_8, nz_10, nz_12, nz_20, nz_30, nz_60, nz_100, mp_B, mp_Z, mp_S, mp_C, mp_K, mp_N, mp_L, mp_R, mp_I, mp_I0, mp_s, mp_s0, u2_ap, sp_isLedge, sp_isLadder, sp_isPerson, sp_isLiving, sp_isLot, sp_isThere, sp_isSpan, ms_K q, ms_B q, ms_f18 q, ms_f22 q, ms_f24 q, ms_f23 q, r139_7, r139_8, r139_11, r139_12, r139_16, r139_17, r139_20, r139_22, r139_23, r139_24, r139_26, r139_27, r139_28, r139_32, r139_35, r139_36, r139_39, r139_41, r139_42, r139_43, r139_45, r139_46, r139_47, r139_49, r139_50, r139_53, r139_55, r139_56, r139_57, r139_59, r139_60, r139_61, r139_62, r139_63, r139_65, r139_67, r139_72, r139_73, r139_74, r139_75, r139_77, r139_79, r139_82, r139_86, r139_89, r139_90, r139_91, r139_92, r139_93, r139_96, r139_98, r139_99, r139_100, r139_102, r139_103, r139_104, r139_106, r139_109, r139_111, r139_113, r139_117, r139_119, r139_122, r139_13, r139_29, r139_69, r139_83, r139_114, g1, ir, c0, a1, a2, a3, a4, a5, a6, s1, c2, f1, f2, f3, cw, m1]
    simp only [jn, mx_le]
    simp only [ite_not, ite_self, w8_nil, ok01, ite10, rf_rv, rf_ref, rf_cat, rf_lk2, rf_some, rf_none, w_add, w_cons, cr_int, cr_long, cr_ref, cr_null, is_ref, is_null, l2_int, l2_ref, l2_null, l2_none, ent_nil, ent_int, ent_ref, ent_null, ent_rf, ent_long, ok_0, ok_1, af_ret, af_void, List.tail_cons, List.tail_nil, Nat.reduceAdd, Nat.reduceLeDiff, not_false_eq_true, not_true_eq_false, and_self, and_true, true_and, ne_eq, or_true, true_or, or_false, false_or, eq_self, Nat.reduceEqDiff, ↓reduceIte, false_and, and_false, Nat.le_refl, Nat.zero_le, nz_1, nz_2, nz_3, nz_4, nz_5, nz_6, nz_8, nz_10, nz_12, nz_20, nz_30, nz_60, nz_100, r139_123, r139_124, r139_127, nat_succ]
  | some tm =>
    rw [ho] at f7
    obtain ⟨f8, f9⟩ : wf true tm ∧ sg (cd2 G r.toNatClampNeg) tm w e := f7
    have lw := sg_lt f8 f9
    have cw := lt_nat lw (by omega)
    obtain ⟨G2, m1, m2⟩ := @c136 d h M G q r l hr hl w e f4 true tm f8 f9
    rw [hp.has] at m1
    by_cases c3 : ev (sp_has F l.toNatClampNeg) tm = 1
    · have p2 := hp.tr m2 (Nat.le_refl _)
      have f6' := f6
      rw [← m2.cd] at f6'
      obtain ⟨G3, m3, m4⟩ := @c136 d h M G2 q r l hr hl x w (by omega) false _ f5 f6'
      rw [p2.has] at m3
      have h1 := m2.1 19 (21 * r.toNatClampNeg + k) (by decide)
      rw [f1] at h1
      rw [if_pos ⟨c2, decide_eq_true c3⟩]
      refine ⟨(mx (ev (sp_has F l.toNatClampNeg) (L k).2.1) b, G3), some (.int (Int32.ofNat w)) :: some (.int (Int32.ofNat e)) :: some (.int (ev (sp_has F l.toNatClampNeg) (L k).2.1)) :: t.tail.tail.tail, ?_, rfl, p2.tr m4 (Nat.le_refl _)⟩
      simp only [ite_not, ite_self, w8_nil, ok01, ite10, rf_rv, rf_ref, rf_cat, rf_lk2, rf_some, rf_none, w_add, w_cons, cr_int, cr_long, cr_ref, cr_null, is_ref, is_null, l2_int, l2_ref, l2_null, l2_none, ent_nil, ent_int, ent_ref, ent_null, ent_rf, ent_long, ok_0, ok_1, af_ret, af_void, List.tail_cons, List.tail_nil, Nat.reduceAdd, Nat.reduceLeDiff, not_false_eq_true, not_true_eq_false, and_self, and_true, true_and, ne_eq, or_true, true_or, or_false, false_or, eq_self, Nat.reduceEqDiff, ↓reduceIte, false_and, and_false, Nat.le_refl, Nat.zero_le, nz_1, nz_2, nz_3, nz_4, nz_5, nz_6, nz_8, nz_10, nz_12, nz_20, nz_30, nz_60, nz_100, mp_B, mp_Z, mp_S, mp_C, mp_K, mp_N, mp_L, mp_R, mp_I, mp_I0, mp_s, mp_s0, u2_ap, sp_isLedge, sp_isLadder, sp_isPerson, sp_isLiving, sp_isLot, sp_isThere, sp_isSpan, ms_K q, ms_B q, ms_f18 q, ms_f22 q, ms_f24 q, ms_f23 q, r139_7, r139_8, r139_11, r139_12, r139_16, r139_17, r139_20, r139_22, r139_23, r139_24, r139_26, r139_27, r139_28, r139_32, r139_35, r139_36, r139_39, r139_41, r139_42, r139_43, r139_45, r139_46, r139_47, r139_49, r139_50, r139_53, r139_55, r139_56, r139_57, r139_59, r139_60, r139_61, r139_62, r139_63, r139_65, r139_67, r139_72, r139_73, r139_74, r139_75, r139_77, r139_79, r139_82, r139_86, r139_89, r139_90, r139_91, r139_92, r139_93, r139_96, r139_98, r139_99, r139_100, r139_102, r139_103, r139_104, r139_106, r139_109, r139_111, r139_113, r139_117, r139_119, r139_122, r139_13, r139_29, r139_69, r139_83, r139_114, g1, ir, c0, a1, a2, a3, a4, a5, a6, s1, c2, f1, f2, f3, cw, m1, c3, m3, h1]
      simp only [jn, mx_le]
      simp only [ite_not, ite_self, w8_nil, ok01, ite10, rf_rv, rf_ref, rf_cat, rf_lk2, rf_some, rf_none, w_add, w_cons, cr_int, cr_long, cr_ref, cr_null, is_ref, is_null, l2_int, l2_ref, l2_null, l2_none, ent_nil, ent_int, ent_ref, ent_null, ent_rf, ent_long, ok_0, ok_1, af_ret, af_void, List.tail_cons, List.tail_nil, Nat.reduceAdd, Nat.reduceLeDiff, not_false_eq_true, not_true_eq_false, and_self, and_true, true_and, ne_eq, or_true, true_or, or_false, false_or, eq_self, Nat.reduceEqDiff, ↓reduceIte, false_and, and_false, Nat.le_refl, Nat.zero_le, nz_1, nz_2, nz_3, nz_4, nz_5, nz_6, nz_8, nz_10, nz_12, nz_20, nz_30, nz_60, nz_100, r139_123, r139_124, r139_127, nat_succ]
    · rw [if_neg (fun y => c3 (of_decide_eq_true y.2))]
      refine ⟨(b, G2), some (.int (Int32.ofNat w)) :: some (.int (Int32.ofNat e)) :: t.tail.tail, ?_, rfl, hp.tr m2 (Nat.le_refl _)⟩
      simp only [ite_not, ite_self, w8_nil, ok01, ite10, rf_rv, rf_ref, rf_cat, rf_lk2, rf_some, rf_none, w_add, w_cons, cr_int, cr_long, cr_ref, cr_null, is_ref, is_null, l2_int, l2_ref, l2_null, l2_none, ent_nil, ent_int, ent_ref, ent_null, ent_rf, ent_long, ok_0, ok_1, af_ret, af_void, List.tail_cons, List.tail_nil, Nat.reduceAdd, Nat.reduceLeDiff, not_false_eq_true, not_true_eq_false, and_self, and_true, true_and, ne_eq, or_true, true_or, or_false, false_or, eq_self, Nat.reduceEqDiff, ↓reduceIte, false_and, and_false, Nat.le_refl, Nat.zero_le, nz_1, nz_2, nz_3, nz_4, nz_5, nz_6, nz_8, nz_10, nz_12, nz_20, nz_30, nz_60, nz_100, mp_B, mp_Z, mp_S, mp_C, mp_K, mp_N, mp_L, mp_R, mp_I, mp_I0, mp_s, mp_s0, u2_ap, sp_isLedge, sp_isLadder, sp_isPerson, sp_isLiving, sp_isLot, sp_isThere, sp_isSpan, ms_K q, ms_B q, ms_f18 q, ms_f22 q, ms_f24 q, ms_f23 q, r139_7, r139_8, r139_11, r139_12, r139_16, r139_17, r139_20, r139_22, r139_23, r139_24, r139_26, r139_27, r139_28, r139_32, r139_35, r139_36, r139_39, r139_41, r139_42, r139_43, r139_45, r139_46, r139_47, r139_49, r139_50, r139_53, r139_55, r139_56, r139_57, r139_59, r139_60, r139_61, r139_62, r139_63, r139_65, r139_67, r139_72, r139_73, r139_74, r139_75, r139_77, r139_79, r139_82, r139_86, r139_89, r139_90, r139_91, r139_92, r139_93, r139_96, r139_98, r139_99, r139_100, r139_102, r139_103, r139_104, r139_106, r139_109, r139_111, r139_113, r139_117, r139_119, r139_122, r139_13, r139_29, r139_69, r139_83, r139_114, r139_124, r139_127, g1, ir, c0, a1, a2, a3, a4, a5, a6, s1, c2, f1, f2, f3, cw, m1, c3, nat_succ]
theorem c139 (q : MS h M) {r l : Int32} (hr : rg r 1) (hl : xm_in l 12 = true) {n : Nat} {L : Nat → Ln} (hm : MR F r.toNatClampNeg n L) : ∃ G, xm_met (d + 4) 139 [.ref M, .int r, .int l] (xp_m h M F) = some (.inl (some (.int (sp_leaves (sp_has F l.toNatClampNeg) L n))), xp_m h M G) ∧ pq 0 F G := by
  obtain ⟨s, t, e, i1, i2⟩ := xp_loop2 (P := lvP d h M r l) (fun k s => s.1 = xp_up (sp_leave1 (sp_has F l.toNatClampNeg) L) 0 k ∧ pq 0 F s.2) (fun k s t hk hi => c139s q hr hl hm k s t hk hi) n 0 (0, F) [] (Nat.zero_add _) ⟨rfl, pq.rf⟩
  obtain ⟨b, G⟩ := s
  have hg := (hm.pq i2).1
  have i1 : b = xp_up (sp_leave1 (sp_has F l.toNatClampNeg) L) 0 n := i1
  have i2 : pq 0 F G := i2
  have hg : G 14 r.toNatClampNeg = Int32.ofNat n := hg
  have ir := rg_in (N := 2) hr (by decide)
  have c0 : Int32.ofNat n ≤ Int32.ofNat n := Int32.le_refl _
  refine ⟨G, ?_, i2⟩
  unfold lvP at e
  rw [show Int32.ofNat 0 = (0 : Int32) from rfl] at e
  unfold xm_met
  simp only [ite_not, ite_self, w8_nil, ok01, ite10, rf_rv, rf_ref, rf_cat, rf_lk2, rf_some, rf_none, w_add, w_cons, cr_int, cr_long, cr_ref, cr_null, is_ref, is_null, l2_int, l2_ref, l2_null, l2_none, ent_nil, ent_int, ent_ref, ent_null, ent_rf, ent_long, ok_0, ok_1, af_ret, af_void, List.tail_cons, List.tail_nil, Nat.reduceAdd, Nat.reduceLeDiff, not_false_eq_true, not_true_eq_false, and_self, and_true, true_and, ne_eq, or_true, true_or, or_false, false_or, eq_self, Nat.reduceEqDiff, ↓reduceIte, false_and, and_false, Nat.le_refl, Nat.zero_le, nz_1, nz_2, nz_3, nz_4, nz_5, nz_6, nz_8, nz_10, nz_12, nz_20, nz_30, nz_60, nz_100, r139_0, r139_1, r139_2, r139_3]
  rw [e]
  show xm_run (d + 4) 139 5 (some (.ref M) :: some (.int r) :: some (.int l) :: some (.int b) :: some (.int (Int32.ofNat n)) :: t) [] (xp_m h M G) = _
  unfold sp_leaves
  rw [r139_5, ← i1]
  simp only [ite_not, ite_self, w8_nil, ok01, ite10, rf_rv, rf_ref, rf_cat, rf_lk2, rf_some, rf_none, w_add, w_cons, cr_int, cr_long, cr_ref, cr_null, is_ref, is_null, l2_int, l2_ref, l2_null, l2_none, ent_nil, ent_int, ent_ref, ent_null, ent_rf, ent_long, ok_0, ok_1, af_ret, af_void, List.tail_cons, List.tail_nil, Nat.reduceAdd, Nat.reduceLeDiff, not_false_eq_true, not_true_eq_false, and_self, and_true, true_and, ne_eq, or_true, true_or, or_false, false_or, eq_self, Nat.reduceEqDiff, ↓reduceIte, false_and, and_false, Nat.le_refl, Nat.zero_le, nz_1, nz_2, nz_3, nz_4, nz_5, nz_6, nz_8, nz_10, nz_12, nz_20, nz_30, nz_60, nz_100, mp_B, mp_Z, mp_S, mp_C, mp_K, mp_N, mp_L, mp_R, mp_I, mp_I0, mp_s, mp_s0, u2_ap, sp_isLedge, sp_isLadder, sp_isPerson, sp_isLiving, sp_isLot, sp_isThere, sp_isSpan, ms_K q, ms_B q, ms_f18 q, ms_f22 q, ms_f24 q, ms_f23 q, r139_7, r139_8, r139_11, r139_12, r139_13, r139_130, r139_131, r139_136, r139_138, r139_141, r139_133, hg, ir, c0]
  simp only [jn, mn_le]
  simp only [ite_not, ite_self, w8_nil, ok01, ite10, rf_rv, rf_ref, rf_cat, rf_lk2, rf_some, rf_none, w_add, w_cons, cr_int, cr_long, cr_ref, cr_null, is_ref, is_null, l2_int, l2_ref, l2_null, l2_none, ent_nil, ent_int, ent_ref, ent_null, ent_rf, ent_long, ok_0, ok_1, af_ret, af_void, List.tail_cons, List.tail_nil, Nat.reduceAdd, Nat.reduceLeDiff, not_false_eq_true, not_true_eq_false, and_self, and_true, true_and, ne_eq, or_true, true_or, or_false, false_or, eq_self, Nat.reduceEqDiff, ↓reduceIte, false_and, and_false, Nat.le_refl, Nat.zero_le, nz_1, nz_2, nz_3, nz_4, nz_5, nz_6, nz_8, nz_10, nz_12, nz_20, nz_30, nz_60, nz_100, r139_142]
/-- hundredths' part that stays -/
def sp_left (c v : Int32) : Int32 := (c * v + 99) / 100
theorem c140 (q : MS h M) {r l : Int32} (hr : rg r 1) (hl : xm_in l 12 = true) {n : Nat} {L : Nat → Ln} (hm : MR F r.toNatClampNeg n L) : ∃ G, xm_met (d + 5) 140 [.ref M, .int r, .int l] (xp_m h M F) = some (.inl (some (.int (sp_left (F 6 l.toNatClampNeg) (sp_leaves (sp_has F l.toNatClampNeg) L n)))), xp_m h M G) ∧ pq 0 F G := by
  obtain ⟨G, m1, m2⟩ := @c139 d h M F q r l hr hl n L hm
  refine ⟨G, ?_, m2⟩
  unfold xm_met sp_left
  simp only [ite_not, ite_self, w8_nil, ok01, ite10, rf_rv, rf_ref, rf_cat, rf_lk2, rf_some, rf_none, w_add, w_cons, cr_int, cr_long, cr_ref, cr_null, is_ref, is_null, l2_int, l2_ref, l2_null, l2_none, ent_nil, ent_int, ent_ref, ent_null, ent_rf, ent_long, ok_0, ok_1, af_ret, af_void, List.tail_cons, List.tail_nil, Nat.reduceAdd, Nat.reduceLeDiff, not_false_eq_true, not_true_eq_false, and_self, and_true, true_and, ne_eq, or_true, true_or, or_false, false_or, eq_self, Nat.reduceEqDiff, ↓reduceIte, false_and, and_false, Nat.le_refl, Nat.zero_le, nz_1, nz_2, nz_3, nz_4, nz_5, nz_6, nz_8, nz_10, nz_12, nz_20, nz_30, nz_60, nz_100, mp_B, mp_Z, mp_S, mp_C, mp_K, mp_N, mp_L, mp_R, mp_I, mp_I0, mp_s, mp_s0, u2_ap, sp_isLedge, sp_isLadder, sp_isPerson, sp_isLiving, sp_isLot, sp_isThere, sp_isSpan, ms_K q, ms_B q, ms_f10 q, r140_0, r140_1, r140_4, r140_5, r140_6, r140_7, r140_8, r140_9, r140_12, r140_13, r140_15, r140_16, r140_18, r140_19, ent_nil, m1, hl]
end M15
