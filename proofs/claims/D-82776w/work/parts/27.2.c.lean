/-! the component's contracts, 12: what is reached -/
set_option maxRecDepth 100000
section C12
variable {d : Nat} {h : xm_H} {D : xp_D} {F : xp_F}
theorem isR_cq {G : xp_F} (a : cq F G) {n : Nat} {L : Nat → Ln} {k c w : Int32} {l : Nat} : sp_isR G n L k c w l = sp_isR F n L k c w l := by
  unfold sp_isR sp_stays sp_age
  rw [has_cq a, a 0 0 (by decide), a 16 _ (by decide), a 31 _ (by decide), a 3 _ (by decide), a 4 _ (by decide), a 30 _ (by decide), a 12 _ (by decide), a 6 _ (by decide), a 39 _ (by decide)]
/-- the set so far, what would be cut -/
def rcI (F : xp_F) (n : Nat) (L : Nat → Ln) (k c w : Int32) (l : Nat) (s : Int32 × xp_F) : Prop := s.1 = xp_up (sp_reach1 F n L k c w) 0 l ∧ cr F s.2 ∧ (∀ j, j < l → bit s.1 j = true → s.2 83 j = sp_cutOf F n L j) ∧ ∀ j, l ≤ j → j < 32 → bit s.1 j = false
noncomputable def rcQ (d : Nat) (h : xm_H) (D : xp_D) (k c v : Int32) (l : Nat) (s : Int32 × xp_F) (t : List (Option Value)) : xm_V := xm_run (d + 704) 36 31 (some (.ref (xd_X D)) :: some (.int k) :: some (.int c) :: some (.int v) :: some (.int s.1) :: some (.int (Int32.ofNat l)) :: t) [] (xp_c h D s.2)
theorem c36s (q : CS h D) (hn : CN D F) {n : Nat} {L : Nat → Ln} (hC : CR h D 0 n L) (hm : F 14 0 = Int32.ofNat n) {k c w : Int32} (ik : xm_in k 4 = true) (hage : ¬ F 16 0 < sp_age F k) (l : Nat) (s : Int32 × xp_F) (t : List (Option Value)) (hl : l < xd_n D 0) (hs : rcI F n L k c w l s) :
    ∃ (s' : Int32 × xp_F) (t' : List (Option Value)), rcQ d h D k c (F 39 w.toNatClampNeg) l s t = rcQ d h D k c (F 39 w.toNatClampNeg) (l + 1) s' t' ∧ rcI F n L k c w (l + 1) s' := by
  have n12 := (cs_n q).1
  obtain ⟨b, G⟩ := s
  have h1 : b = xp_up (sp_reach1 F n L k c w) 0 l := hs.1
  have h2' : cr F G := hs.2.1
  have h2 : cq F G := h2'.cq
  have h3 : ∀ j, j < l → bit b j = true → G 83 j = sp_cutOf F n L j := hs.2.2.1
  have h4 : ∀ j, l ≤ j → j < 32 → bit b j = false := hs.2.2.2
  have c0 := lt_nat hl (by omega)
  obtain ⟨i1, e1⟩ := in_nat (show l < 12 by omega) (by decide)
  have o1 := cs_L q hl
  have g0 := h2 0 6 (by decide)
  rw [hn.1] at g0
  have g1 := h2 3 l (by decide)
  have g2 := h2 4 l (by decide)
  have g3 := h2 12 l (by decide)
  have g4 := h2 30 k.toNatClampNeg (by decide)
  have gd := h2 0 0 (by decide)
  have gw := h2 0 1 (by decide)
  have up : xp_up (sp_reach1 F n L k c w) 0 (l + 1) = sp_reach1 F n L k c w l b := by rw [h1]; rfl
  have no : sp_isR F n L k c w l = false → ∀ G' : xp_F, cr F G' → (∀ j, ¬ j = l → G' 83 j = G 83 j) → rcI F n L k c w (l + 1) (b, G') := fun hr G' hc hk => by
    refine ⟨?_, hc, fun j hj hb => ?_, fun j hj h32 => h4 j (by omega) h32⟩
    · show b = _
      rw [up]
      unfold sp_reach1
      rw [hr, if_neg (by decide), Int32.or_zero]
    · have jl : j < l := by
        false_or_by_contra
        have hb : bit b j = true := hb
        rw [h4 j (by omega) (by omega)] at hb
        exact absurd hb (by decide)
      exact (hk j (by omega)).trans (h3 j jl hb)
  have noR : ∀ P : Prop, (sp_isR F n L k c w l = true → P) → ¬ P → sp_isR F n L k c w l = false := fun P hp hn => Bool.eq_false_iff.mpr (fun z => hn (hp z))
  have dec : sp_isR F n L k c w l = true → (¬ F 16 0 < sp_age F k ∧ ¬ 1 < ab (F 3 l - c) ∧ ¬ F 4 l < 99 - F 30 k.toNatClampNeg ∧ F 12 l = 0 ∧ sp_barred (sp_has F l) L n = 0 ∧ 0 < F 6 l - sp_stays F n L l ∧ ¬ 150 - 6 * sp_age F k < F 39 w.toNatClampNeg + (F 6 l - sp_stays F n L l) / 20) := fun z => of_decide_eq_true z
  unfold rcQ
  show ∃ (s' : Int32 × xp_F) (t' : List (Option Value)), xm_run (d + 704) 36 31 (some (.ref (xd_X D)) :: some (.int k) :: some (.int c) :: some (.int (F 39 w.toNatClampNeg)) :: some (.int b) :: some (.int (Int32.ofNat l)) :: t) [] (xp_c h D G) = _ ∧ _
  rw [r36_31]
  by_cases c1 : 1 < ab (F 3 l - c)
  · refine ⟨(b, G), some (.ref (xd_A D 1 l)) :: t.tail, ?_, no (noR _ (fun z => (dec z).2.1) (fun z => z c1)) G h2' (fun _ _ => rfl)⟩
    simp only [ite_not, ite_self, w8_nil, ok01, ite10, rf_rv, rf_ref, rf_cat, rf_lk2, rf_some, rf_none, w_add, w_cons, cr_int, cr_long, cr_ref, cr_null, is_ref, is_null, l2_int, l2_ref, l2_null, l2_none, ent_nil, ent_int, ent_ref, ent_null, ent_rf, ent_long, ok_0, ok_1, af_ret, af_void, List.tail_cons, List.tail_nil, Nat.reduceAdd, Nat.reduceLeDiff, not_false_eq_true, not_true_eq_false, and_self, and_true, true_and, ne_eq, or_true, true_or, or_false, false_or, eq_self, Nat.reduceEqDiff, ↓reduceIte, false_and, and_false, Nat.le_refl, Nat.zero_le, nz_1, nz_2, nz_3, nz_4, nz_5, nz_6, nz_8, nz_10, nz_12, nz_20, nz_30, nz_60, nz_100, mc_B, mc_Z, mc_S, mc_C, mc_K, mc_N, mc_R, mc_I, mc_L, va_Is, va_Ls, va_us, va_iss, u2_ap, sp_isLedge, sp_isLadder, sp_isPerson, sp_isLiving, sp_isLot, sp_isThere, sp_isSpan, cs_K q, cs_B q, mc_s (cs_inj q), cs_f21 q, cs_f19 q, cs_f4 q, cs_f0 q, cs_f20 q, cs_f5 q, cs_f6 q, cs_f23 q, r36_33, r36_34, r36_40, r36_41, r36_44, r36_46, r36_47, r36_49, r36_51, r36_54, r36_55, r36_56, r36_59, r36_63, r36_65, r36_68, r36_70, r36_71, r36_74, r36_75, r36_76, r36_80, r36_82, r36_88, r36_37, r36_60, r36_77, r36_85, r36_175, r36_178, g0, c0, i1, e1, o1, g1, ab_def, c1, nat_succ]
  by_cases c3 : F 4 l < 99 - F 30 k.toNatClampNeg
  · refine ⟨(b, G), some (.ref (xd_A D 1 l)) :: t.tail, ?_, no (noR _ (fun z => (dec z).2.2.1) (fun z => z c3)) G h2' (fun _ _ => rfl)⟩
    simp only [ite_not, ite_self, w8_nil, ok01, ite10, rf_rv, rf_ref, rf_cat, rf_lk2, rf_some, rf_none, w_add, w_cons, cr_int, cr_long, cr_ref, cr_null, is_ref, is_null, l2_int, l2_ref, l2_null, l2_none, ent_nil, ent_int, ent_ref, ent_null, ent_rf, ent_long, ok_0, ok_1, af_ret, af_void, List.tail_cons, List.tail_nil, Nat.reduceAdd, Nat.reduceLeDiff, not_false_eq_true, not_true_eq_false, and_self, and_true, true_and, ne_eq, or_true, true_or, or_false, false_or, eq_self, Nat.reduceEqDiff, ↓reduceIte, false_and, and_false, Nat.le_refl, Nat.zero_le, nz_1, nz_2, nz_3, nz_4, nz_5, nz_6, nz_8, nz_10, nz_12, nz_20, nz_30, nz_60, nz_100, mc_B, mc_Z, mc_S, mc_C, mc_K, mc_N, mc_R, mc_I, mc_L, va_Is, va_Ls, va_us, va_iss, u2_ap, sp_isLedge, sp_isLadder, sp_isPerson, sp_isLiving, sp_isLot, sp_isThere, sp_isSpan, cs_K q, cs_B q, mc_s (cs_inj q), cs_f21 q, cs_f19 q, cs_f4 q, cs_f0 q, cs_f20 q, cs_f5 q, cs_f6 q, cs_f23 q, r36_33, r36_34, r36_40, r36_41, r36_44, r36_46, r36_47, r36_49, r36_51, r36_54, r36_55, r36_56, r36_59, r36_63, r36_65, r36_68, r36_70, r36_71, r36_74, r36_75, r36_76, r36_80, r36_82, r36_88, r36_37, r36_60, r36_77, r36_85, r36_175, r36_178, g0, c0, i1, e1, o1, g1, ab_def, c1, g2, g4, ik, c3, nat_succ]
  by_cases c4 : F 12 l = 0
  case neg =>
    refine ⟨(b, G), some (.ref (xd_A D 1 l)) :: t.tail, ?_, no (noR _ (fun z => (dec z).2.2.2.1) (fun z => c4 z)) G h2' (fun _ _ => rfl)⟩
    simp only [ite_not, ite_self, w8_nil, ok01, ite10, rf_rv, rf_ref, rf_cat, rf_lk2, rf_some, rf_none, w_add, w_cons, cr_int, cr_long, cr_ref, cr_null, is_ref, is_null, l2_int, l2_ref, l2_null, l2_none, ent_nil, ent_int, ent_ref, ent_null, ent_rf, ent_long, ok_0, ok_1, af_ret, af_void, List.tail_cons, List.tail_nil, Nat.reduceAdd, Nat.reduceLeDiff, not_false_eq_true, not_true_eq_false, and_self, and_true, true_and, ne_eq, or_true, true_or, or_false, false_or, eq_self, Nat.reduceEqDiff, ↓reduceIte, false_and, and_false, Nat.le_refl, Nat.zero_le, nz_1, nz_2, nz_3, nz_4, nz_5, nz_6, nz_8, nz_10, nz_12, nz_20, nz_30, nz_60, nz_100, mc_B, mc_Z, mc_S, mc_C, mc_K, mc_N, mc_R, mc_I, mc_L, va_Is, va_Ls, va_us, va_iss, u2_ap, sp_isLedge, sp_isLadder, sp_isPerson, sp_isLiving, sp_isLot, sp_isThere, sp_isSpan, cs_K q, cs_B q, mc_s (cs_inj q), cs_f21 q, cs_f19 q, cs_f4 q, cs_f0 q, cs_f20 q, cs_f5 q, cs_f6 q, cs_f23 q, r36_33, r36_34, r36_40, r36_41, r36_44, r36_46, r36_47, r36_49, r36_51, r36_54, r36_55, r36_56, r36_59, r36_63, r36_65, r36_68, r36_70, r36_71, r36_74, r36_75, r36_76, r36_80, r36_82, r36_88, r36_37, r36_60, r36_77, r36_85, r36_175, r36_178, g0, c0, i1, e1, o1, g1, ab_def, c1, g2, g4, ik, c3, g3, c4, nat_succ]
  have gm := h2 14 0 (by decide)
  rw [hm] at gm
  have a1 := @c27 d h D G true q 0 (by decide) n L hC gm l hl (F 0 0) (F 0 1)
  generalize eA : sq_ask true G l (F 0 0) (F 0 1) 0 n L = A at a1
  have cA' : cr F A := by rw [← eA]; exact h2'.tr ask_cr
  have cA : cq F A := cA'.cq
  have hh : sq_has true G l (F 0 0) (F 0 1) = sp_has F l := by
    have : sq_has true G l (F 0 0) (F 0 1) = sp_has G l := by
      funext z
      unfold sq_has sp_has
      rw [gd, gw]
      rfl
    rw [this, has_cq h2]
  have bA : A 102 0 = sp_barred (sp_has F l) L n := by rw [← eA, ask_b, hh]
  have lA : A 101 0 = sp_leaves (sp_has F l) L n := by rw [← eA, ask_l, hh]
  have kA : ∀ j, A 83 j = G 83 j := fun j => by rw [← eA, ask_o (by decide) (by decide) (by decide)]
  have mA : A 6 l = F 6 l := cA _ _ (by decide)
  have a2 := @c28 (d + 703) h D A true q l 0 hl (by decide)
  rw [lA, show nu true 4 = 6 from rfl, mA, show sp_left (F 6 l) (sp_leaves (sp_has F l) L n) = sp_stays F n L l from rfl] at a2
  rw [show rk true = 1 from rfl] at a1 a2
  rw [show Int32.ofNat 0 = (0 : Int32) from rfl] at a1
  have ec : F 6 l - sp_stays F n L l = sp_cutOf F n L l := rfl
  have o2 := cs_U q (show 0 < 2 by decide)
  have hc2 : cr F (xm_u2 A 83 l (sp_cutOf F n L l)) := cA'.tr cr.u
  have hk2 : ∀ j, ¬ j = l → xm_u2 A 83 l (sp_cutOf F n L l) 83 j = G 83 j := fun j hj => by
    rw [u2_ap, if_neg (by omega)]
    exact kA j
  have n1 : (102 = 83) = False := by decide
  have gd2 : A 0 0 = F 0 0 := cA _ _ (by decide)
  have gm2 : A 31 k.toNatClampNeg = F 31 k.toNatClampNeg := cA _ _ (by decide)
  have a3 := @c32 (d + 702) h D (xm_u2 A 83 l (sp_cutOf F n L l)) q k ik
  have ea : sp_age (xm_u2 A 83 l (sp_cutOf F n L l)) k = sp_age F k := by
    unfold sp_age
    rw [u2_ap, if_neg (by omega), u2_ap, if_neg (by omega), gd2, gm2]
  rw [ea] at a3
  by_cases c6 : sp_barred (sp_has F l) L n = 0
  case neg =>
    refine ⟨(b, xm_u2 A 83 l (sp_cutOf F n L l)), some (.ref (xd_A D 1 l)) :: some (.ref (xd_A D 7 0)) :: t.tail.tail, ?_, no (noR _ (fun z => (dec z).2.2.2.2.1) (fun z => c6 z)) _ hc2 hk2⟩
    simp only [ite_not, ite_self, w8_nil, ok01, ite10, rf_rv, rf_ref, rf_cat, rf_lk2, rf_some, rf_none, w_add, w_cons, cr_int, cr_long, cr_ref, cr_null, is_ref, is_null, l2_int, l2_ref, l2_null, l2_none, ent_nil, ent_int, ent_ref, ent_null, ent_rf, ent_long, ok_0, ok_1, af_ret, af_void, List.tail_cons, List.tail_nil, Nat.reduceAdd, Nat.reduceLeDiff, not_false_eq_true, not_true_eq_false, and_self, and_true, true_and, ne_eq, or_true, true_or, or_false, false_or, eq_self, Nat.reduceEqDiff, ↓reduceIte, false_and, and_false, Nat.le_refl, Nat.zero_le, nz_1, nz_2, nz_3, nz_4, nz_5, nz_6, nz_8, nz_10, nz_12, nz_20, nz_30, nz_60, nz_100, mc_B, mc_Z, mc_S, mc_C, mc_K, mc_N, mc_R, mc_I, mc_L, va_Is, va_Ls, va_us, va_iss, u2_ap, sp_isLedge, sp_isLadder, sp_isPerson, sp_isLiving, sp_isLot, sp_isThere, sp_isSpan, cs_K q, cs_B q, mc_s (cs_inj q), cs_f21 q, cs_f19 q, cs_f4 q, cs_f0 q, cs_f20 q, cs_f5 q, cs_f6 q, cs_f23 q, r36_33, r36_34, r36_40, r36_41, r36_44, r36_46, r36_47, r36_49, r36_51, r36_54, r36_55, r36_56, r36_59, r36_63, r36_65, r36_68, r36_70, r36_71, r36_74, r36_75, r36_76, r36_80, r36_82, r36_88, r36_91, r36_92, r36_93, r36_95, r36_96, r36_99, r36_100, r36_103, r36_106, r36_108, r36_109, r36_112, r36_114, r36_116, r36_119, r36_121, r36_123, r36_126, r36_127, r36_128, r36_130, r36_37, r36_60, r36_77, r36_85, r36_133, r36_175, r36_178, g0, c0, i1, e1, o1, o2, g1, ab_def, c1, g2, g4, ik, c3, g3, c4, gd, gw, a1, a2, mA, ec, bA, n1, c6, nat_succ]
  by_cases c7 : 0 < sp_cutOf F n L l
  case neg =>
    have c7' : sp_cutOf F n L l ≤ 0 := Int32.not_lt.mp c7
    refine ⟨(b, xm_u2 A 83 l (sp_cutOf F n L l)), some (.ref (xd_A D 1 l)) :: some (.ref (xd_A D 7 0)) :: t.tail.tail, ?_, no (noR _ (fun z => (dec z).2.2.2.2.2.1) (fun z => c7 z)) _ hc2 hk2⟩
    simp only [ite_not, ite_self, w8_nil, ok01, ite10, rf_rv, rf_ref, rf_cat, rf_lk2, rf_some, rf_none, w_add, w_cons, cr_int, cr_long, cr_ref, cr_null, is_ref, is_null, l2_int, l2_ref, l2_null, l2_none, ent_nil, ent_int, ent_ref, ent_null, ent_rf, ent_long, ok_0, ok_1, af_ret, af_void, List.tail_cons, List.tail_nil, Nat.reduceAdd, Nat.reduceLeDiff, not_false_eq_true, not_true_eq_false, and_self, and_true, true_and, ne_eq, or_true, true_or, or_false, false_or, eq_self, Nat.reduceEqDiff, ↓reduceIte, false_and, and_false, Nat.le_refl, Nat.zero_le, nz_1, nz_2, nz_3, nz_4, nz_5, nz_6, nz_8, nz_10, nz_12, nz_20, nz_30, nz_60, nz_100, mc_B, mc_Z, mc_S, mc_C, mc_K, mc_N, mc_R, mc_I, mc_L, va_Is, va_Ls, va_us, va_iss, u2_ap, sp_isLedge, sp_isLadder, sp_isPerson, sp_isLiving, sp_isLot, sp_isThere, sp_isSpan, cs_K q, cs_B q, mc_s (cs_inj q), cs_f21 q, cs_f19 q, cs_f4 q, cs_f0 q, cs_f20 q, cs_f5 q, cs_f6 q, cs_f23 q, r36_33, r36_34, r36_40, r36_41, r36_44, r36_46, r36_47, r36_49, r36_51, r36_54, r36_55, r36_56, r36_59, r36_63, r36_65, r36_68, r36_70, r36_71, r36_74, r36_75, r36_76, r36_80, r36_82, r36_88, r36_91, r36_92, r36_93, r36_95, r36_96, r36_99, r36_100, r36_103, r36_106, r36_108, r36_109, r36_112, r36_114, r36_116, r36_119, r36_121, r36_123, r36_126, r36_127, r36_128, r36_130, r36_136, r36_137, r36_140, r36_142, r36_37, r36_60, r36_77, r36_85, r36_133, r36_143, r36_175, r36_178, g0, c0, i1, e1, o1, o2, g1, ab_def, c1, g2, g4, ik, c3, g3, c4, gd, gw, a1, a2, mA, ec, bA, n1, c6, c7, c7', nat_succ]
  have c7' : ¬ sp_cutOf F n L l ≤ 0 := Int32.not_le.mpr c7
  by_cases c8 : 150 - 6 * sp_age F k < F 39 w.toNatClampNeg + sp_cutOf F n L l / 20
  · refine ⟨(b, xm_u2 A 83 l (sp_cutOf F n L l)), some (.ref (xd_A D 1 l)) :: some (.ref (xd_A D 7 0)) :: t.tail.tail, ?_, no (noR _ (fun z => (dec z).2.2.2.2.2.2) (fun z => z c8)) _ hc2 hk2⟩
    simp only [ite_not, ite_self, w8_nil, ok01, ite10, rf_rv, rf_ref, rf_cat, rf_lk2, rf_some, rf_none, w_add, w_cons, cr_int, cr_long, cr_ref, cr_null, is_ref, is_null, l2_int, l2_ref, l2_null, l2_none, ent_nil, ent_int, ent_ref, ent_null, ent_rf, ent_long, ok_0, ok_1, af_ret, af_void, List.tail_cons, List.tail_nil, Nat.reduceAdd, Nat.reduceLeDiff, not_false_eq_true, not_true_eq_false, and_self, and_true, true_and, ne_eq, or_true, true_or, or_false, false_or, eq_self, Nat.reduceEqDiff, ↓reduceIte, false_and, and_false, Nat.le_refl, Nat.zero_le, nz_1, nz_2, nz_3, nz_4, nz_5, nz_6, nz_8, nz_10, nz_12, nz_20, nz_30, nz_60, nz_100, mc_B, mc_Z, mc_S, mc_C, mc_K, mc_N, mc_R, mc_I, mc_L, va_Is, va_Ls, va_us, va_iss, u2_ap, sp_isLedge, sp_isLadder, sp_isPerson, sp_isLiving, sp_isLot, sp_isThere, sp_isSpan, cs_K q, cs_B q, mc_s (cs_inj q), cs_f21 q, cs_f19 q, cs_f4 q, cs_f0 q, cs_f20 q, cs_f5 q, cs_f6 q, cs_f23 q, r36_33, r36_34, r36_40, r36_41, r36_44, r36_46, r36_47, r36_49, r36_51, r36_54, r36_55, r36_56, r36_59, r36_63, r36_65, r36_68, r36_70, r36_71, r36_74, r36_75, r36_76, r36_80, r36_82, r36_88, r36_91, r36_92, r36_93, r36_95, r36_96, r36_99, r36_100, r36_103, r36_106, r36_108, r36_109, r36_112, r36_114, r36_116, r36_119, r36_121, r36_123, r36_126, r36_127, r36_128, r36_130, r36_136, r36_137, r36_140, r36_142, r36_146, r36_147, r36_148, r36_151, r36_153, r36_154, r36_156, r36_157, r36_158, r36_159, r36_160, r36_166, r36_168, r36_169, r36_171, r36_172, r36_173, r36_175, r36_178, r36_37, r36_60, r36_77, r36_85, r36_133, r36_143, r36_163, g0, c0, i1, e1, o1, o2, g1, ab_def, c1, g2, g4, ik, c3, g3, c4, gd, gw, a1, a2, mA, ec, bA, n1, c6, c7, c7', a3, c8, nat_succ]
  have yes : sp_isR F n L k c w l = true := decide_eq_true ⟨hage, c1, c3, c4, c6, c7, c8⟩
  have b2 : sp_reach1 F n L k c w l b = b ||| 1 <<< (Int32.ofNat l &&& 31) := by
    unfold sp_reach1
    rw [yes, if_pos rfl]
  refine ⟨(b ||| 1 <<< (Int32.ofNat l &&& 31), xm_u2 A 83 l (sp_cutOf F n L l)), some (.ref (xd_A D 1 l)) :: some (.ref (xd_A D 7 0)) :: t.tail.tail, ?_, ?_, hc2, fun j hj hb => ?_, fun j hj h32 => ?_⟩
  · simp only [ite_not, ite_self, w8_nil, ok01, ite10, rf_rv, rf_ref, rf_cat, rf_lk2, rf_some, rf_none, w_add, w_cons, cr_int, cr_long, cr_ref, cr_null, is_ref, is_null, l2_int, l2_ref, l2_null, l2_none, ent_nil, ent_int, ent_ref, ent_null, ent_rf, ent_long, ok_0, ok_1, af_ret, af_void, List.tail_cons, List.tail_nil, Nat.reduceAdd, Nat.reduceLeDiff, not_false_eq_true, not_true_eq_false, and_self, and_true, true_and, ne_eq, or_true, true_or, or_false, false_or, eq_self, Nat.reduceEqDiff, ↓reduceIte, false_and, and_false, Nat.le_refl, Nat.zero_le, nz_1, nz_2, nz_3, nz_4, nz_5, nz_6, nz_8, nz_10, nz_12, nz_20, nz_30, nz_60, nz_100, mc_B, mc_Z, mc_S, mc_C, mc_K, mc_N, mc_R, mc_I, mc_L, va_Is, va_Ls, va_us, va_iss, u2_ap, sp_isLedge, sp_isLadder, sp_isPerson, sp_isLiving, sp_isLot, sp_isThere, sp_isSpan, cs_K q, cs_B q, mc_s (cs_inj q), cs_f21 q, cs_f19 q, cs_f4 q, cs_f0 q, cs_f20 q, cs_f5 q, cs_f6 q, cs_f23 q, r36_33, r36_34, r36_40, r36_41, r36_44, r36_46, r36_47, r36_49, r36_51, r36_54, r36_55, r36_56, r36_59, r36_63, r36_65, r36_68, r36_70, r36_71, r36_74, r36_75, r36_76, r36_80, r36_82, r36_88, r36_91, r36_92, r36_93, r36_95, r36_96, r36_99, r36_100, r36_103, r36_106, r36_108, r36_109, r36_112, r36_114, r36_116, r36_119, r36_121, r36_123, r36_126, r36_127, r36_128, r36_130, r36_136, r36_137, r36_140, r36_142, r36_146, r36_147, r36_148, r36_151, r36_153, r36_154, r36_156, r36_157, r36_158, r36_159, r36_160, r36_166, r36_168, r36_169, r36_171, r36_172, r36_173, r36_175, r36_178, r36_37, r36_60, r36_77, r36_85, r36_133, r36_143, r36_163, g0, c0, i1, e1, o1, o2, g1, ab_def, c1, g2, g4, ik, c3, g3, c4, gd, gw, a1, a2, mA, ec, bA, n1, c6, c7, c7', a3, c8, nat_succ]
  · rw [up, b2]
  · have hb : bit (b ||| 1 <<< (Int32.ofNat l &&& 31)) j = true := hb
    show xm_u2 A 83 l (sp_cutOf F n L l) 83 j = _
    by_cases e : j = l
    · rw [u2_ap, if_pos ⟨rfl, e⟩, e]
    · rw [hk2 j e]
      rw [bit_set (by omega) (by omega)] at hb
      exact h3 j (by omega) (by simpa [e] using hb)
  · show bit (b ||| 1 <<< (Int32.ofNat l &&& 31)) j = false
    rw [bit_set (by omega) h32, h4 j (by omega) h32]
    simp
    omega
theorem reached_0 {n : Nat} {L : Nat → Ln} {k c w : Int32} (hage : F 16 0 < sp_age F k) : ∀ N, xp_up (sp_reach1 F n L k c w) 0 N = 0
  | 0 => rfl
  | N + 1 => by
    show sp_reach1 F n L k c w N (xp_up (sp_reach1 F n L k c w) 0 N) = 0
    rw [reached_0 hage N]
    unfold sp_reach1
    have : sp_isR F n L k c w N = false := decide_eq_false (fun z => z.1 hage)
    rw [this, if_neg (by decide), Int32.or_zero]
theorem c36 (q : CS h D) (hn : CN D F) {n : Nat} {L : Nat → Ln} (hC : CR h D 0 n L) (hm : F 14 0 = Int32.ofNat n) {k c w : Int32} (ik : xm_in k 4 = true) : ∃ G, xm_met (d + 704) 36 [.ref (xd_X D), .int k, .int c, .int (F 39 w.toNatClampNeg)] (xp_c h D F) = some (.inl (some (.int (sp_reached F n L k c w))), xp_c h D G) ∧ cr F G ∧ (∀ j, j < xd_n D 0 → bit (sp_reached F n L k c w) j = true → G 83 j = sp_cutOf F n L j) ∧ ∀ j, xd_n D 0 ≤ j → j < 32 → bit (sp_reached F n L k c w) j = false := by
  have n12 := (cs_n q).1
  have o2 := cs_U q (show 0 < 2 by decide)
  have i0 : xm_in 0 2 = true := by decide
  have z0 : (0 : Int32).toNatClampNeg = 0 := rfl
  have tn : (F 0 6).toNatClampNeg = xd_n D 0 := by rw [hn.1, tc_nat (by omega)]
  have ja : F 0 0 / 60 - F 31 k.toNatClampNeg = sp_age F k := rfl
  unfold sp_reached
  rw [tn]
  by_cases hage : F 16 0 < sp_age F k
  · refine ⟨F, ?_, cr.rf, fun j _ hb => ?_, fun j _ _ => ?_⟩
    · have c1 : ¬ sp_age F k ≤ F 16 0 := Int32.not_le.mpr hage
      rw [reached_0 hage]
      unfold xm_met
      simp only [ite_not, ite_self, w8_nil, ok01, ite10, rf_rv, rf_ref, rf_cat, rf_lk2, rf_some, rf_none, w_add, w_cons, cr_int, cr_long, cr_ref, cr_null, is_ref, is_null, l2_int, l2_ref, l2_null, l2_none, ent_nil, ent_int, ent_ref, ent_null, ent_rf, ent_long, ok_0, ok_1, af_ret, af_void, List.tail_cons, List.tail_nil, Nat.reduceAdd, Nat.reduceLeDiff, not_false_eq_true, not_true_eq_false, and_self, and_true, true_and, ne_eq, or_true, true_or, or_false, false_or, eq_self, Nat.reduceEqDiff, ↓reduceIte, false_and, and_false, Nat.le_refl, Nat.zero_le, nz_1, nz_2, nz_3, nz_4, nz_5, nz_6, nz_8, nz_10, nz_12, nz_20, nz_30, nz_60, nz_100, mc_B, mc_Z, mc_S, mc_C, mc_K, mc_N, mc_R, mc_I, mc_L, va_Is, va_Ls, va_us, va_iss, u2_ap, sp_isLedge, sp_isLadder, sp_isPerson, sp_isLiving, sp_isLot, sp_isThere, sp_isSpan, cs_K q, cs_B q, mc_s (cs_inj q), cs_f21 q, cs_f19 q, cs_f4 q, cs_f0 q, cs_f20 q, cs_f5 q, cs_f6 q, cs_f23 q, r36_0, r36_1, r36_3, r36_4, r36_7, r36_8, r36_11, r36_12, r36_13, r36_14, r36_15, r36_18, r36_19, r36_20, r36_26, r36_27, r36_23, c16 q, ik, ja, i0, z0, o2, c1]
    · rw [reached_0 hage, bit_0] at hb
      exact absurd hb (by decide)
    · rw [reached_0 hage, bit_0]
  obtain ⟨⟨b, G⟩, t, e, i1, i2, i3, i4⟩ := xp_loop2 (P := rcQ d h D k c (F 39 w.toNatClampNeg)) (n := xd_n D 0) (fun l s => rcI F n L k c w l s) (fun l s t hl hs => c36s q hn hC hm ik hage l s t hl hs) _ 0 (0, F) [] (Nat.zero_add _) ⟨rfl, cr.rf, fun j hj => absurd hj (Nat.not_lt_zero _), fun j _ _ => bit_0⟩
  have i1 : b = xp_up (sp_reach1 F n L k c w) 0 (xd_n D 0) := i1
  have i2 : cr F G := i2
  have g0 := i2.cq 0 6 (by decide)
  rw [hn.1] at g0
  have cz : Int32.ofNat (xd_n D 0) ≤ Int32.ofNat (xd_n D 0) := Int32.le_refl _
  refine ⟨G, ?_, i2, fun j hj hb => i3 j hj (by rw [← i1] at hb; exact hb), fun j hj h32 => by rw [← i1]; exact i4 j hj h32⟩
  have c1 : sp_age F k ≤ F 16 0 := Int32.not_lt.mp hage
  unfold rcQ at e
  rw [show Int32.ofNat 0 = (0 : Int32) from rfl] at e
  unfold xm_met
  simp only [ite_not, ite_self, w8_nil, ok01, ite10, rf_rv, rf_ref, rf_cat, rf_lk2, rf_some, rf_none, w_add, w_cons, cr_int, cr_long, cr_ref, cr_null, is_ref, is_null, l2_int, l2_ref, l2_null, l2_none, ent_nil, ent_int, ent_ref, ent_null, ent_rf, ent_long, ok_0, ok_1, af_ret, af_void, List.tail_cons, List.tail_nil, Nat.reduceAdd, Nat.reduceLeDiff, not_false_eq_true, not_true_eq_false, and_self, and_true, true_and, ne_eq, or_true, true_or, or_false, false_or, eq_self, Nat.reduceEqDiff, ↓reduceIte, false_and, and_false, Nat.le_refl, Nat.zero_le, nz_1, nz_2, nz_3, nz_4, nz_5, nz_6, nz_8, nz_10, nz_12, nz_20, nz_30, nz_60, nz_100, mc_B, mc_Z, mc_S, mc_C, mc_K, mc_N, mc_R, mc_I, mc_L, va_Is, va_Ls, va_us, va_iss, u2_ap, sp_isLedge, sp_isLadder, sp_isPerson, sp_isLiving, sp_isLot, sp_isThere, sp_isSpan, cs_K q, cs_B q, mc_s (cs_inj q), cs_f21 q, cs_f19 q, cs_f4 q, cs_f0 q, cs_f20 q, cs_f5 q, cs_f6 q, cs_f23 q, r36_0, r36_1, r36_3, r36_4, r36_7, r36_8, r36_11, r36_12, r36_13, r36_14, r36_15, r36_18, r36_19, r36_20, r36_26, r36_27, r36_28, r36_29, r36_23, c16 q, ik, ja, i0, z0, o2, c1]
  rw [e]
  show xm_run (d + 704) 36 31 (some (.ref (xd_X D)) :: some (.int k) :: some (.int c) :: some (.int (F 39 w.toNatClampNeg)) :: some (.int b) :: some (.int (Int32.ofNat (xd_n D 0))) :: t) [] (xp_c h D G) = _
  rw [r36_31, ← i1]
  simp only [ite_not, ite_self, w8_nil, ok01, ite10, rf_rv, rf_ref, rf_cat, rf_lk2, rf_some, rf_none, w_add, w_cons, cr_int, cr_long, cr_ref, cr_null, is_ref, is_null, l2_int, l2_ref, l2_null, l2_none, ent_nil, ent_int, ent_ref, ent_null, ent_rf, ent_long, ok_0, ok_1, af_ret, af_void, List.tail_cons, List.tail_nil, Nat.reduceAdd, Nat.reduceLeDiff, not_false_eq_true, not_true_eq_false, and_self, and_true, true_and, ne_eq, or_true, true_or, or_false, false_or, eq_self, Nat.reduceEqDiff, ↓reduceIte, false_and, and_false, Nat.le_refl, Nat.zero_le, nz_1, nz_2, nz_3, nz_4, nz_5, nz_6, nz_8, nz_10, nz_12, nz_20, nz_30, nz_60, nz_100, mc_B, mc_Z, mc_S, mc_C, mc_K, mc_N, mc_R, mc_I, mc_L, va_Is, va_Ls, va_us, va_iss, u2_ap, sp_isLedge, sp_isLadder, sp_isPerson, sp_isLiving, sp_isLot, sp_isThere, sp_isSpan, cs_K q, cs_B q, mc_s (cs_inj q), cs_f21 q, cs_f19 q, cs_f4 q, cs_f0 q, cs_f20 q, cs_f5 q, cs_f6 q, cs_f23 q, r36_33, r36_34, r36_37, r36_181, r36_183, g0, cz]
theorem c33 (q : CS h D) (hn : CN D F) (hl : rg (F 0 46) 4) {n : Nat} {L : Nat → Ln} (hC : CR h D 0 n L) (hm : F 14 0 = Int32.ofNat n) {k c w : Int32} : ∃ G, xm_met (d + 705) 33 [.ref (xd_X D), .int k, .int c, .int w] (xp_c h D F) = some (.inl (some (.int (sp_reach F n L k c w))), xp_c h D G) ∧ cr F G := by
  have e := @c34 (d + 703) h D F q hn hl k c w
  unfold xm_met sp_reach
  by_cases c1 : sp_isLadder F k ∧ (0 ≤ c ∧ c ≤ 15) ∧ sp_isPerson F w
  · rw [if_pos c1] at e
    obtain ⟨G, m1, m2, -⟩ := @c36 d h D F q hn n L hC hm k c w (in_cnt hl c1.1)
    have i1 := in_cnt (hn.p q) c1.2.2
    have o1 := cs_P q (hn.pp q c1.2.2)
    refine ⟨G, ?_, m2⟩
    rw [if_pos c1]
    simp only [ite_not, ite_self, w8_nil, ok01, ite10, rf_rv, rf_ref, rf_cat, rf_lk2, rf_some, rf_none, w_add, w_cons, cr_int, cr_long, cr_ref, cr_null, is_ref, is_null, l2_int, l2_ref, l2_null, l2_none, ent_nil, ent_int, ent_ref, ent_null, ent_rf, ent_long, ok_0, ok_1, af_ret, af_void, List.tail_cons, List.tail_nil, Nat.reduceAdd, Nat.reduceLeDiff, not_false_eq_true, not_true_eq_false, and_self, and_true, true_and, ne_eq, or_true, true_or, or_false, false_or, eq_self, Nat.reduceEqDiff, ↓reduceIte, false_and, and_false, Nat.le_refl, Nat.zero_le, nz_1, nz_2, nz_3, nz_4, nz_5, nz_6, nz_8, nz_10, nz_12, nz_20, nz_30, nz_60, nz_100, mc_B, mc_Z, mc_S, mc_C, mc_K, mc_N, mc_R, mc_I, mc_L, va_Is, va_Ls, va_us, va_iss, u2_ap, sp_isLedge, sp_isLadder, sp_isPerson, sp_isLiving, sp_isLot, sp_isThere, sp_isSpan, cs_K q, cs_B q, mc_s (cs_inj q), cs_f30 q, r33_0, r33_1, r33_2, r33_3, r33_4, r33_10, r33_11, r33_12, r33_13, r33_14, r33_17, r33_18, r33_19, r33_22, r33_25, r33_28, r33_29, r33_7, e, i1, o1, m1]
  · rw [if_neg c1] at e
    refine ⟨F, ?_, cr.rf⟩
    rw [if_neg c1]
    simp only [ite_not, ite_self, w8_nil, ok01, ite10, rf_rv, rf_ref, rf_cat, rf_lk2, rf_some, rf_none, w_add, w_cons, cr_int, cr_long, cr_ref, cr_null, is_ref, is_null, l2_int, l2_ref, l2_null, l2_none, ent_nil, ent_int, ent_ref, ent_null, ent_rf, ent_long, ok_0, ok_1, af_ret, af_void, List.tail_cons, List.tail_nil, Nat.reduceAdd, Nat.reduceLeDiff, not_false_eq_true, not_true_eq_false, and_self, and_true, true_and, ne_eq, or_true, true_or, or_false, false_or, eq_self, Nat.reduceEqDiff, ↓reduceIte, false_and, and_false, Nat.le_refl, Nat.zero_le, nz_1, nz_2, nz_3, nz_4, nz_5, nz_6, nz_8, nz_10, nz_12, nz_20, nz_30, nz_60, nz_100, mc_B, mc_Z, mc_S, mc_C, mc_K, mc_N, mc_R, mc_I, cs_K q, cs_B q, mc_s (cs_inj q), cs_f30 q, r33_0, r33_1, r33_2, r33_3, r33_4, r33_10, r33_11, r33_12, r33_13, r33_14, r33_17, r33_18, r33_19, r33_22, r33_25, r33_28, r33_29, r33_7, e]
end C12
