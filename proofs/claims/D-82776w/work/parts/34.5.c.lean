/-! the component reads terms -/
set_option maxRecDepth 100000
section CRD
variable {d : Nat} {h h' : xm_H} {D : xp_D} {F G : xp_F} {c : Nat → Int32} {T : Nat} {z s : Nat}
/-- where the component reads a term -/
noncomputable def cX (h : xm_H) (D : xp_D) (X g : Nat) (G : xp_F) (a : Nat) (l : List (Option Value)) : xm_V := match g with
  | 0 => xm_met X 78 [.ref (xd_A D 0 15)] (xp_c h D G)
  | 1 => xm_met X 77 [.ref (xd_A D 0 15)] (xp_c h D G)
  | 2 => xm_run X 77 5 (some (.ref (xd_A D 0 15)) :: some (.ref a) :: l) [] (xp_c h D G)
  | 3 => xm_met X 76 [.ref (xd_A D 0 15)] (xp_c h D G)
  | 4 => xm_run X 76 5 (some (.ref (xd_A D 0 15)) :: some (.ref a) :: l) [] (xp_c h D G)
  | 5 => xm_met X 86 [.ref (xd_A D 0 15)] (xp_c h D G)
  | 6 => xm_met X 85 [.ref (xd_A D 0 15)] (xp_c h D G)
  | 7 => xm_run X 85 5 (some (.ref (xd_A D 0 15)) :: some (.ref a) :: l) [] (xp_c h D G)
  | 8 => xm_run X 84 4 [some (.ref (xd_A D 0 15))] [] (xp_c h D G)
  | _ => xm_run X 84 9 (some (.ref (xd_A D 0 15)) :: some (.ref a) :: l) [] (xp_c h D G)
def rkc : Nat → Nat
  | 0 => 9
  | 1 => 10
  | 2 => 10
  | 3 => 11
  | 4 => 11
  | 5 => 12
  | 6 => 13
  | 7 => 13
  | _ => 14
/-- what it comes to -/
def cO (h : xm_H) (D : xp_D) (F : xp_F) (c : Nat → Int32) (T dp p i : Nat) (v : xm_V) (r : PR) : Prop := match r with
  | .inl x => ∃ h' G, v = some (.inr (xd_A D 0 13), xp_c h' D G) ∧ hx (6 * (T - i)) (48 * (T - i)) h h' ∧ HW h' D ∧ FT F x.1 x.2 G
  | .inr x => ∃ h' G a, v = some (.inl (some (.ref a)), xp_c h' D G) ∧ hx (6 * (x.2 - i)) (48 * (x.2 - i)) h h' ∧ HW h' D ∧ QS F c T x.2 dp G ∧ TO h' D x.1 a ∧ th x.1 + p ≤ x.2 ∧ i ≤ x.2 ∧ x.2 ≤ T
theorem cO_tr {h2 : xm_H} {dp p i i2 : Nat} {v : xm_V} {r : PR} (x : hx (6 * (i2 - i)) (48 * (i2 - i)) h h2) (l : i ≤ i2) (l2 : i2 ≤ T) (o : cO h2 D F c T dp p i2 v r) : cO h D F c T dp p i v r := by
  cases r with
  | inl y =>
    obtain ⟨h', G, m, x2, w2, f⟩ := o
    exact ⟨h', G, m, (x.tr x2).mono (by omega) (by omega), w2, f⟩
  | inr y =>
    obtain ⟨h', G, a, m, x2, w2, q, t, e, l3, l4⟩ := o
    have l3 : i2 ≤ y.2 := l3
    exact ⟨h', G, a, m, (x.tr x2).mono (by omega) (by omega), w2, q, t, e, by omega, l4⟩
theorem cO_eq {dp p i : Nat} {v u : xm_V} {r : PR} (e : v = u) (o : cO h D F c T dp p i u r) : cO h D F c T dp p i v r := e ▸ o
/-- what is read comes to what is told of n steps -/
def crI (D : xp_D) (F : xp_F) (c : Nat → Int32) (T n : Nat) : Prop := ∀ g dp t i p h G a l, g < 10 → i ≤ T → dp ≤ 8 → CS h D → HW h D → SW h D → (lo g 0 = 0 → wf (cnd g) t ∧ TO h D t a ∧ th t + p ≤ i) → (¬ lo g 0 = 0 → p = i) → QS F c T i dp G → flt (pz c T n g dp t i) → ∀ X, 12 * (8 - dp) + rkc g ≤ X → cO h D F c T dp p i (cX h D X g G a l) (pz c T n g dp t i)
theorem lK_201 {q : Nat} (h : 201 ≤ lK c T q) : ∃ k, k < 8 ∧ lK c T q = cod k ∧ (lK c T q - 201).toNatClampNeg = k := by
  have : 201 ≤ lK c T q → ∃ k, k < 8 ∧ lK c T q = cod k ∧ (lK c T q - 201).toNatClampNeg = k := lK_all (P := fun x => 201 ≤ x → ∃ k, k < 8 ∧ x = cod k ∧ (x - 201).toNatClampNeg = k) (by decide +kernel) (by decide +kernel) (by decide +kernel) (tG_all (by decide +kernel))
  exact this h
theorem cod_8 : ∀ k, k < 21 → ¬ 201 ≤ cod k → 8 ≤ Int32.ofNat k := by decide +kernel
theorem cod_7 : ∀ k, k < 8 → ¬ (8 : Int32) ≤ Int32.ofNat k := by decide +kernel
theorem c78 (tc : TC F c T) {n : Nat} (ih : crI D F c T n) {dp : Nat} {t : Tm} {i : Nat} {h : xm_H} {G : xp_F} {a : Nat} {l : List (Option Value)} (hi : i ≤ T) (h8 : dp ≤ 8) (q : CS h D) (w : HW h D) (sw : SW h D) (qs : QS F c T i dp G) (fl : flt (pz c T (n + 1) 0 dp t i)) {X : Nat} (hX : 12 * (8 - dp) + 9 ≤ X) : cO h D F c T dp i i (cX h D X 0 G a l) (pz c T (n + 1) 0 dp t i) := by
  obtain ⟨Y, eY⟩ : ∃ Y, X = Y + 9 := ⟨X - 9, by omega⟩
  subst eY
  show cO h D F c T dp i i (xm_met (Y + 9) 78 [.ref (xd_A D 0 15)] (xp_c h D G)) _
  have s40 := c79 (d := Y + 8) q qs.1 (x := 40) (by decide)
  have n1 : ¬ (1 : Int32) = 0 := by decide
  rw [pz_e0] at fl ⊢
  by_cases c1 : lK c T i = 40
  · rw [if_pos c1] at fl ⊢
    rw [if_pos c1] at s40
    have o := c80 (d := Y) q w sw tc hi h8 qs
    by_cases c3 : dp = 8
    · rw [if_pos c3]
      obtain ⟨G', m, ft⟩ := o.1 c3
      refine ⟨h, G', ?_, hx.rf, w, ft⟩
      unfold xm_met
      simp only [ite_not, ite_self, w8_nil, ok01, ite10, rf_rv, rf_ref, rf_cat, rf_lk2, rf_some, rf_none, w_add, w_cons, cr_int, cr_long, cr_ref, cr_null, is_ref, is_null, l2_int, l2_ref, l2_null, l2_none, ent_nil, ent_int, ent_ref, ent_null, ent_rf, ent_long, ok_0, ok_1, af_ret, af_void, List.tail_cons, List.tail_nil, Nat.reduceAdd, Nat.reduceLeDiff, not_false_eq_true, not_true_eq_false, and_self, and_true, true_and, ne_eq, or_true, true_or, or_false, false_or, eq_self, Nat.reduceEqDiff, ↓reduceIte, false_and, and_false, Nat.le_refl, Nat.zero_le, nz_1, nz_2, nz_3, nz_4, nz_5, nz_6, nz_8, nz_10, nz_12, nz_20, nz_30, nz_60, nz_100, mc_B, mc_Z, mc_S, mc_C, mc_K, mc_N, mc_R, mc_I, mc_L, va_Is, va_Ls, va_us, va_iss, u2_ap, sp_isLedge, sp_isLadder, sp_isPerson, sp_isLiving, sp_isLot, sp_isThere, sp_isSpan, cs_f15 q, af_thr, thr_c q, r78_0, r78_1, r78_3, r78_9, r78_10, r78_13, r78_14, r78_17, r78_18, r78_19, r78_21, r78_27, r78_28, r78_31, r78_32, r78_33, r78_34, r78_37, r78_38, r78_39, r78_42, r78_43, r78_46, r78_47, r78_48, r78_49, r78_52, r78_56, r78_57, r78_60, r78_65, r78_66, r78_69, r78_70, r78_71, r78_75, r78_76, r78_79, r78_83, r78_84, r78_87, r78_88, r78_92, r78_95, r78_96, r78_97, r78_100, r78_103, r78_106, r78_109, r78_110, r78_111, r78_114, r78_117, r78_118, r78_119, r78_122, r78_123, r78_6, r78_24, r78_53, r78_62, r78_72, r78_80, r78_89, s40, n1, m]
    · rw [if_neg c3] at fl ⊢
      obtain ⟨h1, G1, m1, x1, w1, qs1⟩ := o.2 c3
      have q1' := q.hx w x1
      have sw1 := sw.hx q w x1
      have l1 := lE_lt tc.1 hi (by rw [c1]; decide)
      have r := ih 3 (dp + 1) t (lE c T i) (lE c T i) h1 G1 0 [] (by decide) l1.2 (by omega) q1' w1 sw1 (fun z => nomatch z) (fun _ => rfl) qs1 (flt_1 fl) (Y + 8) (by show _ + 11 ≤ _; omega)
      generalize pz c T n 3 (dp + 1) t (lE c T i) = r0 at r fl ⊢
      cases r0 with
      | inl x =>
        obtain ⟨h2, G2, m2, x2, w2, ft⟩ := r
        have m2 : xm_met (Y + 8) 76 [.ref (xd_A D 0 15)] (xp_c h1 D G1) = _ := m2
        refine ⟨h2, G2, ?_, (x1.tr x2).mono (by omega) (by omega), w2, ft⟩
        unfold xm_met
        simp only [ite_not, ite_self, w8_nil, ok01, ite10, rf_rv, rf_ref, rf_cat, rf_lk2, rf_some, rf_none, w_add, w_cons, cr_int, cr_long, cr_ref, cr_null, is_ref, is_null, l2_int, l2_ref, l2_null, l2_none, ent_nil, ent_int, ent_ref, ent_null, ent_rf, ent_long, ok_0, ok_1, af_ret, af_void, List.tail_cons, List.tail_nil, Nat.reduceAdd, Nat.reduceLeDiff, not_false_eq_true, not_true_eq_false, and_self, and_true, true_and, ne_eq, or_true, true_or, or_false, false_or, eq_self, Nat.reduceEqDiff, ↓reduceIte, false_and, and_false, Nat.le_refl, Nat.zero_le, nz_1, nz_2, nz_3, nz_4, nz_5, nz_6, nz_8, nz_10, nz_12, nz_20, nz_30, nz_60, nz_100, mc_B, mc_Z, mc_S, mc_C, mc_K, mc_N, mc_R, mc_I, mc_L, va_Is, va_Ls, va_us, va_iss, u2_ap, sp_isLedge, sp_isLadder, sp_isPerson, sp_isLiving, sp_isLot, sp_isThere, sp_isSpan, cs_f15 q, cs_f15 q1', af_thr, thr_c (q1'.hx w1 x2), r78_0, r78_1, r78_3, r78_9, r78_10, r78_13, r78_14, r78_17, r78_18, r78_19, r78_21, r78_27, r78_28, r78_31, r78_32, r78_33, r78_34, r78_37, r78_38, r78_39, r78_42, r78_43, r78_46, r78_47, r78_48, r78_49, r78_52, r78_56, r78_57, r78_60, r78_65, r78_66, r78_69, r78_70, r78_71, r78_75, r78_76, r78_79, r78_83, r78_84, r78_87, r78_88, r78_92, r78_95, r78_96, r78_97, r78_100, r78_103, r78_106, r78_109, r78_110, r78_111, r78_114, r78_117, r78_118, r78_119, r78_122, r78_123, r78_6, r78_24, r78_53, r78_62, r78_72, r78_80, r78_89, s40, n1, m1, m2]
      | inr x =>
        obtain ⟨t1, q1⟩ := x
        obtain ⟨h2, G2, b, m2, x2, w2, qs2, to2, th2, l2, l3⟩ := r
        have m2 : xm_met (Y + 8) 76 [.ref (xd_A D 0 15)] (xp_c h1 D G1) = _ := m2
        have x2 : hx (6 * (q1 - lE c T i)) (48 * (q1 - lE c T i)) h1 h2 := x2
        have q2' := q1'.hx w1 x2
        have sw2 := sw1.hx q1' w1 x2
        have l2 : lE c T i ≤ q1 := l2
        have l3 : q1 ≤ T := l3
        have th2 : th t1 + lE c T i ≤ q1 := th2
        have s41 := c79 (d := Y + 8) q2' qs2.1 (x := 41) (by decide)
        show cO h D F c T dp i i _ (if lK c T q1 = 41 then .inr (t1, lE c T q1) else .inl (1, lS c T q1))
        by_cases c4 : lK c T q1 = 41
        · rw [if_pos c4]
          have c4' : lK c T (t1, q1).2 = 41 := c4
          rw [if_pos c4'] at s41
          have l4 := lE_lt tc.1 l3 (by rw [c4]; decide)
          obtain ⟨h3, G3, m3, x3, w3, qs3⟩ := qs2.cl.next (d := Y + 1) q2' w2 sw2 tc l3
          have hd : G2 86 4 = Int32.ofNat (dp + 1) := qs2.2.1
          have ed : Int32.ofNat (dp + 1) - 1 = Int32.ofNat dp := by rw [← nat_succ, i_as]
          refine ⟨h3, G3, b, ?_, ((x1.tr x2).tr x3).mono (by show 4 + 6 * (q1 - lE c T i) + 4 ≤ 6 * (lE c T q1 - i); omega) (by show 40 + 48 * (q1 - lE c T i) + 40 ≤ 48 * (lE c T q1 - i); omega), w3, qs3, TO.hx w2 x3 _ _ to2, by show th t1 + i ≤ lE c T q1; omega, by show i ≤ lE c T q1; omega, l4.2⟩
          unfold xm_met
          simp only [ite_not, ite_self, w8_nil, ok01, ite10, rf_rv, rf_ref, rf_cat, rf_lk2, rf_some, rf_none, w_add, w_cons, cr_int, cr_long, cr_ref, cr_null, is_ref, is_null, l2_int, l2_ref, l2_null, l2_none, ent_nil, ent_int, ent_ref, ent_null, ent_rf, ent_long, ok_0, ok_1, af_ret, af_void, List.tail_cons, List.tail_nil, Nat.reduceAdd, Nat.reduceLeDiff, not_false_eq_true, not_true_eq_false, and_self, and_true, true_and, ne_eq, or_true, true_or, or_false, false_or, eq_self, Nat.reduceEqDiff, ↓reduceIte, false_and, and_false, Nat.le_refl, Nat.zero_le, nz_1, nz_2, nz_3, nz_4, nz_5, nz_6, nz_8, nz_10, nz_12, nz_20, nz_30, nz_60, nz_100, mc_B, mc_Z, mc_S, mc_C, mc_K, mc_N, mc_R, mc_I, mc_L, va_Is, va_Ls, va_us, va_iss, u2_ap, sp_isLedge, sp_isLadder, sp_isPerson, sp_isLiving, sp_isLot, sp_isThere, sp_isSpan, cs_f15 q, cs_f15 q1', cs_f15 q2', cs_B q2', cs_rd q2', mc_s (cs_inj q2'), r78_0, r78_1, r78_3, r78_9, r78_10, r78_13, r78_14, r78_17, r78_18, r78_19, r78_21, r78_27, r78_28, r78_31, r78_32, r78_33, r78_34, r78_37, r78_38, r78_39, r78_42, r78_43, r78_46, r78_47, r78_48, r78_49, r78_52, r78_56, r78_57, r78_60, r78_65, r78_66, r78_69, r78_70, r78_71, r78_75, r78_76, r78_79, r78_83, r78_84, r78_87, r78_88, r78_92, r78_95, r78_96, r78_97, r78_100, r78_103, r78_106, r78_109, r78_110, r78_111, r78_114, r78_117, r78_118, r78_119, r78_122, r78_123, r78_6, r78_24, r78_53, r78_62, r78_72, r78_80, r78_89, s40, s41, n1, m1, m2, hd, ed, m3]
        · rw [if_neg c4]
          have c4' : ¬ lK c T (t1, q1).2 = 41 := c4
          rw [if_neg c4'] at s41
          have m3 := c81 (d := Y + 7) (G := G2) q2'
          refine ⟨h2, sp_flt G2 1, ?_, (x1.tr x2).mono (by omega) (by omega), w2, qs2.flt⟩
          unfold xm_met
          simp only [ite_not, ite_self, w8_nil, ok01, ite10, rf_rv, rf_ref, rf_cat, rf_lk2, rf_some, rf_none, w_add, w_cons, cr_int, cr_long, cr_ref, cr_null, is_ref, is_null, l2_int, l2_ref, l2_null, l2_none, ent_nil, ent_int, ent_ref, ent_null, ent_rf, ent_long, ok_0, ok_1, af_ret, af_void, List.tail_cons, List.tail_nil, Nat.reduceAdd, Nat.reduceLeDiff, not_false_eq_true, not_true_eq_false, and_self, and_true, true_and, ne_eq, or_true, true_or, or_false, false_or, eq_self, Nat.reduceEqDiff, ↓reduceIte, false_and, and_false, Nat.le_refl, Nat.zero_le, nz_1, nz_2, nz_3, nz_4, nz_5, nz_6, nz_8, nz_10, nz_12, nz_20, nz_30, nz_60, nz_100, mc_B, mc_Z, mc_S, mc_C, mc_K, mc_N, mc_R, mc_I, mc_L, va_Is, va_Ls, va_us, va_iss, u2_ap, sp_isLedge, sp_isLadder, sp_isPerson, sp_isLiving, sp_isLot, sp_isThere, sp_isSpan, cs_f15 q, cs_f15 q1', cs_f15 q2', thr_c q2', r78_0, r78_1, r78_3, r78_9, r78_10, r78_13, r78_14, r78_17, r78_18, r78_19, r78_21, r78_27, r78_28, r78_31, r78_32, r78_33, r78_34, r78_37, r78_38, r78_39, r78_42, r78_43, r78_46, r78_47, r78_48, r78_49, r78_52, r78_56, r78_57, r78_60, r78_65, r78_66, r78_69, r78_70, r78_71, r78_75, r78_76, r78_79, r78_83, r78_84, r78_87, r78_88, r78_92, r78_95, r78_96, r78_97, r78_100, r78_103, r78_106, r78_109, r78_110, r78_111, r78_114, r78_117, r78_118, r78_119, r78_122, r78_123, r78_6, r78_24, r78_53, r78_62, r78_72, r78_80, r78_89, s40, s41, n1, m1, m2, m3]
  rw [if_neg c1] at fl ⊢
  rw [if_neg c1] at s40
  have t2 := qs.1.2.2.1
  by_cases c22 : lK c T i = 2
  · rw [if_pos c22]
    have l1 := lE_lt tc.1 hi (by rw [c22]; decide)
    have v := qs.1.2.2.2.1 c22
    have t3 : G 86 2 = 3 := by rw [t2, c22]; rfl
    have n32 : ¬ (3 : Int32) = 2 := by decide
    obtain ⟨y1, y2, y3, y4⟩ := num_new w (v := lV c T i)
    have q1' := q.hx w y1
    obtain ⟨h2, G2, m2, x2, w2, qs2⟩ := qs.next (d := Y + 1) q1' y2 (sw.hx q w y1) tc hi
    have y5 := y4 (Y + 6) G
    have qn := q.hx w (hx_nw (kd := 9) (n := 0) (s := 1))
    refine ⟨h2, G2, xm_Z h, ?_, (y1.tr x2).mono (by show 1 + 4 ≤ 6 * (lE c T i - i); omega) (by show 1 + 40 ≤ 48 * (lE c T i - i); omega), w2, qs2, TO.hx y2 x2 _ _ y3, by show 0 + i ≤ lE c T i; omega, by show i ≤ lE c T i; omega, l1.2⟩
    unfold xm_met
    simp only [ite_not, ite_self, w8_nil, ok01, ite10, rf_rv, rf_ref, rf_cat, rf_lk2, rf_some, rf_none, w_add, w_cons, cr_int, cr_long, cr_ref, cr_null, is_ref, is_null, l2_int, l2_ref, l2_null, l2_none, ent_nil, ent_int, ent_ref, ent_null, ent_rf, ent_long, ok_0, ok_1, af_ret, af_void, List.tail_cons, List.tail_nil, Nat.reduceAdd, Nat.reduceLeDiff, not_false_eq_true, not_true_eq_false, and_self, and_true, true_and, ne_eq, or_true, true_or, or_false, false_or, eq_self, Nat.reduceEqDiff, ↓reduceIte, false_and, and_false, Nat.le_refl, Nat.zero_le, nz_1, nz_2, nz_3, nz_4, nz_5, nz_6, nz_8, nz_10, nz_12, nz_20, nz_30, nz_60, nz_100, mc_B, mc_Z, mc_S, mc_C, mc_K, mc_N, mc_R, mc_I, mc_L, va_Is, va_Ls, va_us, va_iss, u2_ap, sp_isLedge, sp_isLadder, sp_isPerson, sp_isLiving, sp_isLot, sp_isThere, sp_isSpan, cs_f15 q, cs_f15 qn, cs_f15 q1', cs_rd q, cs_rd qn, mc_nw w, r78_0, r78_1, r78_3, r78_9, r78_10, r78_13, r78_14, r78_17, r78_18, r78_19, r78_21, r78_27, r78_28, r78_31, r78_32, r78_33, r78_34, r78_37, r78_38, r78_39, r78_42, r78_43, r78_46, r78_47, r78_48, r78_49, r78_52, r78_56, r78_57, r78_60, r78_65, r78_66, r78_69, r78_70, r78_71, r78_75, r78_76, r78_79, r78_83, r78_84, r78_87, r78_88, r78_92, r78_95, r78_96, r78_97, r78_100, r78_103, r78_106, r78_109, r78_110, r78_111, r78_114, r78_117, r78_118, r78_119, r78_122, r78_123, r78_6, r78_24, r78_53, r78_62, r78_72, r78_80, r78_89, s40, t3, n32, v, y5, m2]
  rw [if_neg c22] at fl ⊢
  have t3 : ¬ G 86 2 = 3 := fun z => c22 (lK_nb (t2.symm.trans z))
  by_cases c3 : 201 ≤ lK c T i
  · rw [if_pos c3]
    obtain ⟨k, k8, ek, ev⟩ := lK_201 c3
    have l1 := lE_lt tc.1 hi (by rw [ek]; exact (cod_ne k (by omega)).2.1)
    have v := qs.1.2.2.2.2.2 k (by omega) ek
    have t4 : G 86 2 = 2 := by rw [t2, ek]; exact cTk_cod k (by omega)
    have v8 := cod_7 k k8
    rw [ev]
    obtain ⟨y1, y2, y3, y4⟩ := var_new w (k := k)
    have q1' := q.hx w y1
    obtain ⟨h2, G2, m2, x2, w2, qs2⟩ := qs.next (d := Y + 1) q1' y2 (sw.hx q w y1) tc hi
    have y5 := y4 (Y + 6) G
    have qn := q.hx w (hx_nw (kd := 8) (n := 0) (s := 1))
    refine ⟨h2, G2, xm_Z h, ?_, (y1.tr x2).mono (by show 1 + 4 ≤ 6 * (lE c T i - i); omega) (by show 1 + 40 ≤ 48 * (lE c T i - i); omega), w2, qs2, TO.hx y2 x2 _ _ y3, by show 0 + i ≤ lE c T i; omega, by show i ≤ lE c T i; omega, l1.2⟩
    unfold xm_met
    simp only [ite_not, ite_self, w8_nil, ok01, ite10, rf_rv, rf_ref, rf_cat, rf_lk2, rf_some, rf_none, w_add, w_cons, cr_int, cr_long, cr_ref, cr_null, is_ref, is_null, l2_int, l2_ref, l2_null, l2_none, ent_nil, ent_int, ent_ref, ent_null, ent_rf, ent_long, ok_0, ok_1, af_ret, af_void, List.tail_cons, List.tail_nil, Nat.reduceAdd, Nat.reduceLeDiff, not_false_eq_true, not_true_eq_false, and_self, and_true, true_and, ne_eq, or_true, true_or, or_false, false_or, eq_self, Nat.reduceEqDiff, ↓reduceIte, false_and, and_false, Nat.le_refl, Nat.zero_le, nz_1, nz_2, nz_3, nz_4, nz_5, nz_6, nz_8, nz_10, nz_12, nz_20, nz_30, nz_60, nz_100, mc_B, mc_Z, mc_S, mc_C, mc_K, mc_N, mc_R, mc_I, mc_L, va_Is, va_Ls, va_us, va_iss, u2_ap, sp_isLedge, sp_isLadder, sp_isPerson, sp_isLiving, sp_isLot, sp_isThere, sp_isSpan, cs_f15 q, cs_f15 qn, cs_f15 q1', cs_rd q, cs_rd qn, mc_nw w, r78_0, r78_1, r78_3, r78_9, r78_10, r78_13, r78_14, r78_17, r78_18, r78_19, r78_21, r78_27, r78_28, r78_31, r78_32, r78_33, r78_34, r78_37, r78_38, r78_39, r78_42, r78_43, r78_46, r78_47, r78_48, r78_49, r78_52, r78_56, r78_57, r78_60, r78_65, r78_66, r78_69, r78_70, r78_71, r78_75, r78_76, r78_79, r78_83, r78_84, r78_87, r78_88, r78_92, r78_95, r78_96, r78_97, r78_100, r78_103, r78_106, r78_109, r78_110, r78_111, r78_114, r78_117, r78_118, r78_119, r78_122, r78_123, r78_6, r78_24, r78_53, r78_62, r78_72, r78_80, r78_89, s40, t4, v, v8, n1, y5, m2]
  · rw [if_neg c3]
    have m3 := c81 (d := Y + 7) (G := G) q
    refine ⟨h, sp_flt G 1, ?_, hx.rf, w, qs.flt⟩
    unfold xm_met
    by_cases c4 : G 86 2 = 2
    · obtain ⟨k, hk, ek⟩ := lK_cod (t2.symm.trans c4)
      have v := qs.1.2.2.2.2.2 k hk ek
      have v8 : 8 ≤ Int32.ofNat k := cod_8 k hk (by rw [← ek]; exact c3)
      have n23 : ¬ (2 : Int32) = 3 := by decide
      simp only [ite_not, ite_self, w8_nil, ok01, ite10, rf_rv, rf_ref, rf_cat, rf_lk2, rf_some, rf_none, w_add, w_cons, cr_int, cr_long, cr_ref, cr_null, is_ref, is_null, l2_int, l2_ref, l2_null, l2_none, ent_nil, ent_int, ent_ref, ent_null, ent_rf, ent_long, ok_0, ok_1, af_ret, af_void, List.tail_cons, List.tail_nil, Nat.reduceAdd, Nat.reduceLeDiff, not_false_eq_true, not_true_eq_false, and_self, and_true, true_and, ne_eq, or_true, true_or, or_false, false_or, eq_self, Nat.reduceEqDiff, ↓reduceIte, false_and, and_false, Nat.le_refl, Nat.zero_le, nz_1, nz_2, nz_3, nz_4, nz_5, nz_6, nz_8, nz_10, nz_12, nz_20, nz_30, nz_60, nz_100, mc_B, mc_Z, mc_S, mc_C, mc_K, mc_N, mc_R, mc_I, mc_L, va_Is, va_Ls, va_us, va_iss, u2_ap, sp_isLedge, sp_isLadder, sp_isPerson, sp_isLiving, sp_isLot, sp_isThere, sp_isSpan, cs_f15 q, cs_rd q, thr_c q, r78_0, r78_1, r78_3, r78_9, r78_10, r78_13, r78_14, r78_17, r78_18, r78_19, r78_21, r78_27, r78_28, r78_31, r78_32, r78_33, r78_34, r78_37, r78_38, r78_39, r78_42, r78_43, r78_46, r78_47, r78_48, r78_49, r78_52, r78_56, r78_57, r78_60, r78_65, r78_66, r78_69, r78_70, r78_71, r78_75, r78_76, r78_79, r78_83, r78_84, r78_87, r78_88, r78_92, r78_95, r78_96, r78_97, r78_100, r78_103, r78_106, r78_109, r78_110, r78_111, r78_114, r78_117, r78_118, r78_119, r78_122, r78_123, r78_6, r78_24, r78_53, r78_62, r78_72, r78_80, r78_89, s40, c4, n23, v, v8, m3]
    · simp only [ite_not, ite_self, w8_nil, ok01, ite10, rf_rv, rf_ref, rf_cat, rf_lk2, rf_some, rf_none, w_add, w_cons, cr_int, cr_long, cr_ref, cr_null, is_ref, is_null, l2_int, l2_ref, l2_null, l2_none, ent_nil, ent_int, ent_ref, ent_null, ent_rf, ent_long, ok_0, ok_1, af_ret, af_void, List.tail_cons, List.tail_nil, Nat.reduceAdd, Nat.reduceLeDiff, not_false_eq_true, not_true_eq_false, and_self, and_true, true_and, ne_eq, or_true, true_or, or_false, false_or, eq_self, Nat.reduceEqDiff, ↓reduceIte, false_and, and_false, Nat.le_refl, Nat.zero_le, nz_1, nz_2, nz_3, nz_4, nz_5, nz_6, nz_8, nz_10, nz_12, nz_20, nz_30, nz_60, nz_100, mc_B, mc_Z, mc_S, mc_C, mc_K, mc_N, mc_R, mc_I, mc_L, va_Is, va_Ls, va_us, va_iss, u2_ap, sp_isLedge, sp_isLadder, sp_isPerson, sp_isLiving, sp_isLot, sp_isThere, sp_isSpan, cs_f15 q, cs_rd q, thr_c q, r78_0, r78_1, r78_3, r78_9, r78_10, r78_13, r78_14, r78_17, r78_18, r78_19, r78_21, r78_27, r78_28, r78_31, r78_32, r78_33, r78_34, r78_37, r78_38, r78_39, r78_42, r78_43, r78_46, r78_47, r78_48, r78_49, r78_52, r78_56, r78_57, r78_60, r78_65, r78_66, r78_69, r78_70, r78_71, r78_75, r78_76, r78_79, r78_83, r78_84, r78_87, r78_88, r78_92, r78_95, r78_96, r78_97, r78_100, r78_103, r78_106, r78_109, r78_110, r78_111, r78_114, r78_117, r78_118, r78_119, r78_122, r78_123, r78_6, r78_24, r78_53, r78_62, r78_72, r78_80, r78_89, s40, c4, t3, m3]
end CRD
