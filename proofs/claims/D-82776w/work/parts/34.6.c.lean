/-! the component reads terms: products, sums, all, any -/
set_option maxRecDepth 100000
section CRX
variable {d : Nat} {h h' : xm_H} {D : xp_D} {F G : xp_F} {c : Nat → Int32} {T : Nat} {z s : Nat}
theorem i2c : ∀ n, n < 256 → ((Int32.ofNat n).toUInt32 % 65536).toInt32 = Int32.ofNat n := fun n h => (byt n h).1
theorem c77h (tc : TC F c T) {n : Nat} (ih : crI D F c T n) {dp : Nat} {t : Tm} {i : Nat} {h : xm_H} {G : xp_F} {a : Nat} {l : List (Option Value)} (hi : i ≤ T) (h8 : dp ≤ 8) (q : CS h D) (w : HW h D) (sw : SW h D) (qs : QS F c T i dp G) (fl : flt (pz c T (n + 1) 1 dp t i)) {X : Nat} (hX : 12 * (8 - dp) + 10 ≤ X) : cO h D F c T dp i i (cX h D X 1 G a l) (pz c T (n + 1) 1 dp t i) := by
  obtain ⟨Y, eY⟩ : ∃ Y, X = Y + 10 := ⟨X - 10, by omega⟩
  subst eY
  show cO h D F c T dp i i (xm_met (Y + 10) 77 [.ref (xd_A D 0 15)] (xp_c h D G)) _
  rw [pz_e1] at fl ⊢
  have r := ih 0 dp t i i h G 0 [] (by decide) hi h8 q w sw (fun z => nomatch z) (fun _ => rfl) qs (flt_1 fl) (Y + 9) (by show _ + 9 ≤ _; omega)
  have ok := pz_ok tc.1 n 0 dp t i hi (fun z => nomatch z)
  generalize pz c T n 0 dp t i = r0 at r ok fl ⊢
  cases r0 with
  | inl x =>
    obtain ⟨h2, G2, m, x2, w2, ft⟩ := r
    have m : xm_met (Y + 9) 78 [.ref (xd_A D 0 15)] (xp_c h D G) = _ := m
    refine ⟨h2, G2, ?_, x2, w2, ft⟩
    unfold xm_met
    simp only [ite_not, ite_self, w8_nil, ok01, ite10, rf_rv, rf_ref, rf_cat, rf_lk2, rf_some, rf_none, w_add, w_cons, cr_int, cr_long, cr_ref, cr_null, is_ref, is_null, l2_int, l2_ref, l2_null, l2_none, ent_nil, ent_int, ent_ref, ent_null, ent_rf, ent_long, ok_0, ok_1, af_ret, af_void, List.tail_cons, List.tail_nil, Nat.reduceAdd, Nat.reduceLeDiff, not_false_eq_true, not_true_eq_false, and_self, and_true, true_and, ne_eq, or_true, true_or, or_false, false_or, eq_self, Nat.reduceEqDiff, ↓reduceIte, false_and, and_false, Nat.le_refl, Nat.zero_le, nz_1, nz_2, nz_3, nz_4, nz_5, nz_6, nz_8, nz_10, nz_12, nz_20, nz_30, nz_60, nz_100, mc_B, mc_Z, mc_S, mc_C, mc_K, mc_N, mc_R, mc_I, mc_L, va_Is, va_Ls, va_us, va_iss, u2_ap, sp_isLedge, sp_isLadder, sp_isPerson, sp_isLiving, sp_isLot, sp_isThere, sp_isSpan, cs_f15 q, af_thr, thr_c (q.hx w x2), r77_0, r77_1, r77_4, ent_nil, m]
  | inr x =>
    obtain ⟨t1, q1⟩ := x
    obtain ⟨h2, G2, b, m, x2, w2, qs2, to2, th2, l2, l3⟩ := r
    have m : xm_met (Y + 9) 78 [.ref (xd_A D 0 15)] (xp_c h D G) = _ := m
    have q2' := q.hx w x2
    have l2 : i ≤ q1 := l2
    have l3 : q1 ≤ T := l3
    have th2 : th t1 + i ≤ q1 := th2
    have e : xm_met (Y + 10) 77 [.ref (xd_A D 0 15)] (xp_c h D G) = xm_run (Y + 10) 77 5 [some (.ref (xd_A D 0 15)), some (.ref b)] [] (xp_c h2 D G2) := by
      unfold xm_met
      simp only [ite_not, ite_self, w8_nil, ok01, ite10, rf_rv, rf_ref, rf_cat, rf_lk2, rf_some, rf_none, w_add, w_cons, cr_int, cr_long, cr_ref, cr_null, is_ref, is_null, l2_int, l2_ref, l2_null, l2_none, ent_nil, ent_int, ent_ref, ent_null, ent_rf, ent_long, ok_0, ok_1, af_ret, af_void, List.tail_cons, List.tail_nil, Nat.reduceAdd, Nat.reduceLeDiff, not_false_eq_true, not_true_eq_false, and_self, and_true, true_and, ne_eq, or_true, true_or, or_false, false_or, eq_self, Nat.reduceEqDiff, ↓reduceIte, false_and, and_false, Nat.le_refl, Nat.zero_le, nz_1, nz_2, nz_3, nz_4, nz_5, nz_6, nz_8, nz_10, nz_12, nz_20, nz_30, nz_60, nz_100, mc_B, mc_Z, mc_S, mc_C, mc_K, mc_N, mc_R, mc_I, mc_L, va_Is, va_Ls, va_us, va_iss, u2_ap, sp_isLedge, sp_isLadder, sp_isPerson, sp_isLiving, sp_isLot, sp_isThere, sp_isSpan, cs_f15 q, r77_0, r77_1, r77_4, ent_nil, m]
    exact cO_eq e (cO_tr x2 l2 l3 (ih 2 dp t1 q1 i h2 G2 b [] (by decide) l3 h8 q2' w2 (sw.hx q w x2) (fun _ => ⟨ok.1, to2, th2⟩) (fun z => absurd rfl z) qs2 fl (Y + 10) (by show _ + 10 ≤ _; omega)))
theorem c76h (tc : TC F c T) {n : Nat} (ih : crI D F c T n) {dp : Nat} {t : Tm} {i : Nat} {h : xm_H} {G : xp_F} {a : Nat} {l : List (Option Value)} (hi : i ≤ T) (h8 : dp ≤ 8) (q : CS h D) (w : HW h D) (sw : SW h D) (qs : QS F c T i dp G) (fl : flt (pz c T (n + 1) 3 dp t i)) {X : Nat} (hX : 12 * (8 - dp) + 11 ≤ X) : cO h D F c T dp i i (cX h D X 3 G a l) (pz c T (n + 1) 3 dp t i) := by
  obtain ⟨Y, eY⟩ : ∃ Y, X = Y + 11 := ⟨X - 11, by omega⟩
  subst eY
  show cO h D F c T dp i i (xm_met (Y + 11) 76 [.ref (xd_A D 0 15)] (xp_c h D G)) _
  rw [pz_e3] at fl ⊢
  have r := ih 1 dp t i i h G 0 [] (by decide) hi h8 q w sw (fun z => nomatch z) (fun _ => rfl) qs (flt_1 fl) (Y + 10) (by show _ + 10 ≤ _; omega)
  have ok := pz_ok tc.1 n 1 dp t i hi (fun z => nomatch z)
  generalize pz c T n 1 dp t i = r0 at r ok fl ⊢
  cases r0 with
  | inl x =>
    obtain ⟨h2, G2, m, x2, w2, ft⟩ := r
    have m : xm_met (Y + 10) 77 [.ref (xd_A D 0 15)] (xp_c h D G) = _ := m
    refine ⟨h2, G2, ?_, x2, w2, ft⟩
    unfold xm_met
    simp only [ite_not, ite_self, w8_nil, ok01, ite10, rf_rv, rf_ref, rf_cat, rf_lk2, rf_some, rf_none, w_add, w_cons, cr_int, cr_long, cr_ref, cr_null, is_ref, is_null, l2_int, l2_ref, l2_null, l2_none, ent_nil, ent_int, ent_ref, ent_null, ent_rf, ent_long, ok_0, ok_1, af_ret, af_void, List.tail_cons, List.tail_nil, Nat.reduceAdd, Nat.reduceLeDiff, not_false_eq_true, not_true_eq_false, and_self, and_true, true_and, ne_eq, or_true, true_or, or_false, false_or, eq_self, Nat.reduceEqDiff, ↓reduceIte, false_and, and_false, Nat.le_refl, Nat.zero_le, nz_1, nz_2, nz_3, nz_4, nz_5, nz_6, nz_8, nz_10, nz_12, nz_20, nz_30, nz_60, nz_100, mc_B, mc_Z, mc_S, mc_C, mc_K, mc_N, mc_R, mc_I, mc_L, va_Is, va_Ls, va_us, va_iss, u2_ap, sp_isLedge, sp_isLadder, sp_isPerson, sp_isLiving, sp_isLot, sp_isThere, sp_isSpan, cs_f15 q, af_thr, thr_c (q.hx w x2), r76_0, r76_1, r76_4, ent_nil, m]
  | inr x =>
    obtain ⟨t1, q1⟩ := x
    obtain ⟨h2, G2, b, m, x2, w2, qs2, to2, th2, l2, l3⟩ := r
    have m : xm_met (Y + 10) 77 [.ref (xd_A D 0 15)] (xp_c h D G) = _ := m
    have q2' := q.hx w x2
    have l2 : i ≤ q1 := l2
    have l3 : q1 ≤ T := l3
    have th2 : th t1 + i ≤ q1 := th2
    have e : xm_met (Y + 11) 76 [.ref (xd_A D 0 15)] (xp_c h D G) = xm_run (Y + 11) 76 5 [some (.ref (xd_A D 0 15)), some (.ref b)] [] (xp_c h2 D G2) := by
      unfold xm_met
      simp only [ite_not, ite_self, w8_nil, ok01, ite10, rf_rv, rf_ref, rf_cat, rf_lk2, rf_some, rf_none, w_add, w_cons, cr_int, cr_long, cr_ref, cr_null, is_ref, is_null, l2_int, l2_ref, l2_null, l2_none, ent_nil, ent_int, ent_ref, ent_null, ent_rf, ent_long, ok_0, ok_1, af_ret, af_void, List.tail_cons, List.tail_nil, Nat.reduceAdd, Nat.reduceLeDiff, not_false_eq_true, not_true_eq_false, and_self, and_true, true_and, ne_eq, or_true, true_or, or_false, false_or, eq_self, Nat.reduceEqDiff, ↓reduceIte, false_and, and_false, Nat.le_refl, Nat.zero_le, nz_1, nz_2, nz_3, nz_4, nz_5, nz_6, nz_8, nz_10, nz_12, nz_20, nz_30, nz_60, nz_100, mc_B, mc_Z, mc_S, mc_C, mc_K, mc_N, mc_R, mc_I, mc_L, va_Is, va_Ls, va_us, va_iss, u2_ap, sp_isLedge, sp_isLadder, sp_isPerson, sp_isLiving, sp_isLot, sp_isThere, sp_isSpan, cs_f15 q, r76_0, r76_1, r76_4, ent_nil, m]
    exact cO_eq e (cO_tr x2 l2 l3 (ih 4 dp t1 q1 i h2 G2 b [] (by decide) l3 h8 q2' w2 (sw.hx q w x2) (fun _ => ⟨ok.1, to2, th2⟩) (fun z => absurd rfl z) qs2 fl (Y + 11) (by show _ + 11 ≤ _; omega)))
theorem c85h (tc : TC F c T) {n : Nat} (ih : crI D F c T n) {dp : Nat} {t : Tm} {i : Nat} {h : xm_H} {G : xp_F} {a : Nat} {l : List (Option Value)} (hi : i ≤ T) (h8 : dp ≤ 8) (q : CS h D) (w : HW h D) (sw : SW h D) (qs : QS F c T i dp G) (fl : flt (pz c T (n + 1) 6 dp t i)) {X : Nat} (hX : 12 * (8 - dp) + 13 ≤ X) : cO h D F c T dp i i (cX h D X 6 G a l) (pz c T (n + 1) 6 dp t i) := by
  obtain ⟨Y, eY⟩ : ∃ Y, X = Y + 13 := ⟨X - 13, by omega⟩
  subst eY
  show cO h D F c T dp i i (xm_met (Y + 13) 85 [.ref (xd_A D 0 15)] (xp_c h D G)) _
  rw [pz_e6] at fl ⊢
  have r := ih 5 dp t i i h G 0 [] (by decide) hi h8 q w sw (fun z => nomatch z) (fun _ => rfl) qs (flt_1 fl) (Y + 12) (by show _ + 12 ≤ _; omega)
  have ok := pz_ok tc.1 n 5 dp t i hi (fun z => nomatch z)
  generalize pz c T n 5 dp t i = r0 at r ok fl ⊢
  cases r0 with
  | inl x =>
    obtain ⟨h2, G2, m, x2, w2, ft⟩ := r
    have m : xm_met (Y + 12) 86 [.ref (xd_A D 0 15)] (xp_c h D G) = _ := m
    refine ⟨h2, G2, ?_, x2, w2, ft⟩
    unfold xm_met
    simp only [ite_not, ite_self, w8_nil, ok01, ite10, rf_rv, rf_ref, rf_cat, rf_lk2, rf_some, rf_none, w_add, w_cons, cr_int, cr_long, cr_ref, cr_null, is_ref, is_null, l2_int, l2_ref, l2_null, l2_none, ent_nil, ent_int, ent_ref, ent_null, ent_rf, ent_long, ok_0, ok_1, af_ret, af_void, List.tail_cons, List.tail_nil, Nat.reduceAdd, Nat.reduceLeDiff, not_false_eq_true, not_true_eq_false, and_self, and_true, true_and, ne_eq, or_true, true_or, or_false, false_or, eq_self, Nat.reduceEqDiff, ↓reduceIte, false_and, and_false, Nat.le_refl, Nat.zero_le, nz_1, nz_2, nz_3, nz_4, nz_5, nz_6, nz_8, nz_10, nz_12, nz_20, nz_30, nz_60, nz_100, mc_B, mc_Z, mc_S, mc_C, mc_K, mc_N, mc_R, mc_I, mc_L, va_Is, va_Ls, va_us, va_iss, u2_ap, sp_isLedge, sp_isLadder, sp_isPerson, sp_isLiving, sp_isLot, sp_isThere, sp_isSpan, cs_f15 q, af_thr, thr_c (q.hx w x2), r85_0, r85_1, r85_4, ent_nil, m]
  | inr x =>
    obtain ⟨t1, q1⟩ := x
    obtain ⟨h2, G2, b, m, x2, w2, qs2, to2, th2, l2, l3⟩ := r
    have m : xm_met (Y + 12) 86 [.ref (xd_A D 0 15)] (xp_c h D G) = _ := m
    have q2' := q.hx w x2
    have l2 : i ≤ q1 := l2
    have l3 : q1 ≤ T := l3
    have th2 : th t1 + i ≤ q1 := th2
    have e : xm_met (Y + 13) 85 [.ref (xd_A D 0 15)] (xp_c h D G) = xm_run (Y + 13) 85 5 [some (.ref (xd_A D 0 15)), some (.ref b)] [] (xp_c h2 D G2) := by
      unfold xm_met
      simp only [ite_not, ite_self, w8_nil, ok01, ite10, rf_rv, rf_ref, rf_cat, rf_lk2, rf_some, rf_none, w_add, w_cons, cr_int, cr_long, cr_ref, cr_null, is_ref, is_null, l2_int, l2_ref, l2_null, l2_none, ent_nil, ent_int, ent_ref, ent_null, ent_rf, ent_long, ok_0, ok_1, af_ret, af_void, List.tail_cons, List.tail_nil, Nat.reduceAdd, Nat.reduceLeDiff, not_false_eq_true, not_true_eq_false, and_self, and_true, true_and, ne_eq, or_true, true_or, or_false, false_or, eq_self, Nat.reduceEqDiff, ↓reduceIte, false_and, and_false, Nat.le_refl, Nat.zero_le, nz_1, nz_2, nz_3, nz_4, nz_5, nz_6, nz_8, nz_10, nz_12, nz_20, nz_30, nz_60, nz_100, mc_B, mc_Z, mc_S, mc_C, mc_K, mc_N, mc_R, mc_I, mc_L, va_Is, va_Ls, va_us, va_iss, u2_ap, sp_isLedge, sp_isLadder, sp_isPerson, sp_isLiving, sp_isLot, sp_isThere, sp_isSpan, cs_f15 q, r85_0, r85_1, r85_4, ent_nil, m]
    exact cO_eq e (cO_tr x2 l2 l3 (ih 7 dp t1 q1 i h2 G2 b [] (by decide) l3 h8 q2' w2 (sw.hx q w x2) (fun _ => ⟨ok.1, to2, th2⟩) (fun z => absurd rfl z) qs2 fl (Y + 13) (by show _ + 13 ≤ _; omega)))
theorem c84h (tc : TC F c T) {n : Nat} (ih : crI D F c T n) {dp : Nat} {t : Tm} {i : Nat} {h : xm_H} {G : xp_F} {a : Nat} {l : List (Option Value)} (hi : i ≤ T) (h8 : dp ≤ 8) (q : CS h D) (w : HW h D) (sw : SW h D) (qs : QS F c T i dp G) (fl : flt (pz c T (n + 1) 8 dp t i)) {X : Nat} (hX : 12 * (8 - dp) + 14 ≤ X) : cO h D F c T dp i i (cX h D X 8 G a l) (pz c T (n + 1) 8 dp t i) := by
  obtain ⟨Y, eY⟩ : ∃ Y, X = Y + 14 := ⟨X - 14, by omega⟩
  subst eY
  show cO h D F c T dp i i (xm_run (Y + 14) 84 4 [some (.ref (xd_A D 0 15))] [] (xp_c h D G)) _
  rw [pz_e8] at fl ⊢
  have r := ih 6 dp t i i h G 0 [] (by decide) hi h8 q w sw (fun z => nomatch z) (fun _ => rfl) qs (flt_1 fl) (Y + 13) (by show _ + 13 ≤ _; omega)
  have ok := pz_ok tc.1 n 6 dp t i hi (fun z => nomatch z)
  generalize pz c T n 6 dp t i = r0 at r ok fl ⊢
  cases r0 with
  | inl x =>
    obtain ⟨h2, G2, m, x2, w2, ft⟩ := r
    have m : xm_met (Y + 13) 85 [.ref (xd_A D 0 15)] (xp_c h D G) = _ := m
    refine ⟨h2, G2, ?_, x2, w2, ft⟩
    simp only [ite_not, ite_self, w8_nil, ok01, ite10, rf_rv, rf_ref, rf_cat, rf_lk2, rf_some, rf_none, w_add, w_cons, cr_int, cr_long, cr_ref, cr_null, is_ref, is_null, l2_int, l2_ref, l2_null, l2_none, ent_nil, ent_int, ent_ref, ent_null, ent_rf, ent_long, ok_0, ok_1, af_ret, af_void, List.tail_cons, List.tail_nil, Nat.reduceAdd, Nat.reduceLeDiff, not_false_eq_true, not_true_eq_false, and_self, and_true, true_and, ne_eq, or_true, true_or, or_false, false_or, eq_self, Nat.reduceEqDiff, ↓reduceIte, false_and, and_false, Nat.le_refl, Nat.zero_le, nz_1, nz_2, nz_3, nz_4, nz_5, nz_6, nz_8, nz_10, nz_12, nz_20, nz_30, nz_60, nz_100, mc_B, mc_Z, mc_S, mc_C, mc_K, mc_N, mc_R, mc_I, mc_L, va_Is, va_Ls, va_us, va_iss, u2_ap, sp_isLedge, sp_isLadder, sp_isPerson, sp_isLiving, sp_isLot, sp_isThere, sp_isSpan, cs_f15 q, af_thr, thr_c (q.hx w x2), r84_4, r84_5, r84_8, ent_nil, m]
  | inr x =>
    obtain ⟨t1, q1⟩ := x
    obtain ⟨h2, G2, b, m, x2, w2, qs2, to2, th2, l2, l3⟩ := r
    have m : xm_met (Y + 13) 85 [.ref (xd_A D 0 15)] (xp_c h D G) = _ := m
    have q2' := q.hx w x2
    have l2 : i ≤ q1 := l2
    have l3 : q1 ≤ T := l3
    have th2 : th t1 + i ≤ q1 := th2
    have e : xm_run (Y + 14) 84 4 [some (.ref (xd_A D 0 15))] [] (xp_c h D G) = xm_run (Y + 14) 84 9 [some (.ref (xd_A D 0 15)), some (.ref b)] [] (xp_c h2 D G2) := by
      simp only [ite_not, ite_self, w8_nil, ok01, ite10, rf_rv, rf_ref, rf_cat, rf_lk2, rf_some, rf_none, w_add, w_cons, cr_int, cr_long, cr_ref, cr_null, is_ref, is_null, l2_int, l2_ref, l2_null, l2_none, ent_nil, ent_int, ent_ref, ent_null, ent_rf, ent_long, ok_0, ok_1, af_ret, af_void, List.tail_cons, List.tail_nil, Nat.reduceAdd, Nat.reduceLeDiff, not_false_eq_true, not_true_eq_false, and_self, and_true, true_and, ne_eq, or_true, true_or, or_false, false_or, eq_self, Nat.reduceEqDiff, ↓reduceIte, false_and, and_false, Nat.le_refl, Nat.zero_le, nz_1, nz_2, nz_3, nz_4, nz_5, nz_6, nz_8, nz_10, nz_12, nz_20, nz_30, nz_60, nz_100, mc_B, mc_Z, mc_S, mc_C, mc_K, mc_N, mc_R, mc_I, mc_L, va_Is, va_Ls, va_us, va_iss, u2_ap, sp_isLedge, sp_isLadder, sp_isPerson, sp_isLiving, sp_isLot, sp_isThere, sp_isSpan, cs_f15 q, r84_4, r84_5, r84_8, ent_nil, m]
    exact cO_eq e (cO_tr x2 l2 l3 (ih 9 dp t1 q1 i h2 G2 b [] (by decide) l3 h8 q2' w2 (sw.hx q w x2) (fun _ => ⟨ok.1, to2, th2⟩) (fun z => absurd rfl z) qs2 fl (Y + 14) (by show _ + 14 ≤ _; omega)))
theorem c77l (tc : TC F c T) {n : Nat} (ih : crI D F c T n) {dp : Nat} {t : Tm} {i : Nat} {h : xm_H} {G : xp_F} {a : Nat} {l : List (Option Value)} (hi : i ≤ T) (h8 : dp ≤ 8) (q : CS h D) (w : HW h D) (sw : SW h D) (qs : QS F c T i dp G) {p : Nat} (w0 : wf (cnd 2) t) (ht : TO h D t a) (hth : th t + p ≤ i) (fl : flt (pz c T (n + 1) 2 dp t i)) {X : Nat} (hX : 12 * (8 - dp) + 10 ≤ X) : cO h D F c T dp p i (cX h D X 2 G a l) (pz c T (n + 1) 2 dp t i) := by
  obtain ⟨Y, eY⟩ : ∃ Y, X = Y + 10 := ⟨X - 10, by omega⟩
  subst eY
  show cO h D F c T dp p i (xm_run (Y + 10) 77 5 (some (.ref (xd_A D 0 15)) :: some (.ref a) :: l) [] (xp_c h D G)) _
  have n1 : ¬ (1 : Int32) = 0 := by decide
  rw [pz_e2] at fl ⊢
  have s1 := c79 (d := Y + 9) q qs.1 (x := 42) (by decide)
  have s2 := c79 (d := Y + 9) q qs.1 (x := 47) (by decide)
  by_cases c42 : lK c T i = 42
  · rw [if_pos c42] at s1
    have v : G 86 3 = 42 := (qs.1.2.2.2.2.1 (by rw [c42]; decide)).trans c42
    have vc : ((42 : Int32).toUInt32 % 65536).toInt32 = 42 := i2c 42 (by decide)
    rw [if_pos c42] at fl ⊢
    have l1 := lE_lt tc.1 hi (by rw [c42]; decide)
    obtain ⟨h1, G1, m1, x1, w1, qs1⟩ := qs.next (d := Y + 2) q w sw tc hi
    have q1' := q.hx w x1
    have sw1 := sw.hx q w x1
    have xn := hx_nw (h := h1) (kd := 10) (n := 0) (s := 3)
    have wn : HW (xm_nw h1 10 0 3) D := w1.nw
    have qn := q1'.hx w1 xn
    have r := ih 0 dp t (lE c T i) (lE c T i) (xm_nw h1 10 0 3) G1 0 [] (by decide) l1.2 h8 qn wn (sw1.hx q1' w1 xn) (fun z => nomatch z) (fun _ => rfl) qs1 (flt_1 fl) (Y + 9) (by show _ + 9 ≤ _; omega)
    have ok := pz_ok tc.1 n 0 dp t (lE c T i) l1.2 (fun z => nomatch z)
    generalize pz c T n 0 dp t (lE c T i) = r0 at r ok fl ⊢
    cases r0 with
    | inl x =>
      obtain ⟨h2, G2, m, x2, w2, ft⟩ := r
      have m : xm_met (Y + 9) 78 [.ref (xd_A D 0 15)] (xp_c (xm_nw h1 10 0 3) D G1) = _ := m
      refine ⟨h2, G2, ?_, ((x1.tr xn).tr x2).mono (by omega) (by omega), w2, ft⟩
      rw [r77_5]
      simp only [ite_not, ite_self, w8_nil, ok01, ite10, rf_rv, rf_ref, rf_cat, rf_lk2, rf_some, rf_none, w_add, w_cons, cr_int, cr_long, cr_ref, cr_null, is_ref, is_null, l2_int, l2_ref, l2_null, l2_none, ent_nil, ent_int, ent_ref, ent_null, ent_rf, ent_long, ok_0, ok_1, af_ret, af_void, List.tail_cons, List.tail_nil, Nat.reduceAdd, Nat.reduceLeDiff, not_false_eq_true, not_true_eq_false, and_self, and_true, true_and, ne_eq, or_true, true_or, or_false, false_or, eq_self, Nat.reduceEqDiff, ↓reduceIte, false_and, and_false, Nat.le_refl, Nat.zero_le, nz_1, nz_2, nz_3, nz_4, nz_5, nz_6, nz_8, nz_10, nz_12, nz_20, nz_30, nz_60, nz_100, mc_B, mc_Z, mc_S, mc_C, mc_K, mc_N, mc_R, mc_I, mc_L, va_Is, va_Ls, va_us, va_iss, u2_ap, sp_isLedge, sp_isLadder, sp_isPerson, sp_isLiving, sp_isLot, sp_isThere, sp_isSpan, cs_f15 q, cs_f15 q1', cs_f15 qn, cs_rd q, mc_nw w1, af_thr, thr_c (qn.hx wn x2), r77_6, r77_8, r77_14, r77_15, r77_17, r77_23, r77_24, r77_27, r77_28, r77_29, r77_30, r77_33, r77_36, r77_37, r77_38, r77_39, r77_40, r77_45, r77_46, r77_49, r77_52, r77_55, r77_56, r77_57, r77_58, r77_61, r77_64, r77_67, r77_70, r77_71, r77_74, r77_75, r77_11, r77_20, r77_42, s1, v, vc, n1, m1, m]
    | inr x =>
      obtain ⟨t1, q1⟩ := x
      obtain ⟨h2, G2, b, m, x2, w2, qs2, to2, th2, l2, l3⟩ := r
      have m : xm_met (Y + 9) 78 [.ref (xd_A D 0 15)] (xp_c (xm_nw h1 10 0 3) D G1) = _ := m
      have x2 : hx (6 * (q1 - lE c T i)) (48 * (q1 - lE c T i)) (xm_nw h1 10 0 3) h2 := x2
      have l2 : lE c T i ≤ q1 := l2
      have l3 : q1 ≤ T := l3
      have th2 : th t1 + lE c T i ≤ q1 := th2
      have ok1 : wf (cnd 0) t1 := ok.1
      obtain ⟨y1, y2, y3, y4⟩ := two_new w1 x2 w2 (o := 11) (TO.hx w x1 _ _ ht) to2
      have y5 : xm_met (Y + 9) 195 [.ref (xm_Z h1), .ref a, .int 42, .ref b] (xp_c h2 D G2) = some (.inl none, xp_c (nTwo h2 (xm_Z h1) a 42 b) D G2) := y4 (Y + 7) G2
      have q2' := qn.hx wn x2
      have xx : hx (6 * (q1 - i)) (48 * (q1 - i)) h (nTwo h2 (xm_Z h1) a (sgc 11) b) := (x1.tr y1).mono (by omega) (by omega)
      have e : xm_run (Y + 10) 77 5 (some (.ref (xd_A D 0 15)) :: some (.ref a) :: l) [] (xp_c h D G) = xm_run (Y + 10) 77 5 (some (.ref (xd_A D 0 15)) :: some (.ref (xm_Z h1)) :: some (.int 42) :: l.tail) [] (xp_c (nTwo h2 (xm_Z h1) a 42 b) D G2) := by
        rw [r77_5]
        simp only [ite_not, ite_self, w8_nil, ok01, ite10, rf_rv, rf_ref, rf_cat, rf_lk2, rf_some, rf_none, w_add, w_cons, cr_int, cr_long, cr_ref, cr_null, is_ref, is_null, l2_int, l2_ref, l2_null, l2_none, ent_nil, ent_int, ent_ref, ent_null, ent_rf, ent_long, ok_0, ok_1, af_ret, af_void, List.tail_cons, List.tail_nil, Nat.reduceAdd, Nat.reduceLeDiff, not_false_eq_true, not_true_eq_false, and_self, and_true, true_and, ne_eq, or_true, true_or, or_false, false_or, eq_self, Nat.reduceEqDiff, ↓reduceIte, false_and, and_false, Nat.le_refl, Nat.zero_le, nz_1, nz_2, nz_3, nz_4, nz_5, nz_6, nz_8, nz_10, nz_12, nz_20, nz_30, nz_60, nz_100, mc_B, mc_Z, mc_S, mc_C, mc_K, mc_N, mc_R, mc_I, mc_L, va_Is, va_Ls, va_us, va_iss, u2_ap, sp_isLedge, sp_isLadder, sp_isPerson, sp_isLiving, sp_isLot, sp_isThere, sp_isSpan, cs_f15 q, cs_f15 q1', cs_f15 qn, cs_rd q, mc_nw w1, r77_6, r77_8, r77_14, r77_15, r77_17, r77_23, r77_24, r77_27, r77_28, r77_29, r77_30, r77_33, r77_36, r77_37, r77_38, r77_39, r77_40, r77_45, r77_46, r77_49, r77_52, r77_55, r77_56, r77_57, r77_58, r77_61, r77_64, r77_67, r77_70, r77_71, r77_74, r77_75, r77_11, r77_20, r77_42, s1, v, vc, n1, m1, m, y5]
      have hm : max (th t) (th t1) + 1 + p ≤ q1 := by omega
      exact cO_eq e (cO_tr xx (by omega) l3 (ih 2 dp (.mulL 11 (.add t t1)) q1 p (nTwo h2 (xm_Z h1) a (sgc 11) b) G2 (xm_Z h1) (some (.int 42) :: l.tail) (by decide) l3 h8 (q.hx w xx) y2 (sw.hx q w xx) (fun _ => ⟨⟨by decide, w0, ok1⟩, y3, hm⟩) (fun z => absurd rfl z) qs2 fl (Y + 10) (by show _ + 10 ≤ _; omega)))
  rw [if_neg c42] at s1
  rw [if_neg c42] at fl ⊢
  by_cases c47 : lK c T i = 47
  · rw [if_pos c47] at s2
    have v : G 86 3 = 47 := (qs.1.2.2.2.2.1 (by rw [c47]; decide)).trans c47
    have vc : ((47 : Int32).toUInt32 % 65536).toInt32 = 47 := i2c 47 (by decide)
    have n47 : ¬ (47 : Int32) = 42 := by decide
    rw [if_pos c47] at fl ⊢
    have l1 := lE_lt tc.1 hi (by rw [c47]; decide)
    obtain ⟨h1, G1, m1, x1, w1, qs1⟩ := qs.next (d := Y + 2) q w sw tc hi
    have q1' := q.hx w x1
    have sw1 := sw.hx q w x1
    have xn := hx_nw (h := h1) (kd := 10) (n := 0) (s := 3)
    have wn : HW (xm_nw h1 10 0 3) D := w1.nw
    have qn := q1'.hx w1 xn
    have xm := hx_nw (h := xm_nw h1 10 0 3) (kd := 9) (n := 0) (s := 1)
    have wm : HW (xm_nw (xm_nw h1 10 0 3) 9 0 1) D := wn.nw
    have qm := qn.hx wn xm
    have swm := (sw1.hx q1' w1 xn).hx qn wn xm
    have zn : xm_Z (xm_nw h1 10 0 3) = xm_Z h1 + 1 := rfl
    have nb := c82n (d := Y + 7) qm qs1 (l := 1) (m := 9999)
    by_cases c22 : lK c T (lE c T i) = 2
    · rw [if_neg (fun z => z c22)] at fl ⊢
      have rv := lV_rg c22
      by_cases c0 : lV c T (lE c T i) = 0
      · rw [if_pos c0]
        obtain ⟨G2, m2, ft⟩ := nb.2 c22 (fun z => by rw [c0] at z; exact absurd z (by decide))
        refine ⟨_, G2, ?_, ((x1.tr xn).tr xm).mono (by omega) (by omega), wm, ft⟩
        rw [r77_5]
        simp only [ite_not, ite_self, w8_nil, ok01, ite10, rf_rv, rf_ref, rf_cat, rf_lk2, rf_some, rf_none, w_add, w_cons, cr_int, cr_long, cr_ref, cr_null, is_ref, is_null, l2_int, l2_ref, l2_null, l2_none, ent_nil, ent_int, ent_ref, ent_null, ent_rf, ent_long, ok_0, ok_1, af_ret, af_void, List.tail_cons, List.tail_nil, Nat.reduceAdd, Nat.reduceLeDiff, not_false_eq_true, not_true_eq_false, and_self, and_true, true_and, ne_eq, or_true, true_or, or_false, false_or, eq_self, Nat.reduceEqDiff, ↓reduceIte, false_and, and_false, Nat.le_refl, Nat.zero_le, nz_1, nz_2, nz_3, nz_4, nz_5, nz_6, nz_8, nz_10, nz_12, nz_20, nz_30, nz_60, nz_100, mc_B, mc_Z, mc_S, mc_C, mc_K, mc_N, mc_R, mc_I, mc_L, va_Is, va_Ls, va_us, va_iss, u2_ap, sp_isLedge, sp_isLadder, sp_isPerson, sp_isLiving, sp_isLot, sp_isThere, sp_isSpan, cs_f15 q, cs_f15 q1', cs_f15 qn, cs_f15 qm, cs_rd q, mc_nw w1, mc_nw wn, zn, af_thr, thr_c qm, r77_6, r77_8, r77_14, r77_15, r77_17, r77_23, r77_24, r77_27, r77_28, r77_29, r77_30, r77_33, r77_36, r77_37, r77_38, r77_39, r77_40, r77_45, r77_46, r77_49, r77_52, r77_55, r77_56, r77_57, r77_58, r77_61, r77_64, r77_67, r77_70, r77_71, r77_74, r77_75, r77_11, r77_20, r77_42, s1, s2, v, vc, n47, n1, m1, m2]
      · rw [if_neg c0] at fl ⊢
        have hv : 1 ≤ lV c T (lE c T i) ∧ lV c T (lE c T i) ≤ 9999 := by
          have ne : ¬ (lV c T (lE c T i)).toInt = 0 := fun y => c0 (i_eq y)
          obtain ⟨r1, r2⟩ := rv
          constructor
          · rw [Int32.le_iff_toInt_le, show (1 : Int32).toInt = 1 from rfl]
            omega
          · rw [Int32.le_iff_toInt_le, show (9999 : Int32).toInt = 9999 from rfl]
            omega
        have l2 := lE_lt tc.1 l1.2 (by rw [c22]; decide)
        obtain ⟨h2, G2, m2, x2, w2, qs2⟩ := c82y (d := Y + 1) qm wm swm tc l1.2 qs1 (l := 1) (m := 9999) c22 hv
        obtain ⟨y1, y2, y3, y4, y5⟩ := part_new w1 x2 w2 (v := lV c T (lE c T i)) (TO.hx w x1 _ _ ht)
        have y4 := y4 (Y + 7) G2
        have y5 := y5 (Y + 7) G2
        have xx : hx (6 * (lE c T (lE c T i) - i)) (48 * (lE c T (lE c T i) - i)) h (nTwo (xm_sI h2 (xm_Z h1 + 1) 0 (lV c T (lE c T i))) (xm_Z h1) a 47 (xm_Z h1 + 1)) := (x1.tr y1).mono (by omega) (by omega)
        have e : xm_run (Y + 10) 77 5 (some (.ref (xd_A D 0 15)) :: some (.ref a) :: l) [] (xp_c h D G) = xm_run (Y + 10) 77 5 (some (.ref (xd_A D 0 15)) :: some (.ref (xm_Z h1)) :: some (.int 47) :: l.tail) [] (xp_c (nTwo (xm_sI h2 (xm_Z h1 + 1) 0 (lV c T (lE c T i))) (xm_Z h1) a 47 (xm_Z h1 + 1)) D G2) := by
          rw [r77_5]
          simp only [ite_not, ite_self, w8_nil, ok01, ite10, rf_rv, rf_ref, rf_cat, rf_lk2, rf_some, rf_none, w_add, w_cons, cr_int, cr_long, cr_ref, cr_null, is_ref, is_null, l2_int, l2_ref, l2_null, l2_none, ent_nil, ent_int, ent_ref, ent_null, ent_rf, ent_long, ok_0, ok_1, af_ret, af_void, List.tail_cons, List.tail_nil, Nat.reduceAdd, Nat.reduceLeDiff, not_false_eq_true, not_true_eq_false, and_self, and_true, true_and, ne_eq, or_true, true_or, or_false, false_or, eq_self, Nat.reduceEqDiff, ↓reduceIte, false_and, and_false, Nat.le_refl, Nat.zero_le, nz_1, nz_2, nz_3, nz_4, nz_5, nz_6, nz_8, nz_10, nz_12, nz_20, nz_30, nz_60, nz_100, mc_B, mc_Z, mc_S, mc_C, mc_K, mc_N, mc_R, mc_I, mc_L, va_Is, va_Ls, va_us, va_iss, u2_ap, sp_isLedge, sp_isLadder, sp_isPerson, sp_isLiving, sp_isLot, sp_isThere, sp_isSpan, cs_f15 q, cs_f15 q1', cs_f15 qn, cs_f15 qm, cs_rd q, mc_nw w1, mc_nw wn, zn, r77_6, r77_8, r77_14, r77_15, r77_17, r77_23, r77_24, r77_27, r77_28, r77_29, r77_30, r77_33, r77_36, r77_37, r77_38, r77_39, r77_40, r77_45, r77_46, r77_49, r77_52, r77_55, r77_56, r77_57, r77_58, r77_61, r77_64, r77_67, r77_70, r77_71, r77_74, r77_75, r77_11, r77_20, r77_42, s1, s2, v, vc, n47, n1, m1, m2, y4, y5]
        have hm : th t + 1 + p ≤ lE c T (lE c T i) := by omega
        exact cO_eq e (cO_tr xx (by omega) l2.2 (ih 2 dp (.mulR t (lV c T (lE c T i)).toInt) (lE c T (lE c T i)) p _ G2 (xm_Z h1) _ (by decide) l2.2 h8 (q.hx w xx) y2 (sw.hx q w xx) (fun _ => ⟨⟨w0, lV_ne c0⟩, y3, hm⟩) (fun z => absurd rfl z) qs2 fl (Y + 10) (by show _ + 10 ≤ _; omega)))
    · rw [if_pos c22]
      obtain ⟨G2, m2, ft⟩ := nb.1 c22
      refine ⟨_, G2, ?_, ((x1.tr xn).tr xm).mono (by omega) (by omega), wm, ft⟩
      rw [r77_5]
      simp only [ite_not, ite_self, w8_nil, ok01, ite10, rf_rv, rf_ref, rf_cat, rf_lk2, rf_some, rf_none, w_add, w_cons, cr_int, cr_long, cr_ref, cr_null, is_ref, is_null, l2_int, l2_ref, l2_null, l2_none, ent_nil, ent_int, ent_ref, ent_null, ent_rf, ent_long, ok_0, ok_1, af_ret, af_void, List.tail_cons, List.tail_nil, Nat.reduceAdd, Nat.reduceLeDiff, not_false_eq_true, not_true_eq_false, and_self, and_true, true_and, ne_eq, or_true, true_or, or_false, false_or, eq_self, Nat.reduceEqDiff, ↓reduceIte, false_and, and_false, Nat.le_refl, Nat.zero_le, nz_1, nz_2, nz_3, nz_4, nz_5, nz_6, nz_8, nz_10, nz_12, nz_20, nz_30, nz_60, nz_100, mc_B, mc_Z, mc_S, mc_C, mc_K, mc_N, mc_R, mc_I, mc_L, va_Is, va_Ls, va_us, va_iss, u2_ap, sp_isLedge, sp_isLadder, sp_isPerson, sp_isLiving, sp_isLot, sp_isThere, sp_isSpan, cs_f15 q, cs_f15 q1', cs_f15 qn, cs_f15 qm, cs_rd q, mc_nw w1, mc_nw wn, zn, af_thr, thr_c qm, r77_6, r77_8, r77_14, r77_15, r77_17, r77_23, r77_24, r77_27, r77_28, r77_29, r77_30, r77_33, r77_36, r77_37, r77_38, r77_39, r77_40, r77_45, r77_46, r77_49, r77_52, r77_55, r77_56, r77_57, r77_58, r77_61, r77_64, r77_67, r77_70, r77_71, r77_74, r77_75, r77_11, r77_20, r77_42, s1, s2, v, vc, n47, n1, m1, m2]
  rw [if_neg c47] at s2
  rw [if_neg c47] at fl ⊢
  have no := s1
  refine ⟨h, G, a, ?_, hx.rf, w, qs, ht, hth, Nat.le_refl _, hi⟩
  rw [r77_5]
  simp only [ite_not, ite_self, w8_nil, ok01, ite10, rf_rv, rf_ref, rf_cat, rf_lk2, rf_some, rf_none, w_add, w_cons, cr_int, cr_long, cr_ref, cr_null, is_ref, is_null, l2_int, l2_ref, l2_null, l2_none, ent_nil, ent_int, ent_ref, ent_null, ent_rf, ent_long, ok_0, ok_1, af_ret, af_void, List.tail_cons, List.tail_nil, Nat.reduceAdd, Nat.reduceLeDiff, not_false_eq_true, not_true_eq_false, and_self, and_true, true_and, ne_eq, or_true, true_or, or_false, false_or, eq_self, Nat.reduceEqDiff, ↓reduceIte, false_and, and_false, Nat.le_refl, Nat.zero_le, nz_1, nz_2, nz_3, nz_4, nz_5, nz_6, nz_8, nz_10, nz_12, nz_20, nz_30, nz_60, nz_100, mc_B, mc_Z, mc_S, mc_C, mc_K, mc_N, mc_R, mc_I, mc_L, va_Is, va_Ls, va_us, va_iss, u2_ap, sp_isLedge, sp_isLadder, sp_isPerson, sp_isLiving, sp_isLot, sp_isThere, sp_isSpan, cs_f15 q, r77_6, r77_8, r77_14, r77_15, r77_17, r77_23, r77_24, r77_27, r77_28, r77_29, r77_30, r77_33, r77_36, r77_37, r77_38, r77_39, r77_40, r77_45, r77_46, r77_49, r77_52, r77_55, r77_56, r77_57, r77_58, r77_61, r77_64, r77_67, r77_70, r77_71, r77_74, r77_75, r77_11, r77_20, r77_42, no, s2]
theorem c76l (tc : TC F c T) {n : Nat} (ih : crI D F c T n) {dp : Nat} {t : Tm} {i : Nat} {h : xm_H} {G : xp_F} {a : Nat} {l : List (Option Value)} (hi : i ≤ T) (h8 : dp ≤ 8) (q : CS h D) (w : HW h D) (sw : SW h D) (qs : QS F c T i dp G) {p : Nat} (w0 : wf (cnd 4) t) (ht : TO h D t a) (hth : th t + p ≤ i) (fl : flt (pz c T (n + 1) 4 dp t i)) {X : Nat} (hX : 12 * (8 - dp) + 11 ≤ X) : cO h D F c T dp p i (cX h D X 4 G a l) (pz c T (n + 1) 4 dp t i) := by
  obtain ⟨Y, eY⟩ : ∃ Y, X = Y + 11 := ⟨X - 11, by omega⟩
  subst eY
  show cO h D F c T dp p i (xm_run (Y + 11) 76 5 (some (.ref (xd_A D 0 15)) :: some (.ref a) :: l) [] (xp_c h D G)) _
  have n1 : ¬ (1 : Int32) = 0 := by decide
  rw [pz_e4] at fl ⊢
  have s1 := c79 (d := Y + 10) q qs.1 (x := 43) (by decide)
  have s2 := c79 (d := Y + 10) q qs.1 (x := 45) (by decide)
  by_cases c1 : lK c T i = 43 ∨ lK c T i = 45
  · rw [if_pos c1] at fl ⊢
    by_cases c43 : lK c T i = 43
    · rw [if_pos c43] at s1
      have v : G 86 3 = 43 := (qs.1.2.2.2.2.1 (by rw [c43]; decide)).trans c43
      have vc := i2c 43 (by decide)
      have vc : ((43 : Int32).toUInt32 % 65536).toInt32 = 43 := vc
      simp only [if_pos c43] at fl ⊢
      have l1 := lE_lt tc.1 hi (by rw [c43]; decide)
      obtain ⟨h1, G1, m1, x1, w1, qs1⟩ := qs.next (d := Y + 3) q w sw tc hi
      have q1' := q.hx w x1
      have sw1 := sw.hx q w x1
      have xn := hx_nw (h := h1) (kd := 10) (n := 0) (s := 3)
      have wn : HW (xm_nw h1 10 0 3) D := w1.nw
      have qn := q1'.hx w1 xn
      have r := ih 1 dp t (lE c T i) (lE c T i) (xm_nw h1 10 0 3) G1 0 [] (by decide) l1.2 h8 qn wn (sw1.hx q1' w1 xn) (fun z => nomatch z) (fun _ => rfl) qs1 (flt_1 fl) (Y + 10) (by show _ + 10 ≤ _; omega)
      have ok := pz_ok tc.1 n 1 dp t (lE c T i) l1.2 (fun z => nomatch z)
      generalize pz c T n 1 dp t (lE c T i) = r0 at r ok fl ⊢
      cases r0 with
      | inl x =>
        obtain ⟨h2, G2, m, x2, w2, ft⟩ := r
        have m : xm_met (Y + 10) 77 [.ref (xd_A D 0 15)] (xp_c (xm_nw h1 10 0 3) D G1) = _ := m
        refine ⟨h2, G2, ?_, ((x1.tr xn).tr x2).mono (by omega) (by omega), w2, ft⟩
        rw [r76_5]
        simp only [ite_not, ite_self, w8_nil, ok01, ite10, rf_rv, rf_ref, rf_cat, rf_lk2, rf_some, rf_none, w_add, w_cons, cr_int, cr_long, cr_ref, cr_null, is_ref, is_null, l2_int, l2_ref, l2_null, l2_none, ent_nil, ent_int, ent_ref, ent_null, ent_rf, ent_long, ok_0, ok_1, af_ret, af_void, List.tail_cons, List.tail_nil, Nat.reduceAdd, Nat.reduceLeDiff, not_false_eq_true, not_true_eq_false, and_self, and_true, true_and, ne_eq, or_true, true_or, or_false, false_or, eq_self, Nat.reduceEqDiff, ↓reduceIte, false_and, and_false, Nat.le_refl, Nat.zero_le, nz_1, nz_2, nz_3, nz_4, nz_5, nz_6, nz_8, nz_10, nz_12, nz_20, nz_30, nz_60, nz_100, mc_B, mc_Z, mc_S, mc_C, mc_K, mc_N, mc_R, mc_I, mc_L, va_Is, va_Ls, va_us, va_iss, u2_ap, sp_isLedge, sp_isLadder, sp_isPerson, sp_isLiving, sp_isLot, sp_isThere, sp_isSpan, cs_f15 q, cs_f15 q1', cs_f15 qn, cs_rd q, mc_nw w1, af_thr, thr_c (qn.hx wn x2), r76_6, r76_8, r76_14, r76_15, r76_17, r76_23, r76_24, r76_27, r76_28, r76_29, r76_30, r76_33, r76_36, r76_37, r76_38, r76_39, r76_40, r76_43, r76_46, r76_47, r76_50, r76_51, r76_11, r76_20, s1, v, vc, n1, m1, m]
      | inr x =>
        obtain ⟨t1, q1⟩ := x
        obtain ⟨h2, G2, b, m, x2, w2, qs2, to2, th2, l2, l3⟩ := r
        have m : xm_met (Y + 10) 77 [.ref (xd_A D 0 15)] (xp_c (xm_nw h1 10 0 3) D G1) = _ := m
        have x2 : hx (6 * (q1 - lE c T i)) (48 * (q1 - lE c T i)) (xm_nw h1 10 0 3) h2 := x2
        have l2 : lE c T i ≤ q1 := l2
        have l3 : q1 ≤ T := l3
        have th2 : th t1 + lE c T i ≤ q1 := th2
        have ok1 : wf (cnd 1) t1 := ok.1
        obtain ⟨y1, y2, y3, y4⟩ := two_new w1 x2 w2 (o := 9) (TO.hx w x1 _ _ ht) to2
        have y5 : xm_met (Y + 10) 195 [.ref (xm_Z h1), .ref a, .int 43, .ref b] (xp_c h2 D G2) = some (.inl none, xp_c (nTwo h2 (xm_Z h1) a 43 b) D G2) := y4 (Y + 8) G2
        have q2' := qn.hx wn x2
        have xx : hx (6 * (q1 - i)) (48 * (q1 - i)) h (nTwo h2 (xm_Z h1) a (sgc 9) b) := (x1.tr y1).mono (by omega) (by omega)
        have e : xm_run (Y + 11) 76 5 (some (.ref (xd_A D 0 15)) :: some (.ref a) :: l) [] (xp_c h D G) = xm_run (Y + 11) 76 5 (some (.ref (xd_A D 0 15)) :: some (.ref (xm_Z h1)) :: some (.int 43) :: l.tail) [] (xp_c (nTwo h2 (xm_Z h1) a 43 b) D G2) := by
          rw [r76_5]
          simp only [ite_not, ite_self, w8_nil, ok01, ite10, rf_rv, rf_ref, rf_cat, rf_lk2, rf_some, rf_none, w_add, w_cons, cr_int, cr_long, cr_ref, cr_null, is_ref, is_null, l2_int, l2_ref, l2_null, l2_none, ent_nil, ent_int, ent_ref, ent_null, ent_rf, ent_long, ok_0, ok_1, af_ret, af_void, List.tail_cons, List.tail_nil, Nat.reduceAdd, Nat.reduceLeDiff, not_false_eq_true, not_true_eq_false, and_self, and_true, true_and, ne_eq, or_true, true_or, or_false, false_or, eq_self, Nat.reduceEqDiff, ↓reduceIte, false_and, and_false, Nat.le_refl, Nat.zero_le, nz_1, nz_2, nz_3, nz_4, nz_5, nz_6, nz_8, nz_10, nz_12, nz_20, nz_30, nz_60, nz_100, mc_B, mc_Z, mc_S, mc_C, mc_K, mc_N, mc_R, mc_I, mc_L, va_Is, va_Ls, va_us, va_iss, u2_ap, sp_isLedge, sp_isLadder, sp_isPerson, sp_isLiving, sp_isLot, sp_isThere, sp_isSpan, cs_f15 q, cs_f15 q1', cs_f15 qn, cs_rd q, mc_nw w1, r76_6, r76_8, r76_14, r76_15, r76_17, r76_23, r76_24, r76_27, r76_28, r76_29, r76_30, r76_33, r76_36, r76_37, r76_38, r76_39, r76_40, r76_43, r76_46, r76_47, r76_50, r76_51, r76_11, r76_20, s1, v, vc, n1, m1, m, y5]
        have hm : max (th t) (th t1) + 1 + p ≤ q1 := by omega
        exact cO_eq e (cO_tr xx (by omega) l3 (ih 4 dp (.mulL 9 (.add t t1)) q1 p (nTwo h2 (xm_Z h1) a (sgc 9) b) G2 (xm_Z h1) (some (.int 43) :: l.tail) (by decide) l3 h8 (q.hx w xx) y2 (sw.hx q w xx) (fun _ => ⟨⟨by decide, w0, ok1⟩, y3, hm⟩) (fun z => absurd rfl z) qs2 fl (Y + 11) (by show _ + 11 ≤ _; omega)))
    · have c45 : lK c T i = 45 := c1.resolve_left c43
      rw [if_neg c43] at s1
      rw [if_pos c45] at s2
      have v : G 86 3 = 45 := (qs.1.2.2.2.2.1 (by rw [c45]; decide)).trans c45
      have vc : ((45 : Int32).toUInt32 % 65536).toInt32 = 45 := i2c 45 (by decide)
      simp only [if_neg c43] at fl ⊢
      have l1 := lE_lt tc.1 hi (by rw [c45]; decide)
      obtain ⟨h1, G1, m1, x1, w1, qs1⟩ := qs.next (d := Y + 3) q w sw tc hi
      have q1' := q.hx w x1
      have sw1 := sw.hx q w x1
      have xn := hx_nw (h := h1) (kd := 10) (n := 0) (s := 3)
      have wn : HW (xm_nw h1 10 0 3) D := w1.nw
      have qn := q1'.hx w1 xn
      have r := ih 1 dp t (lE c T i) (lE c T i) (xm_nw h1 10 0 3) G1 0 [] (by decide) l1.2 h8 qn wn (sw1.hx q1' w1 xn) (fun z => nomatch z) (fun _ => rfl) qs1 (flt_1 fl) (Y + 10) (by show _ + 10 ≤ _; omega)
      have ok := pz_ok tc.1 n 1 dp t (lE c T i) l1.2 (fun z => nomatch z)
      generalize pz c T n 1 dp t (lE c T i) = r0 at r ok fl ⊢
      cases r0 with
      | inl x =>
        obtain ⟨h2, G2, m, x2, w2, ft⟩ := r
        have m : xm_met (Y + 10) 77 [.ref (xd_A D 0 15)] (xp_c (xm_nw h1 10 0 3) D G1) = _ := m
        refine ⟨h2, G2, ?_, ((x1.tr xn).tr x2).mono (by omega) (by omega), w2, ft⟩
        rw [r76_5]
        simp only [ite_not, ite_self, w8_nil, ok01, ite10, rf_rv, rf_ref, rf_cat, rf_lk2, rf_some, rf_none, w_add, w_cons, cr_int, cr_long, cr_ref, cr_null, is_ref, is_null, l2_int, l2_ref, l2_null, l2_none, ent_nil, ent_int, ent_ref, ent_null, ent_rf, ent_long, ok_0, ok_1, af_ret, af_void, List.tail_cons, List.tail_nil, Nat.reduceAdd, Nat.reduceLeDiff, not_false_eq_true, not_true_eq_false, and_self, and_true, true_and, ne_eq, or_true, true_or, or_false, false_or, eq_self, Nat.reduceEqDiff, ↓reduceIte, false_and, and_false, Nat.le_refl, Nat.zero_le, nz_1, nz_2, nz_3, nz_4, nz_5, nz_6, nz_8, nz_10, nz_12, nz_20, nz_30, nz_60, nz_100, mc_B, mc_Z, mc_S, mc_C, mc_K, mc_N, mc_R, mc_I, mc_L, va_Is, va_Ls, va_us, va_iss, u2_ap, sp_isLedge, sp_isLadder, sp_isPerson, sp_isLiving, sp_isLot, sp_isThere, sp_isSpan, cs_f15 q, cs_f15 q1', cs_f15 qn, cs_rd q, mc_nw w1, af_thr, thr_c (qn.hx wn x2), r76_6, r76_8, r76_14, r76_15, r76_17, r76_23, r76_24, r76_27, r76_28, r76_29, r76_30, r76_33, r76_36, r76_37, r76_38, r76_39, r76_40, r76_43, r76_46, r76_47, r76_50, r76_51, r76_11, r76_20, s1, s2, v, vc, n1, m1, m]
      | inr x =>
        obtain ⟨t1, q1⟩ := x
        obtain ⟨h2, G2, b, m, x2, w2, qs2, to2, th2, l2, l3⟩ := r
        have m : xm_met (Y + 10) 77 [.ref (xd_A D 0 15)] (xp_c (xm_nw h1 10 0 3) D G1) = _ := m
        have x2 : hx (6 * (q1 - lE c T i)) (48 * (q1 - lE c T i)) (xm_nw h1 10 0 3) h2 := x2
        have l2 : lE c T i ≤ q1 := l2
        have l3 : q1 ≤ T := l3
        have th2 : th t1 + lE c T i ≤ q1 := th2
        have ok1 : wf (cnd 1) t1 := ok.1
        obtain ⟨y1, y2, y3, y4⟩ := two_new w1 x2 w2 (o := 10) (TO.hx w x1 _ _ ht) to2
        have y5 : xm_met (Y + 10) 195 [.ref (xm_Z h1), .ref a, .int 45, .ref b] (xp_c h2 D G2) = some (.inl none, xp_c (nTwo h2 (xm_Z h1) a 45 b) D G2) := y4 (Y + 8) G2
        have q2' := qn.hx wn x2
        have xx : hx (6 * (q1 - i)) (48 * (q1 - i)) h (nTwo h2 (xm_Z h1) a (sgc 10) b) := (x1.tr y1).mono (by omega) (by omega)
        have e : xm_run (Y + 11) 76 5 (some (.ref (xd_A D 0 15)) :: some (.ref a) :: l) [] (xp_c h D G) = xm_run (Y + 11) 76 5 (some (.ref (xd_A D 0 15)) :: some (.ref (xm_Z h1)) :: some (.int 45) :: l.tail) [] (xp_c (nTwo h2 (xm_Z h1) a 45 b) D G2) := by
          rw [r76_5]
          simp only [ite_not, ite_self, w8_nil, ok01, ite10, rf_rv, rf_ref, rf_cat, rf_lk2, rf_some, rf_none, w_add, w_cons, cr_int, cr_long, cr_ref, cr_null, is_ref, is_null, l2_int, l2_ref, l2_null, l2_none, ent_nil, ent_int, ent_ref, ent_null, ent_rf, ent_long, ok_0, ok_1, af_ret, af_void, List.tail_cons, List.tail_nil, Nat.reduceAdd, Nat.reduceLeDiff, not_false_eq_true, not_true_eq_false, and_self, and_true, true_and, ne_eq, or_true, true_or, or_false, false_or, eq_self, Nat.reduceEqDiff, ↓reduceIte, false_and, and_false, Nat.le_refl, Nat.zero_le, nz_1, nz_2, nz_3, nz_4, nz_5, nz_6, nz_8, nz_10, nz_12, nz_20, nz_30, nz_60, nz_100, mc_B, mc_Z, mc_S, mc_C, mc_K, mc_N, mc_R, mc_I, mc_L, va_Is, va_Ls, va_us, va_iss, u2_ap, sp_isLedge, sp_isLadder, sp_isPerson, sp_isLiving, sp_isLot, sp_isThere, sp_isSpan, cs_f15 q, cs_f15 q1', cs_f15 qn, cs_rd q, mc_nw w1, r76_6, r76_8, r76_14, r76_15, r76_17, r76_23, r76_24, r76_27, r76_28, r76_29, r76_30, r76_33, r76_36, r76_37, r76_38, r76_39, r76_40, r76_43, r76_46, r76_47, r76_50, r76_51, r76_11, r76_20, s1, s2, v, vc, n1, m1, m, y5]
        have hm : max (th t) (th t1) + 1 + p ≤ q1 := by omega
        exact cO_eq e (cO_tr xx (by omega) l3 (ih 4 dp (.mulL 10 (.add t t1)) q1 p (nTwo h2 (xm_Z h1) a (sgc 10) b) G2 (xm_Z h1) (some (.int 45) :: l.tail) (by decide) l3 h8 (q.hx w xx) y2 (sw.hx q w xx) (fun _ => ⟨⟨by decide, w0, ok1⟩, y3, hm⟩) (fun z => absurd rfl z) qs2 fl (Y + 11) (by show _ + 11 ≤ _; omega)))
  rw [if_neg c1] at fl ⊢
  rw [if_neg (fun z => c1 (Or.inl z))] at s1
  rw [if_neg (fun z => c1 (Or.inr z))] at s2
  have no := s1
  refine ⟨h, G, a, ?_, hx.rf, w, qs, ht, hth, Nat.le_refl _, hi⟩
  rw [r76_5]
  simp only [ite_not, ite_self, w8_nil, ok01, ite10, rf_rv, rf_ref, rf_cat, rf_lk2, rf_some, rf_none, w_add, w_cons, cr_int, cr_long, cr_ref, cr_null, is_ref, is_null, l2_int, l2_ref, l2_null, l2_none, ent_nil, ent_int, ent_ref, ent_null, ent_rf, ent_long, ok_0, ok_1, af_ret, af_void, List.tail_cons, List.tail_nil, Nat.reduceAdd, Nat.reduceLeDiff, not_false_eq_true, not_true_eq_false, and_self, and_true, true_and, ne_eq, or_true, true_or, or_false, false_or, eq_self, Nat.reduceEqDiff, ↓reduceIte, false_and, and_false, Nat.le_refl, Nat.zero_le, nz_1, nz_2, nz_3, nz_4, nz_5, nz_6, nz_8, nz_10, nz_12, nz_20, nz_30, nz_60, nz_100, mc_B, mc_Z, mc_S, mc_C, mc_K, mc_N, mc_R, mc_I, mc_L, va_Is, va_Ls, va_us, va_iss, u2_ap, sp_isLedge, sp_isLadder, sp_isPerson, sp_isLiving, sp_isLot, sp_isThere, sp_isSpan, cs_f15 q, r76_6, r76_8, r76_14, r76_15, r76_17, r76_23, r76_24, r76_27, r76_28, r76_29, r76_30, r76_33, r76_36, r76_37, r76_38, r76_39, r76_40, r76_43, r76_46, r76_47, r76_50, r76_51, r76_11, r76_20, no, s2]
theorem c85l (tc : TC F c T) {n : Nat} (ih : crI D F c T n) {dp : Nat} {t : Tm} {i : Nat} {h : xm_H} {G : xp_F} {a : Nat} {l : List (Option Value)} (hi : i ≤ T) (h8 : dp ≤ 8) (q : CS h D) (w : HW h D) (sw : SW h D) (qs : QS F c T i dp G) {p : Nat} (w0 : wf (cnd 7) t) (ht : TO h D t a) (hth : th t + p ≤ i) (fl : flt (pz c T (n + 1) 7 dp t i)) {X : Nat} (hX : 12 * (8 - dp) + 13 ≤ X) : cO h D F c T dp p i (cX h D X 7 G a l) (pz c T (n + 1) 7 dp t i) := by
  obtain ⟨Y, eY⟩ : ∃ Y, X = Y + 13 := ⟨X - 13, by omega⟩
  subst eY
  show cO h D F c T dp p i (xm_run (Y + 13) 85 5 (some (.ref (xd_A D 0 15)) :: some (.ref a) :: l) [] (xp_c h D G)) _
  have n1 : ¬ (1 : Int32) = 0 := by decide
  rw [pz_e7] at fl ⊢
  have s1 := c83 (d := Y + 12) q qs.1 (k := 19) (by decide)
  have s1 : xm_met (Y + 12) 83 [.ref (xd_A D 0 15), .int 19] (xp_c h D G) = some (.inl (some (.int (if lK c T i = 10 then 1 else 0))), xp_c h D G) := s1
  by_cases c1 : lK c T i = 10
  · rw [if_pos c1] at s1
    rw [if_pos c1] at fl ⊢
    have l1 := lE_lt tc.1 hi (by rw [c1]; decide)
    obtain ⟨h1, G1, m1, x1, w1, qs1⟩ := qs.next (d := Y + 5) q w sw tc hi
    have q1' := q.hx w x1
    have sw1 := sw.hx q w x1
    have xn := hx_nw (h := h1) (kd := 10) (n := 0) (s := 3)
    have wn : HW (xm_nw h1 10 0 3) D := w1.nw
    have qn := q1'.hx w1 xn
    have r := ih 5 dp t (lE c T i) (lE c T i) (xm_nw h1 10 0 3) G1 0 [] (by decide) l1.2 h8 qn wn (sw1.hx q1' w1 xn) (fun z => nomatch z) (fun _ => rfl) qs1 (flt_1 fl) (Y + 12) (by show _ + 12 ≤ _; omega)
    have ok := pz_ok tc.1 n 5 dp t (lE c T i) l1.2 (fun z => nomatch z)
    generalize pz c T n 5 dp t (lE c T i) = r0 at r ok fl ⊢
    cases r0 with
    | inl x =>
      obtain ⟨h2, G2, m, x2, w2, ft⟩ := r
      have m : xm_met (Y + 12) 86 [.ref (xd_A D 0 15)] (xp_c (xm_nw h1 10 0 3) D G1) = _ := m
      refine ⟨h2, G2, ?_, ((x1.tr xn).tr x2).mono (by omega) (by omega), w2, ft⟩
      rw [r85_5]
      simp only [ite_not, ite_self, w8_nil, ok01, ite10, rf_rv, rf_ref, rf_cat, rf_lk2, rf_some, rf_none, w_add, w_cons, cr_int, cr_long, cr_ref, cr_null, is_ref, is_null, l2_int, l2_ref, l2_null, l2_none, ent_nil, ent_int, ent_ref, ent_null, ent_rf, ent_long, ok_0, ok_1, af_ret, af_void, List.tail_cons, List.tail_nil, Nat.reduceAdd, Nat.reduceLeDiff, not_false_eq_true, not_true_eq_false, and_self, and_true, true_and, ne_eq, or_true, true_or, or_false, false_or, eq_self, Nat.reduceEqDiff, ↓reduceIte, false_and, and_false, Nat.le_refl, Nat.zero_le, nz_1, nz_2, nz_3, nz_4, nz_5, nz_6, nz_8, nz_10, nz_12, nz_20, nz_30, nz_60, nz_100, mc_B, mc_Z, mc_S, mc_C, mc_K, mc_N, mc_R, mc_I, mc_L, va_Is, va_Ls, va_us, va_iss, u2_ap, sp_isLedge, sp_isLadder, sp_isPerson, sp_isLiving, sp_isLot, sp_isThere, sp_isSpan, cs_f15 q, cs_f15 q1', cs_f15 qn, cs_rd q, mc_nw w1, af_thr, thr_c (qn.hx wn x2), r85_6, r85_8, r85_14, r85_15, r85_18, r85_21, r85_22, r85_23, r85_25, r85_26, r85_29, r85_32, r85_33, r85_36, r85_37, r85_11, s1, n1, m1, m]
    | inr x =>
      obtain ⟨t1, q1⟩ := x
      obtain ⟨h2, G2, b, m, x2, w2, qs2, to2, th2, l2, l3⟩ := r
      have m : xm_met (Y + 12) 86 [.ref (xd_A D 0 15)] (xp_c (xm_nw h1 10 0 3) D G1) = _ := m
      have x2 : hx (6 * (q1 - lE c T i)) (48 * (q1 - lE c T i)) (xm_nw h1 10 0 3) h2 := x2
      have l2 : lE c T i ≤ q1 := l2
      have l3 : q1 ≤ T := l3
      have th2 : th t1 + lE c T i ≤ q1 := th2
      have ok1 : wf (cnd 5) t1 := ok.1
      obtain ⟨y1, y2, y3, y4⟩ := two_new w1 x2 w2 (o := 17) (TO.hx w x1 _ _ ht) to2
      have y5 : xm_met (Y + 12) 195 [.ref (xm_Z h1), .ref a, .int 38, .ref b] (xp_c h2 D G2) = some (.inl none, xp_c (nTwo h2 (xm_Z h1) a 38 b) D G2) := y4 (Y + 10) G2
      have q2' := qn.hx wn x2
      have xx : hx (6 * (q1 - i)) (48 * (q1 - i)) h (nTwo h2 (xm_Z h1) a (sgc 17) b) := (x1.tr y1).mono (by omega) (by omega)
      have e : xm_run (Y + 13) 85 5 (some (.ref (xd_A D 0 15)) :: some (.ref a) :: l) [] (xp_c h D G) = xm_run (Y + 13) 85 5 (some (.ref (xd_A D 0 15)) :: some (.ref (xm_Z h1)) :: l) [] (xp_c (nTwo h2 (xm_Z h1) a 38 b) D G2) := by
        rw [r85_5]
        simp only [ite_not, ite_self, w8_nil, ok01, ite10, rf_rv, rf_ref, rf_cat, rf_lk2, rf_some, rf_none, w_add, w_cons, cr_int, cr_long, cr_ref, cr_null, is_ref, is_null, l2_int, l2_ref, l2_null, l2_none, ent_nil, ent_int, ent_ref, ent_null, ent_rf, ent_long, ok_0, ok_1, af_ret, af_void, List.tail_cons, List.tail_nil, Nat.reduceAdd, Nat.reduceLeDiff, not_false_eq_true, not_true_eq_false, and_self, and_true, true_and, ne_eq, or_true, true_or, or_false, false_or, eq_self, Nat.reduceEqDiff, ↓reduceIte, false_and, and_false, Nat.le_refl, Nat.zero_le, nz_1, nz_2, nz_3, nz_4, nz_5, nz_6, nz_8, nz_10, nz_12, nz_20, nz_30, nz_60, nz_100, mc_B, mc_Z, mc_S, mc_C, mc_K, mc_N, mc_R, mc_I, mc_L, va_Is, va_Ls, va_us, va_iss, u2_ap, sp_isLedge, sp_isLadder, sp_isPerson, sp_isLiving, sp_isLot, sp_isThere, sp_isSpan, cs_f15 q, cs_f15 q1', cs_f15 qn, cs_rd q, mc_nw w1, r85_6, r85_8, r85_14, r85_15, r85_18, r85_21, r85_22, r85_23, r85_25, r85_26, r85_29, r85_32, r85_33, r85_36, r85_37, r85_11, s1, n1, m1, m, y5]
      have hm : max (th t) (th t1) + 1 + p ≤ q1 := by omega
      exact cO_eq e (cO_tr xx (by omega) l3 (ih 7 dp (.mulL 17 (.add t t1)) q1 p (nTwo h2 (xm_Z h1) a (sgc 17) b) G2 (xm_Z h1) (l) (by decide) l3 h8 (q.hx w xx) y2 (sw.hx q w xx) (fun _ => ⟨Or.inr ⟨by decide, w0, ok1⟩, y3, hm⟩) (fun z => absurd rfl z) qs2 fl (Y + 13) (by show _ + 13 ≤ _; omega)))
  rw [if_neg c1] at s1
  rw [if_neg c1] at fl ⊢
  have no := s1
  refine ⟨h, G, a, ?_, hx.rf, w, qs, ht, hth, Nat.le_refl _, hi⟩
  rw [r85_5]
  simp only [ite_not, ite_self, w8_nil, ok01, ite10, rf_rv, rf_ref, rf_cat, rf_lk2, rf_some, rf_none, w_add, w_cons, cr_int, cr_long, cr_ref, cr_null, is_ref, is_null, l2_int, l2_ref, l2_null, l2_none, ent_nil, ent_int, ent_ref, ent_null, ent_rf, ent_long, ok_0, ok_1, af_ret, af_void, List.tail_cons, List.tail_nil, Nat.reduceAdd, Nat.reduceLeDiff, not_false_eq_true, not_true_eq_false, and_self, and_true, true_and, ne_eq, or_true, true_or, or_false, false_or, eq_self, Nat.reduceEqDiff, ↓reduceIte, false_and, and_false, Nat.le_refl, Nat.zero_le, nz_1, nz_2, nz_3, nz_4, nz_5, nz_6, nz_8, nz_10, nz_12, nz_20, nz_30, nz_60, nz_100, mc_B, mc_Z, mc_S, mc_C, mc_K, mc_N, mc_R, mc_I, mc_L, va_Is, va_Ls, va_us, va_iss, u2_ap, sp_isLedge, sp_isLadder, sp_isPerson, sp_isLiving, sp_isLot, sp_isThere, sp_isSpan, cs_f15 q, r85_6, r85_8, r85_14, r85_15, r85_18, r85_21, r85_22, r85_23, r85_25, r85_26, r85_29, r85_32, r85_33, r85_36, r85_37, r85_11, no]
theorem c84l (tc : TC F c T) {n : Nat} (ih : crI D F c T n) {dp : Nat} {t : Tm} {i : Nat} {h : xm_H} {G : xp_F} {a : Nat} {l : List (Option Value)} (hi : i ≤ T) (h8 : dp ≤ 8) (q : CS h D) (w : HW h D) (sw : SW h D) (qs : QS F c T i dp G) {p : Nat} (w0 : wf (cnd 9) t) (ht : TO h D t a) (hth : th t + p ≤ i) (fl : flt (pz c T (n + 1) 9 dp t i)) {X : Nat} (hX : 12 * (8 - dp) + 14 ≤ X) : cO h D F c T dp p i (cX h D X 9 G a l) (pz c T (n + 1) 9 dp t i) := by
  obtain ⟨Y, eY⟩ : ∃ Y, X = Y + 14 := ⟨X - 14, by omega⟩
  subst eY
  show cO h D F c T dp p i (xm_run (Y + 14) 84 9 (some (.ref (xd_A D 0 15)) :: some (.ref a) :: l) [] (xp_c h D G)) _
  have n1 : ¬ (1 : Int32) = 0 := by decide
  rw [pz_e9] at fl ⊢
  have s1 := c83 (d := Y + 13) q qs.1 (k := 18) (by decide)
  have s1 : xm_met (Y + 13) 83 [.ref (xd_A D 0 15), .int 18] (xp_c h D G) = some (.inl (some (.int (if lK c T i = 9 then 1 else 0))), xp_c h D G) := s1
  by_cases c1 : lK c T i = 9
  · rw [if_pos c1] at s1
    rw [if_pos c1] at fl ⊢
    have l1 := lE_lt tc.1 hi (by rw [c1]; decide)
    obtain ⟨h1, G1, m1, x1, w1, qs1⟩ := qs.next (d := Y + 6) q w sw tc hi
    have q1' := q.hx w x1
    have sw1 := sw.hx q w x1
    have xn := hx_nw (h := h1) (kd := 10) (n := 0) (s := 3)
    have wn : HW (xm_nw h1 10 0 3) D := w1.nw
    have qn := q1'.hx w1 xn
    have r := ih 6 dp t (lE c T i) (lE c T i) (xm_nw h1 10 0 3) G1 0 [] (by decide) l1.2 h8 qn wn (sw1.hx q1' w1 xn) (fun z => nomatch z) (fun _ => rfl) qs1 (flt_1 fl) (Y + 13) (by show _ + 13 ≤ _; omega)
    have ok := pz_ok tc.1 n 6 dp t (lE c T i) l1.2 (fun z => nomatch z)
    generalize pz c T n 6 dp t (lE c T i) = r0 at r ok fl ⊢
    cases r0 with
    | inl x =>
      obtain ⟨h2, G2, m, x2, w2, ft⟩ := r
      have m : xm_met (Y + 13) 85 [.ref (xd_A D 0 15)] (xp_c (xm_nw h1 10 0 3) D G1) = _ := m
      refine ⟨h2, G2, ?_, ((x1.tr xn).tr x2).mono (by omega) (by omega), w2, ft⟩
      rw [r84_9]
      simp only [ite_not, ite_self, w8_nil, ok01, ite10, rf_rv, rf_ref, rf_cat, rf_lk2, rf_some, rf_none, w_add, w_cons, cr_int, cr_long, cr_ref, cr_null, is_ref, is_null, l2_int, l2_ref, l2_null, l2_none, ent_nil, ent_int, ent_ref, ent_null, ent_rf, ent_long, ok_0, ok_1, af_ret, af_void, List.tail_cons, List.tail_nil, Nat.reduceAdd, Nat.reduceLeDiff, not_false_eq_true, not_true_eq_false, and_self, and_true, true_and, ne_eq, or_true, true_or, or_false, false_or, eq_self, Nat.reduceEqDiff, ↓reduceIte, false_and, and_false, Nat.le_refl, Nat.zero_le, nz_1, nz_2, nz_3, nz_4, nz_5, nz_6, nz_8, nz_10, nz_12, nz_20, nz_30, nz_60, nz_100, mc_B, mc_Z, mc_S, mc_C, mc_K, mc_N, mc_R, mc_I, mc_L, va_Is, va_Ls, va_us, va_iss, u2_ap, sp_isLedge, sp_isLadder, sp_isPerson, sp_isLiving, sp_isLot, sp_isThere, sp_isSpan, cs_f15 q, cs_f15 q1', cs_f15 qn, cs_rd q, mc_nw w1, af_thr, thr_c (qn.hx wn x2), r84_10, r84_12, r84_18, r84_19, r84_22, r84_25, r84_26, r84_27, r84_29, r84_30, r84_33, r84_36, r84_37, r84_40, r84_41, r84_15, s1, n1, m1, m]
    | inr x =>
      obtain ⟨t1, q1⟩ := x
      obtain ⟨h2, G2, b, m, x2, w2, qs2, to2, th2, l2, l3⟩ := r
      have m : xm_met (Y + 13) 85 [.ref (xd_A D 0 15)] (xp_c (xm_nw h1 10 0 3) D G1) = _ := m
      have x2 : hx (6 * (q1 - lE c T i)) (48 * (q1 - lE c T i)) (xm_nw h1 10 0 3) h2 := x2
      have l2 : lE c T i ≤ q1 := l2
      have l3 : q1 ≤ T := l3
      have th2 : th t1 + lE c T i ≤ q1 := th2
      have ok1 : wf (cnd 6) t1 := ok.1
      obtain ⟨y1, y2, y3, y4⟩ := two_new w1 x2 w2 (o := 18) (TO.hx w x1 _ _ ht) to2
      have y5 : xm_met (Y + 13) 195 [.ref (xm_Z h1), .ref a, .int 124, .ref b] (xp_c h2 D G2) = some (.inl none, xp_c (nTwo h2 (xm_Z h1) a 124 b) D G2) := y4 (Y + 11) G2
      have q2' := qn.hx wn x2
      have xx : hx (6 * (q1 - i)) (48 * (q1 - i)) h (nTwo h2 (xm_Z h1) a (sgc 18) b) := (x1.tr y1).mono (by omega) (by omega)
      have e : xm_run (Y + 14) 84 9 (some (.ref (xd_A D 0 15)) :: some (.ref a) :: l) [] (xp_c h D G) = xm_run (Y + 14) 84 9 (some (.ref (xd_A D 0 15)) :: some (.ref (xm_Z h1)) :: l) [] (xp_c (nTwo h2 (xm_Z h1) a 124 b) D G2) := by
        rw [r84_9]
        simp only [ite_not, ite_self, w8_nil, ok01, ite10, rf_rv, rf_ref, rf_cat, rf_lk2, rf_some, rf_none, w_add, w_cons, cr_int, cr_long, cr_ref, cr_null, is_ref, is_null, l2_int, l2_ref, l2_null, l2_none, ent_nil, ent_int, ent_ref, ent_null, ent_rf, ent_long, ok_0, ok_1, af_ret, af_void, List.tail_cons, List.tail_nil, Nat.reduceAdd, Nat.reduceLeDiff, not_false_eq_true, not_true_eq_false, and_self, and_true, true_and, ne_eq, or_true, true_or, or_false, false_or, eq_self, Nat.reduceEqDiff, ↓reduceIte, false_and, and_false, Nat.le_refl, Nat.zero_le, nz_1, nz_2, nz_3, nz_4, nz_5, nz_6, nz_8, nz_10, nz_12, nz_20, nz_30, nz_60, nz_100, mc_B, mc_Z, mc_S, mc_C, mc_K, mc_N, mc_R, mc_I, mc_L, va_Is, va_Ls, va_us, va_iss, u2_ap, sp_isLedge, sp_isLadder, sp_isPerson, sp_isLiving, sp_isLot, sp_isThere, sp_isSpan, cs_f15 q, cs_f15 q1', cs_f15 qn, cs_rd q, mc_nw w1, r84_10, r84_12, r84_18, r84_19, r84_22, r84_25, r84_26, r84_27, r84_29, r84_30, r84_33, r84_36, r84_37, r84_40, r84_41, r84_15, s1, n1, m1, m, y5]
      have hm : max (th t) (th t1) + 1 + p ≤ q1 := by omega
      exact cO_eq e (cO_tr xx (by omega) l3 (ih 9 dp (.mulL 18 (.add t t1)) q1 p (nTwo h2 (xm_Z h1) a (sgc 18) b) G2 (xm_Z h1) (l) (by decide) l3 h8 (q.hx w xx) y2 (sw.hx q w xx) (fun _ => ⟨Or.inr ⟨by decide, w0, ok1⟩, y3, hm⟩) (fun z => absurd rfl z) qs2 fl (Y + 14) (by show _ + 14 ≤ _; omega)))
  rw [if_neg c1] at s1
  rw [if_neg c1] at fl ⊢
  have no := s1
  refine ⟨h, G, a, ?_, hx.rf, w, qs, ht, hth, Nat.le_refl _, hi⟩
  rw [r84_9]
  simp only [ite_not, ite_self, w8_nil, ok01, ite10, rf_rv, rf_ref, rf_cat, rf_lk2, rf_some, rf_none, w_add, w_cons, cr_int, cr_long, cr_ref, cr_null, is_ref, is_null, l2_int, l2_ref, l2_null, l2_none, ent_nil, ent_int, ent_ref, ent_null, ent_rf, ent_long, ok_0, ok_1, af_ret, af_void, List.tail_cons, List.tail_nil, Nat.reduceAdd, Nat.reduceLeDiff, not_false_eq_true, not_true_eq_false, and_self, and_true, true_and, ne_eq, or_true, true_or, or_false, false_or, eq_self, Nat.reduceEqDiff, ↓reduceIte, false_and, and_false, Nat.le_refl, Nat.zero_le, nz_1, nz_2, nz_3, nz_4, nz_5, nz_6, nz_8, nz_10, nz_12, nz_20, nz_30, nz_60, nz_100, mc_B, mc_Z, mc_S, mc_C, mc_K, mc_N, mc_R, mc_I, mc_L, va_Is, va_Ls, va_us, va_iss, u2_ap, sp_isLedge, sp_isLadder, sp_isPerson, sp_isLiving, sp_isLot, sp_isThere, sp_isSpan, cs_f15 q, r84_10, r84_12, r84_18, r84_19, r84_22, r84_25, r84_26, r84_27, r84_29, r84_30, r84_33, r84_36, r84_37, r84_40, r84_41, r84_15, no]
end CRX
