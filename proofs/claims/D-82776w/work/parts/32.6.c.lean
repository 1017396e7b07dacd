/-! texts: the model reads terms, the walk of the rest -/
set_option maxRecDepth 100000
section MRX
variable {d : Nat} {h : xm_H} {M : Nat} {F F0 : xp_F} {c : Nat → Int32} {T : Nat}
theorem mO_tr {b s s2 i q1 dp : Nat} {G : xp_F} {v : xm_V} {r : PR} (k : kp2 s F G) (l : s ≤ s2) (l2 : s2 + i ≤ s + q1) (z : mO h M F0 c T dp b s2 q1 G v r) : mO h M F0 c T dp b s i F v r := by
  cases r with
  | inl x => exact z
  | inr x =>
    obtain ⟨H, s3, m, a, k3, g, l3, l4⟩ := z
    have l4 : s3 + q1 ≤ s2 + x.2 := l4
    exact ⟨H, s3, m, a, k.tr k3 l, g, by omega, by omega⟩
theorem mO_eq {b s i dp : Nat} {v w : xm_V} {r : PR} (e : v = w) (z : mO h M F0 c T dp b s i F w r) : mO h M F0 c T dp b s i F v r := e ▸ z
theorem flt_1 {r : PR} {f : Tm → Nat → PR} (h : flt (pb r f)) : flt r := by
  cases r with
  | inl x => exact h
  | inr x => trivial
theorem kp2.of {s : Nat} {G : xp_F} (a : ∀ j, G 27 j = F 27 j) : kp2 s F G := fun j _ => a j
theorem c122h (q : MS h M) (tp : TP F0 c T) {n : Nat} (ih : mrI h M F0 c T n) {dp : Nat} {t : Tm} {i s : Nat} {F : xp_F} {l : List (Option Value)} (hi : i ≤ T) (h8 : dp ≤ 8) (hs : s ≤ i) (a : PS F0 c T i dp s F) (fl : flt (pz c T (n + 1) 1 dp t i)) {D : Nat} (hD : 12 * (8 - dp) + 5 ≤ D) : mO h M F0 c T dp s s i F (mX h M D 1 F l) (pz c T (n + 1) 1 dp t i) := by
  obtain ⟨X, eX⟩ : ∃ X, D = X + 5 := ⟨D - 5, by omega⟩
  subst eX
  have t600 := tp.1.1
  show mO h M F0 c T dp s s i F (xm_met (X + 5) 122 [.ref M] (xp_m h M F)) _
  rw [pz_e1] at fl ⊢
  have r := ih 0 dp t i s s F [] (by decide) hi h8 hs (fun z => nomatch z) (fun _ => rfl) a (flt_1 fl) (X + 4) (by show _ + 4 ≤ _; omega)
  have ok := pz_ok tp.1 n 0 dp t i hi (fun z => nomatch z)
  generalize pz c T n 0 dp t i = r0 at r ok fl ⊢
  cases r0 with
  | inl x =>
    obtain ⟨G, m, pf⟩ := r
    have m : xm_met (X + 4) 123 [.ref M] (xp_m h M F) = _ := m
    refine ⟨G, ?_, pf⟩
    unfold xm_met
    simp only [ite_not, ite_self, w8_nil, ok01, ite10, rf_rv, rf_ref, rf_cat, rf_lk2, rf_some, rf_none, w_add, w_cons, cr_int, cr_long, cr_ref, cr_null, is_ref, is_null, l2_int, l2_ref, l2_null, l2_none, ent_nil, ent_int, ent_ref, ent_null, ent_rf, ent_long, ok_0, ok_1, af_ret, af_void, List.tail_cons, List.tail_nil, Nat.reduceAdd, Nat.reduceLeDiff, not_false_eq_true, not_true_eq_false, and_self, and_true, true_and, ne_eq, or_true, true_or, or_false, false_or, eq_self, Nat.reduceEqDiff, ↓reduceIte, false_and, and_false, Nat.le_refl, Nat.zero_le, nz_1, nz_2, nz_3, nz_4, nz_5, nz_6, nz_8, nz_10, nz_12, nz_20, nz_30, nz_60, nz_100, mp_B, mp_Z, mp_S, mp_C, mp_K, mp_N, mp_L, mp_R, mp_I, mp_I0, mp_s, mp_s0, u2_ap, sp_isLedge, sp_isLadder, sp_isPerson, sp_isLiving, sp_isLot, sp_isThere, sp_isSpan, ms_K q, ms_B q, r122_0, r122_1, r122_7, r122_8, r122_4, m]
  | inr x =>
    obtain ⟨t1, q1⟩ := x
    obtain ⟨G2, s2, m, a2, k2, sg2, l2, l3⟩ := r
    have m : xm_met (X + 4) 123 [.ref M] (xp_m h M F) = _ := m
    obtain ⟨w1, b1, b2⟩ := ok
    have b2 : q1 ≤ T := b2
    have l3 : s2 + i ≤ s + q1 := l3
    have e : xm_met (X + 5) 122 [.ref M] (xp_m h M F) = xm_run (X + 5) 122 9 [some (.ref M)] [] (xp_m h M G2) := by
      unfold xm_met
      simp only [ite_not, ite_self, w8_nil, ok01, ite10, rf_rv, rf_ref, rf_cat, rf_lk2, rf_some, rf_none, w_add, w_cons, cr_int, cr_long, cr_ref, cr_null, is_ref, is_null, l2_int, l2_ref, l2_null, l2_none, ent_nil, ent_int, ent_ref, ent_null, ent_rf, ent_long, ok_0, ok_1, af_ret, af_void, List.tail_cons, List.tail_nil, Nat.reduceAdd, Nat.reduceLeDiff, not_false_eq_true, not_true_eq_false, and_self, and_true, true_and, ne_eq, or_true, true_or, or_false, false_or, eq_self, Nat.reduceEqDiff, ↓reduceIte, false_and, and_false, Nat.le_refl, Nat.zero_le, nz_1, nz_2, nz_3, nz_4, nz_5, nz_6, nz_8, nz_10, nz_12, nz_20, nz_30, nz_60, nz_100, mp_B, mp_Z, mp_S, mp_C, mp_K, mp_N, mp_L, mp_R, mp_I, mp_I0, mp_s, mp_s0, u2_ap, sp_isLedge, sp_isLadder, sp_isPerson, sp_isLiving, sp_isLot, sp_isThere, sp_isSpan, ms_K q, ms_B q, r122_0, r122_1, r122_7, r122_8, r122_4, m]
    exact mO_eq e (mO_tr k2 l2 l3 (ih 2 dp t1 q1 s s2 G2 [] (by decide) b2 h8 (by omega) (fun _ => ⟨w1, sg2⟩) (fun z => absurd rfl z) a2 fl (X + 5) (by show _ + 5 ≤ _; omega)))
theorem c121h (q : MS h M) (tp : TP F0 c T) {n : Nat} (ih : mrI h M F0 c T n) {dp : Nat} {t : Tm} {i s : Nat} {F : xp_F} {l : List (Option Value)} (hi : i ≤ T) (h8 : dp ≤ 8) (hs : s ≤ i) (a : PS F0 c T i dp s F) (fl : flt (pz c T (n + 1) 3 dp t i)) {D : Nat} (hD : 12 * (8 - dp) + 6 ≤ D) : mO h M F0 c T dp s s i F (mX h M D 3 F l) (pz c T (n + 1) 3 dp t i) := by
  obtain ⟨X, eX⟩ : ∃ X, D = X + 6 := ⟨D - 6, by omega⟩
  subst eX
  have t600 := tp.1.1
  show mO h M F0 c T dp s s i F (xm_met (X + 6) 121 [.ref M] (xp_m h M F)) _
  rw [pz_e3] at fl ⊢
  have r := ih 1 dp t i s s F [] (by decide) hi h8 hs (fun z => nomatch z) (fun _ => rfl) a (flt_1 fl) (X + 5) (by show _ + 5 ≤ _; omega)
  have ok := pz_ok tp.1 n 1 dp t i hi (fun z => nomatch z)
  generalize pz c T n 1 dp t i = r0 at r ok fl ⊢
  cases r0 with
  | inl x =>
    obtain ⟨G, m, pf⟩ := r
    have m : xm_met (X + 5) 122 [.ref M] (xp_m h M F) = _ := m
    refine ⟨G, ?_, pf⟩
    unfold xm_met
    simp only [ite_not, ite_self, w8_nil, ok01, ite10, rf_rv, rf_ref, rf_cat, rf_lk2, rf_some, rf_none, w_add, w_cons, cr_int, cr_long, cr_ref, cr_null, is_ref, is_null, l2_int, l2_ref, l2_null, l2_none, ent_nil, ent_int, ent_ref, ent_null, ent_rf, ent_long, ok_0, ok_1, af_ret, af_void, List.tail_cons, List.tail_nil, Nat.reduceAdd, Nat.reduceLeDiff, not_false_eq_true, not_true_eq_false, and_self, and_true, true_and, ne_eq, or_true, true_or, or_false, false_or, eq_self, Nat.reduceEqDiff, ↓reduceIte, false_and, and_false, Nat.le_refl, Nat.zero_le, nz_1, nz_2, nz_3, nz_4, nz_5, nz_6, nz_8, nz_10, nz_12, nz_20, nz_30, nz_60, nz_100, mp_B, mp_Z, mp_S, mp_C, mp_K, mp_N, mp_L, mp_R, mp_I, mp_I0, mp_s, mp_s0, u2_ap, sp_isLedge, sp_isLadder, sp_isPerson, sp_isLiving, sp_isLot, sp_isThere, sp_isSpan, ms_K q, ms_B q, r121_0, r121_1, r121_7, r121_8, r121_4, m]
  | inr x =>
    obtain ⟨t1, q1⟩ := x
    obtain ⟨G2, s2, m, a2, k2, sg2, l2, l3⟩ := r
    have m : xm_met (X + 5) 122 [.ref M] (xp_m h M F) = _ := m
    obtain ⟨w1, b1, b2⟩ := ok
    have b2 : q1 ≤ T := b2
    have l3 : s2 + i ≤ s + q1 := l3
    have e : xm_met (X + 6) 121 [.ref M] (xp_m h M F) = xm_run (X + 6) 121 9 [some (.ref M)] [] (xp_m h M G2) := by
      unfold xm_met
      simp only [ite_not, ite_self, w8_nil, ok01, ite10, rf_rv, rf_ref, rf_cat, rf_lk2, rf_some, rf_none, w_add, w_cons, cr_int, cr_long, cr_ref, cr_null, is_ref, is_null, l2_int, l2_ref, l2_null, l2_none, ent_nil, ent_int, ent_ref, ent_null, ent_rf, ent_long, ok_0, ok_1, af_ret, af_void, List.tail_cons, List.tail_nil, Nat.reduceAdd, Nat.reduceLeDiff, not_false_eq_true, not_true_eq_false, and_self, and_true, true_and, ne_eq, or_true, true_or, or_false, false_or, eq_self, Nat.reduceEqDiff, ↓reduceIte, false_and, and_false, Nat.le_refl, Nat.zero_le, nz_1, nz_2, nz_3, nz_4, nz_5, nz_6, nz_8, nz_10, nz_12, nz_20, nz_30, nz_60, nz_100, mp_B, mp_Z, mp_S, mp_C, mp_K, mp_N, mp_L, mp_R, mp_I, mp_I0, mp_s, mp_s0, u2_ap, sp_isLedge, sp_isLadder, sp_isPerson, sp_isLiving, sp_isLot, sp_isThere, sp_isSpan, ms_K q, ms_B q, r121_0, r121_1, r121_7, r121_8, r121_4, m]
    exact mO_eq e (mO_tr k2 l2 l3 (ih 4 dp t1 q1 s s2 G2 [] (by decide) b2 h8 (by omega) (fun _ => ⟨w1, sg2⟩) (fun z => absurd rfl z) a2 fl (X + 6) (by show _ + 6 ≤ _; omega)))
theorem c128h (q : MS h M) (tp : TP F0 c T) {n : Nat} (ih : mrI h M F0 c T n) {dp : Nat} {t : Tm} {i s : Nat} {F : xp_F} {l : List (Option Value)} (hi : i ≤ T) (h8 : dp ≤ 8) (hs : s ≤ i) (a : PS F0 c T i dp s F) (fl : flt (pz c T (n + 1) 6 dp t i)) {D : Nat} (hD : 12 * (8 - dp) + 8 ≤ D) : mO h M F0 c T dp s s i F (mX h M D 6 F l) (pz c T (n + 1) 6 dp t i) := by
  obtain ⟨X, eX⟩ : ∃ X, D = X + 8 := ⟨D - 8, by omega⟩
  subst eX
  have t600 := tp.1.1
  show mO h M F0 c T dp s s i F (xm_met (X + 8) 128 [.ref M] (xp_m h M F)) _
  rw [pz_e6] at fl ⊢
  have r := ih 5 dp t i s s F [] (by decide) hi h8 hs (fun z => nomatch z) (fun _ => rfl) a (flt_1 fl) (X + 7) (by show _ + 7 ≤ _; omega)
  have ok := pz_ok tp.1 n 5 dp t i hi (fun z => nomatch z)
  generalize pz c T n 5 dp t i = r0 at r ok fl ⊢
  cases r0 with
  | inl x =>
    obtain ⟨G, m, pf⟩ := r
    have m : xm_met (X + 7) 129 [.ref M] (xp_m h M F) = _ := m
    refine ⟨G, ?_, pf⟩
    unfold xm_met
    simp only [ite_not, ite_self, w8_nil, ok01, ite10, rf_rv, rf_ref, rf_cat, rf_lk2, rf_some, rf_none, w_add, w_cons, cr_int, cr_long, cr_ref, cr_null, is_ref, is_null, l2_int, l2_ref, l2_null, l2_none, ent_nil, ent_int, ent_ref, ent_null, ent_rf, ent_long, ok_0, ok_1, af_ret, af_void, List.tail_cons, List.tail_nil, Nat.reduceAdd, Nat.reduceLeDiff, not_false_eq_true, not_true_eq_false, and_self, and_true, true_and, ne_eq, or_true, true_or, or_false, false_or, eq_self, Nat.reduceEqDiff, ↓reduceIte, false_and, and_false, Nat.le_refl, Nat.zero_le, nz_1, nz_2, nz_3, nz_4, nz_5, nz_6, nz_8, nz_10, nz_12, nz_20, nz_30, nz_60, nz_100, mp_B, mp_Z, mp_S, mp_C, mp_K, mp_N, mp_L, mp_R, mp_I, mp_I0, mp_s, mp_s0, u2_ap, sp_isLedge, sp_isLadder, sp_isPerson, sp_isLiving, sp_isLot, sp_isThere, sp_isSpan, ms_K q, ms_B q, r128_0, r128_1, r128_7, r128_8, r128_4, m]
  | inr x =>
    obtain ⟨t1, q1⟩ := x
    obtain ⟨G2, s2, m, a2, k2, sg2, l2, l3⟩ := r
    have m : xm_met (X + 7) 129 [.ref M] (xp_m h M F) = _ := m
    obtain ⟨w1, b1, b2⟩ := ok
    have b2 : q1 ≤ T := b2
    have l3 : s2 + i ≤ s + q1 := l3
    have e : xm_met (X + 8) 128 [.ref M] (xp_m h M F) = xm_run (X + 8) 128 9 [some (.ref M)] [] (xp_m h M G2) := by
      unfold xm_met
      simp only [ite_not, ite_self, w8_nil, ok01, ite10, rf_rv, rf_ref, rf_cat, rf_lk2, rf_some, rf_none, w_add, w_cons, cr_int, cr_long, cr_ref, cr_null, is_ref, is_null, l2_int, l2_ref, l2_null, l2_none, ent_nil, ent_int, ent_ref, ent_null, ent_rf, ent_long, ok_0, ok_1, af_ret, af_void, List.tail_cons, List.tail_nil, Nat.reduceAdd, Nat.reduceLeDiff, not_false_eq_true, not_true_eq_false, and_self, and_true, true_and, ne_eq, or_true, true_or, or_false, false_or, eq_self, Nat.reduceEqDiff, ↓reduceIte, false_and, and_false, Nat.le_refl, Nat.zero_le, nz_1, nz_2, nz_3, nz_4, nz_5, nz_6, nz_8, nz_10, nz_12, nz_20, nz_30, nz_60, nz_100, mp_B, mp_Z, mp_S, mp_C, mp_K, mp_N, mp_L, mp_R, mp_I, mp_I0, mp_s, mp_s0, u2_ap, sp_isLedge, sp_isLadder, sp_isPerson, sp_isLiving, sp_isLot, sp_isThere, sp_isSpan, ms_K q, ms_B q, r128_0, r128_1, r128_7, r128_8, r128_4, m]
    exact mO_eq e (mO_tr k2 l2 l3 (ih 7 dp t1 q1 s s2 G2 [] (by decide) b2 h8 (by omega) (fun _ => ⟨w1, sg2⟩) (fun z => absurd rfl z) a2 fl (X + 8) (by show _ + 8 ≤ _; omega)))
theorem c127h (q : MS h M) (tp : TP F0 c T) {n : Nat} (ih : mrI h M F0 c T n) {dp : Nat} {t : Tm} {i s : Nat} {F : xp_F} {l : List (Option Value)} (hi : i ≤ T) (h8 : dp ≤ 8) (hs : s ≤ i) (a : PS F0 c T i dp s F) (fl : flt (pz c T (n + 1) 8 dp t i)) {D : Nat} (hD : 12 * (8 - dp) + 9 ≤ D) : mO h M F0 c T dp s s i F (mX h M D 8 F l) (pz c T (n + 1) 8 dp t i) := by
  obtain ⟨X, eX⟩ : ∃ X, D = X + 9 := ⟨D - 9, by omega⟩
  subst eX
  have t600 := tp.1.1
  show mO h M F0 c T dp s s i F (xm_met (X + 9) 127 [.ref M] (xp_m h M F)) _
  rw [pz_e8] at fl ⊢
  have r := ih 6 dp t i s s F [] (by decide) hi h8 hs (fun z => nomatch z) (fun _ => rfl) a (flt_1 fl) (X + 8) (by show _ + 8 ≤ _; omega)
  have ok := pz_ok tp.1 n 6 dp t i hi (fun z => nomatch z)
  generalize pz c T n 6 dp t i = r0 at r ok fl ⊢
  cases r0 with
  | inl x =>
    obtain ⟨G, m, pf⟩ := r
    have m : xm_met (X + 8) 128 [.ref M] (xp_m h M F) = _ := m
    refine ⟨G, ?_, pf⟩
    unfold xm_met
    simp only [ite_not, ite_self, w8_nil, ok01, ite10, rf_rv, rf_ref, rf_cat, rf_lk2, rf_some, rf_none, w_add, w_cons, cr_int, cr_long, cr_ref, cr_null, is_ref, is_null, l2_int, l2_ref, l2_null, l2_none, ent_nil, ent_int, ent_ref, ent_null, ent_rf, ent_long, ok_0, ok_1, af_ret, af_void, List.tail_cons, List.tail_nil, Nat.reduceAdd, Nat.reduceLeDiff, not_false_eq_true, not_true_eq_false, and_self, and_true, true_and, ne_eq, or_true, true_or, or_false, false_or, eq_self, Nat.reduceEqDiff, ↓reduceIte, false_and, and_false, Nat.le_refl, Nat.zero_le, nz_1, nz_2, nz_3, nz_4, nz_5, nz_6, nz_8, nz_10, nz_12, nz_20, nz_30, nz_60, nz_100, mp_B, mp_Z, mp_S, mp_C, mp_K, mp_N, mp_L, mp_R, mp_I, mp_I0, mp_s, mp_s0, u2_ap, sp_isLedge, sp_isLadder, sp_isPerson, sp_isLiving, sp_isLot, sp_isThere, sp_isSpan, ms_K q, ms_B q, r127_0, r127_1, r127_7, r127_8, r127_4, m]
  | inr x =>
    obtain ⟨t1, q1⟩ := x
    obtain ⟨G2, s2, m, a2, k2, sg2, l2, l3⟩ := r
    have m : xm_met (X + 8) 128 [.ref M] (xp_m h M F) = _ := m
    obtain ⟨w1, b1, b2⟩ := ok
    have b2 : q1 ≤ T := b2
    have l3 : s2 + i ≤ s + q1 := l3
    have e : xm_met (X + 9) 127 [.ref M] (xp_m h M F) = xm_run (X + 9) 127 9 [some (.ref M)] [] (xp_m h M G2) := by
      unfold xm_met
      simp only [ite_not, ite_self, w8_nil, ok01, ite10, rf_rv, rf_ref, rf_cat, rf_lk2, rf_some, rf_none, w_add, w_cons, cr_int, cr_long, cr_ref, cr_null, is_ref, is_null, l2_int, l2_ref, l2_null, l2_none, ent_nil, ent_int, ent_ref, ent_null, ent_rf, ent_long, ok_0, ok_1, af_ret, af_void, List.tail_cons, List.tail_nil, Nat.reduceAdd, Nat.reduceLeDiff, not_false_eq_true, not_true_eq_false, and_self, and_true, true_and, ne_eq, or_true, true_or, or_false, false_or, eq_self, Nat.reduceEqDiff, ↓reduceIte, false_and, and_false, Nat.le_refl, Nat.zero_le, nz_1, nz_2, nz_3, nz_4, nz_5, nz_6, nz_8, nz_10, nz_12, nz_20, nz_30, nz_60, nz_100, mp_B, mp_Z, mp_S, mp_C, mp_K, mp_N, mp_L, mp_R, mp_I, mp_I0, mp_s, mp_s0, u2_ap, sp_isLedge, sp_isLadder, sp_isPerson, sp_isLiving, sp_isLot, sp_isThere, sp_isSpan, ms_K q, ms_B q, r127_0, r127_1, r127_7, r127_8, r127_4, m]
    exact mO_eq e (mO_tr k2 l2 l3 (ih 9 dp t1 q1 s s2 G2 [] (by decide) b2 h8 (by omega) (fun _ => ⟨w1, sg2⟩) (fun z => absurd rfl z) a2 fl (X + 9) (by show _ + 9 ≤ _; omega)))
theorem c122l (q : MS h M) (tp : TP F0 c T) {n : Nat} (ih : mrI h M F0 c T n) {dp : Nat} {t : Tm} {i b s : Nat} {F : xp_F} {l : List (Option Value)} (hi : i ≤ T) (h8 : dp ≤ 8) (hs : s ≤ i) (w0 : wf (cnd 2) t) (g0 : sg (cf F) t b s) (a : PS F0 c T i dp s F) (fl : flt (pz c T (n + 1) 2 dp t i)) {D : Nat} (hD : 12 * (8 - dp) + 5 ≤ D) : mO h M F0 c T dp b s i F (mX h M D 2 F l) (pz c T (n + 1) 2 dp t i) := by
  obtain ⟨X, eX⟩ : ∃ X, D = X + 5 := ⟨D - 5, by omega⟩
  subst eX
  have t600 := tp.1.1
  have tk : F 0 38 = lK c T i := a.1.2.1
  show mO h M F0 c T dp b s i F (xm_run (X + 5) 122 9 (some (.ref M) :: l) [] (xp_m h M F)) _
  rw [pz_e2] at fl ⊢
  by_cases c42 : lK c T i = 42
  · rw [c42] at tk
    have n47 : ¬ (42 : Int32) = 47 := by decide
    rw [if_pos c42] at fl ⊢
    have l1 := lE_lt tp.1 hi (by rw [c42]; decide)
    obtain ⟨G1, m1, a1, -, fr1⟩ := a.next (d := X + 2) q tp hi
    have r := ih 0 dp t (lE c T i) s s G1 [] (by decide) l1.2 h8 (by omega) (fun z => nomatch z) (fun _ => rfl) a1 (flt_1 fl) (X + 4) (by show _ + 4 ≤ _; omega)
    have ok := pz_ok tp.1 n 0 dp t (lE c T i) l1.2 (fun z => nomatch z)
    generalize pz c T n 0 dp t (lE c T i) = r0 at r ok fl ⊢
    cases r0 with
    | inl x =>
      obtain ⟨G, m, pf⟩ := r
      have m : xm_met (X + 4) 123 [.ref M] (xp_m h M G1) = _ := m
      refine ⟨G, ?_, pf⟩
      rw [r122_9]
      simp only [ite_not, ite_self, w8_nil, ok01, ite10, rf_rv, rf_ref, rf_cat, rf_lk2, rf_some, rf_none, w_add, w_cons, cr_int, cr_long, cr_ref, cr_null, is_ref, is_null, l2_int, l2_ref, l2_null, l2_none, ent_nil, ent_int, ent_ref, ent_null, ent_rf, ent_long, ok_0, ok_1, af_ret, af_void, List.tail_cons, List.tail_nil, Nat.reduceAdd, Nat.reduceLeDiff, not_false_eq_true, not_true_eq_false, and_self, and_true, true_and, ne_eq, or_true, true_or, or_false, false_or, eq_self, Nat.reduceEqDiff, ↓reduceIte, false_and, and_false, Nat.le_refl, Nat.zero_le, nz_1, nz_2, nz_3, nz_4, nz_5, nz_6, nz_8, nz_10, nz_12, nz_20, nz_30, nz_60, nz_100, mp_B, mp_Z, mp_S, mp_C, mp_K, mp_N, mp_L, mp_R, mp_I, mp_I0, mp_s, mp_s0, u2_ap, sp_isLedge, sp_isLadder, sp_isPerson, sp_isLiving, sp_isLot, sp_isThere, sp_isSpan, ms_K q, ms_B q, r122_10, r122_13, r122_18, r122_19, r122_22, r122_27, r122_28, r122_31, r122_36, r122_37, r122_40, r122_41, r122_42, r122_43, r122_46, r122_50, r122_51, r122_54, r122_58, r122_59, r122_60, r122_63, r122_64, r122_65, r122_71, r122_72, r122_73, r122_76, r122_77, r122_78, r122_80, r122_81, r122_84, r122_87, r122_88, r122_91, r122_94, r122_95, r122_101, r122_102, r122_103, r122_104, r122_106, r122_107, r122_110, r122_113, r122_114, r122_15, r122_24, r122_33, r122_47, r122_55, r122_68, r122_98, tk, n47, m1, m]
    | inr x =>
      obtain ⟨t1, q1⟩ := x
      obtain ⟨G2, s2, m, a2, k2, sg2, l2, l3⟩ := r
      have m : xm_met (X + 4) 123 [.ref M] (xp_m h M G1) = _ := m
      obtain ⟨w1, b1, b2⟩ := ok
      have b1 : lE c T i + 1 ≤ q1 := b1
      have b2 : q1 ≤ T := b2
      have l3 : s2 + lE c T i ≤ s + q1 := l3
      obtain ⟨G3, m3, a3, k3, f3⟩ := a2.lay (d := X + 4) q (show s2 < 610 by omega) (k := 11) (v := 0)
      have e : xm_run (X + 5) 122 9 (some (.ref M) :: l) [] (xp_m h M F) = xm_run (X + 5) 122 9 (some (.ref M) :: some (.int 0) :: l.tail) [] (xp_m h M G3) := by
        rw [r122_9]
        simp only [ite_not, ite_self, w8_nil, ok01, ite10, rf_rv, rf_ref, rf_cat, rf_lk2, rf_some, rf_none, w_add, w_cons, cr_int, cr_long, cr_ref, cr_null, is_ref, is_null, l2_int, l2_ref, l2_null, l2_none, ent_nil, ent_int, ent_ref, ent_null, ent_rf, ent_long, ok_0, ok_1, af_ret, af_void, List.tail_cons, List.tail_nil, Nat.reduceAdd, Nat.reduceLeDiff, not_false_eq_true, not_true_eq_false, and_self, and_true, true_and, ne_eq, or_true, true_or, or_false, false_or, eq_self, Nat.reduceEqDiff, ↓reduceIte, false_and, and_false, Nat.le_refl, Nat.zero_le, nz_1, nz_2, nz_3, nz_4, nz_5, nz_6, nz_8, nz_10, nz_12, nz_20, nz_30, nz_60, nz_100, mp_B, mp_Z, mp_S, mp_C, mp_K, mp_N, mp_L, mp_R, mp_I, mp_I0, mp_s, mp_s0, u2_ap, sp_isLedge, sp_isLadder, sp_isPerson, sp_isLiving, sp_isLot, sp_isThere, sp_isSpan, ms_K q, ms_B q, r122_10, r122_13, r122_18, r122_19, r122_22, r122_27, r122_28, r122_31, r122_36, r122_37, r122_40, r122_41, r122_42, r122_43, r122_46, r122_50, r122_51, r122_54, r122_58, r122_59, r122_60, r122_63, r122_64, r122_65, r122_71, r122_72, r122_73, r122_76, r122_77, r122_78, r122_80, r122_81, r122_84, r122_87, r122_88, r122_91, r122_94, r122_95, r122_101, r122_102, r122_103, r122_104, r122_106, r122_107, r122_110, r122_113, r122_114, r122_15, r122_24, r122_33, r122_47, r122_55, r122_68, r122_98, tk, n47, m1, m, m3]
      have k13 : kp2 s F G3 := ((kp2.of fr1).tr k2 (Nat.le_refl _)).tr k3 l2
      have sgA : sg (cf G3) t b s := sg_kp w0 g0 k13
      have sgB : sg (cf G3) t1 s s2 := sg_kp w1 sg2 k3
      exact mO_eq e (mO_tr k13 (show s ≤ s2 + 1 by omega) (show s2 + 1 + i ≤ s + q1 by omega) (ih 2 dp (.mulL 11 (.add t t1)) q1 b (s2 + 1) G3 (some (.int 0) :: l.tail) (by decide) b2 h8 (by omega) (fun _ => ⟨⟨by decide, w0, w1⟩, s, s2, sgA, sgB, rfl, congrArg Prod.fst f3⟩) (fun z => absurd rfl z) a3 fl (X + 5) (by show _ + 5 ≤ _; omega)))
  rw [if_neg c42] at fl ⊢
  by_cases c47 : lK c T i = 47
  · rw [c47] at tk
    have n42 : ¬ (47 : Int32) = 42 := by decide
    rw [if_pos c47] at fl ⊢
    have l1 := lE_lt tp.1 hi (by rw [c47]; decide)
    obtain ⟨G1, m1, a1, -, fr1⟩ := a.next (d := X + 2) q tp hi
    have tk1 : G1 0 38 = lK c T (lE c T i) := a1.1.2.1
    by_cases c22 : lK c T (lE c T i) = 2
    · rw [c22] at tk1
      have v1 : G1 0 40 = lV c T (lE c T i) := a1.1.2.2.2 c22
      rw [if_neg (fun z => z c22)] at fl ⊢
      by_cases c0 : lV c T (lE c T i) = 0
      · rw [if_pos c0]
        rw [c0] at v1
        obtain ⟨G, m, pf⟩ := a1.bad (d := X + 4) q (k := 2)
        refine ⟨G, ?_, pf⟩
        rw [r122_9]
        simp only [ite_not, ite_self, w8_nil, ok01, ite10, rf_rv, rf_ref, rf_cat, rf_lk2, rf_some, rf_none, w_add, w_cons, cr_int, cr_long, cr_ref, cr_null, is_ref, is_null, l2_int, l2_ref, l2_null, l2_none, ent_nil, ent_int, ent_ref, ent_null, ent_rf, ent_long, ok_0, ok_1, af_ret, af_void, List.tail_cons, List.tail_nil, Nat.reduceAdd, Nat.reduceLeDiff, not_false_eq_true, not_true_eq_false, and_self, and_true, true_and, ne_eq, or_true, true_or, or_false, false_or, eq_self, Nat.reduceEqDiff, ↓reduceIte, false_and, and_false, Nat.le_refl, Nat.zero_le, nz_1, nz_2, nz_3, nz_4, nz_5, nz_6, nz_8, nz_10, nz_12, nz_20, nz_30, nz_60, nz_100, mp_B, mp_Z, mp_S, mp_C, mp_K, mp_N, mp_L, mp_R, mp_I, mp_I0, mp_s, mp_s0, u2_ap, sp_isLedge, sp_isLadder, sp_isPerson, sp_isLiving, sp_isLot, sp_isThere, sp_isSpan, ms_K q, ms_B q, r122_10, r122_13, r122_18, r122_19, r122_22, r122_27, r122_28, r122_31, r122_36, r122_37, r122_40, r122_41, r122_42, r122_43, r122_46, r122_50, r122_51, r122_54, r122_58, r122_59, r122_60, r122_63, r122_64, r122_65, r122_71, r122_72, r122_73, r122_76, r122_77, r122_78, r122_80, r122_81, r122_84, r122_87, r122_88, r122_91, r122_94, r122_95, r122_101, r122_102, r122_103, r122_104, r122_106, r122_107, r122_110, r122_15, r122_24, r122_33, r122_47, r122_55, r122_68, r122_98, tk, n42, m1, tk1, v1, m]
      · rw [if_neg c0] at fl ⊢
        have l2 := lE_lt tp.1 l1.2 (by rw [c22]; decide)
        obtain ⟨G2, m2, a2, k2, f2⟩ := a1.lay (d := X + 4) q (show s < 610 by omega) (k := 12) (v := lV c T (lE c T i))
        obtain ⟨G3, m3, a3, -, fr3⟩ := a2.next (d := X + 2) q tp l1.2
        have e : xm_run (X + 5) 122 9 (some (.ref M) :: l) [] (xp_m h M F) = xm_run (X + 5) 122 9 (some (.ref M) :: some (.int 1) :: l.tail) [] (xp_m h M G3) := by
          rw [r122_9]
          simp only [ite_not, ite_self, w8_nil, ok01, ite10, rf_rv, rf_ref, rf_cat, rf_lk2, rf_some, rf_none, w_add, w_cons, cr_int, cr_long, cr_ref, cr_null, is_ref, is_null, l2_int, l2_ref, l2_null, l2_none, ent_nil, ent_int, ent_ref, ent_null, ent_rf, ent_long, ok_0, ok_1, af_ret, af_void, List.tail_cons, List.tail_nil, Nat.reduceAdd, Nat.reduceLeDiff, not_false_eq_true, not_true_eq_false, and_self, and_true, true_and, ne_eq, or_true, true_or, or_false, false_or, eq_self, Nat.reduceEqDiff, ↓reduceIte, false_and, and_false, Nat.le_refl, Nat.zero_le, nz_1, nz_2, nz_3, nz_4, nz_5, nz_6, nz_8, nz_10, nz_12, nz_20, nz_30, nz_60, nz_100, mp_B, mp_Z, mp_S, mp_C, mp_K, mp_N, mp_L, mp_R, mp_I, mp_I0, mp_s, mp_s0, u2_ap, sp_isLedge, sp_isLadder, sp_isPerson, sp_isLiving, sp_isLot, sp_isThere, sp_isSpan, ms_K q, ms_B q, r122_10, r122_13, r122_18, r122_19, r122_22, r122_27, r122_28, r122_31, r122_36, r122_37, r122_40, r122_41, r122_42, r122_43, r122_46, r122_50, r122_51, r122_54, r122_58, r122_59, r122_60, r122_63, r122_64, r122_65, r122_71, r122_72, r122_73, r122_76, r122_77, r122_78, r122_80, r122_81, r122_84, r122_87, r122_88, r122_91, r122_94, r122_95, r122_101, r122_102, r122_103, r122_104, r122_106, r122_107, r122_110, r122_15, r122_24, r122_33, r122_47, r122_55, r122_68, r122_98, tk, n42, m1, tk1, v1, c0, m2, m3]
        have k13 : kp2 s F G3 := ((kp2.of fr1).tr k2 (Nat.le_refl _)).tr (s' := s) (kp2.of fr3) (Nat.le_refl _)
        have sgA : sg (cf G3) t b s := sg_kp w0 g0 k13
        have f3 : cf G3 s = (12, lV c T (lE c T i)) := by
          unfold cf
          rw [fr3, fr3]
          exact f2
        exact mO_eq e (mO_tr k13 (show s ≤ s + 1 by omega) (show s + 1 + i ≤ s + lE c T (lE c T i) by omega) (ih 2 dp (.mulR t (lV c T (lE c T i)).toInt) (lE c T (lE c T i)) b (s + 1) G3 (some (.int 1) :: l.tail) (by decide) l2.2 h8 (by omega) (fun _ => ⟨⟨w0, lV_ne c0⟩, s, sgA, rfl, congrArg Prod.fst f3, (congrArg Prod.snd f3).trans (Int32.ofInt_toInt _).symm⟩) (fun z => absurd rfl z) a3 fl (X + 5) (by show _ + 5 ≤ _; omega)))
    · rw [if_pos c22]
      obtain ⟨G, m, pf⟩ := a1.bad (d := X + 4) q (k := 1)
      refine ⟨G, ?_, pf⟩
      rw [r122_9]
      simp only [ite_not, ite_self, w8_nil, ok01, ite10, rf_rv, rf_ref, rf_cat, rf_lk2, rf_some, rf_none, w_add, w_cons, cr_int, cr_long, cr_ref, cr_null, is_ref, is_null, l2_int, l2_ref, l2_null, l2_none, ent_nil, ent_int, ent_ref, ent_null, ent_rf, ent_long, ok_0, ok_1, af_ret, af_void, List.tail_cons, List.tail_nil, Nat.reduceAdd, Nat.reduceLeDiff, not_false_eq_true, not_true_eq_false, and_self, and_true, true_and, ne_eq, or_true, true_or, or_false, false_or, eq_self, Nat.reduceEqDiff, ↓reduceIte, false_and, and_false, Nat.le_refl, Nat.zero_le, nz_1, nz_2, nz_3, nz_4, nz_5, nz_6, nz_8, nz_10, nz_12, nz_20, nz_30, nz_60, nz_100, mp_B, mp_Z, mp_S, mp_C, mp_K, mp_N, mp_L, mp_R, mp_I, mp_I0, mp_s, mp_s0, u2_ap, sp_isLedge, sp_isLadder, sp_isPerson, sp_isLiving, sp_isLot, sp_isThere, sp_isSpan, ms_K q, ms_B q, r122_10, r122_13, r122_18, r122_19, r122_22, r122_27, r122_28, r122_31, r122_36, r122_37, r122_40, r122_41, r122_42, r122_43, r122_46, r122_50, r122_51, r122_54, r122_58, r122_59, r122_60, r122_63, r122_64, r122_65, r122_71, r122_72, r122_73, r122_76, r122_77, r122_78, r122_80, r122_81, r122_84, r122_87, r122_88, r122_91, r122_94, r122_95, r122_101, r122_102, r122_103, r122_104, r122_106, r122_107, r122_110, r122_15, r122_24, r122_33, r122_47, r122_55, r122_68, r122_98, tk, n42, m1, tk1, c22, m]
  rw [if_neg c47] at fl ⊢
  have no : ¬ lK c T i = 42 := c42
  have no2 : ¬ lK c T i = 47 := c47
  exact ⟨F, s, by rw [r122_9]; simp only [ite_not, ite_self, w8_nil, ok01, ite10, rf_rv, rf_ref, rf_cat, rf_lk2, rf_some, rf_none, w_add, w_cons, cr_int, cr_long, cr_ref, cr_null, is_ref, is_null, l2_int, l2_ref, l2_null, l2_none, ent_nil, ent_int, ent_ref, ent_null, ent_rf, ent_long, ok_0, ok_1, af_ret, af_void, List.tail_cons, List.tail_nil, Nat.reduceAdd, Nat.reduceLeDiff, not_false_eq_true, not_true_eq_false, and_self, and_true, true_and, ne_eq, or_true, true_or, or_false, false_or, eq_self, Nat.reduceEqDiff, ↓reduceIte, false_and, and_false, Nat.le_refl, Nat.zero_le, nz_1, nz_2, nz_3, nz_4, nz_5, nz_6, nz_8, nz_10, nz_12, nz_20, nz_30, nz_60, nz_100, mp_B, mp_Z, mp_S, mp_C, mp_K, mp_N, mp_L, mp_R, mp_I, mp_I0, mp_s, mp_s0, u2_ap, sp_isLedge, sp_isLadder, sp_isPerson, sp_isLiving, sp_isLot, sp_isThere, sp_isSpan, ms_K q, ms_B q, r122_10, r122_13, r122_18, r122_19, r122_22, r122_27, r122_28, r122_31, r122_36, r122_37, r122_40, r122_41, r122_42, r122_43, r122_46, r122_50, r122_51, r122_54, r122_58, r122_59, r122_60, r122_63, r122_64, r122_65, r122_71, r122_72, r122_73, r122_76, r122_77, r122_78, r122_80, r122_81, r122_84, r122_87, r122_88, r122_91, r122_94, r122_95, r122_101, r122_102, r122_103, r122_104, r122_106, r122_107, r122_110, r122_113, r122_114, r122_15, r122_24, r122_33, r122_47, r122_55, r122_68, r122_98, tk, no, no2], a, fun j _ => rfl, g0, Nat.le_refl _, Nat.le_refl _⟩
theorem c121l (q : MS h M) (tp : TP F0 c T) {n : Nat} (ih : mrI h M F0 c T n) {dp : Nat} {t : Tm} {i b s : Nat} {F : xp_F} {l : List (Option Value)} (hi : i ≤ T) (h8 : dp ≤ 8) (hs : s ≤ i) (w0 : wf (cnd 4) t) (g0 : sg (cf F) t b s) (a : PS F0 c T i dp s F) (fl : flt (pz c T (n + 1) 4 dp t i)) {D : Nat} (hD : 12 * (8 - dp) + 6 ≤ D) : mO h M F0 c T dp b s i F (mX h M D 4 F l) (pz c T (n + 1) 4 dp t i) := by
  obtain ⟨X, eX⟩ : ∃ X, D = X + 6 := ⟨D - 6, by omega⟩
  subst eX
  have t600 := tp.1.1
  have tk : F 0 38 = lK c T i := a.1.2.1
  show mO h M F0 c T dp b s i F (xm_run (X + 6) 121 9 (some (.ref M) :: l) [] (xp_m h M F)) _
  rw [pz_e4] at fl ⊢
  by_cases c1 : lK c T i = 43 ∨ lK c T i = 45
  · rw [if_pos c1] at fl ⊢
    by_cases c43 : lK c T i = 43
    · rw [c43] at tk
      simp only [if_pos c43] at fl ⊢
      have l1 := lE_lt tp.1 hi (by rw [c43]; decide)
      obtain ⟨G1, m1, a1, -, fr1⟩ := a.next (d := X + 3) q tp hi
      have r := ih 1 dp t (lE c T i) s s G1 [] (by decide) l1.2 h8 (by omega) (fun z => nomatch z) (fun _ => rfl) a1 (flt_1 fl) (X + 5) (by show _ + 5 ≤ _; omega)
      have ok := pz_ok tp.1 n 1 dp t (lE c T i) l1.2 (fun z => nomatch z)
      generalize pz c T n 1 dp t (lE c T i) = r0 at r ok fl ⊢
      cases r0 with
      | inl x =>
        obtain ⟨G, m, pf⟩ := r
        have m : xm_met (X + 5) 122 [.ref M] (xp_m h M G1) = _ := m
        refine ⟨G, ?_, pf⟩
        rw [r121_9]
        simp only [ite_not, ite_self, w8_nil, ok01, ite10, rf_rv, rf_ref, rf_cat, rf_lk2, rf_some, rf_none, w_add, w_cons, cr_int, cr_long, cr_ref, cr_null, is_ref, is_null, l2_int, l2_ref, l2_null, l2_none, ent_nil, ent_int, ent_ref, ent_null, ent_rf, ent_long, ok_0, ok_1, af_ret, af_void, List.tail_cons, List.tail_nil, Nat.reduceAdd, Nat.reduceLeDiff, not_false_eq_true, not_true_eq_false, and_self, and_true, true_and, ne_eq, or_true, true_or, or_false, false_or, eq_self, Nat.reduceEqDiff, ↓reduceIte, false_and, and_false, Nat.le_refl, Nat.zero_le, nz_1, nz_2, nz_3, nz_4, nz_5, nz_6, nz_8, nz_10, nz_12, nz_20, nz_30, nz_60, nz_100, mp_B, mp_Z, mp_S, mp_C, mp_K, mp_N, mp_L, mp_R, mp_I, mp_I0, mp_s, mp_s0, u2_ap, sp_isLedge, sp_isLadder, sp_isPerson, sp_isLiving, sp_isLot, sp_isThere, sp_isSpan, ms_K q, ms_B q, r121_10, r121_13, r121_18, r121_19, r121_22, r121_27, r121_28, r121_31, r121_36, r121_38, r121_41, r121_43, r121_44, r121_45, r121_48, r121_49, r121_55, r121_56, r121_57, r121_58, r121_59, r121_60, r121_63, r121_66, r121_67, r121_15, r121_24, r121_33, r121_52, tk, m1, m]
      | inr x =>
        obtain ⟨t1, q1⟩ := x
        obtain ⟨G2, s2, m, a2, k2, sg2, l2, l3⟩ := r
        have m : xm_met (X + 5) 122 [.ref M] (xp_m h M G1) = _ := m
        obtain ⟨w1, b1, b2⟩ := ok
        have b1 : lE c T i + 1 ≤ q1 := b1
        have b2 : q1 ≤ T := b2
        have l3 : s2 + lE c T i ≤ s + q1 := l3
        obtain ⟨G3, m3, a3, k3, f3⟩ := a2.lay (d := X + 5) q (show s2 < 610 by omega) (k := 9) (v := 0)
        have e : xm_run (X + 6) 121 9 (some (.ref M) :: l) [] (xp_m h M F) = xm_run (X + 6) 121 9 (some (.ref M) :: some (.int 9) :: l.tail) [] (xp_m h M G3) := by
          rw [r121_9]
          simp only [ite_not, ite_self, w8_nil, ok01, ite10, rf_rv, rf_ref, rf_cat, rf_lk2, rf_some, rf_none, w_add, w_cons, cr_int, cr_long, cr_ref, cr_null, is_ref, is_null, l2_int, l2_ref, l2_null, l2_none, ent_nil, ent_int, ent_ref, ent_null, ent_rf, ent_long, ok_0, ok_1, af_ret, af_void, List.tail_cons, List.tail_nil, Nat.reduceAdd, Nat.reduceLeDiff, not_false_eq_true, not_true_eq_false, and_self, and_true, true_and, ne_eq, or_true, true_or, or_false, false_or, eq_self, Nat.reduceEqDiff, ↓reduceIte, false_and, and_false, Nat.le_refl, Nat.zero_le, nz_1, nz_2, nz_3, nz_4, nz_5, nz_6, nz_8, nz_10, nz_12, nz_20, nz_30, nz_60, nz_100, mp_B, mp_Z, mp_S, mp_C, mp_K, mp_N, mp_L, mp_R, mp_I, mp_I0, mp_s, mp_s0, u2_ap, sp_isLedge, sp_isLadder, sp_isPerson, sp_isLiving, sp_isLot, sp_isThere, sp_isSpan, ms_K q, ms_B q, r121_10, r121_13, r121_18, r121_19, r121_22, r121_27, r121_28, r121_31, r121_36, r121_38, r121_41, r121_43, r121_44, r121_45, r121_48, r121_49, r121_55, r121_56, r121_57, r121_58, r121_59, r121_60, r121_63, r121_66, r121_67, r121_15, r121_24, r121_33, r121_52, tk, m1, m, m3]
        have k13 : kp2 s F G3 := ((kp2.of fr1).tr k2 (Nat.le_refl _)).tr k3 l2
        have sgA : sg (cf G3) t b s := sg_kp w0 g0 k13
        have sgB : sg (cf G3) t1 s s2 := sg_kp w1 sg2 k3
        exact mO_eq e (mO_tr k13 (show s ≤ s2 + 1 by omega) (show s2 + 1 + i ≤ s + q1 by omega) (ih 4 dp (.mulL 9 (.add t t1)) q1 b (s2 + 1) G3 (some (.int 9) :: l.tail) (by decide) b2 h8 (by omega) (fun _ => ⟨⟨by decide, w0, w1⟩, s, s2, sgA, sgB, rfl, congrArg Prod.fst f3⟩) (fun z => absurd rfl z) a3 fl (X + 6) (by show _ + 6 ≤ _; omega)))
    · have c45 : lK c T i = 45 := c1.resolve_left c43
      rw [c45] at tk
      have n43 : ¬ (45 : Int32) = 43 := by decide
      simp only [if_neg c43] at fl ⊢
      have l1 := lE_lt tp.1 hi (by rw [c45]; decide)
      obtain ⟨G1, m1, a1, -, fr1⟩ := a.next (d := X + 3) q tp hi
      have r := ih 1 dp t (lE c T i) s s G1 [] (by decide) l1.2 h8 (by omega) (fun z => nomatch z) (fun _ => rfl) a1 (flt_1 fl) (X + 5) (by show _ + 5 ≤ _; omega)
      have ok := pz_ok tp.1 n 1 dp t (lE c T i) l1.2 (fun z => nomatch z)
      generalize pz c T n 1 dp t (lE c T i) = r0 at r ok fl ⊢
      cases r0 with
      | inl x =>
        obtain ⟨G, m, pf⟩ := r
        have m : xm_met (X + 5) 122 [.ref M] (xp_m h M G1) = _ := m
        refine ⟨G, ?_, pf⟩
        rw [r121_9]
        simp only [ite_not, ite_self, w8_nil, ok01, ite10, rf_rv, rf_ref, rf_cat, rf_lk2, rf_some, rf_none, w_add, w_cons, cr_int, cr_long, cr_ref, cr_null, is_ref, is_null, l2_int, l2_ref, l2_null, l2_none, ent_nil, ent_int, ent_ref, ent_null, ent_rf, ent_long, ok_0, ok_1, af_ret, af_void, List.tail_cons, List.tail_nil, Nat.reduceAdd, Nat.reduceLeDiff, not_false_eq_true, not_true_eq_false, and_self, and_true, true_and, ne_eq, or_true, true_or, or_false, false_or, eq_self, Nat.reduceEqDiff, ↓reduceIte, false_and, and_false, Nat.le_refl, Nat.zero_le, nz_1, nz_2, nz_3, nz_4, nz_5, nz_6, nz_8, nz_10, nz_12, nz_20, nz_30, nz_60, nz_100, mp_B, mp_Z, mp_S, mp_C, mp_K, mp_N, mp_L, mp_R, mp_I, mp_I0, mp_s, mp_s0, u2_ap, sp_isLedge, sp_isLadder, sp_isPerson, sp_isLiving, sp_isLot, sp_isThere, sp_isSpan, ms_K q, ms_B q, r121_10, r121_13, r121_18, r121_19, r121_22, r121_27, r121_28, r121_31, r121_36, r121_38, r121_41, r121_43, r121_44, r121_45, r121_48, r121_49, r121_55, r121_56, r121_57, r121_58, r121_59, r121_60, r121_63, r121_66, r121_67, r121_15, r121_24, r121_33, r121_52, tk, n43, m1, m]
      | inr x =>
        obtain ⟨t1, q1⟩ := x
        obtain ⟨G2, s2, m, a2, k2, sg2, l2, l3⟩ := r
        have m : xm_met (X + 5) 122 [.ref M] (xp_m h M G1) = _ := m
        obtain ⟨w1, b1, b2⟩ := ok
        have b1 : lE c T i + 1 ≤ q1 := b1
        have b2 : q1 ≤ T := b2
        have l3 : s2 + lE c T i ≤ s + q1 := l3
        obtain ⟨G3, m3, a3, k3, f3⟩ := a2.lay (d := X + 5) q (show s2 < 610 by omega) (k := 10) (v := 0)
        have e : xm_run (X + 6) 121 9 (some (.ref M) :: l) [] (xp_m h M F) = xm_run (X + 6) 121 9 (some (.ref M) :: some (.int 10) :: l.tail) [] (xp_m h M G3) := by
          rw [r121_9]
          simp only [ite_not, ite_self, w8_nil, ok01, ite10, rf_rv, rf_ref, rf_cat, rf_lk2, rf_some, rf_none, w_add, w_cons, cr_int, cr_long, cr_ref, cr_null, is_ref, is_null, l2_int, l2_ref, l2_null, l2_none, ent_nil, ent_int, ent_ref, ent_null, ent_rf, ent_long, ok_0, ok_1, af_ret, af_void, List.tail_cons, List.tail_nil, Nat.reduceAdd, Nat.reduceLeDiff, not_false_eq_true, not_true_eq_false, and_self, and_true, true_and, ne_eq, or_true, true_or, or_false, false_or, eq_self, Nat.reduceEqDiff, ↓reduceIte, false_and, and_false, Nat.le_refl, Nat.zero_le, nz_1, nz_2, nz_3, nz_4, nz_5, nz_6, nz_8, nz_10, nz_12, nz_20, nz_30, nz_60, nz_100, mp_B, mp_Z, mp_S, mp_C, mp_K, mp_N, mp_L, mp_R, mp_I, mp_I0, mp_s, mp_s0, u2_ap, sp_isLedge, sp_isLadder, sp_isPerson, sp_isLiving, sp_isLot, sp_isThere, sp_isSpan, ms_K q, ms_B q, r121_10, r121_13, r121_18, r121_19, r121_22, r121_27, r121_28, r121_31, r121_36, r121_38, r121_41, r121_43, r121_44, r121_45, r121_48, r121_49, r121_55, r121_56, r121_57, r121_58, r121_59, r121_60, r121_63, r121_66, r121_67, r121_15, r121_24, r121_33, r121_52, tk, n43, m1, m, m3]
        have k13 : kp2 s F G3 := ((kp2.of fr1).tr k2 (Nat.le_refl _)).tr k3 l2
        have sgA : sg (cf G3) t b s := sg_kp w0 g0 k13
        have sgB : sg (cf G3) t1 s s2 := sg_kp w1 sg2 k3
        exact mO_eq e (mO_tr k13 (show s ≤ s2 + 1 by omega) (show s2 + 1 + i ≤ s + q1 by omega) (ih 4 dp (.mulL 10 (.add t t1)) q1 b (s2 + 1) G3 (some (.int 10) :: l.tail) (by decide) b2 h8 (by omega) (fun _ => ⟨⟨by decide, w0, w1⟩, s, s2, sgA, sgB, rfl, congrArg Prod.fst f3⟩) (fun z => absurd rfl z) a3 fl (X + 6) (by show _ + 6 ≤ _; omega)))
  rw [if_neg c1] at fl ⊢
  have no : ¬ lK c T i = 43 := fun z => c1 (Or.inl z)
  have no2 : ¬ lK c T i = 45 := fun z => c1 (Or.inr z)
  exact ⟨F, s, by rw [r121_9]; simp only [ite_not, ite_self, w8_nil, ok01, ite10, rf_rv, rf_ref, rf_cat, rf_lk2, rf_some, rf_none, w_add, w_cons, cr_int, cr_long, cr_ref, cr_null, is_ref, is_null, l2_int, l2_ref, l2_null, l2_none, ent_nil, ent_int, ent_ref, ent_null, ent_rf, ent_long, ok_0, ok_1, af_ret, af_void, List.tail_cons, List.tail_nil, Nat.reduceAdd, Nat.reduceLeDiff, not_false_eq_true, not_true_eq_false, and_self, and_true, true_and, ne_eq, or_true, true_or, or_false, false_or, eq_self, Nat.reduceEqDiff, ↓reduceIte, false_and, and_false, Nat.le_refl, Nat.zero_le, nz_1, nz_2, nz_3, nz_4, nz_5, nz_6, nz_8, nz_10, nz_12, nz_20, nz_30, nz_60, nz_100, mp_B, mp_Z, mp_S, mp_C, mp_K, mp_N, mp_L, mp_R, mp_I, mp_I0, mp_s, mp_s0, u2_ap, sp_isLedge, sp_isLadder, sp_isPerson, sp_isLiving, sp_isLot, sp_isThere, sp_isSpan, ms_K q, ms_B q, r121_10, r121_13, r121_18, r121_19, r121_22, r121_27, r121_28, r121_31, r121_36, r121_38, r121_41, r121_43, r121_44, r121_45, r121_48, r121_49, r121_55, r121_56, r121_57, r121_58, r121_59, r121_60, r121_63, r121_66, r121_67, r121_15, r121_24, r121_33, r121_52, tk, no, no2], a, fun j _ => rfl, g0, Nat.le_refl _, Nat.le_refl _⟩
theorem c128l (q : MS h M) (tp : TP F0 c T) {n : Nat} (ih : mrI h M F0 c T n) {dp : Nat} {t : Tm} {i b s : Nat} {F : xp_F} {l : List (Option Value)} (hi : i ≤ T) (h8 : dp ≤ 8) (hs : s ≤ i) (w0 : wf (cnd 7) t) (g0 : sg (cf F) t b s) (a : PS F0 c T i dp s F) (fl : flt (pz c T (n + 1) 7 dp t i)) {D : Nat} (hD : 12 * (8 - dp) + 8 ≤ D) : mO h M F0 c T dp b s i F (mX h M D 7 F l) (pz c T (n + 1) 7 dp t i) := by
  obtain ⟨X, eX⟩ : ∃ X, D = X + 8 := ⟨D - 8, by omega⟩
  subst eX
  have t600 := tp.1.1
  have tk : F 0 38 = lK c T i := a.1.2.1
  show mO h M F0 c T dp b s i F (xm_run (X + 8) 128 9 (some (.ref M) :: l) [] (xp_m h M F)) _
  rw [pz_e7] at fl ⊢
  by_cases c1 : lK c T i = 10
  · rw [c1] at tk
    rw [if_pos c1] at fl ⊢
    have l1 := lE_lt tp.1 hi (by rw [c1]; decide)
    obtain ⟨G1, m1, a1, -, fr1⟩ := a.next (d := X + 5) q tp hi
    have r := ih 5 dp t (lE c T i) s s G1 [] (by decide) l1.2 h8 (by omega) (fun z => nomatch z) (fun _ => rfl) a1 (flt_1 fl) (X + 7) (by show _ + 7 ≤ _; omega)
    have ok := pz_ok tp.1 n 5 dp t (lE c T i) l1.2 (fun z => nomatch z)
    generalize pz c T n 5 dp t (lE c T i) = r0 at r ok fl ⊢
    cases r0 with
    | inl x =>
      obtain ⟨G, m, pf⟩ := r
      have m : xm_met (X + 7) 129 [.ref M] (xp_m h M G1) = _ := m
      refine ⟨G, ?_, pf⟩
      rw [r128_9]
      simp only [ite_not, ite_self, w8_nil, ok01, ite10, rf_rv, rf_ref, rf_cat, rf_lk2, rf_some, rf_none, w_add, w_cons, cr_int, cr_long, cr_ref, cr_null, is_ref, is_null, l2_int, l2_ref, l2_null, l2_none, ent_nil, ent_int, ent_ref, ent_null, ent_rf, ent_long, ok_0, ok_1, af_ret, af_void, List.tail_cons, List.tail_nil, Nat.reduceAdd, Nat.reduceLeDiff, not_false_eq_true, not_true_eq_false, and_self, and_true, true_and, ne_eq, or_true, true_or, or_false, false_or, eq_self, Nat.reduceEqDiff, ↓reduceIte, false_and, and_false, Nat.le_refl, Nat.zero_le, nz_1, nz_2, nz_3, nz_4, nz_5, nz_6, nz_8, nz_10, nz_12, nz_20, nz_30, nz_60, nz_100, mp_B, mp_Z, mp_S, mp_C, mp_K, mp_N, mp_L, mp_R, mp_I, mp_I0, mp_s, mp_s0, u2_ap, sp_isLedge, sp_isLadder, sp_isPerson, sp_isLiving, sp_isLot, sp_isThere, sp_isSpan, ms_K q, ms_B q, r128_10, r128_13, r128_18, r128_19, r128_22, r128_23, r128_29, r128_30, r128_31, r128_32, r128_34, r128_35, r128_38, r128_41, r128_42, r128_15, r128_26, tk, m1, m]
    | inr x =>
      obtain ⟨t1, q1⟩ := x
      obtain ⟨G2, s2, m, a2, k2, sg2, l2, l3⟩ := r
      have m : xm_met (X + 7) 129 [.ref M] (xp_m h M G1) = _ := m
      obtain ⟨w1, b1, b2⟩ := ok
      have b1 : lE c T i + 1 ≤ q1 := b1
      have b2 : q1 ≤ T := b2
      have l3 : s2 + lE c T i ≤ s + q1 := l3
      obtain ⟨G3, m3, a3, k3, f3⟩ := a2.lay (d := X + 7) q (show s2 < 610 by omega) (k := 17) (v := 0)
      have e : xm_run (X + 8) 128 9 (some (.ref M) :: l) [] (xp_m h M F) = xm_run (X + 8) 128 9 (some (.ref M) :: l) [] (xp_m h M G3) := by
        rw [r128_9]
        simp only [ite_not, ite_self, w8_nil, ok01, ite10, rf_rv, rf_ref, rf_cat, rf_lk2, rf_some, rf_none, w_add, w_cons, cr_int, cr_long, cr_ref, cr_null, is_ref, is_null, l2_int, l2_ref, l2_null, l2_none, ent_nil, ent_int, ent_ref, ent_null, ent_rf, ent_long, ok_0, ok_1, af_ret, af_void, List.tail_cons, List.tail_nil, Nat.reduceAdd, Nat.reduceLeDiff, not_false_eq_true, not_true_eq_false, and_self, and_true, true_and, ne_eq, or_true, true_or, or_false, false_or, eq_self, Nat.reduceEqDiff, ↓reduceIte, false_and, and_false, Nat.le_refl, Nat.zero_le, nz_1, nz_2, nz_3, nz_4, nz_5, nz_6, nz_8, nz_10, nz_12, nz_20, nz_30, nz_60, nz_100, mp_B, mp_Z, mp_S, mp_C, mp_K, mp_N, mp_L, mp_R, mp_I, mp_I0, mp_s, mp_s0, u2_ap, sp_isLedge, sp_isLadder, sp_isPerson, sp_isLiving, sp_isLot, sp_isThere, sp_isSpan, ms_K q, ms_B q, r128_10, r128_13, r128_18, r128_19, r128_22, r128_23, r128_29, r128_30, r128_31, r128_32, r128_34, r128_35, r128_38, r128_41, r128_42, r128_15, r128_26, tk, m1, m, m3]
      have k13 : kp2 s F G3 := ((kp2.of fr1).tr k2 (Nat.le_refl _)).tr k3 l2
      have sgA : sg (cf G3) t b s := sg_kp w0 g0 k13
      have sgB : sg (cf G3) t1 s s2 := sg_kp w1 sg2 k3
      exact mO_eq e (mO_tr k13 (show s ≤ s2 + 1 by omega) (show s2 + 1 + i ≤ s + q1 by omega) (ih 7 dp (.mulL 17 (.add t t1)) q1 b (s2 + 1) G3 (l) (by decide) b2 h8 (by omega) (fun _ => ⟨Or.inr ⟨by decide, w0, w1⟩, s, s2, sgA, sgB, rfl, congrArg Prod.fst f3⟩) (fun z => absurd rfl z) a3 fl (X + 8) (by show _ + 8 ≤ _; omega)))
  rw [if_neg c1] at fl ⊢
  have no : ¬ lK c T i = 10 := c1
  exact ⟨F, s, by rw [r128_9]; simp only [ite_not, ite_self, w8_nil, ok01, ite10, rf_rv, rf_ref, rf_cat, rf_lk2, rf_some, rf_none, w_add, w_cons, cr_int, cr_long, cr_ref, cr_null, is_ref, is_null, l2_int, l2_ref, l2_null, l2_none, ent_nil, ent_int, ent_ref, ent_null, ent_rf, ent_long, ok_0, ok_1, af_ret, af_void, List.tail_cons, List.tail_nil, Nat.reduceAdd, Nat.reduceLeDiff, not_false_eq_true, not_true_eq_false, and_self, and_true, true_and, ne_eq, or_true, true_or, or_false, false_or, eq_self, Nat.reduceEqDiff, ↓reduceIte, false_and, and_false, Nat.le_refl, Nat.zero_le, nz_1, nz_2, nz_3, nz_4, nz_5, nz_6, nz_8, nz_10, nz_12, nz_20, nz_30, nz_60, nz_100, mp_B, mp_Z, mp_S, mp_C, mp_K, mp_N, mp_L, mp_R, mp_I, mp_I0, mp_s, mp_s0, u2_ap, sp_isLedge, sp_isLadder, sp_isPerson, sp_isLiving, sp_isLot, sp_isThere, sp_isSpan, ms_K q, ms_B q, r128_10, r128_13, r128_18, r128_19, r128_22, r128_23, r128_29, r128_30, r128_31, r128_32, r128_34, r128_35, r128_38, r128_41, r128_42, r128_15, r128_26, tk, no], a, fun j _ => rfl, g0, Nat.le_refl _, Nat.le_refl _⟩
theorem c127l (q : MS h M) (tp : TP F0 c T) {n : Nat} (ih : mrI h M F0 c T n) {dp : Nat} {t : Tm} {i b s : Nat} {F : xp_F} {l : List (Option Value)} (hi : i ≤ T) (h8 : dp ≤ 8) (hs : s ≤ i) (w0 : wf (cnd 9) t) (g0 : sg (cf F) t b s) (a : PS F0 c T i dp s F) (fl : flt (pz c T (n + 1) 9 dp t i)) {D : Nat} (hD : 12 * (8 - dp) + 9 ≤ D) : mO h M F0 c T dp b s i F (mX h M D 9 F l) (pz c T (n + 1) 9 dp t i) := by
  obtain ⟨X, eX⟩ : ∃ X, D = X + 9 := ⟨D - 9, by omega⟩
  subst eX
  have t600 := tp.1.1
  have tk : F 0 38 = lK c T i := a.1.2.1
  show mO h M F0 c T dp b s i F (xm_run (X + 9) 127 9 (some (.ref M) :: l) [] (xp_m h M F)) _
  rw [pz_e9] at fl ⊢
  by_cases c1 : lK c T i = 9
  · rw [c1] at tk
    rw [if_pos c1] at fl ⊢
    have l1 := lE_lt tp.1 hi (by rw [c1]; decide)
    obtain ⟨G1, m1, a1, -, fr1⟩ := a.next (d := X + 6) q tp hi
    have r := ih 6 dp t (lE c T i) s s G1 [] (by decide) l1.2 h8 (by omega) (fun z => nomatch z) (fun _ => rfl) a1 (flt_1 fl) (X + 8) (by show _ + 8 ≤ _; omega)
    have ok := pz_ok tp.1 n 6 dp t (lE c T i) l1.2 (fun z => nomatch z)
    generalize pz c T n 6 dp t (lE c T i) = r0 at r ok fl ⊢
    cases r0 with
    | inl x =>
      obtain ⟨G, m, pf⟩ := r
      have m : xm_met (X + 8) 128 [.ref M] (xp_m h M G1) = _ := m
      refine ⟨G, ?_, pf⟩
      rw [r127_9]
      simp only [ite_not, ite_self, w8_nil, ok01, ite10, rf_rv, rf_ref, rf_cat, rf_lk2, rf_some, rf_none, w_add, w_cons, cr_int, cr_long, cr_ref, cr_null, is_ref, is_null, l2_int, l2_ref, l2_null, l2_none, ent_nil, ent_int, ent_ref, ent_null, ent_rf, ent_long, ok_0, ok_1, af_ret, af_void, List.tail_cons, List.tail_nil, Nat.reduceAdd, Nat.reduceLeDiff, not_false_eq_true, not_true_eq_false, and_self, and_true, true_and, ne_eq, or_true, true_or, or_false, false_or, eq_self, Nat.reduceEqDiff, ↓reduceIte, false_and, and_false, Nat.le_refl, Nat.zero_le, nz_1, nz_2, nz_3, nz_4, nz_5, nz_6, nz_8, nz_10, nz_12, nz_20, nz_30, nz_60, nz_100, mp_B, mp_Z, mp_S, mp_C, mp_K, mp_N, mp_L, mp_R, mp_I, mp_I0, mp_s, mp_s0, u2_ap, sp_isLedge, sp_isLadder, sp_isPerson, sp_isLiving, sp_isLot, sp_isThere, sp_isSpan, ms_K q, ms_B q, r127_10, r127_13, r127_18, r127_19, r127_22, r127_23, r127_29, r127_30, r127_31, r127_32, r127_34, r127_35, r127_38, r127_41, r127_42, r127_15, r127_26, tk, m1, m]
    | inr x =>
      obtain ⟨t1, q1⟩ := x
      obtain ⟨G2, s2, m, a2, k2, sg2, l2, l3⟩ := r
      have m : xm_met (X + 8) 128 [.ref M] (xp_m h M G1) = _ := m
      obtain ⟨w1, b1, b2⟩ := ok
      have b1 : lE c T i + 1 ≤ q1 := b1
      have b2 : q1 ≤ T := b2
      have l3 : s2 + lE c T i ≤ s + q1 := l3
      obtain ⟨G3, m3, a3, k3, f3⟩ := a2.lay (d := X + 8) q (show s2 < 610 by omega) (k := 18) (v := 0)
      have e : xm_run (X + 9) 127 9 (some (.ref M) :: l) [] (xp_m h M F) = xm_run (X + 9) 127 9 (some (.ref M) :: l) [] (xp_m h M G3) := by
        rw [r127_9]
        simp only [ite_not, ite_self, w8_nil, ok01, ite10, rf_rv, rf_ref, rf_cat, rf_lk2, rf_some, rf_none, w_add, w_cons, cr_int, cr_long, cr_ref, cr_null, is_ref, is_null, l2_int, l2_ref, l2_null, l2_none, ent_nil, ent_int, ent_ref, ent_null, ent_rf, ent_long, ok_0, ok_1, af_ret, af_void, List.tail_cons, List.tail_nil, Nat.reduceAdd, Nat.reduceLeDiff, not_false_eq_true, not_true_eq_false, and_self, and_true, true_and, ne_eq, or_true, true_or, or_false, false_or, eq_self, Nat.reduceEqDiff, ↓reduceIte, false_and, and_false, Nat.le_refl, Nat.zero_le, nz_1, nz_2, nz_3, nz_4, nz_5, nz_6, nz_8, nz_10, nz_12, nz_20, nz_30, nz_60, nz_100, mp_B, mp_Z, mp_S, mp_C, mp_K, mp_N, mp_L, mp_R, mp_I, mp_I0, mp_s, mp_s0, u2_ap, sp_isLedge, sp_isLadder, sp_isPerson, sp_isLiving, sp_isLot, sp_isThere, sp_isSpan, ms_K q, ms_B q, r127_10, r127_13, r127_18, r127_19, r127_22, r127_23, r127_29, r127_30, r127_31, r127_32, r127_34, r127_35, r127_38, r127_41, r127_42, r127_15, r127_26, tk, m1, m, m3]
      have k13 : kp2 s F G3 := ((kp2.of fr1).tr k2 (Nat.le_refl _)).tr k3 l2
      have sgA : sg (cf G3) t b s := sg_kp w0 g0 k13
      have sgB : sg (cf G3) t1 s s2 := sg_kp w1 sg2 k3
      exact mO_eq e (mO_tr k13 (show s ≤ s2 + 1 by omega) (show s2 + 1 + i ≤ s + q1 by omega) (ih 9 dp (.mulL 18 (.add t t1)) q1 b (s2 + 1) G3 (l) (by decide) b2 h8 (by omega) (fun _ => ⟨Or.inr ⟨by decide, w0, w1⟩, s, s2, sgA, sgB, rfl, congrArg Prod.fst f3⟩) (fun z => absurd rfl z) a3 fl (X + 9) (by show _ + 9 ≤ _; omega)))
  rw [if_neg c1] at fl ⊢
  have no : ¬ lK c T i = 9 := c1
  exact ⟨F, s, by rw [r127_9]; simp only [ite_not, ite_self, w8_nil, ok01, ite10, rf_rv, rf_ref, rf_cat, rf_lk2, rf_some, rf_none, w_add, w_cons, cr_int, cr_long, cr_ref, cr_null, is_ref, is_null, l2_int, l2_ref, l2_null, l2_none, ent_nil, ent_int, ent_ref, ent_null, ent_rf, ent_long, ok_0, ok_1, af_ret, af_void, List.tail_cons, List.tail_nil, Nat.reduceAdd, Nat.reduceLeDiff, not_false_eq_true, not_true_eq_false, and_self, and_true, true_and, ne_eq, or_true, true_or, or_false, false_or, eq_self, Nat.reduceEqDiff, ↓reduceIte, false_and, and_false, Nat.le_refl, Nat.zero_le, nz_1, nz_2, nz_3, nz_4, nz_5, nz_6, nz_8, nz_10, nz_12, nz_20, nz_30, nz_60, nz_100, mp_B, mp_Z, mp_S, mp_C, mp_K, mp_N, mp_L, mp_R, mp_I, mp_I0, mp_s, mp_s0, u2_ap, sp_isLedge, sp_isLadder, sp_isPerson, sp_isLiving, sp_isLot, sp_isThere, sp_isSpan, ms_K q, ms_B q, r127_10, r127_13, r127_18, r127_19, r127_22, r127_23, r127_29, r127_30, r127_31, r127_32, r127_34, r127_35, r127_38, r127_41, r127_42, r127_15, r127_26, tk, no], a, fun j _ => rfl, g0, Nat.le_refl _, Nat.le_refl _⟩
end MRX
