/-! texts: the model's rules -/
set_option maxRecDepth 100000
def L0 : Nat → Ln := fun _ => (0, .num 0, none)
section MRU
variable {d : Nat} {h : xm_H} {M : Nat} {F F0 : xp_F} {c : Nat → Int32} {T : Nat}
theorem p1_lt {m q : Nat} {x : Ln × Nat} (h : p1 c T m q = .inr x) : ¬ m = 20 := by
  intro e
  unfold p1 at h
  by_cases c1 : 3 ≤ lK c T q ∧ lK c T q ≤ 7
  · rw [if_pos c1, if_pos e] at h
    exact nomatch h
  · rw [if_neg c1] at h
    exact nomatch h
theorem LnS.add {G : xp_F} {m s s' : Nat} {L : Nat → Ln} {x : Ln} (a : LnS F m L s) (kp : kp2 s F G) (f : ∀ o k, 22 ≤ o ∧ o ≤ 26 → ¬ k = m → G o k = F o k) (b : FL G m x s s') (l : s ≤ s') : LnS G (m + 1) (fun j => if j = m then x else L j) s' := by
  obtain ⟨B, hB, hL⟩ := a
  refine ⟨fun j => if j = m + 1 then s' else B j, if_pos rfl, fun j hj => ?_⟩
  by_cases e : j = m
  · subst e
    have e1 : (if j + 1 = j + 1 then s' else B (j + 1)) = s' := if_pos rfl
    have e2 : (if j = j + 1 then s' else B j) = s := by rw [if_neg (by omega), hB]
    have e3 : (if j = j then x else L j) = x := if_pos rfl
    show (if j + 1 = j + 1 then s' else B (j + 1)) ≤ s' ∧ FL G j (if j = j then x else L j) (if j = j + 1 then s' else B j) (if j + 1 = j + 1 then s' else B (j + 1))
    rw [e1, e2, e3]
    exact ⟨Nat.le_refl _, b⟩
  · obtain ⟨h1, h2⟩ := hL j (by omega)
    have e1 : (if j + 1 = m + 1 then s' else B (j + 1)) = B (j + 1) := if_neg (by omega)
    have e2 : (if j = m + 1 then s' else B j) = B j := if_neg (by omega)
    have e3 : (if j = m then x else L j) = L j := if_neg e
    show (if j + 1 = m + 1 then s' else B (j + 1)) ≤ s' ∧ FL G j (if j = m then x else L j) (if j = m + 1 then s' else B j) (if j + 1 = m + 1 then s' else B (j + 1))
    rw [e1, e2, e3]
    exact ⟨by omega, h2.mono (fun o ho => f o j ho e) kp h1⟩
theorem c112l (q : MS h M) {r : Int32} : ∀ (n : Nat) {F0 F : xp_F} {i dp s m : Nat} {L : Nat → Ln}, TP F0 c T → i ≤ T → s ≤ i → PS F0 c T i dp s F → F 0 34 = Int32.ofNat m → m ≤ 20 → LnS F m L s → T - i < n →
    match pls c T n m L i with
    | .inl x => ∃ G, xm_run (d + 108) 112 42 [some (.ref M), some (.int r), some (.int 1)] [] (xp_m h M F) = xm_run (d + 108) 112 61 [some (.ref M), some (.int r), some (.int 0)] [] (xp_m h M G) ∧ PE F0 x.1 x.2 G
    | .inr x => ∃ G s', xm_run (d + 108) 112 42 [some (.ref M), some (.int r), some (.int 1)] [] (xp_m h M F) = xm_run (d + 108) 112 61 [some (.ref M), some (.int r), some (.int 1)] [] (xp_m h M G) ∧ LnS G x.1 x.2 s' ∧ G 0 34 = Int32.ofNat x.1 ∧ G 0 35 = Int32.ofNat s' ∧ x.1 ≤ 20 ∧ s' ≤ 610 ∧ fq F0 G ∧ G 0 41 = F0 0 41
  | 0, F0, F, i, dp, s, m, L, tp, hi, hs, a, hm, m20, hl, hn => absurd hn (by omega)
  | n + 1, F0, F, i, dp, s, m, L, tp, hi, hs, a, hm, m20, hl, hn => by
    have t600 := tp.1.1
    have tk : F 0 38 = lK c T i := a.1.2.1
    unfold pls
    by_cases c0 : lK c T i = 0
    · rw [if_pos c0]
      rw [c0] at tk
      refine ⟨F, s, ?_, hl, hm, a.2.2.1, m20, by omega, a.2.2.2.fq, a.2.2.2 _ _ (by omega) (by omega)⟩
      simp only [ite_not, ite_self, w8_nil, ok01, ite10, rf_rv, rf_ref, rf_cat, rf_lk2, rf_some, rf_none, w_add, w_cons, cr_int, cr_long, cr_ref, cr_null, is_ref, is_null, l2_int, l2_ref, l2_null, l2_none, ent_nil, ent_int, ent_ref, ent_null, ent_rf, ent_long, ok_0, ok_1, af_ret, af_void, List.tail_cons, List.tail_nil, Nat.reduceAdd, Nat.reduceLeDiff, not_false_eq_true, not_true_eq_false, and_self, and_true, true_and, ne_eq, or_true, true_or, or_false, false_or, eq_self, Nat.reduceEqDiff, ↓reduceIte, false_and, and_false, Nat.le_refl, Nat.zero_le, nz_1, nz_2, nz_3, nz_4, nz_5, nz_6, nz_8, nz_10, nz_12, nz_20, nz_30, nz_60, nz_100, mp_B, mp_Z, mp_S, mp_C, mp_K, mp_N, mp_L, mp_R, mp_I, mp_I0, mp_s, mp_s0, u2_ap, sp_isLedge, sp_isLadder, sp_isPerson, sp_isLiving, sp_isLot, sp_isThere, sp_isSpan, ms_K q, ms_B q, r112_42, r112_46, r112_47, r112_53, r112_54, r112_57, r112_58, r112_43, r112_50, tk]
    · rw [if_neg c0]
      have st := c118 (d := d) q tp hi hs a hm m20
      have lt := fun {x : Ln × Nat} => p1_lt (c := c) (T := T) (m := m) (q := i) (x := x)
      generalize p1 c T m i = r0 at st lt ⊢
      cases r0 with
      | inl x =>
        obtain ⟨G, m1, pe⟩ := st
        refine ⟨G, ?_, pe⟩
        rw [r112_42]
        simp only [ite_not, ite_self, w8_nil, ok01, ite10, rf_rv, rf_ref, rf_cat, rf_lk2, rf_some, rf_none, w_add, w_cons, cr_int, cr_long, cr_ref, cr_null, is_ref, is_null, l2_int, l2_ref, l2_null, l2_none, ent_nil, ent_int, ent_ref, ent_null, ent_rf, ent_long, ok_0, ok_1, af_ret, af_void, List.tail_cons, List.tail_nil, Nat.reduceAdd, Nat.reduceLeDiff, not_false_eq_true, not_true_eq_false, and_self, and_true, true_and, ne_eq, or_true, true_or, or_false, false_or, eq_self, Nat.reduceEqDiff, ↓reduceIte, false_and, and_false, Nat.le_refl, Nat.zero_le, nz_1, nz_2, nz_3, nz_4, nz_5, nz_6, nz_8, nz_10, nz_12, nz_20, nz_30, nz_60, nz_100, mp_B, mp_Z, mp_S, mp_C, mp_K, mp_N, mp_L, mp_R, mp_I, mp_I0, mp_s, mp_s0, u2_ap, sp_isLedge, sp_isLadder, sp_isPerson, sp_isLiving, sp_isLot, sp_isThere, sp_isSpan, ms_K q, ms_B q, r112_46, r112_47, r112_53, r112_54, r112_57, r112_58, r112_43, r112_50, tk, c0, m1]
        rw [r112_42]
        simp only [ite_not, ite_self, w8_nil, ok01, ite10, rf_rv, rf_ref, rf_cat, rf_lk2, rf_some, rf_none, w_add, w_cons, cr_int, cr_long, cr_ref, cr_null, is_ref, is_null, l2_int, l2_ref, l2_null, l2_none, ent_nil, ent_int, ent_ref, ent_null, ent_rf, ent_long, ok_0, ok_1, af_ret, af_void, List.tail_cons, List.tail_nil, Nat.reduceAdd, Nat.reduceLeDiff, not_false_eq_true, not_true_eq_false, and_self, and_true, true_and, ne_eq, or_true, true_or, or_false, false_or, eq_self, Nat.reduceEqDiff, ↓reduceIte, false_and, and_false, Nat.le_refl, Nat.zero_le, nz_1, nz_2, nz_3, nz_4, nz_5, nz_6, nz_8, nz_10, nz_12, nz_20, nz_30, nz_60, nz_100, mp_B, mp_Z, mp_S, mp_C, mp_K, mp_N, mp_L, mp_R, mp_I, mp_I0, mp_s, mp_s0, u2_ap, sp_isLedge, sp_isLadder, sp_isPerson, sp_isLiving, sp_isLot, sp_isThere, sp_isSpan, ms_K q, ms_B q, r112_46, r112_47, r112_53, r112_54, r112_57, r112_58, r112_43, r112_50]
      | inr x =>
        obtain ⟨x, i'⟩ := x
        obtain ⟨G, F1, s', m1, a1, k1, fl, g34, gfr, tp1, f01, w01, l1, l2, l3, l4⟩ := st
        have l2 : s' ≤ i' := l2
        have l3 : i < i' := l3
        have l4 : i' ≤ T := l4
        have m19 := lt rfl
        have ih := c112l q (r := r) n tp1 l4 l2 a1 g34 (by omega) (hl.add k1 gfr fl l1) (by omega)
        have e : xm_run (d + 108) 112 42 [some (.ref M), some (.int r), some (.int 1)] [] (xp_m h M F) = xm_run (d + 108) 112 42 [some (.ref M), some (.int r), some (.int 1)] [] (xp_m h M G) := by
          rw [r112_42]
          simp only [ite_not, ite_self, w8_nil, ok01, ite10, rf_rv, rf_ref, rf_cat, rf_lk2, rf_some, rf_none, w_add, w_cons, cr_int, cr_long, cr_ref, cr_null, is_ref, is_null, l2_int, l2_ref, l2_null, l2_none, ent_nil, ent_int, ent_ref, ent_null, ent_rf, ent_long, ok_0, ok_1, af_ret, af_void, List.tail_cons, List.tail_nil, Nat.reduceAdd, Nat.reduceLeDiff, not_false_eq_true, not_true_eq_false, and_self, and_true, true_and, ne_eq, or_true, true_or, or_false, false_or, eq_self, Nat.reduceEqDiff, ↓reduceIte, false_and, and_false, Nat.le_refl, Nat.zero_le, nz_1, nz_2, nz_3, nz_4, nz_5, nz_6, nz_8, nz_10, nz_12, nz_20, nz_30, nz_60, nz_100, mp_B, mp_Z, mp_S, mp_C, mp_K, mp_N, mp_L, mp_R, mp_I, mp_I0, mp_s, mp_s0, u2_ap, sp_isLedge, sp_isLadder, sp_isPerson, sp_isLiving, sp_isLot, sp_isThere, sp_isSpan, ms_K q, ms_B q, r112_46, r112_47, r112_53, r112_54, r112_57, r112_58, r112_43, r112_50, tk, c0, m1]
        show match pls c T n (m + 1) (fun j => if j = m then x else L j) i' with | .inl x => _ | .inr x => _
        rw [e]
        generalize pls c T n (m + 1) (fun j => if j = m then x else L j) i' = r1 at ih ⊢
        cases r1 with
        | inl y =>
          obtain ⟨H, e1, pe⟩ := ih
          exact ⟨H, e1, pe.1, pe.2.1, f01.tr pe.2.2⟩
        | inr y =>
          obtain ⟨H, s2, e1, h1, h2, h3, h4, h5, h6, h7⟩ := ih
          exact ⟨H, s2, e1, h1, h2, h3, h4, h5, f01.tr h6, h7.trans w01⟩
theorem ex_nat (x : Int32) : ∃ n, x = Int32.ofNat n := ⟨x.toBitVec.toNat, by
  apply Int32.toBitVec_inj.mp
  simp⟩
/-- the model's rules: refused -/
def rulX (F : xp_F) (k : Int32) (p : Nat) (G : xp_F) : Prop := G 0 36 = 0 ∧ G 0 43 = k ∧ G 0 45 = Int32.ofNat p ∧ ∀ o j, ¬ (o = 0 ∧ 34 ≤ j ∧ j ≤ 45) → ¬ (22 ≤ o ∧ o ≤ 27) → G o j = F o j
/-- the model's rules: taken -/
def rulY (F : xp_F) (R m : Nat) (L : Nat → Ln) (G : xp_F) : Prop := MR G R m L ∧ (∀ o k, 15 ≤ o ∧ o ≤ 17 → G o k = sp_tel R L F m o k) ∧ G 0 36 = 0 ∧ G 0 43 = 0 ∧ G 0 45 = -1 ∧ ∀ o j, ¬ (o = 0 ∧ 34 ≤ j ∧ j ≤ 45) → ¬ (22 ≤ o ∧ o ≤ 27) → ¬ tkR R o j → G o j = F o j
theorem tel_cg {R : Nat} {L : Nat → Ln} {G H : xp_F} (e : ∀ o k, 15 ≤ o ∧ o ≤ 17 → G o k = H o k) (m : Nat) : ∀ o k, 15 ≤ o ∧ o ≤ 17 → sp_tel R L G m o k = sp_tel R L H m o k := by
  unfold sp_tel
  induction m with
  | zero =>
    intro o k ho
    show xm_u2 (xm_u2 (xm_u2 (xm_u2 (xm_u2 (xm_u2 G 15 R 0) 16 R 20) 17 (4 * R + 0) 0) 17 (4 * R + 1) 0) 17 (4 * R + 2) 0) 17 (4 * R + 3) 0 o k = xm_u2 (xm_u2 (xm_u2 (xm_u2 (xm_u2 (xm_u2 H 15 R 0) 16 R 20) 17 (4 * R + 0) 0) 17 (4 * R + 1) 0) 17 (4 * R + 2) 0) 17 (4 * R + 3) 0 o k
    simp only [u2_ap, e o k ho]
  | succ m ih => exact tel1_cg ih
theorem c112 (q : MS h M) (tp : TP F c T) {r : Int32} : (¬ (0 ≤ r ∧ r ≤ 1) → xm_met (d + 108) 112 [.ref M, .int r] (xp_m h M F) = some (.inl (some (.int (-1))), xp_m h M (xm_u2 F 0 36 0))) ∧ (rg r 1 → match pls c T (T + 1) 0 L0 0 with
    | .inl x => ∃ G, xm_met (d + 108) 112 [.ref M, .int r] (xp_m h M F) = some (.inl (some (.int (-1))), xp_m h M G) ∧ rulX F x.1 x.2 G
    | .inr x => ∃ G, xm_met (d + 108) 112 [.ref M, .int r] (xp_m h M F) = some (.inl (some (.int (Int32.ofNat x.1))), xp_m h M G) ∧ rulY F r.toNatClampNeg x.1 x.2 G ∧ x.1 ≤ 20) := by
  constructor
  · intro c1
    unfold xm_met
    simp only [ite_not, ite_self, w8_nil, ok01, ite10, rf_rv, rf_ref, rf_cat, rf_lk2, rf_some, rf_none, w_add, w_cons, cr_int, cr_long, cr_ref, cr_null, is_ref, is_null, l2_int, l2_ref, l2_null, l2_none, ent_nil, ent_int, ent_ref, ent_null, ent_rf, ent_long, ok_0, ok_1, af_ret, af_void, List.tail_cons, List.tail_nil, Nat.reduceAdd, Nat.reduceLeDiff, not_false_eq_true, not_true_eq_false, and_self, and_true, true_and, ne_eq, or_true, true_or, or_false, false_or, eq_self, Nat.reduceEqDiff, ↓reduceIte, false_and, and_false, Nat.le_refl, Nat.zero_le, nz_1, nz_2, nz_3, nz_4, nz_5, nz_6, nz_8, nz_10, nz_12, nz_20, nz_30, nz_60, nz_100, mp_B, mp_Z, mp_S, mp_C, mp_K, mp_N, mp_L, mp_R, mp_I, mp_I0, mp_s, mp_s0, u2_ap, sp_isLedge, sp_isLadder, sp_isPerson, sp_isLiving, sp_isLot, sp_isThere, sp_isSpan, ms_K q, ms_B q, r112_0, r112_1, r112_2, r112_3, r112_9, r112_10, r112_11, r112_14, r112_15, r112_6, c91, c1]
  · intro hr
    have c1 : 0 ≤ r ∧ r ≤ 1 := ⟨Int32.le_iff_toInt_le.mpr hr.1, Int32.le_iff_toInt_le.mpr hr.2⟩
    have t600 := tp.1.1
    have b1 : fq F (xm_u2 (xm_u2 (xm_u2 (xm_u2 F 0 41 0) 0 37 0) 0 34 0) 0 35 0) := (((fq.rf.u (by omega)).u (by omega)).u (by omega)).u (by omega)
    have tp1 : TP (xm_u2 (xm_u2 (xm_u2 (xm_u2 F 0 41 0) 0 37 0) 0 34 0) 0 35 0) c T := ⟨tp.1, (b1 _ _ (by omega) (by omega)).trans tp.2.1, fun i hi => (b1 _ _ (by omega) (by omega)).trans (tp.2.2 i hi)⟩
    have ha : xm_u2 (xm_u2 (xm_u2 (xm_u2 F 0 41 0) 0 37 0) 0 34 0) 0 35 0 0 37 = Int32.ofNat 0 := by rw [u2_ap, if_neg (by omega), u2_ap, if_neg (by omega), u2_ap, if_pos ⟨rfl, rfl⟩]; rfl
    have h34 : xm_u2 (xm_u2 (xm_u2 (xm_u2 F 0 41 0) 0 37 0) 0 34 0) 0 35 0 0 34 = Int32.ofNat 0 := by rw [u2_ap, if_neg (by omega), u2_ap, if_pos ⟨rfl, rfl⟩]; rfl
    have h35 : xm_u2 (xm_u2 (xm_u2 (xm_u2 F 0 41 0) 0 37 0) 0 34 0) 0 35 0 0 35 = Int32.ofNat 0 := by rw [u2_ap, if_pos ⟨rfl, rfl⟩]; rfl
    have h41 : xm_u2 (xm_u2 (xm_u2 (xm_u2 F 0 41 0) 0 37 0) 0 34 0) 0 35 0 0 41 = 0 := by rw [u2_ap, if_neg (by omega), u2_ap, if_neg (by omega), u2_ap, if_neg (by omega), u2_ap, if_pos ⟨rfl, rfl⟩]
    obtain ⟨G1, m1, nx, f1⟩ := c113 (d := d + 105) q tp1 (Nat.zero_le _) ha
    generalize eF : xm_u2 (xm_u2 (xm_u2 (xm_u2 F 0 41 0) 0 37 0) 0 34 0) 0 35 0 = F1 at *
    obtain ⟨dp, hdp⟩ := ex_nat (G1 0 44)
    have ps : PS F1 c T 0 dp 0 G1 := ⟨nx, hdp, (f1 _ _ (by omega)).trans h35, f1.fz⟩
    have l := c112l (d := d) q (r := r) (T + 1) tp1 (Nat.zero_le _) (Nat.zero_le _) ps ((f1 _ _ (by omega)).trans h34) (by omega) (L := L0) ⟨fun _ => 0, rfl, fun j hj => absurd hj (by omega)⟩ (by omega)
    generalize pls c T (T + 1) 0 L0 0 = r0 at l ⊢
    cases r0 with
    | inl x =>
      obtain ⟨G, e1, p1, p2, p3⟩ := l
      refine ⟨xm_u2 (xm_u2 (xm_u2 G 0 36 0) 0 43 x.1) 0 45 (Int32.ofNat x.2), ?_, ?_, ?_, ?_, fun o j h1 h2 => ?_⟩
      · unfold xm_met
        simp only [ite_not, ite_self, w8_nil, ok01, ite10, rf_rv, rf_ref, rf_cat, rf_lk2, rf_some, rf_none, w_add, w_cons, cr_int, cr_long, cr_ref, cr_null, is_ref, is_null, l2_int, l2_ref, l2_null, l2_none, ent_nil, ent_int, ent_ref, ent_null, ent_rf, ent_long, ok_0, ok_1, af_ret, af_void, List.tail_cons, List.tail_nil, Nat.reduceAdd, Nat.reduceLeDiff, not_false_eq_true, not_true_eq_false, and_self, and_true, true_and, ne_eq, or_true, true_or, or_false, false_or, eq_self, Nat.reduceEqDiff, ↓reduceIte, false_and, and_false, Nat.le_refl, Nat.zero_le, nz_1, nz_2, nz_3, nz_4, nz_5, nz_6, nz_8, nz_10, nz_12, nz_20, nz_30, nz_60, nz_100, mp_B, mp_Z, mp_S, mp_C, mp_K, mp_N, mp_L, mp_R, mp_I, mp_I0, mp_s, mp_s0, u2_ap, sp_isLedge, sp_isLadder, sp_isPerson, sp_isLiving, sp_isLot, sp_isThere, sp_isSpan, ms_K q, ms_B q, r112_0, r112_1, r112_2, r112_3, r112_9, r112_10, r112_11, r112_14, r112_15, r112_16, r112_17, r112_18, r112_21, r112_22, r112_23, r112_26, r112_27, r112_28, r112_31, r112_32, r112_33, r112_36, r112_37, r112_40, r112_41, r112_6, c91, c1.1, c1.2, eF, m1, e1]
        simp only [ite_not, ite_self, w8_nil, ok01, ite10, rf_rv, rf_ref, rf_cat, rf_lk2, rf_some, rf_none, w_add, w_cons, cr_int, cr_long, cr_ref, cr_null, is_ref, is_null, l2_int, l2_ref, l2_null, l2_none, ent_nil, ent_int, ent_ref, ent_null, ent_rf, ent_long, ok_0, ok_1, af_ret, af_void, List.tail_cons, List.tail_nil, Nat.reduceAdd, Nat.reduceLeDiff, not_false_eq_true, not_true_eq_false, and_self, and_true, true_and, ne_eq, or_true, true_or, or_false, false_or, eq_self, Nat.reduceEqDiff, ↓reduceIte, false_and, and_false, Nat.le_refl, Nat.zero_le, nz_1, nz_2, nz_3, nz_4, nz_5, nz_6, nz_8, nz_10, nz_12, nz_20, nz_30, nz_60, nz_100, mp_B, mp_Z, mp_S, mp_C, mp_K, mp_N, mp_L, mp_R, mp_I, mp_I0, mp_s, mp_s0, u2_ap, sp_isLedge, sp_isLadder, sp_isPerson, sp_isLiving, sp_isLot, sp_isThere, sp_isSpan, ms_K q, ms_B q, r112_61, r112_62, r112_63, r112_66, r112_67, r112_68, r112_71, r112_74, r112_75, r112_79, r112_80, r112_83, r112_84, r112_87, r112_90, r112_94, r112_95, r112_96, r112_97, r112_98, r112_101, r112_102, r112_105, r112_76, r112_91, p1, p2]
      · rw [u2_ap, if_neg (by omega), u2_ap, if_neg (by omega), u2_ap, if_pos ⟨rfl, rfl⟩]
      · rw [u2_ap, if_neg (by omega), u2_ap, if_pos ⟨rfl, rfl⟩]
      · rw [u2_ap, if_pos ⟨rfl, rfl⟩]
      · rw [u2_ap, if_neg (by omega), u2_ap, if_neg (by omega), u2_ap, if_neg (by omega)]
        exact (p3 o j (by omega) h2).trans (b1 o j (by omega) h2)
    | inr x =>
      obtain ⟨G, s', e1, ls, g34, g35, m20, s610, f3, w3⟩ := l
      have w3 := w3.trans h41
      have k2 : ∀ o k, ¬ o = 0 → xm_u2 (xm_u2 (xm_u2 G 0 36 0) 0 43 0) 0 45 (-1) o k = G o k := fun o k ho => by
        rw [u2_ap, if_neg (by omega), u2_ap, if_neg (by omega), u2_ap, if_neg (by omega)]
      have ls2 : LnS (xm_u2 (xm_u2 (xm_u2 G 0 36 0) 0 43 0) 0 45 (-1)) x.1 x.2 s' := by
        obtain ⟨B, hB, hL⟩ := ls
        exact ⟨B, hB, fun j hj => ⟨(hL j hj).1, (hL j hj).2.mono (fun o ho => k2 o j (by omega)) (s := s') (fun z hz => k2 27 z (by omega)) (hL j hj).1⟩⟩
      obtain ⟨H, m2, mr, t1, fr⟩ := c131 (d := d + 107) q hr m20 s610 ls2 (by rw [u2_ap, if_neg (by omega), u2_ap, if_neg (by omega), u2_ap, if_neg (by omega)]; exact g34) (by rw [u2_ap, if_neg (by omega), u2_ap, if_neg (by omega), u2_ap, if_neg (by omega)]; exact g35)
      have h34 := (fr 0 34 (by unfold tkR; omega)).trans (show _ = Int32.ofNat x.1 by rw [u2_ap, if_neg (by omega), u2_ap, if_neg (by omega), u2_ap, if_neg (by omega)]; exact g34)
      refine ⟨H, ?_, ⟨mr, fun o k ho => (t1 o k ho).trans (tel_cg (fun o k ho => ?_) x.1 o k ho), ?_, ?_, ?_, fun o j h1 h2 h3 => ?_⟩, m20⟩
      · unfold xm_met
        simp only [ite_not, ite_self, w8_nil, ok01, ite10, rf_rv, rf_ref, rf_cat, rf_lk2, rf_some, rf_none, w_add, w_cons, cr_int, cr_long, cr_ref, cr_null, is_ref, is_null, l2_int, l2_ref, l2_null, l2_none, ent_nil, ent_int, ent_ref, ent_null, ent_rf, ent_long, ok_0, ok_1, af_ret, af_void, List.tail_cons, List.tail_nil, Nat.reduceAdd, Nat.reduceLeDiff, not_false_eq_true, not_true_eq_false, and_self, and_true, true_and, ne_eq, or_true, true_or, or_false, false_or, eq_self, Nat.reduceEqDiff, ↓reduceIte, false_and, and_false, Nat.le_refl, Nat.zero_le, nz_1, nz_2, nz_3, nz_4, nz_5, nz_6, nz_8, nz_10, nz_12, nz_20, nz_30, nz_60, nz_100, mp_B, mp_Z, mp_S, mp_C, mp_K, mp_N, mp_L, mp_R, mp_I, mp_I0, mp_s, mp_s0, u2_ap, sp_isLedge, sp_isLadder, sp_isPerson, sp_isLiving, sp_isLot, sp_isThere, sp_isSpan, ms_K q, ms_B q, r112_0, r112_1, r112_2, r112_3, r112_9, r112_10, r112_11, r112_14, r112_15, r112_16, r112_17, r112_18, r112_21, r112_22, r112_23, r112_26, r112_27, r112_28, r112_31, r112_32, r112_33, r112_36, r112_37, r112_40, r112_41, r112_6, c91, c1.1, c1.2, eF, m1, e1]
        simp only [ite_not, ite_self, w8_nil, ok01, ite10, rf_rv, rf_ref, rf_cat, rf_lk2, rf_some, rf_none, w_add, w_cons, cr_int, cr_long, cr_ref, cr_null, is_ref, is_null, l2_int, l2_ref, l2_null, l2_none, ent_nil, ent_int, ent_ref, ent_null, ent_rf, ent_long, ok_0, ok_1, af_ret, af_void, List.tail_cons, List.tail_nil, Nat.reduceAdd, Nat.reduceLeDiff, not_false_eq_true, not_true_eq_false, and_self, and_true, true_and, ne_eq, or_true, true_or, or_false, false_or, eq_self, Nat.reduceEqDiff, ↓reduceIte, false_and, and_false, Nat.le_refl, Nat.zero_le, nz_1, nz_2, nz_3, nz_4, nz_5, nz_6, nz_8, nz_10, nz_12, nz_20, nz_30, nz_60, nz_100, mp_B, mp_Z, mp_S, mp_C, mp_K, mp_N, mp_L, mp_R, mp_I, mp_I0, mp_s, mp_s0, u2_ap, sp_isLedge, sp_isLadder, sp_isPerson, sp_isLiving, sp_isLot, sp_isThere, sp_isSpan, ms_K q, ms_B q, r112_61, r112_62, r112_63, r112_66, r112_67, r112_68, r112_71, r112_74, r112_75, r112_79, r112_80, r112_83, r112_84, r112_87, r112_90, r112_94, r112_95, r112_96, r112_97, r112_98, r112_101, r112_102, r112_105, r112_76, r112_91, w3, m2, h34]
      · exact (k2 o k (by omega)).trans ((f3 o k (by omega) (by omega)).trans (b1 o k (by omega) (by omega)))
      · rw [fr _ _ (by unfold tkR; omega), u2_ap, if_neg (by omega), u2_ap, if_neg (by omega), u2_ap, if_pos ⟨rfl, rfl⟩]
      · rw [fr _ _ (by unfold tkR; omega), u2_ap, if_neg (by omega), u2_ap, if_pos ⟨rfl, rfl⟩]
      · rw [fr _ _ (by unfold tkR; omega), u2_ap, if_pos ⟨rfl, rfl⟩]
      · rw [fr _ _ h3, u2_ap, if_neg (by omega), u2_ap, if_neg (by omega), u2_ap, if_neg (by omega)]
        exact (f3 o j (by omega) h2).trans (b1 o j (by omega) h2)
end MRU
