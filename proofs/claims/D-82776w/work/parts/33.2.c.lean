/-! texts: the model has taken the lines -/
set_option maxRecDepth 100000
section MTL
variable {d : Nat} {h : xm_H} {M : Nat} {F F0 : xp_F}
theorem in_ltN {k n N : Nat} (h : k < n) (hn : n ≤ N) (hN : N ≤ 1000000) : xm_in (Int32.ofNat k) N = true ∧ (Int32.ofNat k).toNatClampNeg = k := in_nat (show k < N by omega) hN
theorem c131c (q : MS h M) {r : Int32} (hr : rg r 1) {s : Nat} (hs : s ≤ 610) {G1 : xp_F} (hf : G1 0 35 = Int32.ofNat s) {t : List (Option Value)} : ∃ G t', xm_run d 131 213 (some (.ref M) :: some (.int r) :: some (.int 0) :: t) [] (xp_m h M G1) = xm_run d 131 247 (some (.ref M) :: some (.int r) :: some (.int (Int32.ofNat (2 * s))) :: t') [] (xp_m h M G) ∧ (∀ i, i < 2 * s → G 21 (1220 * r.toNatClampNeg + i) = G1 27 i) ∧ ∀ o k, ¬ (o = 21 ∧ 1220 * r.toNatClampNeg ≤ k ∧ k < 1220 * r.toNatClampNeg + 1220) → G o k = G1 o k := by
  have e := rg_tc hr
  have h2 := hr.2
  have e2s : (2 : Int32) * Int32.ofNat s = Int32.ofNat (2 * s) := (Int32.ofNat_mul 2 s).symm
  obtain ⟨G, t', e1, tk, fr⟩ := xp_loop2 (P := fun k G t => xm_run d 131 213 (some (.ref M) :: some (.int r) :: some (.int (Int32.ofNat k)) :: t) [] (xp_m h M G)) (n := 2 * s) (fun j G => (∀ i, i < j → G 21 (1220 * r.toNatClampNeg + i) = G1 27 i) ∧ ∀ o k, ¬ (o = 21 ∧ 1220 * r.toNatClampNeg ≤ k ∧ k < 1220 * r.toNatClampNeg + 1220) → G o k = G1 o k) (fun k G t hk tk => by
    have c0 := lt_nat hk (by omega)
    have i1 := in_ltN hk (show 2 * s ≤ 1220 by omega) (by decide)
    have i2 := ix2 (c := 1220) (C := 1220) (l := k) (T := 2440) hr.1 rfl (by omega) (by decide)
    have g35 := (tk.2 0 35 (by omega)).trans hf
    have g27 := tk.2 27 k (by omega)
    refine ⟨xm_u2 G 21 (1220 * r.toNatClampNeg + k) (G1 27 k), t, ?_, fun i hi => ?_, fun o k' ho => ?_⟩
    · show xm_run _ _ _ _ _ _ = _
      rw [r131_213]
      simp only [ite_not, ite_self, w8_nil, ok01, ite10, rf_rv, rf_ref, rf_cat, rf_lk2, rf_some, rf_none, w_add, w_cons, cr_int, cr_long, cr_ref, cr_null, is_ref, is_null, l2_int, l2_ref, l2_null, l2_none, ent_nil, ent_int, ent_ref, ent_null, ent_rf, ent_long, ok_0, ok_1, af_ret, af_void, List.tail_cons, List.tail_nil, Nat.reduceAdd, Nat.reduceLeDiff, not_false_eq_true, not_true_eq_false, and_self, and_true, true_and, ne_eq, or_true, true_or, or_false, false_or, eq_self, Nat.reduceEqDiff, ↓reduceIte, false_and, and_false, Nat.le_refl, Nat.zero_le, nz_1, nz_2, nz_3, nz_4, nz_5, nz_6, nz_8, nz_10, nz_12, nz_20, nz_30, nz_60, nz_100, mp_B, mp_Z, mp_S, mp_C, mp_K, mp_N, mp_L, mp_R, mp_I, mp_I0, mp_s, mp_s0, u2_ap, sp_isLedge, sp_isLadder, sp_isPerson, sp_isLiving, sp_isLot, sp_isThere, sp_isSpan, ms_K q, ms_B q, ms_f18 q, ms_f19 q, ms_f20 q, ms_f21 q, ms_f22 q, ms_f26 q, ms_f23 q, ms_f27 q, ms_f24 q, ms_f28 q, ms_f29 q, ms_f30 q, ms_f25 q, ms_f31 q, r131_214, r131_215, r131_216, r131_219, r131_223, r131_224, r131_227, r131_230, r131_231, r131_232, r131_233, r131_234, r131_235, r131_238, r131_239, r131_240, r131_241, r131_244, r131_220, g35, e2s, c0, i1, i2, g27, nat_succ]
    · rw [u2_ap]
      by_cases ci : i = k
      · rw [if_pos (by omega), ci]
      · rw [if_neg (by omega)]
        exact tk.1 i (by omega)
    · rw [u2_ap, if_neg (by omega)]
      exact tk.2 o k' ho) (2 * s) 0 G1 t (Nat.zero_add _) ⟨fun i hi => absurd hi (by omega), fun o k _ => rfl⟩
  rw [show Int32.ofNat 0 = (0 : Int32) from rfl] at e1
  refine ⟨G, t', e1.trans ?_, tk, fr⟩
  have g35 := (fr 0 35 (by omega)).trans hf
  have c0 : Int32.ofNat (2 * s) ≤ Int32.ofNat (2 * s) := Int32.le_refl _
  rw [r131_213]
  simp only [ite_not, ite_self, w8_nil, ok01, ite10, rf_rv, rf_ref, rf_cat, rf_lk2, rf_some, rf_none, w_add, w_cons, cr_int, cr_long, cr_ref, cr_null, is_ref, is_null, l2_int, l2_ref, l2_null, l2_none, ent_nil, ent_int, ent_ref, ent_null, ent_rf, ent_long, ok_0, ok_1, af_ret, af_void, List.tail_cons, List.tail_nil, Nat.reduceAdd, Nat.reduceLeDiff, not_false_eq_true, not_true_eq_false, and_self, and_true, true_and, ne_eq, or_true, true_or, or_false, false_or, eq_self, Nat.reduceEqDiff, ↓reduceIte, false_and, and_false, Nat.le_refl, Nat.zero_le, nz_1, nz_2, nz_3, nz_4, nz_5, nz_6, nz_8, nz_10, nz_12, nz_20, nz_30, nz_60, nz_100, mp_B, mp_Z, mp_S, mp_C, mp_K, mp_N, mp_L, mp_R, mp_I, mp_I0, mp_s, mp_s0, u2_ap, sp_isLedge, sp_isLadder, sp_isPerson, sp_isLiving, sp_isLot, sp_isThere, sp_isSpan, ms_K q, ms_B q, ms_f18 q, ms_f19 q, ms_f20 q, ms_f21 q, ms_f22 q, ms_f26 q, ms_f23 q, ms_f27 q, ms_f24 q, ms_f28 q, ms_f29 q, ms_f30 q, ms_f25 q, ms_f31 q, r131_214, r131_215, r131_216, r131_219, r131_220, g35, e2s, c0]
theorem c131 (q : MS h M) {r : Int32} (hr : rg r 1) {m s : Nat} {L : Nat → Ln} (m20 : m ≤ 20) (hs : s ≤ 610) (hl : LnS F m L s) (hm : F 0 34 = Int32.ofNat m) (hf : F 0 35 = Int32.ofNat s) : ∃ G, xm_met d 131 [.ref M, .int r] (xp_m h M F) = some (.inl none, xp_m h M G) ∧ MR G r.toNatClampNeg m L ∧ (∀ o k, 15 ≤ o ∧ o ≤ 17 → G o k = sp_tel r.toNatClampNeg L F m o k) ∧ ∀ o k, ¬ tkR r.toNatClampNeg o k → G o k = F o k := by
  have e := rg_tc hr
  have h2 := hr.2
  have ir := rg_in (N := 2) hr (by omega)
  have ap3 : ∀ o k, ¬ (o = 14 ∧ k = r.toNatClampNeg) → ¬ (15 ≤ o ∧ o ≤ 17) → xp_it (fun w G => xm_u2 G 17 (4 * r.toNatClampNeg + w) 0) 0 4 (xm_u2 (xm_u2 (xm_u2 F 14 r.toNatClampNeg (Int32.ofNat m)) 15 r.toNatClampNeg 0) 16 r.toNatClampNeg 20) o k = F o k := fun o k h1 h2 => by
    show xm_u2 (xm_u2 (xm_u2 (xm_u2 (xm_u2 (xm_u2 (xm_u2 F 14 r.toNatClampNeg (Int32.ofNat m)) 15 r.toNatClampNeg 0) 16 r.toNatClampNeg 20) 17 (4 * r.toNatClampNeg + 0) 0) 17 (4 * r.toNatClampNeg + 1) 0) 17 (4 * r.toNatClampNeg + 2) 0) 17 (4 * r.toNatClampNeg + 3) 0 o k = _
    rw [u2_ap, if_neg (by omega), u2_ap, if_neg (by omega), u2_ap, if_neg (by omega), u2_ap, if_neg (by omega), u2_ap, if_neg (by omega), u2_ap, if_neg (by omega), u2_ap, if_neg (by omega)]
  have ap14 : xp_it (fun w G => xm_u2 G 17 (4 * r.toNatClampNeg + w) 0) 0 4 (xm_u2 (xm_u2 (xm_u2 F 14 r.toNatClampNeg (Int32.ofNat m)) 15 r.toNatClampNeg 0) 16 r.toNatClampNeg 20) 14 r.toNatClampNeg = Int32.ofNat m := by
    show xm_u2 (xm_u2 (xm_u2 (xm_u2 (xm_u2 (xm_u2 (xm_u2 F 14 r.toNatClampNeg (Int32.ofNat m)) 15 r.toNatClampNeg 0) 16 r.toNatClampNeg 20) 17 (4 * r.toNatClampNeg + 0) 0) 17 (4 * r.toNatClampNeg + 1) 0) 17 (4 * r.toNatClampNeg + 2) 0) 17 (4 * r.toNatClampNeg + 3) 0 14 r.toNatClampNeg = _
    rw [u2_ap, if_neg (by omega), u2_ap, if_neg (by omega), u2_ap, if_neg (by omega), u2_ap, if_neg (by omega), u2_ap, if_neg (by omega), u2_ap, if_neg (by omega), u2_ap, if_pos ⟨rfl, rfl⟩]
  have apc : ∀ o k, 15 ≤ o ∧ o ≤ 17 → xp_it (fun w G => xm_u2 G 17 (4 * r.toNatClampNeg + w) 0) 0 4 (xm_u2 (xm_u2 (xm_u2 F 14 r.toNatClampNeg (Int32.ofNat m)) 15 r.toNatClampNeg 0) 16 r.toNatClampNeg 20) o k = sp_cus F r.toNatClampNeg o k := fun o k ho => by
    show xm_u2 (xm_u2 (xm_u2 (xm_u2 (xm_u2 (xm_u2 (xm_u2 F 14 r.toNatClampNeg (Int32.ofNat m)) 15 r.toNatClampNeg 0) 16 r.toNatClampNeg 20) 17 (4 * r.toNatClampNeg + 0) 0) 17 (4 * r.toNatClampNeg + 1) 0) 17 (4 * r.toNatClampNeg + 2) 0) 17 (4 * r.toNatClampNeg + 3) 0 o k = xm_u2 (xm_u2 (xm_u2 (xm_u2 (xm_u2 (xm_u2 F 15 r.toNatClampNeg 0) 16 r.toNatClampNeg 20) 17 (4 * r.toNatClampNeg + 0) 0) 17 (4 * r.toNatClampNeg + 1) 0) 17 (4 * r.toNatClampNeg + 2) 0) 17 (4 * r.toNatClampNeg + 3) 0 o k
    simp only [u2_ap]
    rw [if_neg (show ¬ (o = 14 ∧ k = r.toNatClampNeg) by omega)]
  obtain ⟨t1, e1⟩ := c131a (d := d) q hr (G := xm_u2 (xm_u2 (xm_u2 F 14 r.toNatClampNeg (Int32.ofNat m)) 15 r.toNatClampNeg 0) 16 r.toNatClampNeg 20) (t := [])
  generalize xp_it (fun w G => xm_u2 G 17 (4 * r.toNatClampNeg + w) 0) 0 4 (xm_u2 (xm_u2 (xm_u2 F 14 r.toNatClampNeg (Int32.ofNat m)) 15 r.toNatClampNeg 0) 16 r.toNatClampNeg 20) = G1 at *
  obtain ⟨G2, t2, e2, tk⟩ := c131b (d := d) q hr m20 hl hm (G1 := G1) (fun o k ho => ap3 o k (by omega) (by omega)) (t := t1)
  have n0 : ∀ o k, ¬ tkR r.toNatClampNeg o k → G2 o k = F o k := fun o k ht => by
    have ht' := ht
    unfold tkR at ht'
    by_cases h15 : 15 ≤ o ∧ o ≤ 17
    · have tel : ∀ j, j ≤ m → xp_up (fun j G => tel1 r.toNatClampNeg (L j) G) G1 j o k = F o k := by
        intro j
        induction j with
        | zero =>
          intro _
          refine (apc o k h15).trans ?_
          show xm_u2 (xm_u2 (xm_u2 (xm_u2 (xm_u2 (xm_u2 F 15 r.toNatClampNeg 0) 16 r.toNatClampNeg 20) 17 (4 * r.toNatClampNeg + 0) 0) 17 (4 * r.toNatClampNeg + 1) 0) 17 (4 * r.toNatClampNeg + 2) 0) 17 (4 * r.toNatClampNeg + 3) 0 o k = _
          rw [u2_ap, if_neg (by omega), u2_ap, if_neg (by omega), u2_ap, if_neg (by omega), u2_ap, if_neg (by omega), u2_ap, if_neg (by omega), u2_ap, if_neg (by omega)]
        | succ j ih =>
          intro hj
          refine Eq.trans ?_ (ih (by omega))
          obtain ⟨B, hB, hL⟩ := hl
          obtain ⟨-, -, -, -, fb⟩ := hL j (by omega)
          obtain ⟨t5, -⟩ := fb.tel
          show tel1 r.toNatClampNeg (L j) (xp_up (fun j G => tel1 r.toNatClampNeg (L j) G) G1 j) o k = _
          unfold tel1
          split
          · rename_i c5
            have w2 := (t5 c5).2.1
            rw [u2_ap, if_neg (by omega)]
          · split
            · rw [u2_ap, if_neg (by omega)]
            · split
              · rw [u2_ap, if_neg (by omega)]
              · rfl
      exact (tk.2.1 o k h15).trans (tel m (Nat.le_refl _))
    · exact (tk.2.2 o k h15 (Or.inr ht)).trans (ap3 o k (by omega) h15)
  have g34 := (n0 0 34 (by unfold tkR; omega)).trans hm
  have g35 := (n0 0 35 (by unfold tkR; omega)).trans hf
  have im := ix2 (c := 21) (C := 21) (l := m) (T := 42) hr.1 rfl (by omega) (by decide)
  obtain ⟨G3, t3, e3, s1, s2⟩ := c131c (d := d) q hr (s := s) hs (G1 := xm_u2 G2 19 (21 * r.toNatClampNeg + m) (Int32.ofNat s)) (by rw [u2_ap, if_neg (by omega)]; exact g35) (t := t2)
  have z3 : ∀ o k, ¬ (o = 21 ∧ 1220 * r.toNatClampNeg ≤ k ∧ k < 1220 * r.toNatClampNeg + 1220) → ¬ (o = 19 ∧ k = 21 * r.toNatClampNeg + m) → G3 o k = G2 o k := fun o k h1 h2 => (s2 o k h1).trans (by rw [u2_ap, if_neg (by omega)])
  refine ⟨G3, ?_, ⟨?_, m20, fun i hi => ?_⟩, fun o k ho => ?_, fun o k ho => ?_⟩
  · unfold xm_met
    simp only [ite_not, ite_self, w8_nil, ok01, ite10, rf_rv, rf_ref, rf_cat, rf_lk2, rf_some, rf_none, w_add, w_cons, cr_int, cr_long, cr_ref, cr_null, is_ref, is_null, l2_int, l2_ref, l2_null, l2_none, ent_nil, ent_int, ent_ref, ent_null, ent_rf, ent_long, ok_0, ok_1, af_ret, af_void, List.tail_cons, List.tail_nil, Nat.reduceAdd, Nat.reduceLeDiff, not_false_eq_true, not_true_eq_false, and_self, and_true, true_and, ne_eq, or_true, true_or, or_false, false_or, eq_self, Nat.reduceEqDiff, ↓reduceIte, false_and, and_false, Nat.le_refl, Nat.zero_le, nz_1, nz_2, nz_3, nz_4, nz_5, nz_6, nz_8, nz_10, nz_12, nz_20, nz_30, nz_60, nz_100, mp_B, mp_Z, mp_S, mp_C, mp_K, mp_N, mp_L, mp_R, mp_I, mp_I0, mp_s, mp_s0, u2_ap, sp_isLedge, sp_isLadder, sp_isPerson, sp_isLiving, sp_isLot, sp_isThere, sp_isSpan, ms_K q, ms_B q, ms_f18 q, ms_f19 q, ms_f20 q, ms_f21 q, ms_f22 q, ms_f26 q, ms_f23 q, ms_f27 q, ms_f24 q, ms_f28 q, ms_f29 q, ms_f30 q, ms_f25 q, ms_f31 q, r131_0, r131_1, r131_4, r131_5, r131_6, r131_9, r131_10, r131_11, r131_14, r131_15, r131_16, r131_17, r131_18, r131_21, r131_22, r131_24, r131_25, r131_26, ir, hm, e1]
    simp only [ite_not, ite_self, w8_nil, ok01, ite10, rf_rv, rf_ref, rf_cat, rf_lk2, rf_some, rf_none, w_add, w_cons, cr_int, cr_long, cr_ref, cr_null, is_ref, is_null, l2_int, l2_ref, l2_null, l2_none, ent_nil, ent_int, ent_ref, ent_null, ent_rf, ent_long, ok_0, ok_1, af_ret, af_void, List.tail_cons, List.tail_nil, Nat.reduceAdd, Nat.reduceLeDiff, not_false_eq_true, not_true_eq_false, and_self, and_true, true_and, ne_eq, or_true, true_or, or_false, false_or, eq_self, Nat.reduceEqDiff, ↓reduceIte, false_and, and_false, Nat.le_refl, Nat.zero_le, nz_1, nz_2, nz_3, nz_4, nz_5, nz_6, nz_8, nz_10, nz_12, nz_20, nz_30, nz_60, nz_100, mp_B, mp_Z, mp_S, mp_C, mp_K, mp_N, mp_L, mp_R, mp_I, mp_I0, mp_s, mp_s0, u2_ap, sp_isLedge, sp_isLadder, sp_isPerson, sp_isLiving, sp_isLot, sp_isThere, sp_isSpan, ms_K q, ms_B q, ms_f18 q, ms_f19 q, ms_f20 q, ms_f21 q, ms_f22 q, ms_f26 q, ms_f23 q, ms_f27 q, ms_f24 q, ms_f28 q, ms_f29 q, ms_f30 q, ms_f25 q, ms_f31 q, r131_49, r131_50, e2]
    simp only [ite_not, ite_self, w8_nil, ok01, ite10, rf_rv, rf_ref, rf_cat, rf_lk2, rf_some, rf_none, w_add, w_cons, cr_int, cr_long, cr_ref, cr_null, is_ref, is_null, l2_int, l2_ref, l2_null, l2_none, ent_nil, ent_int, ent_ref, ent_null, ent_rf, ent_long, ok_0, ok_1, af_ret, af_void, List.tail_cons, List.tail_nil, Nat.reduceAdd, Nat.reduceLeDiff, not_false_eq_true, not_true_eq_false, and_self, and_true, true_and, ne_eq, or_true, true_or, or_false, false_or, eq_self, Nat.reduceEqDiff, ↓reduceIte, false_and, and_false, Nat.le_refl, Nat.zero_le, nz_1, nz_2, nz_3, nz_4, nz_5, nz_6, nz_8, nz_10, nz_12, nz_20, nz_30, nz_60, nz_100, mp_B, mp_Z, mp_S, mp_C, mp_K, mp_N, mp_L, mp_R, mp_I, mp_I0, mp_s, mp_s0, u2_ap, sp_isLedge, sp_isLadder, sp_isPerson, sp_isLiving, sp_isLot, sp_isThere, sp_isSpan, ms_K q, ms_B q, ms_f18 q, ms_f19 q, ms_f20 q, ms_f21 q, ms_f22 q, ms_f26 q, ms_f23 q, ms_f27 q, ms_f24 q, ms_f28 q, ms_f29 q, ms_f30 q, ms_f25 q, ms_f31 q, r131_193, r131_194, r131_197, r131_199, r131_200, r131_201, r131_202, r131_205, r131_206, r131_207, r131_210, r131_211, r131_212, g34, g35, im, e3]
    simp only [ite_not, ite_self, w8_nil, ok01, ite10, rf_rv, rf_ref, rf_cat, rf_lk2, rf_some, rf_none, w_add, w_cons, cr_int, cr_long, cr_ref, cr_null, is_ref, is_null, l2_int, l2_ref, l2_null, l2_none, ent_nil, ent_int, ent_ref, ent_null, ent_rf, ent_long, ok_0, ok_1, af_ret, af_void, List.tail_cons, List.tail_nil, Nat.reduceAdd, Nat.reduceLeDiff, not_false_eq_true, not_true_eq_false, and_self, and_true, true_and, ne_eq, or_true, true_or, or_false, false_or, eq_self, Nat.reduceEqDiff, ↓reduceIte, false_and, and_false, Nat.le_refl, Nat.zero_le, nz_1, nz_2, nz_3, nz_4, nz_5, nz_6, nz_8, nz_10, nz_12, nz_20, nz_30, nz_60, nz_100, mp_B, mp_Z, mp_S, mp_C, mp_K, mp_N, mp_L, mp_R, mp_I, mp_I0, mp_s, mp_s0, u2_ap, sp_isLedge, sp_isLadder, sp_isPerson, sp_isLiving, sp_isLot, sp_isThere, sp_isSpan, ms_K q, ms_B q, ms_f18 q, ms_f19 q, ms_f20 q, ms_f21 q, ms_f22 q, ms_f26 q, ms_f23 q, ms_f27 q, ms_f24 q, ms_f28 q, ms_f29 q, ms_f30 q, ms_f25 q, ms_f31 q, r131_247]
  · rw [z3 _ _ (by omega) (by omega)]
    exact (tk.2.2 _ _ (by omega) (by unfold tkR; omega)).trans ap14
  · obtain ⟨B, hB, hL⟩ := hl
    obtain ⟨l1, fl1, fl2, fl3, fb⟩ := hL i hi
    obtain ⟨k1, k2, k3⟩ := tk.1 i hi
    have f1 : G3 19 (21 * r.toNatClampNeg + i) = Int32.ofNat (B i) := by
      rw [z3 _ _ (by omega) (by omega), k2]
      exact fl2
    have f2 : G3 19 (21 * r.toNatClampNeg + (i + 1)) = Int32.ofNat (B (i + 1)) := by
      by_cases ci : i + 1 = m
      · rw [ci, s2 _ _ (by omega), u2_ap, if_pos ⟨rfl, rfl⟩, hB]
      · obtain ⟨-, -, fl2', -, -⟩ := hL (i + 1) (by omega)
        obtain ⟨-, k2', -⟩ := tk.1 (i + 1) (by omega)
        rw [z3 _ _ (by omega) (by omega), k2']
        exact fl2'
    have cdf : ∀ j, j < s → cd2 G3 r.toNatClampNeg j = cf F j := fun j hj => by
      have n27 : ∀ k, xm_u2 G2 19 (21 * r.toNatClampNeg + m) (Int32.ofNat s) 27 k = F 27 k := fun k => by
        rw [u2_ap, if_neg (by omega)]
        exact n0 27 k (by unfold tkR; omega)
      unfold cd2 cf
      rw [Nat.add_assoc, s1 (2 * j) (by omega), s1 (2 * j + 1) (by omega), n27, n27]
    refine ⟨?_, fun c3 => ?_, fun c4 => ?_⟩
    · rw [z3 _ _ (by omega) (by omega)]
      exact k1
    · obtain ⟨w, a1, a2, a3, a4, a5⟩ := fb.2.1 c3
      refine ⟨B i, w, B (i + 1), f1, ?_, f2, by omega, a3, ?_, ?_⟩
      · rw [z3 _ _ (by omega) (by omega), k3]
        exact a1
      · cases e2 : (L i).2.2 with
        | none =>
          rw [e2] at a5
          have a5 : w = B (i + 1) := a5
          exact sg_ag a3 a4 (fun j h1 h2 => cdf j (by omega))
        | some t =>
          rw [e2] at a5
          have a5 : wf true t ∧ sg (cf F) t w (B (i + 1)) := a5
          have lw := sg_lt a5.1 a5.2
          exact sg_ag a3 a4 (fun j h1 h2 => cdf j (by omega))
      · cases e2 : (L i).2.2 with
        | none =>
          rw [e2] at a5
          exact a5
        | some t =>
          rw [e2] at a5
          have a5 : wf true t ∧ sg (cf F) t w (B (i + 1)) := a5
          exact ⟨a5.1, sg_ag a5.1 a5.2 (fun j h1 h2 => cdf j (by omega))⟩
    · obtain ⟨t, a1, a2, a3⟩ := fb.2.2.1 c4
      exact ⟨B i, B (i + 1), t, f1, f2, by omega, a1, a2, sg_ag a2 a3 (fun j h1 h2 => cdf j (by omega))⟩
  · rw [z3 _ _ (by omega) (by omega)]
    refine (tk.2.1 o k ho).trans ?_
    unfold sp_tel
    have cg : ∀ j o k, 15 ≤ o ∧ o ≤ 17 → xp_up (fun j G => tel1 r.toNatClampNeg (L j) G) G1 j o k = xp_up (fun j G => tel1 r.toNatClampNeg (L j) G) (sp_cus F r.toNatClampNeg) j o k := by
      intro j
      induction j with
      | zero => exact apc
      | succ j ih => exact tel1_cg ih
    exact cg m o k ho
  · unfold tkR at ho
    rw [z3 _ _ (by omega) (by omega)]
    exact n0 o k (by unfold tkR; exact ho)
end MTL
