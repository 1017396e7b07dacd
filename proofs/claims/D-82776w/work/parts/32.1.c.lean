/-! texts: the model's next token -/
set_option maxRecDepth 100000
section M113B
variable {d : Nat} {h : xm_H} {M : Nat} {F : xp_F} {c : Nat → Int32} {T : Nat}
/-- but for the reader's four ints the same -/
def fx (F G : xp_F) : Prop := ∀ o k, ¬ (o = 0 ∧ 37 ≤ k ∧ k ≤ 40) → G o k = F o k
theorem fx.rf : fx F F := fun _ _ _ => rfl
theorem fx.u {G : xp_F} (a : fx F G) {k : Nat} (hk : 37 ≤ k ∧ k ≤ 40) {v : Int32} : fx F (xm_u2 G 0 k v) := fun o j ho => by
  rw [u2_ap, if_neg (by omega)]
  exact a o j ho
theorem fx.tr {G H : xp_F} (a : fx F G) (b : fx G H) : fx F H := fun o k ho => (b o k ho).trans (a o k ho)
/-- the model's tape -/
def TP (F : xp_F) (c : Nat → Int32) (T : Nat) : Prop := TA c T ∧ F 0 36 = Int32.ofNat T ∧ ∀ i, i < T → F 28 i = c i
theorem TP.fx {G : xp_F} (a : TP F c T) (b : fx F G) : TP G c T := ⟨a.1, (b _ _ (by omega)).trans a.2.1, fun i hi => (b _ _ (by omega)).trans (a.2.2 i hi)⟩
theorem TP.see (q : MS h M) (a : TP F c T) {i : Nat} (hi : i ≤ 700) : xm_met d 114 [.ref M, .int (Int32.ofNat i)] (xp_m h M F) = some (.inl (some (.int (c i))), xp_m h M F) := by
  obtain ⟨a1, a2, a3⟩ := a
  have t600 := a1.1
  have e : sp_see F i = c i := by
    unfold sp_see
    rw [a2]
    by_cases c1 : i < T
    · rw [if_neg (lt_nat c1 (by omega)), a3 i c1]
    · rw [if_pos (Int32.le_iff_toInt_le.mpr (by rw [ti_nat (by omega), ti_nat (by omega)]; omega)), a1.2.1 i (by omega)]
  have m := @c114 d h M F q (by rw [a2]; exact ⟨by rw [ti_nat (by omega)]; omega, by rw [ti_nat (by omega)]; omega⟩) i (by omega)
  rw [e] at m
  exact m
/-- but for where it stands and a value the same -/
def fy (F G : xp_F) : Prop := ∀ o k, ¬ (o = 0 ∧ (k = 37 ∨ k = 40)) → G o k = F o k
theorem fy.rf : fy F F := fun _ _ _ => rfl
theorem fy.u {G : xp_F} (a : fy F G) {k : Nat} (hk : k = 37 ∨ k = 40) {v : Int32} : fy F (xm_u2 G 0 k v) := fun o j ho => by
  rw [u2_ap, if_neg (by omega)]
  exact a o j ho
theorem fy.fx {G : xp_F} (a : fy F G) : fx F G := fun o k ho => a o k (by omega)
theorem c113a (q : MS h M) (tp : TP F c T) : ∀ (n i : Nat) (G : xp_F), i + n = T → G 0 37 = Int32.ofNat i → fy F G → ∃ G', xm_run (d + 1) 113 0 [some (.ref M)] [] (xp_m h M G) = xm_run (d + 1) 113 39 [some (.ref M)] [] (xp_m h M G') ∧ G' 0 37 = Int32.ofNat (rn tS c n i) ∧ fy F G'
  | 0, i, G, e, ha, f => by
    have t600 := tp.1.1
    have m := (tp.fx f.fx).see (d := d) q (i := i) (by omega)
    have n1 := tp.1.nL (i := i) (by omega)
    have n2 : ¬ c i = 32 := fun z => n1.1 (Or.inl z)
    have n3 : ¬ c i = 10 := fun z => n1.1 (Or.inr z)
    refine ⟨G, ?_, ha, f⟩
    rw [r113_0]
    simp only [ite_not, ite_self, w8_nil, ok01, ite10, rf_rv, rf_ref, rf_cat, rf_lk2, rf_some, rf_none, w_add, w_cons, cr_int, cr_long, cr_ref, cr_null, is_ref, is_null, l2_int, l2_ref, l2_null, l2_none, ent_nil, ent_int, ent_ref, ent_null, ent_rf, ent_long, ok_0, ok_1, af_ret, af_void, List.tail_cons, List.tail_nil, Nat.reduceAdd, Nat.reduceLeDiff, not_false_eq_true, not_true_eq_false, and_self, and_true, true_and, ne_eq, or_true, true_or, or_false, false_or, eq_self, Nat.reduceEqDiff, ↓reduceIte, false_and, and_false, Nat.le_refl, Nat.zero_le, nz_1, nz_2, nz_3, nz_4, nz_5, nz_6, nz_8, nz_10, nz_12, nz_20, nz_30, nz_60, nz_100, mp_B, mp_Z, mp_S, mp_C, mp_K, mp_N, mp_L, mp_R, mp_I, mp_I0, mp_s, mp_s0, u2_ap, sp_isLedge, sp_isLadder, sp_isPerson, sp_isLiving, sp_isLot, sp_isThere, sp_isSpan, ms_K q, ms_B q, r113_1, r113_2, r113_5, r113_8, r113_13, r113_14, r113_15, r113_18, r113_21, r113_26, r113_27, r113_28, r113_31, r113_32, r113_33, r113_36, r113_10, r113_23, ha, m, n2, n3]
  | n + 1, i, G, e, ha, f => by
    have t600 := tp.1.1
    have m := (tp.fx f.fx).see (d := d) q (i := i) (by omega)
    unfold rn
    by_cases c1 : tS (c i)
    · rw [if_pos c1]
      obtain ⟨G', e1, e2, e3⟩ := c113a q tp n (i + 1) (xm_u2 G 0 37 (Int32.ofNat (i + 1))) (by omega) (by rw [u2_ap, if_pos ⟨rfl, rfl⟩]) (f.u (by omega))
      refine ⟨G', ?_, e2, e3⟩
      rw [← e1, r113_0]
      by_cases c3 : c i = 32
      · simp only [ite_not, ite_self, w8_nil, ok01, ite10, rf_rv, rf_ref, rf_cat, rf_lk2, rf_some, rf_none, w_add, w_cons, cr_int, cr_long, cr_ref, cr_null, is_ref, is_null, l2_int, l2_ref, l2_null, l2_none, ent_nil, ent_int, ent_ref, ent_null, ent_rf, ent_long, ok_0, ok_1, af_ret, af_void, List.tail_cons, List.tail_nil, Nat.reduceAdd, Nat.reduceLeDiff, not_false_eq_true, not_true_eq_false, and_self, and_true, true_and, ne_eq, or_true, true_or, or_false, false_or, eq_self, Nat.reduceEqDiff, ↓reduceIte, false_and, and_false, Nat.le_refl, Nat.zero_le, nz_1, nz_2, nz_3, nz_4, nz_5, nz_6, nz_8, nz_10, nz_12, nz_20, nz_30, nz_60, nz_100, mp_B, mp_Z, mp_S, mp_C, mp_K, mp_N, mp_L, mp_R, mp_I, mp_I0, mp_s, mp_s0, u2_ap, sp_isLedge, sp_isLadder, sp_isPerson, sp_isLiving, sp_isLot, sp_isThere, sp_isSpan, ms_K q, ms_B q, r113_1, r113_2, r113_5, r113_8, r113_13, r113_14, r113_15, r113_18, r113_21, r113_26, r113_27, r113_28, r113_31, r113_32, r113_33, r113_36, r113_10, r113_23, ha, m, c3, nat_succ]
      · have c4 : c i = 10 := c1.resolve_left c3
        have c5 : ¬ (10 : Int32) = 32 := by decide
        simp only [ite_not, ite_self, w8_nil, ok01, ite10, rf_rv, rf_ref, rf_cat, rf_lk2, rf_some, rf_none, w_add, w_cons, cr_int, cr_long, cr_ref, cr_null, is_ref, is_null, l2_int, l2_ref, l2_null, l2_none, ent_nil, ent_int, ent_ref, ent_null, ent_rf, ent_long, ok_0, ok_1, af_ret, af_void, List.tail_cons, List.tail_nil, Nat.reduceAdd, Nat.reduceLeDiff, not_false_eq_true, not_true_eq_false, and_self, and_true, true_and, ne_eq, or_true, true_or, or_false, false_or, eq_self, Nat.reduceEqDiff, ↓reduceIte, false_and, and_false, Nat.le_refl, Nat.zero_le, nz_1, nz_2, nz_3, nz_4, nz_5, nz_6, nz_8, nz_10, nz_12, nz_20, nz_30, nz_60, nz_100, mp_B, mp_Z, mp_S, mp_C, mp_K, mp_N, mp_L, mp_R, mp_I, mp_I0, mp_s, mp_s0, u2_ap, sp_isLedge, sp_isLadder, sp_isPerson, sp_isLiving, sp_isLot, sp_isThere, sp_isSpan, ms_K q, ms_B q, r113_1, r113_2, r113_5, r113_8, r113_13, r113_14, r113_15, r113_18, r113_21, r113_26, r113_27, r113_28, r113_31, r113_32, r113_33, r113_36, r113_10, r113_23, ha, m, c4, c5, nat_succ]
    · rw [if_neg c1]
      have n2 : ¬ c i = 32 := fun z => c1 (Or.inl z)
      have n3 : ¬ c i = 10 := fun z => c1 (Or.inr z)
      refine ⟨G, ?_, ha, f⟩
      rw [r113_0]
      simp only [ite_not, ite_self, w8_nil, ok01, ite10, rf_rv, rf_ref, rf_cat, rf_lk2, rf_some, rf_none, w_add, w_cons, cr_int, cr_long, cr_ref, cr_null, is_ref, is_null, l2_int, l2_ref, l2_null, l2_none, ent_nil, ent_int, ent_ref, ent_null, ent_rf, ent_long, ok_0, ok_1, af_ret, af_void, List.tail_cons, List.tail_nil, Nat.reduceAdd, Nat.reduceLeDiff, not_false_eq_true, not_true_eq_false, and_self, and_true, true_and, ne_eq, or_true, true_or, or_false, false_or, eq_self, Nat.reduceEqDiff, ↓reduceIte, false_and, and_false, Nat.le_refl, Nat.zero_le, nz_1, nz_2, nz_3, nz_4, nz_5, nz_6, nz_8, nz_10, nz_12, nz_20, nz_30, nz_60, nz_100, mp_B, mp_Z, mp_S, mp_C, mp_K, mp_N, mp_L, mp_R, mp_I, mp_I0, mp_s, mp_s0, u2_ap, sp_isLedge, sp_isLadder, sp_isPerson, sp_isLiving, sp_isLot, sp_isThere, sp_isSpan, ms_K q, ms_B q, r113_1, r113_2, r113_5, r113_8, r113_13, r113_14, r113_15, r113_18, r113_21, r113_26, r113_27, r113_28, r113_31, r113_32, r113_33, r113_36, r113_10, r113_23, ha, m, n2, n3]
theorem c113b (q : MS h M) (tp : TP F c T) {s : Nat} {v : Int32} : ∀ (k m : Nat) (G : xp_F), s + m + k = T → G 0 37 = Int32.ofNat (s + m) → fy F G → ∃ G', xm_run (d + 2) 113 80 [some (.ref M), some (.int v), some (.int (Int32.ofNat m)), some (.long (pkv c s (min m 8))), none] [] (xp_m h M G) = xm_run (d + 2) 113 131 [some (.ref M), some (.int v), some (.int (Int32.ofNat (rn tL c k (s + m) - s))), some (.long (pkv c s (min (rn tL c k (s + m) - s) 8))), none] [] (xp_m h M G') ∧ G' 0 37 = Int32.ofNat (rn tL c k (s + m)) ∧ fy F G'
  | 0, m, G, e, ha, f => by
    have t600 := tp.1.1
    have m1 := (tp.fx f.fx).see (d := d + 1) q (i := s + m) (by omega)
    have n1 := tp.1.nL (i := s + m) (by omega)
    refine ⟨G, ?_, ha, f⟩
    rw [r113_80]
    show _ = xm_run (d + 2) 113 131 [some (.ref M), some (.int v), some (.int (Int32.ofNat (s + m - s))), some (.long (pkv c s (min (s + m - s) 8))), none] [] (xp_m h M G)
    rw [show s + m - s = m by omega]
    simp only [ite_not, ite_self, w8_nil, ok01, ite10, rf_rv, rf_ref, rf_cat, rf_lk2, rf_some, rf_none, w_add, w_cons, cr_int, cr_long, cr_ref, cr_null, is_ref, is_null, l2_int, l2_ref, l2_null, l2_none, ent_nil, ent_int, ent_ref, ent_null, ent_rf, ent_long, ok_0, ok_1, af_ret, af_void, List.tail_cons, List.tail_nil, Nat.reduceAdd, Nat.reduceLeDiff, not_false_eq_true, not_true_eq_false, and_self, and_true, true_and, ne_eq, or_true, true_or, or_false, false_or, eq_self, Nat.reduceEqDiff, ↓reduceIte, false_and, and_false, Nat.le_refl, Nat.zero_le, nz_1, nz_2, nz_3, nz_4, nz_5, nz_6, nz_8, nz_10, nz_12, nz_20, nz_30, nz_60, nz_100, mp_B, mp_Z, mp_S, mp_C, mp_K, mp_N, mp_L, mp_R, mp_I, mp_I0, mp_s, mp_s0, u2_ap, sp_isLedge, sp_isLadder, sp_isPerson, sp_isLiving, sp_isLot, sp_isThere, sp_isSpan, ms_K q, ms_B q, r113_81, r113_82, r113_85, r113_88, r113_94, r113_95, r113_100, r113_101, r113_103, r113_104, r113_105, r113_106, r113_109, r113_112, r113_113, r113_114, r113_115, r113_118, r113_119, r113_120, r113_123, r113_124, r113_125, r113_128, r113_91, r113_97, ha, m1, c115, n1.2.1]
  | k + 1, m, G, e, ha, f => by
    have t600 := tp.1.1
    have m1 := (tp.fx f.fx).see (d := d + 1) q (i := s + m) (by omega)
    unfold rn
    by_cases c1 : tL (c (s + m))
    · rw [if_pos c1]
      obtain ⟨G', e1, e2, e3⟩ := c113b q tp (s := s) (v := v) k (m + 1) (xm_u2 G 0 37 (Int32.ofNat (s + (m + 1)))) (by omega) (by rw [u2_ap, if_pos ⟨rfl, rfl⟩]) (f.u (by omega))
      rw [show s + (m + 1) = s + m + 1 by omega] at e1 e2
      refine ⟨G', ?_, e2, e3⟩
      rw [← e1, r113_80]
      have sh : (8 : Int32).toInt64 &&& 63 = 8 := by decide
      by_cases c3 : m < 8
      · have c4 : ¬ (8 : Int32) ≤ Int32.ofNat m := fun z => by
          have := Int32.le_iff_toInt_le.mp z
          rw [ti_nat (by omega), show (8 : Int32).toInt = 8 from rfl] at this
          omega
        rw [show min (m + 1) 8 = min m 8 + 1 by omega]
        show _ = xm_run (d + 2) 113 80 [some (.ref M), some (.int v), some (.int (Int32.ofNat (m + 1))), some (.long ((pkv c s (min m 8)) <<< 8 ||| (c (s + min m 8)).toInt64)), none] [] (xp_m h M (xm_u2 G 0 37 (Int32.ofNat (s + m + 1))))
        rw [show min m 8 = m by omega]
        simp only [ite_not, ite_self, w8_nil, ok01, ite10, rf_rv, rf_ref, rf_cat, rf_lk2, rf_some, rf_none, w_add, w_cons, cr_int, cr_long, cr_ref, cr_null, is_ref, is_null, l2_int, l2_ref, l2_null, l2_none, ent_nil, ent_int, ent_ref, ent_null, ent_rf, ent_long, ok_0, ok_1, af_ret, af_void, List.tail_cons, List.tail_nil, Nat.reduceAdd, Nat.reduceLeDiff, not_false_eq_true, not_true_eq_false, and_self, and_true, true_and, ne_eq, or_true, true_or, or_false, false_or, eq_self, Nat.reduceEqDiff, ↓reduceIte, false_and, and_false, Nat.le_refl, Nat.zero_le, nz_1, nz_2, nz_3, nz_4, nz_5, nz_6, nz_8, nz_10, nz_12, nz_20, nz_30, nz_60, nz_100, mp_B, mp_Z, mp_S, mp_C, mp_K, mp_N, mp_L, mp_R, mp_I, mp_I0, mp_s, mp_s0, u2_ap, sp_isLedge, sp_isLadder, sp_isPerson, sp_isLiving, sp_isLot, sp_isThere, sp_isSpan, ms_K q, ms_B q, r113_81, r113_82, r113_85, r113_88, r113_94, r113_95, r113_100, r113_101, r113_103, r113_104, r113_105, r113_106, r113_109, r113_112, r113_113, r113_114, r113_115, r113_118, r113_119, r113_120, r113_123, r113_124, r113_125, r113_128, r113_91, r113_97, ha, m1, c115, c1, c4, sh, nat_succ]
      · have c4 : (8 : Int32) ≤ Int32.ofNat m := Int32.le_iff_toInt_le.mpr (by rw [ti_nat (by omega), show (8 : Int32).toInt = 8 from rfl]; omega)
        rw [show min (m + 1) 8 = min m 8 by omega]
        simp only [ite_not, ite_self, w8_nil, ok01, ite10, rf_rv, rf_ref, rf_cat, rf_lk2, rf_some, rf_none, w_add, w_cons, cr_int, cr_long, cr_ref, cr_null, is_ref, is_null, l2_int, l2_ref, l2_null, l2_none, ent_nil, ent_int, ent_ref, ent_null, ent_rf, ent_long, ok_0, ok_1, af_ret, af_void, List.tail_cons, List.tail_nil, Nat.reduceAdd, Nat.reduceLeDiff, not_false_eq_true, not_true_eq_false, and_self, and_true, true_and, ne_eq, or_true, true_or, or_false, false_or, eq_self, Nat.reduceEqDiff, ↓reduceIte, false_and, and_false, Nat.le_refl, Nat.zero_le, nz_1, nz_2, nz_3, nz_4, nz_5, nz_6, nz_8, nz_10, nz_12, nz_20, nz_30, nz_60, nz_100, mp_B, mp_Z, mp_S, mp_C, mp_K, mp_N, mp_L, mp_R, mp_I, mp_I0, mp_s, mp_s0, u2_ap, sp_isLedge, sp_isLadder, sp_isPerson, sp_isLiving, sp_isLot, sp_isThere, sp_isSpan, ms_K q, ms_B q, r113_81, r113_82, r113_85, r113_88, r113_94, r113_95, r113_100, r113_101, r113_103, r113_104, r113_105, r113_106, r113_109, r113_112, r113_113, r113_114, r113_115, r113_118, r113_119, r113_120, r113_123, r113_124, r113_125, r113_128, r113_91, r113_97, ha, m1, c115, c1, c4, nat_succ]
    · rw [if_neg c1]
      refine ⟨G, ?_, ha, f⟩
      rw [r113_80, show s + m - s = m by omega]
      simp only [ite_not, ite_self, w8_nil, ok01, ite10, rf_rv, rf_ref, rf_cat, rf_lk2, rf_some, rf_none, w_add, w_cons, cr_int, cr_long, cr_ref, cr_null, is_ref, is_null, l2_int, l2_ref, l2_null, l2_none, ent_nil, ent_int, ent_ref, ent_null, ent_rf, ent_long, ok_0, ok_1, af_ret, af_void, List.tail_cons, List.tail_nil, Nat.reduceAdd, Nat.reduceLeDiff, not_false_eq_true, not_true_eq_false, and_self, and_true, true_and, ne_eq, or_true, true_or, or_false, false_or, eq_self, Nat.reduceEqDiff, ↓reduceIte, false_and, and_false, Nat.le_refl, Nat.zero_le, nz_1, nz_2, nz_3, nz_4, nz_5, nz_6, nz_8, nz_10, nz_12, nz_20, nz_30, nz_60, nz_100, mp_B, mp_Z, mp_S, mp_C, mp_K, mp_N, mp_L, mp_R, mp_I, mp_I0, mp_s, mp_s0, u2_ap, sp_isLedge, sp_isLadder, sp_isPerson, sp_isLiving, sp_isLot, sp_isThere, sp_isSpan, ms_K q, ms_B q, r113_81, r113_82, r113_85, r113_88, r113_94, r113_95, r113_100, r113_101, r113_103, r113_104, r113_105, r113_106, r113_109, r113_112, r113_113, r113_114, r113_115, r113_118, r113_119, r113_120, r113_123, r113_124, r113_125, r113_128, r113_91, r113_97, ha, m1, c115, c1]
theorem c113c (q : MS h M) (tp : TP F c T) {s : Nat} {v : Int32} {t : List (Option Value)} : ∀ (k m : Nat) (G : xp_F), s + m + k = T → G 0 37 = Int32.ofNat (s + m) → G 0 40 = dgv c s (min m 4) → fy F G → ∃ G', xm_run (d + 2) 113 164 (some (.ref M) :: some (.int v) :: some (.int (Int32.ofNat m)) :: t) [] (xp_m h M G) = xm_run (d + 2) 113 222 (some (.ref M) :: some (.int v) :: some (.int (Int32.ofNat (rn tD c k (s + m) - s))) :: t) [] (xp_m h M G') ∧ G' 0 37 = Int32.ofNat (rn tD c k (s + m)) ∧ G' 0 40 = dgv c s (min (rn tD c k (s + m) - s) 4) ∧ fy F G'
  | 0, m, G, e, ha, hv, f => by
    have t600 := tp.1.1
    have m1 := (tp.fx f.fx).see (d := d + 1) q (i := s + m) (by omega)
    have n1 := tp.1.nL (i := s + m) (by omega)
    refine ⟨G, ?_, ha, by show _ = dgv c s (min (s + m - s) 4); rw [show s + m - s = m by omega]; exact hv, f⟩
    rw [r113_164]
    show _ = xm_run (d + 2) 113 222 (some (.ref M) :: some (.int v) :: some (.int (Int32.ofNat (s + m - s))) :: t) [] (xp_m h M G)
    rw [show s + m - s = m by omega]
    simp only [ite_not, ite_self, w8_nil, ok01, ite10, rf_rv, rf_ref, rf_cat, rf_lk2, rf_some, rf_none, w_add, w_cons, cr_int, cr_long, cr_ref, cr_null, is_ref, is_null, l2_int, l2_ref, l2_null, l2_none, ent_nil, ent_int, ent_ref, ent_null, ent_rf, ent_long, ok_0, ok_1, af_ret, af_void, List.tail_cons, List.tail_nil, Nat.reduceAdd, Nat.reduceLeDiff, not_false_eq_true, not_true_eq_false, and_self, and_true, true_and, ne_eq, or_true, true_or, or_false, false_or, eq_self, Nat.reduceEqDiff, ↓reduceIte, false_and, and_false, Nat.le_refl, Nat.zero_le, nz_1, nz_2, nz_3, nz_4, nz_5, nz_6, nz_8, nz_10, nz_12, nz_20, nz_30, nz_60, nz_100, mp_B, mp_Z, mp_S, mp_C, mp_K, mp_N, mp_L, mp_R, mp_I, mp_I0, mp_s, mp_s0, u2_ap, sp_isLedge, sp_isLadder, sp_isPerson, sp_isLiving, sp_isLot, sp_isThere, sp_isSpan, ms_K q, ms_B q, r113_165, r113_166, r113_169, r113_172, r113_178, r113_179, r113_183, r113_184, r113_186, r113_187, r113_190, r113_191, r113_192, r113_193, r113_196, r113_199, r113_200, r113_202, r113_203, r113_206, r113_209, r113_210, r113_211, r113_214, r113_215, r113_216, r113_219, r113_175, r113_180, ha, m1, c117, n1.2.2]
  | k + 1, m, G, e, ha, hv, f => by
    have t600 := tp.1.1
    have m1 := (tp.fx f.fx).see (d := d + 1) q (i := s + m) (by omega)
    unfold rn
    by_cases c1 : tD (c (s + m))
    · rw [if_pos c1]
      by_cases c3 : m < 4
      · have c4 : ¬ (4 : Int32) ≤ Int32.ofNat m := fun z => by
          have := Int32.le_iff_toInt_le.mp z
          rw [ti_nat (by omega), show (4 : Int32).toInt = 4 from rfl] at this
          omega
        obtain ⟨G', e1, e2, e3, e4⟩ := c113c q tp (s := s) (v := v) (t := t) k (m + 1) (xm_u2 (xm_u2 G 0 40 (10 * dgv c s (min m 4) + c (s + m) - 48)) 0 37 (Int32.ofNat (s + (m + 1)))) (by omega) (by rw [u2_ap, if_pos ⟨rfl, rfl⟩]) (by
          rw [u2_ap, if_neg (by decide), u2_ap, if_pos ⟨rfl, rfl⟩, show min (m + 1) 4 = m + 1 by omega, show min m 4 = m by omega]
          rfl) ((f.u (by omega)).u (by omega))
        rw [show s + (m + 1) = s + m + 1 by omega] at e1 e2 e3
        refine ⟨G', ?_, e2, e3, e4⟩
        rw [← e1, r113_164]
        have m2 := ((tp.fx f.fx).fx (fx.rf.u (k := 40) (by omega) (v := 10 * dgv c s (min m 4) + c (s + m) - 48))).see (d := d + 1) q (i := s + m) (by omega)
        simp only [ite_not, ite_self, w8_nil, ok01, ite10, rf_rv, rf_ref, rf_cat, rf_lk2, rf_some, rf_none, w_add, w_cons, cr_int, cr_long, cr_ref, cr_null, is_ref, is_null, l2_int, l2_ref, l2_null, l2_none, ent_nil, ent_int, ent_ref, ent_null, ent_rf, ent_long, ok_0, ok_1, af_ret, af_void, List.tail_cons, List.tail_nil, Nat.reduceAdd, Nat.reduceLeDiff, not_false_eq_true, not_true_eq_false, and_self, and_true, true_and, ne_eq, or_true, true_or, or_false, false_or, eq_self, Nat.reduceEqDiff, ↓reduceIte, false_and, and_false, Nat.le_refl, Nat.zero_le, nz_1, nz_2, nz_3, nz_4, nz_5, nz_6, nz_8, nz_10, nz_12, nz_20, nz_30, nz_60, nz_100, mp_B, mp_Z, mp_S, mp_C, mp_K, mp_N, mp_L, mp_R, mp_I, mp_I0, mp_s, mp_s0, u2_ap, sp_isLedge, sp_isLadder, sp_isPerson, sp_isLiving, sp_isLot, sp_isThere, sp_isSpan, ms_K q, ms_B q, r113_165, r113_166, r113_169, r113_172, r113_178, r113_179, r113_183, r113_184, r113_186, r113_187, r113_190, r113_191, r113_192, r113_193, r113_196, r113_199, r113_200, r113_202, r113_203, r113_206, r113_209, r113_210, r113_211, r113_214, r113_215, r113_216, r113_219, r113_175, r113_180, ha, hv, m1, c117, c1, c4, nat_succ]
      · have c4 : (4 : Int32) ≤ Int32.ofNat m := Int32.le_iff_toInt_le.mpr (by rw [ti_nat (by omega), show (4 : Int32).toInt = 4 from rfl]; omega)
        obtain ⟨G', e1, e2, e3, e4⟩ := c113c q tp (s := s) (v := v) (t := t) k (m + 1) (xm_u2 G 0 37 (Int32.ofNat (s + (m + 1)))) (by omega) (by rw [u2_ap, if_pos ⟨rfl, rfl⟩]) (by
          rw [u2_ap, if_neg (by decide), hv, show min (m + 1) 4 = min m 4 by omega]) (f.u (by omega))
        rw [show s + (m + 1) = s + m + 1 by omega] at e1 e2 e3
        refine ⟨G', ?_, e2, e3, e4⟩
        rw [← e1, r113_164]
        simp only [ite_not, ite_self, w8_nil, ok01, ite10, rf_rv, rf_ref, rf_cat, rf_lk2, rf_some, rf_none, w_add, w_cons, cr_int, cr_long, cr_ref, cr_null, is_ref, is_null, l2_int, l2_ref, l2_null, l2_none, ent_nil, ent_int, ent_ref, ent_null, ent_rf, ent_long, ok_0, ok_1, af_ret, af_void, List.tail_cons, List.tail_nil, Nat.reduceAdd, Nat.reduceLeDiff, not_false_eq_true, not_true_eq_false, and_self, and_true, true_and, ne_eq, or_true, true_or, or_false, false_or, eq_self, Nat.reduceEqDiff, ↓reduceIte, false_and, and_false, Nat.le_refl, Nat.zero_le, nz_1, nz_2, nz_3, nz_4, nz_5, nz_6, nz_8, nz_10, nz_12, nz_20, nz_30, nz_60, nz_100, mp_B, mp_Z, mp_S, mp_C, mp_K, mp_N, mp_L, mp_R, mp_I, mp_I0, mp_s, mp_s0, u2_ap, sp_isLedge, sp_isLadder, sp_isPerson, sp_isLiving, sp_isLot, sp_isThere, sp_isSpan, ms_K q, ms_B q, r113_165, r113_166, r113_169, r113_172, r113_178, r113_179, r113_183, r113_184, r113_186, r113_187, r113_190, r113_191, r113_192, r113_193, r113_196, r113_199, r113_200, r113_202, r113_203, r113_206, r113_209, r113_210, r113_211, r113_214, r113_215, r113_216, r113_219, r113_175, r113_180, ha, m1, c117, c1, c4, nat_succ]
    · rw [if_neg c1]
      refine ⟨G, ?_, ha, by rw [show s + m - s = m by omega]; exact hv, f⟩
      rw [r113_164, show s + m - s = m by omega]
      simp only [ite_not, ite_self, w8_nil, ok01, ite10, rf_rv, rf_ref, rf_cat, rf_lk2, rf_some, rf_none, w_add, w_cons, cr_int, cr_long, cr_ref, cr_null, is_ref, is_null, l2_int, l2_ref, l2_null, l2_none, ent_nil, ent_int, ent_ref, ent_null, ent_rf, ent_long, ok_0, ok_1, af_ret, af_void, List.tail_cons, List.tail_nil, Nat.reduceAdd, Nat.reduceLeDiff, not_false_eq_true, not_true_eq_false, and_self, and_true, true_and, ne_eq, or_true, true_or, or_false, false_or, eq_self, Nat.reduceEqDiff, ↓reduceIte, false_and, and_false, Nat.le_refl, Nat.zero_le, nz_1, nz_2, nz_3, nz_4, nz_5, nz_6, nz_8, nz_10, nz_12, nz_20, nz_30, nz_60, nz_100, mp_B, mp_Z, mp_S, mp_C, mp_K, mp_N, mp_L, mp_R, mp_I, mp_I0, mp_s, mp_s0, u2_ap, sp_isLedge, sp_isLadder, sp_isPerson, sp_isLiving, sp_isLot, sp_isThere, sp_isSpan, ms_K q, ms_B q, r113_165, r113_166, r113_169, r113_172, r113_178, r113_179, r113_183, r113_184, r113_186, r113_187, r113_190, r113_191, r113_192, r113_193, r113_196, r113_199, r113_200, r113_202, r113_203, r113_206, r113_209, r113_210, r113_211, r113_214, r113_215, r113_216, r113_219, r113_175, r113_180, ha, m1, c117, c1]
end M113B
