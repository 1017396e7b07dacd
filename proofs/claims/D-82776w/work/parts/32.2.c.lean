/-! texts: the model's next token, the whole -/
set_option maxRecDepth 100000
section M113C
variable {d : Nat} {h : xm_H} {M : Nat} {F : xp_F} {c : Nat → Int32} {T : Nat}
/-- the reader stands at the token that is sought from q on -/
def NX (c : Nat → Int32) (T q : Nat) (G : xp_F) : Prop := G 0 37 = Int32.ofNat (lE c T q) ∧ G 0 38 = lK c T q ∧ G 0 39 = Int32.ofNat (lS c T q) ∧ (lK c T q = 2 → G 0 40 = lV c T q)
theorem word_2 {w : Int64} : ¬ sp_word w = 2 := by
  intro z
  unfold sp_word at z
  by_cases w0 : w = 465557354085
  · rw [if_pos w0] at z
    exact absurd z (by decide)
  rw [if_neg w0] at z
  by_cases w1 : w = 6447474
  · rw [if_pos w1] at z
    exact absurd z (by decide)
  rw [if_neg w1] at z
  by_cases w2 : w = 495672455781
  · rw [if_pos w2] at z
    exact absurd z (by decide)
  rw [if_neg w2] at z
  by_cases w3 : w = 465557353070
  · rw [if_pos w3] at z
    exact absurd z (by decide)
  rw [if_neg w3] at z
  by_cases w4 : w = 7302244
  · rw [if_pos w4] at z
    exact absurd z (by decide)
  rw [if_neg w4] at z
  by_cases w5 : w = 2003330414
  · rw [if_pos w5] at z
    exact absurd z (by decide)
  rw [if_neg w5] at z
  by_cases w6 : w = 28530
  · rw [if_pos w6] at z
    exact absurd z (by decide)
  rw [if_neg w6] at z
  by_cases w7 : w = 6385252
  · rw [if_pos w7] at z
    exact absurd z (by decide)
  rw [if_neg w7] at z
  by_cases w8 : w = 7237492
  · rw [if_pos w8] at z
    exact absurd z (by decide)
  rw [if_neg w8] at z
  by_cases w9 : w = 109356116108658
  · rw [if_pos w9] at z
    exact absurd z (by decide)
  rw [if_neg w9] at z
  by_cases w10 : w = 1919905893
  · rw [if_pos w10] at z
    exact absurd z (by decide)
  rw [if_neg w10] at z
  by_cases w11 : w = 112603009672562
  · rw [if_pos w11] at z
    exact absurd z (by decide)
  rw [if_neg w11] at z
  by_cases w12 : w = 1818324580
  · rw [if_pos w12] at z
    exact absurd z (by decide)
  rw [if_neg w12] at z
  by_cases w13 : w = 6578553
  · rw [if_pos w13] at z
    exact absurd z (by decide)
  rw [if_neg w13] at z
  by_cases w14 : w = 470020945000
  · rw [if_pos w14] at z
    exact absurd z (by decide)
  rw [if_neg w14] at z
  by_cases w15 : w = 1836019566
  · rw [if_pos w15] at z
    exact absurd z (by decide)
  rw [if_neg w15] at z
  by_cases w16 : w = 2003398244
  · rw [if_pos w16] at z
    exact absurd z (by decide)
  rw [if_neg w16] at z
  by_cases w17 : w = 114784769370228
  · rw [if_pos w17] at z
    exact absurd z (by decide)
  rw [if_neg w17] at z
  by_cases w18 : w = 8319400191629685864
  · rw [if_pos w18] at z
    exact absurd z (by decide)
  rw [if_neg w18] at z
  by_cases w19 : w = 1668246882
  · rw [if_pos w19] at z
    exact absurd z (by decide)
  rw [if_neg w19] at z
  by_cases w20 : w = 126879263846254
  · rw [if_pos w20] at z
    exact absurd z (by decide)
  rw [if_neg w20] at z
  exact absurd z (by decide)
theorem rn_ge {P : Int32 → Prop} [DecidablePred P] {n p : Nat} (h : P (c p)) : rn P c (n + 1) p = rn P c n (p + 1) := if_pos h
theorem sub_i {a b : Nat} (h : a ≤ b) : a + (b - a) = b := by omega
theorem c113 (q : MS h M) (tp : TP F c T) {i : Nat} (hi : i ≤ T) (ha : F 0 37 = Int32.ofNat i) : ∃ G, xm_met (d + 2) 113 [.ref M] (xp_m h M F) = some (.inl none, xp_m h M G) ∧ NX c T i G ∧ fx F G := by
  have t600 := tp.1.1
  obtain ⟨G1, e1, a1, f1⟩ := c113a (d := d + 1) q tp (T - i) i F (by omega) ha fy.rf
  have ls := lS_le tp.1 hi
  have eS : rn tS c (T - i) i = lS c T i := rfl
  rw [eS] at a1
  have m1 := ((tp.fx f1.fx).fx (fx.rf.u (k := 39) (by omega) (v := Int32.ofNat (lS c T i)))).see (d := d + 1) q (i := lS c T i) (by omega)
  generalize hs : lS c T i = s at *
  have start : xm_met (d + 2) 113 [.ref M] (xp_m h M F) = xm_run (d + 2) 113 58 [some (.ref M), some (.int (c s)), some (.int 0)] [] (xp_m h M (xm_u2 G1 0 39 (Int32.ofNat s))) := by
    unfold xm_met
    simp only [ite_not, ite_self, w8_nil, ok01, ite10, rf_rv, rf_ref, rf_cat, rf_lk2, rf_some, rf_none, w_add, w_cons, cr_int, cr_long, cr_ref, cr_null, is_ref, is_null, l2_int, l2_ref, l2_null, l2_none, ent_nil, ent_int, ent_ref, ent_null, ent_rf, ent_long, ok_0, ok_1, af_ret, af_void, List.tail_cons, List.tail_nil, Nat.reduceAdd, Nat.reduceLeDiff, not_false_eq_true, not_true_eq_false, and_self, and_true, true_and, ne_eq, or_true, true_or, or_false, false_or, eq_self, Nat.reduceEqDiff, ↓reduceIte, false_and, and_false, Nat.le_refl, Nat.zero_le, nz_1, nz_2, nz_3, nz_4, nz_5, nz_6, nz_8, nz_10, nz_12, nz_20, nz_30, nz_60, nz_100]
    rw [show d + 2 = d + 1 + 1 from rfl, e1]
    simp only [ite_not, ite_self, w8_nil, ok01, ite10, rf_rv, rf_ref, rf_cat, rf_lk2, rf_some, rf_none, w_add, w_cons, cr_int, cr_long, cr_ref, cr_null, is_ref, is_null, l2_int, l2_ref, l2_null, l2_none, ent_nil, ent_int, ent_ref, ent_null, ent_rf, ent_long, ok_0, ok_1, af_ret, af_void, List.tail_cons, List.tail_nil, Nat.reduceAdd, Nat.reduceLeDiff, not_false_eq_true, not_true_eq_false, and_self, and_true, true_and, ne_eq, or_true, true_or, or_false, false_or, eq_self, Nat.reduceEqDiff, ↓reduceIte, false_and, and_false, Nat.le_refl, Nat.zero_le, nz_1, nz_2, nz_3, nz_4, nz_5, nz_6, nz_8, nz_10, nz_12, nz_20, nz_30, nz_60, nz_100, mp_B, mp_Z, mp_S, mp_C, mp_K, mp_N, mp_L, mp_R, mp_I, mp_I0, mp_s, mp_s0, u2_ap, sp_isLedge, sp_isLadder, sp_isPerson, sp_isLiving, sp_isLot, sp_isThere, sp_isSpan, ms_K q, ms_B q, r113_39, r113_40, r113_41, r113_44, r113_47, r113_48, r113_49, r113_52, r113_55, r113_56, r113_57, ent_nil, a1, m1]
  rw [start]
  have at2 : xm_u2 G1 0 39 (Int32.ofNat s) 0 37 = Int32.ofNat s := by rw [u2_ap, if_neg (by decide)]; exact a1
  have ta2 : xm_u2 G1 0 39 (Int32.ofNat s) 0 39 = Int32.ofNat s := by rw [u2_ap, if_pos ⟨rfl, rfl⟩]
  have f2 : fx F (xm_u2 G1 0 39 (Int32.ofNat s)) := f1.fx.u (by omega)
  generalize xm_u2 G1 0 39 (Int32.ofNat s) = G2 at *
  unfold NX
  by_cases c1 : c s = -1
  · have eE : lE c T i = s := by unfold lE; rw [hs, if_pos c1]
    have eK : lK c T i = 0 := by unfold lK; rw [hs, if_pos c1]
    rw [eE, eK, hs]
    refine ⟨xm_u2 G2 0 38 0, ?_, ⟨?_, ?_, ?_, fun z => absurd z (by decide)⟩, f2.u (by omega)⟩
    · simp only [ite_not, ite_self, w8_nil, ok01, ite10, rf_rv, rf_ref, rf_cat, rf_lk2, rf_some, rf_none, w_add, w_cons, cr_int, cr_long, cr_ref, cr_null, is_ref, is_null, l2_int, l2_ref, l2_null, l2_none, ent_nil, ent_int, ent_ref, ent_null, ent_rf, ent_long, ok_0, ok_1, af_ret, af_void, List.tail_cons, List.tail_nil, Nat.reduceAdd, Nat.reduceLeDiff, not_false_eq_true, not_true_eq_false, and_self, and_true, true_and, ne_eq, or_true, true_or, or_false, false_or, eq_self, Nat.reduceEqDiff, ↓reduceIte, false_and, and_false, Nat.le_refl, Nat.zero_le, nz_1, nz_2, nz_3, nz_4, nz_5, nz_6, nz_8, nz_10, nz_12, nz_20, nz_30, nz_60, nz_100, mp_B, mp_Z, mp_S, mp_C, mp_K, mp_N, mp_L, mp_R, mp_I, mp_I0, mp_s, mp_s0, u2_ap, sp_isLedge, sp_isLadder, sp_isPerson, sp_isLiving, sp_isLot, sp_isThere, sp_isSpan, ms_K q, ms_B q, r113_58, r113_59, r113_63, r113_64, r113_65, r113_68, r113_60, c1, r113_328]
    · rw [u2_ap, if_neg (by decide)]; exact at2
    · rw [u2_ap, if_pos ⟨rfl, rfl⟩]
    · rw [u2_ap, if_neg (by decide)]; exact ta2
  have sT : s < T := by
    false_or_by_contra
    exact c1 (tp.1.2.1 _ (by omega))
  by_cases c22 : tL (c s)
  · have eE : lE c T i = rn tL c (T - s) s := by unfold lE; rw [hs, if_neg c1, if_pos c22]
    have eK : lK c T i = if lE c T i - s < 9 then sp_word (pkv c s (lE c T i - s)) else 1 := by unfold lK; rw [hs, if_neg c1, if_pos c22]
    obtain ⟨G3, e3, a3, f3⟩ := c113b (d := d) q (tp.fx f2) (s := s) (v := c s) (T - s) 0 G2 (by omega) (by rw [Nat.add_zero]; exact at2) fy.rf
    have e3 : xm_run (d + 2) 113 80 [some (.ref M), some (.int (c s)), some (.int 0), some (.long 0), none] [] (xp_m h M G2) = xm_run (d + 2) 113 131 [some (.ref M), some (.int (c s)), some (.int (Int32.ofNat (rn tL c (T - s) s - s))), some (.long (pkv c s (min (rn tL c (T - s) s - s) 8))), none] [] (xp_m h M G3) := e3
    have a3 : G3 0 37 = Int32.ofNat (rn tL c (T - s) s) := a3
    rw [← eE] at e3 a3
    have ta3 : G3 0 39 = Int32.ofNat s := (f3 _ _ (by decide)).trans ta2
    have le := lE_le tp.1 hi
    have st : xm_run (d + 2) 113 58 [some (.ref M), some (.int (c s)), some (.int 0)] [] (xp_m h M G2) = xm_run (d + 2) 113 131 [some (.ref M), some (.int (c s)), some (.int (Int32.ofNat (lE c T i - s))), some (.long (pkv c s (min (lE c T i - s) 8))), none] [] (xp_m h M G3) := by
      rw [← e3]
      simp only [ite_not, ite_self, w8_nil, ok01, ite10, rf_rv, rf_ref, rf_cat, rf_lk2, rf_some, rf_none, w_add, w_cons, cr_int, cr_long, cr_ref, cr_null, is_ref, is_null, l2_int, l2_ref, l2_null, l2_none, ent_nil, ent_int, ent_ref, ent_null, ent_rf, ent_long, ok_0, ok_1, af_ret, af_void, List.tail_cons, List.tail_nil, Nat.reduceAdd, Nat.reduceLeDiff, not_false_eq_true, not_true_eq_false, and_self, and_true, true_and, ne_eq, or_true, true_or, or_false, false_or, eq_self, Nat.reduceEqDiff, ↓reduceIte, false_and, and_false, Nat.le_refl, Nat.zero_le, nz_1, nz_2, nz_3, nz_4, nz_5, nz_6, nz_8, nz_10, nz_12, nz_20, nz_30, nz_60, nz_100, mp_B, mp_Z, mp_S, mp_C, mp_K, mp_N, mp_L, mp_R, mp_I, mp_I0, mp_s, mp_s0, u2_ap, sp_isLedge, sp_isLadder, sp_isPerson, sp_isLiving, sp_isLot, sp_isThere, sp_isSpan, ms_K q, ms_B q, r113_58, r113_59, r113_63, r113_64, r113_65, r113_68, r113_71, r113_72, r113_78, r113_79, r113_60, r113_75, c1, c115, c22]
    rw [st, eK, hs]
    generalize lE c T i = E at *
    by_cases c3 : E - s < 9
    · have c4 : ¬ (9 : Int32) ≤ Int32.ofNat (E - s) := fun z => by
        have := Int32.le_iff_toInt_le.mp z
        rw [ti_nat (by omega), show (9 : Int32).toInt = 9 from rfl] at this
        omega
      rw [if_pos c3, show min (E - s) 8 = E - s by omega]
      refine ⟨xm_u2 G3 0 38 (sp_word (pkv c s (E - s))), ?_, ⟨?_, ?_, ?_, fun z => absurd z word_2⟩, (f2.tr f3.fx).u (by omega)⟩
      · simp only [ite_not, ite_self, w8_nil, ok01, ite10, rf_rv, rf_ref, rf_cat, rf_lk2, rf_some, rf_none, w_add, w_cons, cr_int, cr_long, cr_ref, cr_null, is_ref, is_null, l2_int, l2_ref, l2_null, l2_none, ent_nil, ent_int, ent_ref, ent_null, ent_rf, ent_long, ok_0, ok_1, af_ret, af_void, List.tail_cons, List.tail_nil, Nat.reduceAdd, Nat.reduceLeDiff, not_false_eq_true, not_true_eq_false, and_self, and_true, true_and, ne_eq, or_true, true_or, or_false, false_or, eq_self, Nat.reduceEqDiff, ↓reduceIte, false_and, and_false, Nat.le_refl, Nat.zero_le, nz_1, nz_2, nz_3, nz_4, nz_5, nz_6, nz_8, nz_10, nz_12, nz_20, nz_30, nz_60, nz_100, mp_B, mp_Z, mp_S, mp_C, mp_K, mp_N, mp_L, mp_R, mp_I, mp_I0, mp_s, mp_s0, u2_ap, sp_isLedge, sp_isLadder, sp_isPerson, sp_isLiving, sp_isLot, sp_isThere, sp_isSpan, ms_K q, ms_B q, r113_131, r113_132, r113_133, r113_138, r113_139, r113_142, r113_145, r113_146, r113_149, r113_135, r113_328, c4, c116]
      · rw [u2_ap, if_neg (by decide)]; exact a3
      · rw [u2_ap, if_pos ⟨rfl, rfl⟩]
      · rw [u2_ap, if_neg (by decide)]; exact ta3
    · have c4 : (9 : Int32) ≤ Int32.ofNat (E - s) := Int32.le_iff_toInt_le.mpr (by rw [ti_nat (by omega), show (9 : Int32).toInt = 9 from rfl]; omega)
      rw [if_neg c3]
      refine ⟨xm_u2 G3 0 38 1, ?_, ⟨?_, ?_, ?_, fun z => absurd z (by decide)⟩, (f2.tr f3.fx).u (by omega)⟩
      · simp only [ite_not, ite_self, w8_nil, ok01, ite10, rf_rv, rf_ref, rf_cat, rf_lk2, rf_some, rf_none, w_add, w_cons, cr_int, cr_long, cr_ref, cr_null, is_ref, is_null, l2_int, l2_ref, l2_null, l2_none, ent_nil, ent_int, ent_ref, ent_null, ent_rf, ent_long, ok_0, ok_1, af_ret, af_void, List.tail_cons, List.tail_nil, Nat.reduceAdd, Nat.reduceLeDiff, not_false_eq_true, not_true_eq_false, and_self, and_true, true_and, ne_eq, or_true, true_or, or_false, false_or, eq_self, Nat.reduceEqDiff, ↓reduceIte, false_and, and_false, Nat.le_refl, Nat.zero_le, nz_1, nz_2, nz_3, nz_4, nz_5, nz_6, nz_8, nz_10, nz_12, nz_20, nz_30, nz_60, nz_100, mp_B, mp_Z, mp_S, mp_C, mp_K, mp_N, mp_L, mp_R, mp_I, mp_I0, mp_s, mp_s0, u2_ap, sp_isLedge, sp_isLadder, sp_isPerson, sp_isLiving, sp_isLot, sp_isThere, sp_isSpan, ms_K q, ms_B q, r113_131, r113_132, r113_133, r113_138, r113_139, r113_142, r113_145, r113_146, r113_149, r113_135, r113_328, c4]
      · rw [u2_ap, if_neg (by decide)]; exact a3
      · rw [u2_ap, if_pos ⟨rfl, rfl⟩]
      · rw [u2_ap, if_neg (by decide)]; exact ta3
  by_cases c33 : tD (c s)
  · have eE : lE c T i = rn tD c (T - s) s := by unfold lE; rw [hs, if_neg c1, if_neg c22, if_pos c33]
    have eK : lK c T i = if lE c T i - s < 5 then 2 else 1 := by unfold lK; rw [hs, if_neg c1, if_neg c22, if_pos c33]
    have eV : lV c T i = dgv c s (min (lE c T i - s) 4) := by unfold lV; rw [hs]
    obtain ⟨G3, e3, a3, v3, f3⟩ := c113c (d := d) q (tp.fx (f2.u (k := 40) (by omega) (v := 0))) (s := s) (v := c s) (t := []) (T - s) 0 (xm_u2 G2 0 40 0) (by omega) (by rw [Nat.add_zero, u2_ap, if_neg (by decide)]; exact at2) (by rw [u2_ap, if_pos ⟨rfl, rfl⟩]; rfl) fy.rf
    have e3 : xm_run (d + 2) 113 164 [some (.ref M), some (.int (c s)), some (.int 0)] [] (xp_m h M (xm_u2 G2 0 40 0)) = xm_run (d + 2) 113 222 [some (.ref M), some (.int (c s)), some (.int (Int32.ofNat (rn tD c (T - s) s - s)))] [] (xp_m h M G3) := e3
    have a3 : G3 0 37 = Int32.ofNat (rn tD c (T - s) s) := a3
    have v3 : G3 0 40 = dgv c s (min (rn tD c (T - s) s - s) 4) := v3
    rw [← eE] at e3 a3 v3
    have ta3 : G3 0 39 = Int32.ofNat s := (f3 _ _ (by decide)).trans (by rw [u2_ap, if_neg (by decide)]; exact ta2)
    have le := lE_le tp.1 hi
    have st : xm_run (d + 2) 113 58 [some (.ref M), some (.int (c s)), some (.int 0)] [] (xp_m h M G2) = xm_run (d + 2) 113 222 [some (.ref M), some (.int (c s)), some (.int (Int32.ofNat (lE c T i - s)))] [] (xp_m h M G3) := by
      rw [← e3]
      simp only [ite_not, ite_self, w8_nil, ok01, ite10, rf_rv, rf_ref, rf_cat, rf_lk2, rf_some, rf_none, w_add, w_cons, cr_int, cr_long, cr_ref, cr_null, is_ref, is_null, l2_int, l2_ref, l2_null, l2_none, ent_nil, ent_int, ent_ref, ent_null, ent_rf, ent_long, ok_0, ok_1, af_ret, af_void, List.tail_cons, List.tail_nil, Nat.reduceAdd, Nat.reduceLeDiff, not_false_eq_true, not_true_eq_false, and_self, and_true, true_and, ne_eq, or_true, true_or, or_false, false_or, eq_self, Nat.reduceEqDiff, ↓reduceIte, false_and, and_false, Nat.le_refl, Nat.zero_le, nz_1, nz_2, nz_3, nz_4, nz_5, nz_6, nz_8, nz_10, nz_12, nz_20, nz_30, nz_60, nz_100, mp_B, mp_Z, mp_S, mp_C, mp_K, mp_N, mp_L, mp_R, mp_I, mp_I0, mp_s, mp_s0, u2_ap, sp_isLedge, sp_isLadder, sp_isPerson, sp_isLiving, sp_isLot, sp_isThere, sp_isSpan, ms_K q, ms_B q, r113_58, r113_59, r113_63, r113_64, r113_65, r113_68, r113_71, r113_72, r113_60, r113_75, r113_152, r113_153, r113_159, r113_160, r113_161, r113_156, c1, c115, c117, c22, c33]
    rw [st, eK, eV, hs]
    have f4 : fx F G3 := (f2.u (k := 40) (by omega) (v := 0)).tr f3.fx
    generalize lE c T i = E at *
    by_cases c3 : E - s < 5
    · have c4 : ¬ (5 : Int32) ≤ Int32.ofNat (E - s) := fun z => by
        have := Int32.le_iff_toInt_le.mp z
        rw [ti_nat (by omega), show (5 : Int32).toInt = 5 from rfl] at this
        omega
      rw [if_pos c3]
      refine ⟨xm_u2 G3 0 38 2, ?_, ⟨?_, ?_, ?_, fun _ => ?_⟩, f4.u (by omega)⟩
      · simp only [ite_not, ite_self, w8_nil, ok01, ite10, rf_rv, rf_ref, rf_cat, rf_lk2, rf_some, rf_none, w_add, w_cons, cr_int, cr_long, cr_ref, cr_null, is_ref, is_null, l2_int, l2_ref, l2_null, l2_none, ent_nil, ent_int, ent_ref, ent_null, ent_rf, ent_long, ok_0, ok_1, af_ret, af_void, List.tail_cons, List.tail_nil, Nat.reduceAdd, Nat.reduceLeDiff, not_false_eq_true, not_true_eq_false, and_self, and_true, true_and, ne_eq, or_true, true_or, or_false, false_or, eq_self, Nat.reduceEqDiff, ↓reduceIte, false_and, and_false, Nat.le_refl, Nat.zero_le, nz_1, nz_2, nz_3, nz_4, nz_5, nz_6, nz_8, nz_10, nz_12, nz_20, nz_30, nz_60, nz_100, mp_B, mp_Z, mp_S, mp_C, mp_K, mp_N, mp_L, mp_R, mp_I, mp_I0, mp_s, mp_s0, u2_ap, sp_isLedge, sp_isLadder, sp_isPerson, sp_isLiving, sp_isLot, sp_isThere, sp_isSpan, ms_K q, ms_B q, r113_222, r113_223, r113_224, r113_228, r113_229, r113_232, r113_233, r113_236, r113_225, r113_328, c4]
      · rw [u2_ap, if_neg (by decide)]; exact a3
      · rw [u2_ap, if_pos ⟨rfl, rfl⟩]
      · rw [u2_ap, if_neg (by decide)]; exact ta3
      · rw [u2_ap, if_neg (by decide)]; exact v3
    · have c4 : (5 : Int32) ≤ Int32.ofNat (E - s) := Int32.le_iff_toInt_le.mpr (by rw [ti_nat (by omega), show (5 : Int32).toInt = 5 from rfl]; omega)
      rw [if_neg c3]
      refine ⟨xm_u2 G3 0 38 1, ?_, ⟨?_, ?_, ?_, fun z => absurd z (by decide)⟩, f4.u (by omega)⟩
      · simp only [ite_not, ite_self, w8_nil, ok01, ite10, rf_rv, rf_ref, rf_cat, rf_lk2, rf_some, rf_none, w_add, w_cons, cr_int, cr_long, cr_ref, cr_null, is_ref, is_null, l2_int, l2_ref, l2_null, l2_none, ent_nil, ent_int, ent_ref, ent_null, ent_rf, ent_long, ok_0, ok_1, af_ret, af_void, List.tail_cons, List.tail_nil, Nat.reduceAdd, Nat.reduceLeDiff, not_false_eq_true, not_true_eq_false, and_self, and_true, true_and, ne_eq, or_true, true_or, or_false, false_or, eq_self, Nat.reduceEqDiff, ↓reduceIte, false_and, and_false, Nat.le_refl, Nat.zero_le, nz_1, nz_2, nz_3, nz_4, nz_5, nz_6, nz_8, nz_10, nz_12, nz_20, nz_30, nz_60, nz_100, mp_B, mp_Z, mp_S, mp_C, mp_K, mp_N, mp_L, mp_R, mp_I, mp_I0, mp_s, mp_s0, u2_ap, sp_isLedge, sp_isLadder, sp_isPerson, sp_isLiving, sp_isLot, sp_isThere, sp_isSpan, ms_K q, ms_B q, r113_222, r113_223, r113_224, r113_228, r113_229, r113_232, r113_233, r113_236, r113_225, r113_328, c4]
      · rw [u2_ap, if_neg (by decide)]; exact a3
      · rw [u2_ap, if_pos ⟨rfl, rfl⟩]
      · rw [u2_ap, if_neg (by decide)]; exact ta3
  have eE : lE c T i = s + 1 := by unfold lE; rw [hs, if_neg c1, if_neg c22, if_neg c33]
  have eK : lK c T i = if tG (c s) then c s else 1 := by unfold lK; rw [hs, if_neg c1, if_neg c22, if_neg c33]
  rw [eE, eK, hs]
  have k2 : ¬ (if tG (c s) then c s else 1) = 2 := by
    split
    · rename_i g
      intro z
      rw [z] at g
      exact absurd g (by decide)
    · decide
  refine ⟨xm_u2 (xm_u2 G2 0 37 (Int32.ofNat (s + 1))) 0 38 (if tG (c s) then c s else 1), ?_, ⟨?_, ?_, ?_, fun z => absurd z k2⟩, (f2.u (by omega)).u (by omega)⟩
  · have sign : ∀ (G : xp_F) (t : List (Option Value)), xm_run (d + 2) 113 249 (some (.ref M) :: some (.int (c s)) :: t) [] (xp_m h M G) = xm_run (d + 2) 113 314 (some (.ref M) :: some (.int (c s)) :: t) [.int (if tG (c s) then 1 else 0)] (xp_m h M G) := fun G t => by
      by_cases s0 : c s = 59
      · have g : tG (c s) := Or.inl s0
        rw [if_pos g]
        simp only [ite_not, ite_self, w8_nil, ok01, ite10, rf_rv, rf_ref, rf_cat, rf_lk2, rf_some, rf_none, w_add, w_cons, cr_int, cr_long, cr_ref, cr_null, is_ref, is_null, l2_int, l2_ref, l2_null, l2_none, ent_nil, ent_int, ent_ref, ent_null, ent_rf, ent_long, ok_0, ok_1, af_ret, af_void, List.tail_cons, List.tail_nil, Nat.reduceAdd, Nat.reduceLeDiff, not_false_eq_true, not_true_eq_false, and_self, and_true, true_and, ne_eq, or_true, true_or, or_false, false_or, eq_self, Nat.reduceEqDiff, ↓reduceIte, false_and, and_false, Nat.le_refl, Nat.zero_le, nz_1, nz_2, nz_3, nz_4, nz_5, nz_6, nz_8, nz_10, nz_12, nz_20, nz_30, nz_60, nz_100, mp_B, mp_Z, mp_S, mp_C, mp_K, mp_N, mp_L, mp_R, mp_I, mp_I0, mp_s, mp_s0, u2_ap, sp_isLedge, sp_isLadder, sp_isPerson, sp_isLiving, sp_isLot, sp_isThere, sp_isSpan, r113_249, r113_250, r113_255, r113_256, r113_261, r113_262, r113_267, r113_268, r113_273, r113_274, r113_279, r113_280, r113_285, r113_286, r113_291, r113_292, r113_297, r113_298, r113_303, r113_304, r113_309, r113_310, r113_252, r113_258, r113_264, r113_270, r113_276, r113_282, r113_288, r113_294, r113_300, r113_306, s0]
      by_cases s1 : c s = 43
      · have g : tG (c s) := Or.inr (Or.inl s1)
        rw [if_pos g]
        have q0 : ¬ (43 : Int32) = 59 := by decide
        simp only [ite_not, ite_self, w8_nil, ok01, ite10, rf_rv, rf_ref, rf_cat, rf_lk2, rf_some, rf_none, w_add, w_cons, cr_int, cr_long, cr_ref, cr_null, is_ref, is_null, l2_int, l2_ref, l2_null, l2_none, ent_nil, ent_int, ent_ref, ent_null, ent_rf, ent_long, ok_0, ok_1, af_ret, af_void, List.tail_cons, List.tail_nil, Nat.reduceAdd, Nat.reduceLeDiff, not_false_eq_true, not_true_eq_false, and_self, and_true, true_and, ne_eq, or_true, true_or, or_false, false_or, eq_self, Nat.reduceEqDiff, ↓reduceIte, false_and, and_false, Nat.le_refl, Nat.zero_le, nz_1, nz_2, nz_3, nz_4, nz_5, nz_6, nz_8, nz_10, nz_12, nz_20, nz_30, nz_60, nz_100, mp_B, mp_Z, mp_S, mp_C, mp_K, mp_N, mp_L, mp_R, mp_I, mp_I0, mp_s, mp_s0, u2_ap, sp_isLedge, sp_isLadder, sp_isPerson, sp_isLiving, sp_isLot, sp_isThere, sp_isSpan, r113_249, r113_250, r113_255, r113_256, r113_261, r113_262, r113_267, r113_268, r113_273, r113_274, r113_279, r113_280, r113_285, r113_286, r113_291, r113_292, r113_297, r113_298, r113_303, r113_304, r113_309, r113_310, r113_252, r113_258, r113_264, r113_270, r113_276, r113_282, r113_288, r113_294, r113_300, r113_306, s1, q0]
      by_cases s2 : c s = 45
      · have g : tG (c s) := Or.inr (Or.inr (Or.inl s2))
        rw [if_pos g]
        have q0 : ¬ (45 : Int32) = 59 := by decide
        have q1 : ¬ (45 : Int32) = 43 := by decide
        simp only [ite_not, ite_self, w8_nil, ok01, ite10, rf_rv, rf_ref, rf_cat, rf_lk2, rf_some, rf_none, w_add, w_cons, cr_int, cr_long, cr_ref, cr_null, is_ref, is_null, l2_int, l2_ref, l2_null, l2_none, ent_nil, ent_int, ent_ref, ent_null, ent_rf, ent_long, ok_0, ok_1, af_ret, af_void, List.tail_cons, List.tail_nil, Nat.reduceAdd, Nat.reduceLeDiff, not_false_eq_true, not_true_eq_false, and_self, and_true, true_and, ne_eq, or_true, true_or, or_false, false_or, eq_self, Nat.reduceEqDiff, ↓reduceIte, false_and, and_false, Nat.le_refl, Nat.zero_le, nz_1, nz_2, nz_3, nz_4, nz_5, nz_6, nz_8, nz_10, nz_12, nz_20, nz_30, nz_60, nz_100, mp_B, mp_Z, mp_S, mp_C, mp_K, mp_N, mp_L, mp_R, mp_I, mp_I0, mp_s, mp_s0, u2_ap, sp_isLedge, sp_isLadder, sp_isPerson, sp_isLiving, sp_isLot, sp_isThere, sp_isSpan, r113_249, r113_250, r113_255, r113_256, r113_261, r113_262, r113_267, r113_268, r113_273, r113_274, r113_279, r113_280, r113_285, r113_286, r113_291, r113_292, r113_297, r113_298, r113_303, r113_304, r113_309, r113_310, r113_252, r113_258, r113_264, r113_270, r113_276, r113_282, r113_288, r113_294, r113_300, r113_306, s2, q0, q1]
      by_cases s3 : c s = 42
      · have g : tG (c s) := Or.inr (Or.inr (Or.inr (Or.inl s3)))
        rw [if_pos g]
        have q0 : ¬ (42 : Int32) = 59 := by decide
        have q1 : ¬ (42 : Int32) = 43 := by decide
        have q2 : ¬ (42 : Int32) = 45 := by decide
        simp only [ite_not, ite_self, w8_nil, ok01, ite10, rf_rv, rf_ref, rf_cat, rf_lk2, rf_some, rf_none, w_add, w_cons, cr_int, cr_long, cr_ref, cr_null, is_ref, is_null, l2_int, l2_ref, l2_null, l2_none, ent_nil, ent_int, ent_ref, ent_null, ent_rf, ent_long, ok_0, ok_1, af_ret, af_void, List.tail_cons, List.tail_nil, Nat.reduceAdd, Nat.reduceLeDiff, not_false_eq_true, not_true_eq_false, and_self, and_true, true_and, ne_eq, or_true, true_or, or_false, false_or, eq_self, Nat.reduceEqDiff, ↓reduceIte, false_and, and_false, Nat.le_refl, Nat.zero_le, nz_1, nz_2, nz_3, nz_4, nz_5, nz_6, nz_8, nz_10, nz_12, nz_20, nz_30, nz_60, nz_100, mp_B, mp_Z, mp_S, mp_C, mp_K, mp_N, mp_L, mp_R, mp_I, mp_I0, mp_s, mp_s0, u2_ap, sp_isLedge, sp_isLadder, sp_isPerson, sp_isLiving, sp_isLot, sp_isThere, sp_isSpan, r113_249, r113_250, r113_255, r113_256, r113_261, r113_262, r113_267, r113_268, r113_273, r113_274, r113_279, r113_280, r113_285, r113_286, r113_291, r113_292, r113_297, r113_298, r113_303, r113_304, r113_309, r113_310, r113_252, r113_258, r113_264, r113_270, r113_276, r113_282, r113_288, r113_294, r113_300, r113_306, s3, q0, q1, q2]
      by_cases s4 : c s = 47
      · have g : tG (c s) := Or.inr (Or.inr (Or.inr (Or.inr (Or.inl s4))))
        rw [if_pos g]
        have q0 : ¬ (47 : Int32) = 59 := by decide
        have q1 : ¬ (47 : Int32) = 43 := by decide
        have q2 : ¬ (47 : Int32) = 45 := by decide
        have q3 : ¬ (47 : Int32) = 42 := by decide
        simp only [ite_not, ite_self, w8_nil, ok01, ite10, rf_rv, rf_ref, rf_cat, rf_lk2, rf_some, rf_none, w_add, w_cons, cr_int, cr_long, cr_ref, cr_null, is_ref, is_null, l2_int, l2_ref, l2_null, l2_none, ent_nil, ent_int, ent_ref, ent_null, ent_rf, ent_long, ok_0, ok_1, af_ret, af_void, List.tail_cons, List.tail_nil, Nat.reduceAdd, Nat.reduceLeDiff, not_false_eq_true, not_true_eq_false, and_self, and_true, true_and, ne_eq, or_true, true_or, or_false, false_or, eq_self, Nat.reduceEqDiff, ↓reduceIte, false_and, and_false, Nat.le_refl, Nat.zero_le, nz_1, nz_2, nz_3, nz_4, nz_5, nz_6, nz_8, nz_10, nz_12, nz_20, nz_30, nz_60, nz_100, mp_B, mp_Z, mp_S, mp_C, mp_K, mp_N, mp_L, mp_R, mp_I, mp_I0, mp_s, mp_s0, u2_ap, sp_isLedge, sp_isLadder, sp_isPerson, sp_isLiving, sp_isLot, sp_isThere, sp_isSpan, r113_249, r113_250, r113_255, r113_256, r113_261, r113_262, r113_267, r113_268, r113_273, r113_274, r113_279, r113_280, r113_285, r113_286, r113_291, r113_292, r113_297, r113_298, r113_303, r113_304, r113_309, r113_310, r113_252, r113_258, r113_264, r113_270, r113_276, r113_282, r113_288, r113_294, r113_300, r113_306, s4, q0, q1, q2, q3]
      by_cases s5 : c s = 40
      · have g : tG (c s) := Or.inr (Or.inr (Or.inr (Or.inr (Or.inr (Or.inl s5)))))
        rw [if_pos g]
        have q0 : ¬ (40 : Int32) = 59 := by decide
        have q1 : ¬ (40 : Int32) = 43 := by decide
        have q2 : ¬ (40 : Int32) = 45 := by decide
        have q3 : ¬ (40 : Int32) = 42 := by decide
        have q4 : ¬ (40 : Int32) = 47 := by decide
        simp only [ite_not, ite_self, w8_nil, ok01, ite10, rf_rv, rf_ref, rf_cat, rf_lk2, rf_some, rf_none, w_add, w_cons, cr_int, cr_long, cr_ref, cr_null, is_ref, is_null, l2_int, l2_ref, l2_null, l2_none, ent_nil, ent_int, ent_ref, ent_null, ent_rf, ent_long, ok_0, ok_1, af_ret, af_void, List.tail_cons, List.tail_nil, Nat.reduceAdd, Nat.reduceLeDiff, not_false_eq_true, not_true_eq_false, and_self, and_true, true_and, ne_eq, or_true, true_or, or_false, false_or, eq_self, Nat.reduceEqDiff, ↓reduceIte, false_and, and_false, Nat.le_refl, Nat.zero_le, nz_1, nz_2, nz_3, nz_4, nz_5, nz_6, nz_8, nz_10, nz_12, nz_20, nz_30, nz_60, nz_100, mp_B, mp_Z, mp_S, mp_C, mp_K, mp_N, mp_L, mp_R, mp_I, mp_I0, mp_s, mp_s0, u2_ap, sp_isLedge, sp_isLadder, sp_isPerson, sp_isLiving, sp_isLot, sp_isThere, sp_isSpan, r113_249, r113_250, r113_255, r113_256, r113_261, r113_262, r113_267, r113_268, r113_273, r113_274, r113_279, r113_280, r113_285, r113_286, r113_291, r113_292, r113_297, r113_298, r113_303, r113_304, r113_309, r113_310, r113_252, r113_258, r113_264, r113_270, r113_276, r113_282, r113_288, r113_294, r113_300, r113_306, s5, q0, q1, q2, q3, q4]
      by_cases s6 : c s = 41
      · have g : tG (c s) := Or.inr (Or.inr (Or.inr (Or.inr (Or.inr (Or.inr (Or.inl s6))))))
        rw [if_pos g]
        have q0 : ¬ (41 : Int32) = 59 := by decide
        have q1 : ¬ (41 : Int32) = 43 := by decide
        have q2 : ¬ (41 : Int32) = 45 := by decide
        have q3 : ¬ (41 : Int32) = 42 := by decide
        have q4 : ¬ (41 : Int32) = 47 := by decide
        have q5 : ¬ (41 : Int32) = 40 := by decide
        simp only [ite_not, ite_self, w8_nil, ok01, ite10, rf_rv, rf_ref, rf_cat, rf_lk2, rf_some, rf_none, w_add, w_cons, cr_int, cr_long, cr_ref, cr_null, is_ref, is_null, l2_int, l2_ref, l2_null, l2_none, ent_nil, ent_int, ent_ref, ent_null, ent_rf, ent_long, ok_0, ok_1, af_ret, af_void, List.tail_cons, List.tail_nil, Nat.reduceAdd, Nat.reduceLeDiff, not_false_eq_true, not_true_eq_false, and_self, and_true, true_and, ne_eq, or_true, true_or, or_false, false_or, eq_self, Nat.reduceEqDiff, ↓reduceIte, false_and, and_false, Nat.le_refl, Nat.zero_le, nz_1, nz_2, nz_3, nz_4, nz_5, nz_6, nz_8, nz_10, nz_12, nz_20, nz_30, nz_60, nz_100, mp_B, mp_Z, mp_S, mp_C, mp_K, mp_N, mp_L, mp_R, mp_I, mp_I0, mp_s, mp_s0, u2_ap, sp_isLedge, sp_isLadder, sp_isPerson, sp_isLiving, sp_isLot, sp_isThere, sp_isSpan, r113_249, r113_250, r113_255, r113_256, r113_261, r113_262, r113_267, r113_268, r113_273, r113_274, r113_279, r113_280, r113_285, r113_286, r113_291, r113_292, r113_297, r113_298, r113_303, r113_304, r113_309, r113_310, r113_252, r113_258, r113_264, r113_270, r113_276, r113_282, r113_288, r113_294, r113_300, r113_306, s6, q0, q1, q2, q3, q4, q5]
      by_cases s7 : c s = 60
      · have g : tG (c s) := Or.inr (Or.inr (Or.inr (Or.inr (Or.inr (Or.inr (Or.inr (Or.inl s7)))))))
        rw [if_pos g]
        have q0 : ¬ (60 : Int32) = 59 := by decide
        have q1 : ¬ (60 : Int32) = 43 := by decide
        have q2 : ¬ (60 : Int32) = 45 := by decide
        have q3 : ¬ (60 : Int32) = 42 := by decide
        have q4 : ¬ (60 : Int32) = 47 := by decide
        have q5 : ¬ (60 : Int32) = 40 := by decide
        have q6 : ¬ (60 : Int32) = 41 := by decide
        simp only [ite_not, ite_self, w8_nil, ok01, ite10, rf_rv, rf_ref, rf_cat, rf_lk2, rf_some, rf_none, w_add, w_cons, cr_int, cr_long, cr_ref, cr_null, is_ref, is_null, l2_int, l2_ref, l2_null, l2_none, ent_nil, ent_int, ent_ref, ent_null, ent_rf, ent_long, ok_0, ok_1, af_ret, af_void, List.tail_cons, List.tail_nil, Nat.reduceAdd, Nat.reduceLeDiff, not_false_eq_true, not_true_eq_false, and_self, and_true, true_and, ne_eq, or_true, true_or, or_false, false_or, eq_self, Nat.reduceEqDiff, ↓reduceIte, false_and, and_false, Nat.le_refl, Nat.zero_le, nz_1, nz_2, nz_3, nz_4, nz_5, nz_6, nz_8, nz_10, nz_12, nz_20, nz_30, nz_60, nz_100, mp_B, mp_Z, mp_S, mp_C, mp_K, mp_N, mp_L, mp_R, mp_I, mp_I0, mp_s, mp_s0, u2_ap, sp_isLedge, sp_isLadder, sp_isPerson, sp_isLiving, sp_isLot, sp_isThere, sp_isSpan, r113_249, r113_250, r113_255, r113_256, r113_261, r113_262, r113_267, r113_268, r113_273, r113_274, r113_279, r113_280, r113_285, r113_286, r113_291, r113_292, r113_297, r113_298, r113_303, r113_304, r113_309, r113_310, r113_252, r113_258, r113_264, r113_270, r113_276, r113_282, r113_288, r113_294, r113_300, r113_306, s7, q0, q1, q2, q3, q4, q5, q6]
      by_cases s8 : c s = 61
      · have g : tG (c s) := Or.inr (Or.inr (Or.inr (Or.inr (Or.inr (Or.inr (Or.inr (Or.inr (Or.inl s8))))))))
        rw [if_pos g]
        have q0 : ¬ (61 : Int32) = 59 := by decide
        have q1 : ¬ (61 : Int32) = 43 := by decide
        have q2 : ¬ (61 : Int32) = 45 := by decide
        have q3 : ¬ (61 : Int32) = 42 := by decide
        have q4 : ¬ (61 : Int32) = 47 := by decide
        have q5 : ¬ (61 : Int32) = 40 := by decide
        have q6 : ¬ (61 : Int32) = 41 := by decide
        have q7 : ¬ (61 : Int32) = 60 := by decide
        simp only [ite_not, ite_self, w8_nil, ok01, ite10, rf_rv, rf_ref, rf_cat, rf_lk2, rf_some, rf_none, w_add, w_cons, cr_int, cr_long, cr_ref, cr_null, is_ref, is_null, l2_int, l2_ref, l2_null, l2_none, ent_nil, ent_int, ent_ref, ent_null, ent_rf, ent_long, ok_0, ok_1, af_ret, af_void, List.tail_cons, List.tail_nil, Nat.reduceAdd, Nat.reduceLeDiff, not_false_eq_true, not_true_eq_false, and_self, and_true, true_and, ne_eq, or_true, true_or, or_false, false_or, eq_self, Nat.reduceEqDiff, ↓reduceIte, false_and, and_false, Nat.le_refl, Nat.zero_le, nz_1, nz_2, nz_3, nz_4, nz_5, nz_6, nz_8, nz_10, nz_12, nz_20, nz_30, nz_60, nz_100, mp_B, mp_Z, mp_S, mp_C, mp_K, mp_N, mp_L, mp_R, mp_I, mp_I0, mp_s, mp_s0, u2_ap, sp_isLedge, sp_isLadder, sp_isPerson, sp_isLiving, sp_isLot, sp_isThere, sp_isSpan, r113_249, r113_250, r113_255, r113_256, r113_261, r113_262, r113_267, r113_268, r113_273, r113_274, r113_279, r113_280, r113_285, r113_286, r113_291, r113_292, r113_297, r113_298, r113_303, r113_304, r113_309, r113_310, r113_252, r113_258, r113_264, r113_270, r113_276, r113_282, r113_288, r113_294, r113_300, r113_306, s8, q0, q1, q2, q3, q4, q5, q6, q7]
      by_cases s9 : c s = 62
      · have g : tG (c s) := Or.inr (Or.inr (Or.inr (Or.inr (Or.inr (Or.inr (Or.inr (Or.inr (Or.inr (s9)))))))))
        rw [if_pos g]
        have q0 : ¬ (62 : Int32) = 59 := by decide
        have q1 : ¬ (62 : Int32) = 43 := by decide
        have q2 : ¬ (62 : Int32) = 45 := by decide
        have q3 : ¬ (62 : Int32) = 42 := by decide
        have q4 : ¬ (62 : Int32) = 47 := by decide
        have q5 : ¬ (62 : Int32) = 40 := by decide
        have q6 : ¬ (62 : Int32) = 41 := by decide
        have q7 : ¬ (62 : Int32) = 60 := by decide
        have q8 : ¬ (62 : Int32) = 61 := by decide
        simp only [ite_not, ite_self, w8_nil, ok01, ite10, rf_rv, rf_ref, rf_cat, rf_lk2, rf_some, rf_none, w_add, w_cons, cr_int, cr_long, cr_ref, cr_null, is_ref, is_null, l2_int, l2_ref, l2_null, l2_none, ent_nil, ent_int, ent_ref, ent_null, ent_rf, ent_long, ok_0, ok_1, af_ret, af_void, List.tail_cons, List.tail_nil, Nat.reduceAdd, Nat.reduceLeDiff, not_false_eq_true, not_true_eq_false, and_self, and_true, true_and, ne_eq, or_true, true_or, or_false, false_or, eq_self, Nat.reduceEqDiff, ↓reduceIte, false_and, and_false, Nat.le_refl, Nat.zero_le, nz_1, nz_2, nz_3, nz_4, nz_5, nz_6, nz_8, nz_10, nz_12, nz_20, nz_30, nz_60, nz_100, mp_B, mp_Z, mp_S, mp_C, mp_K, mp_N, mp_L, mp_R, mp_I, mp_I0, mp_s, mp_s0, u2_ap, sp_isLedge, sp_isLadder, sp_isPerson, sp_isLiving, sp_isLot, sp_isThere, sp_isSpan, r113_249, r113_250, r113_255, r113_256, r113_261, r113_262, r113_267, r113_268, r113_273, r113_274, r113_279, r113_280, r113_285, r113_286, r113_291, r113_292, r113_297, r113_298, r113_303, r113_304, r113_309, r113_310, r113_252, r113_258, r113_264, r113_270, r113_276, r113_282, r113_288, r113_294, r113_300, r113_306, s9, q0, q1, q2, q3, q4, q5, q6, q7, q8]
      have g : ¬ tG (c s) := by
        rintro (e | e | e | e | e | e | e | e | e | e)
        · exact s0 e
        · exact s1 e
        · exact s2 e
        · exact s3 e
        · exact s4 e
        · exact s5 e
        · exact s6 e
        · exact s7 e
        · exact s8 e
        · exact s9 e
      rw [if_neg g]
      simp only [ite_not, ite_self, w8_nil, ok01, ite10, rf_rv, rf_ref, rf_cat, rf_lk2, rf_some, rf_none, w_add, w_cons, cr_int, cr_long, cr_ref, cr_null, is_ref, is_null, l2_int, l2_ref, l2_null, l2_none, ent_nil, ent_int, ent_ref, ent_null, ent_rf, ent_long, ok_0, ok_1, af_ret, af_void, List.tail_cons, List.tail_nil, Nat.reduceAdd, Nat.reduceLeDiff, not_false_eq_true, not_true_eq_false, and_self, and_true, true_and, ne_eq, or_true, true_or, or_false, false_or, eq_self, Nat.reduceEqDiff, ↓reduceIte, false_and, and_false, Nat.le_refl, Nat.zero_le, nz_1, nz_2, nz_3, nz_4, nz_5, nz_6, nz_8, nz_10, nz_12, nz_20, nz_30, nz_60, nz_100, mp_B, mp_Z, mp_S, mp_C, mp_K, mp_N, mp_L, mp_R, mp_I, mp_I0, mp_s, mp_s0, u2_ap, sp_isLedge, sp_isLadder, sp_isPerson, sp_isLiving, sp_isLot, sp_isThere, sp_isSpan, r113_249, r113_250, r113_255, r113_256, r113_261, r113_262, r113_267, r113_268, r113_273, r113_274, r113_279, r113_280, r113_285, r113_286, r113_291, r113_292, r113_297, r113_298, r113_303, r113_304, r113_309, r113_310, r113_313, r113_252, r113_258, r113_264, r113_270, r113_276, r113_282, r113_288, r113_294, r113_300, r113_306, s0, s1, s2, s3, s4, s5, s6, s7, s8, s9]
    simp only [ite_not, ite_self, w8_nil, ok01, ite10, rf_rv, rf_ref, rf_cat, rf_lk2, rf_some, rf_none, w_add, w_cons, cr_int, cr_long, cr_ref, cr_null, is_ref, is_null, l2_int, l2_ref, l2_null, l2_none, ent_nil, ent_int, ent_ref, ent_null, ent_rf, ent_long, ok_0, ok_1, af_ret, af_void, List.tail_cons, List.tail_nil, Nat.reduceAdd, Nat.reduceLeDiff, not_false_eq_true, not_true_eq_false, and_self, and_true, true_and, ne_eq, or_true, true_or, or_false, false_or, eq_self, Nat.reduceEqDiff, ↓reduceIte, false_and, and_false, Nat.le_refl, Nat.zero_le, nz_1, nz_2, nz_3, nz_4, nz_5, nz_6, nz_8, nz_10, nz_12, nz_20, nz_30, nz_60, nz_100, mp_B, mp_Z, mp_S, mp_C, mp_K, mp_N, mp_L, mp_R, mp_I, mp_I0, mp_s, mp_s0, u2_ap, sp_isLedge, sp_isLadder, sp_isPerson, sp_isLiving, sp_isLot, sp_isThere, sp_isSpan, ms_K q, ms_B q, r113_58, r113_59, r113_63, r113_64, r113_65, r113_68, r113_71, r113_72, r113_60, r113_75, r113_152, r113_153, r113_156, r113_239, r113_240, r113_241, r113_244, r113_245, r113_246, c1, c115, c117, c22, c33, at2, nat_succ, sign]
    by_cases g : tG (c s)
    · simp only [ite_not, ite_self, w8_nil, ok01, ite10, rf_rv, rf_ref, rf_cat, rf_lk2, rf_some, rf_none, w_add, w_cons, cr_int, cr_long, cr_ref, cr_null, is_ref, is_null, l2_int, l2_ref, l2_null, l2_none, ent_nil, ent_int, ent_ref, ent_null, ent_rf, ent_long, ok_0, ok_1, af_ret, af_void, List.tail_cons, List.tail_nil, Nat.reduceAdd, Nat.reduceLeDiff, not_false_eq_true, not_true_eq_false, and_self, and_true, true_and, ne_eq, or_true, true_or, or_false, false_or, eq_self, Nat.reduceEqDiff, ↓reduceIte, false_and, and_false, Nat.le_refl, Nat.zero_le, nz_1, nz_2, nz_3, nz_4, nz_5, nz_6, nz_8, nz_10, nz_12, nz_20, nz_30, nz_60, nz_100, mp_B, mp_Z, mp_S, mp_C, mp_K, mp_N, mp_L, mp_R, mp_I, mp_I0, mp_s, mp_s0, u2_ap, sp_isLedge, sp_isLadder, sp_isPerson, sp_isLiving, sp_isLot, sp_isThere, sp_isSpan, ms_K q, ms_B q, r113_314, r113_315, r113_316, r113_320, r113_321, r113_324, r113_325, r113_328, r113_317, g]
    · simp only [ite_not, ite_self, w8_nil, ok01, ite10, rf_rv, rf_ref, rf_cat, rf_lk2, rf_some, rf_none, w_add, w_cons, cr_int, cr_long, cr_ref, cr_null, is_ref, is_null, l2_int, l2_ref, l2_null, l2_none, ent_nil, ent_int, ent_ref, ent_null, ent_rf, ent_long, ok_0, ok_1, af_ret, af_void, List.tail_cons, List.tail_nil, Nat.reduceAdd, Nat.reduceLeDiff, not_false_eq_true, not_true_eq_false, and_self, and_true, true_and, ne_eq, or_true, true_or, or_false, false_or, eq_self, Nat.reduceEqDiff, ↓reduceIte, false_and, and_false, Nat.le_refl, Nat.zero_le, nz_1, nz_2, nz_3, nz_4, nz_5, nz_6, nz_8, nz_10, nz_12, nz_20, nz_30, nz_60, nz_100, mp_B, mp_Z, mp_S, mp_C, mp_K, mp_N, mp_L, mp_R, mp_I, mp_I0, mp_s, mp_s0, u2_ap, sp_isLedge, sp_isLadder, sp_isPerson, sp_isLiving, sp_isLot, sp_isThere, sp_isSpan, ms_K q, ms_B q, r113_314, r113_315, r113_316, r113_320, r113_321, r113_324, r113_325, r113_328, r113_317, g]
  · rw [u2_ap, if_neg (by decide), u2_ap, if_pos ⟨rfl, rfl⟩]
  · rw [u2_ap, if_pos ⟨rfl, rfl⟩]
  · rw [u2_ap, if_neg (by decide), u2_ap, if_neg (by decide)]; exact ta2
end M113C
