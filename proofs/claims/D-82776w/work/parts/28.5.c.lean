/-! the component's contracts, 24: lots are looked at -/
set_option maxRecDepth 100000
section C24
variable {d : Nat} {h : xm_H} {D : xp_D} {F : xp_F}
def sq_set1 (F : xp_F) (i l : Nat) (s : Int32) : Int32 := s ||| (if F 52 (12 * i + l) ≤ 0 then (0 : Int32) else 1 <<< (Int32.ofNat l &&& 31))
def sq_setC (F : xp_F) (i : Nat) : Int32 := xp_it (sq_set1 F i) 0 12 0
/-- the lots' sets, cutters, ropes are as the model has them -/
def LSt (D : xp_D) (F : xp_F) : Prop := ∀ i, i < xd_n D 2 → match xd_m D i with
  | none => F 53 i = sq_setC F i
  | some (a, b) => F 53 i = F 53 a ||| F 53 b ∧ F 47 i = -1 ∧ F 48 i = -1
theorem c220 (q : CS h D) {i : Nat} (hi : i < xd_n D 2) (em : xd_m D i = none) : xm_met d 220 [.ref (xd_A D 4 i)] (xp_c h D F) = some (.inl (some (.int (sq_setC F i))), xp_c h D F) := by
  obtain ⟨o0, -, -, o3, -, o5, o6, o7, o8⟩ := cs_C q hi em
  have o1 := cs_I q hi
  obtain ⟨t, e, -⟩ := xp_loop (P := fun l s t => xm_run d 220 4 (some (.ref (xd_A D 4 i)) :: some (.int s) :: some (.int (Int32.ofNat l)) :: t) [] (xp_c h D F)) (n := 12) (fun _ _ => True) (f := sq_set1 F i) (fun l s t hl _ => by
    have c0 : ¬ (12 : Int32) ≤ Int32.ofNat l := (lp_k (x := 12) (N := 12) ⟨by decide, by decide⟩ (by decide) hl).2.2.1
    obtain ⟨i1, e1⟩ := in_nat hl (by decide)
    have o9 := o8 l hl
    refine ⟨t, ?_, trivial⟩
    show xm_run _ _ _ _ _ _ = _
    rw [r220_4]
    simp only [ite_not, ite_self, w8_nil, ok01, ite10, rf_rv, rf_ref, rf_cat, rf_lk2, rf_some, rf_none, w_add, w_cons, cr_int, cr_long, cr_ref, cr_null, is_ref, is_null, l2_int, l2_ref, l2_null, l2_none, ent_nil, ent_int, ent_ref, ent_null, ent_rf, ent_long, ok_0, ok_1, af_ret, af_void, List.tail_cons, List.tail_nil, Nat.reduceAdd, Nat.reduceLeDiff, not_false_eq_true, not_true_eq_false, and_self, and_true, true_and, ne_eq, or_true, true_or, or_false, false_or, eq_self, Nat.reduceEqDiff, ↓reduceIte, false_and, and_false, Nat.le_refl, Nat.zero_le, nz_1, nz_2, nz_3, nz_4, nz_5, nz_6, nz_8, nz_10, nz_12, nz_20, nz_30, nz_60, nz_100, mc_B, mc_Z, mc_S, mc_C, mc_K, mc_N, mc_R, mc_I, mc_L, va_Is, va_Ls, va_us, va_iss, u2_ap, sp_isLedge, sp_isLadder, sp_isPerson, sp_isLiving, sp_isLot, sp_isThere, sp_isSpan, r220_5, r220_10, r220_11, r220_12, r220_15, r220_16, r220_20, r220_21, r220_22, r220_23, r220_26, r220_7, r220_17, c0, i1, e1, o0, o3, o5, o6, o7, o9]
    simp only [jn]
    simp only [ite_not, ite_self, w8_nil, ok01, ite10, rf_rv, rf_ref, rf_cat, rf_lk2, rf_some, rf_none, w_add, w_cons, cr_int, cr_long, cr_ref, cr_null, is_ref, is_null, l2_int, l2_ref, l2_null, l2_none, ent_nil, ent_int, ent_ref, ent_null, ent_rf, ent_long, ok_0, ok_1, af_ret, af_void, List.tail_cons, List.tail_nil, Nat.reduceAdd, Nat.reduceLeDiff, not_false_eq_true, not_true_eq_false, and_self, and_true, true_and, ne_eq, or_true, true_or, or_false, false_or, eq_self, Nat.reduceEqDiff, ↓reduceIte, false_and, and_false, Nat.le_refl, Nat.zero_le, nz_1, nz_2, nz_3, nz_4, nz_5, nz_6, nz_8, nz_10, nz_12, nz_20, nz_30, nz_60, nz_100, r220_27, r220_28, r220_29, r220_32, nat_succ]
    rfl) 12 0 0 [] (Nat.zero_add _) trivial
  have cz : (12 : Int32) ≤ Int32.ofNat 12 := by decide
  rw [show Int32.ofNat 0 = (0 : Int32) from rfl] at e
  unfold xm_met
  simp only [ite_not, ite_self, w8_nil, ok01, ite10, rf_rv, rf_ref, rf_cat, rf_lk2, rf_some, rf_none, w_add, w_cons, cr_int, cr_long, cr_ref, cr_null, is_ref, is_null, l2_int, l2_ref, l2_null, l2_none, ent_nil, ent_int, ent_ref, ent_null, ent_rf, ent_long, ok_0, ok_1, af_ret, af_void, List.tail_cons, List.tail_nil, Nat.reduceAdd, Nat.reduceLeDiff, not_false_eq_true, not_true_eq_false, and_self, and_true, true_and, ne_eq, or_true, true_or, or_false, false_or, eq_self, Nat.reduceEqDiff, ↓reduceIte, false_and, and_false, Nat.le_refl, Nat.zero_le, nz_1, nz_2, nz_3, nz_4, nz_5, nz_6, nz_8, nz_10, nz_12, nz_20, nz_30, nz_60, nz_100, r220_0, r220_1, r220_2, r220_3]
  rw [e, r220_4]
  simp only [ite_not, ite_self, w8_nil, ok01, ite10, rf_rv, rf_ref, rf_cat, rf_lk2, rf_some, rf_none, w_add, w_cons, cr_int, cr_long, cr_ref, cr_null, is_ref, is_null, l2_int, l2_ref, l2_null, l2_none, ent_nil, ent_int, ent_ref, ent_null, ent_rf, ent_long, ok_0, ok_1, af_ret, af_void, List.tail_cons, List.tail_nil, Nat.reduceAdd, Nat.reduceLeDiff, not_false_eq_true, not_true_eq_false, and_self, and_true, true_and, ne_eq, or_true, true_or, or_false, false_or, eq_self, Nat.reduceEqDiff, ↓reduceIte, false_and, and_false, Nat.le_refl, Nat.zero_le, nz_1, nz_2, nz_3, nz_4, nz_5, nz_6, nz_8, nz_10, nz_12, nz_20, nz_30, nz_60, nz_100, r220_5, r220_7, r220_35, r220_36, cz]
  rfl
def ms (D : xp_D) (i : Nat) : Nat := match xd_m D i with
  | none => 220
  | some _ => 224
theorem t224_4 (q : CS h D) {i : Nat} (hi : i < xd_n D 2) {ls : List (Option Value)} {st : List Value} (hw : xm_w st ≤ 8) : xm_run (d + 1) 224 4 ls (.ref (xd_A D 4 i) :: st) (xp_c h D F) = xm_aft (xm_run (d + 1) 224) 224 4 ls st (xm_met d (ms D i) [.ref (xd_A D 4 i)] (xp_c h D F)) := by
  have e1 : xm_w [Value.ref (xd_A D 4 i)] ≤ 1 := by rw [w_cons]; exact Nat.le_refl _
  unfold ms
  cases em : xd_m D i with
  | none => exact r224_4k20 (by rw [mc_K]; exact (cs_C q hi em).1) hw (by omega)
  | some x => exact r224_4k21 (by rw [mc_K]; exact (cs_M q hi (show xd_m D i = some (x.1, x.2) from em)).1) hw e1
theorem t224_11 (q : CS h D) {i : Nat} (hi : i < xd_n D 2) {ls : List (Option Value)} {st : List Value} (hw : xm_w st ≤ 8) : xm_run (d + 1) 224 11 ls (.ref (xd_A D 4 i) :: st) (xp_c h D F) = xm_aft (xm_run (d + 1) 224) 224 11 ls st (xm_met d (ms D i) [.ref (xd_A D 4 i)] (xp_c h D F)) := by
  have e1 : xm_w [Value.ref (xd_A D 4 i)] ≤ 1 := by rw [w_cons]; exact Nat.le_refl _
  unfold ms
  cases em : xd_m D i with
  | none => exact r224_11k20 (by rw [mc_K]; exact (cs_C q hi em).1) hw (by omega)
  | some x => exact r224_11k21 (by rw [mc_K]; exact (cs_M q hi (show xd_m D i = some (x.1, x.2) from em)).1) hw e1
theorem c_set (q : CS h D) (hL : LSt D F) : ∀ (n i : Nat), i < n → i < xd_n D 2 → xm_met (d + n) (ms D i) [.ref (xd_A D 4 i)] (xp_c h D F) = some (.inl (some (.int (F 53 i))), xp_c h D F) := by
  intro n
  induction n with
  | zero => exact fun i h => absurd h (Nat.not_lt_zero _)
  | succ n ih =>
    intro i hin hi
    have hl := hL i hi
    cases em : xd_m D i with
    | none =>
      have : ms D i = 220 := by unfold ms; rw [em]
      rw [em] at hl
      rw [this, show F 53 i = sq_setC F i from hl]
      exact c220 q hi em
    | some x =>
      obtain ⟨a, b⟩ := x
      have e1 : ms D i = 224 := by unfold ms; rw [em]
      rw [em] at hl
      obtain ⟨o1, o2, o3, o4, o5, o6⟩ := cs_M q hi em
      have m1 := ih a (by omega) (by omega)
      have m2 := ih b (by omega) (by omega)
      rw [e1, show F 53 i = F 53 a ||| F 53 b from hl.1]
      unfold xm_met
      rw [show d + (n + 1) = d + n + 1 from rfl]
      simp only [ite_not, ite_self, w8_nil, ok01, ite10, rf_rv, rf_ref, rf_cat, rf_lk2, rf_some, rf_none, w_add, w_cons, cr_int, cr_long, cr_ref, cr_null, is_ref, is_null, l2_int, l2_ref, l2_null, l2_none, ent_nil, ent_int, ent_ref, ent_null, ent_rf, ent_long, ok_0, ok_1, af_ret, af_void, List.tail_cons, List.tail_nil, Nat.reduceAdd, Nat.reduceLeDiff, not_false_eq_true, not_true_eq_false, and_self, and_true, true_and, ne_eq, or_true, true_or, or_false, false_or, eq_self, Nat.reduceEqDiff, ↓reduceIte, false_and, and_false, Nat.le_refl, Nat.zero_le, nz_1, nz_2, nz_3, nz_4, nz_5, nz_6, nz_8, nz_10, nz_12, nz_20, nz_30, nz_60, nz_100, mc_B, mc_Z, mc_S, mc_C, mc_K, mc_N, mc_R, mc_I, mc_L, va_Is, va_Ls, va_us, va_iss, u2_ap, sp_isLedge, sp_isLadder, sp_isPerson, sp_isLiving, sp_isLot, sp_isThere, sp_isSpan, r224_0, r224_1, o1, o4]
      rw [t224_4 q (show a < xd_n D 2 by omega) (by decide), m1]
      simp only [ite_not, ite_self, w8_nil, ok01, ite10, rf_rv, rf_ref, rf_cat, rf_lk2, rf_some, rf_none, w_add, w_cons, cr_int, cr_long, cr_ref, cr_null, is_ref, is_null, l2_int, l2_ref, l2_null, l2_none, ent_nil, ent_int, ent_ref, ent_null, ent_rf, ent_long, ok_0, ok_1, af_ret, af_void, List.tail_cons, List.tail_nil, Nat.reduceAdd, Nat.reduceLeDiff, not_false_eq_true, not_true_eq_false, and_self, and_true, true_and, ne_eq, or_true, true_or, or_false, false_or, eq_self, Nat.reduceEqDiff, ↓reduceIte, false_and, and_false, Nat.le_refl, Nat.zero_le, nz_1, nz_2, nz_3, nz_4, nz_5, nz_6, nz_8, nz_10, nz_12, nz_20, nz_30, nz_60, nz_100, mc_B, mc_Z, mc_S, mc_C, mc_K, mc_N, mc_R, mc_I, mc_L, va_Is, va_Ls, va_us, va_iss, u2_ap, sp_isLedge, sp_isLadder, sp_isPerson, sp_isLiving, sp_isLot, sp_isThere, sp_isSpan, r224_7, r224_8, o1, o5]
      rw [t224_11 q (show b < xd_n D 2 by omega) (by simp only [w_cons, cr_int]; decide), m2]
      simp only [ite_not, ite_self, w8_nil, ok01, ite10, rf_rv, rf_ref, rf_cat, rf_lk2, rf_some, rf_none, w_add, w_cons, cr_int, cr_long, cr_ref, cr_null, is_ref, is_null, l2_int, l2_ref, l2_null, l2_none, ent_nil, ent_int, ent_ref, ent_null, ent_rf, ent_long, ok_0, ok_1, af_ret, af_void, List.tail_cons, List.tail_nil, Nat.reduceAdd, Nat.reduceLeDiff, not_false_eq_true, not_true_eq_false, and_self, and_true, true_and, ne_eq, or_true, true_or, or_false, false_or, eq_self, Nat.reduceEqDiff, ↓reduceIte, false_and, and_false, Nat.le_refl, Nat.zero_le, nz_1, nz_2, nz_3, nz_4, nz_5, nz_6, nz_8, nz_10, nz_12, nz_20, nz_30, nz_60, nz_100, r224_14, r224_15]
theorem t50_107 (q : CS h D) {i : Nat} (hi : i < xd_n D 2) {ls : List (Option Value)} : xm_run (d + 1) 50 107 ls [.ref (xd_A D 4 i)] (xp_c h D F) = xm_aft (xm_run (d + 1) 50) 50 107 ls [] (xm_met d (ms D i) [.ref (xd_A D 4 i)] (xp_c h D F)) := by
  have e1 : xm_w [Value.ref (xd_A D 4 i)] ≤ 1 := by rw [w_cons]; exact Nat.le_refl _
  unfold ms
  cases em : xd_m D i with
  | none => exact r50_107k20 (by rw [mc_K]; exact (cs_C q hi em).1) (by decide) (by omega)
  | some x => exact r50_107k21 (by rw [mc_K]; exact (cs_M q hi (show xd_m D i = some (x.1, x.2) from em)).1) (by decide) e1
theorem t50_97 (q : CS h D) (hL : LSt D F) {i : Nat} (hi : i < xd_n D 2) {ls : List (Option Value)} : xm_run (d + 1) 50 97 ls [.ref (xd_A D 4 i)] (xp_c h D F) = xm_run (d + 1) 50 100 ls [.int (F 47 i)] (xp_c h D F) := by
  have e1 : xm_w [Value.ref (xd_A D 4 i)] ≤ 1 := by rw [w_cons]; exact Nat.le_refl _
  have hl := hL i hi
  cases em : xd_m D i with
  | none =>
    obtain ⟨o1, o2, -⟩ := cs_C q hi em
    have m : xm_met d 218 [.ref (xd_A D 4 i)] (xp_c h D F) = some (.inl (some (.int (F 47 i))), xp_c h D F) := by
      unfold xm_met
      simp only [ite_not, ite_self, w8_nil, ok01, ite10, rf_rv, rf_ref, rf_cat, rf_lk2, rf_some, rf_none, w_add, w_cons, cr_int, cr_long, cr_ref, cr_null, is_ref, is_null, l2_int, l2_ref, l2_null, l2_none, ent_nil, ent_int, ent_ref, ent_null, ent_rf, ent_long, ok_0, ok_1, af_ret, af_void, List.tail_cons, List.tail_nil, Nat.reduceAdd, Nat.reduceLeDiff, not_false_eq_true, not_true_eq_false, and_self, and_true, true_and, ne_eq, or_true, true_or, or_false, false_or, eq_self, Nat.reduceEqDiff, ↓reduceIte, false_and, and_false, Nat.le_refl, Nat.zero_le, nz_1, nz_2, nz_3, nz_4, nz_5, nz_6, nz_8, nz_10, nz_12, nz_20, nz_30, nz_60, nz_100, mc_B, mc_Z, mc_S, mc_C, mc_K, mc_N, mc_R, mc_I, mc_L, va_Is, va_Ls, va_us, va_iss, u2_ap, sp_isLedge, sp_isLadder, sp_isPerson, sp_isLiving, sp_isLot, sp_isThere, sp_isSpan, r218_0, r218_1, r218_4, o1, o2]
    rw [r50_97k20 (by rw [mc_K]; exact o1) (by decide) e1, m]
    rfl
  | some x =>
    rw [em] at hl
    have m : xm_met d 215 [.ref (xd_A D 4 i)] (xp_c h D F) = some (.inl (some (.int (F 47 i))), xp_c h D F) := by
      rw [show F 47 i = -1 from hl.2.1]
      unfold xm_met
      simp only [ite_not, ite_self, w8_nil, ok01, ite10, rf_rv, rf_ref, rf_cat, rf_lk2, rf_some, rf_none, w_add, w_cons, cr_int, cr_long, cr_ref, cr_null, is_ref, is_null, l2_int, l2_ref, l2_null, l2_none, ent_nil, ent_int, ent_ref, ent_null, ent_rf, ent_long, ok_0, ok_1, af_ret, af_void, List.tail_cons, List.tail_nil, Nat.reduceAdd, Nat.reduceLeDiff, not_false_eq_true, not_true_eq_false, and_self, and_true, true_and, ne_eq, or_true, true_or, or_false, false_or, eq_self, Nat.reduceEqDiff, ↓reduceIte, false_and, and_false, Nat.le_refl, Nat.zero_le, nz_1, nz_2, nz_3, nz_4, nz_5, nz_6, nz_8, nz_10, nz_12, nz_20, nz_30, nz_60, nz_100, r215_0, r215_1]
    rw [r50_97k21 (by rw [mc_K]; exact (cs_M q hi (show xd_m D i = some (x.1, x.2) from em)).1) (by decide) e1, m]
    rfl
theorem t50_102 (q : CS h D) (hL : LSt D F) {i : Nat} (hi : i < xd_n D 2) {ls : List (Option Value)} : xm_run (d + 1) 50 102 ls [.ref (xd_A D 4 i)] (xp_c h D F) = xm_run (d + 1) 50 105 ls [.int (F 48 i)] (xp_c h D F) := by
  have e1 : xm_w [Value.ref (xd_A D 4 i)] ≤ 1 := by rw [w_cons]; exact Nat.le_refl _
  have hl := hL i hi
  cases em : xd_m D i with
  | none =>
    obtain ⟨o1, -, o2, -⟩ := cs_C q hi em
    have m : xm_met d 219 [.ref (xd_A D 4 i)] (xp_c h D F) = some (.inl (some (.int (F 48 i))), xp_c h D F) := by
      unfold xm_met
      simp only [ite_not, ite_self, w8_nil, ok01, ite10, rf_rv, rf_ref, rf_cat, rf_lk2, rf_some, rf_none, w_add, w_cons, cr_int, cr_long, cr_ref, cr_null, is_ref, is_null, l2_int, l2_ref, l2_null, l2_none, ent_nil, ent_int, ent_ref, ent_null, ent_rf, ent_long, ok_0, ok_1, af_ret, af_void, List.tail_cons, List.tail_nil, Nat.reduceAdd, Nat.reduceLeDiff, not_false_eq_true, not_true_eq_false, and_self, and_true, true_and, ne_eq, or_true, true_or, or_false, false_or, eq_self, Nat.reduceEqDiff, ↓reduceIte, false_and, and_false, Nat.le_refl, Nat.zero_le, nz_1, nz_2, nz_3, nz_4, nz_5, nz_6, nz_8, nz_10, nz_12, nz_20, nz_30, nz_60, nz_100, mc_B, mc_Z, mc_S, mc_C, mc_K, mc_N, mc_R, mc_I, mc_L, va_Is, va_Ls, va_us, va_iss, u2_ap, sp_isLedge, sp_isLadder, sp_isPerson, sp_isLiving, sp_isLot, sp_isThere, sp_isSpan, r219_0, r219_1, r219_4, o1, o2]
    rw [r50_102k20 (by rw [mc_K]; exact o1) (by decide) e1, m]
    rfl
  | some x =>
    rw [em] at hl
    have m : xm_met d 216 [.ref (xd_A D 4 i)] (xp_c h D F) = some (.inl (some (.int (F 48 i))), xp_c h D F) := by
      rw [show F 48 i = -1 from hl.2.2]
      unfold xm_met
      simp only [ite_not, ite_self, w8_nil, ok01, ite10, rf_rv, rf_ref, rf_cat, rf_lk2, rf_some, rf_none, w_add, w_cons, cr_int, cr_long, cr_ref, cr_null, is_ref, is_null, l2_int, l2_ref, l2_null, l2_none, ent_nil, ent_int, ent_ref, ent_null, ent_rf, ent_long, ok_0, ok_1, af_ret, af_void, List.tail_cons, List.tail_nil, Nat.reduceAdd, Nat.reduceLeDiff, not_false_eq_true, not_true_eq_false, and_self, and_true, true_and, ne_eq, or_true, true_or, or_false, false_or, eq_self, Nat.reduceEqDiff, ↓reduceIte, false_and, and_false, Nat.le_refl, Nat.zero_le, nz_1, nz_2, nz_3, nz_4, nz_5, nz_6, nz_8, nz_10, nz_12, nz_20, nz_30, nz_60, nz_100, r216_0, r216_1]
    rw [r50_102k21 (by rw [mc_K]; exact (cs_M q hi (show xd_m D i = some (x.1, x.2) from em)).1) (by decide) e1, m]
    rfl
theorem c50 (q : CS h D) (hn : CN D F) (hL : LSt D F) {p w : Int32} : xm_met (d + 41) 50 [.ref (xd_X D), .int p, .int w] (xp_c h D F) = some (.inl (some (.int (sp_lot F p w))), xp_c h D F) := by
  have e := le_pred (l := p) (hn.i q).1
  have elt : (p < F 0 68) = ¬ F 0 68 ≤ p := propext Int32.not_le.symm
  unfold xm_met sp_lot
  rw [show d + 41 = d + 40 + 1 from rfl]
  by_cases c1 : p < 0
  · have c3 : ¬ 0 ≤ p := Int32.not_le.mpr c1
    rw [if_neg (fun z => c3 z.1)]
    simp only [ite_not, ite_self, w8_nil, ok01, ite10, rf_rv, rf_ref, rf_cat, rf_lk2, rf_some, rf_none, w_add, w_cons, cr_int, cr_long, cr_ref, cr_null, is_ref, is_null, l2_int, l2_ref, l2_null, l2_none, ent_nil, ent_int, ent_ref, ent_null, ent_rf, ent_long, ok_0, ok_1, af_ret, af_void, List.tail_cons, List.tail_nil, Nat.reduceAdd, Nat.reduceLeDiff, not_false_eq_true, not_true_eq_false, and_self, and_true, true_and, ne_eq, or_true, true_or, or_false, false_or, eq_self, Nat.reduceEqDiff, ↓reduceIte, false_and, and_false, Nat.le_refl, Nat.zero_le, nz_1, nz_2, nz_3, nz_4, nz_5, nz_6, nz_8, nz_10, nz_12, nz_20, nz_30, nz_60, nz_100, mc_B, mc_Z, mc_S, mc_C, mc_K, mc_N, mc_R, mc_I, mc_L, va_Is, va_Ls, va_us, va_iss, u2_ap, sp_isLedge, sp_isLadder, sp_isPerson, sp_isLiving, sp_isLot, sp_isThere, sp_isSpan, cs_K q, cs_B q, mc_s (cs_inj q), cs_f37 q, r50_0, r50_4, r50_5, r50_6, r50_12, r50_13, r50_1, r50_9, c1]
  have c3 : 0 ≤ p := Int32.not_lt.mp c1
  by_cases c4 : F 0 68 ≤ p
  · rw [if_neg (fun z => e.mp z.2 c4)]
    simp only [ite_not, ite_self, w8_nil, ok01, ite10, rf_rv, rf_ref, rf_cat, rf_lk2, rf_some, rf_none, w_add, w_cons, cr_int, cr_long, cr_ref, cr_null, is_ref, is_null, l2_int, l2_ref, l2_null, l2_none, ent_nil, ent_int, ent_ref, ent_null, ent_rf, ent_long, ok_0, ok_1, af_ret, af_void, List.tail_cons, List.tail_nil, Nat.reduceAdd, Nat.reduceLeDiff, not_false_eq_true, not_true_eq_false, and_self, and_true, true_and, ne_eq, or_true, true_or, or_false, false_or, eq_self, Nat.reduceEqDiff, ↓reduceIte, false_and, and_false, Nat.le_refl, Nat.zero_le, nz_1, nz_2, nz_3, nz_4, nz_5, nz_6, nz_8, nz_10, nz_12, nz_20, nz_30, nz_60, nz_100, mc_B, mc_Z, mc_S, mc_C, mc_K, mc_N, mc_R, mc_I, mc_L, va_Is, va_Ls, va_us, va_iss, u2_ap, sp_isLedge, sp_isLadder, sp_isPerson, sp_isLiving, sp_isLot, sp_isThere, sp_isSpan, cs_K q, cs_B q, mc_s (cs_inj q), cs_f37 q, r50_0, r50_4, r50_5, r50_6, r50_12, r50_13, r50_1, r50_9, c1, elt, c4]
  have c5 : sp_isLot F p := ⟨c3, e.mpr c4⟩
  rw [if_pos c5]
  have i1 := in_cnt (hn.i q) c5
  have hi := hn.ii q c5
  have o1 := cs_I q hi
  have o2 := cs_is q hi
  have i40 := (cs_n q).2.2.1
  have s := @c_set d h D F q hL 40 p.toNatClampNeg (by omega) hi
  simp only [ite_not, ite_self, w8_nil, ok01, ite10, rf_rv, rf_ref, rf_cat, rf_lk2, rf_some, rf_none, w_add, w_cons, cr_int, cr_long, cr_ref, cr_null, is_ref, is_null, l2_int, l2_ref, l2_null, l2_none, ent_nil, ent_int, ent_ref, ent_null, ent_rf, ent_long, ok_0, ok_1, af_ret, af_void, List.tail_cons, List.tail_nil, Nat.reduceAdd, Nat.reduceLeDiff, not_false_eq_true, not_true_eq_false, and_self, and_true, true_and, ne_eq, or_true, true_or, or_false, false_or, eq_self, Nat.reduceEqDiff, ↓reduceIte, false_and, and_false, Nat.le_refl, Nat.zero_le, nz_1, nz_2, nz_3, nz_4, nz_5, nz_6, nz_8, nz_10, nz_12, nz_20, nz_30, nz_60, nz_100, mc_B, mc_Z, mc_S, mc_C, mc_K, mc_N, mc_R, mc_I, mc_L, va_Is, va_Ls, va_us, va_iss, u2_ap, sp_isLedge, sp_isLadder, sp_isPerson, sp_isLiving, sp_isLot, sp_isThere, sp_isSpan, cs_K q, cs_B q, mc_s (cs_inj q), cs_f37 q, cs_f36 q, r50_0, r50_4, r50_5, r50_6, r50_12, r50_13, r50_14, r50_15, r50_18, r50_19, r50_20, r50_21, r50_1, r50_9, c1, elt, c4, i1, o1]
  simp only [ite_not, ite_self, w8_nil, ok01, ite10, rf_rv, rf_ref, rf_cat, rf_lk2, rf_some, rf_none, w_add, w_cons, cr_int, cr_long, cr_ref, cr_null, is_ref, is_null, l2_int, l2_ref, l2_null, l2_none, ent_nil, ent_int, ent_ref, ent_null, ent_rf, ent_long, ok_0, ok_1, af_ret, af_void, List.tail_cons, List.tail_nil, Nat.reduceAdd, Nat.reduceLeDiff, not_false_eq_true, not_true_eq_false, and_self, and_true, true_and, ne_eq, or_true, true_or, or_false, false_or, eq_self, Nat.reduceEqDiff, ↓reduceIte, false_and, and_false, Nat.le_refl, Nat.zero_le, nz_1, nz_2, nz_3, nz_4, nz_5, nz_6, nz_8, nz_10, nz_12, nz_20, nz_30, nz_60, nz_100, mc_B, mc_Z, mc_S, mc_C, mc_K, mc_N, mc_R, mc_I, mc_L, va_Is, va_Ls, va_us, va_iss, u2_ap, sp_isLedge, sp_isLadder, sp_isPerson, sp_isLiving, sp_isLot, sp_isThere, sp_isSpan, cs_K q, cs_B q, mc_s (cs_inj q), r50_68, r50_69, r50_72, r50_73, r50_74, r50_77, r50_78, r50_79, r50_82, r50_83, r50_84, r50_90, r50_91, r50_94, r50_95, r50_22, r50_87, r50_96, t50_97 q hL hi, r50_100, r50_101, t50_102 q hL hi, r50_105, r50_106, t50_107 q hi, s, r50_110, r50_111, r50_112, r50_115, r50_116, r50_117, o1, o2, xm_sw]
  repeat' split
  all_goals first | rfl | contradiction
end C24
