/-! lines' objects come -/
set_option maxRecDepth 100000
section RDLN
variable {d : Nat} {h h' h2 : xm_H} {D : xp_D} {F G : xp_F} {c : Nat → Int32} {T : Nat} {z s : Nat}
theorem is10 : ∀ k, (k = 12 ∨ k = 14 ∨ k = 15 ∨ k = 16 ∨ k = 17) → xm_is 10 k = true := by
  intro k h
  rcases h with rfl | rfl | rfl | rfl | rfl <;> decide
theorem is14 : ∀ k, (k = 15 ∨ k = 16 ∨ k = 17) → xm_is 14 k = true := by
  intro k h
  rcases h with rfl | rfl | rfl <;> decide
theorem c197 {a : Nat} {x y : Option Nat} (hk : xm_is 10 (xm_K h a) = true) (hB : xm_B h ≤ a) : xm_met (d + 1) 197 [.ref a, va_rf x, va_rf y] h = some (.inl none, xm_sR (xm_sR h a 0 x) a 1 y) := by
  unfold xm_met
  simp only [ite_not, ite_self, w8_nil, ok01, ite10, rf_rv, rf_ref, rf_cat, rf_lk2, rf_some, rf_none, w_add, w_cons, cr_int, cr_long, cr_ref, cr_null, is_ref, is_null, l2_int, l2_ref, l2_null, l2_none, ent_nil, ent_int, ent_ref, ent_null, ent_rf, ent_long, ok_0, ok_1, af_ret, af_void, List.tail_cons, List.tail_nil, Nat.reduceAdd, Nat.reduceLeDiff, not_false_eq_true, not_true_eq_false, and_self, and_true, true_and, ne_eq, or_true, true_or, or_false, false_or, eq_self, Nat.reduceEqDiff, ↓reduceIte, false_and, and_false, Nat.le_refl, Nat.zero_le, nz_1, nz_2, nz_3, nz_4, nz_5, nz_6, nz_8, nz_10, nz_12, nz_20, nz_30, nz_60, nz_100, g_K_sI, g_N_sI, g_B_sI, g_Z_sI, g_K_sL, g_N_sL, g_B_sL, g_Z_sL, g_K_sR, g_N_sR, g_B_sR, g_Z_sR, g_L_sI, g_R_sI, g_I_sL, g_R_sL, g_I_sR, g_L_sR, g_R_sRv, g_K_nw, g_N_nw, g_B_nw, g_Z_nw, h_R_nw, h_I_nw, h_L_nw, hk, hB, r197_0, r197_1, r197_4, r197_5, r197_6v, r197_9, r197_10, r197_11v, r197_14]
theorem c201 {a b : Nat} {y : Option Nat} (hk : xm_K h a = 12) (hB : xm_B h ≤ a) : xm_met (d + 2) 201 [.ref a, .ref b, va_rf y] h = some (.inl none, xm_sR (xm_sR h a 0 (some b)) a 1 y) := by
  have m := c197 (d := d) (h := h) (a := a) (x := some b) (y := y) (by rw [hk]; decide) hB
  have m : xm_met (d + 1) 197 [.ref a, .ref b, va_rf y] h = some (.inl none, xm_sR (xm_sR h a 0 (some b)) a 1 y) := m
  unfold xm_met
  simp only [ite_not, ite_self, w8_nil, ok01, ite10, rf_rv, rf_ref, rf_cat, rf_lk2, rf_some, rf_none, w_add, w_cons, cr_int, cr_long, cr_ref, cr_null, is_ref, is_null, l2_int, l2_ref, l2_null, l2_none, ent_nil, ent_int, ent_ref, ent_null, ent_rf, ent_long, ok_0, ok_1, af_ret, af_void, List.tail_cons, List.tail_nil, Nat.reduceAdd, Nat.reduceLeDiff, not_false_eq_true, not_true_eq_false, and_self, and_true, true_and, ne_eq, or_true, true_or, or_false, false_or, eq_self, Nat.reduceEqDiff, ↓reduceIte, false_and, and_false, Nat.le_refl, Nat.zero_le, nz_1, nz_2, nz_3, nz_4, nz_5, nz_6, nz_8, nz_10, nz_12, nz_20, nz_30, nz_60, nz_100, m, r201_0, r201_1, r201_2, r201_3, r201_6, ent_nil]
theorem c205 {a b : Nat} (hk : xm_K h a = 14) (hB : xm_B h ≤ a) : xm_met (d + 2) 205 [.ref a, .ref b] h = some (.inl none, xm_sR (xm_sR h a 0 none) a 1 (some b)) := by
  have m := c197 (d := d) (h := h) (a := a) (x := none) (y := some b) (by rw [hk]; decide) hB
  have m : xm_met (d + 1) 197 [.ref a, .null, .ref b] h = some (.inl none, xm_sR (xm_sR h a 0 none) a 1 (some b)) := m
  unfold xm_met
  simp only [ite_not, ite_self, w8_nil, ok01, ite10, rf_rv, rf_ref, rf_cat, rf_lk2, rf_some, rf_none, w_add, w_cons, cr_int, cr_long, cr_ref, cr_null, is_ref, is_null, l2_int, l2_ref, l2_null, l2_none, ent_nil, ent_int, ent_ref, ent_null, ent_rf, ent_long, ok_0, ok_1, af_ret, af_void, List.tail_cons, List.tail_nil, Nat.reduceAdd, Nat.reduceLeDiff, not_false_eq_true, not_true_eq_false, and_self, and_true, true_and, ne_eq, or_true, true_or, or_false, false_or, eq_self, Nat.reduceEqDiff, ↓reduceIte, false_and, and_false, Nat.le_refl, Nat.zero_le, nz_1, nz_2, nz_3, nz_4, nz_5, nz_6, nz_8, nz_10, nz_12, nz_20, nz_30, nz_60, nz_100, m, r205_0, r205_1, r205_2, r205_3, r205_6, ent_nil]
theorem c207 {a : Nat} {x y : Int32} (hk : xm_K h a = 15 ∨ xm_K h a = 16 ∨ xm_K h a = 17) (hB : xm_B h ≤ a) : xm_met (d + 2) 207 [.ref a, .int x, .int y] h = some (.inl none, xm_sI (xm_sI (xm_sR (xm_sR h a 0 none) a 1 none) a 2 x) a 3 y) := by
  have m := c197 (d := d) (h := h) (a := a) (x := none) (y := none) (is10 _ (by omega)) hB
  have m : xm_met (d + 1) 197 [.ref a, .null, .null] h = some (.inl none, xm_sR (xm_sR h a 0 none) a 1 none) := m
  have i14 := is14 _ hk
  unfold xm_met
  simp only [ite_not, ite_self, w8_nil, ok01, ite10, rf_rv, rf_ref, rf_cat, rf_lk2, rf_some, rf_none, w_add, w_cons, cr_int, cr_long, cr_ref, cr_null, is_ref, is_null, l2_int, l2_ref, l2_null, l2_none, ent_nil, ent_int, ent_ref, ent_null, ent_rf, ent_long, ok_0, ok_1, af_ret, af_void, List.tail_cons, List.tail_nil, Nat.reduceAdd, Nat.reduceLeDiff, not_false_eq_true, not_true_eq_false, and_self, and_true, true_and, ne_eq, or_true, true_or, or_false, false_or, eq_self, Nat.reduceEqDiff, ↓reduceIte, false_and, and_false, Nat.le_refl, Nat.zero_le, nz_1, nz_2, nz_3, nz_4, nz_5, nz_6, nz_8, nz_10, nz_12, nz_20, nz_30, nz_60, nz_100, g_K_sI, g_N_sI, g_B_sI, g_Z_sI, g_K_sL, g_N_sL, g_B_sL, g_Z_sL, g_K_sR, g_N_sR, g_B_sR, g_Z_sR, g_L_sI, g_R_sI, g_I_sL, g_R_sL, g_I_sR, g_L_sR, g_R_sRv, g_K_nw, g_N_nw, g_B_nw, g_Z_nw, h_R_nw, h_I_nw, h_L_nw, m, hB, i14, r207_0, r207_1, r207_2, r207_3, r207_6, r207_7, r207_8, r207_11, r207_12, r207_13, r207_16, ent_nil]
theorem c209 {a : Nat} {y : Int32} (hk : xm_K h a = 16) (hB : xm_B h ≤ a) : xm_met (d + 3) 209 [.ref a, .int y] h = some (.inl none, xm_sI (xm_sI (xm_sR (xm_sR h a 0 none) a 1 none) a 2 (-1)) a 3 y) := by
  have m := c207 (d := d) (x := -1) (y := y) (Or.inr (Or.inl hk)) hB
  unfold xm_met
  simp only [ite_not, ite_self, w8_nil, ok01, ite10, rf_rv, rf_ref, rf_cat, rf_lk2, rf_some, rf_none, w_add, w_cons, cr_int, cr_long, cr_ref, cr_null, is_ref, is_null, l2_int, l2_ref, l2_null, l2_none, ent_nil, ent_int, ent_ref, ent_null, ent_rf, ent_long, ok_0, ok_1, af_ret, af_void, List.tail_cons, List.tail_nil, Nat.reduceAdd, Nat.reduceLeDiff, not_false_eq_true, not_true_eq_false, and_self, and_true, true_and, ne_eq, or_true, true_or, or_false, false_or, eq_self, Nat.reduceEqDiff, ↓reduceIte, false_and, and_false, Nat.le_refl, Nat.zero_le, nz_1, nz_2, nz_3, nz_4, nz_5, nz_6, nz_8, nz_10, nz_12, nz_20, nz_30, nz_60, nz_100, m, r209_0, r209_1, r209_2, r209_3, r209_6, ent_nil]
theorem c211 {a : Nat} {y : Int32} (hk : xm_K h a = 17) (hB : xm_B h ≤ a) : xm_met (d + 3) 211 [.ref a, .int y] h = some (.inl none, xm_sI (xm_sI (xm_sR (xm_sR h a 0 none) a 1 none) a 2 (-1)) a 3 y) := by
  have m := c207 (d := d) (x := -1) (y := y) (Or.inr (Or.inr hk)) hB
  unfold xm_met
  simp only [ite_not, ite_self, w8_nil, ok01, ite10, rf_rv, rf_ref, rf_cat, rf_lk2, rf_some, rf_none, w_add, w_cons, cr_int, cr_long, cr_ref, cr_null, is_ref, is_null, l2_int, l2_ref, l2_null, l2_none, ent_nil, ent_int, ent_ref, ent_null, ent_rf, ent_long, ok_0, ok_1, af_ret, af_void, List.tail_cons, List.tail_nil, Nat.reduceAdd, Nat.reduceLeDiff, not_false_eq_true, not_true_eq_false, and_self, and_true, true_and, ne_eq, or_true, true_or, or_false, false_or, eq_self, Nat.reduceEqDiff, ↓reduceIte, false_and, and_false, Nat.le_refl, Nat.zero_le, nz_1, nz_2, nz_3, nz_4, nz_5, nz_6, nz_8, nz_10, nz_12, nz_20, nz_30, nz_60, nz_100, m, r211_0, r211_1, r211_2, r211_3, r211_6, ent_nil]
/-- a line's object, with its numbers -/
def LQ (h : xm_H) (D : xp_D) (L : Ln) (a : Nat) : Prop := LO h D L a ∧ (3 ≤ L.1 ∧ L.1 ≤ 7) ∧ (∀ p, xd_E D a p = none) ∧ (L.1 = 5 → xm_K h a = 15 ∧ xm_I h a 2 = Int32.ofNat (lwho L.2.1) ∧ lwho L.2.1 < 4 ∧ xm_I h a 3 = lnum L.2.1) ∧ (L.1 = 6 → xm_K h a = 16 ∧ xm_I h a 3 = lnum L.2.1) ∧ (L.1 = 7 → xm_K h a = 17 ∧ xm_I h a 3 = lnum L.2.1)
theorem LQ.hx (w : HW h D) (x : hx z s h h') {L : Ln} {a : Nat} (q : LQ h D L a) : LQ h' D L a := by
  obtain ⟨q1, q0, q2, q3, q4, q5⟩ := q
  refine ⟨q1.gx w x.gx (fun _ _ _ => rfl), q0, q2, fun e => ?_, fun e => ?_, fun e => ?_⟩
  · obtain ⟨k, a1, a2, a3⟩ := q3 e
    exact ⟨x.K w k (by decide), (x.I w k (by decide)).trans a1, a2, (x.I w k (by decide)).trans a3⟩
  · obtain ⟨k, a1⟩ := q4 e
    exact ⟨x.K w k (by decide), (x.I w k (by decide)).trans a1⟩
  · obtain ⟨k, a1⟩ := q5 e
    exact ⟨x.K w k (by decide), (x.I w k (by decide)).trans a1⟩
/-- a number told: its object's ints -/
theorem tell_new {kd : Nat} (hk : kd = 15 ∨ kd = 16 ∨ kd = 17) (w : HW h D) (x : hx z s (xm_nw h kd 0 4) h2) (w2 : HW h2 D) {u v : Int32} : hx (z + 1) (s + 4) h (xm_sI (xm_sI (xm_sR (xm_sR h2 (xm_Z h) 0 none) (xm_Z h) 1 none) (xm_Z h) 2 u) (xm_Z h) 3 v) ∧ HW (xm_sI (xm_sI (xm_sR (xm_sR h2 (xm_Z h) 0 none) (xm_Z h) 1 none) (xm_Z h) 2 u) (xm_Z h) 3 v) D ∧ xm_K h2 (xm_Z h) = kd ∧ xm_B h2 ≤ xm_Z h ∧ (∀ G, xm_sI (xm_sI (xm_sR (xm_sR (xp_c h2 D G) (xm_Z h) 0 none) (xm_Z h) 1 none) (xm_Z h) 2 u) (xm_Z h) 3 v = xp_c (xm_sI (xm_sI (xm_sR (xm_sR h2 (xm_Z h) 0 none) (xm_Z h) 1 none) (xm_Z h) 2 u) (xm_Z h) 3 v) D G) ∧ (∀ p, xd_E D (xm_Z h) p = none) ∧ xm_R (xm_sI (xm_sI (xm_sR (xm_sR h2 (xm_Z h) 0 none) (xm_Z h) 1 none) (xm_Z h) 2 u) (xm_Z h) 3 v) (xm_Z h) 1 = none ∧ xm_I (xm_sI (xm_sI (xm_sR (xm_sR h2 (xm_Z h) 0 none) (xm_Z h) 1 none) (xm_Z h) 2 u) (xm_Z h) 3 v) (xm_Z h) 2 = u ∧ xm_I (xm_sI (xm_sI (xm_sR (xm_sR h2 (xm_Z h) 0 none) (xm_Z h) 1 none) (xm_Z h) 2 u) (xm_Z h) 3 v) (xm_Z h) 3 = v := by
  have nE : ∀ p, xd_E D (xm_Z h) p = none := fun p => (w.2.1 _ p (Nat.le_refl _)).1
  have zl : xm_Z h < xm_Z (xm_nw h kd 0 4) := Nat.lt_succ_self _
  have x2 : hx (z + 1) (s + 4) h h2 := ((hx_nw (h := h) (kd := kd) (n := 0) (s := 4)).tr x).mono (by omega) (by omega)
  have k2 : xm_K h2 (xm_Z h) = kd := (x.2.2.2.2.2 _ zl).1.trans (by rw [h_K_nw, if_pos rfl])
  have B2 : xm_B h2 = xm_B h := x2.1
  have Bz := w.1
  refine ⟨(((x2.sR (Nat.le_refl _)).sR (Nat.le_refl _)).sI (Nat.le_refl _)).sI (Nat.le_refl _), w2, k2, by omega, fun G => ?_, nE, ?_, ?_, ?_⟩
  · rw [mc_sR, mc_sR, mc_sn (nE _), mc_sn (nE _)]
  · show xm_R (xm_sR (xm_sR h2 (xm_Z h) 0 none) (xm_Z h) 1 none) (xm_Z h) 1 = none
    rw [h_R_sR, if_pos ⟨rfl, rfl⟩]
  · rw [h_I_sI, if_neg (by omega), h_I_sI, if_pos ⟨rfl, rfl⟩]
  · rw [h_I_sI, if_pos ⟨rfl, rfl⟩]
/-- a leave's object -/
theorem leave_new (w : HW h D) (x : hx z s (xm_nw h 12 0 2) h2) (w2 : HW h2 D) {t : Tm} {a : Nat} (wt : wf false t) (tt : th t ≤ 700) (ht : TO h D t a) : hx (z + 1) (s + 2) h (xm_sR (xm_sR h2 (xm_Z h) 0 (some a)) (xm_Z h) 1 none) ∧ (∀ y, hx (z + 1) (s + 2) h (xm_sR (xm_sR h2 (xm_Z h) 0 (some a)) (xm_Z h) 1 y)) ∧ (∀ y, HW (xm_sR (xm_sR h2 (xm_Z h) 0 (some a)) (xm_Z h) 1 y) D) ∧ LQ (xm_sR (xm_sR h2 (xm_Z h) 0 (some a)) (xm_Z h) 1 none) D (3, t, none) (xm_Z h) ∧ (∀ u b, wf true u → th u ≤ 700 → TO h2 D u b → LQ (xm_sR (xm_sR h2 (xm_Z h) 0 (some a)) (xm_Z h) 1 (some b)) D (3, t, some u) (xm_Z h)) ∧ ∀ d G y, xm_met (d + 2) 201 [.ref (xm_Z h), .ref a, va_rf y] (xp_c h2 D G) = some (.inl none, xp_c (xm_sR (xm_sR h2 (xm_Z h) 0 (some a)) (xm_Z h) 1 y) D G) := by
  have nE : ∀ p, xd_E D (xm_Z h) p = none := fun p => (w.2.1 _ p (Nat.le_refl _)).1
  have zl : xm_Z h < xm_Z (xm_nw h 12 0 2) := Nat.lt_succ_self _
  have x2 : hx (z + 1) (s + 2) h h2 := ((hx_nw (h := h) (kd := 12) (n := 0) (s := 2)).tr x).mono (by omega) (by omega)
  have x3 : ∀ y, hx (z + 1) (s + 2) h (xm_sR (xm_sR h2 (xm_Z h) 0 (some a)) (xm_Z h) 1 y) := fun y => (x2.sR (Nat.le_refl _)).sR (Nat.le_refl _)
  have k2 : xm_K h2 (xm_Z h) = 12 := (x.2.2.2.2.2 _ zl).1.trans (by rw [h_K_nw, if_pos rfl])
  have B2 : xm_B h2 = xm_B h := x2.1
  have r0 : ∀ y, xm_R (xm_sR (xm_sR h2 (xm_Z h) 0 (some a)) (xm_Z h) 1 y) (xm_Z h) 0 = some a := fun y => by rw [h_R_sR, if_neg (by omega), h_R_sR, if_pos ⟨rfl, rfl⟩]
  have r1 : ∀ y, xm_R (xm_sR (xm_sR h2 (xm_Z h) 0 (some a)) (xm_Z h) 1 y) (xm_Z h) 1 = y := fun y => by rw [h_R_sR, if_pos ⟨rfl, rfl⟩]
  refine ⟨x3 none, x3, fun _ => w2, ⟨Or.inl ⟨rfl, k2, wt, tt, ⟨a, r0 _, TO.hx w (x3 none) _ _ ht⟩, r1 _⟩, (show (3 : Int32) ≤ 3 ∧ (3 : Int32) ≤ 7 by decide), nE, fun e => absurd e (show ¬ (3 : Int32) = 5 by decide), fun e => absurd e (show ¬ (3 : Int32) = 6 by decide), fun e => absurd e (show ¬ (3 : Int32) = 7 by decide)⟩, fun u b wu tu hu => ⟨Or.inl ⟨rfl, k2, wt, tt, ⟨a, r0 _, TO.hx w (x3 (some b)) _ _ ht⟩, wu, tu, b, r1 _, TO.chg (h' := xm_sR (xm_sR h2 (xm_Z h) 0 (some a)) (xm_Z h) 1 (some b)) (Or.inr (Or.inr (Or.inl k2))) (fun y hy => ⟨rfl, fun p => ⟨rfl, by rw [h_R_sR, if_neg (by omega), h_R_sR, if_neg (by omega)]⟩⟩) u b hu⟩, (show (3 : Int32) ≤ 3 ∧ (3 : Int32) ≤ 7 by decide), nE, fun e => absurd e (show ¬ (3 : Int32) = 5 by decide), fun e => absurd e (show ¬ (3 : Int32) = 6 by decide), fun e => absurd e (show ¬ (3 : Int32) = 7 by decide)⟩, fun d G y => ?_⟩
  rw [c201 (by rw [mc_K]; exact k2) (by rw [mc_B, B2]; exact w.1), mc_sR, mc_sR]
/-- a bar's object -/
theorem bar_new (w : HW h D) (x : hx z s (xm_nw h 14 0 2) h2) (w2 : HW h2 D) {u : Tm} {b : Nat} (wu : wf true u) (tu : th u ≤ 700) (hu : TO h2 D u b) : hx (z + 1) (s + 2) h (xm_sR (xm_sR h2 (xm_Z h) 0 none) (xm_Z h) 1 (some b)) ∧ HW (xm_sR (xm_sR h2 (xm_Z h) 0 none) (xm_Z h) 1 (some b)) D ∧ LQ (xm_sR (xm_sR h2 (xm_Z h) 0 none) (xm_Z h) 1 (some b)) D (4, .num 0, some u) (xm_Z h) ∧ ∀ d G, xm_met (d + 2) 205 [.ref (xm_Z h), .ref b] (xp_c h2 D G) = some (.inl none, xp_c (xm_sR (xm_sR h2 (xm_Z h) 0 none) (xm_Z h) 1 (some b)) D G) := by
  have nE : ∀ p, xd_E D (xm_Z h) p = none := fun p => (w.2.1 _ p (Nat.le_refl _)).1
  have zl : xm_Z h < xm_Z (xm_nw h 14 0 2) := Nat.lt_succ_self _
  have x2 : hx (z + 1) (s + 2) h h2 := ((hx_nw (h := h) (kd := 14) (n := 0) (s := 2)).tr x).mono (by omega) (by omega)
  have k2 : xm_K h2 (xm_Z h) = 14 := (x.2.2.2.2.2 _ zl).1.trans (by rw [h_K_nw, if_pos rfl])
  have B2 : xm_B h2 = xm_B h := x2.1
  have dd : dead h2 (xm_Z h) := Or.inr (Or.inr (Or.inr (by omega)))
  refine ⟨(x2.sR (Nat.le_refl _)).sR (Nat.le_refl _), w2, ⟨Or.inr (Or.inl ⟨rfl, k2, u, b, rfl, wu, tu, by rw [h_R_sR, if_pos ⟨rfl, rfl⟩], TO.chg (h' := xm_sR (xm_sR h2 (xm_Z h) 0 none) (xm_Z h) 1 (some b)) dd (fun y hy => ⟨rfl, fun p => ⟨rfl, by rw [h_R_sR, if_neg (by omega), h_R_sR, if_neg (by omega)]⟩⟩) u b hu⟩), (show (3 : Int32) ≤ 4 ∧ (4 : Int32) ≤ 7 by decide), nE, fun e => absurd e (show ¬ (4 : Int32) = 5 by decide), fun e => absurd e (show ¬ (4 : Int32) = 6 by decide), fun e => absurd e (show ¬ (4 : Int32) = 7 by decide)⟩, fun d G => ?_⟩
  rw [c205 (by rw [mc_K]; exact k2) (by rw [mc_B, B2]; exact w.1), mc_sR, mc_sR]
end RDLN
