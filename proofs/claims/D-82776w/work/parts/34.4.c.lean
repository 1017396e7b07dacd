/-! terms' objects come -/
set_option maxRecDepth 100000
section RDO
variable {d : Nat} {h h' h2 : xm_H} {D : xp_D} {F G : xp_F} {z s : Nat}
theorem c190 {a : Nat} : xm_met (d + 1) 190 [.ref a] h = some (.inl none, h) := by
  unfold xm_met
  simp only [ite_not, ite_self, w8_nil, ok01, ite10, rf_rv, rf_ref, rf_cat, rf_lk2, rf_some, rf_none, w_add, w_cons, cr_int, cr_long, cr_ref, cr_null, is_ref, is_null, l2_int, l2_ref, l2_null, l2_none, ent_nil, ent_int, ent_ref, ent_null, ent_rf, ent_long, ok_0, ok_1, af_ret, af_void, List.tail_cons, List.tail_nil, Nat.reduceAdd, Nat.reduceLeDiff, not_false_eq_true, not_true_eq_false, and_self, and_true, true_and, ne_eq, or_true, true_or, or_false, false_or, eq_self, Nat.reduceEqDiff, ↓reduceIte, false_and, and_false, Nat.le_refl, Nat.zero_le, nz_1, nz_2, nz_3, nz_4, nz_5, nz_6, nz_8, nz_10, nz_12, nz_20, nz_30, nz_60, nz_100, r190_0, r190_1, r190_4, ent_nil]
theorem c191 {a : Nat} {v : Int32} (hk : xm_K h a = 8) (hB : xm_B h ≤ a) : xm_met (d + 2) 191 [.ref a, .int v] h = some (.inl none, xm_sI h a 0 v) := by
  unfold xm_met
  simp only [ite_not, ite_self, w8_nil, ok01, ite10, rf_rv, rf_ref, rf_cat, rf_lk2, rf_some, rf_none, w_add, w_cons, cr_int, cr_long, cr_ref, cr_null, is_ref, is_null, l2_int, l2_ref, l2_null, l2_none, ent_nil, ent_int, ent_ref, ent_null, ent_rf, ent_long, ok_0, ok_1, af_ret, af_void, List.tail_cons, List.tail_nil, Nat.reduceAdd, Nat.reduceLeDiff, not_false_eq_true, not_true_eq_false, and_self, and_true, true_and, ne_eq, or_true, true_or, or_false, false_or, eq_self, Nat.reduceEqDiff, ↓reduceIte, false_and, and_false, Nat.le_refl, Nat.zero_le, nz_1, nz_2, nz_3, nz_4, nz_5, nz_6, nz_8, nz_10, nz_12, nz_20, nz_30, nz_60, nz_100, c190, hk, hB, r191_0, r191_1, r191_4, r191_5, r191_6, r191_9, ent_nil]
theorem c193 {a : Nat} {v : Int32} (hk : xm_K h a = 9) (hB : xm_B h ≤ a) : xm_met (d + 2) 193 [.ref a, .int v] h = some (.inl none, xm_sI h a 0 v) := by
  unfold xm_met
  simp only [ite_not, ite_self, w8_nil, ok01, ite10, rf_rv, rf_ref, rf_cat, rf_lk2, rf_some, rf_none, w_add, w_cons, cr_int, cr_long, cr_ref, cr_null, is_ref, is_null, l2_int, l2_ref, l2_null, l2_none, ent_nil, ent_int, ent_ref, ent_null, ent_rf, ent_long, ok_0, ok_1, af_ret, af_void, List.tail_cons, List.tail_nil, Nat.reduceAdd, Nat.reduceLeDiff, not_false_eq_true, not_true_eq_false, and_self, and_true, true_and, ne_eq, or_true, true_or, or_false, false_or, eq_self, Nat.reduceEqDiff, ↓reduceIte, false_and, and_false, Nat.le_refl, Nat.zero_le, nz_1, nz_2, nz_3, nz_4, nz_5, nz_6, nz_8, nz_10, nz_12, nz_20, nz_30, nz_60, nz_100, c190, hk, hB, r193_0, r193_1, r193_4, r193_5, r193_6, r193_9, ent_nil]
theorem c203 {a b : Nat} (hk : xm_K h a = 13) (hB : xm_B h ≤ a) : xm_met (d + 2) 203 [.ref a, .ref b] h = some (.inl none, xm_sR h a 0 (some b)) := by
  unfold xm_met
  simp only [ite_not, ite_self, w8_nil, ok01, ite10, rf_rv, rf_ref, rf_cat, rf_lk2, rf_some, rf_none, w_add, w_cons, cr_int, cr_long, cr_ref, cr_null, is_ref, is_null, l2_int, l2_ref, l2_null, l2_none, ent_nil, ent_int, ent_ref, ent_null, ent_rf, ent_long, ok_0, ok_1, af_ret, af_void, List.tail_cons, List.tail_nil, Nat.reduceAdd, Nat.reduceLeDiff, not_false_eq_true, not_true_eq_false, and_self, and_true, true_and, ne_eq, or_true, true_or, or_false, false_or, eq_self, Nat.reduceEqDiff, ↓reduceIte, false_and, and_false, Nat.le_refl, Nat.zero_le, nz_1, nz_2, nz_3, nz_4, nz_5, nz_6, nz_8, nz_10, nz_12, nz_20, nz_30, nz_60, nz_100, c190, hk, hB, r203_0, r203_1, r203_4, r203_5, r203_6, r203_6n, r203_6v, r203_9, ent_nil]
theorem c195 {a b e : Nat} {x : Int32} (hk : xm_K h a = 10) (hB : xm_B h ≤ a) (ok : xm_ok .char x = true) : xm_met (d + 2) 195 [.ref a, .ref b, .int x, .ref e] h = some (.inl none, xm_sR (xm_sI (xm_sR h a 1 (some b)) a 0 x) a 2 (some e)) := by
  unfold xm_met
  simp only [ite_not, ite_self, w8_nil, ok01, ite10, rf_rv, rf_ref, rf_cat, rf_lk2, rf_some, rf_none, w_add, w_cons, cr_int, cr_long, cr_ref, cr_null, is_ref, is_null, l2_int, l2_ref, l2_null, l2_none, ent_nil, ent_int, ent_ref, ent_null, ent_rf, ent_long, ok_0, ok_1, af_ret, af_void, List.tail_cons, List.tail_nil, Nat.reduceAdd, Nat.reduceLeDiff, not_false_eq_true, not_true_eq_false, and_self, and_true, true_and, ne_eq, or_true, true_or, or_false, false_or, eq_self, Nat.reduceEqDiff, ↓reduceIte, false_and, and_false, Nat.le_refl, Nat.zero_le, nz_1, nz_2, nz_3, nz_4, nz_5, nz_6, nz_8, nz_10, nz_12, nz_20, nz_30, nz_60, nz_100, g_K_sI, g_N_sI, g_B_sI, g_Z_sI, g_K_sL, g_N_sL, g_B_sL, g_Z_sL, g_K_sR, g_N_sR, g_B_sR, g_Z_sR, g_L_sI, g_R_sI, g_I_sL, g_R_sL, g_I_sR, g_L_sR, g_R_sRv, g_K_nw, g_N_nw, g_B_nw, g_Z_nw, h_R_nw, h_I_nw, h_L_nw, c190, hk, hB, ok, r195_0, r195_1, r195_4, r195_5, r195_6, r195_6n, r195_6v, r195_9, r195_10, r195_11, r195_14, r195_15, r195_16, r195_16n, r195_16v, r195_19, ent_nil]
/-- not yet a term -/
def dead (h : xm_H) (z0 : Nat) : Prop := (xm_K h z0 = 10 ∧ xm_R h z0 1 = none) ∨ (xm_K h z0 = 13 ∧ xm_R h z0 0 = none) ∨ xm_K h z0 = 12 ∨ (¬ xm_K h z0 = 8 ∧ ¬ xm_K h z0 = 9 ∧ ¬ xm_K h z0 = 10 ∧ ¬ xm_K h z0 = 13)
theorem TO.chg {z0 : Nat} (hd : dead h z0) (e : ∀ a, ¬ a = z0 → xm_K h' a = xm_K h a ∧ ∀ p, xm_I h' a p = xm_I h a p ∧ xm_R h' a p = xm_R h a p) : ∀ (t : Tm) (a : Nat), TO h D t a → TO h' D t a
  | .num v, a, ⟨k, n, i⟩ => by
    have ne : ¬ a = z0 := fun y => by
      rw [y] at k
      rcases hd with ⟨k2, -⟩ | ⟨k2, -⟩ | k2 | k2 <;> omega
    exact ⟨(e a ne).1.trans k, n, ((e a ne).2 0).1.trans i⟩
  | .var _, a, ⟨k, n, i⟩ => by
    have ne : ¬ a = z0 := fun y => by
      rw [y] at k
      rcases hd with ⟨k2, -⟩ | ⟨k2, -⟩ | k2 | k2 <;> omega
    exact ⟨(e a ne).1.trans k, n, ((e a ne).2 0).1.trans i⟩
  | .neg t, a, ⟨k, b, r, o⟩ => by
    have ne : ¬ a = z0 := fun y => by
      rw [y] at k r
      rcases hd with ⟨k2, -⟩ | ⟨-, r2⟩ | k2 | k2
      · omega
      · rw [r2] at r
        cases r
      · omega
      · omega
    exact ⟨(e a ne).1.trans k, b, ((e a ne).2 0).2.trans r, TO.chg hd e t b o⟩
  | .mulR t v, a, ⟨k, n, i, b, c, rb, rc, ob, kc, nc, ic⟩ => by
    have ne : ¬ a = z0 := fun y => by
      rw [y] at k rb
      rcases hd with ⟨-, r2⟩ | ⟨k2, -⟩ | k2 | k2
      · rw [r2] at rb
        cases rb
      · omega
      · omega
      · omega
    have nec : ¬ c = z0 := fun y => by
      rw [y] at kc
      rcases hd with ⟨k2, -⟩ | ⟨k2, -⟩ | k2 | k2 <;> omega
    exact ⟨(e a ne).1.trans k, n, ((e a ne).2 0).1.trans i, b, c, ((e a ne).2 1).2.trans rb, ((e a ne).2 2).2.trans rc, TO.chg hd e t b ob, (e c nec).1.trans kc, nc, ((e c nec).2 0).1.trans ic⟩
  | .mulL o (.add u v), a, ⟨k, n, i, b, c, rb, rc, ob, oc⟩ => by
    have ne : ¬ a = z0 := fun y => by
      rw [y] at k rb
      rcases hd with ⟨-, r2⟩ | ⟨k2, -⟩ | k2 | k2
      · rw [r2] at rb
        cases rb
      · omega
      · omega
      · omega
    exact ⟨(e a ne).1.trans k, n, ((e a ne).2 0).1.trans i, b, c, ((e a ne).2 1).2.trans rb, ((e a ne).2 2).2.trans rc, TO.chg hd e u b ob, TO.chg hd e v c oc⟩
abbrev nTwo (h2 : xm_H) (z0 a : Nat) (x : Int32) (b : Nat) : xm_H := xm_sR (xm_sI (xm_sR h2 z0 1 (some a)) z0 0 x) z0 2 (some b)
theorem sgc_ok {o : Int} : xm_ok .char (sgc o) = true := by
  have : ∀ x ∈ [(43 : Int32), 45, 42, 60, 61, 62, 38, 124], xm_ok .char x = true := by decide
  apply this
  unfold sgc
  by_cases h9 : o = 9
  · rw [if_pos h9]; decide
  rw [if_neg h9]
  by_cases h10 : o = 10
  · rw [if_pos h10]; decide
  rw [if_neg h10]
  by_cases h11 : o = 11
  · rw [if_pos h11]; decide
  rw [if_neg h11]
  by_cases h13 : o = 13
  · rw [if_pos h13]; decide
  rw [if_neg h13]
  by_cases h14 : o = 14
  · rw [if_pos h14]; decide
  rw [if_neg h14]
  by_cases h15 : o = 15
  · rw [if_pos h15]; decide
  rw [if_neg h15]
  by_cases h17 : o = 17
  · rw [if_pos h17]; decide
  rw [if_neg h17]
  decide
theorem nTwo_R {z0 a : Nat} {x : Int32} {b : Nat} : xm_R (nTwo h2 z0 a x b) z0 1 = some a ∧ xm_R (nTwo h2 z0 a x b) z0 2 = some b ∧ xm_I (nTwo h2 z0 a x b) z0 0 = x ∧ xm_K (nTwo h2 z0 a x b) = xm_K h2 ∧ ∀ y, ¬ y = z0 → ∀ p, xm_I (nTwo h2 z0 a x b) y p = xm_I h2 y p ∧ xm_R (nTwo h2 z0 a x b) y p = xm_R h2 y p := by
  refine ⟨?_, ?_, ?_, rfl, fun y hy p => ⟨?_, ?_⟩⟩
  · rw [h_R_sR, if_neg (by omega)]
    show xm_R (xm_sR h2 z0 1 (some a)) z0 1 = _
    rw [h_R_sR, if_pos ⟨rfl, rfl⟩]
  · rw [h_R_sR, if_pos ⟨rfl, rfl⟩]
  · show xm_I (xm_sI (xm_sR h2 z0 1 (some a)) z0 0 x) z0 0 = _
    rw [h_I_sI, if_pos ⟨rfl, rfl⟩]
  · show xm_I (xm_sI (xm_sR h2 z0 1 (some a)) z0 0 x) y p = _
    rw [h_I_sI, if_neg (by omega)]
    rfl
  · rw [h_R_sR, if_neg (by omega)]
    show xm_R (xm_sR h2 z0 1 (some a)) y p = _
    rw [h_R_sR, if_neg (by omega)]
theorem two_new (w : HW h D) (x : hx z s (xm_nw h 10 0 3) h2) (w2 : HW h2 D) {t u : Tm} {a b : Nat} {o : Int} (ht : TO h D t a) (hu : TO h2 D u b) : hx (z + 1) (s + 3) h (nTwo h2 (xm_Z h) a (sgc o) b) ∧ HW (nTwo h2 (xm_Z h) a (sgc o) b) D ∧ TO (nTwo h2 (xm_Z h) a (sgc o) b) D (.mulL o (.add t u)) (xm_Z h) ∧ ∀ d G, xm_met (d + 2) 195 [.ref (xm_Z h), .ref a, .int (sgc o), .ref b] (xp_c h2 D G) = some (.inl none, xp_c (nTwo h2 (xm_Z h) a (sgc o) b) D G) := by
  have nE : ∀ p, xd_E D (xm_Z h) p = none := fun p => (w.2.1 _ p (Nat.le_refl _)).1
  have zl : xm_Z h < xm_Z (xm_nw h 10 0 3) := Nat.lt_succ_self _
  have x2 : hx (z + 1) (s + 3) h h2 := ((hx_nw (h := h) (kd := 10) (n := 0) (s := 3)).tr x).mono (by omega) (by omega)
  have x3 : hx (z + 1) (s + 3) h (nTwo h2 (xm_Z h) a (sgc o) b) := ((x2.sR (Nat.le_refl _)).sI (Nat.le_refl _)).sR (Nat.le_refl _)
  have k2 : xm_K h2 (xm_Z h) = 10 := (x.2.2.2.2.2 _ zl).1.trans (by rw [h_K_nw, if_pos rfl])
  have r2 : xm_R h2 (xm_Z h) 1 = none := ((x.2.2.2.2.2 _ zl).2.2 1).2.2.trans (by rw [h_R_nw, if_pos rfl])
  have B2 : xm_B h2 = xm_B h := x2.1
  obtain ⟨n1, n2, n3, n4, n5⟩ := nTwo_R (h2 := h2) (z0 := xm_Z h) (a := a) (x := sgc o) (b := b)
  refine ⟨x3, w2, ⟨by rw [n4]; exact k2, nE, n3, a, b, n1, n2, TO.hx w x3 _ _ ht, TO.chg (Or.inl ⟨k2, r2⟩) (fun y hy => ⟨by rw [n4], n5 y hy⟩) u b hu⟩, fun d G => ?_⟩
  rw [c195 (by rw [mc_K]; exact k2) (by rw [mc_B, B2]; exact w.1) sgc_ok, mc_sR, mc_sn (nE _), mc_sR]
theorem not_new (w : HW h D) (x : hx z s (xm_nw h 13 0 1) h2) (w2 : HW h2 D) {u : Tm} {b : Nat} (hu : TO h2 D u b) : hx (z + 1) (s + 1) h (xm_sR h2 (xm_Z h) 0 (some b)) ∧ HW (xm_sR h2 (xm_Z h) 0 (some b)) D ∧ TO (xm_sR h2 (xm_Z h) 0 (some b)) D (.neg u) (xm_Z h) ∧ ∀ d G, xm_met (d + 2) 203 [.ref (xm_Z h), .ref b] (xp_c h2 D G) = some (.inl none, xp_c (xm_sR h2 (xm_Z h) 0 (some b)) D G) := by
  have zl : xm_Z h < xm_Z (xm_nw h 13 0 1) := Nat.lt_succ_self _
  have x2 : hx (z + 1) (s + 1) h h2 := ((hx_nw (h := h) (kd := 13) (n := 0) (s := 1)).tr x).mono (by omega) (by omega)
  have k2 : xm_K h2 (xm_Z h) = 13 := (x.2.2.2.2.2 _ zl).1.trans (by rw [h_K_nw, if_pos rfl])
  have r2 : xm_R h2 (xm_Z h) 0 = none := ((x.2.2.2.2.2 _ zl).2.2 0).2.2.trans (by rw [h_R_nw, if_pos rfl])
  have B2 : xm_B h2 = xm_B h := x2.1
  refine ⟨x2.sR (Nat.le_refl _), w2, ⟨k2, b, by rw [h_R_sR, if_pos ⟨rfl, rfl⟩], TO.chg (h' := xm_sR h2 (xm_Z h) 0 (some b)) (Or.inr (Or.inl ⟨k2, r2⟩)) (fun y hy => ⟨rfl, fun p => ⟨rfl, by rw [h_R_sR, if_neg (by omega)]⟩⟩) u b hu⟩, fun d G => ?_⟩
  rw [c203 (by rw [mc_K]; exact k2) (by rw [mc_B, B2]; exact w.1), mc_sR]
theorem num_new (w : HW h D) {v : Int32} : hx 1 1 h (xm_sI (xm_nw h 9 0 1) (xm_Z h) 0 v) ∧ HW (xm_sI (xm_nw h 9 0 1) (xm_Z h) 0 v) D ∧ TO (xm_sI (xm_nw h 9 0 1) (xm_Z h) 0 v) D (.num v.toInt) (xm_Z h) ∧ ∀ d G, xm_met (d + 2) 193 [.ref (xm_Z h), .int v] (xp_c (xm_nw h 9 0 1) D G) = some (.inl none, xp_c (xm_sI (xm_nw h 9 0 1) (xm_Z h) 0 v) D G) := by
  have nE : ∀ p, xd_E D (xm_Z h) p = none := fun p => (w.2.1 _ p (Nat.le_refl _)).1
  have k2 : xm_K (xm_nw h 9 0 1) (xm_Z h) = 9 := by rw [h_K_nw, if_pos rfl]
  refine ⟨hx_nw.sI (Nat.le_refl _), w.nw (kd := 9) (n := 0), ⟨k2, nE, by rw [h_I_sI, if_pos ⟨rfl, rfl⟩, Int32.ofInt_toInt]⟩, fun d G => ?_⟩
  rw [c193 (by rw [mc_K]; exact k2) (by rw [mc_B]; exact w.1), mc_sn (nE _)]
theorem var_new (w : HW h D) {k : Nat} : hx 1 1 h (xm_sI (xm_nw h 8 0 1) (xm_Z h) 0 (Int32.ofNat k)) ∧ HW (xm_sI (xm_nw h 8 0 1) (xm_Z h) 0 (Int32.ofNat k)) D ∧ TO (xm_sI (xm_nw h 8 0 1) (xm_Z h) 0 (Int32.ofNat k)) D (.var k) (xm_Z h) ∧ ∀ d G, xm_met (d + 2) 191 [.ref (xm_Z h), .int (Int32.ofNat k)] (xp_c (xm_nw h 8 0 1) D G) = some (.inl none, xp_c (xm_sI (xm_nw h 8 0 1) (xm_Z h) 0 (Int32.ofNat k)) D G) := by
  have nE : ∀ p, xd_E D (xm_Z h) p = none := fun p => (w.2.1 _ p (Nat.le_refl _)).1
  have k2 : xm_K (xm_nw h 8 0 1) (xm_Z h) = 8 := by rw [h_K_nw, if_pos rfl]
  refine ⟨hx_nw.sI (Nat.le_refl _), w.nw (kd := 8) (n := 0), ⟨k2, nE, by rw [h_I_sI, if_pos ⟨rfl, rfl⟩]⟩, fun d G => ?_⟩
  rw [c191 (by rw [mc_K]; exact k2) (by rw [mc_B]; exact w.1), mc_sn (nE _)]
/-- a part of a product -/
theorem part_new (w : HW h D) (x : hx z s (xm_nw (xm_nw h 10 0 3) 9 0 1) h2) (w2 : HW h2 D) {t : Tm} {a : Nat} {v : Int32} (ht : TO h D t a) : hx (z + 2) (s + 4) h (nTwo (xm_sI h2 (xm_Z h + 1) 0 v) (xm_Z h) a 47 (xm_Z h + 1)) ∧ HW (nTwo (xm_sI h2 (xm_Z h + 1) 0 v) (xm_Z h) a 47 (xm_Z h + 1)) D ∧ TO (nTwo (xm_sI h2 (xm_Z h + 1) 0 v) (xm_Z h) a 47 (xm_Z h + 1)) D (.mulR t v.toInt) (xm_Z h) ∧ (∀ d G, xm_met (d + 2) 193 [.ref (xm_Z h + 1), .int v] (xp_c h2 D G) = some (.inl none, xp_c (xm_sI h2 (xm_Z h + 1) 0 v) D G)) ∧ ∀ d G, xm_met (d + 2) 195 [.ref (xm_Z h), .ref a, .int 47, .ref (xm_Z h + 1)] (xp_c (xm_sI h2 (xm_Z h + 1) 0 v) D G) = some (.inl none, xp_c (nTwo (xm_sI h2 (xm_Z h + 1) 0 v) (xm_Z h) a 47 (xm_Z h + 1)) D G) := by
  have nE : ∀ y p, xm_Z h ≤ y → xd_E D y p = none := fun y p hy => (w.2.1 _ p hy).1
  have zz : xm_Z (xm_nw (xm_nw h 10 0 3) 9 0 1) = xm_Z h + 2 := rfl
  have z1 : xm_Z (xm_nw h 10 0 3) = xm_Z h + 1 := rfl
  have x2 : hx (z + 2) (s + 4) h h2 := (((hx_nw (h := h) (kd := 10) (n := 0) (s := 3)).tr (hx_nw (kd := 9) (n := 0) (s := 1))).tr x).mono (by omega) (by omega)
  have x3 : hx (z + 2) (s + 4) h (nTwo (xm_sI h2 (xm_Z h + 1) 0 v) (xm_Z h) a 47 (xm_Z h + 1)) := (((x2.sI (Nat.le_succ _)).sR (Nat.le_refl _)).sI (Nat.le_refl _)).sR (Nat.le_refl _)
  have k2 : xm_K h2 (xm_Z h) = 10 := (x.2.2.2.2.2 _ (by rw [zz]; omega)).1.trans (by rw [h_K_nw, z1, if_neg (by omega), h_K_nw, if_pos rfl])
  have k3 : xm_K h2 (xm_Z h + 1) = 9 := (x.2.2.2.2.2 _ (by rw [zz]; omega)).1.trans (by rw [h_K_nw, z1, if_pos rfl])
  have B2 : xm_B h2 = xm_B h := x2.1
  have Bz := w.1
  obtain ⟨n1, n2, n3, n4, n5⟩ := nTwo_R (h2 := xm_sI h2 (xm_Z h + 1) 0 v) (z0 := xm_Z h) (a := a) (x := 47) (b := xm_Z h + 1)
  refine ⟨x3, w2, ⟨by rw [n4]; exact k2, fun p => nE _ p (Nat.le_refl _), n3, a, xm_Z h + 1, n1, n2, TO.hx w x3 _ _ ht, by rw [n4]; exact k3, fun p => nE _ p (Nat.le_succ _), ?_⟩, fun d G => ?_, fun d G => ?_⟩
  · rw [(n5 _ (by omega) 0).1, h_I_sI, if_pos ⟨rfl, rfl⟩, Int32.ofInt_toInt]
  · rw [c193 (by rw [mc_K]; exact k3) (by rw [mc_B, B2]; omega), mc_sn (nE _ _ (Nat.le_succ _))]
  · rw [c195 (by rw [mc_K]; exact k2) (by rw [mc_B]; show xm_B h2 ≤ _; rw [B2]; exact Bz) (by decide), mc_sR, mc_sn (nE _ _ (Nat.le_refl _)), mc_sR]
end RDO
