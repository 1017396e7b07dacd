/-! the model's contracts, 32: foreseen -/
set_option maxRecDepth 100000
section M32
variable {d : Nat} {h : xm_H} {M : Nat} {F : xp_F}
def sp_fo (L : Nat → Ln) (n : Nat) (F : xp_F) (k : Nat) : Int32 × xp_F := xp_up (fun _ (s : Int32 × xp_F) => (s.1 + (sp_foresees L n s.2).1, (sp_foresees L n s.2).2)) (0, xm_u2 F 0 1 0) k
def sp_foreseen (F : xp_F) (n0 : Nat) (L0 : Nat → Ln) (n1 : Nat) (L1 : Nat → Ln) (r m w : Int32) : Int32 := if (0 ≤ r ∧ r ≤ 1) ∧ (1 ≤ m ∧ m ≤ 8) ∧ (0 ≤ w ∧ w ≤ 1) ∧ F 0 0 / 60 + m ≤ 40 then
    (if w = 0 then (sp_fo (if r = 0 then L0 else L1) (if r = 0 then n0 else n1) F m.toNatClampNeg).1 else sp_strengths (sp_fo (if r = 0 then L0 else L1) (if r = 0 then n0 else n1) F m.toNatClampNeg).2) else -1
/-- but for the pile and what was kept the same, as far as there are ledges -/
def sf (F G : xp_F) : Prop := ∀ o k, ¬ o = 29 → ¬ (68 ≤ o ∧ o ≤ 70) → (((5 ≤ o ∧ o ≤ 8) ∨ (10 ≤ o ∧ o ≤ 13)) → k < 12) → G o k = F o k
theorem sf.rf : sf F F := fun _ _ _ _ _ => rfl
theorem eN.strengths {G : xp_F} (a : eN F G) : sp_strengths G = sp_strengths F := by
  unfold sp_strengths
  rw [a 0 6 (by decide)]
  have e : (fun (k : Nat) (s : Int32) => s + G 5 k) = fun k s => s + F 5 k := by
    funext k s
    rw [a 5 k (by omega)]
  rw [e]
theorem look9 : sp_look F 9 = sp_strengths F := by
  unfold sp_look
  rw [if_neg (by decide), if_neg (by decide), if_neg (by decide), if_neg (by decide), if_neg (by decide), if_neg (by decide), if_neg (by decide), if_neg (by decide), if_neg (by decide), if_pos rfl]
theorem fo_6 {L : Nat → Ln} {n : Nat} : ∀ k, (sp_fo L n F k).2 0 6 = F 0 6
  | 0 => by
    show xm_u2 F 0 1 0 0 6 = _
    rw [u2_ap, if_neg (by decide)]
  | k + 1 => foresees_6.trans (fo_6 k)
theorem fo_d {L : Nat → Ln} {n : Nat} (h0 : 0 ≤ (F 0 0).toInt) : ∀ k : Nat, (F 0 0).toInt + 60 * (k : Int) ≤ 99000 → 0 ≤ ((sp_fo L n F k).2 0 0).toInt ∧ ((sp_fo L n F k).2 0 0).toInt ≤ (F 0 0).toInt + 60 * k
  | 0, _ => by
    have e : (sp_fo L n F 0).2 0 0 = F 0 0 := by
      show xm_u2 F 0 1 0 0 0 = _
      rw [u2_ap, if_neg (by decide)]
    rw [e]
    omega
  | k + 1, hk => by
    obtain ⟨a1, a2⟩ := fo_d h0 k (by omega)
    have e := @foresees_d (sp_fo L n F k).2 L n a1 (by omega)
    have e2 : ((sp_fo L n F (k + 1)).2 0 0).toInt = ((sp_fo L n F k).2 0 0).toInt + 60 - ((sp_fo L n F k).2 0 0).toInt % 60 := e
    rw [e2]
    omega
noncomputable def fnP (d : Nat) (h : xm_H) (M : Nat) (r m w D W : Int32) (k : Nat) (s : Int32 × xp_F) (t : List (Option Value)) : xm_V := xm_run (d + 7) 180 69 (some (.ref M) :: some (.int r) :: some (.int m) :: some (.int w) :: some (.int D) :: some (.int W) :: some (.int s.1) :: some (.int (Int32.ofNat k)) :: t) [] (xp_m h M s.2)
theorem c180s (q : MS h M) (hn : rg (F 0 6) 12) (hd : rg (F 0 0) 2400) {r m w D W : Int32} (hr : rg r 1) (hm : rg m 8) {n : Nat} {L : Nat → Ln} (hM : MR F r.toNatClampNeg n L) (k : Nat) (s : Int32 × xp_F) (t : List (Option Value)) (hk : k < m.toNatClampNeg) (hs : s.1 = (sp_fo L n F k).1 ∧ eN (sp_fo L n F k).2 s.2 ∧ ∀ o j, gP o j → ¬ o = 29 → s.2 o j = sp_keep F o j) : ∃ (s' : Int32 × xp_F) (t' : List (Option Value)), fnP d h M r m w D W k s t = fnP d h M r m w D W (k + 1) s' t' ∧ s'.1 = (sp_fo L n F (k + 1)).1 ∧ eN (sp_fo L n F (k + 1)).2 s'.2 ∧ ∀ o j, gP o j → ¬ o = 29 → s'.2 o j = sp_keep F o j := by
  obtain ⟨b, G⟩ := s
  obtain ⟨h1, h2, h3⟩ := hs
  have h1 : b = (sp_fo L n F k).1 := h1
  have h2 : eN (sp_fo L n F k).2 G := h2
  have h3 : ∀ o j, gP o j → ¬ o = 29 → G o j = sp_keep F o j := h3
  obtain ⟨i1, e1, c0, -, k8⟩ := lp_k hm (by decide) hk
  obtain ⟨d1, d2⟩ := hd
  obtain ⟨a1, a2⟩ := @fo_d F L n d1 k (by omega)
  have g6 := (h2 0 6 (by decide)).trans (fo_6 k)
  have gd := h2 0 0 (by decide)
  have mG : MR G r.toNatClampNeg n L := hM.gP (fun o j p1 p2 => (h3 o j (Or.inl p1) (by omega)).trans (keep_o (by omega)))
  obtain ⟨G2, m1, p1⟩ := @c182 d h M G q (by rw [g6]; exact hn) (by rw [gd]; omega) (by rw [gd]; omega) r hr n L mG
  obtain ⟨f1, f2⟩ := h2.foresees (L := L) (n := n)
  rw [f1] at m1
  refine ⟨(b + (sp_foresees L n (sp_fo L n F k).2).1, G2), t, ?_, by rw [h1]; rfl, f2.tr (eN.pq p1), fun o j p ho => ?_⟩
  · unfold fnP
    show xm_run (d + 7) 180 69 (some (.ref M) :: some (.int r) :: some (.int m) :: some (.int w) :: some (.int D) :: some (.int W) :: some (.int b) :: some (.int (Int32.ofNat k)) :: t) [] (xp_m h M G) = _
    rw [r180_69]
    simp only [ite_not, ite_self, w8_nil, ok01, ite10, rf_rv, rf_ref, rf_cat, rf_lk2, rf_some, rf_none, w_add, w_cons, cr_int, cr_long, cr_ref, cr_null, is_ref, is_null, l2_int, l2_ref, l2_null, l2_none, ent_nil, ent_int, ent_ref, ent_null, ent_rf, ent_long, ok_0, ok_1, af_ret, af_void, List.tail_cons, List.tail_nil, Nat.reduceAdd, Nat.reduceLeDiff, not_false_eq_true, not_true_eq_false, and_self, and_true, true_and, ne_eq, or_true, true_or, or_false, false_or, eq_self, Nat.reduceEqDiff, ↓reduceIte, false_and, and_false, Nat.le_refl, Nat.zero_le, nz_1, nz_2, nz_3, nz_4, nz_5, nz_6, nz_8, nz_10, nz_12, nz_20, nz_30, nz_60, nz_100, mp_B, mp_Z, mp_S, mp_C, mp_K, mp_N, mp_L, mp_R, mp_I, mp_I0, mp_s, mp_s0, u2_ap, sp_isLedge, sp_isLadder, sp_isPerson, sp_isLiving, sp_isLot, sp_isThere, sp_isSpan, ms_K q, ms_B q, r180_71, r180_75, r180_77, r180_78, r180_79, r180_82, r180_83, r180_85, r180_88, r180_72, c0, m1, nat_succ]
  · exact (p1.1 o j ho).trans ((foresees_gP p).trans (h3 o j p ho))
theorem c180 (q : MS h M) (hn : rg (F 0 6) 12) (hl : rg (F 0 68) 40) (hd : rg (F 0 0) 2400) (hb : ∀ l, l < 12 → bl (F 12 l) ∧ bl (F 13 l)) {n0 n1 : Nat} {L0 L1 : Nat → Ln} (h0 : MR F 0 n0 L0) (h1 : MR F 1 n1 L1) {r m w : Int32} : ∃ G, xm_met (d + 7) 180 [.ref M, .int r, .int m, .int w] (xp_m h M F) = some (.inl (some (.int (sp_foreseen F n0 L0 n1 L1 r m w))), xp_m h M G) ∧ sf F G := by
  unfold xm_met sp_foreseen
  by_cases c1 : 0 ≤ r ∧ r ≤ 1
  case neg =>
    refine ⟨F, ?_, sf.rf⟩
    simp only [ite_not, ite_self, w8_nil, ok01, ite10, rf_rv, rf_ref, rf_cat, rf_lk2, rf_some, rf_none, w_add, w_cons, cr_int, cr_long, cr_ref, cr_null, is_ref, is_null, l2_int, l2_ref, l2_null, l2_none, ent_nil, ent_int, ent_ref, ent_null, ent_rf, ent_long, ok_0, ok_1, af_ret, af_void, List.tail_cons, List.tail_nil, Nat.reduceAdd, Nat.reduceLeDiff, not_false_eq_true, not_true_eq_false, and_self, and_true, true_and, ne_eq, or_true, true_or, or_false, false_or, eq_self, Nat.reduceEqDiff, ↓reduceIte, false_and, and_false, Nat.le_refl, Nat.zero_le, nz_1, nz_2, nz_3, nz_4, nz_5, nz_6, nz_8, nz_10, nz_12, nz_20, nz_30, nz_60, nz_100, mp_B, mp_Z, mp_S, mp_C, mp_K, mp_N, mp_L, mp_R, mp_I, mp_I0, mp_s, mp_s0, u2_ap, sp_isLedge, sp_isLadder, sp_isPerson, sp_isLiving, sp_isLot, sp_isThere, sp_isSpan, ms_K q, ms_B q, r180_0, r180_1, r180_2, r180_3, r180_9, r180_10, r180_11, r180_13, r180_19, r180_20, r180_21, r180_22, r180_28, r180_29, r180_32, r180_33, r180_34, r180_39, r180_40, r180_6, r180_16, r180_25, r180_36, c91, c101 q, c1]
  by_cases c2 : 1 ≤ m ∧ m ≤ 8
  case neg =>
    refine ⟨F, ?_, sf.rf⟩
    simp only [ite_not, ite_self, w8_nil, ok01, ite10, rf_rv, rf_ref, rf_cat, rf_lk2, rf_some, rf_none, w_add, w_cons, cr_int, cr_long, cr_ref, cr_null, is_ref, is_null, l2_int, l2_ref, l2_null, l2_none, ent_nil, ent_int, ent_ref, ent_null, ent_rf, ent_long, ok_0, ok_1, af_ret, af_void, List.tail_cons, List.tail_nil, Nat.reduceAdd, Nat.reduceLeDiff, not_false_eq_true, not_true_eq_false, and_self, and_true, true_and, ne_eq, or_true, true_or, or_false, false_or, eq_self, Nat.reduceEqDiff, ↓reduceIte, false_and, and_false, Nat.le_refl, Nat.zero_le, nz_1, nz_2, nz_3, nz_4, nz_5, nz_6, nz_8, nz_10, nz_12, nz_20, nz_30, nz_60, nz_100, mp_B, mp_Z, mp_S, mp_C, mp_K, mp_N, mp_L, mp_R, mp_I, mp_I0, mp_s, mp_s0, u2_ap, sp_isLedge, sp_isLadder, sp_isPerson, sp_isLiving, sp_isLot, sp_isThere, sp_isSpan, ms_K q, ms_B q, r180_0, r180_1, r180_2, r180_3, r180_9, r180_10, r180_11, r180_13, r180_19, r180_20, r180_21, r180_22, r180_28, r180_29, r180_32, r180_33, r180_34, r180_39, r180_40, r180_6, r180_16, r180_25, r180_36, c91, c101 q, c1, c2]
  by_cases c3 : 0 ≤ w ∧ w ≤ 1
  case neg =>
    refine ⟨F, ?_, sf.rf⟩
    simp only [ite_not, ite_self, w8_nil, ok01, ite10, rf_rv, rf_ref, rf_cat, rf_lk2, rf_some, rf_none, w_add, w_cons, cr_int, cr_long, cr_ref, cr_null, is_ref, is_null, l2_int, l2_ref, l2_null, l2_none, ent_nil, ent_int, ent_ref, ent_null, ent_rf, ent_long, ok_0, ok_1, af_ret, af_void, List.tail_cons, List.tail_nil, Nat.reduceAdd, Nat.reduceLeDiff, not_false_eq_true, not_true_eq_false, and_self, and_true, true_and, ne_eq, or_true, true_or, or_false, false_or, eq_self, Nat.reduceEqDiff, ↓reduceIte, false_and, and_false, Nat.le_refl, Nat.zero_le, nz_1, nz_2, nz_3, nz_4, nz_5, nz_6, nz_8, nz_10, nz_12, nz_20, nz_30, nz_60, nz_100, mp_B, mp_Z, mp_S, mp_C, mp_K, mp_N, mp_L, mp_R, mp_I, mp_I0, mp_s, mp_s0, u2_ap, sp_isLedge, sp_isLadder, sp_isPerson, sp_isLiving, sp_isLot, sp_isThere, sp_isSpan, ms_K q, ms_B q, r180_0, r180_1, r180_2, r180_3, r180_9, r180_10, r180_11, r180_13, r180_19, r180_20, r180_21, r180_22, r180_28, r180_29, r180_32, r180_33, r180_34, r180_39, r180_40, r180_6, r180_16, r180_25, r180_36, c91, c101 q, c1, c2, c3]
  by_cases c4 : F 0 0 / 60 + m ≤ 40
  case neg =>
    refine ⟨F, ?_, sf.rf⟩
    simp only [ite_not, ite_self, w8_nil, ok01, ite10, rf_rv, rf_ref, rf_cat, rf_lk2, rf_some, rf_none, w_add, w_cons, cr_int, cr_long, cr_ref, cr_null, is_ref, is_null, l2_int, l2_ref, l2_null, l2_none, ent_nil, ent_int, ent_ref, ent_null, ent_rf, ent_long, ok_0, ok_1, af_ret, af_void, List.tail_cons, List.tail_nil, Nat.reduceAdd, Nat.reduceLeDiff, not_false_eq_true, not_true_eq_false, and_self, and_true, true_and, ne_eq, or_true, true_or, or_false, false_or, eq_self, Nat.reduceEqDiff, ↓reduceIte, false_and, and_false, Nat.le_refl, Nat.zero_le, nz_1, nz_2, nz_3, nz_4, nz_5, nz_6, nz_8, nz_10, nz_12, nz_20, nz_30, nz_60, nz_100, mp_B, mp_Z, mp_S, mp_C, mp_K, mp_N, mp_L, mp_R, mp_I, mp_I0, mp_s, mp_s0, u2_ap, sp_isLedge, sp_isLadder, sp_isPerson, sp_isLiving, sp_isLot, sp_isThere, sp_isSpan, ms_K q, ms_B q, r180_0, r180_1, r180_2, r180_3, r180_9, r180_10, r180_11, r180_13, r180_19, r180_20, r180_21, r180_22, r180_28, r180_29, r180_32, r180_33, r180_34, r180_39, r180_40, r180_6, r180_16, r180_25, r180_36, c91, c101 q, c1, c2, c3, c4]
  have hr : rg r 1 := by
    rcases r01 c1 with e | e <;> subst e <;> exact ⟨by decide, by decide⟩
  have hM : MR F r.toNatClampNeg (if r = 0 then n0 else n1) (if r = 0 then L0 else L1) := by
    rcases r01 c1 with e | e <;> subst e
    · exact h0
    · exact h1
  have a1 := Int32.le_iff_toInt_le.mp c2.1
  have a2 := Int32.le_iff_toInt_le.mp c2.2
  rw [show (1 : Int32).toInt = 1 from rfl] at a1
  rw [show (8 : Int32).toInt = 8 from rfl] at a2
  have hm : rg m 8 := ⟨by omega, by omega⟩
  generalize (if r = 0 then L0 else L1) = L at hM ⊢
  generalize (if r = 0 then n0 else n1) = n at hM ⊢
  have ek := @c181k (d + 6) h M F q hb
  have w0 : ∀ o j, ¬ gP o j → xm_u2 (sp_keep F) 0 1 0 o j = xm_u2 F 0 1 0 o j := fun o j p => by
    rw [u2_ap, u2_ap, keep_o (by omega)]
  obtain ⟨⟨b, G⟩, t, e, i1, i2, i3⟩ := xp_loop2 (P := fnP d h M r m w (F 0 0) (F 0 1)) (n := m.toNatClampNeg) (fun k s => s.1 = (sp_fo L n F k).1 ∧ eN (sp_fo L n F k).2 s.2 ∧ ∀ o j, gP o j → ¬ o = 29 → s.2 o j = sp_keep F o j) (fun k s t hk hs => c180s q hn hd hr hm hM k s t hk hs) _ 0 (0, xm_u2 (sp_keep F) 0 1 0) [] (Nat.zero_add _) ⟨rfl, w0, fun o j p _ => by
    show xm_u2 (sp_keep F) 0 1 0 o j = _
    rw [u2_ap, if_neg (by omega)]⟩
  have i1 : b = (sp_fo L n F m.toNatClampNeg).1 := i1
  have i2 : eN (sp_fo L n F m.toNatClampNeg).2 G := i2
  have i3 : ∀ o j, gP o j → ¬ o = 29 → G o j = sp_keep F o j := i3
  have c0 := (lp_end hm (by decide)).1
  have g6 := (i2 0 6 (by decide)).trans (fo_6 _)
  have gl := i3 0 68 (by decide) (by decide)
  rw [keep_o (by decide)] at gl
  have e5 := @c109 (d + 4) h M G q (by rw [g6]; exact hn) (by rw [gl]; exact hl) 9
  rw [look9, i2.strengths] at e5
  have bG : ∀ l, l < 12 → bl (G 69 l) ∧ bl (G 70 l) := fun l hl => by
    rw [i3 69 l (by omega) (by decide), i3 70 l (by omega) (by decide)]
    obtain ⟨-, -, -, -, -, -, b7, b8⟩ := @keep_k F l hl
    rw [b7, b8]
    exact hb l hl
  have e6 := @c181r (d + 6) h M G q bG
  unfold fnP at e
  rw [show Int32.ofNat 0 = (0 : Int32) from rfl] at e
  have sW2 : ∀ o k, gW o k → ∀ j, (sp_fo L n F j).2 o k = xm_u2 F 0 1 0 o k := fun o k p j => by
    induction j with
    | zero => rfl
    | succ j ih => exact (foresees_w p).trans ih
  refine ⟨xm_u2 (xm_u2 (sp_back G) 0 0 (F 0 0)) 0 1 (F 0 1), ?_, ?_⟩
  · by_cases c5 : w = 0
    · simp only [ite_not, ite_self, w8_nil, ok01, ite10, rf_rv, rf_ref, rf_cat, rf_lk2, rf_some, rf_none, w_add, w_cons, cr_int, cr_long, cr_ref, cr_null, is_ref, is_null, l2_int, l2_ref, l2_null, l2_none, ent_nil, ent_int, ent_ref, ent_null, ent_rf, ent_long, ok_0, ok_1, af_ret, af_void, List.tail_cons, List.tail_nil, Nat.reduceAdd, Nat.reduceLeDiff, not_false_eq_true, not_true_eq_false, and_self, and_true, true_and, ne_eq, or_true, true_or, or_false, false_or, eq_self, Nat.reduceEqDiff, ↓reduceIte, false_and, and_false, Nat.le_refl, Nat.zero_le, nz_1, nz_2, nz_3, nz_4, nz_5, nz_6, nz_8, nz_10, nz_12, nz_20, nz_30, nz_60, nz_100, mp_B, mp_Z, mp_S, mp_C, mp_K, mp_N, mp_L, mp_R, mp_I, mp_I0, mp_s, mp_s0, u2_ap, sp_isLedge, sp_isLadder, sp_isPerson, sp_isLiving, sp_isLot, sp_isThere, sp_isSpan, ms_K q, ms_B q, r180_0, r180_1, r180_2, r180_3, r180_9, r180_10, r180_11, r180_13, r180_19, r180_20, r180_21, r180_22, r180_28, r180_29, r180_32, r180_33, r180_34, r180_39, r180_40, r180_41, r180_42, r180_45, r180_47, r180_48, r180_51, r180_53, r180_54, r180_55, r180_58, r180_59, r180_60, r180_63, r180_64, r180_66, r180_67, r180_6, r180_16, r180_25, r180_36, c91, c101 q, c1, c2, c3, c4, ek, keep_o (F := F) (o := 0) (by decide)]
      rw [e, r180_69]
      simp only [ite_not, ite_self, w8_nil, ok01, ite10, rf_rv, rf_ref, rf_cat, rf_lk2, rf_some, rf_none, w_add, w_cons, cr_int, cr_long, cr_ref, cr_null, is_ref, is_null, l2_int, l2_ref, l2_null, l2_none, ent_nil, ent_int, ent_ref, ent_null, ent_rf, ent_long, ok_0, ok_1, af_ret, af_void, List.tail_cons, List.tail_nil, Nat.reduceAdd, Nat.reduceLeDiff, not_false_eq_true, not_true_eq_false, and_self, and_true, true_and, ne_eq, or_true, true_or, or_false, false_or, eq_self, Nat.reduceEqDiff, ↓reduceIte, false_and, and_false, Nat.le_refl, Nat.zero_le, nz_1, nz_2, nz_3, nz_4, nz_5, nz_6, nz_8, nz_10, nz_12, nz_20, nz_30, nz_60, nz_100, mp_B, mp_Z, mp_S, mp_C, mp_K, mp_N, mp_L, mp_R, mp_I, mp_I0, mp_s, mp_s0, u2_ap, sp_isLedge, sp_isLadder, sp_isPerson, sp_isLiving, sp_isLot, sp_isThere, sp_isSpan, ms_K q, ms_B q, r180_71, r180_75, r180_77, r180_78, r180_79, r180_82, r180_83, r180_85, r180_88, r180_91, r180_92, r180_94, r180_97, r180_99, r180_100, r180_101, r180_104, r180_105, r180_107, r180_110, r180_111, r180_113, r180_116, r180_120, r180_122, r180_125, r180_127, r180_72, r180_117, c0, e5, e6, c5]
      rw [← i1]
    · simp only [ite_not, ite_self, w8_nil, ok01, ite10, rf_rv, rf_ref, rf_cat, rf_lk2, rf_some, rf_none, w_add, w_cons, cr_int, cr_long, cr_ref, cr_null, is_ref, is_null, l2_int, l2_ref, l2_null, l2_none, ent_nil, ent_int, ent_ref, ent_null, ent_rf, ent_long, ok_0, ok_1, af_ret, af_void, List.tail_cons, List.tail_nil, Nat.reduceAdd, Nat.reduceLeDiff, not_false_eq_true, not_true_eq_false, and_self, and_true, true_and, ne_eq, or_true, true_or, or_false, false_or, eq_self, Nat.reduceEqDiff, ↓reduceIte, false_and, and_false, Nat.le_refl, Nat.zero_le, nz_1, nz_2, nz_3, nz_4, nz_5, nz_6, nz_8, nz_10, nz_12, nz_20, nz_30, nz_60, nz_100, mp_B, mp_Z, mp_S, mp_C, mp_K, mp_N, mp_L, mp_R, mp_I, mp_I0, mp_s, mp_s0, u2_ap, sp_isLedge, sp_isLadder, sp_isPerson, sp_isLiving, sp_isLot, sp_isThere, sp_isSpan, ms_K q, ms_B q, r180_0, r180_1, r180_2, r180_3, r180_9, r180_10, r180_11, r180_13, r180_19, r180_20, r180_21, r180_22, r180_28, r180_29, r180_32, r180_33, r180_34, r180_39, r180_40, r180_41, r180_42, r180_45, r180_47, r180_48, r180_51, r180_53, r180_54, r180_55, r180_58, r180_59, r180_60, r180_63, r180_64, r180_66, r180_67, r180_6, r180_16, r180_25, r180_36, c91, c101 q, c1, c2, c3, c4, ek, keep_o (F := F) (o := 0) (by decide)]
      rw [e, r180_69]
      simp only [ite_not, ite_self, w8_nil, ok01, ite10, rf_rv, rf_ref, rf_cat, rf_lk2, rf_some, rf_none, w_add, w_cons, cr_int, cr_long, cr_ref, cr_null, is_ref, is_null, l2_int, l2_ref, l2_null, l2_none, ent_nil, ent_int, ent_ref, ent_null, ent_rf, ent_long, ok_0, ok_1, af_ret, af_void, List.tail_cons, List.tail_nil, Nat.reduceAdd, Nat.reduceLeDiff, not_false_eq_true, not_true_eq_false, and_self, and_true, true_and, ne_eq, or_true, true_or, or_false, false_or, eq_self, Nat.reduceEqDiff, ↓reduceIte, false_and, and_false, Nat.le_refl, Nat.zero_le, nz_1, nz_2, nz_3, nz_4, nz_5, nz_6, nz_8, nz_10, nz_12, nz_20, nz_30, nz_60, nz_100, mp_B, mp_Z, mp_S, mp_C, mp_K, mp_N, mp_L, mp_R, mp_I, mp_I0, mp_s, mp_s0, u2_ap, sp_isLedge, sp_isLadder, sp_isPerson, sp_isLiving, sp_isLot, sp_isThere, sp_isSpan, ms_K q, ms_B q, r180_71, r180_75, r180_77, r180_78, r180_79, r180_82, r180_83, r180_85, r180_88, r180_91, r180_92, r180_94, r180_97, r180_99, r180_100, r180_101, r180_104, r180_105, r180_107, r180_110, r180_111, r180_113, r180_116, r180_120, r180_122, r180_125, r180_127, r180_72, r180_117, c0, e5, e6, c5]
  · intro o k p1 p2 p3
    rw [u2_ap]
    by_cases x1 : o = 0 ∧ k = 1
    · rw [if_pos x1, x1.1, x1.2]
    rw [if_neg x1, u2_ap]
    by_cases x2 : o = 0 ∧ k = 0
    · rw [if_pos x2, x2.1, x2.2]
    rw [if_neg x2]
    by_cases x3 : (5 ≤ o ∧ o ≤ 8) ∨ (10 ≤ o ∧ o ≤ 13)
    · have k12 := p3 x3
      obtain ⟨s1, s2, s3, s4, s5, s6, s7, s8⟩ := @keep_k F k k12
      obtain ⟨t1, t2, t3, t4, t5, t6, t7, t8⟩ := @back_k G k k12
      have hg : ∀ j, G 68 j = sp_keep F 68 j := fun j => i3 68 j (by omega) (by decide)
      rw [hg] at t1 t2 t3 t4 t5 t6
      rw [i3 69 k (by omega) (by decide)] at t7
      rw [i3 70 k (by omega) (by decide)] at t8
      have ho : o = 5 ∨ o = 6 ∨ o = 7 ∨ o = 8 ∨ o = 10 ∨ o = 11 ∨ o = 12 ∨ o = 13 := by omega
      rcases ho with e | e | e | e | e | e | e | e <;> subst e
      · exact t1.trans s1
      · exact t2.trans s2
      · exact t3.trans s3
      · exact t4.trans s4
      · exact t5.trans s5
      · exact t6.trans s6
      · exact t7.trans s7
      · exact t8.trans s8
    · have pw : gW o k := by omega
      rw [back_o pw]
      by_cases x4 : gP o k
      · rw [i3 o k x4 p1, keep_o p2]
      · rw [i2 o k x4, sW2 o k pw, u2_ap, if_neg x1]
end M32
