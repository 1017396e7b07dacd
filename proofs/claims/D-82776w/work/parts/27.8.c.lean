/-! the component's contracts, 18: rows, row -/
set_option maxRecDepth 100000
theorem mask_bit {S : List Nat} (hS : ∀ l ∈ S, l < 32) {j : Nat} (hj : j < 32) : bit (sq_mask S) j = decide (j ∈ S) := by
  have go : ∀ (S : List Nat) (a : Int32), (∀ l ∈ S, l < 32) → bit (S.foldl (fun a l => a ||| 1 <<< (Int32.ofNat l &&& 31)) a) j = (bit a j || decide (j ∈ S)) := by
    intro S
    induction S with
    | nil => intro a _; simp
    | cons l S ih =>
      intro a h
      rw [List.foldl_cons, ih _ (fun x hx => h x (List.mem_cons_of_mem _ hx)), bit_set (h l List.mem_cons_self) hj]
      by_cases e : j = l
      · simp [e]
      · simp [e]
  unfold sq_mask
  rw [go S 0 hS, bit_0, Bool.false_or]
theorem lows_ext {set : Int32} {N : Nat} : ∀ (k : Nat), (∀ j, N ≤ j → j < N + k → bit set j = false) → sp_lows set (N + k) = sp_lows set N
  | 0, _ => rfl
  | k + 1, h => by
    have ih := lows_ext (set := set) (N := N) k (fun j h1 h2 => h j h1 (by omega))
    have e : sp_lows set (N + (k + 1)) = if (sp_lows set (N + k)).length < 7 ∧ bit set (N + k) = true then sp_lows set (N + k) ++ [N + k] else sp_lows set (N + k) := rfl
    rw [e, if_neg, ih]
    intro z
    rw [h (N + k) (by omega) (by omega)] at z
    exact absurd z.2 (by decide)
theorem small_set {s : Int32} (h : ∀ j, 12 ≤ j → j < 32 → bit s j = false) : ∃ x : Fin 4096, s = Int32.ofNat x.val := by
  have e : s = s &&& 4095 := by
    apply Int32.toBitVec_inj.mp
    rw [Int32.toBitVec_and]
    apply BitVec.eq_of_getLsbD_eq
    intro i hi
    rw [BitVec.getLsbD_and]
    by_cases c : i < 12
    · have : ∀ i : Fin 12, BitVec.getLsbD (Int32.toBitVec 4095) i.val = true := by decide
      rw [this ⟨i, c⟩, Bool.and_true]
    · have := h i (by omega) hi
      unfold bit at this
      rw [this, Bool.false_and]
  have lt : s.toBitVec.toNat < 4096 := by
    rw [e, Int32.toBitVec_and, BitVec.toNat_and]
    have : (Int32.toBitVec 4095).toNat = 4095 := by decide
    rw [this]
    exact Nat.lt_of_le_of_lt Nat.and_le_right (by decide)
  refine ⟨⟨s.toBitVec.toNat, lt⟩, ?_⟩
  apply Int32.toBitVec_inj.mp
  show s.toBitVec = BitVec.ofNat 32 _
  rw [BitVec.ofNat_toNat]
  simp
theorem low7_bit {s : Int32} {N : Nat} (hN : N ≤ 12) (h : ∀ j, N ≤ j → j < 32 → bit s j = false) {j : Nat} (hj : j < 32) : bit (sq_low7 7 0 s) j = decide (j ∈ sp_lows s N) := by
  obtain ⟨x, e⟩ := small_set (fun j h1 h2 => h j (by omega) h2)
  have d := low7_dec x
  rw [← e] at d
  have l := lows_ext (set := s) (N := N) (12 - N) (fun j h1 h2 => h j h1 (by omega))
  rw [show N + (12 - N) = 12 by omega] at l
  rw [d, mask_bit (fun l hl => by have := lows_lt 12 l hl; omega) hj, l]
section C17
variable {d : Nat} {h : xm_H} {D : xp_D} {F : xp_F}
theorem c38l (q : CS h D) {G : xp_F} {k c w : Int32} : ∀ (n i : Nat) (s x : Int32) (t : List (Option Value)), i + n = 7 → ∃ t', xm_run (d + 1) 38 23 (some (.ref (xd_X D)) :: some (.int k) :: some (.int c) :: some (.int w) :: some (.int s) :: some (.int x) :: some (.int (Int32.ofNat i)) :: t) [] (xp_c h D G) = xm_run (d + 1) 38 61 (some (.ref (xd_X D)) :: some (.int k) :: some (.int c) :: some (.int w) :: some (.int (sq_low7 n s x)) :: t') [] (xp_c h D G)
  | 0, i, s, x, t, e => by
    have e : i = 7 := by omega
    subst e
    have c0 : (7 : Int32) ≤ Int32.ofNat 7 := by decide
    refine ⟨some (.int x) :: some (.int (Int32.ofNat 7)) :: t, ?_⟩
    rw [r38_23]
    simp only [ite_not, ite_self, w8_nil, ok01, ite10, rf_rv, rf_ref, rf_cat, rf_lk2, rf_some, rf_none, w_add, w_cons, cr_int, cr_long, cr_ref, cr_null, is_ref, is_null, l2_int, l2_ref, l2_null, l2_none, ent_nil, ent_int, ent_ref, ent_null, ent_rf, ent_long, ok_0, ok_1, af_ret, af_void, List.tail_cons, List.tail_nil, Nat.reduceAdd, Nat.reduceLeDiff, not_false_eq_true, not_true_eq_false, and_self, and_true, true_and, ne_eq, or_true, true_or, or_false, false_or, eq_self, Nat.reduceEqDiff, ↓reduceIte, false_and, and_false, Nat.le_refl, Nat.zero_le, nz_1, nz_2, nz_3, nz_4, nz_5, nz_6, nz_8, nz_10, nz_12, nz_20, nz_30, nz_60, nz_100, r38_25, r38_27, c0]
    rfl
  | n + 1, i, s, x, t, e => by
    have c0 : ¬ (7 : Int32) ≤ Int32.ofNat i := by
      rw [Int32.le_iff_toInt_le, ti_nat (by omega), show (7 : Int32).toInt = 7 from rfl]
      omega
    by_cases c1 : x = 0
    · refine ⟨some (.int x) :: some (.int (Int32.ofNat i)) :: t, ?_⟩
      have e2 : sq_low7 (n + 1) s x = s := if_pos c1
      rw [r38_23, e2]
      simp only [ite_not, ite_self, w8_nil, ok01, ite10, rf_rv, rf_ref, rf_cat, rf_lk2, rf_some, rf_none, w_add, w_cons, cr_int, cr_long, cr_ref, cr_null, is_ref, is_null, l2_int, l2_ref, l2_null, l2_none, ent_nil, ent_int, ent_ref, ent_null, ent_rf, ent_long, ok_0, ok_1, af_ret, af_void, List.tail_cons, List.tail_nil, Nat.reduceAdd, Nat.reduceLeDiff, not_false_eq_true, not_true_eq_false, and_self, and_true, true_and, ne_eq, or_true, true_or, or_false, false_or, eq_self, Nat.reduceEqDiff, ↓reduceIte, false_and, and_false, Nat.le_refl, Nat.zero_le, nz_1, nz_2, nz_3, nz_4, nz_5, nz_6, nz_8, nz_10, nz_12, nz_20, nz_30, nz_60, nz_100, r38_25, r38_30, r38_27, r38_32, c0, c1]
    · obtain ⟨t', ih⟩ := c38l q (G := G) (k := k) (c := c) (w := w) n (i + 1) (s ||| (x &&& -x)) (x &&& (x - 1)) t (by omega)
      refine ⟨t', ?_⟩
      have e2 : sq_low7 (n + 1) s x = sq_low7 n (s ||| (x &&& -x)) (x &&& (x - 1)) := if_neg c1
      rw [e2, ← ih, r38_23]
      simp only [ite_not, ite_self, w8_nil, ok01, ite10, rf_rv, rf_ref, rf_cat, rf_lk2, rf_some, rf_none, w_add, w_cons, cr_int, cr_long, cr_ref, cr_null, is_ref, is_null, l2_int, l2_ref, l2_null, l2_none, ent_nil, ent_int, ent_ref, ent_null, ent_rf, ent_long, ok_0, ok_1, af_ret, af_void, List.tail_cons, List.tail_nil, Nat.reduceAdd, Nat.reduceLeDiff, not_false_eq_true, not_true_eq_false, and_self, and_true, true_and, ne_eq, or_true, true_or, or_false, false_or, eq_self, Nat.reduceEqDiff, ↓reduceIte, false_and, and_false, Nat.le_refl, Nat.zero_le, nz_1, nz_2, nz_3, nz_4, nz_5, nz_6, nz_8, nz_10, nz_12, nz_20, nz_30, nz_60, nz_100, r38_25, r38_30, r38_35, r38_37, r38_39, r38_41, r38_42, r38_43, r38_44, r38_46, r38_48, r38_50, r38_51, r38_52, r38_53, r38_55, r38_58, r38_27, r38_32, c0, c1, nat_succ]
theorem lows_bit {set : Int32} : ∀ (N : Nat) (l : Nat), l ∈ sp_lows set N → bit set l = true
  | 0, _, h => by cases h
  | N + 1, l, h => by
    have e : sp_lows set (N + 1) = if (sp_lows set N).length < 7 ∧ bit set N = true then sp_lows set N ++ [N] else sp_lows set N := rfl
    rw [e] at h
    split at h
    · rename_i c
      rcases List.mem_append.mp h with h | h
      · exact lows_bit N l h
      · have : l = N := by simpa using h
        rw [this]
        exact c.2
    · exact lows_bit N l h
theorem c38 (q : CS h D) (hn : CN D F) {n : Nat} {L : Nat → Ln} (hC : CR h D 0 n L) (hm : F 14 0 = Int32.ofNat n) {k c w : Int32} (ik : xm_in k 4 = true) (iw : sp_isPerson F w) (hb : HB F (sp_cutOf F n L) (sp_lows (sp_reached F n L k c w) (F 0 6).toNatClampNeg)) {B0 : Bst} (hB : BRc F B0) : ∃ G, xm_met (d + 705) 38 [.ref (xd_X D), .int k, .int c, .int w] (xp_c h D F) = some (.inl none, xp_c h D G) ∧ cq F G ∧ BRc G (sp_rows F n L k c w) ∧ ∀ l ∈ sp_lows (sp_reached F n L k c w) (F 0 6).toNatClampNeg, G 83 l = sp_cutOf F n L l := by
  have n12 := (cs_n q).1
  have tn : (F 0 6).toNatClampNeg = xd_n D 0 := by rw [hn.1, tc_nat (by omega)]
  obtain ⟨G1, m1, g1, g2, g3⟩ := @c36 d h D F q hn n L hC hm k c w ik
  have i1 := in_cnt (hn.p q) iw
  have o1 := cs_P q (hn.pp q iw)
  unfold sp_rows
  rw [tn] at hb ⊢
  generalize eR : sp_reached F n L k c w = R at *
  have h7 := lows_len (set := R) (xd_n D 0)
  have hlt : ∀ l ∈ sp_lows R (xd_n D 0), l < xd_n D 0 := fun l hl => lows_lt _ l hl
  obtain ⟨t', e1⟩ := @c38l (d + 704) h D q G1 k c w 7 0 0 R [] rfl
  rw [show Int32.ofNat 0 = (0 : Int32) from rfl] at e1
  have hI : trI F (sp_cutOf F n L) (sp_lows R (xd_n D 0)) [] G1 := ⟨g1.cq, fun i hi => absurd hi (Nat.not_lt_zero _), fun l hl => g2 l (hlt l hl) (lows_bit _ l hl)⟩
  have hB1 : BRc G1 B0 := hB.ag (fun o j ho => g1 o j (by omega) (by omega) (by omega) (by omega))
  obtain ⟨G2, m2, b2, i2⟩ := @c39 (d + (702 - (sp_lows R (xd_n D 0)).length)) h D F q hn (sp_cutOf F n L) (sp_lows R (xd_n D 0)) h7 hlt (sp_lows R (xd_n D 0)).length [] 0 0 0 (sq_low7 7 0 R) G1 B0 (Nat.zero_add _) (fr_max _) (fun o ho => by cases ho) (fun j hj => by
    rw [low7_bit n12 g3 hj]
    simp) hI hB1
  rw [trc_found hb B0] at b2
  rw [show d + (702 - (sp_lows R (xd_n D 0)).length) + (sp_lows R (xd_n D 0)).length + 2 = d + 704 by omega, show Int32.ofNat ([] : List Nat).length = (0 : Int32) from rfl, show sp_hr F [] = 99 from rfl] at m2
  refine ⟨G2, ?_, i2.1, b2, i2.2.2⟩
  unfold xm_met
  rw [show d + 705 = d + 704 + 1 from rfl]
  simp only [ite_not, ite_self, w8_nil, ok01, ite10, rf_rv, rf_ref, rf_cat, rf_lk2, rf_some, rf_none, w_add, w_cons, cr_int, cr_long, cr_ref, cr_null, is_ref, is_null, l2_int, l2_ref, l2_null, l2_none, ent_nil, ent_int, ent_ref, ent_null, ent_rf, ent_long, ok_0, ok_1, af_ret, af_void, List.tail_cons, List.tail_nil, Nat.reduceAdd, Nat.reduceLeDiff, not_false_eq_true, not_true_eq_false, and_self, and_true, true_and, ne_eq, or_true, true_or, or_false, false_or, eq_self, Nat.reduceEqDiff, ↓reduceIte, false_and, and_false, Nat.le_refl, Nat.zero_le, nz_1, nz_2, nz_3, nz_4, nz_5, nz_6, nz_8, nz_10, nz_12, nz_20, nz_30, nz_60, nz_100, mc_B, mc_Z, mc_S, mc_C, mc_K, mc_N, mc_R, mc_I, mc_L, va_Is, va_Ls, va_us, va_iss, u2_ap, sp_isLedge, sp_isLadder, sp_isPerson, sp_isLiving, sp_isLot, sp_isThere, sp_isSpan, cs_K q, cs_B q, mc_s (cs_inj q), cs_f30 q, r38_0, r38_1, r38_3, r38_4, r38_5, r38_6, r38_7, r38_10, r38_11, r38_12, r38_15, r38_18, r38_20, r38_21, ent_nil, i1, o1, m1]
  rw [e1]
  simp only [ite_not, ite_self, w8_nil, ok01, ite10, rf_rv, rf_ref, rf_cat, rf_lk2, rf_some, rf_none, w_add, w_cons, cr_int, cr_long, cr_ref, cr_null, is_ref, is_null, l2_int, l2_ref, l2_null, l2_none, ent_nil, ent_int, ent_ref, ent_null, ent_rf, ent_long, ok_0, ok_1, af_ret, af_void, List.tail_cons, List.tail_nil, Nat.reduceAdd, Nat.reduceLeDiff, not_false_eq_true, not_true_eq_false, and_self, and_true, true_and, ne_eq, or_true, true_or, or_false, false_or, eq_self, Nat.reduceEqDiff, ↓reduceIte, false_and, and_false, Nat.le_refl, Nat.zero_le, nz_1, nz_2, nz_3, nz_4, nz_5, nz_6, nz_8, nz_10, nz_12, nz_20, nz_30, nz_60, nz_100, mc_B, mc_Z, mc_S, mc_C, mc_K, mc_N, mc_R, mc_I, mc_L, va_Is, va_Ls, va_us, va_iss, u2_ap, sp_isLedge, sp_isLadder, sp_isPerson, sp_isLiving, sp_isLot, sp_isThere, sp_isSpan, cs_K q, cs_B q, mc_s (cs_inj q), cs_f30 q, r38_61, r38_62, r38_63, r38_65, r38_67, r38_68, r38_69, r38_70, r38_73, m2]
theorem c37 (q : CS h D) (hn : CN D F) (hl : rg (F 0 46) 4) {n : Nat} {L : Nat → Ln} (hC : CR h D 0 n L) (hm : F 14 0 = Int32.ofNat n) {k c w x : Int32} (hb : HB F (sp_cutOf F n L) (sp_lows (sp_reached F n L k c w) (F 0 6).toNatClampNeg)) {B0 : Bst} (hB : BRc F B0) : ∃ G, xm_met (d + 706) 37 [.ref (xd_X D), .int k, .int c, .int w, .int x] (xp_c h D F) = some (.inl (some (.int (sp_row F n L k c w x))), xp_c h D G) ∧ cq F G ∧ ∃ B1, BRc G B1 := by
  have e := @c34 (d + 704) h D F q hn hl k c w
  unfold xm_met sp_row
  by_cases c1 : sp_isLadder F k ∧ (0 ≤ c ∧ c ≤ 15) ∧ sp_isPerson F w
  case neg =>
    rw [if_neg c1] at e
    refine ⟨F, ?_, cq.rf, B0, hB⟩
    rw [if_neg c1]
    simp only [ite_not, ite_self, w8_nil, ok01, ite10, rf_rv, rf_ref, rf_cat, rf_lk2, rf_some, rf_none, w_add, w_cons, cr_int, cr_long, cr_ref, cr_null, is_ref, is_null, l2_int, l2_ref, l2_null, l2_none, ent_nil, ent_int, ent_ref, ent_null, ent_rf, ent_long, ok_0, ok_1, af_ret, af_void, List.tail_cons, List.tail_nil, Nat.reduceAdd, Nat.reduceLeDiff, not_false_eq_true, not_true_eq_false, and_self, and_true, true_and, ne_eq, or_true, true_or, or_false, false_or, eq_self, Nat.reduceEqDiff, ↓reduceIte, false_and, and_false, Nat.le_refl, Nat.zero_le, nz_1, nz_2, nz_3, nz_4, nz_5, nz_6, nz_8, nz_10, nz_12, nz_20, nz_30, nz_60, nz_100, mc_B, mc_Z, mc_S, mc_C, mc_K, mc_N, mc_R, mc_I, cs_K q, cs_B q, mc_s (cs_inj q), r37_0, r37_1, r37_2, r37_3, r37_4, r37_10, r37_11, r37_7, e]
  rw [if_pos c1] at e
  obtain ⟨G, m1, m2, m3, -⟩ := @c38 d h D F q hn n L hC hm k c w (in_cnt hl c1.1) c1.2.2 hb B0 hB
  have h7 := @rows_len F n L k c w
  refine ⟨G, ?_, m2, _, m3⟩
  rw [if_pos c1]
  obtain ⟨b1, b2, b3, b4, b5⟩ := m3
  generalize sp_rows F n L k c w = B at *
  have nn : (Int32.ofNat B.2.2.2.length).toInt = B.2.2.2.length := ti_nat (by omega)
  by_cases c3 : 10 ≤ x ∧ x ≤ 9 + Int32.ofNat B.2.2.2.length
  · have a1 := Int32.le_iff_toInt_le.mp c3.1
    have a2 := Int32.le_iff_toInt_le.mp c3.2
    rw [show (10 : Int32).toInt = 10 from rfl] at a1
    rw [ti_add (by rw [nn, show (9 : Int32).toInt = 9 from rfl]; omega), nn, show (9 : Int32).toInt = 9 from rfl] at a2
    have a3 := ti_sub (a := x) (b := 10) (by rw [show (10 : Int32).toInt = 10 from rfl]; omega)
    rw [show (10 : Int32).toInt = 10 from rfl] at a3
    have i1 : xm_in (x - 10) 7 = true := in_iff.mpr (by omega)
    have v := b5 (x - 10).toNatClampNeg (by show (x - 10).toInt.toNat < _; omega)
    have n0 : ¬ x = 0 := fun z => by rw [z] at a1; exact absurd a1 (by decide)
    have n1 : ¬ x = 1 := fun z => by rw [z] at a1; exact absurd a1 (by decide)
    have n2 : ¬ x = 2 := fun z => by rw [z] at a1; exact absurd a1 (by decide)
    have n3 : ¬ x = 3 := fun z => by rw [z] at a1; exact absurd a1 (by decide)
    simp only [ite_not, ite_self, w8_nil, ok01, ite10, rf_rv, rf_ref, rf_cat, rf_lk2, rf_some, rf_none, w_add, w_cons, cr_int, cr_long, cr_ref, cr_null, is_ref, is_null, l2_int, l2_ref, l2_null, l2_none, ent_nil, ent_int, ent_ref, ent_null, ent_rf, ent_long, ok_0, ok_1, af_ret, af_void, List.tail_cons, List.tail_nil, Nat.reduceAdd, Nat.reduceLeDiff, not_false_eq_true, not_true_eq_false, and_self, and_true, true_and, ne_eq, or_true, true_or, or_false, false_or, eq_self, Nat.reduceEqDiff, ↓reduceIte, false_and, and_false, Nat.le_refl, Nat.zero_le, nz_1, nz_2, nz_3, nz_4, nz_5, nz_6, nz_8, nz_10, nz_12, nz_20, nz_30, nz_60, nz_100, mc_B, mc_Z, mc_S, mc_C, mc_K, mc_N, mc_R, mc_I, mc_L, va_Is, va_Ls, va_us, va_iss, u2_ap, sp_isLedge, sp_isLadder, sp_isPerson, sp_isLiving, sp_isLot, sp_isThere, sp_isSpan, cs_K q, cs_B q, mc_s (cs_inj q), cs_f26 q, cs_f27 q, cs_f28 q, cs_f29 q, cs_f25 q, r37_0, r37_1, r37_2, r37_3, r37_4, r37_10, r37_11, r37_12, r37_13, r37_14, r37_15, r37_16, r37_19, r37_52, r37_53, r37_56, r37_57, r37_58, r37_61, r37_62, r37_63, r37_66, r37_67, r37_68, r37_71, r37_72, r37_74, r37_76, r37_78, r37_79, r37_82, r37_83, r37_89, r37_90, r37_93, r37_95, r37_97, r37_98, r37_99, r37_102, r37_103, r37_7, r37_21, r37_86, e, m1, xm_sw, b1, b2, b3, b4, c2, c3, i1, v, n0, n1, n2, n3]
    repeat' split
    all_goals first | rfl | contradiction
  · simp only [ite_not, ite_self, w8_nil, ok01, ite10, rf_rv, rf_ref, rf_cat, rf_lk2, rf_some, rf_none, w_add, w_cons, cr_int, cr_long, cr_ref, cr_null, is_ref, is_null, l2_int, l2_ref, l2_null, l2_none, ent_nil, ent_int, ent_ref, ent_null, ent_rf, ent_long, ok_0, ok_1, af_ret, af_void, List.tail_cons, List.tail_nil, Nat.reduceAdd, Nat.reduceLeDiff, not_false_eq_true, not_true_eq_false, and_self, and_true, true_and, ne_eq, or_true, true_or, or_false, false_or, eq_self, Nat.reduceEqDiff, ↓reduceIte, false_and, and_false, Nat.le_refl, Nat.zero_le, nz_1, nz_2, nz_3, nz_4, nz_5, nz_6, nz_8, nz_10, nz_12, nz_20, nz_30, nz_60, nz_100, mc_B, mc_Z, mc_S, mc_C, mc_K, mc_N, mc_R, mc_I, mc_L, va_Is, va_Ls, va_us, va_iss, u2_ap, sp_isLedge, sp_isLadder, sp_isPerson, sp_isLiving, sp_isLot, sp_isThere, sp_isSpan, cs_K q, cs_B q, mc_s (cs_inj q), cs_f26 q, cs_f27 q, cs_f28 q, cs_f29 q, cs_f25 q, r37_0, r37_1, r37_2, r37_3, r37_4, r37_10, r37_11, r37_12, r37_13, r37_14, r37_15, r37_16, r37_19, r37_52, r37_53, r37_56, r37_57, r37_58, r37_61, r37_62, r37_63, r37_66, r37_67, r37_68, r37_71, r37_72, r37_74, r37_76, r37_78, r37_79, r37_82, r37_83, r37_89, r37_90, r37_93, r37_95, r37_97, r37_98, r37_99, r37_102, r37_103, r37_7, r37_21, r37_86, e, m1, xm_sw, b1, b2, b3, b4, c2, c3]
    repeat' split
    all_goals first | rfl | contradiction
end C17
