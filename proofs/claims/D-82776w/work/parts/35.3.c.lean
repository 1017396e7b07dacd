/-! the component reads, the whole; lines tell of customs -/
set_option maxRecDepth 100000
section RDR
variable {d : Nat} {h h' : xm_H} {D : xp_D} {F G : xp_F} {c : Nat → Int32} {T : Nat} {z s : Nat}
theorem c68 (q : CS h D) (w : HW h D) (sw : SW h D) (tc : TC F c T) : match pls c T (T + 1) 0 L0 0 with
    | .inl x => ∃ h' G', xm_met (d + 112) 68 [.ref (xd_A D 0 15)] (xp_c h D F) = some (.inr (xd_A D 0 13), xp_c h' D G') ∧ rx (5 + 6 * T) (60 + 48 * T) D h h' ∧ HW h' D ∧ FT F x.1 x.2 G'
    | .inr x => ∃ h' G', xm_met (d + 112) 68 [.ref (xd_A D 0 15)] (xp_c h D F) = some (.inl none, xp_c h' D G') ∧ rx (5 + 6 * T) (60 + 48 * T) D h h' ∧ HW h' D ∧ RW h' D (xm_Z h) x.1 x.2 ∧ G' 86 5 = Int32.ofNat x.1 ∧ fr86 F G' ∧ x.1 ≤ 20 := by
  have x1 : rx 1 20 D h (xm_sR (xm_nw h 113 20 20) (xd_A D 0 15) 6 (some (xm_Z h))) := rx.row hx_nw
  have w1 : HW (xm_sR (xm_nw h 113 20 20) (xd_A D 0 15) 6 (some (xm_Z h))) D := w.nw (kd := 113) (n := 20) (s := 20)
  have q1 := q.rx w x1
  have sw1 := sw.rx q w x1
  have f1 : fr86 F (xm_u2 (xm_u2 (xm_u2 F 86 0 0) 86 5 0) 86 4 0) := ((fr86.rf.u (k := 0) (v := 0)).u (k := 5) (v := 0)).u (k := 4) (v := 0)
  obtain ⟨h2, G2, m2, x2, w2, f2, nc, g4, g5⟩ := c69 (d := d + 104) q1 w1 sw1 (tc.fr f1) (Nat.zero_le _) (by rw [u2_ap, if_neg (by omega), u2_ap, if_neg (by omega), u2_ap, if_pos ⟨rfl, rfl⟩]; rfl)
  have qs : QS (xm_u2 (xm_u2 (xm_u2 F 86 0 0) 86 5 0) 86 4 0) c T 0 0 G2 := ⟨nc, g4.trans (by rw [u2_ap, if_pos ⟨rfl, rfl⟩]; rfl), g5, f2⟩
  have rw1 : RW (xm_sR (xm_nw h 113 20 20) (xd_A D 0 15) 6 (some (xm_Z h))) D (xm_Z h) 0 L0 := by
    refine ⟨by rw [h_R_sR, if_pos ⟨rfl, rfl⟩], ?_, ?_, w.1, fun j hj => absurd hj (by omega)⟩
    · show xm_K (xm_nw h 113 20 20) (xm_Z h) = 113
      rw [h_K_nw, if_pos rfl]
    · show xm_N (xm_nw h 113 20 20) (xm_Z h) = 20
      rw [h_N_nw, if_pos rfl]
  have l := c68l (d := d) q w sw tc (l := []) (T + 1) (m := 0) (i := 0) (L := L0) (hc := h2) (F1 := xm_u2 (xm_u2 (xm_u2 F 86 0 0) 86 5 0) 86 4 0) (G := G2) (Nat.zero_le _) (by omega) ((x1.tr2 x2).mono (by omega) (by omega)) w2 (rw1.hx q1 w1 x2) f1 (by rw [u2_ap, if_neg (by omega), u2_ap, if_pos ⟨rfl, rfl⟩]; rfl) qs (by omega)
  have qn := q.hx w (hx_nw (h := h) (kd := 113) (n := 20) (s := 20))
  have n20 : ¬ (20 : Int32) < 0 ∧ (20 : Int32).toNatClampNeg ≤ 100000 := by decide
  have e20 : (20 : Int32).toNatClampNeg = 20 := by decide
  have e : xm_met (d + 112) 68 [.ref (xd_A D 0 15)] (xp_c h D F) = xm_run (d + 112) 68 28 [some (.ref (xd_A D 0 15))] [] (xp_c h2 D G2) := by
    unfold xm_met
    simp only [ite_not, ite_self, w8_nil, ok01, ite10, rf_rv, rf_ref, rf_cat, rf_lk2, rf_some, rf_none, w_add, w_cons, cr_int, cr_long, cr_ref, cr_null, is_ref, is_null, l2_int, l2_ref, l2_null, l2_none, ent_nil, ent_int, ent_ref, ent_null, ent_rf, ent_long, ok_0, ok_1, af_ret, af_void, List.tail_cons, List.tail_nil, Nat.reduceAdd, Nat.reduceLeDiff, not_false_eq_true, not_true_eq_false, and_self, and_true, true_and, ne_eq, or_true, true_or, or_false, false_or, eq_self, Nat.reduceEqDiff, ↓reduceIte, false_and, and_false, Nat.le_refl, Nat.zero_le, nz_1, nz_2, nz_3, nz_4, nz_5, nz_6, nz_8, nz_10, nz_12, nz_20, nz_30, nz_60, nz_100, mc_B, mc_Z, mc_S, mc_C, mc_K, mc_N, mc_R, mc_I, mc_L, va_Is, va_Ls, va_us, va_iss, u2_ap, sp_isLedge, sp_isLadder, sp_isPerson, sp_isLiving, sp_isLot, sp_isThere, sp_isSpan, cs_f15 q, cs_B q, cs_rd q, mc_s (cs_inj q), cs_f15 qn, mc_nw w, mc_sR, n20, e20, r68_0, r68_1, r68_2, r68_5, r68_6, r68_7, r68_10, r68_11, r68_12, r68_15, r68_16, r68_18, r68_21, r68_21n, r68_21v, r68_24, r68_25, ent_nil]
    simp only [ite_not, ite_self, w8_nil, ok01, ite10, rf_rv, rf_ref, rf_cat, rf_lk2, rf_some, rf_none, w_add, w_cons, cr_int, cr_long, cr_ref, cr_null, is_ref, is_null, l2_int, l2_ref, l2_null, l2_none, ent_nil, ent_int, ent_ref, ent_null, ent_rf, ent_long, ok_0, ok_1, af_ret, af_void, List.tail_cons, List.tail_nil, Nat.reduceAdd, Nat.reduceLeDiff, not_false_eq_true, not_true_eq_false, and_self, and_true, true_and, ne_eq, or_true, true_or, or_false, false_or, eq_self, Nat.reduceEqDiff, ↓reduceIte, false_and, and_false, Nat.le_refl, Nat.zero_le, nz_1, nz_2, nz_3, nz_4, nz_5, nz_6, nz_8, nz_10, nz_12, nz_20, nz_30, nz_60, nz_100, mc_B, mc_Z, mc_S, mc_C, mc_K, mc_N, mc_R, mc_I, mc_L, va_Is, va_Ls, va_us, va_iss, u2_ap, sp_isLedge, sp_isLadder, sp_isPerson, sp_isLiving, sp_isLot, sp_isThere, sp_isSpan, cs_f15 q1, m2, r68_24, r68_25, ent_nil]
  rw [e]
  exact l
/-- a line tells -/
theorem c_tell (q : CS h D) {r : Nat} (hr : r < 2) {L : Ln} {a : Nat} (lq : LQ h D L a) : ∃ mi, (xm_K h a = 12 ∧ mi = 198 ∨ xm_K h a = 14 ∧ mi = 198 ∨ xm_K h a = 15 ∧ mi = 208 ∨ xm_K h a = 16 ∧ mi = 210 ∨ xm_K h a = 17 ∧ mi = 212) ∧ xm_met d mi [.ref a, .ref (xd_A D 7 r)] (xp_c h D G) = some (.inl none, xp_c h D (tel1 r L G)) := by
  obtain ⟨lo, ⟨r3, r7⟩, nE, l5, l6, l7⟩ := lq
  by_cases c3 : L.1 = 3
  · have e : tel1 r L G = G := by
      unfold tel1
      rw [if_neg (by rw [c3]; decide), if_neg (by rw [c3]; decide), if_neg (by rw [c3]; decide)]
    have k : xm_K h a = 12 := by
      rcases lo with ⟨-, k, -⟩ | ⟨e4, -⟩ | ⟨n3, -⟩
      · exact k
      · exact absurd (c3.symm.trans e4) (by decide)
      · exact absurd c3 n3
    refine ⟨198, Or.inl ⟨k, rfl⟩, ?_⟩
    rw [e]
    unfold xm_met
    simp only [ite_not, ite_self, w8_nil, ok01, ite10, rf_rv, rf_ref, rf_cat, rf_lk2, rf_some, rf_none, w_add, w_cons, cr_int, cr_long, cr_ref, cr_null, is_ref, is_null, l2_int, l2_ref, l2_null, l2_none, ent_nil, ent_int, ent_ref, ent_null, ent_rf, ent_long, ok_0, ok_1, af_ret, af_void, List.tail_cons, List.tail_nil, Nat.reduceAdd, Nat.reduceLeDiff, not_false_eq_true, not_true_eq_false, and_self, and_true, true_and, ne_eq, or_true, true_or, or_false, false_or, eq_self, Nat.reduceEqDiff, ↓reduceIte, false_and, and_false, Nat.le_refl, Nat.zero_le, nz_1, nz_2, nz_3, nz_4, nz_5, nz_6, nz_8, nz_10, nz_12, nz_20, nz_30, nz_60, nz_100, r198_0, ent_nil]
  by_cases c4 : L.1 = 4
  · have e : tel1 r L G = G := by
      unfold tel1
      rw [if_neg (by rw [c4]; decide), if_neg (by rw [c4]; decide), if_neg (by rw [c4]; decide)]
    have k : xm_K h a = 14 := by
      rcases lo with ⟨e3, -⟩ | ⟨-, k, -⟩ | ⟨-, n4, -⟩
      · exact absurd (c4.symm.trans e3) (by decide)
      · exact k
      · exact absurd c4 n4
    refine ⟨198, Or.inr (Or.inl ⟨k, rfl⟩), ?_⟩
    rw [e]
    unfold xm_met
    simp only [ite_not, ite_self, w8_nil, ok01, ite10, rf_rv, rf_ref, rf_cat, rf_lk2, rf_some, rf_none, w_add, w_cons, cr_int, cr_long, cr_ref, cr_null, is_ref, is_null, l2_int, l2_ref, l2_null, l2_none, ent_nil, ent_int, ent_ref, ent_null, ent_rf, ent_long, ok_0, ok_1, af_ret, af_void, List.tail_cons, List.tail_nil, Nat.reduceAdd, Nat.reduceLeDiff, not_false_eq_true, not_true_eq_false, and_self, and_true, true_and, ne_eq, or_true, true_or, or_false, false_or, eq_self, Nat.reduceEqDiff, ↓reduceIte, false_and, and_false, Nat.le_refl, Nat.zero_le, nz_1, nz_2, nz_3, nz_4, nz_5, nz_6, nz_8, nz_10, nz_12, nz_20, nz_30, nz_60, nz_100, r198_0, ent_nil]
  have i14 : ∀ k, (k = 15 ∨ k = 16 ∨ k = 17) → xm_is 14 k = true := is14
  by_cases c5 : L.1 = 5
  · have e : tel1 r L G = xm_u2 G 17 (4 * r + lwho L.2.1) (lnum L.2.1) := if_pos c5
    obtain ⟨k, i2, w4, i3⟩ := l5 c5
    obtain ⟨j1, j2⟩ := in_nat (show lwho L.2.1 < 4 from w4) (by decide)
    have is : xm_is 14 15 = true := by decide
    have eU : xd_E D (xd_A D 8 r) (lwho L.2.1) = some (17, 4 * r + lwho L.2.1) := (q.2.2.2.2.2.2.2.2.2.2.2.2.1 r hr).2.2.2.2.2.2 _ w4
    refine ⟨208, Or.inr (Or.inr (Or.inl ⟨k, rfl⟩)), ?_⟩
    rw [e]
    unfold xm_met
    simp only [ite_not, ite_self, w8_nil, ok01, ite10, rf_rv, rf_ref, rf_cat, rf_lk2, rf_some, rf_none, w_add, w_cons, cr_int, cr_long, cr_ref, cr_null, is_ref, is_null, l2_int, l2_ref, l2_null, l2_none, ent_nil, ent_int, ent_ref, ent_null, ent_rf, ent_long, ok_0, ok_1, af_ret, af_void, List.tail_cons, List.tail_nil, Nat.reduceAdd, Nat.reduceLeDiff, not_false_eq_true, not_true_eq_false, and_self, and_true, true_and, ne_eq, or_true, true_or, or_false, false_or, eq_self, Nat.reduceEqDiff, ↓reduceIte, false_and, and_false, Nat.le_refl, Nat.zero_le, nz_1, nz_2, nz_3, nz_4, nz_5, nz_6, nz_8, nz_10, nz_12, nz_20, nz_30, nz_60, nz_100, mc_B, mc_Z, mc_S, mc_C, mc_K, mc_N, mc_R, mc_I, mc_L, va_Is, va_Ls, va_us, va_iss, u2_ap, sp_isLedge, sp_isLadder, sp_isPerson, sp_isLiving, sp_isLot, sp_isThere, sp_isSpan, va_In, k, is, nE, i2, i3, cs_U q hr, eU, mc_s (cs_inj q), j1, j2, r208_0, r208_1, r208_4, r208_5, r208_8, r208_9, r208_12, r208_13, ent_nil]
  by_cases c6 : L.1 = 6
  · have e : tel1 r L G = xm_u2 G 15 r (lnum L.2.1) := by
      unfold tel1
      rw [if_neg c5, if_pos c6]
    obtain ⟨k, i3⟩ := l6 c6
    have is : xm_is 14 16 = true := by decide
    refine ⟨210, Or.inr (Or.inr (Or.inr (Or.inl ⟨k, rfl⟩))), ?_⟩
    rw [e]
    unfold xm_met
    simp only [ite_not, ite_self, w8_nil, ok01, ite10, rf_rv, rf_ref, rf_cat, rf_lk2, rf_some, rf_none, w_add, w_cons, cr_int, cr_long, cr_ref, cr_null, is_ref, is_null, l2_int, l2_ref, l2_null, l2_none, ent_nil, ent_int, ent_ref, ent_null, ent_rf, ent_long, ok_0, ok_1, af_ret, af_void, List.tail_cons, List.tail_nil, Nat.reduceAdd, Nat.reduceLeDiff, not_false_eq_true, not_true_eq_false, and_self, and_true, true_and, ne_eq, or_true, true_or, or_false, false_or, eq_self, Nat.reduceEqDiff, ↓reduceIte, false_and, and_false, Nat.le_refl, Nat.zero_le, nz_1, nz_2, nz_3, nz_4, nz_5, nz_6, nz_8, nz_10, nz_12, nz_20, nz_30, nz_60, nz_100, mc_B, mc_Z, mc_S, mc_C, mc_K, mc_N, mc_R, mc_I, mc_L, va_Is, va_Ls, va_us, va_iss, u2_ap, sp_isLedge, sp_isLadder, sp_isPerson, sp_isLiving, sp_isLot, sp_isThere, sp_isSpan, va_In, k, is, nE, i3, cs_U q hr, mc_s (cs_inj q), r210_0, r210_1, r210_2, r210_5, r210_8, ent_nil]
  have c7 : L.1 = 7 := by
    have h1 := Int32.le_iff_toInt_le.mp r3
    have h2 := Int32.le_iff_toInt_le.mp r7
    rw [show (3 : Int32).toInt = 3 from rfl] at h1
    rw [show (7 : Int32).toInt = 7 from rfl] at h2
    have n3 : ¬ L.1.toInt = 3 := fun z => c3 (i_eq z)
    have n4 : ¬ L.1.toInt = 4 := fun z => c4 (i_eq z)
    have n5 : ¬ L.1.toInt = 5 := fun z => c5 (i_eq z)
    have n6 : ¬ L.1.toInt = 6 := fun z => c6 (i_eq z)
    exact i_eq (show L.1.toInt = 7 by omega)
  have e : tel1 r L G = xm_u2 G 16 r (lnum L.2.1) := by
    unfold tel1
    rw [if_neg c5, if_neg c6, if_pos c7]
  obtain ⟨k, i3⟩ := l7 c7
  have is : xm_is 14 17 = true := by decide
  refine ⟨212, Or.inr (Or.inr (Or.inr (Or.inr ⟨k, rfl⟩))), ?_⟩
  rw [e]
  unfold xm_met
  simp only [ite_not, ite_self, w8_nil, ok01, ite10, rf_rv, rf_ref, rf_cat, rf_lk2, rf_some, rf_none, w_add, w_cons, cr_int, cr_long, cr_ref, cr_null, is_ref, is_null, l2_int, l2_ref, l2_null, l2_none, ent_nil, ent_int, ent_ref, ent_null, ent_rf, ent_long, ok_0, ok_1, af_ret, af_void, List.tail_cons, List.tail_nil, Nat.reduceAdd, Nat.reduceLeDiff, not_false_eq_true, not_true_eq_false, and_self, and_true, true_and, ne_eq, or_true, true_or, or_false, false_or, eq_self, Nat.reduceEqDiff, ↓reduceIte, false_and, and_false, Nat.le_refl, Nat.zero_le, nz_1, nz_2, nz_3, nz_4, nz_5, nz_6, nz_8, nz_10, nz_12, nz_20, nz_30, nz_60, nz_100, mc_B, mc_Z, mc_S, mc_C, mc_K, mc_N, mc_R, mc_I, mc_L, va_Is, va_Ls, va_us, va_iss, u2_ap, sp_isLedge, sp_isLadder, sp_isPerson, sp_isLiving, sp_isLot, sp_isThere, sp_isSpan, va_In, k, is, nE, i3, cs_U q hr, mc_s (cs_inj q), r212_0, r212_1, r212_2, r212_5, r212_8, ent_nil]
end RDR
