/-! the component's reader, small ones -/
set_option maxRecDepth 100000
section RDS
variable {d : Nat} {h h' : xm_H} {D : xp_D} {F G : xp_F} {c : Nat → Int32} {T : Nat} {z s : Nat}
theorem thr_c (q : CS h D) {mi pc : Nat} {ls : List (Option Value)} (hm : ¬ mi = 18) : xm_thr (xm_run d mi) mi pc ls (xp_c h D G) (xd_A D 0 13) = some (.inr (xd_A D 0 13), xp_c h D G) := by
  obtain ⟨a1, a2, a3⟩ := cs_f13 q
  exact th_out (by rw [mc_K]; exact a2) (by rw [mc_B]; exact a3) (by unfold xm_hnd; rw [if_neg hm])
theorem SX.hx (w : HW h D) (x : hx z s h h') {a m : Nat} {f : Nat → Int32} (q : SX h D a m f) : SX h' D a m f := by
  obtain ⟨b, a1, a2, a3, a4, a5, a6, a7⟩ := q
  exact ⟨b, x.K w a1 (by decide), (x.R w a1 (by decide)).trans a2, (x.I w a1 (by decide)).trans a3, x.K w a4 (by decide), x.N w a4 (by decide) a5, fun j hj => (x.I w a4 (by decide)).trans (a6 j hj), a7⟩
theorem SW.hx (q : CS h D) (w : HW h D) (x : hx z s h h') (a : SW h D) : SW h' D := by
  obtain ⟨a1, ⟨b, a2, a3⟩, a4⟩ := a
  refine ⟨by rw [x.2.1]; exact a1, ⟨b, by rw [x.2.1]; exact a2, a3.hx w x⟩, fun k hk => ?_⟩
  obtain ⟨y, b1, b2⟩ := a4 k hk
  exact ⟨y, (x.R w (cs_f14 q).2.1 (by decide)).trans b1, b2.hx w x⟩
/-- the component reads: at the token sought from i on, dp open -/
def QS (F : xp_F) (c : Nat → Int32) (T i dp : Nat) (G : xp_F) : Prop := NC c T i G ∧ G 86 4 = Int32.ofNat dp ∧ G 86 5 = F 86 5 ∧ fr86 F G
/-- the component's fault -/
def sp_flt (G : xp_F) (k : Int32) : xp_F := xm_u2 (xm_u2 G 87 0 k) 87 1 (G 86 1)
def FT (F : xp_F) (k : Int32) (p : Nat) (G : xp_F) : Prop := G 87 0 = k ∧ G 87 1 = Int32.ofNat p ∧ ∀ o j, ¬ o = 86 → ¬ o = 87 → G o j = F o j
theorem QS.flt {i dp : Nat} (a : QS F c T i dp G) {k : Int32} : FT F k (lS c T i) (sp_flt G k) := by
  unfold sp_flt
  refine ⟨by rw [u2_ap, if_neg (by omega), u2_ap, if_pos ⟨rfl, rfl⟩], by rw [u2_ap, if_pos ⟨rfl, rfl⟩]; exact a.1.2.1, fun o j h1 h2 => ?_⟩
  rw [u2_ap, if_neg (by omega), u2_ap, if_neg (by omega)]
  exact a.2.2.2 o j h1
theorem QS.next (q : CS h D) (w : HW h D) (sw : SW h D) (tc : TC F c T) {i dp : Nat} (hi : i ≤ T) (a : QS F c T i dp G) : ∃ h' G', xm_met (d + 7) 69 [.ref (xd_A D 0 15)] (xp_c h D G) = some (.inl none, xp_c h' D G') ∧ hx 4 40 h h' ∧ HW h' D ∧ QS F c T (lE c T i) dp G' := by
  obtain ⟨h', G', m, x, w', f, nc, g4, g5⟩ := c69 (d := d) q w sw (tc.fr a.2.2.2) (lE_le tc.1 hi).2.1 a.1.1
  exact ⟨h', G', m, x, w', nc, g4.trans a.2.1, g5.trans a.2.2.1, a.2.2.2.tr f⟩
theorem c20 (q : CS h D) {k p : Int32} : xm_met d 20 [.ref (xd_X D), .int k, .int p] (xp_c h D G) = some (.inl (some (.ref (xd_A D 0 13))), xp_c h D (xm_u2 (xm_u2 G 87 0 k) 87 1 p)) := by
  unfold xm_met
  simp only [ite_not, ite_self, w8_nil, ok01, ite10, rf_rv, rf_ref, rf_cat, rf_lk2, rf_some, rf_none, w_add, w_cons, cr_int, cr_long, cr_ref, cr_null, is_ref, is_null, l2_int, l2_ref, l2_null, l2_none, ent_nil, ent_int, ent_ref, ent_null, ent_rf, ent_long, ok_0, ok_1, af_ret, af_void, List.tail_cons, List.tail_nil, Nat.reduceAdd, Nat.reduceLeDiff, not_false_eq_true, not_true_eq_false, and_self, and_true, true_and, ne_eq, or_true, true_or, or_false, false_or, eq_self, Nat.reduceEqDiff, ↓reduceIte, false_and, and_false, Nat.le_refl, Nat.zero_le, nz_1, nz_2, nz_3, nz_4, nz_5, nz_6, nz_8, nz_10, nz_12, nz_20, nz_30, nz_60, nz_100, mc_B, mc_Z, mc_S, mc_C, mc_K, mc_N, mc_R, mc_I, mc_L, va_Is, va_Ls, va_us, va_iss, u2_ap, sp_isLedge, sp_isLadder, sp_isPerson, sp_isLiving, sp_isLot, sp_isThere, sp_isSpan, cs_K q, cs_f13 q, cs_fl q, mc_s (cs_inj q), r20_0, r20_1, r20_4, r20_5, r20_8, r20_9, r20_12, r20_13, r20_16, r20_17, r20_20, ent_nil]
theorem c81 (q : CS h D) : xm_met (d + 1) 81 [.ref (xd_A D 0 15)] (xp_c h D G) = some (.inl (some (.ref (xd_A D 0 13))), xp_c h D (sp_flt G 1)) := by
  unfold xm_met sp_flt
  simp only [ite_not, ite_self, w8_nil, ok01, ite10, rf_rv, rf_ref, rf_cat, rf_lk2, rf_some, rf_none, w_add, w_cons, cr_int, cr_long, cr_ref, cr_null, is_ref, is_null, l2_int, l2_ref, l2_null, l2_none, ent_nil, ent_int, ent_ref, ent_null, ent_rf, ent_long, ok_0, ok_1, af_ret, af_void, List.tail_cons, List.tail_nil, Nat.reduceAdd, Nat.reduceLeDiff, not_false_eq_true, not_true_eq_false, and_self, and_true, true_and, ne_eq, or_true, true_or, or_false, false_or, eq_self, Nat.reduceEqDiff, ↓reduceIte, false_and, and_false, Nat.le_refl, Nat.zero_le, nz_1, nz_2, nz_3, nz_4, nz_5, nz_6, nz_8, nz_10, nz_12, nz_20, nz_30, nz_60, nz_100, mc_B, mc_Z, mc_S, mc_C, mc_K, mc_N, mc_R, mc_I, mc_L, va_Is, va_Ls, va_us, va_iss, u2_ap, sp_isLedge, sp_isLadder, sp_isPerson, sp_isLiving, sp_isLot, sp_isThere, sp_isSpan, cs_f15 q, cs_rd q, cs_K q, c20 q, r81_0, r81_1, r81_4, r81_5, r81_6, r81_9, r81_12, ent_nil]
theorem lK_cod {q : Nat} (h : cTk (lK c T q) = 2) : ∃ j, j < 21 ∧ lK c T q = cod j := by
  have : cTk (lK c T q) = 2 → ∃ j, j < 21 ∧ lK c T q = cod j := lK_all (P := fun k => cTk k = 2 → ∃ j, j < 21 ∧ k = cod j) (by decide +kernel) (by decide +kernel) (by decide +kernel) (tG_all (by decide +kernel))
  exact this h
theorem lK_sg {q : Nat} (h : cTk (lK c T q) = 4) : tG (lK c T q) := by
  have : cTk (lK c T q) = 4 → tG (lK c T q) := lK_all (P := fun k => cTk k = 4 → tG k) (by decide +kernel) (by decide +kernel) (by decide +kernel) (tG_all (by decide +kernel))
  exact this h
theorem lK_nb {q : Nat} (h : cTk (lK c T q) = 3) : lK c T q = 2 := by
  have : cTk (lK c T q) = 3 → lK c T q = 2 := lK_all (P := fun k => cTk k = 3 → k = 2) (by decide +kernel) (by decide +kernel) (by decide +kernel) (tG_all (by decide +kernel))
  exact this h
theorem c79 (q : CS h D) {i : Nat} (nc : NC c T i G) {x : Int32} (hx : tG x) : xm_met d 79 [.ref (xd_A D 0 15), .int x] (xp_c h D G) = some (.inl (some (.int (if lK c T i = x then 1 else 0))), xp_c h D G) := by
  obtain ⟨n1, n2, n3, n4, n5, n6⟩ := nc
  have o0 : xm_ok .boolean 0 = true := by decide
  have o1 : xm_ok .boolean 1 = true := by decide
  unfold xm_met
  by_cases c1 : lK c T i = x
  · have g : tG (lK c T i) := by rw [c1]; exact hx
    have t4 := n3.trans (cTk_G g)
    have v := (n5 g).trans c1
    simp only [ite_not, ite_self, w8_nil, ok01, ite10, rf_rv, rf_ref, rf_cat, rf_lk2, rf_some, rf_none, w_add, w_cons, cr_int, cr_long, cr_ref, cr_null, is_ref, is_null, l2_int, l2_ref, l2_null, l2_none, ent_nil, ent_int, ent_ref, ent_null, ent_rf, ent_long, ok_0, ok_1, af_ret, af_void, List.tail_cons, List.tail_nil, Nat.reduceAdd, Nat.reduceLeDiff, not_false_eq_true, not_true_eq_false, and_self, and_true, true_and, ne_eq, or_true, true_or, or_false, false_or, eq_self, Nat.reduceEqDiff, ↓reduceIte, false_and, and_false, Nat.le_refl, Nat.zero_le, nz_1, nz_2, nz_3, nz_4, nz_5, nz_6, nz_8, nz_10, nz_12, nz_20, nz_30, nz_60, nz_100, mc_B, mc_Z, mc_S, mc_C, mc_K, mc_N, mc_R, mc_I, mc_L, va_Is, va_Ls, va_us, va_iss, u2_ap, sp_isLedge, sp_isLadder, sp_isPerson, sp_isLiving, sp_isLot, sp_isThere, sp_isSpan, cs_f15 q, cs_rd q, r79_0, r79_1, r79_4, r79_8, r79_9, r79_12, r79_16, r79_17, r79_20, r79_21, r79_5, r79_13, t4, v, c1, o1]
  · by_cases c4 : G 86 2 = 4
    · have g := lK_sg (n3.symm.trans c4)
      have v := n5 g
      simp only [ite_not, ite_self, w8_nil, ok01, ite10, rf_rv, rf_ref, rf_cat, rf_lk2, rf_some, rf_none, w_add, w_cons, cr_int, cr_long, cr_ref, cr_null, is_ref, is_null, l2_int, l2_ref, l2_null, l2_none, ent_nil, ent_int, ent_ref, ent_null, ent_rf, ent_long, ok_0, ok_1, af_ret, af_void, List.tail_cons, List.tail_nil, Nat.reduceAdd, Nat.reduceLeDiff, not_false_eq_true, not_true_eq_false, and_self, and_true, true_and, ne_eq, or_true, true_or, or_false, false_or, eq_self, Nat.reduceEqDiff, ↓reduceIte, false_and, and_false, Nat.le_refl, Nat.zero_le, nz_1, nz_2, nz_3, nz_4, nz_5, nz_6, nz_8, nz_10, nz_12, nz_20, nz_30, nz_60, nz_100, mc_B, mc_Z, mc_S, mc_C, mc_K, mc_N, mc_R, mc_I, mc_L, va_Is, va_Ls, va_us, va_iss, u2_ap, sp_isLedge, sp_isLadder, sp_isPerson, sp_isLiving, sp_isLot, sp_isThere, sp_isSpan, cs_f15 q, cs_rd q, r79_0, r79_1, r79_4, r79_8, r79_9, r79_12, r79_16, r79_17, r79_20, r79_21, r79_5, r79_13, c4, v, c1, o0]
    · simp only [ite_not, ite_self, w8_nil, ok01, ite10, rf_rv, rf_ref, rf_cat, rf_lk2, rf_some, rf_none, w_add, w_cons, cr_int, cr_long, cr_ref, cr_null, is_ref, is_null, l2_int, l2_ref, l2_null, l2_none, ent_nil, ent_int, ent_ref, ent_null, ent_rf, ent_long, ok_0, ok_1, af_ret, af_void, List.tail_cons, List.tail_nil, Nat.reduceAdd, Nat.reduceLeDiff, not_false_eq_true, not_true_eq_false, and_self, and_true, true_and, ne_eq, or_true, true_or, or_false, false_or, eq_self, Nat.reduceEqDiff, ↓reduceIte, false_and, and_false, Nat.le_refl, Nat.zero_le, nz_1, nz_2, nz_3, nz_4, nz_5, nz_6, nz_8, nz_10, nz_12, nz_20, nz_30, nz_60, nz_100, mc_B, mc_Z, mc_S, mc_C, mc_K, mc_N, mc_R, mc_I, mc_L, va_Is, va_Ls, va_us, va_iss, u2_ap, sp_isLedge, sp_isLadder, sp_isPerson, sp_isLiving, sp_isLot, sp_isThere, sp_isSpan, cs_f15 q, cs_rd q, r79_0, r79_1, r79_4, r79_8, r79_9, r79_12, r79_16, r79_17, r79_20, r79_21, r79_5, r79_13, c4, c1, o0]
theorem c83 (q : CS h D) {i : Nat} (nc : NC c T i G) {k : Nat} (hk : k < 21) : xm_met d 83 [.ref (xd_A D 0 15), .int (Int32.ofNat k)] (xp_c h D G) = some (.inl (some (.int (if lK c T i = cod k then 1 else 0))), xp_c h D G) := by
  obtain ⟨n1, n2, n3, n4, n5, n6⟩ := nc
  have o0 : xm_ok .boolean 0 = true := by decide
  have o1 : xm_ok .boolean 1 = true := by decide
  unfold xm_met
  by_cases c1 : lK c T i = cod k
  · have t4 : G 86 2 = 2 := by rw [n3, c1]; exact cTk_cod k hk
    have v := n6 k hk c1
    simp only [ite_not, ite_self, w8_nil, ok01, ite10, rf_rv, rf_ref, rf_cat, rf_lk2, rf_some, rf_none, w_add, w_cons, cr_int, cr_long, cr_ref, cr_null, is_ref, is_null, l2_int, l2_ref, l2_null, l2_none, ent_nil, ent_int, ent_ref, ent_null, ent_rf, ent_long, ok_0, ok_1, af_ret, af_void, List.tail_cons, List.tail_nil, Nat.reduceAdd, Nat.reduceLeDiff, not_false_eq_true, not_true_eq_false, and_self, and_true, true_and, ne_eq, or_true, true_or, or_false, false_or, eq_self, Nat.reduceEqDiff, ↓reduceIte, false_and, and_false, Nat.le_refl, Nat.zero_le, nz_1, nz_2, nz_3, nz_4, nz_5, nz_6, nz_8, nz_10, nz_12, nz_20, nz_30, nz_60, nz_100, mc_B, mc_Z, mc_S, mc_C, mc_K, mc_N, mc_R, mc_I, mc_L, va_Is, va_Ls, va_us, va_iss, u2_ap, sp_isLedge, sp_isLadder, sp_isPerson, sp_isLiving, sp_isLot, sp_isThere, sp_isSpan, cs_f15 q, cs_rd q, r83_0, r83_1, r83_4, r83_8, r83_9, r83_12, r83_16, r83_17, r83_20, r83_21, r83_5, r83_13, t4, v, c1, o1]
  · by_cases c4 : G 86 2 = 2
    · obtain ⟨j, hj, e⟩ := lK_cod (n3.symm.trans c4)
      have v := n6 j hj e
      have ne : ¬ Int32.ofNat j = Int32.ofNat k := fun z => by
        have := congrArg Int32.toInt z
        rw [ti_nat (by omega), ti_nat (by omega)] at this
        have jk : j = k := by omega
        rw [jk] at e
        exact c1 e
      simp only [ite_not, ite_self, w8_nil, ok01, ite10, rf_rv, rf_ref, rf_cat, rf_lk2, rf_some, rf_none, w_add, w_cons, cr_int, cr_long, cr_ref, cr_null, is_ref, is_null, l2_int, l2_ref, l2_null, l2_none, ent_nil, ent_int, ent_ref, ent_null, ent_rf, ent_long, ok_0, ok_1, af_ret, af_void, List.tail_cons, List.tail_nil, Nat.reduceAdd, Nat.reduceLeDiff, not_false_eq_true, not_true_eq_false, and_self, and_true, true_and, ne_eq, or_true, true_or, or_false, false_or, eq_self, Nat.reduceEqDiff, ↓reduceIte, false_and, and_false, Nat.le_refl, Nat.zero_le, nz_1, nz_2, nz_3, nz_4, nz_5, nz_6, nz_8, nz_10, nz_12, nz_20, nz_30, nz_60, nz_100, mc_B, mc_Z, mc_S, mc_C, mc_K, mc_N, mc_R, mc_I, mc_L, va_Is, va_Ls, va_us, va_iss, u2_ap, sp_isLedge, sp_isLadder, sp_isPerson, sp_isLiving, sp_isLot, sp_isThere, sp_isSpan, cs_f15 q, cs_rd q, r83_0, r83_1, r83_4, r83_8, r83_9, r83_12, r83_16, r83_17, r83_20, r83_21, r83_5, r83_13, c4, v, c1, ne, o0]
    · simp only [ite_not, ite_self, w8_nil, ok01, ite10, rf_rv, rf_ref, rf_cat, rf_lk2, rf_some, rf_none, w_add, w_cons, cr_int, cr_long, cr_ref, cr_null, is_ref, is_null, l2_int, l2_ref, l2_null, l2_none, ent_nil, ent_int, ent_ref, ent_null, ent_rf, ent_long, ok_0, ok_1, af_ret, af_void, List.tail_cons, List.tail_nil, Nat.reduceAdd, Nat.reduceLeDiff, not_false_eq_true, not_true_eq_false, and_self, and_true, true_and, ne_eq, or_true, true_or, or_false, false_or, eq_self, Nat.reduceEqDiff, ↓reduceIte, false_and, and_false, Nat.le_refl, Nat.zero_le, nz_1, nz_2, nz_3, nz_4, nz_5, nz_6, nz_8, nz_10, nz_12, nz_20, nz_30, nz_60, nz_100, mc_B, mc_Z, mc_S, mc_C, mc_K, mc_N, mc_R, mc_I, mc_L, va_Is, va_Ls, va_us, va_iss, u2_ap, sp_isLedge, sp_isLadder, sp_isPerson, sp_isLiving, sp_isLot, sp_isThere, sp_isSpan, cs_f15 q, cs_rd q, r83_0, r83_1, r83_4, r83_8, r83_9, r83_12, r83_16, r83_17, r83_20, r83_21, r83_5, r83_13, c4, c1, o0]
theorem c80 (q : CS h D) (w : HW h D) (sw : SW h D) (tc : TC F c T) {i dp : Nat} (hi : i ≤ T) (h8 : dp ≤ 8) (a : QS F c T i dp G) : (dp = 8 → ∃ G', xm_met (d + 8) 80 [.ref (xd_A D 0 15)] (xp_c h D G) = some (.inr (xd_A D 0 13), xp_c h D G') ∧ FT F 3 (lS c T i) G') ∧ (¬ dp = 8 → ∃ h' G', xm_met (d + 8) 80 [.ref (xd_A D 0 15)] (xp_c h D G) = some (.inl none, xp_c h' D G') ∧ hx 4 40 h h' ∧ HW h' D ∧ QS F c T (lE c T i) (dp + 1) G') := by
  have a2 := a.2.1
  constructor
  · intro e
    have hd : G 86 4 = 8 := by rw [a2, e]; rfl
    refine ⟨sp_flt G 3, ?_, a.flt⟩
    unfold xm_met sp_flt
    simp only [ite_not, ite_self, w8_nil, ok01, ite10, rf_rv, rf_ref, rf_cat, rf_lk2, rf_some, rf_none, w_add, w_cons, cr_int, cr_long, cr_ref, cr_null, is_ref, is_null, l2_int, l2_ref, l2_null, l2_none, ent_nil, ent_int, ent_ref, ent_null, ent_rf, ent_long, ok_0, ok_1, af_ret, af_void, List.tail_cons, List.tail_nil, Nat.reduceAdd, Nat.reduceLeDiff, not_false_eq_true, not_true_eq_false, and_self, and_true, true_and, ne_eq, or_true, true_or, or_false, false_or, eq_self, Nat.reduceEqDiff, ↓reduceIte, false_and, and_false, Nat.le_refl, Nat.zero_le, nz_1, nz_2, nz_3, nz_4, nz_5, nz_6, nz_8, nz_10, nz_12, nz_20, nz_30, nz_60, nz_100, mc_B, mc_Z, mc_S, mc_C, mc_K, mc_N, mc_R, mc_I, mc_L, va_Is, va_Ls, va_us, va_iss, u2_ap, sp_isLedge, sp_isLadder, sp_isPerson, sp_isLiving, sp_isLot, sp_isThere, sp_isSpan, cs_f15 q, cs_rd q, cs_K q, c20 q, thr_c q, r80_0, r80_1, r80_4, r80_9, r80_10, r80_13, r80_14, r80_15, r80_18, r80_21, r80_22, r80_23, r80_24, r80_27, r80_28, r80_29, r80_32, r80_33, r80_36, r80_6, hd]
  · intro e
    have hd : ¬ Int32.ofNat dp = 8 := fun z => by
      have := congrArg Int32.toInt z
      rw [ti_nat (by omega), show (8 : Int32).toInt = 8 from rfl] at this
      omega
    have b : QS F c T i (dp + 1) (xm_u2 G 86 4 (Int32.ofNat (dp + 1))) := by
      obtain ⟨⟨n1, n2, n3, n4, n5, n6⟩, b2, b3, b4⟩ := a
      refine ⟨⟨?_, ?_, ?_, fun z => ?_, fun z => ?_, fun k hk z => ?_⟩, ?_, ?_, b4.u⟩
      · rw [u2_ap, if_neg (by omega)]; exact n1
      · rw [u2_ap, if_neg (by omega)]; exact n2
      · rw [u2_ap, if_neg (by omega)]; exact n3
      · rw [u2_ap, if_neg (by omega)]; exact n4 z
      · rw [u2_ap, if_neg (by omega)]; exact n5 z
      · rw [u2_ap, if_neg (by omega)]; exact n6 k hk z
      · rw [u2_ap, if_pos ⟨rfl, rfl⟩]
      · rw [u2_ap, if_neg (by omega)]; exact b3
    obtain ⟨h', G', m, x, w', qs⟩ := b.next (d := d) q w sw tc hi
    refine ⟨h', G', ?_, x, w', qs⟩
    unfold xm_met
    simp only [ite_not, ite_self, w8_nil, ok01, ite10, rf_rv, rf_ref, rf_cat, rf_lk2, rf_some, rf_none, w_add, w_cons, cr_int, cr_long, cr_ref, cr_null, is_ref, is_null, l2_int, l2_ref, l2_null, l2_none, ent_nil, ent_int, ent_ref, ent_null, ent_rf, ent_long, ok_0, ok_1, af_ret, af_void, List.tail_cons, List.tail_nil, Nat.reduceAdd, Nat.reduceLeDiff, not_false_eq_true, not_true_eq_false, and_self, and_true, true_and, ne_eq, or_true, true_or, or_false, false_or, eq_self, Nat.reduceEqDiff, ↓reduceIte, false_and, and_false, Nat.le_refl, Nat.zero_le, nz_1, nz_2, nz_3, nz_4, nz_5, nz_6, nz_8, nz_10, nz_12, nz_20, nz_30, nz_60, nz_100, mc_B, mc_Z, mc_S, mc_C, mc_K, mc_N, mc_R, mc_I, mc_L, va_Is, va_Ls, va_us, va_iss, u2_ap, sp_isLedge, sp_isLadder, sp_isPerson, sp_isLiving, sp_isLot, sp_isThere, sp_isSpan, cs_f15 q, cs_B q, cs_rd q, mc_s (cs_inj q), r80_0, r80_1, r80_4, r80_9, r80_10, r80_13, r80_14, r80_15, r80_18, r80_21, r80_22, r80_23, r80_24, r80_27, r80_28, r80_29, r80_32, r80_33, r80_36, r80_6, hd, a2, nat_succ, m]
/-- one closes -/
theorem QS.cl {i dp : Nat} (a : QS F c T i (dp + 1) G) : QS F c T i dp (xm_u2 G 86 4 (Int32.ofNat dp)) := by
  obtain ⟨⟨n1, n2, n3, n4, n5, n6⟩, b2, b3, b4⟩ := a
  refine ⟨⟨?_, ?_, ?_, fun z => ?_, fun z => ?_, fun k hk z => ?_⟩, ?_, ?_, b4.u⟩
  · rw [u2_ap, if_neg (by omega)]; exact n1
  · rw [u2_ap, if_neg (by omega)]; exact n2
  · rw [u2_ap, if_neg (by omega)]; exact n3
  · rw [u2_ap, if_neg (by omega)]; exact n4 z
  · rw [u2_ap, if_neg (by omega)]; exact n5 z
  · rw [u2_ap, if_neg (by omega)]; exact n6 k hk z
  · rw [u2_ap, if_pos ⟨rfl, rfl⟩]
  · rw [u2_ap, if_neg (by omega)]; exact b3
/-- a number between l and m -/
theorem c82y (q : CS h D) (w : HW h D) (sw : SW h D) (tc : TC F c T) {i dp : Nat} (hi : i ≤ T) (a : QS F c T i dp G) {l m : Int32} (h2 : lK c T i = 2) (hv : l ≤ lV c T i ∧ lV c T i ≤ m) : ∃ h' G', xm_met (d + 8) 82 [.ref (xd_A D 0 15), .int l, .int m] (xp_c h D G) = some (.inl (some (.int (lV c T i))), xp_c h' D G') ∧ hx 4 40 h h' ∧ HW h' D ∧ QS F c T (lE c T i) dp G' := by
  obtain ⟨h', G', m1, x, w', qs⟩ := a.next (d := d) q w sw tc hi
  refine ⟨h', G', ?_, x, w', qs⟩
  have t3 : G 86 2 = 3 := by rw [a.1.2.2.1, h2]; rfl
  have v := a.1.2.2.2.1 h2
  have n1 : ¬ (1 : Int32) = 0 := by decide
  unfold xm_met
  simp only [ite_not, ite_self, w8_nil, ok01, ite10, rf_rv, rf_ref, rf_cat, rf_lk2, rf_some, rf_none, w_add, w_cons, cr_int, cr_long, cr_ref, cr_null, is_ref, is_null, l2_int, l2_ref, l2_null, l2_none, ent_nil, ent_int, ent_ref, ent_null, ent_rf, ent_long, ok_0, ok_1, af_ret, af_void, List.tail_cons, List.tail_nil, Nat.reduceAdd, Nat.reduceLeDiff, not_false_eq_true, not_true_eq_false, and_self, and_true, true_and, ne_eq, or_true, true_or, or_false, false_or, eq_self, Nat.reduceEqDiff, ↓reduceIte, false_and, and_false, Nat.le_refl, Nat.zero_le, nz_1, nz_2, nz_3, nz_4, nz_5, nz_6, nz_8, nz_10, nz_12, nz_20, nz_30, nz_60, nz_100, mc_B, mc_Z, mc_S, mc_C, mc_K, mc_N, mc_R, mc_I, mc_L, va_Is, va_Ls, va_us, va_iss, u2_ap, sp_isLedge, sp_isLadder, sp_isPerson, sp_isLiving, sp_isLot, sp_isThere, sp_isSpan, cs_f15 q, cs_rd q, cs_K q, c2, r82_0, r82_1, r82_4, r82_8, r82_9, r82_12, r82_13, r82_14, r82_17, r82_18, r82_19, r82_25, r82_26, r82_29, r82_30, r82_31, r82_34, r82_37, r82_38, r82_39, r82_42, r82_43, r82_44, r82_47, r82_48, r82_5, r82_22, t3, v, hv.1, hv.2, n1, m1]
theorem c82n (q : CS h D) {i dp : Nat} (a : QS F c T i dp G) {l m : Int32} : (¬ lK c T i = 2 → ∃ G', xm_met (d + 2) 82 [.ref (xd_A D 0 15), .int l, .int m] (xp_c h D G) = some (.inr (xd_A D 0 13), xp_c h D G') ∧ FT F 1 (lS c T i) G') ∧ (lK c T i = 2 → ¬ (l ≤ lV c T i ∧ lV c T i ≤ m) → ∃ G', xm_met (d + 2) 82 [.ref (xd_A D 0 15), .int l, .int m] (xp_c h D G) = some (.inr (xd_A D 0 13), xp_c h D G') ∧ FT F 2 (lS c T i) G') := by
  constructor
  · intro h2
    have t3 : ¬ G 86 2 = 3 := fun z => h2 (lK_nb (a.1.2.2.1.symm.trans z))
    refine ⟨sp_flt G 1, ?_, a.flt⟩
    have m1 := c81 (d := d) (G := G) q
    unfold xm_met
    simp only [ite_not, ite_self, w8_nil, ok01, ite10, rf_rv, rf_ref, rf_cat, rf_lk2, rf_some, rf_none, w_add, w_cons, cr_int, cr_long, cr_ref, cr_null, is_ref, is_null, l2_int, l2_ref, l2_null, l2_none, ent_nil, ent_int, ent_ref, ent_null, ent_rf, ent_long, ok_0, ok_1, af_ret, af_void, List.tail_cons, List.tail_nil, Nat.reduceAdd, Nat.reduceLeDiff, not_false_eq_true, not_true_eq_false, and_self, and_true, true_and, ne_eq, or_true, true_or, or_false, false_or, eq_self, Nat.reduceEqDiff, ↓reduceIte, false_and, and_false, Nat.le_refl, Nat.zero_le, nz_1, nz_2, nz_3, nz_4, nz_5, nz_6, nz_8, nz_10, nz_12, nz_20, nz_30, nz_60, nz_100, mc_B, mc_Z, mc_S, mc_C, mc_K, mc_N, mc_R, mc_I, mc_L, va_Is, va_Ls, va_us, va_iss, u2_ap, sp_isLedge, sp_isLadder, sp_isPerson, sp_isLiving, sp_isLot, sp_isThere, sp_isSpan, cs_f15 q, cs_rd q, cs_K q, thr_c q, r82_0, r82_1, r82_4, r82_8, r82_9, r82_12, r82_13, r82_14, r82_17, r82_18, r82_19, r82_25, r82_26, r82_29, r82_30, r82_31, r82_34, r82_37, r82_38, r82_39, r82_42, r82_43, r82_44, r82_47, r82_48, r82_5, r82_22, t3, m1]
  · intro h2 hv
    have t3 : G 86 2 = 3 := by rw [a.1.2.2.1, h2]; rfl
    have v := a.1.2.2.2.1 h2
    refine ⟨sp_flt G 2, ?_, a.flt⟩
    unfold xm_met sp_flt
    simp only [ite_not, ite_self, w8_nil, ok01, ite10, rf_rv, rf_ref, rf_cat, rf_lk2, rf_some, rf_none, w_add, w_cons, cr_int, cr_long, cr_ref, cr_null, is_ref, is_null, l2_int, l2_ref, l2_null, l2_none, ent_nil, ent_int, ent_ref, ent_null, ent_rf, ent_long, ok_0, ok_1, af_ret, af_void, List.tail_cons, List.tail_nil, Nat.reduceAdd, Nat.reduceLeDiff, not_false_eq_true, not_true_eq_false, and_self, and_true, true_and, ne_eq, or_true, true_or, or_false, false_or, eq_self, Nat.reduceEqDiff, ↓reduceIte, false_and, and_false, Nat.le_refl, Nat.zero_le, nz_1, nz_2, nz_3, nz_4, nz_5, nz_6, nz_8, nz_10, nz_12, nz_20, nz_30, nz_60, nz_100, mc_B, mc_Z, mc_S, mc_C, mc_K, mc_N, mc_R, mc_I, mc_L, va_Is, va_Ls, va_us, va_iss, u2_ap, sp_isLedge, sp_isLadder, sp_isPerson, sp_isLiving, sp_isLot, sp_isThere, sp_isSpan, cs_f15 q, cs_rd q, cs_K q, c2, c20 q, thr_c q, r82_0, r82_1, r82_4, r82_8, r82_9, r82_12, r82_13, r82_14, r82_17, r82_18, r82_19, r82_25, r82_26, r82_29, r82_30, r82_31, r82_34, r82_37, r82_38, r82_39, r82_42, r82_43, r82_44, r82_47, r82_48, r82_5, r82_22, t3, v, hv]
end RDS
