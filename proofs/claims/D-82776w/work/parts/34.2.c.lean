/-! the component's next token -/
set_option maxRecDepth 100000
section RDN
variable {d : Nat} {h h' : xm_H} {D : xp_D} {F G : xp_F} {c : Nat → Int32} {T : Nat} {z : Nat}
theorem c74 (q : CS h D) (tc : TC F c T) {s : Nat} (hs : s < T) (ha : F 86 0 = Int32.ofNat s) : ∃ G, xm_met (d + 1) 74 [.ref (xd_A D 0 15)] (xp_c h D F) = some (.inl none, xp_c h D G) ∧ fr86 F G ∧ G 86 0 = Int32.ofNat (rn tD c (T - s) s) ∧ (∀ k, ¬ k = 0 → ¬ k = 2 → ¬ k = 3 → G 86 k = F 86 k) ∧ G 86 3 = dgv c s (min (rn tD c (T - s) s - s) 4) ∧ G 86 2 = if rn tD c (T - s) s - s < 5 then 3 else F 86 2 := by
  have t600 := tc.1.1
  obtain ⟨G, e1, e2, e3, e4, e5⟩ := c74l (d := d) q (tc.fr (fr86.rf.u (k := 3) (v := 0))) (s := s) (T - s) 0 (xm_u2 F 86 3 0) (by omega) (by rw [u2_ap, if_neg (by omega)]; exact ha) (by rw [u2_ap, if_pos ⟨rfl, rfl⟩]; rfl) fr86.rf (fun _ _ _ => rfl)
  rw [Nat.add_zero] at e1 e2 e3
  have e1 : xm_run (d + 1) 74 7 [some (.ref (xd_A D 0 15)), some (.int 0)] [] (xp_c h D (xm_u2 F 86 3 0)) = _ := e1
  have rl := rn_le (P := tD) (c := c) (T - s) s
  have e4' : fr86 F G := (fr86.rf.u (k := 3) (v := 0)).tr e4
  have e5' : ∀ k, ¬ k = 0 → ¬ k = 3 → G 86 k = F 86 k := fun k k0 k3 => (e5 k k0 k3).trans (by rw [u2_ap, if_neg (by omega)])
  generalize rn tD c (T - s) s = e at *
  by_cases c5 : e - s < 5
  · have c5' : ¬ (5 : Int32) ≤ Int32.ofNat (e - s) := fun z => by
      have := Int32.le_iff_toInt_le.mp z
      rw [ti_nat (by omega), show (5 : Int32).toInt = 5 from rfl] at this
      omega
    refine ⟨xm_u2 G 86 2 3, ?_, e4'.u, by rw [u2_ap, if_neg (by omega)]; exact e2, fun k k0 k2 k3 => by rw [u2_ap, if_neg (by omega)]; exact e5' k k0 k3, by rw [u2_ap, if_neg (by omega)]; exact e3, by rw [u2_ap, if_pos ⟨rfl, rfl⟩, if_pos c5]⟩
    unfold xm_met
    simp only [ite_not, ite_self, w8_nil, ok01, ite10, rf_rv, rf_ref, rf_cat, rf_lk2, rf_some, rf_none, w_add, w_cons, cr_int, cr_long, cr_ref, cr_null, is_ref, is_null, l2_int, l2_ref, l2_null, l2_none, ent_nil, ent_int, ent_ref, ent_null, ent_rf, ent_long, ok_0, ok_1, af_ret, af_void, List.tail_cons, List.tail_nil, Nat.reduceAdd, Nat.reduceLeDiff, not_false_eq_true, not_true_eq_false, and_self, and_true, true_and, ne_eq, or_true, true_or, or_false, false_or, eq_self, Nat.reduceEqDiff, ↓reduceIte, false_and, and_false, Nat.le_refl, Nat.zero_le, nz_1, nz_2, nz_3, nz_4, nz_5, nz_6, nz_8, nz_10, nz_12, nz_20, nz_30, nz_60, nz_100, mc_B, mc_Z, mc_S, mc_C, mc_K, mc_N, mc_R, mc_I, mc_L, va_Is, va_Ls, va_us, va_iss, u2_ap, sp_isLedge, sp_isLadder, sp_isPerson, sp_isLiving, sp_isLot, sp_isThere, sp_isSpan, cs_f15 q, cs_B q, mc_s (cs_inj q), cs_rd q, r74_0, r74_1, r74_2, r74_3, r74_4, ent_nil, e1]
    simp only [ite_not, ite_self, w8_nil, ok01, ite10, rf_rv, rf_ref, rf_cat, rf_lk2, rf_some, rf_none, w_add, w_cons, cr_int, cr_long, cr_ref, cr_null, is_ref, is_null, l2_int, l2_ref, l2_null, l2_none, ent_nil, ent_int, ent_ref, ent_null, ent_rf, ent_long, ok_0, ok_1, af_ret, af_void, List.tail_cons, List.tail_nil, Nat.reduceAdd, Nat.reduceLeDiff, not_false_eq_true, not_true_eq_false, and_self, and_true, true_and, ne_eq, or_true, true_or, or_false, false_or, eq_self, Nat.reduceEqDiff, ↓reduceIte, false_and, and_false, Nat.le_refl, Nat.zero_le, nz_1, nz_2, nz_3, nz_4, nz_5, nz_6, nz_8, nz_10, nz_12, nz_20, nz_30, nz_60, nz_100, mc_B, mc_Z, mc_S, mc_C, mc_K, mc_N, mc_R, mc_I, mc_L, va_Is, va_Ls, va_us, va_iss, u2_ap, sp_isLedge, sp_isLadder, sp_isPerson, sp_isLiving, sp_isLot, sp_isThere, sp_isSpan, cs_f15 q, cs_B q, mc_s (cs_inj q), cs_rd q, r74_65, r74_66, r74_70, r74_71, r74_72, r74_75, r74_67, c5']
  · have c5' : (5 : Int32) ≤ Int32.ofNat (e - s) := Int32.le_iff_toInt_le.mpr (by rw [ti_nat (by omega), show (5 : Int32).toInt = 5 from rfl]; omega)
    refine ⟨G, ?_, e4', e2, fun k k0 k2 k3 => e5' k k0 k3, e3, by rw [if_neg c5]; exact e5' 2 (by decide) (by decide)⟩
    unfold xm_met
    simp only [ite_not, ite_self, w8_nil, ok01, ite10, rf_rv, rf_ref, rf_cat, rf_lk2, rf_some, rf_none, w_add, w_cons, cr_int, cr_long, cr_ref, cr_null, is_ref, is_null, l2_int, l2_ref, l2_null, l2_none, ent_nil, ent_int, ent_ref, ent_null, ent_rf, ent_long, ok_0, ok_1, af_ret, af_void, List.tail_cons, List.tail_nil, Nat.reduceAdd, Nat.reduceLeDiff, not_false_eq_true, not_true_eq_false, and_self, and_true, true_and, ne_eq, or_true, true_or, or_false, false_or, eq_self, Nat.reduceEqDiff, ↓reduceIte, false_and, and_false, Nat.le_refl, Nat.zero_le, nz_1, nz_2, nz_3, nz_4, nz_5, nz_6, nz_8, nz_10, nz_12, nz_20, nz_30, nz_60, nz_100, mc_B, mc_Z, mc_S, mc_C, mc_K, mc_N, mc_R, mc_I, mc_L, va_Is, va_Ls, va_us, va_iss, u2_ap, sp_isLedge, sp_isLadder, sp_isPerson, sp_isLiving, sp_isLot, sp_isThere, sp_isSpan, cs_f15 q, cs_B q, mc_s (cs_inj q), cs_rd q, r74_0, r74_1, r74_2, r74_3, r74_4, ent_nil, e1]
    simp only [ite_not, ite_self, w8_nil, ok01, ite10, rf_rv, rf_ref, rf_cat, rf_lk2, rf_some, rf_none, w_add, w_cons, cr_int, cr_long, cr_ref, cr_null, is_ref, is_null, l2_int, l2_ref, l2_null, l2_none, ent_nil, ent_int, ent_ref, ent_null, ent_rf, ent_long, ok_0, ok_1, af_ret, af_void, List.tail_cons, List.tail_nil, Nat.reduceAdd, Nat.reduceLeDiff, not_false_eq_true, not_true_eq_false, and_self, and_true, true_and, ne_eq, or_true, true_or, or_false, false_or, eq_self, Nat.reduceEqDiff, ↓reduceIte, false_and, and_false, Nat.le_refl, Nat.zero_le, nz_1, nz_2, nz_3, nz_4, nz_5, nz_6, nz_8, nz_10, nz_12, nz_20, nz_30, nz_60, nz_100, mc_B, mc_Z, mc_S, mc_C, mc_K, mc_N, mc_R, mc_I, mc_L, va_Is, va_Ls, va_us, va_iss, u2_ap, sp_isLedge, sp_isLadder, sp_isPerson, sp_isLiving, sp_isLot, sp_isThere, sp_isSpan, cs_f15 q, cs_B q, mc_s (cs_inj q), cs_rd q, r74_65, r74_66, r74_70, r74_71, r74_72, r74_75, r74_67, c5']
theorem c69a (q : CS h D) (tc : TC F c T) : ∀ (n i : Nat) (G : xp_F), i + n = T → G 86 0 = Int32.ofNat i → fr0 F G → ∃ G', xm_run (d + 1) 69 0 [some (.ref (xd_A D 0 15))] [] (xp_c h D G) = xm_run (d + 1) 69 31 [some (.ref (xd_A D 0 15))] [] (xp_c h D G') ∧ G' 86 0 = Int32.ofNat (rn tS c n i) ∧ fr0 F G'
  | 0, i, G, e, ha, f => by
    have t600 := tc.1.1
    have m := c70 (d := d) q (tc.fr f.fr) (i := i) (by omega) ha
    have n1 := tc.1.nL (i := i) (by omega)
    have n2 : ¬ c i = 32 := fun z => n1.1 (Or.inl z)
    have n3 : ¬ c i = 10 := fun z => n1.1 (Or.inr z)
    refine ⟨G, ?_, ha, f⟩
    rw [r69_0]
    simp only [ite_not, ite_self, w8_nil, ok01, ite10, rf_rv, rf_ref, rf_cat, rf_lk2, rf_some, rf_none, w_add, w_cons, cr_int, cr_long, cr_ref, cr_null, is_ref, is_null, l2_int, l2_ref, l2_null, l2_none, ent_nil, ent_int, ent_ref, ent_null, ent_rf, ent_long, ok_0, ok_1, af_ret, af_void, List.tail_cons, List.tail_nil, Nat.reduceAdd, Nat.reduceLeDiff, not_false_eq_true, not_true_eq_false, and_self, and_true, true_and, ne_eq, or_true, true_or, or_false, false_or, eq_self, Nat.reduceEqDiff, ↓reduceIte, false_and, and_false, Nat.le_refl, Nat.zero_le, nz_1, nz_2, nz_3, nz_4, nz_5, nz_6, nz_8, nz_10, nz_12, nz_20, nz_30, nz_60, nz_100, mc_B, mc_Z, mc_S, mc_C, mc_K, mc_N, mc_R, mc_I, mc_L, va_Is, va_Ls, va_us, va_iss, u2_ap, sp_isLedge, sp_isLadder, sp_isPerson, sp_isLiving, sp_isLot, sp_isThere, sp_isSpan, cs_f15 q, r69_1, r69_4, r69_9, r69_10, r69_13, r69_18, r69_19, r69_20, r69_23, r69_24, r69_25, r69_28, r69_6, r69_15, m, n2, n3]
  | n + 1, i, G, e, ha, f => by
    have t600 := tc.1.1
    have m := c70 (d := d) q (tc.fr f.fr) (i := i) (by omega) ha
    unfold rn
    by_cases c1 : tS (c i)
    · rw [if_pos c1]
      obtain ⟨G', e1, e2, e3⟩ := c69a q tc n (i + 1) (xm_u2 G 86 0 (Int32.ofNat (i + 1))) (by omega) (by rw [u2_ap, if_pos ⟨rfl, rfl⟩]) f.u
      refine ⟨G', ?_, e2, e3⟩
      rw [← e1, r69_0]
      by_cases c3 : c i = 32
      · simp only [ite_not, ite_self, w8_nil, ok01, ite10, rf_rv, rf_ref, rf_cat, rf_lk2, rf_some, rf_none, w_add, w_cons, cr_int, cr_long, cr_ref, cr_null, is_ref, is_null, l2_int, l2_ref, l2_null, l2_none, ent_nil, ent_int, ent_ref, ent_null, ent_rf, ent_long, ok_0, ok_1, af_ret, af_void, List.tail_cons, List.tail_nil, Nat.reduceAdd, Nat.reduceLeDiff, not_false_eq_true, not_true_eq_false, and_self, and_true, true_and, ne_eq, or_true, true_or, or_false, false_or, eq_self, Nat.reduceEqDiff, ↓reduceIte, false_and, and_false, Nat.le_refl, Nat.zero_le, nz_1, nz_2, nz_3, nz_4, nz_5, nz_6, nz_8, nz_10, nz_12, nz_20, nz_30, nz_60, nz_100, mc_B, mc_Z, mc_S, mc_C, mc_K, mc_N, mc_R, mc_I, mc_L, va_Is, va_Ls, va_us, va_iss, u2_ap, sp_isLedge, sp_isLadder, sp_isPerson, sp_isLiving, sp_isLot, sp_isThere, sp_isSpan, cs_f15 q, cs_B q, mc_s (cs_inj q), cs_rd q, r69_1, r69_4, r69_9, r69_10, r69_13, r69_18, r69_19, r69_20, r69_23, r69_24, r69_25, r69_28, r69_6, r69_15, m, c3, ha, nat_succ]
      · have c4 : c i = 10 := c1.resolve_left c3
        have c5 : ¬ (10 : Int32) = 32 := by decide
        simp only [ite_not, ite_self, w8_nil, ok01, ite10, rf_rv, rf_ref, rf_cat, rf_lk2, rf_some, rf_none, w_add, w_cons, cr_int, cr_long, cr_ref, cr_null, is_ref, is_null, l2_int, l2_ref, l2_null, l2_none, ent_nil, ent_int, ent_ref, ent_null, ent_rf, ent_long, ok_0, ok_1, af_ret, af_void, List.tail_cons, List.tail_nil, Nat.reduceAdd, Nat.reduceLeDiff, not_false_eq_true, not_true_eq_false, and_self, and_true, true_and, ne_eq, or_true, true_or, or_false, false_or, eq_self, Nat.reduceEqDiff, ↓reduceIte, false_and, and_false, Nat.le_refl, Nat.zero_le, nz_1, nz_2, nz_3, nz_4, nz_5, nz_6, nz_8, nz_10, nz_12, nz_20, nz_30, nz_60, nz_100, mc_B, mc_Z, mc_S, mc_C, mc_K, mc_N, mc_R, mc_I, mc_L, va_Is, va_Ls, va_us, va_iss, u2_ap, sp_isLedge, sp_isLadder, sp_isPerson, sp_isLiving, sp_isLot, sp_isThere, sp_isSpan, cs_f15 q, cs_B q, mc_s (cs_inj q), cs_rd q, r69_1, r69_4, r69_9, r69_10, r69_13, r69_18, r69_19, r69_20, r69_23, r69_24, r69_25, r69_28, r69_6, r69_15, m, c4, c5, ha, nat_succ]
    · rw [if_neg c1]
      have n2 : ¬ c i = 32 := fun z => c1 (Or.inl z)
      have n3 : ¬ c i = 10 := fun z => c1 (Or.inr z)
      refine ⟨G, ?_, ha, f⟩
      rw [r69_0]
      simp only [ite_not, ite_self, w8_nil, ok01, ite10, rf_rv, rf_ref, rf_cat, rf_lk2, rf_some, rf_none, w_add, w_cons, cr_int, cr_long, cr_ref, cr_null, is_ref, is_null, l2_int, l2_ref, l2_null, l2_none, ent_nil, ent_int, ent_ref, ent_null, ent_rf, ent_long, ok_0, ok_1, af_ret, af_void, List.tail_cons, List.tail_nil, Nat.reduceAdd, Nat.reduceLeDiff, not_false_eq_true, not_true_eq_false, and_self, and_true, true_and, ne_eq, or_true, true_or, or_false, false_or, eq_self, Nat.reduceEqDiff, ↓reduceIte, false_and, and_false, Nat.le_refl, Nat.zero_le, nz_1, nz_2, nz_3, nz_4, nz_5, nz_6, nz_8, nz_10, nz_12, nz_20, nz_30, nz_60, nz_100, mc_B, mc_Z, mc_S, mc_C, mc_K, mc_N, mc_R, mc_I, mc_L, va_Is, va_Ls, va_us, va_iss, u2_ap, sp_isLedge, sp_isLadder, sp_isPerson, sp_isLiving, sp_isLot, sp_isThere, sp_isSpan, cs_f15 q, r69_1, r69_4, r69_9, r69_10, r69_13, r69_18, r69_19, r69_20, r69_23, r69_24, r69_25, r69_28, r69_6, r69_15, m, n2, n3]
/-- the component's token out of the model's -/
def cTk (k : Int32) : Int32 := if k = 0 then 0 else if k = 1 then 1 else if k = 2 then 3 else if tG k then 4 else 2
/-- the component stands at the token that is sought from q on -/
def NC (c : Nat → Int32) (T q : Nat) (G : xp_F) : Prop := G 86 0 = Int32.ofNat (lE c T q) ∧ G 86 1 = Int32.ofNat (lS c T q) ∧ G 86 2 = cTk (lK c T q) ∧ (lK c T q = 2 → G 86 3 = lV c T q) ∧ (tG (lK c T q) → G 86 3 = lK c T q) ∧ ∀ k, k < 21 → lK c T q = cod k → G 86 3 = Int32.ofNat k
theorem cTk_cod : ∀ k, k < 21 → cTk (cod k) = 2 := by decide +kernel
theorem cTk_G {k : Int32} (h : tG k) : cTk k = 4 := by
  have e0 : ¬ k = 0 := fun z => by rw [z] at h; exact absurd h (by decide)
  have e1 : ¬ k = 1 := fun z => by rw [z] at h; exact absurd h (by decide)
  have e2 : ¬ k = 2 := fun z => by rw [z] at h; exact absurd h (by decide)
  unfold cTk
  rw [if_neg e0, if_neg e1, if_neg e2, if_pos h]
theorem c69 (q : CS h D) (w : HW h D) (sw : SW h D) (tc : TC F c T) {i : Nat} (hi : i ≤ T) (ha : F 86 0 = Int32.ofNat i) : ∃ h' G, xm_met (d + 7) 69 [.ref (xd_A D 0 15)] (xp_c h D F) = some (.inl none, xp_c h' D G) ∧ hx 4 40 h h' ∧ HW h' D ∧ fr86 F G ∧ NC c T i G ∧ G 86 4 = F 86 4 ∧ G 86 5 = F 86 5 := by
  have t600 := tc.1.1
  obtain ⟨G1, e1, a1, f1⟩ := c69a (d := d + 6) q tc (T - i) i F (by omega) ha (fun _ _ _ => rfl)
  have ls := lS_le tc.1 hi
  have eS : rn tS c (T - i) i = lS c T i := rfl
  rw [eS] at a1
  generalize hs : lS c T i = s at *
  have f2 : fr86 F (xm_u2 (xm_u2 G1 86 1 (Int32.ofNat s)) 86 2 1) := f1.fr.u.u
  have m1 := c70 (d := d + 6) q (tc.fr f2) (i := s) (by omega) (by rw [u2_ap, if_neg (by omega), u2_ap, if_neg (by omega)]; exact a1)
  have start : xm_met (d + 7) 69 [.ref (xd_A D 0 15)] (xp_c h D F) = xm_run (d + 7) 69 49 [some (.ref (xd_A D 0 15)), some (.int (c s))] [] (xp_c h D (xm_u2 (xm_u2 G1 86 1 (Int32.ofNat s)) 86 2 1)) := by
    unfold xm_met
    simp only [ite_not, ite_self, w8_nil, ok01, ite10, rf_rv, rf_ref, rf_cat, rf_lk2, rf_some, rf_none, w_add, w_cons, cr_int, cr_long, cr_ref, cr_null, is_ref, is_null, l2_int, l2_ref, l2_null, l2_none, ent_nil, ent_int, ent_ref, ent_null, ent_rf, ent_long, ok_0, ok_1, af_ret, af_void, List.tail_cons, List.tail_nil, Nat.reduceAdd, Nat.reduceLeDiff, not_false_eq_true, not_true_eq_false, and_self, and_true, true_and, ne_eq, or_true, true_or, or_false, false_or, eq_self, Nat.reduceEqDiff, ↓reduceIte, false_and, and_false, Nat.le_refl, Nat.zero_le, nz_1, nz_2, nz_3, nz_4, nz_5, nz_6, nz_8, nz_10, nz_12, nz_20, nz_30, nz_60, nz_100]
    rw [show d + 7 = d + 6 + 1 from rfl, e1]
    simp only [ite_not, ite_self, w8_nil, ok01, ite10, rf_rv, rf_ref, rf_cat, rf_lk2, rf_some, rf_none, w_add, w_cons, cr_int, cr_long, cr_ref, cr_null, is_ref, is_null, l2_int, l2_ref, l2_null, l2_none, ent_nil, ent_int, ent_ref, ent_null, ent_rf, ent_long, ok_0, ok_1, af_ret, af_void, List.tail_cons, List.tail_nil, Nat.reduceAdd, Nat.reduceLeDiff, not_false_eq_true, not_true_eq_false, and_self, and_true, true_and, ne_eq, or_true, true_or, or_false, false_or, eq_self, Nat.reduceEqDiff, ↓reduceIte, false_and, and_false, Nat.le_refl, Nat.zero_le, nz_1, nz_2, nz_3, nz_4, nz_5, nz_6, nz_8, nz_10, nz_12, nz_20, nz_30, nz_60, nz_100, mc_B, mc_Z, mc_S, mc_C, mc_K, mc_N, mc_R, mc_I, mc_L, va_Is, va_Ls, va_us, va_iss, u2_ap, sp_isLedge, sp_isLadder, sp_isPerson, sp_isLiving, sp_isLot, sp_isThere, sp_isSpan, cs_f15 q, cs_B q, mc_s (cs_inj q), cs_rd q, r69_31, r69_32, r69_33, r69_36, r69_39, r69_40, r69_41, r69_44, r69_45, r69_48, ent_nil, a1, m1]
  rw [start]
  have at2 : xm_u2 (xm_u2 G1 86 1 (Int32.ofNat s)) 86 2 1 86 0 = Int32.ofNat s := by rw [u2_ap, if_neg (by omega), u2_ap, if_neg (by omega)]; exact a1
  have fr2 : xm_u2 (xm_u2 G1 86 1 (Int32.ofNat s)) 86 2 1 86 1 = Int32.ofNat s := by rw [u2_ap, if_neg (by omega), u2_ap, if_pos ⟨rfl, rfl⟩]
  have tk2 : xm_u2 (xm_u2 G1 86 1 (Int32.ofNat s)) 86 2 1 86 2 = 1 := by rw [u2_ap, if_pos ⟨rfl, rfl⟩]
  have j4 : xm_u2 (xm_u2 G1 86 1 (Int32.ofNat s)) 86 2 1 86 4 = F 86 4 := by rw [u2_ap, if_neg (by omega), u2_ap, if_neg (by omega)]; exact f1 _ _ (by omega)
  have j5 : xm_u2 (xm_u2 G1 86 1 (Int32.ofNat s)) 86 2 1 86 5 = F 86 5 := by rw [u2_ap, if_neg (by omega), u2_ap, if_neg (by omega)]; exact f1 _ _ (by omega)
  generalize xm_u2 (xm_u2 G1 86 1 (Int32.ofNat s)) 86 2 1 = G2 at *
  unfold NC
  have n1 : ¬ (1 : Int32) = 0 := by decide
  by_cases c1 : c s = -1
  · have eE : lE c T i = s := by unfold lE; rw [hs, if_pos c1]
    have eK : lK c T i = 0 := by unfold lK; rw [hs, if_pos c1]
    rw [eE, eK, hs]
    refine ⟨h, xm_u2 G2 86 2 0, ?_, hx.rf, w, f2.u, ⟨?_, ?_, ?_, fun z => absurd z (by decide), fun z => absurd z (by decide), fun k hk z => absurd z.symm (cod_ne k hk).2.1⟩, ?_, ?_⟩
    · simp only [ite_not, ite_self, w8_nil, ok01, ite10, rf_rv, rf_ref, rf_cat, rf_lk2, rf_some, rf_none, w_add, w_cons, cr_int, cr_long, cr_ref, cr_null, is_ref, is_null, l2_int, l2_ref, l2_null, l2_none, ent_nil, ent_int, ent_ref, ent_null, ent_rf, ent_long, ok_0, ok_1, af_ret, af_void, List.tail_cons, List.tail_nil, Nat.reduceAdd, Nat.reduceLeDiff, not_false_eq_true, not_true_eq_false, and_self, and_true, true_and, ne_eq, or_true, true_or, or_false, false_or, eq_self, Nat.reduceEqDiff, ↓reduceIte, false_and, and_false, Nat.le_refl, Nat.zero_le, nz_1, nz_2, nz_3, nz_4, nz_5, nz_6, nz_8, nz_10, nz_12, nz_20, nz_30, nz_60, nz_100, mc_B, mc_Z, mc_S, mc_C, mc_K, mc_N, mc_R, mc_I, mc_L, va_Is, va_Ls, va_us, va_iss, u2_ap, sp_isLedge, sp_isLadder, sp_isPerson, sp_isLiving, sp_isLot, sp_isThere, sp_isSpan, cs_f15 q, cs_B q, mc_s (cs_inj q), cs_rd q, r69_49, r69_50, r69_54, r69_55, r69_56, r69_59, r69_121, r69_51, c1]
    · rw [u2_ap, if_neg (by omega)]; exact at2
    · rw [u2_ap, if_neg (by omega)]; exact fr2
    · rw [u2_ap, if_pos ⟨rfl, rfl⟩]; rfl
    · rw [u2_ap, if_neg (by omega)]; exact j4
    · rw [u2_ap, if_neg (by omega)]; exact j5
  have sT : s < T := by
    false_or_by_contra
    exact c1 (tc.1.2.1 _ (by omega))
  have m2 := c71 (d := d + 6) (h := xp_c h D G2) (a := xd_A D 0 15) (x := c s)
  by_cases c22 : tL (c s)
  · have eE : lE c T i = rn tL c (T - s) s := by unfold lE; rw [hs, if_neg c1, if_pos c22]
    have eK : lK c T i = if lE c T i - s < 9 then sp_word (pkv c s (lE c T i - s)) else 1 := by unfold lK; rw [hs, if_neg c1, if_pos c22]
    rw [if_pos c22] at m2
    obtain ⟨h', G, m3, x3, w3, f3, a3, g3, o3⟩ := c72 (d := d) q w sw (tc.fr f2) sT at2
    rw [← eE] at a3 o3
    refine ⟨h', G, ?_, x3, w3, f2.tr f3, ⟨a3, ?_, ?_⟩, (g3 4 (by decide) (by decide) (by decide)).trans j4, (g3 5 (by decide) (by decide) (by decide)).trans j5⟩
    · simp only [ite_not, ite_self, w8_nil, ok01, ite10, rf_rv, rf_ref, rf_cat, rf_lk2, rf_some, rf_none, w_add, w_cons, cr_int, cr_long, cr_ref, cr_null, is_ref, is_null, l2_int, l2_ref, l2_null, l2_none, ent_nil, ent_int, ent_ref, ent_null, ent_rf, ent_long, ok_0, ok_1, af_ret, af_void, List.tail_cons, List.tail_nil, Nat.reduceAdd, Nat.reduceLeDiff, not_false_eq_true, not_true_eq_false, and_self, and_true, true_and, ne_eq, or_true, true_or, or_false, false_or, eq_self, Nat.reduceEqDiff, ↓reduceIte, false_and, and_false, Nat.le_refl, Nat.zero_le, nz_1, nz_2, nz_3, nz_4, nz_5, nz_6, nz_8, nz_10, nz_12, nz_20, nz_30, nz_60, nz_100, mc_B, mc_Z, mc_S, mc_C, mc_K, mc_N, mc_R, mc_I, mc_L, va_Is, va_Ls, va_us, va_iss, u2_ap, sp_isLedge, sp_isLadder, sp_isPerson, sp_isLiving, sp_isLot, sp_isThere, sp_isSpan, cs_f15 q, r69_49, r69_50, r69_54, r69_55, r69_56, r69_59, r69_62, r69_63, r69_64, r69_70, r69_71, r69_74, r69_121, r69_51, r69_67, c1, m2, n1, m3]
    · rw [hs]
      exact (g3 1 (by decide) (by decide) (by decide)).trans fr2
    · rw [eK]
      rcases o3 with ⟨k, hk, o1, o2, o4⟩ | ⟨o1, o2⟩
      · rw [o1]
        obtain ⟨k1, k0, k2, kg⟩ := cod_ne k hk
        exact ⟨o2.trans (cTk_cod k hk).symm, fun z => absurd z k2, fun z => absurd z kg, fun j hj z => by rw [← cod_inj k hk j hj z]; exact o4⟩
      · rw [o1]
        exact ⟨o2.trans (tk2.trans rfl), fun z => absurd z (by decide), fun z => absurd z (by decide), fun j hj z => absurd z.symm (cod_ne j hj).1⟩
  rw [if_neg c22] at m2
  have m4 := c73 (d := d + 6) (h := xp_c h D G2) (a := xd_A D 0 15) (x := c s)
  by_cases c3 : tD (c s)
  · have eE : lE c T i = rn tD c (T - s) s := by unfold lE; rw [hs, if_neg c1, if_neg c22, if_pos c3]
    have eK : lK c T i = if lE c T i - s < 5 then 2 else 1 := by unfold lK; rw [hs, if_neg c1, if_neg c22, if_pos c3]
    have eV : lV c T i = dgv c s (min (lE c T i - s) 4) := by unfold lV; rw [hs]
    rw [if_pos c3] at m4
    obtain ⟨G, m3, f3, a3, g3, v3, o3⟩ := c74 (d := d + 5) q (tc.fr f2) sT at2
    rw [← eE] at a3 o3 v3
    refine ⟨h, G, ?_, hx.rf, w, f2.tr f3, ⟨a3, ?_, ?_⟩, (g3 4 (by decide) (by decide) (by decide)).trans j4, (g3 5 (by decide) (by decide) (by decide)).trans j5⟩
    · simp only [ite_not, ite_self, w8_nil, ok01, ite10, rf_rv, rf_ref, rf_cat, rf_lk2, rf_some, rf_none, w_add, w_cons, cr_int, cr_long, cr_ref, cr_null, is_ref, is_null, l2_int, l2_ref, l2_null, l2_none, ent_nil, ent_int, ent_ref, ent_null, ent_rf, ent_long, ok_0, ok_1, af_ret, af_void, List.tail_cons, List.tail_nil, Nat.reduceAdd, Nat.reduceLeDiff, not_false_eq_true, not_true_eq_false, and_self, and_true, true_and, ne_eq, or_true, true_or, or_false, false_or, eq_self, Nat.reduceEqDiff, ↓reduceIte, false_and, and_false, Nat.le_refl, Nat.zero_le, nz_1, nz_2, nz_3, nz_4, nz_5, nz_6, nz_8, nz_10, nz_12, nz_20, nz_30, nz_60, nz_100, mc_B, mc_Z, mc_S, mc_C, mc_K, mc_N, mc_R, mc_I, mc_L, va_Is, va_Ls, va_us, va_iss, u2_ap, sp_isLedge, sp_isLadder, sp_isPerson, sp_isLiving, sp_isLot, sp_isThere, sp_isSpan, cs_f15 q, r69_49, r69_50, r69_54, r69_55, r69_56, r69_59, r69_62, r69_63, r69_64, r69_70, r69_71, r69_74, r69_77, r69_78, r69_79, r69_85, r69_86, r69_89, r69_121, r69_51, r69_67, r69_82, c1, m2, m4, n1, m3]
    · rw [hs]
      exact (g3 1 (by decide) (by decide) (by decide)).trans fr2
    · rw [eK, eV]
      by_cases c5 : lE c T i - s < 5
      · rw [if_pos c5] at o3 ⊢
        exact ⟨o3, fun _ => v3, fun z => absurd z (by decide), fun j hj z => absurd z.symm (cod_ne j hj).2.2.1⟩
      · rw [if_neg c5] at o3 ⊢
        exact ⟨o3.trans (tk2.trans rfl), fun z => absurd z (by decide), fun z => absurd z (by decide), fun j hj z => absurd z.symm (cod_ne j hj).1⟩
  · rw [if_neg c3] at m4
    have eE : lE c T i = s + 1 := by unfold lE; rw [hs, if_neg c1, if_neg c22, if_neg c3]
    have eK : lK c T i = if tG (c s) then c s else 1 := by unfold lK; rw [hs, if_neg c1, if_neg c22, if_neg c3]
    obtain ⟨b1, b2⟩ := tc.1.2.2 s sT
    obtain ⟨a, hC, sx⟩ := sw.2.1
    obtain ⟨r, m5, o5⟩ := c252 (d := d + 3) (h := xp_c h D G2) (a := a) (m := 10) (x := c s) (f := sgf) (by rw [mc_C]; exact sw.1) (sx.sm w (hx.rf (z := 0) (s := 0))) (by decide) (by decide) (fun z => by
      have := Int32.lt_iff_toInt_lt.mp z
      rw [show (0 : Int32).toInt = 0 from rfl] at this
      omega) (fun z => by
      have := Int32.lt_iff_toInt_lt.mp z
      rw [show (255 : Int32).toInt = 255 from rfl] at this
      omega)
    have ka : xm_K h a = 28 := by
      obtain ⟨b, kb, -⟩ := sx
      exact kb
    have en := i_nat (x := c s) b1
    obtain ⟨-, -, bg⟩ := byt (c s).toInt.toNat (by omega)
    rw [← en] at bg
    rw [eE, eK, hs]
    rcases o5 with ⟨o5, o6⟩ | ⟨o5, o6⟩
    · have g := bg.mp o6
      have nr : ¬ r < 0 := Int32.not_lt.mpr o5
      rw [if_pos g]
      refine ⟨h, xm_u2 (xm_u2 (xm_u2 G2 86 2 4) 86 3 (c s)) 86 0 (Int32.ofNat (s + 1)), ?_, hx.rf, w, f2.u.u.u, ⟨?_, ?_, ?_, fun z => ?_, fun z => ?_, fun k hk z => ?_⟩, ?_, ?_⟩
      · simp only [ite_not, ite_self, w8_nil, ok01, ite10, rf_rv, rf_ref, rf_cat, rf_lk2, rf_some, rf_none, w_add, w_cons, cr_int, cr_long, cr_ref, cr_null, is_ref, is_null, l2_int, l2_ref, l2_null, l2_none, ent_nil, ent_int, ent_ref, ent_null, ent_rf, ent_long, ok_0, ok_1, af_ret, af_void, List.tail_cons, List.tail_nil, Nat.reduceAdd, Nat.reduceLeDiff, not_false_eq_true, not_true_eq_false, and_self, and_true, true_and, ne_eq, or_true, true_or, or_false, false_or, eq_self, Nat.reduceEqDiff, ↓reduceIte, false_and, and_false, Nat.le_refl, Nat.zero_le, nz_1, nz_2, nz_3, nz_4, nz_5, nz_6, nz_8, nz_10, nz_12, nz_20, nz_30, nz_60, nz_100, mc_B, mc_Z, mc_S, mc_C, mc_K, mc_N, mc_R, mc_I, mc_L, va_Is, va_Ls, va_us, va_iss, u2_ap, sp_isLedge, sp_isLadder, sp_isPerson, sp_isLiving, sp_isLot, sp_isThere, sp_isSpan, cs_f15 q, cs_B q, mc_s (cs_inj q), cs_rd q, r69_49, r69_50, r69_54, r69_55, r69_56, r69_59, r69_62, r69_63, r69_64, r69_70, r69_71, r69_74, r69_77, r69_78, r69_79, r69_85, r69_86, r69_89, r69_92, r69_94, r69_95, r69_101, r69_102, r69_103, r69_106, r69_107, r69_108, r69_111, r69_112, r69_113, r69_116, r69_117, r69_118, r69_121, r69_51, r69_67, r69_82, r69_98, c1, m2, m4, n1, hC, ka, m5, nr, at2, nat_succ]
      · rw [u2_ap, if_pos ⟨rfl, rfl⟩]
      · rw [u2_ap, if_neg (by omega), u2_ap, if_neg (by omega), u2_ap, if_neg (by omega)]; exact fr2
      · rw [u2_ap, if_neg (by omega), u2_ap, if_neg (by omega), u2_ap, if_pos ⟨rfl, rfl⟩, cTk_G g]
      · rw [z] at g
        exact absurd g (by decide)
      · rw [u2_ap, if_neg (by omega), u2_ap, if_pos ⟨rfl, rfl⟩]
      · rw [z] at g
        exact absurd g (cod_ne k hk).2.2.2
      · rw [u2_ap, if_neg (by omega), u2_ap, if_neg (by omega), u2_ap, if_neg (by omega)]; exact j4
      · rw [u2_ap, if_neg (by omega), u2_ap, if_neg (by omega), u2_ap, if_neg (by omega)]; exact j5
    · have g : ¬ tG (c s) := fun y => by
        obtain ⟨j, hj, e⟩ := bg.mpr y
        exact o6 j hj e
      rw [if_neg g]
      refine ⟨h, xm_u2 (xm_u2 G2 86 3 (c s)) 86 0 (Int32.ofNat (s + 1)), ?_, hx.rf, w, f2.u.u, ⟨?_, ?_, ?_, fun z => absurd z (by decide), fun z => absurd z (by decide), fun k hk z => absurd z.symm (cod_ne k hk).1⟩, ?_, ?_⟩
      · simp only [ite_not, ite_self, w8_nil, ok01, ite10, rf_rv, rf_ref, rf_cat, rf_lk2, rf_some, rf_none, w_add, w_cons, cr_int, cr_long, cr_ref, cr_null, is_ref, is_null, l2_int, l2_ref, l2_null, l2_none, ent_nil, ent_int, ent_ref, ent_null, ent_rf, ent_long, ok_0, ok_1, af_ret, af_void, List.tail_cons, List.tail_nil, Nat.reduceAdd, Nat.reduceLeDiff, not_false_eq_true, not_true_eq_false, and_self, and_true, true_and, ne_eq, or_true, true_or, or_false, false_or, eq_self, Nat.reduceEqDiff, ↓reduceIte, false_and, and_false, Nat.le_refl, Nat.zero_le, nz_1, nz_2, nz_3, nz_4, nz_5, nz_6, nz_8, nz_10, nz_12, nz_20, nz_30, nz_60, nz_100, mc_B, mc_Z, mc_S, mc_C, mc_K, mc_N, mc_R, mc_I, mc_L, va_Is, va_Ls, va_us, va_iss, u2_ap, sp_isLedge, sp_isLadder, sp_isPerson, sp_isLiving, sp_isLot, sp_isThere, sp_isSpan, cs_f15 q, cs_B q, mc_s (cs_inj q), cs_rd q, r69_49, r69_50, r69_54, r69_55, r69_56, r69_59, r69_62, r69_63, r69_64, r69_70, r69_71, r69_74, r69_77, r69_78, r69_79, r69_85, r69_86, r69_89, r69_92, r69_94, r69_95, r69_101, r69_102, r69_103, r69_106, r69_107, r69_108, r69_111, r69_112, r69_113, r69_116, r69_117, r69_118, r69_121, r69_51, r69_67, r69_82, r69_98, c1, m2, m4, n1, hC, ka, m5, o5, at2, nat_succ]
      · rw [u2_ap, if_pos ⟨rfl, rfl⟩]
      · rw [u2_ap, if_neg (by omega), u2_ap, if_neg (by omega)]; exact fr2
      · rw [u2_ap, if_neg (by omega), u2_ap, if_neg (by omega)]; exact tk2.trans rfl
      · rw [u2_ap, if_neg (by omega), u2_ap, if_neg (by omega)]; exact j4
      · rw [u2_ap, if_neg (by omega), u2_ap, if_neg (by omega)]; exact j5
end RDN
