/-! what is foreseen: the component's parts -/
set_option maxRecDepth 100000
abbrev fC (F G : xp_F) : Prop := ∀ o k, ¬ o = 82 → ¬ (93 ≤ o ∧ o ≤ 102) → G o k = F o k
section FO
variable {d : Nat} {h : xm_H} {D : xp_D} {F : xp_F} {b : Bool}
theorem up_rg {s : Nat → Int32} {L : Nat → Ln} : ∀ n, 0 ≤ (xp_up (sp_leave1 s L) 0 n).toInt
  | 0 => by
    show 0 ≤ (0 : Int32).toInt
    decide
  | n + 1 => by
    have ih := up_rg (s := s) (L := L) n
    show 0 ≤ (sp_leave1 s L n (xp_up (sp_leave1 s L) 0 n)).toInt
    generalize xp_up (sp_leave1 s L) 0 n = m at ih ⊢
    unfold sp_leave1
    split
    · rw [mx_ti]
      omega
    · exact ih
theorem leaves_rg {s : Nat → Int32} {L : Nat → Ln} {n : Nat} : rg (sp_leaves s L n) 100 := by
  have := up_rg (s := s) (L := L) n
  unfold sp_leaves rg
  rw [mn_ti, show (100 : Int32).toInt = 100 from rfl]
  omega
theorem left_ti {c v : Int32} (hc : 0 ≤ c.toInt ∧ c.toInt ≤ 3600) (hv : rg v 100) : (sp_left c v).toInt = (c.toInt * v.toInt + 99) / 100 ∧ 0 ≤ (sp_left c v).toInt ∧ (sp_left c v).toInt ≤ c.toInt := by
  have h1 : 0 ≤ c.toInt * v.toInt := Int.mul_nonneg hc.1 hv.1
  have h2 : c.toInt * v.toInt ≤ c.toInt * 100 := Int.mul_le_mul_of_nonneg_left hv.2 hc.1
  have e1 : (c * v).toInt = c.toInt * v.toInt := ti_mul (by omega)
  have t99 : (99 : Int32).toInt = 99 := rfl
  have e2 : (c * v + 99).toInt = c.toInt * v.toInt + 99 := by rw [ti_add (by rw [e1, t99]; omega), e1, t99]
  have e3 : (sp_left c v).toInt = (c.toInt * v.toInt + 99) / 100 := by
    unfold sp_left
    rw [ti_div (by rw [e2]; omega) (by decide), e2]
    rfl
  refine ⟨e3, ?_, ?_⟩
  · rw [e3]
    omega
  · rw [e3]
    omega
theorem GI.LKx {n l : Nat} (a : GI b n F) (hl : l < n) (c : 0 < (F (nu b 4) l).toInt) : LKx b l F := by
  obtain ⟨⟨s1, s2⟩, k1, k2, m1, m2⟩ := a l hl
  exact ⟨c, by omega, m1, by omega⟩
theorem q_md {m c x : Int} (hc : 0 < c) (hx : 0 ≤ x) (hxc : x ≤ c) (hm : m ≤ 9 * c) : m - m * (c - x) / c ≤ 9 * x := by
  have h1 : (m - 9 * x) * c ≤ m * (c - x) := by
    have e1 : (m - 9 * x) * c = m * c - 9 * (x * c) := by rw [Int.sub_mul, Int.mul_assoc]
    have e2 : m * (c - x) = m * c - m * x := Int.mul_sub _ _ _
    have e3 : m * x ≤ 9 * c * x := Int.mul_le_mul_of_nonneg_right hm hx
    have e4 : 9 * c * x = 9 * (x * c) := by rw [Int.mul_assoc, Int.mul_comm c x]
    omega
  have h2 : m - 9 * x ≤ m * (c - x) / c := Int.le_ediv_of_mul_le hc h1
  omega
theorem GI.cutL {n l : Nat} {x : Int32} (a : GI b n F) (hl : l < n) (c : 0 < (F (nu b 4) l).toInt) (hx : 0 ≤ x.toInt ∧ x.toInt ≤ (F (nu b 4) l).toInt) : GI b n (sq_cutL b F l x) := by
  have lk := a.LKx hl c
  obtain ⟨m0, m1, m2⟩ := mad_bd lk hx
  obtain ⟨⟨s1, s2⟩, k1, k2, k3, k4⟩ := a l hl
  have e0 : (F (nu b 4) l - x).toInt = (F (nu b 4) l).toInt - x.toInt := ti_sub (by omega)
  have e1 : (sq_mad b F l x).toInt = (F (nu b 8) l).toInt * ((F (nu b 4) l).toInt - x.toInt) / (F (nu b 4) l).toInt := by
    have := (l_md (m := F (nu b 8) l) (y := F (nu b 4) l - x) (c := F (nu b 4) l) ⟨lk.2.2.1, lk.2.2.2⟩ (by omega) (by omega) lk.2.1 lk.1).2.1
    rw [e0] at this
    exact this
  have e2 : (F (nu b 8) l - sq_mad b F l x).toInt = (F (nu b 8) l).toInt - (sq_mad b F l x).toInt := ti_sub (by have := lk.2.2.2; omega)
  have e3 := q_md (m := (F (nu b 8) l).toInt) c hx.1 hx.2 k4
  rw [← e1] at e3
  intro k hk
  unfold sq_cutL
  by_cases e : k = l
  · subst e
    simp only [u2_ap, nn_1_3, nn_1_4, nn_1_5, nn_1_6, nn_1_7, nn_1_8, nn_1_9, nn_1_10, nn_3_1, nn_3_4, nn_3_5, nn_3_6, nn_3_7, nn_3_8, nn_3_9, nn_3_10, nn_4_1, nn_4_3, nn_4_5, nn_4_6, nn_4_7, nn_4_8, nn_4_9, nn_4_10, nn_5_1, nn_5_3, nn_5_4, nn_5_6, nn_5_7, nn_5_8, nn_5_9, nn_5_10, nn_6_1, nn_6_3, nn_6_4, nn_6_5, nn_6_7, nn_6_8, nn_6_9, nn_6_10, nn_7_1, nn_7_3, nn_7_4, nn_7_5, nn_7_6, nn_7_8, nn_7_9, nn_7_10, nn_8_1, nn_8_3, nn_8_4, nn_8_5, nn_8_6, nn_8_7, nn_8_9, nn_8_10, nn_9_1, nn_9_3, nn_9_4, nn_9_5, nn_9_6, nn_9_7, nn_9_8, nn_9_10, nn_10_1, nn_10_3, nn_10_4, nn_10_5, nn_10_6, nn_10_7, nn_10_8, nn_10_9, nz_1_0, nz_1_1, nz_1_2, nz_3_0, nz_3_1, nz_3_2, nz_4_0, nz_4_1, nz_4_2, nz_5_0, nz_5_1, nz_5_2, nz_6_0, nz_6_1, nz_6_2, nz_7_0, nz_7_1, nz_7_2, nz_8_0, nz_8_1, nz_8_2, nz_9_0, nz_9_1, nz_9_2, nz_10_0, nz_10_1, nz_10_2, and_self, false_and, ↓reduceIte, e2]
    exact ⟨⟨s1, s2⟩, hx.1, by omega, by omega, by omega⟩
  · simp only [u2_ap, e, and_false, ↓reduceIte]
    exact a k hk
theorem cutL_o {l o k : Nat} {x : Int32} (h : ∀ j, 4 ≤ j → j ≤ 9 → ¬ o = nu b j) : sq_cutL b F l x o k = F o k := by
  unfold sq_cutL
  rw [u2_ap, if_neg (fun z => h 9 (by decide) (by decide) z.1), u2_ap, if_neg (fun z => h 8 (by decide) (by decide) z.1), u2_ap, if_neg (fun z => h 4 (by decide) (by decide) z.1), u2_ap, if_neg (fun z => h 5 (by decide) (by decide) z.1)]
def sq_bec (l : Nat) (F : xp_F) : xp_F := xm_u2 (xm_u2 (xm_u2 (xm_u2 (xm_u2 F 93 l (F 5 l)) 94 l (F 6 l)) 95 l (F 8 l)) 99 l (F 12 l)) 100 l (F 13 l)
theorem c189 (q : CS h D) {l : Nat} (hl : l < xd_n D 0) (h1 : xm_ok .boolean (F 12 l) = true) (h2 : xm_ok .boolean (F 13 l) = true) : xm_met d 189 [.ref (xd_A D 2 l), .ref (xd_A D 1 l)] (xp_c h D F) = some (.inl none, xp_c h D (sq_bec l F)) := by
  have o1 := cs_L q hl
  have o2 := cs_T q hl
  unfold xm_met sq_bec
  simp only [ite_not, ite_self, w8_nil, ok01, ite10, rf_rv, rf_ref, rf_cat, rf_lk2, rf_some, rf_none, w_add, w_cons, cr_int, cr_long, cr_ref, cr_null, is_ref, is_null, l2_int, l2_ref, l2_null, l2_none, ent_nil, ent_int, ent_ref, ent_null, ent_rf, ent_long, ok_0, ok_1, af_ret, af_void, List.tail_cons, List.tail_nil, Nat.reduceAdd, Nat.reduceLeDiff, not_false_eq_true, not_true_eq_false, and_self, and_true, true_and, ne_eq, or_true, true_or, or_false, false_or, eq_self, Nat.reduceEqDiff, ↓reduceIte, false_and, and_false, Nat.le_refl, Nat.zero_le, nz_1, nz_2, nz_3, nz_4, nz_5, nz_6, nz_8, nz_10, nz_12, nz_20, nz_30, nz_60, nz_100, mc_B, mc_Z, mc_S, mc_C, mc_K, mc_N, mc_R, mc_I, mc_L, va_Is, va_Ls, va_us, va_iss, u2_ap, sp_isLedge, sp_isLadder, sp_isPerson, sp_isLiving, sp_isLot, sp_isThere, sp_isSpan, mc_s (cs_inj q), r189_0, r189_1, r189_2, r189_5, r189_8, r189_9, r189_10, r189_13, r189_16, r189_17, r189_18, r189_21, r189_24, r189_25, r189_26, r189_29, r189_32, r189_33, r189_34, r189_37, r189_40, o1, o2, h1, h2]
end FO
