/-! the component reads a word -/
set_option maxRecDepth 100000
section RDW
variable {d : Nat} {h h' : xm_H} {D : xp_D} {F G : xp_F} {c : Nat → Int32} {T : Nat} {z : Nat}
/-- but for where it stands the same -/
def fr0 (F G : xp_F) : Prop := ∀ o k, ¬ (o = 86 ∧ k = 0) → G o k = F o k
theorem fr0.u (a : fr0 F G) {v : Int32} : fr0 F (xm_u2 G 86 0 v) := fun o k h => by
  rw [u2_ap, if_neg h]
  exact a o k h
theorem fr0.fr (a : fr0 F G) : fr86 F G := fun o k h => a o k (by omega)
/-- the builder behind m signs -/
def IL (h : xm_H) (D : xp_D) (c : Nat → Int32) (s m : Nat) (h1 : xm_H) : Prop := hx 2 16 h h1 ∧ HW h1 D ∧ xm_Z h1 = xm_Z h + 2 ∧ xm_K h1 (xm_Z h) = 27 ∧ xm_R h1 (xm_Z h) 0 = some (xm_Z h + 1) ∧ xm_I h1 (xm_Z h) 1 = 0 ∧ xm_I h1 (xm_Z h) 3 = Int32.ofNat (min m 9) ∧ xm_K h1 (xm_Z h + 1) = 101 ∧ xm_N h1 (xm_Z h + 1) = 12 ∧ ∀ j, j < min m 9 → xm_I h1 (xm_Z h + 1) j = c (s + j)
theorem c72l (q : CS h D) (w : HW h D) (sw : SW h D) (tc : TC F c T) {s : Nat} : ∀ (k m : Nat) (h1 : xm_H) (G : xp_F), s + m + k = T → IL h D c s m h1 → G 86 0 = Int32.ofNat (s + m) → fr0 F G → ∃ h2 G2, xm_run (d + 6) 72 10 [some (.ref (xd_A D 0 15)), some (.ref (xm_Z h))] [] (xp_c h1 D G) = xm_run (d + 6) 72 53 [some (.ref (xd_A D 0 15)), some (.ref (xm_Z h))] [] (xp_c h2 D G2) ∧ IL h D c s (rn tL c k (s + m) - s) h2 ∧ G2 86 0 = Int32.ofNat (rn tL c k (s + m)) ∧ fr0 F G2
  | 0, m, h1, G, e, il, ha, f => by
    have t600 := tc.1.1
    obtain ⟨x1, w1, z1, k1, r1, i1, i3, k2, n2, b2⟩ := il
    have q1 := q.hx w x1
    have n1 := tc.1.nL (i := s + m) (by omega)
    have m1 := c70 (d := d + 5) q1 (tc.fr f.fr) (i := s + m) (by omega) ha
    have m2 := c71 (d := d + 5) (h := xp_c h1 D G) (a := xd_A D 0 15) (x := c (s + m))
    rw [if_neg n1.2.1] at m2
    refine ⟨h1, G, ?_, ⟨x1, w1, z1, k1, r1, i1, ?_, k2, n2, ?_⟩, ha, f⟩
    · rw [r72_10]
      simp only [ite_not, ite_self, w8_nil, ok01, ite10, rf_rv, rf_ref, rf_cat, rf_lk2, rf_some, rf_none, w_add, w_cons, cr_int, cr_long, cr_ref, cr_null, is_ref, is_null, l2_int, l2_ref, l2_null, l2_none, ent_nil, ent_int, ent_ref, ent_null, ent_rf, ent_long, ok_0, ok_1, af_ret, af_void, List.tail_cons, List.tail_nil, Nat.reduceAdd, Nat.reduceLeDiff, not_false_eq_true, not_true_eq_false, and_self, and_true, true_and, ne_eq, or_true, true_or, or_false, false_or, eq_self, Nat.reduceEqDiff, ↓reduceIte, false_and, and_false, Nat.le_refl, Nat.zero_le, nz_1, nz_2, nz_3, nz_4, nz_5, nz_6, nz_8, nz_10, nz_12, nz_20, nz_30, nz_60, nz_100, mc_B, mc_Z, mc_S, mc_C, mc_K, mc_N, mc_R, mc_I, mc_L, va_Is, va_Ls, va_us, va_iss, u2_ap, sp_isLedge, sp_isLadder, sp_isPerson, sp_isLiving, sp_isLot, sp_isThere, sp_isSpan, cs_f15 q1, r72_11, r72_12, r72_15, r72_21, r72_22, r72_25, r72_30, r72_31, r72_32, r72_35, r72_36, r72_39, r72_40, r72_41, r72_42, r72_45, r72_46, r72_47, r72_50, r72_18, r72_27, m1, m2]
    · show _ = Int32.ofNat (min (s + m - s) 9)
      rw [show s + m - s = m by omega]
      exact i3
    · show ∀ j, j < min (s + m - s) 9 → _
      rw [show s + m - s = m by omega]
      exact b2
  | k + 1, m, h1, G, e, il, ha, f => by
    have t600 := tc.1.1
    have il0 := il
    obtain ⟨x1, w1, z1, k1, r1, i1, i3, k2, n2, b2⟩ := il
    have q1 := q.hx w x1
    have m1 := c70 (d := d + 5) q1 (tc.fr f.fr) (i := s + m) (by omega) ha
    have m2 := c71 (d := d + 5) (h := xp_c h1 D G) (a := xd_A D 0 15) (x := c (s + m))
    unfold rn
    by_cases c1 : tL (c (s + m))
    · rw [if_pos c1]
      rw [if_pos c1] at m2
      have ne : ∀ a p, xm_Z h ≤ a → xd_E D a p = none := fun a p ha => (w.2.1 a p ha).1
      have eI : ∀ a p, xm_Z h ≤ a → xm_I (xp_c h1 D G) a p = xm_I h1 a p := fun a p ha => by rw [mc_I, ne a p ha, va_In]
      have hC : xm_C (xp_c h1 D G) 100 = .int 1 := by rw [mc_C, x1.2.1]; exact sw.1
      have B1 : xm_B h1 = xm_B h := x1.1
      have Bz := w.1
      have n1 : ¬ (1 : Int32) = 0 := by decide
      obtain ⟨l1, l2⟩ := tL_rg c1
      have m3 : xm_met (d + 5) 244 [.ref (xm_Z h)] (xp_c h1 D G) = some (.inl (some (.int (Int32.ofNat (min m 9)))), xp_c h1 D G) := by
        rw [c244 (d := d + 4) (by rw [mc_K]; exact k1), eI _ _ (Nat.le_refl _), i3]
      by_cases c9 : m < 9
      · have em : min m 9 = m := by omega
        rw [em] at m3 i3 b2
        have c9' : ¬ (9 : Int32) ≤ Int32.ofNat m := fun z => by
          have := Int32.le_iff_toInt_le.mp z
          rw [ti_nat (by omega), show (9 : Int32).toInt = 9 from rfl] at this
          omega
        have en := i_nat (x := c (s + m)) (by omega)
        obtain ⟨by1, by2, -⟩ := byt (c (s + m)).toInt.toNat (by omega)
        have by2 := by2 (by omega)
        rw [← en] at by1 by2
        have m4 := c245 (d := d + 3) (h := xp_c h1 D G) (a := xm_Z h) (b := xm_Z h + 1) (n := m) (x := c (s + m)) hC (by rw [mc_K]; exact k1) (by rw [mc_B, B1]; exact Bz) (by rw [eI _ _ (Nat.le_refl _)]; exact i1) (by rw [eI _ _ (Nat.le_refl _)]; exact i3) (by rw [mc_R]; exact r1) (by rw [mc_K]; exact k2) (by rw [mc_N]; exact n2) (by rw [mc_B, B1]; omega) (by omega) (fun z => by
          have := Int32.lt_iff_toInt_lt.mp z
          rw [show (255 : Int32).toInt = 255 from rfl] at this
          omega) by2
        rw [mc_sn (ne _ _ (Nat.le_refl _)), mc_sn (ne _ _ (Nat.le_succ _))] at m4
        have x2 : hx 2 16 h (xm_sI (xm_sI h1 (xm_Z h) 3 (Int32.ofNat (m + 1))) (xm_Z h + 1) m (c (s + m))) := (x1.sI (Nat.le_refl _)).sI (Nat.le_succ _)
        have q2 := q.hx w x2
        obtain ⟨h2, G2, e1, e2, e3, e4⟩ := c72l (s := s) q w sw tc k (m + 1) (xm_sI (xm_sI h1 (xm_Z h) 3 (Int32.ofNat (m + 1))) (xm_Z h + 1) m (c (s + m))) (xm_u2 G 86 0 (Int32.ofNat (s + (m + 1)))) (by omega) ⟨x2, w1, z1, k1, r1, by
            rw [h_I_sI, if_neg (by omega), h_I_sI, if_neg (by omega)]
            exact i1, by
            rw [h_I_sI, if_neg (by omega), h_I_sI, if_pos ⟨rfl, rfl⟩, show min (m + 1) 9 = m + 1 by omega], k2, n2, fun j hj => by
            rw [h_I_sI]
            by_cases c3 : j = m
            · rw [if_pos ⟨rfl, c3⟩, c3]
            · rw [if_neg (fun z => c3 z.2), h_I_sI, if_neg (by omega)]
              exact b2 j (by omega)⟩ (by rw [u2_ap, if_pos ⟨rfl, rfl⟩]) f.u
        rw [show s + (m + 1) = s + m + 1 by omega] at e1 e2 e3
        refine ⟨h2, G2, ?_, e2, e3, e4⟩
        rw [← e1, r72_10]
        simp only [ite_not, ite_self, w8_nil, ok01, ite10, rf_rv, rf_ref, rf_cat, rf_lk2, rf_some, rf_none, w_add, w_cons, cr_int, cr_long, cr_ref, cr_null, is_ref, is_null, l2_int, l2_ref, l2_null, l2_none, ent_nil, ent_int, ent_ref, ent_null, ent_rf, ent_long, ok_0, ok_1, af_ret, af_void, List.tail_cons, List.tail_nil, Nat.reduceAdd, Nat.reduceLeDiff, not_false_eq_true, not_true_eq_false, and_self, and_true, true_and, ne_eq, or_true, true_or, or_false, false_or, eq_self, Nat.reduceEqDiff, ↓reduceIte, false_and, and_false, Nat.le_refl, Nat.zero_le, nz_1, nz_2, nz_3, nz_4, nz_5, nz_6, nz_8, nz_10, nz_12, nz_20, nz_30, nz_60, nz_100, mc_B, mc_Z, mc_S, mc_C, mc_K, mc_N, mc_R, mc_I, mc_L, va_Is, va_Ls, va_us, va_iss, u2_ap, sp_isLedge, sp_isLadder, sp_isPerson, sp_isLiving, sp_isLot, sp_isThere, sp_isSpan, cs_f15 q1, r72_11, r72_12, r72_15, r72_21, r72_22, r72_25, r72_30, r72_31, r72_32, r72_35, r72_36, r72_39, r72_40, r72_41, r72_42, r72_45, r72_46, r72_47, r72_50, r72_18, r72_27, m1, m2, n1, k1, m3, c9', by1, m4]
        simp only [ite_not, ite_self, w8_nil, ok01, ite10, rf_rv, rf_ref, rf_cat, rf_lk2, rf_some, rf_none, w_add, w_cons, cr_int, cr_long, cr_ref, cr_null, is_ref, is_null, l2_int, l2_ref, l2_null, l2_none, ent_nil, ent_int, ent_ref, ent_null, ent_rf, ent_long, ok_0, ok_1, af_ret, af_void, List.tail_cons, List.tail_nil, Nat.reduceAdd, Nat.reduceLeDiff, not_false_eq_true, not_true_eq_false, and_self, and_true, true_and, ne_eq, or_true, true_or, or_false, false_or, eq_self, Nat.reduceEqDiff, ↓reduceIte, false_and, and_false, Nat.le_refl, Nat.zero_le, nz_1, nz_2, nz_3, nz_4, nz_5, nz_6, nz_8, nz_10, nz_12, nz_20, nz_30, nz_60, nz_100, mc_B, mc_Z, mc_S, mc_C, mc_K, mc_N, mc_R, mc_I, mc_L, va_Is, va_Ls, va_us, va_iss, u2_ap, sp_isLedge, sp_isLadder, sp_isPerson, sp_isLiving, sp_isLot, sp_isThere, sp_isSpan, cs_f15 q2, cs_B q2, mc_s (cs_inj q2), cs_rd q2, r72_39, r72_40, r72_41, r72_42, r72_45, r72_46, r72_47, r72_50, ent_nil, ha, nat_succ]
      · have em : min m 9 = 9 := by omega
        rw [em] at m3
        have c9' : (9 : Int32) ≤ Int32.ofNat 9 := by decide
        obtain ⟨h2, G2, e1, e2, e3, e4⟩ := c72l (s := s) q w sw tc k (m + 1) h1 (xm_u2 G 86 0 (Int32.ofNat (s + (m + 1)))) (by omega) ⟨x1, w1, z1, k1, r1, i1, by
            rw [show min (m + 1) 9 = min m 9 by omega]
            exact i3, k2, n2, fun j hj => b2 j (by omega)⟩ (by rw [u2_ap, if_pos ⟨rfl, rfl⟩]) f.u
        rw [show s + (m + 1) = s + m + 1 by omega] at e1 e2 e3
        refine ⟨h2, G2, ?_, e2, e3, e4⟩
        rw [← e1, r72_10]
        simp only [ite_not, ite_self, w8_nil, ok01, ite10, rf_rv, rf_ref, rf_cat, rf_lk2, rf_some, rf_none, w_add, w_cons, cr_int, cr_long, cr_ref, cr_null, is_ref, is_null, l2_int, l2_ref, l2_null, l2_none, ent_nil, ent_int, ent_ref, ent_null, ent_rf, ent_long, ok_0, ok_1, af_ret, af_void, List.tail_cons, List.tail_nil, Nat.reduceAdd, Nat.reduceLeDiff, not_false_eq_true, not_true_eq_false, and_self, and_true, true_and, ne_eq, or_true, true_or, or_false, false_or, eq_self, Nat.reduceEqDiff, ↓reduceIte, false_and, and_false, Nat.le_refl, Nat.zero_le, nz_1, nz_2, nz_3, nz_4, nz_5, nz_6, nz_8, nz_10, nz_12, nz_20, nz_30, nz_60, nz_100, mc_B, mc_Z, mc_S, mc_C, mc_K, mc_N, mc_R, mc_I, mc_L, va_Is, va_Ls, va_us, va_iss, u2_ap, sp_isLedge, sp_isLadder, sp_isPerson, sp_isLiving, sp_isLot, sp_isThere, sp_isSpan, cs_f15 q1, cs_B q1, mc_s (cs_inj q1), cs_rd q1, r72_11, r72_12, r72_15, r72_21, r72_22, r72_25, r72_30, r72_31, r72_32, r72_35, r72_36, r72_39, r72_40, r72_41, r72_42, r72_45, r72_46, r72_47, r72_50, r72_18, r72_27, m1, m2, n1, k1, m3, c9', ha, nat_succ]
    · rw [if_neg c1]
      rw [if_neg c1] at m2
      refine ⟨h1, G, ?_, ?_, ha, f⟩
      · rw [r72_10]
        simp only [ite_not, ite_self, w8_nil, ok01, ite10, rf_rv, rf_ref, rf_cat, rf_lk2, rf_some, rf_none, w_add, w_cons, cr_int, cr_long, cr_ref, cr_null, is_ref, is_null, l2_int, l2_ref, l2_null, l2_none, ent_nil, ent_int, ent_ref, ent_null, ent_rf, ent_long, ok_0, ok_1, af_ret, af_void, List.tail_cons, List.tail_nil, Nat.reduceAdd, Nat.reduceLeDiff, not_false_eq_true, not_true_eq_false, and_self, and_true, true_and, ne_eq, or_true, true_or, or_false, false_or, eq_self, Nat.reduceEqDiff, ↓reduceIte, false_and, and_false, Nat.le_refl, Nat.zero_le, nz_1, nz_2, nz_3, nz_4, nz_5, nz_6, nz_8, nz_10, nz_12, nz_20, nz_30, nz_60, nz_100, mc_B, mc_Z, mc_S, mc_C, mc_K, mc_N, mc_R, mc_I, mc_L, va_Is, va_Ls, va_us, va_iss, u2_ap, sp_isLedge, sp_isLadder, sp_isPerson, sp_isLiving, sp_isLot, sp_isThere, sp_isSpan, cs_f15 q1, r72_11, r72_12, r72_15, r72_21, r72_22, r72_25, r72_30, r72_31, r72_32, r72_35, r72_36, r72_39, r72_40, r72_41, r72_42, r72_45, r72_46, r72_47, r72_50, r72_18, r72_27, m1, m2]
      · rw [show s + m - s = m by omega]
        exact il0
end RDW
