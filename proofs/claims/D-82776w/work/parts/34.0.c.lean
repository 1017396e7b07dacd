/-! the component reads a word, the whole -/
set_option maxRecDepth 100000
section RDV
variable {d : Nat} {h h' : xm_H} {D : xp_D} {F G : xp_F} {c : Nat → Int32} {T : Nat} {z : Nat}
/-- words 0 .. k - 1 compared: K stands there -/
def gw (K k : Nat) (G : xp_F) : xp_F := if K < k then xm_u2 (xm_u2 G 86 2 2) 86 3 (Int32.ofNat K) else G
theorem c72w (q : CS h D) (w : HW h D) (sw : SW h D) {z1 s1 : Nat} {h3 : xm_H} (x : hx z1 s1 h h3) {s m K a : Nat} (hm : m ≤ 9) (hK : ∀ j, j < 21 → (mtc c s m j ↔ j = K)) (sx : SX h3 D a m (fun j => c (s + j))) (za : xm_Z h ≤ a) (w3 : HW h3 D) {sb : Nat} : ∀ (r k : Nat), k + r = 21 → xm_run (d + 6) 72 60 [some (.ref (xd_A D 0 15)), some (.ref sb), some (.ref a), some (.int (Int32.ofNat k))] [] (xp_c h3 D (gw K k G)) = some (.inl none, xp_c h3 D (gw K 21 G))
  | 0, k, e => by
    have e : k = 21 := by omega
    subst e
    have q3 := q.hx w x
    have k100 : 100 ≤ 111 := by decide
    have e21 : Int32.ofNat 21 ≤ Int32.ofNat 21 := Int32.le_refl _
    rw [r72_60]
    simp only [ite_not, ite_self, w8_nil, ok01, ite10, rf_rv, rf_ref, rf_cat, rf_lk2, rf_some, rf_none, w_add, w_cons, cr_int, cr_long, cr_ref, cr_null, is_ref, is_null, l2_int, l2_ref, l2_null, l2_none, ent_nil, ent_int, ent_ref, ent_null, ent_rf, ent_long, ok_0, ok_1, af_ret, af_void, List.tail_cons, List.tail_nil, Nat.reduceAdd, Nat.reduceLeDiff, not_false_eq_true, not_true_eq_false, and_self, and_true, true_and, ne_eq, or_true, true_or, or_false, false_or, eq_self, Nat.reduceEqDiff, ↓reduceIte, false_and, and_false, Nat.le_refl, Nat.zero_le, nz_1, nz_2, nz_3, nz_4, nz_5, nz_6, nz_8, nz_10, nz_12, nz_20, nz_30, nz_60, nz_100, mc_B, mc_Z, mc_S, mc_C, mc_K, mc_N, mc_R, mc_I, mc_L, va_Is, va_Ls, va_us, va_iss, u2_ap, sp_isLedge, sp_isLadder, sp_isPerson, sp_isLiving, sp_isLot, sp_isThere, sp_isSpan, cs_f15 q3, cs_rd q3, cs_K q3, cs_f14 q3, k100, r72_61, r72_62, r72_65, r72_68, r72_72, r72_73, r72_76, r72_79, r72_80, r72_81, r72_82, r72_88, r72_91, r72_92, r72_93, r72_96, r72_97, r72_98, r72_101, r72_104, r72_107, r72_69, r72_85, e21]
  | r + 1, k, e => by
    have q3 := q.hx w x
    have k100 : 100 ≤ 111 := by decide
    have k110 : 110 ≤ 111 := by decide
    have e21 := lt_nat (show k < 21 by omega) (by omega)
    obtain ⟨i1, i2⟩ := in_nat (show k < 21 by omega) (by decide)
    obtain ⟨b, hb, sxb⟩ := sw.2.2 k (by omega)
    have rb : xm_R h3 (xd_A D 0 14) k = some b := (x.R w (cs_f14 q).2.1 (by decide)).trans hb
    have zb : b < xm_Z h := by
      obtain ⟨_, kb, -⟩ := sxb
      exact w.lt kb (by decide)
    have kb3 : xm_K h3 b = 28 := by
      obtain ⟨_, kb, -⟩ := sxb
      exact x.K w kb (by decide)
    obtain ⟨v, e1, e2⟩ := c251 (d := d + 4) (h := xp_c h3 D (gw K k G)) (a := b) (b := a) (by rw [mc_C, x.2.1]; exact sw.1) (by omega) (sxb.sm w x) (sx.sm w3 (hx.rf (z := 0) (s := 0))) (by have := (wd_ltr k (by omega)).1; omega) (by omega)
    have ih := c72w (sb := sb) q w sw x hm hK sx za w3 r (k + 1) (by omega)
    have eq : (wln k = m ∧ ∀ j, j < wln k → wdf k j = c (s + j)) ↔ mtc c s m k := by
      constructor
      · rintro ⟨y1, y2⟩
        exact ⟨y1.symm, fun j hj => (y2 j (by omega)).symm⟩
      · rintro ⟨y1, y2⟩
        exact ⟨y1.symm, fun j hj => (y2 j (by omega)).symm⟩
    have n1 : ¬ (1 : Int32) = 0 := by decide
    rw [eq] at e2
    rcases e2 with ⟨e2, e3⟩ | ⟨e2, e3⟩
    · have kK := (hK k (by omega)).mp e3
      subst kK
      have g1 : gw k k G = G := if_neg (Nat.lt_irrefl _)
      have g2 : gw k (k + 1) G = xm_u2 (xm_u2 G 86 2 2) 86 3 (Int32.ofNat k) := if_pos (Nat.lt_succ_self _)
      rw [g1] at e1 ⊢
      rw [g2] at ih
      rw [e2] at e1
      rw [← ih, r72_60]
      simp only [ite_not, ite_self, w8_nil, ok01, ite10, rf_rv, rf_ref, rf_cat, rf_lk2, rf_some, rf_none, w_add, w_cons, cr_int, cr_long, cr_ref, cr_null, is_ref, is_null, l2_int, l2_ref, l2_null, l2_none, ent_nil, ent_int, ent_ref, ent_null, ent_rf, ent_long, ok_0, ok_1, af_ret, af_void, List.tail_cons, List.tail_nil, Nat.reduceAdd, Nat.reduceLeDiff, not_false_eq_true, not_true_eq_false, and_self, and_true, true_and, ne_eq, or_true, true_or, or_false, false_or, eq_self, Nat.reduceEqDiff, ↓reduceIte, false_and, and_false, Nat.le_refl, Nat.zero_le, nz_1, nz_2, nz_3, nz_4, nz_5, nz_6, nz_8, nz_10, nz_12, nz_20, nz_30, nz_60, nz_100, mc_B, mc_Z, mc_S, mc_C, mc_K, mc_N, mc_R, mc_I, mc_L, va_Is, va_Ls, va_us, va_iss, u2_ap, sp_isLedge, sp_isLadder, sp_isPerson, sp_isLiving, sp_isLot, sp_isThere, sp_isSpan, cs_f15 q3, cs_B q3, mc_s (cs_inj q3), cs_rd q3, cs_K q3, cs_f14 q3, k100, k110, r72_61, r72_62, r72_65, r72_68, r72_72, r72_73, r72_76, r72_79, r72_80, r72_81, r72_82, r72_88, r72_91, r72_92, r72_93, r72_96, r72_97, r72_98, r72_101, r72_104, r72_69, r72_85, e21, i1, i2, rb, kb3, e1, n1, nat_succ]
    · have kK : ¬ k = K := fun y => e3 ((hK k (by omega)).mpr y)
      have g2 : gw K (k + 1) G = gw K k G := by
        unfold gw
        by_cases c1 : K < k
        · rw [if_pos c1, if_pos (by omega)]
        · rw [if_neg c1, if_neg (by omega)]
      rw [g2] at ih
      rw [e2] at e1
      rw [← ih, r72_60]
      simp only [ite_not, ite_self, w8_nil, ok01, ite10, rf_rv, rf_ref, rf_cat, rf_lk2, rf_some, rf_none, w_add, w_cons, cr_int, cr_long, cr_ref, cr_null, is_ref, is_null, l2_int, l2_ref, l2_null, l2_none, ent_nil, ent_int, ent_ref, ent_null, ent_rf, ent_long, ok_0, ok_1, af_ret, af_void, List.tail_cons, List.tail_nil, Nat.reduceAdd, Nat.reduceLeDiff, not_false_eq_true, not_true_eq_false, and_self, and_true, true_and, ne_eq, or_true, true_or, or_false, false_or, eq_self, Nat.reduceEqDiff, ↓reduceIte, false_and, and_false, Nat.le_refl, Nat.zero_le, nz_1, nz_2, nz_3, nz_4, nz_5, nz_6, nz_8, nz_10, nz_12, nz_20, nz_30, nz_60, nz_100, mc_B, mc_Z, mc_S, mc_C, mc_K, mc_N, mc_R, mc_I, mc_L, va_Is, va_Ls, va_us, va_iss, u2_ap, sp_isLedge, sp_isLadder, sp_isPerson, sp_isLiving, sp_isLot, sp_isThere, sp_isSpan, cs_f15 q3, cs_B q3, mc_s (cs_inj q3), cs_rd q3, cs_K q3, cs_f14 q3, k100, k110, r72_61, r72_62, r72_65, r72_68, r72_72, r72_73, r72_76, r72_79, r72_80, r72_81, r72_82, r72_88, r72_91, r72_92, r72_93, r72_96, r72_97, r72_98, r72_101, r72_104, r72_69, r72_85, e21, i1, i2, rb, kb3, e1, nat_succ]
end RDV
