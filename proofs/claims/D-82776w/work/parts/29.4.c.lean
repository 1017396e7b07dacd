/-! the component's contracts, 28: sell -/
set_option maxRecDepth 100000
section C28
variable {d : Nat} {D : xp_D}
/-- how many cuts there are in a lot, at most -/
def LV (D : xp_D) (lv : Nat → Nat) : Prop := ∀ i, i < xd_n D 2 → 1 ≤ lv i ∧ ∀ a b, xd_m D i = some (a, b) → lv a + lv b ≤ lv i
def sumf (f : Nat → Nat) : Nat → Nat
  | 0 => 0
  | n + 1 => sumf f n + f n
theorem c_pays {lv : Nat → Nat} (hv : LV D lv) : ∀ (n i : Nat) (s : Int32) (h : xm_H) (F : xp_F), CS h D → HW h D → i < n → i < xd_n D 2 → PV D F → LPw D F → ∃ h', xm_met (d + n + 2) (mp D i) [.ref (xd_A D 4 i), .int s] (xp_c h D F) = some (.inl none, xp_c h' D (xm_u2 (sp_pays n i s F).2 0 70 (F 0 70 + (sp_pays n i s F).1))) ∧ hx (lv i) (4 * lv i) h h' ∧ HW h' D := by
  intro n
  induction n with
  | zero => exact fun i s h F _ _ hn => absurd hn (Nat.not_lt_zero _)
  | succ n ih =>
    intro i s h F q w hin hi hV hL
    have hl := hL i hi
    obtain ⟨v1, v2, v3⟩ := hV
    have two := hv i hi
    cases em : xd_m D i with
    | none =>
      rw [em] at hl
      obtain ⟨nu, e1, hc, hr⟩ := hl
      have ep : mp D i = 221 := by unfold mp; rw [em]
      obtain ⟨h', m, x, w'⟩ := @c221 (d + n + 1) h D F q w v1 v2 v3 i hi em nu hc hr s
      refine ⟨h', ?_, x.mono (by omega) (by omega), w'⟩
      have es : sp_pays (n + 1) i s F = sp_pay F i s := by
        show (if F 50 i = -1 then _ else _) = _
        rw [if_pos e1]
      rw [ep, es]
      exact m
    | some y =>
      obtain ⟨a, b⟩ := y
      rw [em] at hl
      obtain ⟨nu, e1, e2⟩ := hl
      have e1 : F 50 i = Int32.ofNat a := e1
      have e2 : F 51 i = Int32.ofNat b := e2
      have ep : mp D i = 226 := by unfold mp; rw [em]
      obtain ⟨o1, o2, o3, o4, o5, o6⟩ := cs_M q hi em
      have i40 := (cs_n q).2.2.1
      have oi := cs_I q hi
      have os := cs_is q hi
      have oa := cs_I q (show a < xd_n D 2 by omega)
      have oas := cs_is q (show a < xd_n D 2 by omega)
      have ta : (F 50 i).toNatClampNeg = a := by rw [e1, tc_nat (by omega)]
      have tb : (F 51 i).toNatClampNeg = b := by rw [e2, tc_nat (by omega)]
      have ne : ¬ F 50 i = -1 := fun z => by
        rw [e1] at z
        have := congrArg Int32.toInt z
        rw [ti_nat (by omega), show (-1 : Int32).toInt = -1 from rfl] at this
        omega
      generalize eone : (s.toInt64 * (F 44 a).toInt64 / (F 44 i).toInt64).toInt32 = one
      have es : sp_pays (n + 1) i s F = ((sp_pays n a one F).1 + (sp_pays n b (s - one) (sp_pays n a one F).2).1, (sp_pays n b (s - one) (sp_pays n a one F).2).2) := by
        show (if F 50 i = -1 then _ else _) = _
        rw [if_neg ne, ta, tb, eone]
      obtain ⟨h1, m1, x1, w1⟩ := ih a one h F q w (by omega) (by omega) ⟨v1, v2, v3⟩ hL
      have p1 := pays_pp n a one F
      have ag1 : ∀ o k, fwP o k → xm_u2 (sp_pays n a one F).2 0 70 (F 0 70 + (sp_pays n a one F).1) o k = F o k := fun o k p => (fw_t p).trans (fw_pp p1 p)
      have q1 := q.hx w x1
      obtain ⟨h2, m2, x2, w2⟩ := ih b (s - one) h1 _ q1 w1 (by omega) (by omega) (PV.ag ⟨v1, v2, v3⟩ ag1) (hL.ag ag1)
      rw [pays_t] at m2
      have fin : xm_u2 (xm_u2 (sp_pays n b (s - one) (sp_pays n a one F).2).2 0 70 (F 0 70 + (sp_pays n a one F).1)) 0 70 (xm_u2 (sp_pays n a one F).2 0 70 (F 0 70 + (sp_pays n a one F).1) 0 70 + (sp_pays n b (s - one) (sp_pays n a one F).2).1) = xm_u2 (sp_pays n b (s - one) (sp_pays n a one F).2).2 0 70 (F 0 70 + ((sp_pays n a one F).1 + (sp_pays n b (s - one) (sp_pays n a one F).2).1)) := by
        rw [u2_over, u2_ap, if_pos ⟨rfl, rfl⟩, Int32.add_assoc]
      refine ⟨h2, ?_, (x1.tr x2).mono (by have := two.2 a b em; omega) (by have := two.2 a b em; omega), w2⟩
      obtain ⟨b1, b2, b3, b4, b5, b6⟩ := cs_M q1 hi em
      rw [ep, es]
      show _ = some (Sum.inl none, xp_c h2 D (xm_u2 (sp_pays n b (s - one) (sp_pays n a one F).2).2 0 70 (F 0 70 + ((sp_pays n a one F).1 + (sp_pays n b (s - one) (sp_pays n a one F).2).1))))
      unfold xm_met
      rw [show d + (n + 1) + 2 = d + n + 2 + 1 by omega]
      simp only [ite_not, ite_self, w8_nil, ok01, ite10, rf_rv, rf_ref, rf_cat, rf_lk2, rf_some, rf_none, w_add, w_cons, cr_int, cr_long, cr_ref, cr_null, is_ref, is_null, l2_int, l2_ref, l2_null, l2_none, ent_nil, ent_int, ent_ref, ent_null, ent_rf, ent_long, ok_0, ok_1, af_ret, af_void, List.tail_cons, List.tail_nil, Nat.reduceAdd, Nat.reduceLeDiff, not_false_eq_true, not_true_eq_false, and_self, and_true, true_and, ne_eq, or_true, true_or, or_false, false_or, eq_self, Nat.reduceEqDiff, ↓reduceIte, false_and, and_false, Nat.le_refl, Nat.zero_le, nz_1, nz_2, nz_3, nz_4, nz_5, nz_6, nz_8, nz_10, nz_12, nz_20, nz_30, nz_60, nz_100, mc_B, mc_Z, mc_S, mc_C, mc_K, mc_N, mc_R, mc_I, mc_L, va_Is, va_Ls, va_us, va_iss, u2_ap, sp_isLedge, sp_isLadder, sp_isPerson, sp_isLiving, sp_isLot, sp_isThere, sp_isSpan, r226_0, r226_1, r226_2, r226_3, r226_6, r226_9, r226_10, r226_11, r226_12, r226_15, r226_16, r226_17, r226_18, r226_19, r226_20, r226_23, o1, o4, oi, os, oa, oas, nu, eone]
      rw [t226_24 q (show a < xd_n D 2 by omega) (by decide), m1]
      simp only [ite_not, ite_self, w8_nil, ok01, ite10, rf_rv, rf_ref, rf_cat, rf_lk2, rf_some, rf_none, w_add, w_cons, cr_int, cr_long, cr_ref, cr_null, is_ref, is_null, l2_int, l2_ref, l2_null, l2_none, ent_nil, ent_int, ent_ref, ent_null, ent_rf, ent_long, ok_0, ok_1, af_ret, af_void, List.tail_cons, List.tail_nil, Nat.reduceAdd, Nat.reduceLeDiff, not_false_eq_true, not_true_eq_false, and_self, and_true, true_and, ne_eq, or_true, true_or, or_false, false_or, eq_self, Nat.reduceEqDiff, ↓reduceIte, false_and, and_false, Nat.le_refl, Nat.zero_le, nz_1, nz_2, nz_3, nz_4, nz_5, nz_6, nz_8, nz_10, nz_12, nz_20, nz_30, nz_60, nz_100, mc_B, mc_Z, mc_S, mc_C, mc_K, mc_N, mc_R, mc_I, mc_L, va_Is, va_Ls, va_us, va_iss, u2_ap, sp_isLedge, sp_isLadder, sp_isPerson, sp_isLiving, sp_isLot, sp_isThere, sp_isSpan, r226_27, r226_28, r226_31, r226_32, r226_33, b1, b5]
      rw [t226_34 q1 (show b < xd_n D 2 by omega) (by decide), m2]
      simp only [ite_not, ite_self, w8_nil, ok01, ite10, rf_rv, rf_ref, rf_cat, rf_lk2, rf_some, rf_none, w_add, w_cons, cr_int, cr_long, cr_ref, cr_null, is_ref, is_null, l2_int, l2_ref, l2_null, l2_none, ent_nil, ent_int, ent_ref, ent_null, ent_rf, ent_long, ok_0, ok_1, af_ret, af_void, List.tail_cons, List.tail_nil, Nat.reduceAdd, Nat.reduceLeDiff, not_false_eq_true, not_true_eq_false, and_self, and_true, true_and, ne_eq, or_true, true_or, or_false, false_or, eq_self, Nat.reduceEqDiff, ↓reduceIte, false_and, and_false, Nat.le_refl, Nat.zero_le, nz_1, nz_2, nz_3, nz_4, nz_5, nz_6, nz_8, nz_10, nz_12, nz_20, nz_30, nz_60, nz_100, r226_37]
      exact congrArg (fun x => some (Sum.inl none, xp_c h2 D x)) fin
/-- what has been sold so far -/
theorem c58s {lv : Nat → Nat} (hv : LV D lv) {F : xp_F} (hl : rg (F 0 68) 40) (hC : F 0 68 = Int32.ofNat (xd_n D 2)) (hV : PV D F) (hL : LPw D F) (hs : ∀ k, k < sp_salesN F → nr (sp_sales F 62 k) (xd_n D 3)) (k : Nat) (h : xm_H) (G : xp_F) (t : List (Option Value)) (q : CS h D) (w : HW h D) (hk : k < sp_salesN F) (hG : se (sp_sales F) G) :
    ∃ (h' : xm_H) (t' : List (Option Value)), xm_run (d + 43) 58 6 (some (.ref (xd_X D)) :: some (.int (Int32.ofNat k)) :: t) [] (xp_c h D G) = xm_run (d + 43) 58 6 (some (.ref (xd_X D)) :: some (.int (Int32.ofNat (k + 1))) :: t') [] (xp_c h' D (sp_sell1 k G)) ∧ se (sp_sales F) (sp_sell1 k G) ∧ hx (lv (sp_sales F 60 k).toNatClampNeg) (4 * lv (sp_sales F 60 k).toNatClampNeg) h h' ∧ HW h' D := by
  obtain ⟨n1, n2, n3⟩ := @sales_n F hl
  have c0 := lt_nat hk (by omega)
  obtain ⟨i1, e1⟩ := in_nat (show k < 8 by omega) (by decide)
  have g0 := hG 0 92 (by decide) (by decide) (by decide) (by decide) (by decide)
  rw [n2] at g0
  have g1 := hG 62 k (by decide) (by decide) (by decide) (by decide) (fun z => absurd z.1 (by decide))
  have g2 := hG 60 k (by decide) (by decide) (by decide) (by decide) (fun z => absurd z.1 (by decide))
  have n4 := n3 k hk
  rw [← g2] at n4
  have hv' := hs k hk
  rw [← g1] at hv'
  have b4 := (cs_n q).2.2.2
  have i40 := (cs_n q).2.2.1
  by_cases c1 : G 62 k = -1
  · refine ⟨h, t, ?_, sell1_se hG, hx.rf, w⟩
    rw [r58_6]
    unfold sp_sell1
    rw [if_pos c1]
    simp only [ite_not, ite_self, w8_nil, ok01, ite10, rf_rv, rf_ref, rf_cat, rf_lk2, rf_some, rf_none, w_add, w_cons, cr_int, cr_long, cr_ref, cr_null, is_ref, is_null, l2_int, l2_ref, l2_null, l2_none, ent_nil, ent_int, ent_ref, ent_null, ent_rf, ent_long, ok_0, ok_1, af_ret, af_void, List.tail_cons, List.tail_nil, Nat.reduceAdd, Nat.reduceLeDiff, not_false_eq_true, not_true_eq_false, and_self, and_true, true_and, ne_eq, or_true, true_or, or_false, false_or, eq_self, Nat.reduceEqDiff, ↓reduceIte, false_and, and_false, Nat.le_refl, Nat.zero_le, nz_1, nz_2, nz_3, nz_4, nz_5, nz_6, nz_8, nz_10, nz_12, nz_20, nz_30, nz_60, nz_100, mc_B, mc_Z, mc_S, mc_C, mc_K, mc_N, mc_R, mc_I, mc_L, va_Is, va_Ls, va_us, va_iss, u2_ap, sp_isLedge, sp_isLadder, sp_isPerson, sp_isLiving, sp_isLot, sp_isThere, sp_isSpan, cs_K q, cs_B q, mc_s (cs_inj q), cs_f43 q, cs_f41 q, r58_7, r58_8, r58_14, r58_15, r58_18, r58_19, r58_20, r58_24, r58_11, r58_21, r58_90, r58_93, g0, c0, i1, e1, c1, nat_succ]
  obtain ⟨iv, lv⟩ := nr_lt (hv'.resolve_left c1) b4
  obtain ⟨n5, n6⟩ := n4
  have n7 := in_iff.mp n5
  have n8 := Int32.lt_iff_toInt_lt.mp n6
  rw [hC, ti_nat (by omega)] at n8
  have n9 : (G 60 k).toNatClampNeg < xd_n D 2 := by
    show (G 60 k).toInt.toNat < _
    omega
  have o1 := cs_I q n9
  have o2 := cs_is q n9
  have o3 := cs_Y q lv
  have ag : ∀ o k', fwP o k' → (xm_u2 (xm_u2 G 54 (G 60 k).toNatClampNeg 0) 59 (G 62 k).toNatClampNeg (G 59 (G 62 k).toNatClampNeg - G 44 (G 60 k).toNatClampNeg)) o k' = F o k' := fun o k' p => by
    rw [(hG.tr (se.i.tr se.t)).fw p, (sales_sq hl).fw p]
  obtain ⟨h', m1, x, w'⟩ := c_pays (d := d) hv 40 (G 60 k).toNatClampNeg (G 58 (G 62 k).toNatClampNeg * G 44 (G 60 k).toNatClampNeg) h _ q w (by omega) n9 (hV.ag ag) (hL.ag ag)
  have et : xm_u2 (xm_u2 G 54 (G 60 k).toNatClampNeg 0) 59 (G 62 k).toNatClampNeg (G 59 (G 62 k).toNatClampNeg - G 44 (G 60 k).toNatClampNeg) 0 70 = G 0 70 := by
    rw [u2_ap, if_neg (by omega), u2_ap, if_neg (by omega)]
  rw [et] at m1
  have mc : G 44 (G 60 k).toNatClampNeg * G 58 (G 62 k).toNatClampNeg = G 58 (G 62 k).toNatClampNeg * G 44 (G 60 k).toNatClampNeg := Int32.mul_comm _ _
  refine ⟨h', some (.ref (xd_A D 4 (G 60 k).toNatClampNeg)) :: t.tail, ?_, sell1_se hG, by rw [← g2]; exact x, w'⟩
  rw [r58_6]
  unfold sp_sell1
  rw [if_neg c1]
  simp only [ite_not, ite_self, w8_nil, ok01, ite10, rf_rv, rf_ref, rf_cat, rf_lk2, rf_some, rf_none, w_add, w_cons, cr_int, cr_long, cr_ref, cr_null, is_ref, is_null, l2_int, l2_ref, l2_null, l2_none, ent_nil, ent_int, ent_ref, ent_null, ent_rf, ent_long, ok_0, ok_1, af_ret, af_void, List.tail_cons, List.tail_nil, Nat.reduceAdd, Nat.reduceLeDiff, not_false_eq_true, not_true_eq_false, and_self, and_true, true_and, ne_eq, or_true, true_or, or_false, false_or, eq_self, Nat.reduceEqDiff, ↓reduceIte, false_and, and_false, Nat.le_refl, Nat.zero_le, nz_1, nz_2, nz_3, nz_4, nz_5, nz_6, nz_8, nz_10, nz_12, nz_20, nz_30, nz_60, nz_100, mc_B, mc_Z, mc_S, mc_C, mc_K, mc_N, mc_R, mc_I, mc_L, va_Is, va_Ls, va_us, va_iss, u2_ap, sp_isLedge, sp_isLadder, sp_isPerson, sp_isLiving, sp_isLot, sp_isThere, sp_isSpan, cs_K q, cs_B q, mc_s (cs_inj q), cs_f43 q, cs_f41 q, cs_f36 q, cs_f39 q, cs_f38 q, r58_7, r58_8, r58_14, r58_15, r58_18, r58_19, r58_20, r58_24, r58_27, r58_28, r58_31, r58_32, r58_35, r58_36, r58_37, r58_38, r58_39, r58_40, r58_41, r58_44, r58_45, r58_48, r58_49, r58_52, r58_53, r58_54, r58_55, r58_56, r58_59, r58_60, r58_63, r58_64, r58_67, r58_68, r58_69, r58_72, r58_73, r58_76, r58_77, r58_80, r58_81, r58_82, r58_83, r58_86, r58_11, r58_21, g0, c0, i1, e1, c1, n5, iv, o1, o2, o3, mc]
  rw [show d + 43 = d + 42 + 1 from rfl, t58_87 q n9 (by decide), m1]
  simp only [ite_not, ite_self, w8_nil, ok01, ite10, rf_rv, rf_ref, rf_cat, rf_lk2, rf_some, rf_none, w_add, w_cons, cr_int, cr_long, cr_ref, cr_null, is_ref, is_null, l2_int, l2_ref, l2_null, l2_none, ent_nil, ent_int, ent_ref, ent_null, ent_rf, ent_long, ok_0, ok_1, af_ret, af_void, List.tail_cons, List.tail_nil, Nat.reduceAdd, Nat.reduceLeDiff, not_false_eq_true, not_true_eq_false, and_self, and_true, true_and, ne_eq, or_true, true_or, or_false, false_or, eq_self, Nat.reduceEqDiff, ↓reduceIte, false_and, and_false, Nat.le_refl, Nat.zero_le, nz_1, nz_2, nz_3, nz_4, nz_5, nz_6, nz_8, nz_10, nz_12, nz_20, nz_30, nz_60, nz_100, r58_90, r58_93, nat_succ]
theorem c58 {lv : Nat → Nat} (hv : LV D lv) {h : xm_H} {F : xp_F} (q : CS h D) (w : HW h D) (v : xd_vis D) (hn : CN D F) (hw : WS D F) (hV : PV D F) (hL : LPw D F) (hs : ∀ k, k < sp_salesN F → nr (sp_sales F 62 k) (xd_n D 3)) : ∃ h', xm_met (d + 43) 58 [.ref (xd_X D)] (xp_c h D F) = some (.inl (some (.int (sp_sales F 0 93))), xp_c h' D (sp_sell F)) ∧ hx (sumf (fun k => lv (sp_sales F 60 k).toNatClampNeg) (sp_salesN F)) (4 * sumf (fun k => lv (sp_sales F 60 k).toNatClampNeg) (sp_salesN F)) h h' ∧ HW h' D := by
  have hl := hn.i q
  have e1 := @c56 (d + 32) h D F q v hn hw
  rw [show d + 32 + 10 = d + 42 from rfl] at e1
  obtain ⟨n1, n2, n3⟩ := @sales_n F hl
  have go : ∀ n, n ≤ sp_salesN F → ∃ (h2 : xm_H) (t2 : List (Option Value)), xm_run (d + 43) 58 6 (some (.ref (xd_X D)) :: some (.int (Int32.ofNat 0)) :: []) [] (xp_c h D (sp_sales F)) = xm_run (d + 43) 58 6 (some (.ref (xd_X D)) :: some (.int (Int32.ofNat n)) :: t2) [] (xp_c h2 D (xp_up sp_sell1 (sp_sales F) n)) ∧ se (sp_sales F) (xp_up sp_sell1 (sp_sales F) n) ∧ hx (sumf (fun k => lv (sp_sales F 60 k).toNatClampNeg) n) (4 * sumf (fun k => lv (sp_sales F 60 k).toNatClampNeg) n) h h2 ∧ HW h2 D ∧ CS h2 D := by
    intro n
    induction n with
    | zero => exact fun _ => ⟨h, [], rfl, se.rf, hx.rf, w, q⟩
    | succ n ih =>
      intro hn1
      obtain ⟨h1, t1, a1, a2, a3, a4, a5⟩ := ih (by omega)
      obtain ⟨h2, t2, b1, b2, b3, b4⟩ := c58s (d := d) hv hl hn.2.2.1 hV hL hs n h1 _ t1 a5 a4 (by omega) a2
      exact ⟨h2, t2, a1.trans b1, b2, (a3.tr b3).mono (Nat.le_refl _) (by have : sumf (fun k => lv (sp_sales F 60 k).toNatClampNeg) (n + 1) = sumf (fun k => lv (sp_sales F 60 k).toNatClampNeg) n + lv (sp_sales F 60 n).toNatClampNeg := rfl; omega), b4, a5.hx a4 b3⟩
  obtain ⟨h2, t2, e2, i2, x2, w2, q2⟩ := go (sp_salesN F) (Nat.le_refl _)
  have eu : xp_up sp_sell1 (sp_sales F) (sp_salesN F) = sp_sell F := by
    have := it_eq_up (f := sp_sell1) (s := sp_sales F) (sp_salesN F) 0
    rw [Nat.zero_add] at this
    exact this.symm
  rw [show Int32.ofNat 0 = (0 : Int32) from rfl, eu] at e2
  rw [eu] at i2
  have g0 := i2 0 92 (by decide) (by decide) (by decide) (by decide) (by decide)
  rw [n2] at g0
  have g1 := i2 0 93 (by decide) (by decide) (by decide) (by decide) (by decide)
  have cz : Int32.ofNat (sp_salesN F) ≤ Int32.ofNat (sp_salesN F) := Int32.le_refl _
  refine ⟨h2, ?_, x2, w2⟩
  unfold xm_met
  rw [show d + 43 = d + 42 + 1 from rfl] at e2 ⊢
  simp only [ite_not, ite_self, w8_nil, ok01, ite10, rf_rv, rf_ref, rf_cat, rf_lk2, rf_some, rf_none, w_add, w_cons, cr_int, cr_long, cr_ref, cr_null, is_ref, is_null, l2_int, l2_ref, l2_null, l2_none, ent_nil, ent_int, ent_ref, ent_null, ent_rf, ent_long, ok_0, ok_1, af_ret, af_void, List.tail_cons, List.tail_nil, Nat.reduceAdd, Nat.reduceLeDiff, not_false_eq_true, not_true_eq_false, and_self, and_true, true_and, ne_eq, or_true, true_or, or_false, false_or, eq_self, Nat.reduceEqDiff, ↓reduceIte, false_and, and_false, Nat.le_refl, Nat.zero_le, nz_1, nz_2, nz_3, nz_4, nz_5, nz_6, nz_8, nz_10, nz_12, nz_20, nz_30, nz_60, nz_100, mc_B, mc_Z, mc_S, mc_C, mc_K, mc_N, mc_R, mc_I, mc_L, va_Is, va_Ls, va_us, va_iss, u2_ap, sp_isLedge, sp_isLadder, sp_isPerson, sp_isLiving, sp_isLot, sp_isThere, sp_isSpan, cs_K q, cs_B q, mc_s (cs_inj q), r58_0, r58_1, r58_4, r58_5, e1]
  rw [e2, r58_6]
  simp only [ite_not, ite_self, w8_nil, ok01, ite10, rf_rv, rf_ref, rf_cat, rf_lk2, rf_some, rf_none, w_add, w_cons, cr_int, cr_long, cr_ref, cr_null, is_ref, is_null, l2_int, l2_ref, l2_null, l2_none, ent_nil, ent_int, ent_ref, ent_null, ent_rf, ent_long, ok_0, ok_1, af_ret, af_void, List.tail_cons, List.tail_nil, Nat.reduceAdd, Nat.reduceLeDiff, not_false_eq_true, not_true_eq_false, and_self, and_true, true_and, ne_eq, or_true, true_or, or_false, false_or, eq_self, Nat.reduceEqDiff, ↓reduceIte, false_and, and_false, Nat.le_refl, Nat.zero_le, nz_1, nz_2, nz_3, nz_4, nz_5, nz_6, nz_8, nz_10, nz_12, nz_20, nz_30, nz_60, nz_100, mc_B, mc_Z, mc_S, mc_C, mc_K, mc_N, mc_R, mc_I, mc_L, va_Is, va_Ls, va_us, va_iss, u2_ap, sp_isLedge, sp_isLadder, sp_isPerson, sp_isLiving, sp_isLot, sp_isThere, sp_isSpan, cs_K q2, cs_f43 q2, cs_f44 q2, r58_7, r58_8, r58_11, r58_96, r58_97, r58_100, g0, g1, cz]
end C28
