/-! a mixture comes -/
set_option maxRecDepth 100000
theorem it52_ap {c : Nat} {o k : Nat} : ∀ (m j : Nat) (G : xp_F), xp_it (fun l G => xm_u2 G 52 (c + l) 0) j m G o k = if o = 52 ∧ c + j ≤ k ∧ k < c + j + m then 0 else G o k
  | 0, j, G => by
    rw [if_neg (by omega)]
    rfl
  | m + 1, j, G => by
    show xp_it (fun l G => xm_u2 G 52 (c + l) 0) (j + 1) m (xm_u2 G 52 (c + j) 0) o k = _
    rw [it52_ap m (j + 1), u2_ap]
    by_cases c1 : o = 52 ∧ c + (j + 1) ≤ k ∧ k < c + (j + 1) + m
    · rw [if_pos c1, if_pos (by omega)]
    · rw [if_neg c1]
      by_cases c2 : o = 52 ∧ k = c + j
      · rw [if_pos c2, if_pos (by omega)]
      · rw [if_neg c2, if_neg (by omega)]
theorem comes_ap {F : xp_F} {u lo hi : Int32} {o k : Nat} : sp_comes F u lo hi o k = if o = 52 ∧ 12 * (F 0 68).toNatClampNeg ≤ k ∧ k < 12 * (F 0 68).toNatClampNeg + 12 then 0 else sp_comes0 F u lo hi o k := by
  unfold sp_comes
  rw [it52_ap]
  rfl
theorem clamp90 {x : Int32} (h : rg x 90) : mx 0 (mn 90 x) = x ∧ (if 0 ≤ x then x else 0) = x ∧ (if x ≤ 90 then x else 90) = x := by
  have h1 : (0 : Int32) ≤ x := Int32.le_iff_toInt_le.mpr (by rw [show (0 : Int32).toInt = 0 from rfl]; exact h.1)
  have h2 : x ≤ 90 := Int32.le_iff_toInt_le.mpr (by rw [show (90 : Int32).toInt = 90 from rfl]; exact h.2)
  refine ⟨?_, if_pos h1, if_pos h2⟩
  refine i_eq ?_
  rw [mx_ti, mn_ti, show (0 : Int32).toInt = 0 from rfl, show (90 : Int32).toInt = 90 from rfl]
  have := h.1
  have := h.2
  omega
theorem rg_mn {a b : Int32} {N : Nat} (ha : rg a N) (hb : rg b N) : rg (mn a b) N := by
  unfold mn
  split
  · exact hb
  · exact ha
theorem rg_mx {a b : Int32} {N : Nat} (ha : rg a N) (hb : rg b N) : rg (mx a b) N := by
  unfold mx
  split
  · exact hb
  · exact ha
/-- spans of lots -/
def LBn (n : Nat) (F : xp_F) : Prop := ∀ i, i < n → rg (F 45 i) 90 ∧ rg (F 46 i) 90
section MIX
variable {d : Nat} {h : xm_H} {D : xp_D} {F : xp_F}
abbrev nH53a (h : xm_H) (X la lb : Nat) (u dt lo hi : Int32) : xm_H := xm_sR (xm_sR (xm_sI (xm_sI (xm_sI (xm_sI (xm_sI (xm_sR (xm_sR (xm_nw h 21 0 9) (xm_Z h) 8 (some X)) (xm_Z h) 5 (some X)) (xm_Z h) 4 1) (xm_Z h) 0 u) (xm_Z h) 1 dt) (xm_Z h) 2 lo) (xm_Z h) 3 hi) (xm_Z h) 6 (some la)) (xm_Z h) 7 (some lb)
abbrev nH53 (h : xm_H) (a n X la lb : Nat) (u dt lo hi : Int32) : xm_H := xm_sR (nH53a h X la lb u dt lo hi) a n (some (xm_Z h))
abbrev nE53 (z n : Nat) (a p : Nat) : Option (Nat × Nat) := if a = z then enm cs_lot n p else none
theorem e53_mem {z n a p : Nat} {x : Nat × Nat} (e : nE53 z n a p = some x) : a = z ∧ x.2 = n ∧ (p, x.1) ∈ cs_lot := by
  unfold nE53 at e
  by_cases c : a = z
  · rw [if_pos c] at e
    exact ⟨c, enm_mem e⟩
  · rw [if_neg c] at e
    cases e
theorem lot_r : ∀ y ∈ cs_lot, (44 ≤ y.2 ∧ y.2 ≤ 46) ∨ y.2 = 49 ∨ y.2 = 54 := by decide
theorem h53_hx {X la lb : Nat} {u dt lo hi : Int32} : hx 1 9 h (nH53a h X la lb u dt lo hi) :=
  (((((((((hx_nw (kd := 21) (n := 0) (s := 9)).sR (Nat.le_refl _)).sR (Nat.le_refl _)).sI (Nat.le_refl _)).sI (Nat.le_refl _)).sI (Nat.le_refl _)).sI (Nat.le_refl _)).sI (Nat.le_refl _)).sR (Nat.le_refl _)).sR (Nat.le_refl _)
theorem c53g (q : CS h D) (w : HW h D) (v : VN D) (hc : ¬ xd_n D 2 = 40) {a b : Nat} (ha : a < xd_n D 2) (hb : b < xd_n D 2) {u dt lo hi : Int32} : GX 1 9 h D (nH53 h (xd_A D 0 36) (xd_n D 2) (xd_X D) (xd_A D 4 a) (xd_A D 4 b) u dt lo hi) (nDl D (xm_Z h) (nE53 (xm_Z h) (xd_n D 2)) (xm_Z h) 0 (some (a, b))) := by
  obtain ⟨r36, k36, n36, b36⟩ := cs_f36 q
  have z36 := w.lt k36 (by decide)
  have x0 := (h53_hx (h := h) (X := xd_X D) (la := xd_A D 4 a) (lb := xd_A D 4 b) (u := u) (dt := dt) (lo := lo) (hi := hi)).gx.sR (a := xd_A D 0 36) (p := xd_n D 2) (v := some (xm_Z h)) (Or.inr (Or.inr (Or.inr (Or.inl k36))))
  have Kz : xm_K (nH53 h (xd_A D 0 36) (xd_n D 2) (xd_X D) (xd_A D 4 a) (xd_A D 4 b) u dt lo hi) (xm_Z h) = 21 := by
    show xm_K (xm_nw h 21 0 9) (xm_Z h) = 21
    rw [h_K_nw, if_pos rfl]
  have Rz : ∀ p, xm_R (nH53 h (xd_A D 0 36) (xd_n D 2) (xd_X D) (xd_A D 4 a) (xd_A D 4 b) u dt lo hi) (xm_Z h) p = if p = 7 then some (xd_A D 4 b) else if p = 6 then some (xd_A D 4 a) else if p = 5 then some (xd_X D) else if p = 8 then some (xd_X D) else none := by
    intro p
    rw [h_R_sR, if_neg (by omega), h_R_sR, h_R_sR]
    show (if _ then _ else if _ then _ else xm_R (xm_sR (xm_sR (xm_nw h 21 0 9) (xm_Z h) 8 (some (xd_X D))) (xm_Z h) 5 (some (xd_X D))) (xm_Z h) p) = _
    rw [h_R_sR, h_R_sR, h_R_nw, if_pos rfl]
    simp only [true_and]
  refine lot_GX q w v hc x0 (fun a p b r y h1 h2 => ?_) (fun a p y h1 => ?_) (fun a ha => ?_) (fun a p ha => ?_) (fun x p hx hn => ?_) ?_
  · have a1 := (e53_mem h1).1
    have b1 := (e53_mem h2).1
    unfold nE53 at h1 h2
    rw [if_pos a1] at h1
    rw [if_pos b1] at h2
    exact ⟨a1.trans b1.symm, enm_inj (by decide) h1 h2⟩
  · obtain ⟨a1, a2, a3⟩ := e53_mem h1
    have := lot_r _ a3
    unfold lotn
    omega
  · have ha : xm_Z h + 1 ≤ a := ha
    show xm_K (xm_nw h 21 0 9) a = 0
    rw [h_K_nw, if_neg (by omega)]
    exact w.2.2 a (by omega)
  · have ha : xm_Z h + 1 ≤ a := ha
    exact if_neg (by omega)
  · rw [h_R_sR, if_neg hn, h_R_sR, if_neg (by omega), h_R_sR, if_neg (by omega)]
    show xm_R (xm_sR (xm_sR (xm_nw h 21 0 9) (xm_Z h) 8 (some (xd_X D))) (xm_Z h) 5 (some (xd_X D))) x p = _
    rw [h_R_sR, if_neg (by omega), h_R_sR, if_neg (by omega), h_R_nw, if_neg (by omega)]
  · have A0 : xd_A (nDl D (xm_Z h) (nE53 (xm_Z h) (xd_n D 2)) (xm_Z h) 0 (some (a, b))) 0 36 = xd_A D 0 36 := by
      show (if 0 = 4 ∧ 36 = xd_n D 2 then xm_Z h else if 0 = 5 ∧ 36 = xd_n D 2 then 0 else xd_A D 0 36) = _
      rw [if_neg (by omega), if_neg (by omega)]
    have A4 : xd_A (nDl D (xm_Z h) (nE53 (xm_Z h) (xd_n D 2)) (xm_Z h) 0 (some (a, b))) 4 (xd_n D 2) = xm_Z h := if_pos ⟨rfl, rfl⟩
    have A4i : ∀ i, i < xd_n D 2 → xd_A (nDl D (xm_Z h) (nE53 (xm_Z h) (xd_n D 2)) (xm_Z h) 0 (some (a, b))) 4 i = xd_A D 4 i := fun i hi => by
      show (if 4 = 4 ∧ i = xd_n D 2 then xm_Z h else if 4 = 5 ∧ i = xd_n D 2 then 0 else xd_A D 4 i) = _
      rw [if_neg (by omega), if_neg (by omega)]
    have em : xd_m (nDl D (xm_Z h) (nE53 (xm_Z h) (xd_n D 2)) (xm_Z h) 0 (some (a, b))) (xd_n D 2) = some (a, b) := if_pos rfl
    unfold newLot
    rw [A0, A4, em, Rz]
    refine ⟨?_, rfl, ⟨Kz, w.1, fun y hy => ?_⟩, ha, hb, ?_, ?_, ?_⟩
    · rw [h_R_sR, if_pos ⟨rfl, rfl⟩]
    · rw [ex_E, if_neg (Nat.lt_irrefl _)]
      show nE53 _ _ _ _ = _
      unfold nE53
      rw [if_pos rfl]
      exact enm_get (by decide) y hy
    · rw [A4i a ha, Rz]
      rfl
    · rw [A4i b hb, Rz]
      rfl
    · rw [Rz]
      rfl
theorem i_as {x : Int32} : x + 1 - 1 = x := by rw [Int32.sub_eq_add_neg, Int32.add_assoc]; simp
/-- the model's ints when a mixture comes -/
theorem mix_ap {a b : Int32} (c : sp_isThere F a ∧ sp_isThere F b ∧ ¬ a = b ∧ ¬ F 0 68 = 40) {n : Nat} (hn : (F 0 68).toNatClampNeg = n) (ha : a.toNatClampNeg < n) (hb : b.toNatClampNeg < n) (hl : LBn n F) {o k : Nat} (hm : ¬ mnm o k) (h47 : ¬ o = 47 ∧ ¬ o = 48) : (sp_mix F a b).2 o k = if o = 52 ∧ 12 * n ≤ k ∧ k < 12 * n + 12 then 0 else if o = 54 ∧ (k = b.toNatClampNeg ∨ k = a.toNatClampNeg) then 0 else if k = n ∧ o = 44 then F 44 a.toNatClampNeg + F 44 b.toNatClampNeg else if k = n ∧ o = 45 then mn (F 45 a.toNatClampNeg) (F 45 b.toNatClampNeg) else if k = n ∧ o = 46 then mx (F 46 a.toNatClampNeg) (F 46 b.toNatClampNeg) else if k = n ∧ o = 49 then F 0 0 else if k = n ∧ o = 54 then 1 else if o = 0 ∧ k = 68 then F 0 68 + 1 else F o k := by
  have l1 := (clamp90 (rg_mn (hl _ ha).1 (hl _ hb).1)).2.1
  have l2 := (clamp90 (rg_mx (hl _ ha).2 (hl _ hb).2)).2.2
  have h50 : ¬ o = 50 ∧ ¬ o = 51 ∧ ¬ o = 53 := by unfold mnm at hm; omega
  unfold sp_mix
  rw [if_pos c]
  simp only [u2_ap, h50.1, h50.2.1, h50.2.2, h47.1, h47.2, false_and, ↓reduceIte]
  rw [comes_ap, hn]
  unfold sp_comes0
  rw [l1, l2, hn]
  simp only [u2_ap]
  by_cases d1 : o = 52 ∧ 12 * n ≤ k ∧ k < 12 * n + 12
  · rw [if_pos d1, if_pos d1, if_neg (by omega), if_neg (by omega)]
  · rw [if_neg d1, if_neg d1]
    by_cases d2 : o = 54 ∧ k = b.toNatClampNeg
    · rw [if_pos d2, if_pos ⟨d2.1, Or.inl d2.2⟩]
    · rw [if_neg d2]
      by_cases d3 : o = 54 ∧ k = a.toNatClampNeg
      · rw [if_pos d3, if_pos ⟨d3.1, Or.inr d3.2⟩]
      · rw [if_neg d3, if_neg (show ¬ (o = 54 ∧ (k = b.toNatClampNeg ∨ k = a.toNatClampNeg)) by omega)]
        by_cases e1 : k = n
        · simp only [e1, true_and, and_true]
          by_cases f1 : o = 54
          · rw [f1]; simp only [Nat.reduceEqDiff, false_and, ↓reduceIte]
          · by_cases f2 : o = 49
            · rw [f2]; simp only [Nat.reduceEqDiff, false_and, ↓reduceIte]
            · by_cases f3 : o = 46
              · rw [f3]; simp only [Nat.reduceEqDiff, false_and, ↓reduceIte]
              · by_cases f4 : o = 45
                · rw [f4]; simp only [Nat.reduceEqDiff, false_and, ↓reduceIte]
                · by_cases f5 : o = 44
                  · rw [f5]; simp only [Nat.reduceEqDiff, false_and, ↓reduceIte]
                  · rw [if_neg f1, if_neg f2, if_neg f3, if_neg f4, if_neg f5, if_neg f5, if_neg f4, if_neg f3, if_neg f2, if_neg f1]
        · simp only [e1, false_and, and_false, ↓reduceIte]
theorem c53 (q : CS h D) (w : HW h D) (v : VN D) (hn : CN D F) (hl : LBn (xd_n D 2) F) {a b : Int32} : ∃ h' D', xm_met (d + 4) 53 [.ref (xd_X D), .int a, .int b] (xp_c h D F) = some (.inl (some (.int (sp_mix F a b).1)), xp_c h' D' (sp_mix F a b).2) ∧ GX 1 9 h D h' D' ∧ CN D' (sp_mix F a b).2 ∧ (sp_mix F a b = (-1, F) ∧ D' = D ∨ (sp_isThere F a ∧ sp_isThere F b ∧ ¬ a = b ∧ ¬ F 0 68 = 40) ∧ xd_n D' 2 = xd_n D 2 + 1 ∧ (∀ j, ¬ j = 2 → xd_n D' j = xd_n D j) ∧ ∀ i, xd_m D' i = if i = xd_n D 2 then some (a.toNatClampNeg, b.toNatClampNeg) else xd_m D i) := by
  have n40 := (cs_n q).2.2.1
  have hp := hn.i q
  have hnp := hn.2.2.1
  by_cases c : sp_isThere F a ∧ sp_isThere F b ∧ ¬ a = b ∧ ¬ F 0 68 = 40
  case neg =>
    have e1 : sp_mix F a b = (-1, F) := if_neg c
    refine ⟨h, D, ?_, (GX.rf q w v).mono (by decide) (by decide), by rw [e1]; exact hn, Or.inl ⟨e1, rfl⟩⟩
    rw [e1]
    unfold xm_met
    by_cases c1 : sp_isThere F a
    case neg => simp only [ite_not, ite_self, w8_nil, ok01, ite10, rf_rv, rf_ref, rf_cat, rf_lk2, rf_some, rf_none, w_add, w_cons, cr_int, cr_long, cr_ref, cr_null, is_ref, is_null, l2_int, l2_ref, l2_null, l2_none, ent_nil, ent_int, ent_ref, ent_null, ent_rf, ent_long, ok_0, ok_1, af_ret, af_void, List.tail_cons, List.tail_nil, Nat.reduceAdd, Nat.reduceLeDiff, not_false_eq_true, not_true_eq_false, and_self, and_true, true_and, ne_eq, or_true, true_or, or_false, false_or, eq_self, Nat.reduceEqDiff, ↓reduceIte, false_and, and_false, Nat.le_refl, Nat.zero_le, nz_1, nz_2, nz_3, nz_4, nz_5, nz_6, nz_8, nz_10, nz_12, nz_20, nz_30, nz_60, nz_100, mc_B, mc_Z, mc_S, mc_C, mc_K, mc_N, mc_R, mc_I, mc_L, va_Is, va_Ls, va_us, va_iss, u2_ap, sp_isLedge, sp_isLadder, sp_isPerson, sp_isLiving, sp_isLot, sp_isThere, sp_isSpan, cs_K q, cs_B q, mc_s (cs_inj q), cs_f37 q, cs_f36 q, cs_f5 q, r53_0, r53_1, r53_2, r53_8, r53_9, r53_10, r53_16, r53_17, r53_21, r53_22, r53_25, r53_30, r53_31, r53_5, r53_13, r53_18, r53_27, c52 q hn, c1]
    by_cases c22 : sp_isThere F b
    case neg => simp only [ite_not, ite_self, w8_nil, ok01, ite10, rf_rv, rf_ref, rf_cat, rf_lk2, rf_some, rf_none, w_add, w_cons, cr_int, cr_long, cr_ref, cr_null, is_ref, is_null, l2_int, l2_ref, l2_null, l2_none, ent_nil, ent_int, ent_ref, ent_null, ent_rf, ent_long, ok_0, ok_1, af_ret, af_void, List.tail_cons, List.tail_nil, Nat.reduceAdd, Nat.reduceLeDiff, not_false_eq_true, not_true_eq_false, and_self, and_true, true_and, ne_eq, or_true, true_or, or_false, false_or, eq_self, Nat.reduceEqDiff, ↓reduceIte, false_and, and_false, Nat.le_refl, Nat.zero_le, nz_1, nz_2, nz_3, nz_4, nz_5, nz_6, nz_8, nz_10, nz_12, nz_20, nz_30, nz_60, nz_100, mc_B, mc_Z, mc_S, mc_C, mc_K, mc_N, mc_R, mc_I, mc_L, va_Is, va_Ls, va_us, va_iss, u2_ap, sp_isLedge, sp_isLadder, sp_isPerson, sp_isLiving, sp_isLot, sp_isThere, sp_isSpan, cs_K q, cs_B q, mc_s (cs_inj q), cs_f37 q, cs_f36 q, cs_f5 q, r53_0, r53_1, r53_2, r53_8, r53_9, r53_10, r53_16, r53_17, r53_21, r53_22, r53_25, r53_30, r53_31, r53_5, r53_13, r53_18, r53_27, c52 q hn, c1, c22]
    by_cases c3 : a = b
    · simp only [ite_not, ite_self, w8_nil, ok01, ite10, rf_rv, rf_ref, rf_cat, rf_lk2, rf_some, rf_none, w_add, w_cons, cr_int, cr_long, cr_ref, cr_null, is_ref, is_null, l2_int, l2_ref, l2_null, l2_none, ent_nil, ent_int, ent_ref, ent_null, ent_rf, ent_long, ok_0, ok_1, af_ret, af_void, List.tail_cons, List.tail_nil, Nat.reduceAdd, Nat.reduceLeDiff, not_false_eq_true, not_true_eq_false, and_self, and_true, true_and, ne_eq, or_true, true_or, or_false, false_or, eq_self, Nat.reduceEqDiff, ↓reduceIte, false_and, and_false, Nat.le_refl, Nat.zero_le, nz_1, nz_2, nz_3, nz_4, nz_5, nz_6, nz_8, nz_10, nz_12, nz_20, nz_30, nz_60, nz_100, mc_B, mc_Z, mc_S, mc_C, mc_K, mc_N, mc_R, mc_I, mc_L, va_Is, va_Ls, va_us, va_iss, u2_ap, sp_isLedge, sp_isLadder, sp_isPerson, sp_isLiving, sp_isLot, sp_isThere, sp_isSpan, cs_K q, cs_B q, mc_s (cs_inj q), cs_f37 q, cs_f36 q, cs_f5 q, r53_0, r53_1, r53_2, r53_8, r53_9, r53_10, r53_16, r53_17, r53_21, r53_22, r53_25, r53_30, r53_31, r53_5, r53_13, r53_18, r53_27, c52 q hn, c1, c22, c3]
    have c5 : F 0 68 = 40 := Classical.not_not.mp fun z => c ⟨c1, c22, c3, z⟩
    simp only [ite_not, ite_self, w8_nil, ok01, ite10, rf_rv, rf_ref, rf_cat, rf_lk2, rf_some, rf_none, w_add, w_cons, cr_int, cr_long, cr_ref, cr_null, is_ref, is_null, l2_int, l2_ref, l2_null, l2_none, ent_nil, ent_int, ent_ref, ent_null, ent_rf, ent_long, ok_0, ok_1, af_ret, af_void, List.tail_cons, List.tail_nil, Nat.reduceAdd, Nat.reduceLeDiff, not_false_eq_true, not_true_eq_false, and_self, and_true, true_and, ne_eq, or_true, true_or, or_false, false_or, eq_self, Nat.reduceEqDiff, ↓reduceIte, false_and, and_false, Nat.le_refl, Nat.zero_le, nz_1, nz_2, nz_3, nz_4, nz_5, nz_6, nz_8, nz_10, nz_12, nz_20, nz_30, nz_60, nz_100, mc_B, mc_Z, mc_S, mc_C, mc_K, mc_N, mc_R, mc_I, mc_L, va_Is, va_Ls, va_us, va_iss, u2_ap, sp_isLedge, sp_isLadder, sp_isPerson, sp_isLiving, sp_isLot, sp_isThere, sp_isSpan, cs_K q, cs_B q, mc_s (cs_inj q), cs_f37 q, cs_f36 q, cs_f5 q, r53_0, r53_1, r53_2, r53_8, r53_9, r53_10, r53_16, r53_17, r53_21, r53_22, r53_25, r53_30, r53_31, r53_5, r53_13, r53_18, r53_27, c52 q hn, c1, c22, c3, c5]
  obtain ⟨c1, c22, c3, c5⟩ := c
  have c : sp_isThere F a ∧ sp_isThere F b ∧ ¬ a = b ∧ ¬ F 0 68 = 40 := ⟨c1, c22, c3, c5⟩
  have hc : ¬ xd_n D 2 = 40 := fun z => c5 (by rw [hnp, z]; rfl)
  have ha := hn.ii q c1.1
  have hb := hn.ii q c22.1
  have i1 := in_cnt hp c1.1
  have i2 := in_cnt hp c22.1
  have et : (F 0 68).toNatClampNeg = xd_n D 2 := by
    rw [hnp]
    exact (in_nat (show xd_n D 2 < 40 by omega) (by decide)).2
  have oa := cs_I q ha
  have ob := cs_I q hb
  have sa := cs_is q ha
  have sb := cs_is q hb
  have XZ := w.lt (cs_K q) (by decide)
  have nX : ¬ xd_X D = xm_Z h := by omega
  have ka : ∀ i, i < xd_n D 2 → ¬ xd_A D 4 i = xm_Z h := fun i hi z => by
    have s := cs_is q hi
    rw [z, w.2.2 _ (Nat.le_refl _)] at s
    cases s
  have na := ka _ ha
  have nb := ka _ hb
  obtain ⟨r36, k36, n36, b36⟩ := cs_f36 q
  have nA : ¬ xd_A D 0 36 = xm_Z h := by have := w.lt k36 (by decide); omega
  have en : ∀ p, xd_E D (xm_Z h) p = none := fun p => (w.2.1 (xm_Z h) p (Nat.le_refl _)).1
  have kb := w.1
  have G := c53g q w v hc ha hb (u := F 44 a.toNatClampNeg + F 44 b.toNatClampNeg) (dt := F 0 0) (lo := mn (F 45 a.toNatClampNeg) (F 45 b.toNatClampNeg)) (hi := mx (F 46 a.toNatClampNeg) (F 46 b.toNatClampNeg))
  have l1 := (clamp90 (rg_mn (hl _ ha).1 (hl _ hb).1)).1
  have l2 := (clamp90 (rg_mx (hl _ ha).2 (hl _ hb).2)).1
  have o0 : xm_ok .boolean 0 = true := by decide
  have x53 := h53_hx (h := h) (X := xd_X D) (la := xd_A D 4 a.toNatClampNeg) (lb := xd_A D 4 b.toNatClampNeg) (u := F 44 a.toNatClampNeg + F 44 b.toNatClampNeg) (dt := F 0 0) (lo := mn (F 45 a.toNatClampNeg) (F 45 b.toNatClampNeg)) (hi := mx (F 46 a.toNatClampNeg) (F 46 b.toNatClampNeg))
  have kz : xm_el 116 (xm_K (nH53a h (xd_X D) (xd_A D 4 a.toNatClampNeg) (xd_A D 4 b.toNatClampNeg) (F 44 a.toNatClampNeg + F 44 b.toNatClampNeg) (F 0 0) (mn (F 45 a.toNatClampNeg) (F 45 b.toNatClampNeg)) (mx (F 46 a.toNatClampNeg) (F 46 b.toNatClampNeg))) (xm_Z h)) = true := by
    show xm_el 116 (xm_K (xm_nw h 21 0 9) (xm_Z h)) = true
    rw [h_K_nw, if_pos rfl]
    rfl
  have m49 := c49 (d := d + 3) (F := xm_u2 (xm_u2 F 54 a.toNatClampNeg 0) 54 b.toNatClampNeg 0) (q.hx w x53) (by rw [u2_ap, if_neg (by omega), u2_ap, if_neg (by omega)]; exact hnp) hc kz
  refine ⟨nH53 h (xd_A D 0 36) (xd_n D 2) (xd_X D) (xd_A D 4 a.toNatClampNeg) (xd_A D 4 b.toNatClampNeg) (F 44 a.toNatClampNeg + F 44 b.toNatClampNeg) (F 0 0) (mn (F 45 a.toNatClampNeg) (F 45 b.toNatClampNeg)) (mx (F 46 a.toNatClampNeg) (F 46 b.toNatClampNeg)), _, ?_, G, ?_, Or.inr ⟨c, (if_pos rfl : (if 2 = 2 then xd_n D 2 + 1 else xd_n D 2) = _), fun j hj => (if_neg hj : (if j = 2 then xd_n D 2 + 1 else xd_n D j) = _), fun i => rfl⟩⟩
  · have er := ex_ren (h' := nH53 h (xd_A D 0 36) (xd_n D 2) (xd_X D) (xd_A D 4 a.toNatClampNeg) (xd_A D 4 b.toNatClampNeg) (F 44 a.toNatClampNeg + F 44 b.toNatClampNeg) (F 0 0) (mn (F 45 a.toNatClampNeg) (F 45 b.toNatClampNeg)) (mx (F 46 a.toNatClampNeg) (F 46 b.toNatClampNeg))) (e := nE53 (xm_Z h) (xd_n D 2)) (l := fun _ _ => none) (A := fun k r => if k = 4 ∧ r = xd_n D 2 then xm_Z h else if k = 5 ∧ r = xd_n D 2 then 0 else xd_A D k r) (n := fun j => if j = 2 then xd_n D 2 + 1 else xd_n D j) (m := fun i => if i = xd_n D 2 then some (a.toNatClampNeg, b.toNatClampNeg) else xd_m D i) (G := (sp_mix F a b).2) (F := xm_u2 (xm_u2 (xm_u2 F 54 a.toNatClampNeg 0) 54 b.toNatClampNeg 0) 0 68 (Int32.ofNat (xd_n D 2) + 1)) v w (fun o k hk => ?_) (fun x p y hy => ?_) (fun a p y hy => by cases hy)
    · rw [show xp_c (nH53 h (xd_A D 0 36) (xd_n D 2) (xd_X D) (xd_A D 4 a.toNatClampNeg) (xd_A D 4 b.toNatClampNeg) (F 44 a.toNatClampNeg + F 44 b.toNatClampNeg) (F 0 0) (mn (F 45 a.toNatClampNeg) (F 45 b.toNatClampNeg)) (mx (F 46 a.toNatClampNeg) (F 46 b.toNatClampNeg))) (nDl D (xm_Z h) (nE53 (xm_Z h) (xd_n D 2)) (xm_Z h) 0 (some (a.toNatClampNeg, b.toNatClampNeg))) (sp_mix F a b).2 = _ from er.symm]
      have er1 : (sp_mix F a b).1 = Int32.ofNat (xd_n D 2) + 1 - 1 := by
        unfold sp_mix
        rw [if_pos c, hnp, i_as]
      rw [er1]
      unfold xm_met
      simp only [ite_not, ite_self, w8_nil, ok01, ite10, rf_rv, rf_ref, rf_cat, rf_lk2, rf_some, rf_none, w_add, w_cons, cr_int, cr_long, cr_ref, cr_null, is_ref, is_null, l2_int, l2_ref, l2_null, l2_none, ent_nil, ent_int, ent_ref, ent_null, ent_rf, ent_long, ok_0, ok_1, af_ret, af_void, List.tail_cons, List.tail_nil, Nat.reduceAdd, Nat.reduceLeDiff, not_false_eq_true, not_true_eq_false, and_self, and_true, true_and, ne_eq, or_true, true_or, or_false, false_or, eq_self, Nat.reduceEqDiff, ↓reduceIte, false_and, and_false, Nat.le_refl, Nat.zero_le, nz_1, nz_2, nz_3, nz_4, nz_5, nz_6, nz_8, nz_10, nz_12, nz_20, nz_30, nz_60, nz_100, mc_B, mc_Z, mc_S, mc_C, mc_K, mc_N, mc_R, mc_I, mc_L, va_Is, va_Ls, va_us, va_iss, u2_ap, sp_isLedge, sp_isLadder, sp_isPerson, sp_isLiving, sp_isLot, sp_isThere, sp_isSpan, cs_K q, cs_B q, mc_s (cs_inj q), cs_f37 q, cs_f36 q, cs_f5 q, r53_0, r53_1, r53_2, r53_8, r53_9, r53_10, r53_16, r53_17, r53_21, r53_22, r53_25, r53_30, r53_31, r53_32, r53_33, r53_36, r53_37, r53_38, r53_39, r53_42, r53_43, r53_46, r53_47, r53_48, r53_49, r53_52, r53_53, r53_56, r53_57, r53_58, r53_59, r53_62, r53_63, r53_64, r53_65, r53_68, r53_69, r53_70, r53_71, r53_74, r53_77, r53_80, r53_5, r53_13, r53_18, r53_27, c52 q hn, c1, c22, c3, c5, i1, i2, oa, ob, sa, sb, o0, mc_nw w, mc_sn, mc_sR, g_K_sI, g_N_sI, g_B_sI, g_Z_sI, g_K_sL, g_N_sL, g_B_sL, g_Z_sL, g_K_sR, g_N_sR, g_B_sR, g_Z_sR, g_L_sI, g_R_sI, g_I_sL, g_R_sL, g_I_sR, g_L_sR, g_R_sRv, g_K_nw, g_N_nw, g_B_nw, g_Z_nw, h_R_nw, h_I_nw, h_L_nw, c225, nX, na, nb, nA, en, k36, n36, b36, kb, l1, l2, m49]
    · have hm := hk.1
      have h1 := hk.2.2.2.1
      have h2 := hk.2.2.2.2.1
      have h47 : (o = 47 ∨ o = 48) → k < xd_n D 2 := fun z => h1 (by omega)
      by_cases e47 : o = 47 ∨ o = 48
      · have k0 := h47 e47
        unfold sp_mix
        rw [if_pos c]
        simp only [u2_ap]
        rw [comes_ap (o := o) (k := k), et]
        unfold sp_comes0
        simp only [u2_ap]
        rw [et]
        repeat rw [if_neg (by omega)]
      · rw [mix_ap c et ha hb hl hm (by omega)]
        rw [if_neg (by omega)]
        simp only [u2_ap]
        by_cases d2 : o = 54 ∧ (k = b.toNatClampNeg ∨ k = a.toNatClampNeg)
        · rw [if_pos d2, if_neg (by omega)]
          by_cases d3 : o = 54 ∧ k = b.toNatClampNeg
          · rw [if_pos d3]
          · rw [if_neg d3, if_pos (by omega)]
        · rw [if_neg d2, if_neg (by omega), if_neg (by omega), if_neg (by omega), if_neg (by omega), if_neg (by omega)]
          by_cases d4 : o = 0 ∧ k = 68
          · rw [if_pos d4, if_pos d4, hnp]
          · rw [if_neg d4, if_neg d4, if_neg (by omega), if_neg (by omega)]
    · obtain ⟨a1, a2, a3⟩ := e53_mem hy
      have t := lot_r _ a3
      rw [mix_ap c et ha hb hl (by unfold mnm; omega) (by omega), a2, a1]
      have i0 : ∀ p, xm_I (nH53 h (xd_A D 0 36) (xd_n D 2) (xd_X D) (xd_A D 4 a.toNatClampNeg) (xd_A D 4 b.toNatClampNeg) (F 44 a.toNatClampNeg + F 44 b.toNatClampNeg) (F 0 0) (mn (F 45 a.toNatClampNeg) (F 45 b.toNatClampNeg)) (mx (F 46 a.toNatClampNeg) (F 46 b.toNatClampNeg))) (xm_Z h) p = if p = 3 then mx (F 46 a.toNatClampNeg) (F 46 b.toNatClampNeg) else if p = 2 then mn (F 45 a.toNatClampNeg) (F 45 b.toNatClampNeg) else if p = 1 then F 0 0 else if p = 0 then F 44 a.toNatClampNeg + F 44 b.toNatClampNeg else if p = 4 then 1 else 0 := by
        intro p
        rw [g_I_sR, g_I_sR, g_I_sR, h_I_sI, h_I_sI, h_I_sI, h_I_sI, h_I_sI, g_I_sR, g_I_sR, h_I_nw, if_pos rfl]
        simp only [true_and]
      rw [i0, if_neg (by omega), if_neg (by omega)]
      simp only [cs_lot, List.mem_cons, Prod.mk.injEq, List.not_mem_nil, or_false] at a3
      rcases a3 with ⟨f1, f2⟩ | ⟨f1, f2⟩ | ⟨f1, f2⟩ | ⟨f1, f2⟩ | ⟨f1, f2⟩ <;> rw [f1, f2] <;> simp only [Nat.reduceEqDiff, and_false, and_true, ↓reduceIte, reduceCtorEq]
  · have g : ∀ k, (sp_mix F a b).2 0 k = if k = 68 then F 0 68 + 1 else F 0 k := by
      intro k
      by_cases hm : mnm 0 k
      · unfold sp_mix
        rw [if_pos c]
        simp only [u2_ap]
        rw [comes_ap (o := 0) (k := k), et]
        unfold sp_comes0
        simp only [u2_ap]
        simp only [Nat.reduceEqDiff, false_and, true_and, ↓reduceIte]
      · rw [mix_ap c et ha hb hl hm (by omega)]
        simp only [Nat.reduceEqDiff, false_and, and_false, true_and, ↓reduceIte]
    refine ⟨?_, ?_, ?_, ?_⟩
    · rw [g]
      exact hn.1
    · rw [g]
      exact hn.2.1
    · rw [g, if_pos rfl, hnp, nat_succ]
      rfl
    · rw [g]
      exact hn.2.2.2
end MIX
