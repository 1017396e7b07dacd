/-! a buyer comes -/
set_option maxRecDepth 100000
section BUYER
variable {d : Nat} {h : xm_H} {D : xp_D} {F : xp_F}
theorem c227 {a : Nat} {v1 v2 v3 v4 : Int32} (hk : xm_K h a = 22) (hB : xm_B h ≤ a) : xm_met (d + 1) 227 [.ref a, .int v1, .int v2, .int v3, .int v4] h = some (.inl none, xm_sI (xm_sI (xm_sI (xm_sI h a 0 v1) a 1 v2) a 2 v3) a 3 v4) := by
  unfold xm_met
  simp only [ite_not, ite_self, w8_nil, ok01, ite10, rf_rv, rf_ref, rf_cat, rf_lk2, rf_some, rf_none, w_add, w_cons, cr_int, cr_long, cr_ref, cr_null, is_ref, is_null, l2_int, l2_ref, l2_null, l2_none, ent_nil, ent_int, ent_ref, ent_null, ent_rf, ent_long, ok_0, ok_1, af_ret, af_void, List.tail_cons, List.tail_nil, Nat.reduceAdd, Nat.reduceLeDiff, not_false_eq_true, not_true_eq_false, and_self, and_true, true_and, ne_eq, or_true, true_or, or_false, false_or, eq_self, Nat.reduceEqDiff, ↓reduceIte, false_and, and_false, Nat.le_refl, Nat.zero_le, nz_1, nz_2, nz_3, nz_4, nz_5, nz_6, nz_8, nz_10, nz_12, nz_20, nz_30, nz_60, nz_100, g_K_sI, g_N_sI, g_B_sI, g_Z_sI, g_K_sL, g_N_sL, g_B_sL, g_Z_sL, g_K_sR, g_N_sR, g_B_sR, g_Z_sR, g_L_sI, g_R_sI, g_I_sL, g_R_sL, g_I_sR, g_L_sR, g_R_sRv, g_K_nw, g_N_nw, g_B_nw, g_Z_nw, h_R_nw, h_I_nw, h_L_nw, r227_0, r227_1, r227_4, r227_5, r227_6, r227_9, r227_10, r227_11, r227_14, r227_15, r227_16, r227_19, r227_20, r227_22, r227_25, hk, hB]
abbrev nH54 (h : xm_H) (a n : Nat) (v1 v2 v3 v4 : Int32) : xm_H := xm_sR (xm_sI (xm_sI (xm_sI (xm_sI (xm_nw h 22 0 4) (xm_Z h) 0 v1) (xm_Z h) 1 v2) (xm_Z h) 2 v3) (xm_Z h) 3 v4) a n (some (xm_Z h))
abbrev nE54 (z n : Nat) (a p : Nat) : Option (Nat × Nat) := if a = z then enm cs_buyer n p else none
abbrev nD54 (D : xp_D) (z n : Nat) : xp_D := exE D z (nE54 z n) (fun _ _ => none) (fun k r => if k = 6 ∧ r = n then z else xd_A D k r) (fun j => if j = 3 then n + 1 else xd_n D j) (xd_m D)
theorem e54_mem {z n a p : Nat} {x : Nat × Nat} (e : nE54 z n a p = some x) : a = z ∧ x.2 = n ∧ (p, x.1) ∈ cs_buyer := by
  unfold nE54 at e
  by_cases c : a = z
  · rw [if_pos c] at e
    exact ⟨c, enm_mem e⟩
  · rw [if_neg c] at e
    cases e
theorem y_range : ∀ y ∈ cs_buyer, 56 ≤ y.2 ∧ y.2 ≤ 59 := by decide
theorem c54g (q : CS h D) (w : HW h D) (v : VN D) {x1 x2 x3 x4 : Int32} (hc : ¬ xd_n D 3 = 4) : GX 1 4 h D (nH54 h (xd_A D 0 38) (xd_n D 3) x1 x2 x3 x4) (nD54 D (xm_Z h) (xd_n D 3)) := by
  have n16 := (cs_n q).2.2.2
  have qz := w.1
  obtain ⟨r38, k38, n38, b38⟩ := cs_f38 q
  have z38 := w.lt k38 (by decide)
  have gx0 : gx 1 4 h (nH54 h (xd_A D 0 38) (xd_n D 3) x1 x2 x3 x4) := (((((hx_nw (kd := 22) (n := 0) (s := 4)).sI (Nat.le_refl _)).sI (Nat.le_refl _)).sI (Nat.le_refl _)).sI (Nat.le_refl _)).gx.sR (Or.inr (Or.inr (Or.inr (Or.inr k38))))
  have N : nNM D (nE54 (xm_Z h) (xd_n D 3)) (fun _ _ => none) := by
    refine ⟨fun a p b r y h1 h2 => ?_, (fun a p b r y h1 h2 => by exact absurd h1 (by simp)), (fun a p b r y h1 h2 => by exact absurd h2 (by simp)), fun a p y h1 => ?_⟩
    · have a1 := (e54_mem h1).1
      have b1 := (e54_mem h2).1
      unfold nE54 at h1 h2
      rw [if_pos a1] at h1
      rw [if_pos b1] at h2
      exact ⟨a1.trans b1.symm, enm_inj (by decide) h1 h2⟩
    · rcases h1 with h1 | h1
      · obtain ⟨-, a2, a3⟩ := e54_mem h1
        have := y_range _ a3
        intro hk
        have := hk.2.2.2.2.2 this
        omega
      · cases h1
  have v' : VN (nD54 D (xm_Z h) (xd_n D 3)) := ex_VN v (Nat.le_refl _) (Nat.le_refl _) (Nat.le_refl _) (Nat.le_succ _) (fun a p y h1 => by
    rcases h1 with h1 | h1
    · obtain ⟨-, a2, a3⟩ := e54_mem h1
      have t := y_range _ a3
      show nok (xd_n D 0) (xd_n D 1) (xd_n D 2) (xd_n D 3 + 1) y.1 y.2
      exact ⟨by unfold mnm; omega, by omega, by omega, by omega, by omega, by omega⟩
    · cases h1)
  have Kz : xm_K (nH54 h (xd_A D 0 38) (xd_n D 3) x1 x2 x3 x4) (xm_Z h) = 22 := by
    show xm_K (xm_nw h 22 0 4) (xm_Z h) = 22
    rw [h_K_nw, if_pos rfl]
  have R : ∀ a p, a < xm_Z h → ¬ (a = xd_A D 0 38 ∧ p = xd_n D 3) → xm_R (nH54 h (xd_A D 0 38) (xd_n D 3) x1 x2 x3 x4) a p = xm_R h a p := by
    intro a p ha hn
    rw [h_R_sR, if_neg hn]
    show xm_R (xm_nw h 22 0 4) a p = _
    rw [h_R_nw, if_neg (by omega)]
  have W : HW (nH54 h (xd_A D 0 38) (xd_n D 3) x1 x2 x3 x4) (nD54 D (xm_Z h) (xd_n D 3)) := ex_HW w gx0 (fun a ha => by
    have ha : xm_Z h + 1 ≤ a := ha
    show xm_K (xm_nw h 22 0 4) a = 0
    rw [h_K_nw, if_neg (by omega)]
    exact w.2.2 a (by omega)) (fun a p ha => by
    have ha : xm_Z h + 1 ≤ a := ha
    exact ⟨if_neg (by omega), rfl⟩)
  have ne0 : ∀ k, ¬ k = 68 → (k = 0 ∨ k = 1 ∨ k = 16 ∨ k = 19 ∨ k = 30 ∨ k = 36) → xd_A D 0 k < xm_Z h ∧ ¬ xd_A D 0 k = xd_A D 0 38 := by
    intro k hk hk2
    have kk : xm_K h (xd_A D 0 k) = 110 ∨ xm_K h (xd_A D 0 k) = 112 ∨ xm_K h (xd_A D 0 k) = 114 ∨ xm_K h (xd_A D 0 k) = 115 ∨ xm_K h (xd_A D 0 k) = 116 := by
      rcases hk2 with e | e | e | e | e | e <;> rw [e]
      · exact Or.inl (cs_f0 q).2.1
      · exact Or.inl (cs_f1 q).2.1
      · exact Or.inr (Or.inl (cs_f16 q).2.1)
      · exact Or.inr (Or.inr (Or.inl (cs_f19 q).2.1))
      · exact Or.inr (Or.inr (Or.inr (Or.inl (cs_f30 q).2.1)))
      · exact Or.inr (Or.inr (Or.inr (Or.inr (cs_f36 q).2.1)))
    refine ⟨w.lt rfl (by omega), fun e => ?_⟩
    rw [e, k38] at kk
    omega
  have A0 : ∀ k, xd_A (nD54 D (xm_Z h) (xd_n D 3)) 0 k = xd_A D 0 k := fun k => by
    show (if 0 = 6 ∧ k = xd_n D 3 then xm_Z h else xd_A D 0 k) = _
    rw [if_neg (by omega)]
  have Ak : ∀ k r, ¬ k = 6 → xd_A (nD54 D (xm_Z h) (xd_n D 3)) k r = xd_A D k r := fun k r hk => if_neg (by omega : ¬ (k = 6 ∧ r = xd_n D 3))
  refine ⟨?_, W, v', gx0, ex_sE, ex_sL, rfl, A0, fun k r hk => Ak k r (by omega)⟩
  refine q.ext w gx0 ex_sE ex_sL (ex_inj q.1 v N) rfl A0 (fun k r hk => Ak k r (by omega)) ?_ ?_ ?_ ?_ ?_ ?_ ?_ ?_ ?_ ?_ ?_
  · intro l hl
    have a0 := ne0 0 (by decide) (by omega)
    have a1 := ne0 1 (by decide) (by omega)
    exact ⟨Ak 1 l (by decide), Ak 2 l (by decide), R _ _ a0.1 (fun e => a0.2 e.1), R _ _ a1.1 (fun e => a1.2 e.1)⟩
  · intro p hp
    have a0 := ne0 30 (by decide) (by omega)
    exact ⟨Ak 3 p (by decide), R _ _ a0.1 (fun e => a0.2 e.1)⟩
  · intro i hi
    have a0 := ne0 36 (by decide) (by omega)
    exact ⟨Ak 4 i (by decide), Ak 5 i (by decide), R _ _ a0.1 (fun e => a0.2 e.1), rfl⟩
  · intro b hb
    exact ⟨if_neg (by omega), R _ _ z38 (fun e => by have := e.2; omega)⟩
  · intro p
    have a0 := ne0 16 (by decide) (by omega)
    exact R _ _ a0.1 (fun e => a0.2 e.1)
  · intro p
    have a0 := ne0 19 (by decide) (by omega)
    exact R _ _ a0.1 (fun e => a0.2 e.1)
  · intro l hl hn
    exact absurd hl hn
  · intro p hp hn
    exact absurd hp hn
  · intro i hi hn
    exact absurd hi hn
  · intro b hb hn
    have hb : b < xd_n D 3 + 1 := hb
    have e : b = xd_n D 3 := by omega
    have az : xd_A (nD54 D (xm_Z h) (xd_n D 3)) 6 b = xm_Z h := if_pos ⟨rfl, e⟩
    rw [A0, az]
    refine ⟨?_, Kz, w.1, fun y hy => ?_⟩
    · rw [h_R_sR, if_pos ⟨rfl, e⟩]
    · rw [ex_E, if_neg (Nat.lt_irrefl _), e]
      show nE54 _ _ _ _ = _
      unfold nE54
      rw [if_pos rfl]
      exact enm_get (by decide) y hy
  · have := cs_n q
    show xd_n D 0 ≤ 12 ∧ xd_n D 1 ≤ 16 ∧ xd_n D 2 ≤ 40 ∧ xd_n D 3 + 1 ≤ 4
    omega
theorem c54 (q : CS h D) (w : HW h D) (v : VN D) (hn : CN D F) {x1 x2 x3 x4 : Int32} : ∃ h' D', xm_met (d + 2) 54 [.ref (xd_X D), .int x1, .int x2, .int x3, .int x4] (xp_c h D F) = some (.inl (some (.int (sp_buyer F x1 x2 x3 x4).1)), xp_c h' D' (sp_buyer F x1 x2 x3 x4).2) ∧ GX 1 4 h D h' D' ∧ CN D' (sp_buyer F x1 x2 x3 x4).2 ∧ (sp_buyer F x1 x2 x3 x4 = (-1, F) ∧ D' = D ∨ (sp_isSpan x1 x2 ∧ (1 ≤ x3 ∧ x3 ≤ 99) ∧ (1 ≤ x4 ∧ x4 ≤ 99999) ∧ ¬ F 0 83 = 4) ∧ xd_n D' 3 = xd_n D 3 + 1 ∧ (∀ j, ¬ j = 3 → xd_n D' j = xd_n D j) ∧ ∀ i, xd_m D' i = xd_m D i) := by
  have n16 := (cs_n q).2.2.2
  have hp := hn.b q
  by_cases c : sp_isSpan x1 x2 ∧ (1 ≤ x3 ∧ x3 ≤ 99) ∧ (1 ≤ x4 ∧ x4 ≤ 99999) ∧ ¬ F 0 83 = 4
  case neg =>
    refine ⟨h, D, ?_, (GX.rf q w v).mono (by decide) (by decide), ?_, Or.inl ⟨if_neg c, rfl⟩⟩
    · unfold xm_met sp_buyer
      rw [if_neg c]
      by_cases c1 : 0 ≤ x1 ∧ x1 ≤ 90
      case neg => simp only [ite_not, ite_self, w8_nil, ok01, ite10, rf_rv, rf_ref, rf_cat, rf_lk2, rf_some, rf_none, w_add, w_cons, cr_int, cr_long, cr_ref, cr_null, is_ref, is_null, l2_int, l2_ref, l2_null, l2_none, ent_nil, ent_int, ent_ref, ent_null, ent_rf, ent_long, ok_0, ok_1, af_ret, af_void, List.tail_cons, List.tail_nil, Nat.reduceAdd, Nat.reduceLeDiff, not_false_eq_true, not_true_eq_false, and_self, and_true, true_and, ne_eq, or_true, true_or, or_false, false_or, eq_self, Nat.reduceEqDiff, ↓reduceIte, false_and, and_false, Nat.le_refl, Nat.zero_le, nz_1, nz_2, nz_3, nz_4, nz_5, nz_6, nz_8, nz_10, nz_12, nz_20, nz_30, nz_60, nz_100, mc_B, mc_Z, mc_S, mc_C, mc_K, mc_N, mc_R, mc_I, mc_L, va_Is, va_Ls, va_us, va_iss, u2_ap, sp_isLedge, sp_isLadder, sp_isPerson, sp_isLiving, sp_isLot, sp_isThere, sp_isSpan, cs_K q, cs_B q, mc_s (cs_inj q), cs_f42 q, cs_f38 q, r54_0, r54_1, r54_2, r54_4, r54_10, r54_11, r54_12, r54_14, r54_20, r54_21, r54_22, r54_24, r54_30, r54_32, r54_33, r54_36, r54_42, r54_43, r54_46, r54_50, r54_51, r54_7, r54_17, r54_27, r54_39, r54_47, c2, c1]
      by_cases c21 : x1 ≤ x2 ∧ x2 ≤ 90
      case neg => simp only [ite_not, ite_self, w8_nil, ok01, ite10, rf_rv, rf_ref, rf_cat, rf_lk2, rf_some, rf_none, w_add, w_cons, cr_int, cr_long, cr_ref, cr_null, is_ref, is_null, l2_int, l2_ref, l2_null, l2_none, ent_nil, ent_int, ent_ref, ent_null, ent_rf, ent_long, ok_0, ok_1, af_ret, af_void, List.tail_cons, List.tail_nil, Nat.reduceAdd, Nat.reduceLeDiff, not_false_eq_true, not_true_eq_false, and_self, and_true, true_and, ne_eq, or_true, true_or, or_false, false_or, eq_self, Nat.reduceEqDiff, ↓reduceIte, false_and, and_false, Nat.le_refl, Nat.zero_le, nz_1, nz_2, nz_3, nz_4, nz_5, nz_6, nz_8, nz_10, nz_12, nz_20, nz_30, nz_60, nz_100, mc_B, mc_Z, mc_S, mc_C, mc_K, mc_N, mc_R, mc_I, mc_L, va_Is, va_Ls, va_us, va_iss, u2_ap, sp_isLedge, sp_isLadder, sp_isPerson, sp_isLiving, sp_isLot, sp_isThere, sp_isSpan, cs_K q, cs_B q, mc_s (cs_inj q), cs_f42 q, cs_f38 q, r54_0, r54_1, r54_2, r54_4, r54_10, r54_11, r54_12, r54_14, r54_20, r54_21, r54_22, r54_24, r54_30, r54_32, r54_33, r54_36, r54_42, r54_43, r54_46, r54_50, r54_51, r54_7, r54_17, r54_27, r54_39, r54_47, c2, c1, c21]
      by_cases c3 : 1 ≤ x3 ∧ x3 ≤ 99
      case neg => simp only [ite_not, ite_self, w8_nil, ok01, ite10, rf_rv, rf_ref, rf_cat, rf_lk2, rf_some, rf_none, w_add, w_cons, cr_int, cr_long, cr_ref, cr_null, is_ref, is_null, l2_int, l2_ref, l2_null, l2_none, ent_nil, ent_int, ent_ref, ent_null, ent_rf, ent_long, ok_0, ok_1, af_ret, af_void, List.tail_cons, List.tail_nil, Nat.reduceAdd, Nat.reduceLeDiff, not_false_eq_true, not_true_eq_false, and_self, and_true, true_and, ne_eq, or_true, true_or, or_false, false_or, eq_self, Nat.reduceEqDiff, ↓reduceIte, false_and, and_false, Nat.le_refl, Nat.zero_le, nz_1, nz_2, nz_3, nz_4, nz_5, nz_6, nz_8, nz_10, nz_12, nz_20, nz_30, nz_60, nz_100, mc_B, mc_Z, mc_S, mc_C, mc_K, mc_N, mc_R, mc_I, mc_L, va_Is, va_Ls, va_us, va_iss, u2_ap, sp_isLedge, sp_isLadder, sp_isPerson, sp_isLiving, sp_isLot, sp_isThere, sp_isSpan, cs_K q, cs_B q, mc_s (cs_inj q), cs_f42 q, cs_f38 q, r54_0, r54_1, r54_2, r54_4, r54_10, r54_11, r54_12, r54_14, r54_20, r54_21, r54_22, r54_24, r54_30, r54_32, r54_33, r54_36, r54_42, r54_43, r54_46, r54_50, r54_51, r54_7, r54_17, r54_27, r54_39, r54_47, c2, c1, c21, c3]
      by_cases c4 : 1 ≤ x4 ∧ x4 ≤ 99999
      case neg => simp only [ite_not, ite_self, w8_nil, ok01, ite10, rf_rv, rf_ref, rf_cat, rf_lk2, rf_some, rf_none, w_add, w_cons, cr_int, cr_long, cr_ref, cr_null, is_ref, is_null, l2_int, l2_ref, l2_null, l2_none, ent_nil, ent_int, ent_ref, ent_null, ent_rf, ent_long, ok_0, ok_1, af_ret, af_void, List.tail_cons, List.tail_nil, Nat.reduceAdd, Nat.reduceLeDiff, not_false_eq_true, not_true_eq_false, and_self, and_true, true_and, ne_eq, or_true, true_or, or_false, false_or, eq_self, Nat.reduceEqDiff, ↓reduceIte, false_and, and_false, Nat.le_refl, Nat.zero_le, nz_1, nz_2, nz_3, nz_4, nz_5, nz_6, nz_8, nz_10, nz_12, nz_20, nz_30, nz_60, nz_100, mc_B, mc_Z, mc_S, mc_C, mc_K, mc_N, mc_R, mc_I, mc_L, va_Is, va_Ls, va_us, va_iss, u2_ap, sp_isLedge, sp_isLadder, sp_isPerson, sp_isLiving, sp_isLot, sp_isThere, sp_isSpan, cs_K q, cs_B q, mc_s (cs_inj q), cs_f42 q, cs_f38 q, r54_0, r54_1, r54_2, r54_4, r54_10, r54_11, r54_12, r54_14, r54_20, r54_21, r54_22, r54_24, r54_30, r54_32, r54_33, r54_36, r54_42, r54_43, r54_46, r54_50, r54_51, r54_7, r54_17, r54_27, r54_39, r54_47, c2, c1, c21, c3, c4]
      have c5 : F 0 83 = 4 := Classical.not_not.mp fun z => c ⟨⟨c1, c21⟩, c3, c4, z⟩
      simp only [ite_not, ite_self, w8_nil, ok01, ite10, rf_rv, rf_ref, rf_cat, rf_lk2, rf_some, rf_none, w_add, w_cons, cr_int, cr_long, cr_ref, cr_null, is_ref, is_null, l2_int, l2_ref, l2_null, l2_none, ent_nil, ent_int, ent_ref, ent_null, ent_rf, ent_long, ok_0, ok_1, af_ret, af_void, List.tail_cons, List.tail_nil, Nat.reduceAdd, Nat.reduceLeDiff, not_false_eq_true, not_true_eq_false, and_self, and_true, true_and, ne_eq, or_true, true_or, or_false, false_or, eq_self, Nat.reduceEqDiff, ↓reduceIte, false_and, and_false, Nat.le_refl, Nat.zero_le, nz_1, nz_2, nz_3, nz_4, nz_5, nz_6, nz_8, nz_10, nz_12, nz_20, nz_30, nz_60, nz_100, mc_B, mc_Z, mc_S, mc_C, mc_K, mc_N, mc_R, mc_I, mc_L, va_Is, va_Ls, va_us, va_iss, u2_ap, sp_isLedge, sp_isLadder, sp_isPerson, sp_isLiving, sp_isLot, sp_isThere, sp_isSpan, cs_K q, cs_B q, mc_s (cs_inj q), cs_f42 q, cs_f38 q, r54_0, r54_1, r54_2, r54_4, r54_10, r54_11, r54_12, r54_14, r54_20, r54_21, r54_22, r54_24, r54_30, r54_32, r54_33, r54_36, r54_42, r54_43, r54_46, r54_50, r54_51, r54_7, r54_17, r54_27, r54_39, r54_47, c2, c1, c21, c3, c4, c5]
    · unfold sp_buyer
      rw [if_neg c]
      exact hn
  have hc : ¬ xd_n D 3 = 4 := fun z => c.2.2.2 (by rw [hn.2.2.2, z]; rfl)
  obtain ⟨i1, e1⟩ := in_nat (show xd_n D 3 < 4 by omega) (by decide)
  have G := c54g q w v (x1 := x1) (x2 := x2) (x3 := x3) (x4 := x4) hc
  have XZ := w.lt (cs_K q) (by decide)
  have nX : ¬ xd_X D = xm_Z h := by omega
  obtain ⟨r38, k38, n38, b38⟩ := cs_f38 q
  have nA : ¬ xd_A D 0 38 = xm_Z h := by have := w.lt k38 (by decide); omega
  have en : ∀ p, xd_E D (xm_Z h) p = none := fun p => (w.2.1 (xm_Z h) p (Nat.le_refl _)).1
  have el : xm_el 117 22 = true := rfl
  have hnp := hn.2.2.2
  have c1 := c.1.1
  have c21 := c.1.2
  have c3 := c.2.1
  have c4 := c.2.2.1
  have c5 : ¬ (Int32.ofNat (xd_n D 3) = 4) := by rw [← hnp]; exact c.2.2.2
  have hS : (sp_buyer F x1 x2 x3 x4).2 = xm_u2 (xm_u2 (xm_u2 (xm_u2 (xm_u2 F 56 (xd_n D 3) x1) 57 (xd_n D 3) x2) 58 (xd_n D 3) x3) 59 (xd_n D 3) x4) 0 83 (Int32.ofNat (xd_n D 3) + 1) := by
    unfold sp_buyer
    rw [if_pos c, hnp, e1]
  refine ⟨nH54 h (xd_A D 0 38) (xd_n D 3) x1 x2 x3 x4, nD54 D (xm_Z h) (xd_n D 3), ?_, G, ?_, Or.inr ⟨c, (if_pos rfl : (if 3 = 3 then xd_n D 3 + 1 else xd_n D 3) = _), fun j hj => (if_neg hj : (if j = 3 then xd_n D 3 + 1 else xd_n D j) = _), fun i => rfl⟩⟩
  · have er := ex_ren (h' := nH54 h (xd_A D 0 38) (xd_n D 3) x1 x2 x3 x4) (e := nE54 (xm_Z h) (xd_n D 3)) (l := fun _ _ => none) (A := fun k r => if k = 6 ∧ r = xd_n D 3 then xm_Z h else xd_A D k r) (n := fun j => if j = 3 then xd_n D 3 + 1 else xd_n D j) (m := xd_m D) (G := (sp_buyer F x1 x2 x3 x4).2) (F := xm_u2 F 0 83 (Int32.ofNat (xd_n D 3) + 1)) v w (fun o k hk => by
        have := hk.2.2.2.2.2
        rw [hS, u2_ap, u2_ap, u2_ap, u2_ap, u2_ap, u2_ap]
        split
        · rfl
        · rw [if_neg (by omega), if_neg (by omega), if_neg (by omega), if_neg (by omega)]) (fun a p y hy => by
        obtain ⟨a1, a2, a3⟩ := e54_mem hy
        rw [a2, hS, a1]
        have i0 : ∀ p, xm_I (nH54 h (xd_A D 0 38) (xd_n D 3) x1 x2 x3 x4) (xm_Z h) p = if p = 3 then x4 else if p = 2 then x3 else if p = 1 then x2 else if p = 0 then x1 else 0 := by
          intro p
          show xm_I (xm_sI (xm_sI (xm_sI (xm_sI (xm_nw h 22 0 4) (xm_Z h) 0 x1) (xm_Z h) 1 x2) (xm_Z h) 2 x3) (xm_Z h) 3 x4) (xm_Z h) p = _
          rw [h_I_sI, h_I_sI, h_I_sI, h_I_sI, h_I_nw, if_pos rfl]
          simp only [true_and]
        rw [i0]
        have : (p, y.1) ∈ [(0, 56), (1, 57), (2, 58), (3, 59)] := a3
        simp only [List.mem_cons, Prod.mk.injEq, List.not_mem_nil, or_false] at this
        rcases this with ⟨f1, f2⟩ | ⟨f1, f2⟩ | ⟨f1, f2⟩ | ⟨f1, f2⟩ <;> rw [f1, f2] <;> simp only [u2_ap, Nat.reduceEqDiff, false_and, and_self, true_and, ↓reduceIte, reduceCtorEq]) (fun a p y hy => by cases hy)
    rw [show xp_c (nH54 h (xd_A D 0 38) (xd_n D 3) x1 x2 x3 x4) (nD54 D (xm_Z h) (xd_n D 3)) (sp_buyer F x1 x2 x3 x4).2 = _ from er.symm]
    have er1 : (sp_buyer F x1 x2 x3 x4).1 = Int32.ofNat (xd_n D 3) + 1 - 1 := by
      unfold sp_buyer
      rw [if_pos c, hnp]
    rw [er1]
    unfold xm_met
    have kb := w.1
    simp only [ite_not, ite_self, w8_nil, ok01, ite10, rf_rv, rf_ref, rf_cat, rf_lk2, rf_some, rf_none, w_add, w_cons, cr_int, cr_long, cr_ref, cr_null, is_ref, is_null, l2_int, l2_ref, l2_null, l2_none, ent_nil, ent_int, ent_ref, ent_null, ent_rf, ent_long, ok_0, ok_1, af_ret, af_void, List.tail_cons, List.tail_nil, Nat.reduceAdd, Nat.reduceLeDiff, not_false_eq_true, not_true_eq_false, and_self, and_true, true_and, ne_eq, or_true, true_or, or_false, false_or, eq_self, Nat.reduceEqDiff, ↓reduceIte, false_and, and_false, Nat.le_refl, Nat.zero_le, nz_1, nz_2, nz_3, nz_4, nz_5, nz_6, nz_8, nz_10, nz_12, nz_20, nz_30, nz_60, nz_100, mc_B, mc_Z, mc_S, mc_C, mc_K, mc_N, mc_R, mc_I, mc_L, va_Is, va_Ls, va_us, va_iss, u2_ap, sp_isLedge, sp_isLadder, sp_isPerson, sp_isLiving, sp_isLot, sp_isThere, sp_isSpan, cs_K q, cs_B q, mc_s (cs_inj q), cs_f42 q, cs_f38 q, r54_0, r54_1, r54_2, r54_4, r54_10, r54_11, r54_12, r54_14, r54_20, r54_21, r54_22, r54_24, r54_30, r54_32, r54_33, r54_36, r54_42, r54_43, r54_46, r54_50, r54_51, r54_52, r54_53, r54_56, r54_57, r54_60, r54_63, r54_64, r54_65, r54_66, r54_67, r54_69, r54_72, r54_73, r54_74, r54_75, r54_78, r54_79, r54_80, r54_83, r54_84, r54_87, r54_88, r54_89, r54_7, r54_17, r54_27, r54_39, r54_47, c2, c1, c21, c3, c4, c5, hnp, mc_nw w, mc_sn, mc_sR, g_K_sI, g_N_sI, g_B_sI, g_Z_sI, g_K_sL, g_N_sL, g_B_sL, g_Z_sL, g_K_sR, g_N_sR, g_B_sR, g_Z_sR, g_L_sI, g_R_sI, g_I_sL, g_R_sL, g_I_sR, g_L_sR, g_R_sRv, g_K_nw, g_N_nw, g_B_nw, g_Z_nw, h_R_nw, h_I_nw, h_L_nw, c227, nX, nA, en, el, k38, n38, b38, i1, e1, kb]
  · refine ⟨?_, ?_, ?_, ?_⟩
    · show (sp_buyer F x1 x2 x3 x4).2 0 6 = _
      rw [hS]
      simp only [u2_ap, false_and, and_false, ↓reduceIte, Nat.reduceEqDiff]
      exact hn.1
    · show (sp_buyer F x1 x2 x3 x4).2 0 61 = _
      rw [hS]
      simp only [u2_ap, false_and, and_false, ↓reduceIte, Nat.reduceEqDiff]
      exact hn.2.1
    · show (sp_buyer F x1 x2 x3 x4).2 0 68 = _
      rw [hS]
      simp only [u2_ap, false_and, and_false, ↓reduceIte, Nat.reduceEqDiff]
      exact hn.2.2.1
    · show (sp_buyer F x1 x2 x3 x4).2 0 83 = Int32.ofNat (xd_n D 3 + 1)
      rw [hS]
      simp only [u2_ap, and_self, ↓reduceIte, nat_succ]
end BUYER
