/-! lots come -/
set_option maxRecDepth 100000
def lotn (n : Nat) (x : Nat × Nat) : Prop := (((44 ≤ x.1 ∧ x.1 ≤ 49) ∨ x.1 = 54) ∧ x.2 = n) ∨ (x.1 = 52 ∧ 12 * n ≤ x.2 ∧ x.2 < 12 * n + 12)
abbrev nDl (D : xp_D) (Z : Nat) (e : Nat → Nat → Option (Nat × Nat)) (a4 a5 : Nat) (mm : Option (Nat × Nat)) : xp_D := exE D Z e (fun _ _ => none) (fun k r => if k = 4 ∧ r = xd_n D 2 then a4 else if k = 5 ∧ r = xd_n D 2 then a5 else xd_A D k r) (fun j => if j = 2 then xd_n D 2 + 1 else xd_n D j) (fun i => if i = xd_n D 2 then mm else xd_m D i)
section LOTC
variable {d : Nat} {h h' : xm_H} {D : xp_D} {F : xp_F} {z s : Nat}
theorem lot_GX (q : CS h D) (w : HW h D) (v : VN D) (hc : ¬ xd_n D 2 = 40) {e : Nat → Nat → Option (Nat × Nat)} {a4 a5 : Nat} {mm : Option (Nat × Nat)} (x : gx z s h h') (ninj : ∀ a p b r x, e a p = some x → e b r = some x → a = b ∧ p = r) (nr : ∀ a p x, e a p = some x → lotn (xd_n D 2) x) (k : ∀ a, xm_Z h' ≤ a → xm_K h' a = 0) (ne : ∀ a p, xm_Z h' ≤ a → e a p = none) (R : ∀ a p, a < xm_Z h → ¬ (a = xd_A D 0 36 ∧ p = xd_n D 2) → xm_R h' a p = xm_R h a p) (nl : newLot h' (nDl D (xm_Z h) e a4 a5 mm) (xd_n D 2)) : GX z s h D h' (nDl D (xm_Z h) e a4 a5 mm) := by
  have N : nNM D e (fun _ _ => none) := by
    refine ⟨ninj, (fun a p b r y h1 h2 => by exact absurd h1 (by simp)), (fun a p b r y h1 h2 => by exact absurd h2 (by simp)), fun a p y h1 => ?_⟩
    rcases h1 with h1 | h1
    · have t : lotn (xd_n D 2) y := nr _ _ _ h1
      unfold lotn at t
      intro hk
      have b1 := hk.2.2.2.1
      have b2 := hk.2.2.2.2.1
      rcases t with ⟨t1, t2⟩ | ⟨t1, t2, t3⟩
      · have := b1 t1
        omega
      · have := b2 t1
        omega
    · cases h1
  have v' : VN (nDl D (xm_Z h) e a4 a5 mm) := ex_VN v (Nat.le_refl _) (Nat.le_refl _) (Nat.le_succ _) (Nat.le_refl _) (fun a p y h1 => by
    rcases h1 with h1 | h1
    · have t : lotn (xd_n D 2) y := nr _ _ _ h1
      unfold lotn at t
      show nok (xd_n D 0) (xd_n D 1) (xd_n D 2 + 1) (xd_n D 3) y.1 y.2
      exact ⟨by unfold mnm; omega, by omega, by omega, by omega, by omega, by omega⟩
    · cases h1)
  have W : HW h' (nDl D (xm_Z h) e a4 a5 mm) := ex_HW w x k (fun a p ha => ⟨ne a p ha, rfl⟩)
  obtain ⟨r36, k36, n36, b36⟩ := cs_f36 q
  have z36 := w.lt k36 (by decide)
  have ne0 : ∀ k, (k = 0 ∨ k = 1 ∨ k = 16 ∨ k = 19 ∨ k = 30 ∨ k = 38) → xd_A D 0 k < xm_Z h ∧ ¬ xd_A D 0 k = xd_A D 0 36 := by
    intro k hk2
    have kk : xm_K h (xd_A D 0 k) = 110 ∨ xm_K h (xd_A D 0 k) = 112 ∨ xm_K h (xd_A D 0 k) = 114 ∨ xm_K h (xd_A D 0 k) = 115 ∨ xm_K h (xd_A D 0 k) = 117 := by
      rcases hk2 with e | e | e | e | e | e <;> rw [e]
      · exact Or.inl (cs_f0 q).2.1
      · exact Or.inl (cs_f1 q).2.1
      · exact Or.inr (Or.inl (cs_f16 q).2.1)
      · exact Or.inr (Or.inr (Or.inl (cs_f19 q).2.1))
      · exact Or.inr (Or.inr (Or.inr (Or.inl (cs_f30 q).2.1)))
      · exact Or.inr (Or.inr (Or.inr (Or.inr (cs_f38 q).2.1)))
    refine ⟨w.lt rfl (by omega), fun e => ?_⟩
    rw [e, k36] at kk
    omega
  have A0 : ∀ k, xd_A (nDl D (xm_Z h) e a4 a5 mm) 0 k = xd_A D 0 k := fun k => by
    show (if 0 = 4 ∧ k = xd_n D 2 then a4 else if 0 = 5 ∧ k = xd_n D 2 then a5 else xd_A D 0 k) = _
    rw [if_neg (by omega), if_neg (by omega)]
  have Ak : ∀ k r, ¬ k = 4 → ¬ k = 5 → xd_A (nDl D (xm_Z h) e a4 a5 mm) k r = xd_A D k r := fun k r hk hk2 => by
    show (if k = 4 ∧ r = xd_n D 2 then a4 else if k = 5 ∧ r = xd_n D 2 then a5 else xd_A D k r) = _
    rw [if_neg (by omega), if_neg (by omega)]
  have Ar : ∀ k r, ¬ r = xd_n D 2 → xd_A (nDl D (xm_Z h) e a4 a5 mm) k r = xd_A D k r := fun k r hk => by
    show (if k = 4 ∧ r = xd_n D 2 then a4 else if k = 5 ∧ r = xd_n D 2 then a5 else xd_A D k r) = _
    rw [if_neg (by omega), if_neg (by omega)]
  refine ⟨?_, W, v', x, ex_sE, ex_sL, rfl, A0, fun k r hk => Ak k r (by omega) (by omega)⟩
  refine q.ext w x ex_sE ex_sL (ex_inj q.1 v N) rfl A0 (fun k r hk => Ak k r (by omega) (by omega)) ?_ ?_ ?_ ?_ ?_ ?_ ?_ ?_ ?_ ?_ ?_
  · intro l hl
    have a0 := ne0 0 (by omega)
    have a1 := ne0 1 (by omega)
    exact ⟨Ak 1 l (by decide) (by decide), Ak 2 l (by decide) (by decide), R _ _ a0.1 (fun e => a0.2 e.1), R _ _ a1.1 (fun e => a1.2 e.1)⟩
  · intro p hp
    have a0 := ne0 30 (by omega)
    exact ⟨Ak 3 p (by decide) (by decide), R _ _ a0.1 (fun e => a0.2 e.1)⟩
  · intro i hi
    exact ⟨Ar 4 i (by omega), Ar 5 i (by omega), R _ _ z36 (fun e => by have := e.2; omega), if_neg (by omega)⟩
  · intro b hb
    have a0 := ne0 38 (by omega)
    exact ⟨Ak 6 b (by decide) (by decide), R _ _ a0.1 (fun e => a0.2 e.1)⟩
  · intro p
    have a0 := ne0 16 (by omega)
    exact R _ _ a0.1 (fun e => a0.2 e.1)
  · intro p
    have a0 := ne0 19 (by omega)
    exact R _ _ a0.1 (fun e => a0.2 e.1)
  · intro l hl hn
    exact absurd hl hn
  · intro p hp hn
    exact absurd hp hn
  · intro i hi hn
    have hi : i < xd_n D 2 + 1 := hi
    have e : i = xd_n D 2 := by omega
    rw [e]
    exact nl
  · intro b hb hn
    exact absurd hb hn
  · have := cs_n q
    show xd_n D 0 ≤ 12 ∧ xd_n D 1 ≤ 16 ∧ xd_n D 2 + 1 ≤ 40 ∧ xd_n D 3 ≤ 4
    omega
theorem c214 {a X : Nat} {u dt lo hi : Int32} (hk : xm_is 18 (xm_K h a) = true) (hB : xm_B h ≤ a) : xm_met (d + 2) 214 [.ref a, .ref X, .int u, .int dt, .int lo, .int hi] h = some (.inl none, xm_sI (xm_sI (xm_sI (xm_sI (xm_sI (xm_sR h a 5 (some X)) a 4 1) a 0 u) a 1 dt) a 2 (mx 0 (mn 90 lo))) a 3 (mx 0 (mn 90 hi))) := by
  have o : xm_ok .boolean 1 = true := by decide
  unfold xm_met
  simp only [ite_not, ite_self, w8_nil, ok01, ite10, rf_rv, rf_ref, rf_cat, rf_lk2, rf_some, rf_none, w_add, w_cons, cr_int, cr_long, cr_ref, cr_null, is_ref, is_null, l2_int, l2_ref, l2_null, l2_none, ent_nil, ent_int, ent_ref, ent_null, ent_rf, ent_long, ok_0, ok_1, af_ret, af_void, List.tail_cons, List.tail_nil, Nat.reduceAdd, Nat.reduceLeDiff, not_false_eq_true, not_true_eq_false, and_self, and_true, true_and, ne_eq, or_true, true_or, or_false, false_or, eq_self, Nat.reduceEqDiff, ↓reduceIte, false_and, and_false, Nat.le_refl, Nat.zero_le, nz_1, nz_2, nz_3, nz_4, nz_5, nz_6, nz_8, nz_10, nz_12, nz_20, nz_30, nz_60, nz_100, g_K_sI, g_N_sI, g_B_sI, g_Z_sI, g_K_sL, g_N_sL, g_B_sL, g_Z_sL, g_K_sR, g_N_sR, g_B_sR, g_Z_sR, g_L_sI, g_R_sI, g_I_sL, g_R_sL, g_I_sR, g_L_sR, g_R_sRv, g_K_nw, g_N_nw, g_B_nw, g_Z_nw, h_R_nw, h_I_nw, h_L_nw, r214_0, r214_1, r214_2, r214_2n, r214_2v, r214_5, r214_6, r214_9, r214_10, r214_11, r214_14, r214_15, r214_16, r214_19, r214_20, r214_21, r214_24, r214_25, r214_27, r214_28, r214_30, r214_33, r214_36, r214_37, r214_39, r214_40, r214_42, r214_45, r214_48, hk, hB, o, c12]
theorem c225 {a X la lb : Nat} {dt : Int32} (hk : xm_K h a = 21) (hB : xm_B h ≤ a) (ha : xm_is 18 (xm_K h la) = true) (hb : xm_is 18 (xm_K h lb) = true) : xm_met (d + 3) 225 [.ref a, .ref X, .ref la, .ref lb, .int dt] h = some (.inl none, xm_sR (xm_sR (xm_sI (xm_sI (xm_sI (xm_sI (xm_sI (xm_sR (xm_sR h a 8 (some X)) a 5 (some X)) a 4 1) a 0 (xm_I h la 0 + xm_I h lb 0)) a 1 dt) a 2 (mx 0 (mn 90 (mn (xm_I h la 2) (xm_I h lb 2))))) a 3 (mx 0 (mn 90 (mx (xm_I h la 3) (xm_I h lb 3))))) a 6 (some la)) a 7 (some lb)) := by
  have o : xm_is 18 21 = true := rfl
  have e1 : ∀ x y : Int32, (if y < x then y else x) = mn x y := fun _ _ => rfl
  have e2 : ∀ x y : Int32, (if x < y then y else x) = mx x y := fun _ _ => rfl
  unfold xm_met
  simp only [ite_not, ite_self, w8_nil, ok01, ite10, rf_rv, rf_ref, rf_cat, rf_lk2, rf_some, rf_none, w_add, w_cons, cr_int, cr_long, cr_ref, cr_null, is_ref, is_null, l2_int, l2_ref, l2_null, l2_none, ent_nil, ent_int, ent_ref, ent_null, ent_rf, ent_long, ok_0, ok_1, af_ret, af_void, List.tail_cons, List.tail_nil, Nat.reduceAdd, Nat.reduceLeDiff, not_false_eq_true, not_true_eq_false, and_self, and_true, true_and, ne_eq, or_true, true_or, or_false, false_or, eq_self, Nat.reduceEqDiff, ↓reduceIte, false_and, and_false, Nat.le_refl, Nat.zero_le, nz_1, nz_2, nz_3, nz_4, nz_5, nz_6, nz_8, nz_10, nz_12, nz_20, nz_30, nz_60, nz_100, g_K_sI, g_N_sI, g_B_sI, g_Z_sI, g_K_sL, g_N_sL, g_B_sL, g_Z_sL, g_K_sR, g_N_sR, g_B_sR, g_Z_sR, g_L_sI, g_R_sI, g_I_sL, g_R_sL, g_I_sR, g_L_sR, g_R_sRv, g_K_nw, g_N_nw, g_B_nw, g_Z_nw, h_R_nw, h_I_nw, h_L_nw, r225_0, r225_1, r225_2, r225_2n, r225_2v, r225_5, r225_6, r225_7, r225_8, r225_11, r225_12, r225_15, r225_16, r225_18, r225_19, r225_22, r225_23, r225_26, r225_29, r225_30, r225_33, r225_34, r225_37, r225_40, r225_43, r225_44, r225_45, r225_45n, r225_45v, r225_48, r225_49, r225_50, r225_50n, r225_50v, r225_53, hk, hB, ha, hb, o, e1, e2, c214]
theorem c49 {g : xm_H} (q : CS g D) (hn : F 0 68 = Int32.ofNat (xd_n D 2)) (hc : ¬ xd_n D 2 = 40) {a : Nat} (ka : xm_el 116 (xm_K g a) = true) : xm_met d 49 [.ref (xd_X D), .ref a] (xp_c g D F) = some (.inl (some (.int (Int32.ofNat (xd_n D 2) + 1 - 1))), xp_c (xm_sR g (xd_A D 0 36) (xd_n D 2) (some a)) D (xm_u2 F 0 68 (Int32.ofNat (xd_n D 2) + 1))) := by
  have n40 := (cs_n q).2.2.1
  obtain ⟨i1, e1⟩ := in_nat (show xd_n D 2 < 40 by omega) (by decide)
  unfold xm_met
  simp only [ite_not, ite_self, w8_nil, ok01, ite10, rf_rv, rf_ref, rf_cat, rf_lk2, rf_some, rf_none, w_add, w_cons, cr_int, cr_long, cr_ref, cr_null, is_ref, is_null, l2_int, l2_ref, l2_null, l2_none, ent_nil, ent_int, ent_ref, ent_null, ent_rf, ent_long, ok_0, ok_1, af_ret, af_void, List.tail_cons, List.tail_nil, Nat.reduceAdd, Nat.reduceLeDiff, not_false_eq_true, not_true_eq_false, and_self, and_true, true_and, ne_eq, or_true, true_or, or_false, false_or, eq_self, Nat.reduceEqDiff, ↓reduceIte, false_and, and_false, Nat.le_refl, Nat.zero_le, nz_1, nz_2, nz_3, nz_4, nz_5, nz_6, nz_8, nz_10, nz_12, nz_20, nz_30, nz_60, nz_100, mc_B, mc_Z, mc_S, mc_C, mc_K, mc_N, mc_R, mc_I, mc_L, va_Is, va_Ls, va_us, va_iss, u2_ap, sp_isLedge, sp_isLadder, sp_isPerson, sp_isLiving, sp_isLot, sp_isThere, sp_isSpan, g_K_sI, g_N_sI, g_B_sI, g_Z_sI, g_K_sL, g_N_sL, g_B_sL, g_Z_sL, g_K_sR, g_N_sR, g_B_sR, g_Z_sR, g_L_sI, g_R_sI, g_I_sL, g_R_sL, g_I_sR, g_L_sR, g_R_sRv, g_K_nw, g_N_nw, g_B_nw, g_Z_nw, h_R_nw, h_I_nw, h_L_nw, cs_K q, cs_B q, mc_s (cs_inj q), cs_f36 q, cs_f37 q, r49_0, r49_1, r49_4, r49_5, r49_8, r49_9, r49_10, r49_11, r49_12, r49_15, r49_16, r49_17, r49_20, r49_21, r49_24, r49_25, r49_26, hn, i1, e1, ka, mc_sR]
end LOTC
