/-! a ledge comes, and one to try -/
set_option maxRecDepth 100000
section LEDGE
variable {d : Nat} {h : xm_H} {D : xp_D} {F : xp_F}
abbrev iL (h : xm_H) (a : Nat) (c y s f : Int32) : xm_H := xm_sI (xm_sI (xm_sI (xm_sI (xm_sI (xm_sI h a 5 100) a 7 9) a 0 c) a 1 y) a 3 s) a 2 f
theorem c183 {a : Nat} {c y s f : Int32} (hk : xm_K h a = 6) (hB : xm_B h ≤ a) : xm_met (d + 1) 183 [.ref a, .int c, .int y, .int s, .int f] h = some (.inl none, xm_sI (xm_sI (xm_sI (xm_sI (xm_sI (xm_sI h a 5 100) a 7 9) a 0 c) a 1 y) a 3 s) a 2 f) := by
  unfold xm_met
  simp only [ite_not, ite_self, w8_nil, ok01, ite10, rf_rv, rf_ref, rf_cat, rf_lk2, rf_some, rf_none, w_add, w_cons, cr_int, cr_long, cr_ref, cr_null, is_ref, is_null, l2_int, l2_ref, l2_null, l2_none, ent_nil, ent_int, ent_ref, ent_null, ent_rf, ent_long, ok_0, ok_1, af_ret, af_void, List.tail_cons, List.tail_nil, Nat.reduceAdd, Nat.reduceLeDiff, not_false_eq_true, not_true_eq_false, and_self, and_true, true_and, ne_eq, or_true, true_or, or_false, false_or, eq_self, Nat.reduceEqDiff, ↓reduceIte, false_and, and_false, Nat.le_refl, Nat.zero_le, nz_1, nz_2, nz_3, nz_4, nz_5, nz_6, nz_8, nz_10, nz_12, nz_20, nz_30, nz_60, nz_100, g_K_sI, g_N_sI, g_B_sI, g_Z_sI, g_K_sL, g_N_sL, g_B_sL, g_Z_sL, g_K_sR, g_N_sR, g_B_sR, g_Z_sR, g_L_sI, g_R_sI, g_I_sL, g_R_sL, g_I_sR, g_L_sR, g_R_sRv, g_K_nw, g_N_nw, g_B_nw, g_Z_nw, h_R_nw, h_I_nw, h_L_nw, r183_0, r183_1, r183_4, r183_5, r183_7, r183_10, r183_11, r183_13, r183_16, r183_17, r183_18, r183_21, r183_22, r183_23, r183_26, r183_27, r183_28, r183_31, r183_32, r183_34, r183_37, hk, hB]
theorem iL_K {a : Nat} {c y s f : Int32} : xm_K (iL h a c y s f) = xm_K h := Eq.trans (b := xm_K h) rfl rfl
theorem iL_N {a : Nat} {c y s f : Int32} : xm_N (iL h a c y s f) = xm_N h := Eq.trans (b := xm_N h) rfl rfl
theorem iL_R {a : Nat} {c y s f : Int32} : xm_R (iL h a c y s f) = xm_R h := Eq.trans (b := xm_R h) rfl rfl
theorem iL_L {a : Nat} {c y s f : Int32} : xm_L (iL h a c y s f) = xm_L h := Eq.trans (b := xm_L h) rfl rfl
theorem iL_Z {a : Nat} {c y s f : Int32} : xm_Z (iL h a c y s f) = xm_Z h := Eq.trans (b := xm_Z h) rfl rfl
theorem iL_I {a b p : Nat} {c y s f : Int32} : xm_I (iL h a c y s f) b p = if b = a then (if p = 2 then f else if p = 3 then s else if p = 1 then y else if p = 0 then c else if p = 7 then 9 else if p = 5 then 100 else xm_I h b p) else xm_I h b p := by
  rw [h_I_sI, h_I_sI, h_I_sI, h_I_sI, h_I_sI, h_I_sI]
  by_cases e : b = a
  · rw [if_pos e]
    simp only [e, true_and]
  · rw [if_neg e]
    simp only [e, false_and, ↓reduceIte]
theorem iL_gx {z s0 a : Nat} {h' : xm_H} {c y s f : Int32} (x : gx z s0 h h') (ha : xm_Z h ≤ a) : gx z s0 h (iL h' a c y s f) := (((((x.sI ha).sI ha).sI ha).sI ha).sI ha).sI ha
abbrev nH3a (h : xm_H) (a n : Nat) (c y s f : Int32) : xm_H := xm_sR (iL (xm_nw h 6 0 11) (xm_Z h) c y s f) a n (some (xm_Z h))
theorem h3a_Z {a n : Nat} {c y s f : Int32} : xm_Z (nH3a h a n c y s f) = xm_Z h + 1 := Eq.trans (b := xm_Z h + 1) rfl rfl
abbrev nH3 (h : xm_H) (a0 a1 n : Nat) (c y s f : Int32) : xm_H := xm_sR (iL (xm_nw (nH3a h a0 n c y s f) 6 0 11) (xm_Z h + 1) c y s f) a1 n (some (xm_Z h + 1))
abbrev nE3 (z n : Nat) (a p : Nat) : Option (Nat × Nat) := if a = z then enm cs_ledge n p else if a = z + 1 then enm cs_trial n p else none
abbrev nL3 (z n : Nat) (a p : Nat) : Option (Nat × Nat) := if a = z then (if p = 8 then some (7, n) else none) else if a = z + 1 then (if p = 8 then some (98, n) else none) else none
abbrev nD3 (D : xp_D) (z n : Nat) : xp_D := exE D z (nE3 z n) (nL3 z n) (fun k r => if k = 1 ∧ r = n then z else if k = 2 ∧ r = n then z + 1 else xd_A D k r) (fun j => if j = 0 then n + 1 else xd_n D j) (xd_m D)
theorem e3_mem {z n a p : Nat} {x : Nat × Nat} (e : nE3 z n a p = some x) : x.2 = n ∧ ((a = z ∧ (p, x.1) ∈ cs_ledge) ∨ (a = z + 1 ∧ (p, x.1) ∈ cs_trial)) := by
  unfold nE3 at e
  by_cases c : a = z
  · rw [if_pos c] at e
    exact ⟨(enm_mem e).1, Or.inl ⟨c, (enm_mem e).2⟩⟩
  · rw [if_neg c] at e
    by_cases c2 : a = z + 1
    · rw [if_pos c2] at e
      exact ⟨(enm_mem e).1, Or.inr ⟨c2, (enm_mem e).2⟩⟩
    · rw [if_neg c2] at e
      cases e
theorem l3_mem {z n a p : Nat} {x : Nat × Nat} (e : nL3 z n a p = some x) : x.2 = n ∧ p = 8 ∧ ((a = z ∧ x.1 = 7) ∨ (a = z + 1 ∧ x.1 = 98)) := by
  unfold nL3 at e
  by_cases c : a = z
  · rw [if_pos c] at e
    by_cases c3 : p = 8
    · rw [if_pos c3] at e
      cases e
      exact ⟨rfl, c3, Or.inl ⟨c, rfl⟩⟩
    · rw [if_neg c3] at e
      cases e
  · rw [if_neg c] at e
    by_cases c2 : a = z + 1
    · rw [if_pos c2] at e
      by_cases c3 : p = 8
      · rw [if_pos c3] at e
        cases e
        exact ⟨rfl, c3, Or.inr ⟨c2, rfl⟩⟩
      · rw [if_neg c3] at e
        cases e
    · rw [if_neg c2] at e
      cases e
theorem ledge_r : ∀ y ∈ cs_ledge, 3 ≤ y.2 ∧ y.2 ≤ 13 ∧ ¬ y.2 = 7 := by decide
theorem trial_r : ∀ y ∈ cs_trial, 90 ≤ y.2 ∧ y.2 ≤ 100 ∧ ¬ y.2 = 98 := by decide
theorem c3g (q : CS h D) (w : HW h D) (v : VN D) (n01 : ¬ xd_A D 0 0 = xd_A D 0 1) {c y s f : Int32} (hc : ¬ xd_n D 0 = 12) : GX 2 22 h D (nH3 h (xd_A D 0 0) (xd_A D 0 1) (xd_n D 0) c y s f) (nD3 D (xm_Z h) (xd_n D 0)) := by
  have n16 := (cs_n q).1
  have qz := w.1
  obtain ⟨r0, k0, n0, b0⟩ := cs_f0 q
  obtain ⟨r1, k1, n1, b1⟩ := cs_f1 q
  have z0 := w.lt k0 (by decide)
  have z1 := w.lt k1 (by decide)
  have X0 : xd_X D < xm_Z h := w.lt (cs_K q) (by decide)
  have gx0 : gx 2 22 h (nH3 h (xd_A D 0 0) (xd_A D 0 1) (xd_n D 0) c y s f) := (iL_gx (gx.nw ((iL_gx (hx_nw (kd := 6) (n := 0) (s := 11)).gx (Nat.le_refl _)).sR (Or.inr (Or.inl k0)))) (Nat.le_succ _)).sR (Or.inr (Or.inl k1))
  have N : nNM D (nE3 (xm_Z h) (xd_n D 0)) (nL3 (xm_Z h) (xd_n D 0)) := by
    refine ⟨fun a p b r y h1 h2 => ?_, fun a p b r y h1 h2 => ?_, fun a p b r y h1 h2 => ?_, fun a p y h1 => ?_⟩
    · rcases (e3_mem h1).2 with ⟨a1, a2⟩ | ⟨a1, a2⟩ <;> rcases (e3_mem h2).2 with ⟨b1, b2⟩ | ⟨b1, b2⟩
      · unfold nE3 at h1 h2
        rw [if_pos a1] at h1
        rw [if_pos b1] at h2
        exact ⟨a1.trans b1.symm, enm_inj (by decide) h1 h2⟩
      · have := ledge_r _ a2
        have := trial_r _ b2
        omega
      · have := ledge_r _ b2
        have := trial_r _ a2
        omega
      · unfold nE3 at h1 h2
        rw [if_neg (by omega), if_pos a1] at h1
        rw [if_neg (by omega), if_pos b1] at h2
        exact ⟨a1.trans b1.symm, enm_inj (by decide) h1 h2⟩
    · obtain ⟨-, a1, a2⟩ := l3_mem h1
      obtain ⟨-, b1, b2⟩ := l3_mem h2
      omega
    · obtain ⟨-, b1, b2⟩ := l3_mem h2
      rcases (e3_mem h1).2 with ⟨a1, a2⟩ | ⟨a1, a2⟩
      · have := ledge_r _ a2
        omega
      · have := trial_r _ a2
        omega
    · rcases h1 with h1 | h1
      · obtain ⟨a2, a3⟩ := e3_mem h1
        have : (3 ≤ y.1 ∧ y.1 ≤ 13) ∨ 90 ≤ y.1 ∧ y.1 ≤ 100 := by
          rcases a3 with ⟨-, a3⟩ | ⟨-, a3⟩
          · have := ledge_r _ a3
            omega
          · have := trial_r _ a3
            omega
        intro hk
        have := hk.2.1 this
        omega
      · obtain ⟨a2, -, a3⟩ := l3_mem h1
        intro hk
        have := hk.2.1 (by omega)
        omega
  have v' : VN (nD3 D (xm_Z h) (xd_n D 0)) := ex_VN v (Nat.le_succ _) (Nat.le_refl _) (Nat.le_refl _) (Nat.le_refl _) (fun a p y h1 => by
    have t : y.2 = xd_n D 0 ∧ ((3 ≤ y.1 ∧ y.1 ≤ 13) ∨ 90 ≤ y.1 ∧ y.1 ≤ 100) := by
      rcases h1 with h1 | h1
      · obtain ⟨a2, a3⟩ := e3_mem h1
        rcases a3 with ⟨-, a3⟩ | ⟨-, a3⟩
        · have := ledge_r _ a3
          omega
        · have := trial_r _ a3
          omega
      · obtain ⟨a2, -, a3⟩ := l3_mem h1
        omega
    show nok (xd_n D 0 + 1) (xd_n D 1) (xd_n D 2) (xd_n D 3) y.1 y.2
    exact ⟨by unfold mnm; omega, by omega, by omega, by omega, by omega, by omega⟩)
  have Kz : xm_K (nH3 h (xd_A D 0 0) (xd_A D 0 1) (xd_n D 0) c y s f) (xm_Z h) = 6 := by
    show xm_K (xm_nw (nH3a h (xd_A D 0 0) (xd_n D 0) c y s f) 6 0 11) (xm_Z h) = 6
    rw [h_K_nw, if_neg (by show ¬ xm_Z h = xm_Z h + 1; omega)]
    show xm_K (xm_nw h 6 0 11) (xm_Z h) = 6
    rw [h_K_nw, if_pos rfl]
  have Kz1 : xm_K (nH3 h (xd_A D 0 0) (xd_A D 0 1) (xd_n D 0) c y s f) (xm_Z h + 1) = 6 := by
    show xm_K (xm_nw (nH3a h (xd_A D 0 0) (xd_n D 0) c y s f) 6 0 11) (xm_Z h + 1) = 6
    rw [h_K_nw, h3a_Z, if_pos rfl]
  have R : ∀ a p, a < xm_Z h → ¬ (a = xd_A D 0 0 ∧ p = xd_n D 0) → ¬ (a = xd_A D 0 1 ∧ p = xd_n D 0) → xm_R (nH3 h (xd_A D 0 0) (xd_A D 0 1) (xd_n D 0) c y s f) a p = xm_R h a p := by
    intro a p ha hn hn1
    rw [h_R_sR, if_neg hn1]
    show xm_R (xm_nw (nH3a h (xd_A D 0 0) (xd_n D 0) c y s f) 6 0 11) a p = _
    rw [h_R_nw, if_neg (by show ¬ a = xm_Z h + 1; omega), h_R_sR, if_neg hn]
    show xm_R (xm_nw h 6 0 11) a p = _
    rw [h_R_nw, if_neg (by omega)]
  have R0 : xm_R (nH3 h (xd_A D 0 0) (xd_A D 0 1) (xd_n D 0) c y s f) (xd_A D 0 0) (xd_n D 0) = some (xm_Z h) := by
    rw [h_R_sR, if_neg (fun e => n01 e.1)]
    show xm_R (xm_nw (nH3a h (xd_A D 0 0) (xd_n D 0) c y s f) 6 0 11) (xd_A D 0 0) (xd_n D 0) = _
    rw [h_R_nw, if_neg (by show ¬ xd_A D 0 0 = xm_Z h + 1; omega), h_R_sR, if_pos ⟨rfl, rfl⟩]
  have R1 : xm_R (nH3 h (xd_A D 0 0) (xd_A D 0 1) (xd_n D 0) c y s f) (xd_A D 0 1) (xd_n D 0) = some (xm_Z h + 1) := by
    rw [h_R_sR, if_pos ⟨rfl, rfl⟩]
  have W : HW (nH3 h (xd_A D 0 0) (xd_A D 0 1) (xd_n D 0) c y s f) (nD3 D (xm_Z h) (xd_n D 0)) := ex_HW w gx0 (fun a ha => by
    have ha : xm_Z h + 1 + 1 ≤ a := ha
    show xm_K (xm_nw (nH3a h (xd_A D 0 0) (xd_n D 0) c y s f) 6 0 11) a = 0
    rw [h_K_nw, if_neg (by show ¬ a = xm_Z h + 1; omega)]
    show xm_K (xm_nw h 6 0 11) a = 0
    rw [h_K_nw, if_neg (by omega)]
    exact w.2.2 a (by omega)) (fun a p ha => by
    have ha : xm_Z h + 1 + 1 ≤ a := ha
    unfold nE3 nL3
    rw [if_neg (by omega), if_neg (by omega), if_neg (by omega), if_neg (by omega)]
    exact ⟨rfl, rfl⟩)
  have ne0 : ∀ k, (k = 16 ∨ k = 19 ∨ k = 30 ∨ k = 36 ∨ k = 38) → xd_A D 0 k < xm_Z h ∧ ¬ xd_A D 0 k = xd_A D 0 0 ∧ ¬ xd_A D 0 k = xd_A D 0 1 := by
    intro k hk2
    have kk : xm_K h (xd_A D 0 k) = 112 ∨ xm_K h (xd_A D 0 k) = 114 ∨ xm_K h (xd_A D 0 k) = 115 ∨ xm_K h (xd_A D 0 k) = 116 ∨ xm_K h (xd_A D 0 k) = 117 := by
      rcases hk2 with e | e | e | e | e <;> rw [e]
      · exact Or.inl (cs_f16 q).2.1
      · exact Or.inr (Or.inl (cs_f19 q).2.1)
      · exact Or.inr (Or.inr (Or.inl (cs_f30 q).2.1))
      · exact Or.inr (Or.inr (Or.inr (Or.inl (cs_f36 q).2.1)))
      · exact Or.inr (Or.inr (Or.inr (Or.inr (cs_f38 q).2.1)))
    refine ⟨w.lt rfl (by omega), fun e => ?_, fun e => ?_⟩
    · rw [e, k0] at kk
      omega
    · rw [e, k1] at kk
      omega
  have A0 : ∀ k, xd_A (nD3 D (xm_Z h) (xd_n D 0)) 0 k = xd_A D 0 k := fun k => by
    show (if 0 = 1 ∧ k = xd_n D 0 then xm_Z h else if 0 = 2 ∧ k = xd_n D 0 then xm_Z h + 1 else xd_A D 0 k) = _
    rw [if_neg (by omega), if_neg (by omega)]
  have Ak : ∀ k r, ¬ k = 1 → ¬ k = 2 → xd_A (nD3 D (xm_Z h) (xd_n D 0)) k r = xd_A D k r := fun k r hk hk2 => by
    show (if k = 1 ∧ r = xd_n D 0 then xm_Z h else if k = 2 ∧ r = xd_n D 0 then xm_Z h + 1 else xd_A D k r) = _
    rw [if_neg (by omega), if_neg (by omega)]
  have Ar : ∀ k r, ¬ r = xd_n D 0 → xd_A (nD3 D (xm_Z h) (xd_n D 0)) k r = xd_A D k r := fun k r hk => by
    show (if k = 1 ∧ r = xd_n D 0 then xm_Z h else if k = 2 ∧ r = xd_n D 0 then xm_Z h + 1 else xd_A D k r) = _
    rw [if_neg (by omega), if_neg (by omega)]
  refine ⟨?_, W, v', gx0, ex_sE, ex_sL, rfl, A0, fun k r hk => Ak k r (by omega) (by omega)⟩
  refine q.ext w gx0 ex_sE ex_sL (ex_inj q.1 v N) rfl A0 (fun k r hk => Ak k r (by omega) (by omega)) ?_ ?_ ?_ ?_ ?_ ?_ ?_ ?_ ?_ ?_ ?_
  · intro l hl
    exact ⟨Ar 1 l (by omega), Ar 2 l (by omega), R _ _ z0 (fun e => by have := e.2; omega) (fun e => by have := e.2; omega), R _ _ z1 (fun e => by have := e.2; omega) (fun e => by have := e.2; omega)⟩
  · intro p hp
    have a0 := ne0 30 (by omega)
    exact ⟨Ak 3 p (by decide) (by decide), R _ _ a0.1 (fun e => a0.2.1 e.1) (fun e => a0.2.2 e.1)⟩
  · intro i hi
    have a0 := ne0 36 (by omega)
    exact ⟨Ak 4 i (by decide) (by decide), Ak 5 i (by decide) (by decide), R _ _ a0.1 (fun e => a0.2.1 e.1) (fun e => a0.2.2 e.1), rfl⟩
  · intro b hb
    have a0 := ne0 38 (by omega)
    exact ⟨Ak 6 b (by decide) (by decide), R _ _ a0.1 (fun e => a0.2.1 e.1) (fun e => a0.2.2 e.1)⟩
  · intro p
    have a0 := ne0 16 (by omega)
    exact R _ _ a0.1 (fun e => a0.2.1 e.1) (fun e => a0.2.2 e.1)
  · intro p
    have a0 := ne0 19 (by omega)
    exact R _ _ a0.1 (fun e => a0.2.1 e.1) (fun e => a0.2.2 e.1)
  · intro l hl hn
    have hl : l < xd_n D 0 + 1 := hl
    have e : l = xd_n D 0 := by omega
    have az : xd_A (nD3 D (xm_Z h) (xd_n D 0)) 1 l = xm_Z h := if_pos ⟨rfl, e⟩
    have az2 : xd_A (nD3 D (xm_Z h) (xd_n D 0)) 2 l = xm_Z h + 1 := by
      show (if 2 = 1 ∧ l = xd_n D 0 then xm_Z h else if 2 = 2 ∧ l = xd_n D 0 then xm_Z h + 1 else xd_A D 2 l) = _
      rw [if_neg (by omega), if_pos ⟨rfl, e⟩]
    rw [A0, A0, az, az2, e]
    refine ⟨⟨R0, ⟨Kz, w.1, fun y hy => ?_⟩, ?_⟩, R1, ⟨Kz1, Nat.le_succ_of_le w.1, fun y hy => ?_⟩, ?_⟩
    · rw [ex_E, if_neg (Nat.lt_irrefl _)]
      show nE3 _ _ _ _ = _
      unfold nE3
      rw [if_pos rfl]
      exact enm_get (by decide) y hy
    · rw [ex_L, if_neg (Nat.lt_irrefl _)]
      show nL3 _ _ _ _ = _
      unfold nL3
      rw [if_pos rfl, if_pos rfl]
    · rw [ex_E, if_neg (by omega)]
      show nE3 _ _ _ _ = _
      unfold nE3
      rw [if_neg (by omega), if_pos rfl]
      exact enm_get (by decide) y hy
    · rw [ex_L, if_neg (by omega)]
      show nL3 _ _ _ _ = _
      unfold nL3
      rw [if_neg (by omega), if_pos rfl, if_pos rfl]
  · intro p hp hn
    exact absurd hp hn
  · intro i hi hn
    exact absurd hi hn
  · intro b hb hn
    exact absurd hb hn
  · have := cs_n q
    show xd_n D 0 + 1 ≤ 12 ∧ xd_n D 1 ≤ 16 ∧ xd_n D 2 ≤ 40 ∧ xd_n D 3 ≤ 4
    omega
abbrev okL (F : xp_F) (c y s f : Int32) : Prop := (0 ≤ c ∧ c ≤ 15) ∧ (0 ≤ y ∧ y ≤ 98) ∧ (0 ≤ s ∧ s ≤ 9) ∧ (f = -1 ∨ sp_isPerson F f) ∧ ¬ F 0 6 = 12 ∧ ¬ sp_stands F c y
def sp_trl (G : xp_F) (n : Nat) (c y s f : Int32) : xp_F := fun o k => if k = n ∧ 90 ≤ o ∧ o ≤ 100 then (if o = 90 then c else if o = 91 then y else if o = 92 then f else if o = 93 then s else if o = 95 then 100 else if o = 97 then 9 else 0) else G o k
def sp_ledC (F : xp_F) (c y s f : Int32) : xp_F := if okL F c y s f then sp_trl (sp_ledge F c y s f).2 (F 0 6).toNatClampNeg c y s f else F
theorem c3e (w : HW h D) {n : Nat} {a0 a1 : Nat} {c y s f : Int32} (hS : (sp_ledge F c y s f).2 = xm_u2 (xm_u2 (xm_u2 (xm_u2 (xm_u2 (xm_u2 (xm_u2 F 3 n c) 4 n y) 5 n s) 9 n f) 8 n 100) 11 n 9) 0 6 (Int32.ofNat n + 1)) (v : VN D) (en : xd_n D 0 = n) (hz : F 6 n = 0 ∧ F 7 n = 0 ∧ F 10 n = 0 ∧ F 12 n = 0 ∧ F 13 n = 0) : xp_c (nH3 h a0 a1 n c y s f) D (xm_u2 F 0 6 (Int32.ofNat n + 1)) = xp_c (nH3 h a0 a1 n c y s f) (nD3 D (xm_Z h) n) (sp_trl (sp_ledge F c y s f).2 n c y s f) := by
  have I1 : ∀ p, xm_I (nH3 h a0 a1 n c y s f) (xm_Z h) p = if p = 2 then f else if p = 3 then s else if p = 1 then y else if p = 0 then c else if p = 7 then 9 else if p = 5 then 100 else 0 := by
    intro p
    show xm_I (iL (xm_nw (nH3a h a0 n c y s f) 6 0 11) (xm_Z h + 1) c y s f) (xm_Z h) p = _
    rw [iL_I, if_neg (by omega), h_I_nw, if_neg (by show ¬ xm_Z h = xm_Z h + 1; omega)]
    show xm_I (iL (xm_nw h 6 0 11) (xm_Z h) c y s f) (xm_Z h) p = _
    rw [iL_I, if_pos rfl, h_I_nw, if_pos rfl]
  have I2 : ∀ p, xm_I (nH3 h a0 a1 n c y s f) (xm_Z h + 1) p = if p = 2 then f else if p = 3 then s else if p = 1 then y else if p = 0 then c else if p = 7 then 9 else if p = 5 then 100 else 0 := by
    intro p
    show xm_I (iL (xm_nw (nH3a h a0 n c y s f) 6 0 11) (xm_Z h + 1) c y s f) (xm_Z h + 1) p = _
    rw [iL_I, if_pos rfl, h_I_nw, h3a_Z, if_pos rfl]
  have L1 : ∀ p, xm_L (nH3 h a0 a1 n c y s f) (xm_Z h) p = 0 := by
    intro p
    show xm_L (xm_nw (nH3a h a0 n c y s f) 6 0 11) (xm_Z h) p = _
    rw [h_L_nw, if_neg (by show ¬ xm_Z h = xm_Z h + 1; omega)]
    show xm_L (xm_nw h 6 0 11) (xm_Z h) p = _
    rw [h_L_nw, if_pos rfl]
  have L2 : ∀ p, xm_L (nH3 h a0 a1 n c y s f) (xm_Z h + 1) p = 0 := by
    intro p
    show xm_L (xm_nw (nH3a h a0 n c y s f) 6 0 11) (xm_Z h + 1) p = _
    rw [h_L_nw, h3a_Z, if_pos rfl]
  refine ex_ren v w (fun o k hk => ?_) (fun a p x hy => ?_) (fun a p x hy => ?_)
  · have := hk.2.1
    unfold sp_trl
    rw [if_neg (by omega), hS]
    simp only [u2_ap]
    by_cases c0 : o = 0 ∧ k = 6
    · rw [if_pos c0, if_pos c0]
    · rw [if_neg c0, if_neg c0]
      rw [if_neg (by omega), if_neg (by omega), if_neg (by omega), if_neg (by omega), if_neg (by omega), if_neg (by omega)]
  · obtain ⟨a2, a3⟩ := e3_mem hy
    obtain ⟨z1, z2, z3, z4, z5⟩ := hz
    rw [a2]
    rcases a3 with ⟨a1, a3⟩ | ⟨a1, a3⟩
    · have t := ledge_r _ a3
      unfold sp_trl
      rw [if_neg (by omega), hS, a1, I1]
      simp only [cs_ledge, List.mem_cons, Prod.mk.injEq, List.not_mem_nil, or_false] at a3
      rcases a3 with ⟨f1, f2⟩ | ⟨f1, f2⟩ | ⟨f1, f2⟩ | ⟨f1, f2⟩ | ⟨f1, f2⟩ | ⟨f1, f2⟩ | ⟨f1, f2⟩ | ⟨f1, f2⟩ | ⟨f1, f2⟩ | ⟨f1, f2⟩ <;> rw [f1, f2] <;> simp only [u2_ap, Nat.reduceEqDiff, false_and, and_self, true_and, ↓reduceIte, reduceCtorEq, z1, z2, z3, z4, z5]
    · have t := trial_r _ a3
      unfold sp_trl
      rw [if_pos ⟨rfl, t.1, t.2.1⟩, a1, I2]
      simp only [cs_trial, List.mem_cons, Prod.mk.injEq, List.not_mem_nil, or_false] at a3
      rcases a3 with ⟨f1, f2⟩ | ⟨f1, f2⟩ | ⟨f1, f2⟩ | ⟨f1, f2⟩ | ⟨f1, f2⟩ | ⟨f1, f2⟩ | ⟨f1, f2⟩ | ⟨f1, f2⟩ | ⟨f1, f2⟩ | ⟨f1, f2⟩ <;> rw [f1, f2] <;> simp only [Nat.reduceEqDiff, ↓reduceIte, reduceCtorEq]
  · obtain ⟨a2, a3, a4⟩ := l3_mem hy
    rw [a2]
    rcases a4 with ⟨a1, a4⟩ | ⟨a1, a4⟩
    · unfold sp_trl
      rw [if_neg (by omega), hS, a1, a4, L1]
      simp only [u2_ap, Nat.reduceEqDiff, false_and, ↓reduceIte]
      rw [hz.2.1]
      rfl
    · unfold sp_trl
      rw [if_pos (by omega), a1, a4, L2]
      rfl
theorem c3l (q : CS h D) (w : HW h D) (hn : CN D F) (hc : ¬ xd_n D 0 = 12) {c y s f t4 : Int32} : xm_run (d + 2) 3 71 [some (.ref (xd_X D)), some (.int c), some (.int y), some (.int s), some (.int f), some (.int t4), some (.int 0)] [] (xp_c h D F) = if sp_stands F c y then some (.inl (some (.int (-1))), xp_c h D F) else some (.inl (some (.int (Int32.ofNat (xd_n D 0) + 1 - 1))), xp_c (nH3 h (xd_A D 0 0) (xd_A D 0 1) (xd_n D 0) c y s f) D (xm_u2 F 0 6 (Int32.ofNat (xd_n D 0) + 1))) := by
  have n12 := (cs_n q).1
  have hl := hn.l q
  have et : (F 0 6).toNatClampNeg = xd_n D 0 := by
    rw [hn.1]
    exact (in_nat (show xd_n D 0 < 12 by omega) (by decide)).2
  have hnp := hn.1
  have no : ∀ k (t : List (Option Value)), k < xd_n D 0 → ¬ (F 3 k = c ∧ F 4 k = y) → ∃ t', xm_run (d + 2) 3 71 (some (.ref (xd_X D)) :: some (.int c) :: some (.int y) :: some (.int s) :: some (.int f) :: some (.int t4) :: some (.int (Int32.ofNat k)) :: t) [] (xp_c h D F) = xm_run (d + 2) 3 71 (some (.ref (xd_X D)) :: some (.int c) :: some (.int y) :: some (.int s) :: some (.int f) :: some (.int t4) :: some (.int (Int32.ofNat (k + 1))) :: t') [] (xp_c h D F) := by
    intro k t hk hq
    obtain ⟨i1, e1, c0, -, -⟩ := lp_k hl (by decide) (by rw [et]; exact hk)
    have o1 := cs_L q hk
    refine ⟨t, ?_⟩
    rw [r3_71]
    by_cases c1 : F 3 k = c
    · have c22 : ¬ F 4 k = y := fun z => hq ⟨c1, z⟩
      simp only [ite_not, ite_self, w8_nil, ok01, ite10, rf_rv, rf_ref, rf_cat, rf_lk2, rf_some, rf_none, w_add, w_cons, cr_int, cr_long, cr_ref, cr_null, is_ref, is_null, l2_int, l2_ref, l2_null, l2_none, ent_nil, ent_int, ent_ref, ent_null, ent_rf, ent_long, ok_0, ok_1, af_ret, af_void, List.tail_cons, List.tail_nil, Nat.reduceAdd, Nat.reduceLeDiff, not_false_eq_true, not_true_eq_false, and_self, and_true, true_and, ne_eq, or_true, true_or, or_false, false_or, eq_self, Nat.reduceEqDiff, ↓reduceIte, false_and, and_false, Nat.le_refl, Nat.zero_le, nz_1, nz_2, nz_3, nz_4, nz_5, nz_6, nz_8, nz_10, nz_12, nz_20, nz_30, nz_60, nz_100, mc_B, mc_Z, mc_S, mc_C, mc_K, mc_N, mc_R, mc_I, mc_L, va_Is, va_Ls, va_us, va_iss, u2_ap, sp_isLedge, sp_isLadder, sp_isPerson, sp_isLiving, sp_isLot, sp_isThere, sp_isSpan, cs_K q, cs_B q, mc_s (cs_inj q), cs_f31 q, cs_f4 q, cs_f0 q, cs_f1 q, r3_73, r3_74, r3_80, r3_81, r3_84, r3_86, r3_87, r3_90, r3_94, r3_95, r3_98, r3_100, r3_101, r3_104, r3_108, r3_109, r3_110, r3_113, r3_77, r3_91, r3_105, o1, c0, i1, e1, c1, c22, nat_succ]
    · simp only [ite_not, ite_self, w8_nil, ok01, ite10, rf_rv, rf_ref, rf_cat, rf_lk2, rf_some, rf_none, w_add, w_cons, cr_int, cr_long, cr_ref, cr_null, is_ref, is_null, l2_int, l2_ref, l2_null, l2_none, ent_nil, ent_int, ent_ref, ent_null, ent_rf, ent_long, ok_0, ok_1, af_ret, af_void, List.tail_cons, List.tail_nil, Nat.reduceAdd, Nat.reduceLeDiff, not_false_eq_true, not_true_eq_false, and_self, and_true, true_and, ne_eq, or_true, true_or, or_false, false_or, eq_self, Nat.reduceEqDiff, ↓reduceIte, false_and, and_false, Nat.le_refl, Nat.zero_le, nz_1, nz_2, nz_3, nz_4, nz_5, nz_6, nz_8, nz_10, nz_12, nz_20, nz_30, nz_60, nz_100, mc_B, mc_Z, mc_S, mc_C, mc_K, mc_N, mc_R, mc_I, mc_L, va_Is, va_Ls, va_us, va_iss, u2_ap, sp_isLedge, sp_isLadder, sp_isPerson, sp_isLiving, sp_isLot, sp_isThere, sp_isSpan, cs_K q, cs_B q, mc_s (cs_inj q), cs_f31 q, cs_f4 q, cs_f0 q, cs_f1 q, r3_73, r3_74, r3_80, r3_81, r3_84, r3_86, r3_87, r3_90, r3_94, r3_95, r3_98, r3_100, r3_101, r3_104, r3_108, r3_109, r3_110, r3_113, r3_77, r3_91, r3_105, o1, c0, i1, e1, c1, nat_succ]
  by_cases c4 : sp_stands F c y
  · rw [if_pos c4]
    obtain ⟨m, hm, hq⟩ := c4
    rw [et] at hm
    exact xp_find (P := fun k t => xm_run (d + 2) 3 71 (some (.ref (xd_X D)) :: some (.int c) :: some (.int y) :: some (.int s) :: some (.int f) :: some (.int t4) :: some (.int (Int32.ofNat k)) :: t) [] (xp_c h D F)) (fun k => F 3 k = c ∧ F 4 k = y) no (fun k t hk hq => by
      obtain ⟨i1, e1, c0, -, -⟩ := lp_k hl (by decide) (by rw [et]; exact hk)
      have o1 := cs_L q hk
      show xm_run _ _ _ _ _ _ = _
      rw [r3_71]
      simp only [ite_not, ite_self, w8_nil, ok01, ite10, rf_rv, rf_ref, rf_cat, rf_lk2, rf_some, rf_none, w_add, w_cons, cr_int, cr_long, cr_ref, cr_null, is_ref, is_null, l2_int, l2_ref, l2_null, l2_none, ent_nil, ent_int, ent_ref, ent_null, ent_rf, ent_long, ok_0, ok_1, af_ret, af_void, List.tail_cons, List.tail_nil, Nat.reduceAdd, Nat.reduceLeDiff, not_false_eq_true, not_true_eq_false, and_self, and_true, true_and, ne_eq, or_true, true_or, or_false, false_or, eq_self, Nat.reduceEqDiff, ↓reduceIte, false_and, and_false, Nat.le_refl, Nat.zero_le, nz_1, nz_2, nz_3, nz_4, nz_5, nz_6, nz_8, nz_10, nz_12, nz_20, nz_30, nz_60, nz_100, mc_B, mc_Z, mc_S, mc_C, mc_K, mc_N, mc_R, mc_I, mc_L, va_Is, va_Ls, va_us, va_iss, u2_ap, sp_isLedge, sp_isLadder, sp_isPerson, sp_isLiving, sp_isLot, sp_isThere, sp_isSpan, cs_K q, cs_B q, mc_s (cs_inj q), cs_f31 q, cs_f4 q, cs_f0 q, cs_f1 q, r3_73, r3_74, r3_80, r3_81, r3_84, r3_86, r3_87, r3_90, r3_94, r3_95, r3_98, r3_100, r3_101, r3_104, r3_108, r3_109, r3_110, r3_113, r3_77, r3_91, r3_105, o1, c0, i1, e1, hq]) hm hq m 0 [] (Nat.zero_add _)
  · rw [if_neg c4]
    obtain ⟨t, e, -⟩ := xp_loop (P := fun k (_ : Unit) t => xm_run (d + 2) 3 71 (some (.ref (xd_X D)) :: some (.int c) :: some (.int y) :: some (.int s) :: some (.int f) :: some (.int t4) :: some (.int (Int32.ofNat k)) :: t) [] (xp_c h D F)) (fun _ _ => True) (f := fun _ u => u) (n := xd_n D 0) (fun k _ t hk _ => by
      obtain ⟨t', e⟩ := no k t hk (fun z => c4 ⟨k, by rw [et]; exact hk, z⟩)
      exact ⟨t', e, trivial⟩) _ 0 () [] (Nat.zero_add _) trivial
    have c0 := (lp_end hl (by decide)).1
    rw [et, hnp] at c0
    obtain ⟨i1, e1⟩ := in_nat (show xd_n D 0 < 12 by omega) (by decide)
    have XZ := w.lt (cs_K q) (by decide)
    have nX : ¬ xd_X D = xm_Z h := by omega
    have nX1 : ¬ xd_X D = xm_Z h + 1 := by omega
    obtain ⟨r0, k0, n0, b0⟩ := cs_f0 q
    obtain ⟨r1, k1, n1, b1⟩ := cs_f1 q
    have z0 := w.lt k0 (by decide)
    have z1 := w.lt k1 (by decide)
    have nA : ¬ xd_A D 0 0 = xm_Z h := by omega
    have nA1 : ¬ xd_A D 0 0 = xm_Z h + 1 := by omega
    have nB : ¬ xd_A D 0 1 = xm_Z h := by omega
    have nB1 : ¬ xd_A D 0 1 = xm_Z h + 1 := by omega
    have nXA : ¬ xd_X D = xd_A D 0 0 := fun z => by
      have := cs_K q
      rw [z, k0] at this
      omega
    have en : ∀ p, xd_E D (xm_Z h) p = none := fun p => (w.2.1 (xm_Z h) p (Nat.le_refl _)).1
    have en1 : ∀ p, xd_E D (xm_Z h + 1) p = none := fun p => (w.2.1 (xm_Z h + 1) p (Nat.le_succ _)).1
    have el : xm_el 110 6 = true := rfl
    have kb := w.1
    have kb1 : xm_B h ≤ xm_Z h + 1 := by omega
    have nz : ¬ xm_Z h + 1 = xm_Z h := by omega
    have w1 : HW (nH3a h (xd_A D 0 0) (xd_n D 0) c y s f) D := (w.nw (kd := 6) (n := 0) (s := 11))
    rw [show Int32.ofNat 0 = (0 : Int32) from rfl] at e
    rw [e, r3_71]
    simp only [ite_not, ite_self, w8_nil, ok01, ite10, rf_rv, rf_ref, rf_cat, rf_lk2, rf_some, rf_none, w_add, w_cons, cr_int, cr_long, cr_ref, cr_null, is_ref, is_null, l2_int, l2_ref, l2_null, l2_none, ent_nil, ent_int, ent_ref, ent_null, ent_rf, ent_long, ok_0, ok_1, af_ret, af_void, List.tail_cons, List.tail_nil, Nat.reduceAdd, Nat.reduceLeDiff, not_false_eq_true, not_true_eq_false, and_self, and_true, true_and, ne_eq, or_true, true_or, or_false, false_or, eq_self, Nat.reduceEqDiff, ↓reduceIte, false_and, and_false, Nat.le_refl, Nat.zero_le, nz_1, nz_2, nz_3, nz_4, nz_5, nz_6, nz_8, nz_10, nz_12, nz_20, nz_30, nz_60, nz_100, mc_B, mc_Z, mc_S, mc_C, mc_K, mc_N, mc_R, mc_I, mc_L, va_Is, va_Ls, va_us, va_iss, u2_ap, sp_isLedge, sp_isLadder, sp_isPerson, sp_isLiving, sp_isLot, sp_isThere, sp_isSpan, cs_K q, cs_B q, mc_s (cs_inj q), cs_f31 q, cs_f4 q, cs_f0 q, cs_f1 q, r3_73, r3_74, r3_77, r3_116, r3_117, r3_120, r3_121, r3_124, r3_127, r3_128, r3_129, r3_130, r3_131, r3_133, r3_136, r3_137, r3_138, r3_141, r3_142, r3_145, r3_148, r3_149, r3_150, r3_151, r3_152, r3_154, r3_157, r3_158, r3_159, r3_160, r3_163, r3_164, r3_165, r3_168, r3_169, r3_172, r3_173, r3_174, hnp, mc_nw w, mc_nw w1, mc_sn, mc_sR, g_K_sI, g_N_sI, g_B_sI, g_Z_sI, g_K_sL, g_N_sL, g_B_sL, g_Z_sL, g_K_sR, g_N_sR, g_B_sR, g_Z_sR, g_L_sI, g_R_sI, g_I_sL, g_R_sL, g_I_sR, g_L_sR, g_R_sRv, g_K_nw, g_N_nw, g_B_nw, g_Z_nw, h_R_nw, h_I_nw, h_L_nw, c183, c0, nX, nX1, nXA, nA, nA1, nB, nB1, en, en1, el, k0, n0, b0, r0, k1, n1, b1, r1, i1, e1, kb, kb1, nz]
theorem fin_iff {f n : Int32} : (f = -1 ∨ (0 ≤ f ∧ f ≤ n - 1)) ↔ (-1 ≤ f ∧ f ≤ n - 1) ∨ f = -1 := by
  have l1 : (-1 : Int32).toInt = -1 := rfl
  have l0 : (0 : Int32).toInt = 0 := rfl
  constructor
  · rintro (e | ⟨a, b⟩)
    · exact Or.inr e
    · have a1 := Int32.le_iff_toInt_le.mp a
      exact Or.inl ⟨Int32.le_iff_toInt_le.mpr (by omega), b⟩
  · rintro (⟨a, b⟩ | e)
    · have a1 := Int32.le_iff_toInt_le.mp a
      by_cases e : f = -1
      · exact Or.inl e
      · have : ¬ f.toInt = -1 := fun z => e (i_eq (z.trans l1.symm))
        exact Or.inr ⟨Int32.le_iff_toInt_le.mpr (by omega), b⟩
    · exact Or.inl e
theorem fin_iff2 {f n : Int32} (hn : rg n 16) : (f = -1 ∨ (0 ≤ f ∧ f ≤ n - 1)) ↔ (-1 ≤ f ∧ f ≤ n - 1) := by
  rw [fin_iff]
  refine ⟨fun h => ?_, Or.inl⟩
  rcases h with h | h
  · exact h
  · rw [h]
    have h1 := hn.1
    exact ⟨Int32.le_refl _, Int32.le_iff_toInt_le.mpr (by rw [ti_sub1 h1, show (-1 : Int32).toInt = -1 from rfl]; omega)⟩
theorem c3 (q : CS h D) (w : HW h D) (v : VN D) (n01 : ¬ xd_A D 0 0 = xd_A D 0 1) (hn : CN D F) (hz : ∀ n, xd_n D 0 ≤ n → n < 12 → F 6 n = 0 ∧ F 7 n = 0 ∧ F 10 n = 0 ∧ F 12 n = 0 ∧ F 13 n = 0) {c y s f : Int32} : ∃ h' D', xm_met (d + 2) 3 [.ref (xd_X D), .int c, .int y, .int s, .int f] (xp_c h D F) = some (.inl (some (.int (sp_ledge F c y s f).1)), xp_c h' D' (sp_ledC F c y s f)) ∧ GX 2 22 h D h' D' ∧ CN D' (sp_ledC F c y s f) ∧ (sp_ledge F c y s f = (-1, F) ∧ sp_ledC F c y s f = F ∧ D' = D ∨ okL F c y s f ∧ xd_n D' 0 = xd_n D 0 + 1 ∧ (∀ j, ¬ j = 0 → xd_n D' j = xd_n D j) ∧ ∀ i, xd_m D' i = xd_m D i) := by
  have n12 := (cs_n q).1
  have hnp := hn.1
  have pi := fin_iff2 (f := f) (hn.p q)
  by_cases c0 : okL F c y s f
  case neg =>
    have e1 : sp_ledge F c y s f = (-1, F) := if_neg c0
    have e2 : sp_ledC F c y s f = F := if_neg c0
    refine ⟨h, D, ?_, (GX.rf q w v).mono (by decide) (by decide), by rw [e2]; exact hn, Or.inl ⟨e1, e2, rfl⟩⟩
    rw [e1, e2]
    unfold xm_met
    by_cases c1 : 0 ≤ c ∧ c ≤ 15
    case neg => simp only [ite_not, ite_self, w8_nil, ok01, ite10, rf_rv, rf_ref, rf_cat, rf_lk2, rf_some, rf_none, w_add, w_cons, cr_int, cr_long, cr_ref, cr_null, is_ref, is_null, l2_int, l2_ref, l2_null, l2_none, ent_nil, ent_int, ent_ref, ent_null, ent_rf, ent_long, ok_0, ok_1, af_ret, af_void, List.tail_cons, List.tail_nil, Nat.reduceAdd, Nat.reduceLeDiff, not_false_eq_true, not_true_eq_false, and_self, and_true, true_and, ne_eq, or_true, true_or, or_false, false_or, eq_self, Nat.reduceEqDiff, ↓reduceIte, false_and, and_false, Nat.le_refl, Nat.zero_le, nz_1, nz_2, nz_3, nz_4, nz_5, nz_6, nz_8, nz_10, nz_12, nz_20, nz_30, nz_60, nz_100, mc_B, mc_Z, mc_S, mc_C, mc_K, mc_N, mc_R, mc_I, mc_L, va_Is, va_Ls, va_us, va_iss, u2_ap, sp_isLedge, sp_isLadder, sp_isPerson, sp_isLiving, sp_isLot, sp_isThere, sp_isSpan, cs_K q, cs_B q, mc_s (cs_inj q), cs_f31 q, cs_f4 q, cs_f0 q, cs_f1 q, r3_0, r3_1, r3_2, r3_4, r3_10, r3_11, r3_12, r3_14, r3_20, r3_21, r3_22, r3_24, r3_30, r3_32, r3_33, r3_34, r3_37, r3_38, r3_39, r3_45, r3_46, r3_49, r3_50, r3_52, r3_57, r3_58, r3_61, r3_66, r3_67, r3_7, r3_17, r3_27, r3_42, r3_54, r3_63, c2, c1]
    by_cases c22 : 0 ≤ y ∧ y ≤ 98
    case neg => simp only [ite_not, ite_self, w8_nil, ok01, ite10, rf_rv, rf_ref, rf_cat, rf_lk2, rf_some, rf_none, w_add, w_cons, cr_int, cr_long, cr_ref, cr_null, is_ref, is_null, l2_int, l2_ref, l2_null, l2_none, ent_nil, ent_int, ent_ref, ent_null, ent_rf, ent_long, ok_0, ok_1, af_ret, af_void, List.tail_cons, List.tail_nil, Nat.reduceAdd, Nat.reduceLeDiff, not_false_eq_true, not_true_eq_false, and_self, and_true, true_and, ne_eq, or_true, true_or, or_false, false_or, eq_self, Nat.reduceEqDiff, ↓reduceIte, false_and, and_false, Nat.le_refl, Nat.zero_le, nz_1, nz_2, nz_3, nz_4, nz_5, nz_6, nz_8, nz_10, nz_12, nz_20, nz_30, nz_60, nz_100, mc_B, mc_Z, mc_S, mc_C, mc_K, mc_N, mc_R, mc_I, mc_L, va_Is, va_Ls, va_us, va_iss, u2_ap, sp_isLedge, sp_isLadder, sp_isPerson, sp_isLiving, sp_isLot, sp_isThere, sp_isSpan, cs_K q, cs_B q, mc_s (cs_inj q), cs_f31 q, cs_f4 q, cs_f0 q, cs_f1 q, r3_0, r3_1, r3_2, r3_4, r3_10, r3_11, r3_12, r3_14, r3_20, r3_21, r3_22, r3_24, r3_30, r3_32, r3_33, r3_34, r3_37, r3_38, r3_39, r3_45, r3_46, r3_49, r3_50, r3_52, r3_57, r3_58, r3_61, r3_66, r3_67, r3_7, r3_17, r3_27, r3_42, r3_54, r3_63, c2, c1, c22]
    by_cases c3 : 0 ≤ s ∧ s ≤ 9
    case neg => simp only [ite_not, ite_self, w8_nil, ok01, ite10, rf_rv, rf_ref, rf_cat, rf_lk2, rf_some, rf_none, w_add, w_cons, cr_int, cr_long, cr_ref, cr_null, is_ref, is_null, l2_int, l2_ref, l2_null, l2_none, ent_nil, ent_int, ent_ref, ent_null, ent_rf, ent_long, ok_0, ok_1, af_ret, af_void, List.tail_cons, List.tail_nil, Nat.reduceAdd, Nat.reduceLeDiff, not_false_eq_true, not_true_eq_false, and_self, and_true, true_and, ne_eq, or_true, true_or, or_false, false_or, eq_self, Nat.reduceEqDiff, ↓reduceIte, false_and, and_false, Nat.le_refl, Nat.zero_le, nz_1, nz_2, nz_3, nz_4, nz_5, nz_6, nz_8, nz_10, nz_12, nz_20, nz_30, nz_60, nz_100, mc_B, mc_Z, mc_S, mc_C, mc_K, mc_N, mc_R, mc_I, mc_L, va_Is, va_Ls, va_us, va_iss, u2_ap, sp_isLedge, sp_isLadder, sp_isPerson, sp_isLiving, sp_isLot, sp_isThere, sp_isSpan, cs_K q, cs_B q, mc_s (cs_inj q), cs_f31 q, cs_f4 q, cs_f0 q, cs_f1 q, r3_0, r3_1, r3_2, r3_4, r3_10, r3_11, r3_12, r3_14, r3_20, r3_21, r3_22, r3_24, r3_30, r3_32, r3_33, r3_34, r3_37, r3_38, r3_39, r3_45, r3_46, r3_49, r3_50, r3_52, r3_57, r3_58, r3_61, r3_66, r3_67, r3_7, r3_17, r3_27, r3_42, r3_54, r3_63, c2, c1, c22, c3]
    by_cases c4 : -1 ≤ f ∧ f ≤ F 0 61 - 1
    case neg => simp only [ite_not, ite_self, w8_nil, ok01, ite10, rf_rv, rf_ref, rf_cat, rf_lk2, rf_some, rf_none, w_add, w_cons, cr_int, cr_long, cr_ref, cr_null, is_ref, is_null, l2_int, l2_ref, l2_null, l2_none, ent_nil, ent_int, ent_ref, ent_null, ent_rf, ent_long, ok_0, ok_1, af_ret, af_void, List.tail_cons, List.tail_nil, Nat.reduceAdd, Nat.reduceLeDiff, not_false_eq_true, not_true_eq_false, and_self, and_true, true_and, ne_eq, or_true, true_or, or_false, false_or, eq_self, Nat.reduceEqDiff, ↓reduceIte, false_and, and_false, Nat.le_refl, Nat.zero_le, nz_1, nz_2, nz_3, nz_4, nz_5, nz_6, nz_8, nz_10, nz_12, nz_20, nz_30, nz_60, nz_100, mc_B, mc_Z, mc_S, mc_C, mc_K, mc_N, mc_R, mc_I, mc_L, va_Is, va_Ls, va_us, va_iss, u2_ap, sp_isLedge, sp_isLadder, sp_isPerson, sp_isLiving, sp_isLot, sp_isThere, sp_isSpan, cs_K q, cs_B q, mc_s (cs_inj q), cs_f31 q, cs_f4 q, cs_f0 q, cs_f1 q, r3_0, r3_1, r3_2, r3_4, r3_10, r3_11, r3_12, r3_14, r3_20, r3_21, r3_22, r3_24, r3_30, r3_32, r3_33, r3_34, r3_37, r3_38, r3_39, r3_45, r3_46, r3_49, r3_50, r3_52, r3_57, r3_58, r3_61, r3_66, r3_67, r3_7, r3_17, r3_27, r3_42, r3_54, r3_63, c2, c1, c22, c3, c4]
    by_cases c5 : F 0 6 = 12
    · simp only [ite_not, ite_self, w8_nil, ok01, ite10, rf_rv, rf_ref, rf_cat, rf_lk2, rf_some, rf_none, w_add, w_cons, cr_int, cr_long, cr_ref, cr_null, is_ref, is_null, l2_int, l2_ref, l2_null, l2_none, ent_nil, ent_int, ent_ref, ent_null, ent_rf, ent_long, ok_0, ok_1, af_ret, af_void, List.tail_cons, List.tail_nil, Nat.reduceAdd, Nat.reduceLeDiff, not_false_eq_true, not_true_eq_false, and_self, and_true, true_and, ne_eq, or_true, true_or, or_false, false_or, eq_self, Nat.reduceEqDiff, ↓reduceIte, false_and, and_false, Nat.le_refl, Nat.zero_le, nz_1, nz_2, nz_3, nz_4, nz_5, nz_6, nz_8, nz_10, nz_12, nz_20, nz_30, nz_60, nz_100, mc_B, mc_Z, mc_S, mc_C, mc_K, mc_N, mc_R, mc_I, mc_L, va_Is, va_Ls, va_us, va_iss, u2_ap, sp_isLedge, sp_isLadder, sp_isPerson, sp_isLiving, sp_isLot, sp_isThere, sp_isSpan, cs_K q, cs_B q, mc_s (cs_inj q), cs_f31 q, cs_f4 q, cs_f0 q, cs_f1 q, r3_0, r3_1, r3_2, r3_4, r3_10, r3_11, r3_12, r3_14, r3_20, r3_21, r3_22, r3_24, r3_30, r3_32, r3_33, r3_34, r3_37, r3_38, r3_39, r3_45, r3_46, r3_49, r3_50, r3_52, r3_57, r3_58, r3_61, r3_66, r3_67, r3_7, r3_17, r3_27, r3_42, r3_54, r3_63, c2, c1, c22, c3, c4, c5]
    have hc : ¬ xd_n D 0 = 12 := fun z => c5 (by rw [hn.1, z]; rfl)
    have st : sp_stands F c y := Classical.not_not.mp fun z => c0 ⟨c1, c22, c3, pi.mpr c4, c5, z⟩
    have lp := c3l (d := d) q w hn hc (c := c) (y := y) (s := s) (f := f) (t4 := 1)
    rw [if_pos st] at lp
    simp only [ite_not, ite_self, w8_nil, ok01, ite10, rf_rv, rf_ref, rf_cat, rf_lk2, rf_some, rf_none, w_add, w_cons, cr_int, cr_long, cr_ref, cr_null, is_ref, is_null, l2_int, l2_ref, l2_null, l2_none, ent_nil, ent_int, ent_ref, ent_null, ent_rf, ent_long, ok_0, ok_1, af_ret, af_void, List.tail_cons, List.tail_nil, Nat.reduceAdd, Nat.reduceLeDiff, not_false_eq_true, not_true_eq_false, and_self, and_true, true_and, ne_eq, or_true, true_or, or_false, false_or, eq_self, Nat.reduceEqDiff, ↓reduceIte, false_and, and_false, Nat.le_refl, Nat.zero_le, nz_1, nz_2, nz_3, nz_4, nz_5, nz_6, nz_8, nz_10, nz_12, nz_20, nz_30, nz_60, nz_100, mc_B, mc_Z, mc_S, mc_C, mc_K, mc_N, mc_R, mc_I, mc_L, va_Is, va_Ls, va_us, va_iss, u2_ap, sp_isLedge, sp_isLadder, sp_isPerson, sp_isLiving, sp_isLot, sp_isThere, sp_isSpan, cs_K q, cs_B q, mc_s (cs_inj q), cs_f31 q, cs_f4 q, cs_f0 q, cs_f1 q, r3_0, r3_1, r3_2, r3_4, r3_10, r3_11, r3_12, r3_14, r3_20, r3_21, r3_22, r3_24, r3_30, r3_32, r3_33, r3_34, r3_37, r3_38, r3_39, r3_45, r3_46, r3_49, r3_50, r3_52, r3_57, r3_58, r3_61, r3_66, r3_67, r3_68, r3_69, r3_7, r3_17, r3_27, r3_42, r3_54, r3_63, c2, c1, c22, c3, c4, c5, lp]
  obtain ⟨c1, c22, c3, c4, c5, c6⟩ := c0
  have c4 := pi.mp c4
  have hc : ¬ xd_n D 0 = 12 := fun z => c5 (by rw [hn.1, z]; rfl)
  have et : (F 0 6).toNatClampNeg = xd_n D 0 := by
    rw [hn.1]
    exact (in_nat (show xd_n D 0 < 12 by omega) (by decide)).2
  have c0 : okL F c y s f := ⟨c1, c22, c3, pi.mpr c4, c5, c6⟩
  have hS : (sp_ledge F c y s f).2 = xm_u2 (xm_u2 (xm_u2 (xm_u2 (xm_u2 (xm_u2 (xm_u2 F 3 (xd_n D 0) c) 4 (xd_n D 0) y) 5 (xd_n D 0) s) 9 (xd_n D 0) f) 8 (xd_n D 0) 100) 11 (xd_n D 0) 9) 0 6 (Int32.ofNat (xd_n D 0) + 1) := by
    unfold sp_ledge
    rw [if_pos c0, et, hn.1]
  have e1 : (sp_ledge F c y s f).1 = Int32.ofNat (xd_n D 0) + 1 - 1 := by
    unfold sp_ledge
    rw [if_pos c0, hn.1]
  have e2 : sp_ledC F c y s f = sp_trl (sp_ledge F c y s f).2 (xd_n D 0) c y s f := by
    unfold sp_ledC
    rw [if_pos c0, et]
  have G := c3g q w v n01 (c := c) (y := y) (s := s) (f := f) hc
  refine ⟨nH3 h (xd_A D 0 0) (xd_A D 0 1) (xd_n D 0) c y s f, nD3 D (xm_Z h) (xd_n D 0), ?_, G, ?_, Or.inr ⟨c0, (if_pos rfl : (if 0 = 0 then xd_n D 0 + 1 else xd_n D 0) = _), fun j hj => (if_neg hj : (if j = 0 then xd_n D 0 + 1 else xd_n D j) = _), fun i => rfl⟩⟩
  · rw [e1, e2, ← c3e (h := h) (D := D) (F := F) w hS v rfl (hz _ (Nat.le_refl _) (by omega))]
    have lp := c3l (d := d) q w hn hc (c := c) (y := y) (s := s) (f := f) (t4 := 1)
    rw [if_neg c6] at lp
    unfold xm_met
    simp only [ite_not, ite_self, w8_nil, ok01, ite10, rf_rv, rf_ref, rf_cat, rf_lk2, rf_some, rf_none, w_add, w_cons, cr_int, cr_long, cr_ref, cr_null, is_ref, is_null, l2_int, l2_ref, l2_null, l2_none, ent_nil, ent_int, ent_ref, ent_null, ent_rf, ent_long, ok_0, ok_1, af_ret, af_void, List.tail_cons, List.tail_nil, Nat.reduceAdd, Nat.reduceLeDiff, not_false_eq_true, not_true_eq_false, and_self, and_true, true_and, ne_eq, or_true, true_or, or_false, false_or, eq_self, Nat.reduceEqDiff, ↓reduceIte, false_and, and_false, Nat.le_refl, Nat.zero_le, nz_1, nz_2, nz_3, nz_4, nz_5, nz_6, nz_8, nz_10, nz_12, nz_20, nz_30, nz_60, nz_100, mc_B, mc_Z, mc_S, mc_C, mc_K, mc_N, mc_R, mc_I, mc_L, va_Is, va_Ls, va_us, va_iss, u2_ap, sp_isLedge, sp_isLadder, sp_isPerson, sp_isLiving, sp_isLot, sp_isThere, sp_isSpan, cs_K q, cs_B q, mc_s (cs_inj q), cs_f31 q, cs_f4 q, cs_f0 q, cs_f1 q, r3_0, r3_1, r3_2, r3_4, r3_10, r3_11, r3_12, r3_14, r3_20, r3_21, r3_22, r3_24, r3_30, r3_32, r3_33, r3_34, r3_37, r3_38, r3_39, r3_45, r3_46, r3_49, r3_50, r3_52, r3_57, r3_58, r3_61, r3_66, r3_67, r3_68, r3_69, r3_7, r3_17, r3_27, r3_42, r3_54, r3_63, c2, c1, c22, c3, c4, c5, lp]
  · have g : ∀ k, sp_ledC F c y s f 0 k = xm_u2 F 0 6 (Int32.ofNat (xd_n D 0) + 1) 0 k := by
      intro k
      rw [e2]
      unfold sp_trl
      rw [if_neg (by omega), hS]
      simp only [u2_ap, Nat.reduceEqDiff, false_and, ↓reduceIte]
    refine ⟨?_, ?_, ?_, ?_⟩
    · rw [g]
      show _ = Int32.ofNat (xd_n D 0 + 1)
      simp only [u2_ap, and_self, ↓reduceIte, nat_succ]
    · rw [g]
      exact hn.2.1
    · rw [g]
      exact hn.2.2.1
    · rw [g]
      exact hn.2.2.2
end LEDGE
