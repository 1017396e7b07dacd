/-! a person comes -/
set_option maxRecDepth 100000
section PERSON
variable {d : Nat} {h : xm_H} {D : xp_D} {F : xp_F}
theorem c213 {a : Nat} {v : Int32} (hk : xm_K h a = 18) (hB : xm_B h ≤ a) : xm_met (d + 1) 213 [.ref a, .int v] h = some (.inl none, xm_sI (xm_sI (xm_sI h a 1 (-1)) a 4 1) a 0 v) := by
  unfold xm_met
  have o : xm_ok .boolean 1 = true := by decide
  simp only [ite_not, ite_self, w8_nil, ok01, ite10, rf_rv, rf_ref, rf_cat, rf_lk2, rf_some, rf_none, w_add, w_cons, cr_int, cr_long, cr_ref, cr_null, is_ref, is_null, l2_int, l2_ref, l2_null, l2_none, ent_nil, ent_int, ent_ref, ent_null, ent_rf, ent_long, ok_0, ok_1, af_ret, af_void, List.tail_cons, List.tail_nil, Nat.reduceAdd, Nat.reduceLeDiff, not_false_eq_true, not_true_eq_false, and_self, and_true, true_and, ne_eq, or_true, true_or, or_false, false_or, eq_self, Nat.reduceEqDiff, ↓reduceIte, false_and, and_false, Nat.le_refl, Nat.zero_le, nz_1, nz_2, nz_3, nz_4, nz_5, nz_6, nz_8, nz_10, nz_12, nz_20, nz_30, nz_60, nz_100, g_K_sI, g_N_sI, g_B_sI, g_Z_sI, g_K_sL, g_N_sL, g_B_sL, g_Z_sL, g_K_sR, g_N_sR, g_B_sR, g_Z_sR, g_L_sI, g_R_sI, g_I_sL, g_R_sL, g_I_sR, g_L_sR, g_R_sRv, g_K_nw, g_N_nw, g_B_nw, g_Z_nw, h_R_nw, h_I_nw, h_L_nw, r213_0, r213_1, r213_4, r213_5, r213_6, r213_9, r213_10, r213_11, r213_14, r213_15, r213_16, r213_19, hk, hB, o]
abbrev nH41 (h : xm_H) (a n : Nat) (v : Int32) : xm_H := xm_sR (xm_sI (xm_sI (xm_sI (xm_nw h 18 0 5) (xm_Z h) 1 (-1)) (xm_Z h) 4 1) (xm_Z h) 0 v) a n (some (xm_Z h))
abbrev nE41 (z n : Nat) (a p : Nat) : Option (Nat × Nat) := if a = z then enm cs_person n p else none
abbrev nD41 (D : xp_D) (z n : Nat) : xp_D := exE D z (nE41 z n) (fun _ _ => none) (fun k r => if k = 3 ∧ r = n then z else xd_A D k r) (fun j => if j = 1 then n + 1 else xd_n D j) (xd_m D)
theorem e41_mem {z n a p : Nat} {x : Nat × Nat} (e : nE41 z n a p = some x) : a = z ∧ x.2 = n ∧ (p, x.1) ∈ cs_person := by
  unfold nE41 at e
  by_cases c : a = z
  · rw [if_pos c] at e
    exact ⟨c, enm_mem e⟩
  · rw [if_neg c] at e
    cases e
theorem p_range : ∀ y ∈ cs_person, 39 ≤ y.2 ∧ y.2 ≤ 43 := by decide
theorem c41g (q : CS h D) (w : HW h D) (v : VN D) {x : Int32} (hc : ¬ xd_n D 1 = 16) : GX 1 5 h D (nH41 h (xd_A D 0 30) (xd_n D 1) x) (nD41 D (xm_Z h) (xd_n D 1)) := by
  have n16 := (cs_n q).2.1
  have qz := w.1
  obtain ⟨r30, k30, n30, b30⟩ := cs_f30 q
  have z30 := w.lt k30 (by decide)
  have gx0 : gx 1 5 h (nH41 h (xd_A D 0 30) (xd_n D 1) x) := ((((hx_nw (kd := 18) (n := 0) (s := 5)).sI (Nat.le_refl _)).sI (Nat.le_refl _)).sI (Nat.le_refl _)).gx.sR (Or.inr (Or.inr (Or.inl k30)))
  have N : nNM D (nE41 (xm_Z h) (xd_n D 1)) (fun _ _ => none) := by
    refine ⟨fun a p b r y h1 h2 => ?_, (fun a p b r y h1 h2 => by exact absurd h1 (by simp)), (fun a p b r y h1 h2 => by exact absurd h2 (by simp)), fun a p y h1 => ?_⟩
    · have a1 := (e41_mem h1).1
      have b1 := (e41_mem h2).1
      unfold nE41 at h1 h2
      rw [if_pos a1] at h1
      rw [if_pos b1] at h2
      exact ⟨a1.trans b1.symm, enm_inj (by decide) h1 h2⟩
    · rcases h1 with h1 | h1
      · obtain ⟨-, a2, a3⟩ := e41_mem h1
        have := p_range _ a3
        intro hk
        have := hk.2.2.1 this
        omega
      · cases h1
  have v' : VN (nD41 D (xm_Z h) (xd_n D 1)) := ex_VN v (Nat.le_refl _) (Nat.le_succ _) (Nat.le_refl _) (Nat.le_refl _) (fun a p y h1 => by
    rcases h1 with h1 | h1
    · obtain ⟨-, a2, a3⟩ := e41_mem h1
      have t := p_range _ a3
      show nok (xd_n D 0) (xd_n D 1 + 1) (xd_n D 2) (xd_n D 3) y.1 y.2
      exact ⟨by unfold mnm; omega, by omega, by omega, by omega, by omega, by omega⟩
    · cases h1)
  have Kz : xm_K (nH41 h (xd_A D 0 30) (xd_n D 1) x) (xm_Z h) = 18 := by
    show xm_K (xm_nw h 18 0 5) (xm_Z h) = 18
    rw [h_K_nw, if_pos rfl]
  have R : ∀ a p, a < xm_Z h → ¬ (a = xd_A D 0 30 ∧ p = xd_n D 1) → xm_R (nH41 h (xd_A D 0 30) (xd_n D 1) x) a p = xm_R h a p := by
    intro a p ha hn
    rw [h_R_sR, if_neg hn]
    show xm_R (xm_nw h 18 0 5) a p = _
    rw [h_R_nw, if_neg (by omega)]
  have W : HW (nH41 h (xd_A D 0 30) (xd_n D 1) x) (nD41 D (xm_Z h) (xd_n D 1)) := ex_HW w gx0 (fun a ha => by
    have ha : xm_Z h + 1 ≤ a := ha
    show xm_K (xm_nw h 18 0 5) a = 0
    rw [h_K_nw, if_neg (by omega)]
    exact w.2.2 a (by omega)) (fun a p ha => by
    have ha : xm_Z h + 1 ≤ a := ha
    exact ⟨if_neg (by omega), rfl⟩)
  have ne0 : ∀ k, ¬ k = 30 → (k = 0 ∨ k = 1 ∨ k = 16 ∨ k = 19 ∨ k = 36 ∨ k = 38) → xd_A D 0 k < xm_Z h ∧ ¬ xd_A D 0 k = xd_A D 0 30 := by
    intro k hk hk2
    have kk : xm_K h (xd_A D 0 k) = 110 ∨ xm_K h (xd_A D 0 k) = 112 ∨ xm_K h (xd_A D 0 k) = 114 ∨ xm_K h (xd_A D 0 k) = 116 ∨ xm_K h (xd_A D 0 k) = 117 := by
      rcases hk2 with e | e | e | e | e | e <;> rw [e]
      · exact Or.inl (cs_f0 q).2.1
      · exact Or.inl (cs_f1 q).2.1
      · exact Or.inr (Or.inl (cs_f16 q).2.1)
      · exact Or.inr (Or.inr (Or.inl (cs_f19 q).2.1))
      · exact Or.inr (Or.inr (Or.inr (Or.inl (cs_f36 q).2.1)))
      · exact Or.inr (Or.inr (Or.inr (Or.inr (cs_f38 q).2.1)))
    refine ⟨w.lt rfl (by omega), fun e => ?_⟩
    rw [e, k30] at kk
    omega
  have A0 : ∀ k, xd_A (nD41 D (xm_Z h) (xd_n D 1)) 0 k = xd_A D 0 k := fun k => by
    show (if 0 = 3 ∧ k = xd_n D 1 then xm_Z h else xd_A D 0 k) = _
    rw [if_neg (by omega)]
  have Ak : ∀ k r, ¬ k = 3 → xd_A (nD41 D (xm_Z h) (xd_n D 1)) k r = xd_A D k r := fun k r hk => if_neg (by omega : ¬ (k = 3 ∧ r = xd_n D 1))
  refine ⟨?_, W, v', gx0, ex_sE, ex_sL, rfl, A0, fun k r hk => Ak k r (by omega)⟩
  refine q.ext w gx0 ex_sE ex_sL (ex_inj q.1 v N) rfl A0 (fun k r hk => Ak k r (by omega)) ?_ ?_ ?_ ?_ ?_ ?_ ?_ ?_ ?_ ?_ ?_
  · intro l hl
    have a0 := ne0 0 (by decide) (by omega)
    have a1 := ne0 1 (by decide) (by omega)
    exact ⟨Ak 1 l (by decide), Ak 2 l (by decide), R _ _ a0.1 (fun e => a0.2 e.1), R _ _ a1.1 (fun e => a1.2 e.1)⟩
  · intro p hp
    exact ⟨if_neg (by omega), R _ _ z30 (fun e => by have := e.2; omega)⟩
  · intro i hi
    have a0 := ne0 36 (by decide) (by omega)
    exact ⟨Ak 4 i (by decide), Ak 5 i (by decide), R _ _ a0.1 (fun e => a0.2 e.1), rfl⟩
  · intro b hb
    have a0 := ne0 38 (by decide) (by omega)
    exact ⟨Ak 6 b (by decide), R _ _ a0.1 (fun e => a0.2 e.1)⟩
  · intro p
    have a0 := ne0 16 (by decide) (by omega)
    exact R _ _ a0.1 (fun e => a0.2 e.1)
  · intro p
    have a0 := ne0 19 (by decide) (by omega)
    exact R _ _ a0.1 (fun e => a0.2 e.1)
  · intro l hl hn
    exact absurd hl hn
  · intro p hp hn
    have hp : p < xd_n D 1 + 1 := hp
    have e : p = xd_n D 1 := by omega
    have az : xd_A (nD41 D (xm_Z h) (xd_n D 1)) 3 p = xm_Z h := if_pos ⟨rfl, e⟩
    rw [A0, az]
    refine ⟨?_, Kz, w.1, fun y hy => ?_⟩
    · rw [h_R_sR, if_pos ⟨rfl, e⟩]
    · rw [ex_E, if_neg (Nat.lt_irrefl _), e]
      show nE41 _ _ _ _ = _
      unfold nE41
      rw [if_pos rfl]
      exact enm_get (by decide) y hy
  · intro i hi hn
    exact absurd hi hn
  · intro b hb hn
    exact absurd hb hn
  · have := cs_n q
    show xd_n D 0 ≤ 12 ∧ xd_n D 1 + 1 ≤ 16 ∧ xd_n D 2 ≤ 40 ∧ xd_n D 3 ≤ 4
    omega
theorem c41 (q : CS h D) (w : HW h D) (v : VN D) (hn : CN D F) (hz : ∀ n, xd_n D 1 ≤ n → F 41 n = 0 ∧ F 42 n = 0) {x : Int32} : ∃ h' D', xm_met (d + 2) 41 [.ref (xd_X D), .int x] (xp_c h D F) = some (.inl (some (.int (sp_person F x).1)), xp_c h' D' (sp_person F x).2) ∧ GX 1 5 h D h' D' ∧ CN D' (sp_person F x).2 ∧ (sp_person F x = (-1, F) ∧ D' = D ∨ ((30 ≤ x ∧ x ≤ 120) ∧ ¬ F 0 61 = 16) ∧ xd_n D' 1 = xd_n D 1 + 1 ∧ (∀ j, ¬ j = 1 → xd_n D' j = xd_n D j) ∧ ∀ i, xd_m D' i = xd_m D i) := by
  have n16 := (cs_n q).2.1
  have hp := hn.p q
  by_cases c : (30 ≤ x ∧ x ≤ 120) ∧ ¬ F 0 61 = 16
  case neg =>
    refine ⟨h, D, ?_, (GX.rf q w v).mono (by decide) (by decide), ?_, Or.inl ⟨if_neg c, rfl⟩⟩
    · unfold xm_met sp_person
      rw [if_neg c]
      by_cases c1 : 30 ≤ x ∧ x ≤ 120
      · have cq2 : F 0 61 = 16 := Classical.not_not.mp fun z => c ⟨c1, z⟩
        simp only [ite_not, ite_self, w8_nil, ok01, ite10, rf_rv, rf_ref, rf_cat, rf_lk2, rf_some, rf_none, w_add, w_cons, cr_int, cr_long, cr_ref, cr_null, is_ref, is_null, l2_int, l2_ref, l2_null, l2_none, ent_nil, ent_int, ent_ref, ent_null, ent_rf, ent_long, ok_0, ok_1, af_ret, af_void, List.tail_cons, List.tail_nil, Nat.reduceAdd, Nat.reduceLeDiff, not_false_eq_true, not_true_eq_false, and_self, and_true, true_and, ne_eq, or_true, true_or, or_false, false_or, eq_self, Nat.reduceEqDiff, ↓reduceIte, false_and, and_false, Nat.le_refl, Nat.zero_le, nz_1, nz_2, nz_3, nz_4, nz_5, nz_6, nz_8, nz_10, nz_12, nz_20, nz_30, nz_60, nz_100, mc_B, mc_Z, mc_S, mc_C, mc_K, mc_N, mc_R, mc_I, mc_L, va_Is, va_Ls, va_us, va_iss, u2_ap, sp_isLedge, sp_isLadder, sp_isPerson, sp_isLiving, sp_isLot, sp_isThere, sp_isSpan, cs_K q, cs_B q, mc_s (cs_inj q), cs_f31 q, cs_f30 q, cs_f32 q, r41_0, r41_1, r41_3, r41_5, r41_11, r41_12, r41_15, r41_20, r41_21, r41_8, r41_17, c2, c1, cq2]
      · simp only [ite_not, ite_self, w8_nil, ok01, ite10, rf_rv, rf_ref, rf_cat, rf_lk2, rf_some, rf_none, w_add, w_cons, cr_int, cr_long, cr_ref, cr_null, is_ref, is_null, l2_int, l2_ref, l2_null, l2_none, ent_nil, ent_int, ent_ref, ent_null, ent_rf, ent_long, ok_0, ok_1, af_ret, af_void, List.tail_cons, List.tail_nil, Nat.reduceAdd, Nat.reduceLeDiff, not_false_eq_true, not_true_eq_false, and_self, and_true, true_and, ne_eq, or_true, true_or, or_false, false_or, eq_self, Nat.reduceEqDiff, ↓reduceIte, false_and, and_false, Nat.le_refl, Nat.zero_le, nz_1, nz_2, nz_3, nz_4, nz_5, nz_6, nz_8, nz_10, nz_12, nz_20, nz_30, nz_60, nz_100, mc_B, mc_Z, mc_S, mc_C, mc_K, mc_N, mc_R, mc_I, mc_L, va_Is, va_Ls, va_us, va_iss, u2_ap, sp_isLedge, sp_isLadder, sp_isPerson, sp_isLiving, sp_isLot, sp_isThere, sp_isSpan, cs_K q, cs_B q, mc_s (cs_inj q), cs_f31 q, cs_f30 q, cs_f32 q, r41_0, r41_1, r41_3, r41_5, r41_11, r41_12, r41_15, r41_20, r41_21, r41_8, r41_17, c2, c1]
    · unfold sp_person
      rw [if_neg c]
      exact hn
  have hc : ¬ xd_n D 1 = 16 := fun z => c.2 (by rw [hn.2.1, z]; rfl)
  obtain ⟨i1, e1⟩ := in_nat (show xd_n D 1 < 16 by omega) (by decide)
  have G := c41g q w v (x := x) hc
  have XZ := w.lt (cs_K q) (by decide)
  have nX : ¬ xd_X D = xm_Z h := by omega
  obtain ⟨r30, k30, n30, b30⟩ := cs_f30 q
  have nA : ¬ xd_A D 0 30 = xm_Z h := by have := w.lt k30 (by decide); omega
  have en : ∀ p, xd_E D (xm_Z h) p = none := fun p => (w.2.1 (xm_Z h) p (Nat.le_refl _)).1
  have el : xm_el 115 18 = true := rfl
  have hnp := hn.2.1
  have c1 := c.1
  have cq2 : ¬ (Int32.ofNat (xd_n D 1) = 16) := by rw [← hnp]; exact c.2
  refine ⟨nH41 h (xd_A D 0 30) (xd_n D 1) x, nD41 D (xm_Z h) (xd_n D 1), ?_, G, ?_, Or.inr ⟨c, (if_pos rfl : (if 1 = 1 then xd_n D 1 + 1 else xd_n D 1) = _), fun j hj => (if_neg hj : (if j = 1 then xd_n D 1 + 1 else xd_n D j) = _), fun i => rfl⟩⟩
  · have hS : (sp_person F x).2 = xm_u2 (if F 0 62 = -1 then xm_u2 (xm_u2 (xm_u2 (xm_u2 F 39 (xd_n D 1) x) 40 (xd_n D 1) (-1)) 43 (xd_n D 1) 1) 0 62 (Int32.ofNat (xd_n D 1)) else xm_u2 (xm_u2 (xm_u2 F 39 (xd_n D 1) x) 40 (xd_n D 1) (-1)) 43 (xd_n D 1) 1) 0 61 (Int32.ofNat (xd_n D 1) + 1) := by
      unfold sp_person
      rw [if_pos c, hnp, e1]
    have hV : ∀ o k, (sp_person F x).2 o k = if o = 39 ∧ k = xd_n D 1 then x else if o = 40 ∧ k = xd_n D 1 then -1 else if o = 43 ∧ k = xd_n D 1 then 1 else xm_u2 (if F 0 62 = -1 then xm_u2 F 0 62 (Int32.ofNat (xd_n D 1)) else F) 0 61 (Int32.ofNat (xd_n D 1) + 1) o k := by
      intro o k
      rw [hS]
      by_cases c3 : F 0 62 = -1
      · rw [if_pos c3, if_pos c3]
        simp only [u2_ap]
        split
        · rw [if_neg (by omega), if_neg (by omega), if_neg (by omega)]
        · split
          · rw [if_neg (by omega), if_neg (by omega), if_neg (by omega)]
          · split
            · rw [if_neg (by omega), if_neg (by omega)]
            · split
              · rw [if_neg (by omega)]
              · rfl
      · rw [if_neg c3, if_neg c3]
        simp only [u2_ap]
        split
        · rw [if_neg (by omega), if_neg (by omega), if_neg (by omega)]
        · split
          · rw [if_neg (by omega), if_neg (by omega)]
          · split
            · rw [if_neg (by omega)]
            · rfl
    have er := ex_ren (h' := nH41 h (xd_A D 0 30) (xd_n D 1) x) (e := nE41 (xm_Z h) (xd_n D 1)) (l := fun _ _ => none) (A := fun k r => if k = 3 ∧ r = xd_n D 1 then xm_Z h else xd_A D k r) (n := fun j => if j = 1 then xd_n D 1 + 1 else xd_n D j) (m := xd_m D) (G := (sp_person F x).2) (F := xm_u2 (if F 0 62 = -1 then xm_u2 F 0 62 (Int32.ofNat (xd_n D 1)) else F) 0 61 (Int32.ofNat (xd_n D 1) + 1)) v w (fun o k hk => by
        have := hk.2.2.1
        rw [hV, if_neg (by omega), if_neg (by omega), if_neg (by omega)]) (fun a p y hy => by
        obtain ⟨a1, a2, a3⟩ := e41_mem hy
        have t := p_range _ a3
        rw [a2, hV, a1]
        have hz1 := hz (xd_n D 1) (Nat.le_refl _)
        have i0 : ∀ p, xm_I (nH41 h (xd_A D 0 30) (xd_n D 1) x) (xm_Z h) p = if p = 0 then x else if p = 4 then 1 else if p = 1 then -1 else 0 := by
          intro p
          show xm_I (xm_sI (xm_sI (xm_sI (xm_nw h 18 0 5) (xm_Z h) 1 (-1)) (xm_Z h) 4 1) (xm_Z h) 0 x) (xm_Z h) p = _
          rw [h_I_sI, h_I_sI, h_I_sI, h_I_nw, if_pos rfl]
          simp only [true_and]
        rw [i0]
        have g0 : ∀ o, 39 ≤ o → xm_u2 (if F 0 62 = -1 then xm_u2 F 0 62 (Int32.ofNat (xd_n D 1)) else F) 0 61 (Int32.ofNat (xd_n D 1) + 1) o (xd_n D 1) = F o (xd_n D 1) := by
          intro o ho
          rw [u2_ap, if_neg (by omega)]
          split
          · rw [u2_ap, if_neg (by omega)]
          · rfl
        rw [g0 _ t.1]
        have : (p, y.1) ∈ [(0, 39), (1, 40), (2, 41), (3, 42), (4, 43)] := a3
        simp only [List.mem_cons, Prod.mk.injEq, List.not_mem_nil, or_false] at this
        rcases this with ⟨f1, f2⟩ | ⟨f1, f2⟩ | ⟨f1, f2⟩ | ⟨f1, f2⟩ | ⟨f1, f2⟩ <;> rw [f1, f2] <;> simp only [Nat.reduceEqDiff, false_and, true_and, ↓reduceIte, hz1.1, hz1.2, reduceCtorEq]) (fun a p y hy => by cases hy)
    rw [show xp_c (nH41 h (xd_A D 0 30) (xd_n D 1) x) (nD41 D (xm_Z h) (xd_n D 1)) (sp_person F x).2 = _ from er.symm]
    have er1 : (sp_person F x).1 = Int32.ofNat (xd_n D 1) + 1 - 1 := by
      unfold sp_person
      rw [if_pos c, hnp]
    rw [er1]
    unfold xm_met
    have kb := w.1
    by_cases c3 : F 0 62 = -1
    · rw [if_pos c3]
      simp only [ite_not, ite_self, w8_nil, ok01, ite10, rf_rv, rf_ref, rf_cat, rf_lk2, rf_some, rf_none, w_add, w_cons, cr_int, cr_long, cr_ref, cr_null, is_ref, is_null, l2_int, l2_ref, l2_null, l2_none, ent_nil, ent_int, ent_ref, ent_null, ent_rf, ent_long, ok_0, ok_1, af_ret, af_void, List.tail_cons, List.tail_nil, Nat.reduceAdd, Nat.reduceLeDiff, not_false_eq_true, not_true_eq_false, and_self, and_true, true_and, ne_eq, or_true, true_or, or_false, false_or, eq_self, Nat.reduceEqDiff, ↓reduceIte, false_and, and_false, Nat.le_refl, Nat.zero_le, nz_1, nz_2, nz_3, nz_4, nz_5, nz_6, nz_8, nz_10, nz_12, nz_20, nz_30, nz_60, nz_100, mc_B, mc_Z, mc_S, mc_C, mc_K, mc_N, mc_R, mc_I, mc_L, va_Is, va_Ls, va_us, va_iss, u2_ap, sp_isLedge, sp_isLadder, sp_isPerson, sp_isLiving, sp_isLot, sp_isThere, sp_isSpan, cs_K q, cs_B q, mc_s (cs_inj q), cs_f31 q, cs_f30 q, cs_f32 q, r41_0, r41_1, r41_3, r41_5, r41_11, r41_12, r41_15, r41_20, r41_21, r41_22, r41_23, r41_26, r41_27, r41_30, r41_33, r41_34, r41_35, r41_38, r41_39, r41_40, r41_43, r41_47, r41_48, r41_49, r41_52, r41_55, r41_56, r41_57, r41_60, r41_61, r41_62, r41_65, r41_66, r41_69, r41_70, r41_71, r41_8, r41_17, r41_44, c2, c1, cq2, c3, hnp, mc_nw w, mc_sn, mc_sR, g_K_sI, g_N_sI, g_B_sI, g_Z_sI, g_K_sL, g_N_sL, g_B_sL, g_Z_sL, g_K_sR, g_N_sR, g_B_sR, g_Z_sR, g_L_sI, g_R_sI, g_I_sL, g_R_sL, g_I_sR, g_L_sR, g_R_sRv, g_K_nw, g_N_nw, g_B_nw, g_Z_nw, h_R_nw, h_I_nw, h_L_nw, c213, nX, nA, en, el, k30, n30, b30, i1, e1, kb]
    · rw [if_neg c3]
      simp only [ite_not, ite_self, w8_nil, ok01, ite10, rf_rv, rf_ref, rf_cat, rf_lk2, rf_some, rf_none, w_add, w_cons, cr_int, cr_long, cr_ref, cr_null, is_ref, is_null, l2_int, l2_ref, l2_null, l2_none, ent_nil, ent_int, ent_ref, ent_null, ent_rf, ent_long, ok_0, ok_1, af_ret, af_void, List.tail_cons, List.tail_nil, Nat.reduceAdd, Nat.reduceLeDiff, not_false_eq_true, not_true_eq_false, and_self, and_true, true_and, ne_eq, or_true, true_or, or_false, false_or, eq_self, Nat.reduceEqDiff, ↓reduceIte, false_and, and_false, Nat.le_refl, Nat.zero_le, nz_1, nz_2, nz_3, nz_4, nz_5, nz_6, nz_8, nz_10, nz_12, nz_20, nz_30, nz_60, nz_100, mc_B, mc_Z, mc_S, mc_C, mc_K, mc_N, mc_R, mc_I, mc_L, va_Is, va_Ls, va_us, va_iss, u2_ap, sp_isLedge, sp_isLadder, sp_isPerson, sp_isLiving, sp_isLot, sp_isThere, sp_isSpan, cs_K q, cs_B q, mc_s (cs_inj q), cs_f31 q, cs_f30 q, cs_f32 q, r41_0, r41_1, r41_3, r41_5, r41_11, r41_12, r41_15, r41_20, r41_21, r41_22, r41_23, r41_26, r41_27, r41_30, r41_33, r41_34, r41_35, r41_38, r41_39, r41_40, r41_43, r41_47, r41_48, r41_49, r41_52, r41_55, r41_56, r41_57, r41_60, r41_61, r41_62, r41_65, r41_66, r41_69, r41_70, r41_71, r41_8, r41_17, r41_44, c2, c1, cq2, c3, hnp, mc_nw w, mc_sn, mc_sR, g_K_sI, g_N_sI, g_B_sI, g_Z_sI, g_K_sL, g_N_sL, g_B_sL, g_Z_sL, g_K_sR, g_N_sR, g_B_sR, g_Z_sR, g_L_sI, g_R_sI, g_I_sL, g_R_sL, g_I_sR, g_L_sR, g_R_sRv, g_K_nw, g_N_nw, g_B_nw, g_Z_nw, h_R_nw, h_I_nw, h_L_nw, c213, nX, nA, en, el, k30, n30, b30, i1, e1, kb]
  · refine ⟨?_, ?_, ?_, ?_⟩
    · show (sp_person F x).2 0 6 = _
      unfold sp_person
      rw [if_pos c]
      simp only [apply_ite]
      split <;> simp only [u2_ap, false_and, and_false, ↓reduceIte, Nat.reduceEqDiff] <;> exact hn.1
    · show (sp_person F x).2 0 61 = Int32.ofNat (xd_n D 1 + 1)
      unfold sp_person
      rw [if_pos c]
      simp only [u2_ap, and_self, ↓reduceIte, hnp, nat_succ]
    · show (sp_person F x).2 0 68 = _
      unfold sp_person
      rw [if_pos c]
      split <;> simp only [u2_ap, false_and, and_false, ↓reduceIte, Nat.reduceEqDiff] <;> exact hn.2.2.1
    · show (sp_person F x).2 0 83 = _
      unfold sp_person
      rw [if_pos c]
      split <;> simp only [u2_ap, false_and, and_false, ↓reduceIte, Nat.reduceEqDiff] <;> exact hn.2.2.2
end PERSON
