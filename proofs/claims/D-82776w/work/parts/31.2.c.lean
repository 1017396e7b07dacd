/-! a cut comes: the whole -/
set_option maxRecDepth 100000
section CUTW
variable {d : Nat} {h g : xm_H} {D : xp_D} {F G0 : xp_F}
theorem cuts_fr {st c : Nat → Int32} {i : Nat} {p : List Nat} {u : Int32} (hp : ∀ q, q < p.length → nthr p q < 12) {o k : Nat} (h1 : ¬ ctN o) (h2 : ¬ (o = 52 ∧ 12 * i ≤ k ∧ k < 12 * i + 12)) (h3 : ¬ o = 53) : ∀ j, j ≤ p.length → (sp_cuts F st c i p (sp_cutC F u) j).2 o k = sp_cutC F u o k
  | 0, _ => rfl
  | j + 1, hj => by
    have ih := cuts_fr (st := st) (c := c) (i := i) (u := u) hp h1 h2 h3 j (by omega)
    have l12 := hp j (by omega)
    show (sp_cut1 F st c i (nthr p j) (sp_cuts F st c i p (sp_cutC F u) j)).2 o k = _
    unfold sp_cut1
    show xm_u2 _ _ _ _ o k = _
    simp only [u2_ap]
    rw [if_neg (by omega), if_neg (by omega), if_neg (by omega), if_neg (by omega), if_neg (by omega), if_neg (by omega)]
    exact ih
theorem cutC_ap {u : Int32} {o k : Nat} (h3 : ¬ o = 53) (h4 : ¬ (o = 45 ∧ k = (F 0 68).toNatClampNeg)) (h5 : ¬ (o = 46 ∧ k = (F 0 68).toNatClampNeg)) : sp_cutC F u o k = if o = 52 ∧ 12 * (F 0 68).toNatClampNeg ≤ k ∧ k < 12 * (F 0 68).toNatClampNeg + 12 then 0 else if k = (F 0 68).toNatClampNeg ∧ o = 54 then 1 else if k = (F 0 68).toNatClampNeg ∧ o = 49 then F 0 0 else if k = (F 0 68).toNatClampNeg ∧ o = 44 then u else if o = 0 ∧ k = 68 then F 0 68 + 1 else F o k := by
  unfold sp_cutC
  rw [u2_ap, if_neg (by omega), comes_ap]
  unfold sp_comes0
  simp only [u2_ap, h4, h5, ↓reduceIte]
  by_cases d1 : o = 52 ∧ 12 * (F 0 68).toNatClampNeg ≤ k ∧ k < 12 * (F 0 68).toNatClampNeg + 12
  · rw [if_pos d1, if_pos d1]
  · rw [if_neg d1, if_neg d1]
    by_cases d2 : o = 54 ∧ k = (F 0 68).toNatClampNeg
    · rw [if_pos d2, if_pos (show k = (F 0 68).toNatClampNeg ∧ o = 54 from ⟨d2.2, d2.1⟩)]
    · rw [if_neg d2, if_neg (show ¬ (k = (F 0 68).toNatClampNeg ∧ o = 54) from fun z => d2 ⟨z.2, z.1⟩)]
      by_cases d3 : o = 49 ∧ k = (F 0 68).toNatClampNeg
      · rw [if_pos d3, if_pos (show k = (F 0 68).toNatClampNeg ∧ o = 49 from ⟨d3.2, d3.1⟩)]
      · rw [if_neg d3, if_neg (show ¬ (k = (F 0 68).toNatClampNeg ∧ o = 49) from fun z => d3 ⟨z.2, z.1⟩)]
        by_cases d4 : o = 44 ∧ k = (F 0 68).toNatClampNeg
        · rw [if_pos d4, if_pos (show k = (F 0 68).toNatClampNeg ∧ o = 44 from ⟨d4.2, d4.1⟩)]
        · rw [if_neg d4, if_neg (show ¬ (k = (F 0 68).toNatClampNeg ∧ o = 44) from fun z => d4 ⟨z.2, z.1⟩)]
theorem cutE_ap {i : Nat} {u a b : Int32} {S : Int32 × xp_F} {o k : Nat} (h : ¬ o = 50 ∧ ¬ o = 51) : sp_cutE i u a b S o k = if o = 41 ∧ k = b.toNatClampNeg then S.2 41 b.toNatClampNeg + 1 else if o = 0 ∧ k = 69 then S.2 0 69 + u else if o = 48 ∧ k = i then b else if o = 47 ∧ k = i then a else if o = 46 ∧ k = i then sp_hi S.1 u else if o = 45 ∧ k = i then sp_lo S.1 u else S.2 o k := by
  unfold sp_cutE
  simp only [u2_ap, Nat.reduceEqDiff, false_and, ↓reduceIte, h.1, h.2]
abbrev nE48 (a n : Nat) (x p : Nat) : Option (Nat × Nat) := if x = a then enm (cs_lot ++ cs_cut) n p else if x = a + 1 ∧ p < 12 then some (52, 12 * n + p) else none
theorem e48_mem {a n x p : Nat} {y : Nat × Nat} (e : nE48 a n x p = some y) : (x = a ∧ y.2 = n ∧ (p, y.1) ∈ cs_lot ++ cs_cut) ∨ (x = a + 1 ∧ p < 12 ∧ y = (52, 12 * n + p)) := by
  unfold nE48 at e
  by_cases c : x = a
  · rw [if_pos c] at e
    exact Or.inl ⟨c, enm_mem e⟩
  · rw [if_neg c] at e
    by_cases c2 : x = a + 1 ∧ p < 12
    · rw [if_pos c2] at e
      cases e
      exact Or.inr ⟨c2.1, c2.2, rfl⟩
    · rw [if_neg c2] at e
      cases e
theorem cut_r : ∀ y ∈ cs_lot ++ cs_cut, (44 ≤ y.2 ∧ y.2 ≤ 49) ∨ y.2 = 54 := by decide
theorem c48g (q : CS h D) (w : HW h D) (v : VN D) (hc : ¬ xd_n D 2 = 40) (x : hx 1 12 h g) (wg : HW g D) (zg : xm_Z h < xm_Z g) {z : Nat} {u dt lo hi ct rp : Int32} : GX 3 34 h D (nH48 g (xd_A D 0 36) (xd_n D 2) (xd_X D) z u dt lo hi ct rp) (nDl D (xm_Z h) (nE48 (xm_Z g) (xd_n D 2)) (xm_Z g) (xm_Z g + 1) none) := by
  obtain ⟨r36, k36, n36, b36⟩ := cs_f36 q
  have z36 := w.lt k36 (by decide)
  have qg := q.hx w x
  have g36 : xm_K g (xd_A D 0 36) = 116 := x.K w k36 (by decide)
  have x0 := ((x.tr (h48_hx (g := g) (X := xd_X D) (z := z) (u := u) (dt := dt) (lo := lo) (hi := hi) (ct := ct) (rp := rp))).gx.sR (a := xd_A D 0 36) (p := xd_n D 2) (v := some (xm_Z g)) (Or.inr (Or.inr (Or.inr (Or.inl k36)))))
  have zg1 : xm_Z g = xm_Z h + 1 := by have := x.2.2.2.1; omega
  have n2 : ¬ xm_Z g = xm_Z g + 1 := by omega
  have Kz : xm_K (nH48 g (xd_A D 0 36) (xd_n D 2) (xd_X D) z u dt lo hi ct rp) (xm_Z g) = 20 := by
    rw [g_K_sR, cp_K]
    simp only [g_K_sI, g_N_sI, g_B_sI, g_Z_sI, g_K_sL, g_N_sL, g_B_sL, g_Z_sL, g_K_sR, g_N_sR, g_B_sR, g_Z_sR, g_L_sI, g_R_sI, g_I_sL, g_R_sL, g_I_sR, g_L_sR, g_R_sRv, g_K_nw, g_N_nw, g_B_nw, g_Z_nw, h_R_nw, h_I_nw, h_L_nw, n2, ↓reduceIte]
  have Kz1 : xm_K (nH48 g (xd_A D 0 36) (xd_n D 2) (xd_X D) z u dt lo hi ct rp) (xm_Z g + 1) = 100 := by
    rw [g_K_sR, cp_K]
    simp only [g_K_sI, g_N_sI, g_B_sI, g_Z_sI, g_K_sL, g_N_sL, g_B_sL, g_Z_sL, g_K_sR, g_N_sR, g_B_sR, g_Z_sR, g_L_sI, g_R_sI, g_I_sL, g_R_sL, g_I_sR, g_L_sR, g_R_sRv, g_K_nw, g_N_nw, g_B_nw, g_Z_nw, h_R_nw, h_I_nw, h_L_nw, ↓reduceIte]
  have Nz1 : xm_N (nH48 g (xd_A D 0 36) (xd_n D 2) (xd_X D) z u dt lo hi ct rp) (xm_Z g + 1) = 12 := by
    rw [g_N_sR, cp_N]
    simp only [g_K_sI, g_N_sI, g_B_sI, g_Z_sI, g_K_sL, g_N_sL, g_B_sL, g_Z_sL, g_K_sR, g_N_sR, g_B_sR, g_Z_sR, g_L_sI, g_R_sI, g_I_sL, g_R_sL, g_I_sR, g_L_sR, g_R_sRv, g_K_nw, g_N_nw, g_B_nw, g_Z_nw, h_R_nw, h_I_nw, h_L_nw, ↓reduceIte]
  have nA : ¬ xm_Z g = xd_A D 0 36 := by omega
  have Rz : ∀ p, xm_R (nH48 g (xd_A D 0 36) (xd_n D 2) (xd_X D) z u dt lo hi ct rp) (xm_Z g) p = if p = 8 then some (xm_Z g + 1) else if p = 5 then some (xd_X D) else if p = 9 then some (xd_X D) else none := by
    intro p
    rw [h_R_sR, if_neg (by omega), cp_R]
    simp only [g_K_sI, g_N_sI, g_B_sI, g_Z_sI, g_K_sL, g_N_sL, g_B_sL, g_Z_sL, g_K_sR, g_N_sR, g_B_sR, g_Z_sR, g_L_sI, g_R_sI, g_I_sL, g_R_sL, g_I_sR, g_L_sR, g_R_sRv, g_K_nw, g_N_nw, g_B_nw, g_Z_nw, h_R_nw, h_I_nw, h_L_nw, n2, ↓reduceIte, true_and]
  have kb := wg.1
  refine lot_GX q w v hc x0 (fun a p b r y h1 h2 => ?_) (fun a p y h1 => ?_) (fun a ha => ?_) (fun a p ha => ?_) (fun x2 p hx hn => ?_) ?_
  · rcases e48_mem h1 with ⟨a1, a2, a3⟩ | ⟨a1, a2, a3⟩ <;> rcases e48_mem h2 with ⟨b1, b2, b3⟩ | ⟨b1, b2, b3⟩
    · unfold nE48 at h1 h2
      rw [if_pos a1] at h1
      rw [if_pos b1] at h2
      exact ⟨a1.trans b1.symm, enm_inj (by decide) h1 h2⟩
    · have t := cut_r _ a3
      rw [b3] at t
      have t : (44 ≤ 52 ∧ 52 ≤ 49) ∨ 52 = 54 := t
      omega
    · have t := cut_r _ b3
      rw [a3] at t
      have t : (44 ≤ 52 ∧ 52 ≤ 49) ∨ 52 = 54 := t
      omega
    · have e := congrArg Prod.snd (a3.symm.trans b3)
      have e : 12 * xd_n D 2 + p = 12 * xd_n D 2 + r := e
      omega
  · rcases e48_mem h1 with ⟨a1, a2, a3⟩ | ⟨a1, a2, a3⟩
    · have := cut_r _ a3
      unfold lotn
      omega
    · unfold lotn
      rw [a3]
      exact Or.inr ⟨rfl, Nat.le_add_right _ _, Nat.add_lt_add_left a2 _⟩
  · have ha : xm_Z g + 1 + 1 ≤ a := ha
    rw [g_K_sR, cp_K]
    simp only [g_K_sI, g_N_sI, g_B_sI, g_Z_sI, g_K_sL, g_N_sL, g_B_sL, g_Z_sL, g_K_sR, g_N_sR, g_B_sR, g_Z_sR, g_L_sI, g_R_sI, g_I_sL, g_R_sL, g_I_sR, g_L_sR, g_R_sRv, g_K_nw, g_N_nw, g_B_nw, g_Z_nw, h_R_nw, h_I_nw, h_L_nw]
    rw [if_neg (by omega), if_neg (by omega)]
    exact wg.2.2 a (by omega)
  · have ha : xm_Z g + 1 + 1 ≤ a := ha
    unfold nE48
    rw [if_neg (by omega), if_neg (by omega)]
  · have e1 : ¬ x2 = xm_Z g := by omega
    have e2 : ¬ x2 = xm_Z g + 1 := by omega
    rw [h_R_sR, if_neg hn, cp_R]
    simp only [g_K_sI, g_N_sI, g_B_sI, g_Z_sI, g_K_sL, g_N_sL, g_B_sL, g_Z_sL, g_K_sR, g_N_sR, g_B_sR, g_Z_sR, g_L_sI, g_R_sI, g_I_sL, g_R_sL, g_I_sR, g_L_sR, g_R_sRv, g_K_nw, g_N_nw, g_B_nw, g_Z_nw, h_R_nw, h_I_nw, h_L_nw, e1, e2, false_and, ↓reduceIte]
    exact ((x.2.2.2.2.2 x2 hx).2.2 p).2.2
  · have A0 : xd_A (nDl D (xm_Z h) (nE48 (xm_Z g) (xd_n D 2)) (xm_Z g) (xm_Z g + 1) none) 0 36 = xd_A D 0 36 := by
      show (if 0 = 4 ∧ 36 = xd_n D 2 then xm_Z g else if 0 = 5 ∧ 36 = xd_n D 2 then xm_Z g + 1 else xd_A D 0 36) = _
      rw [if_neg (by omega), if_neg (by omega)]
    have A4 : xd_A (nDl D (xm_Z h) (nE48 (xm_Z g) (xd_n D 2)) (xm_Z g) (xm_Z g + 1) none) 4 (xd_n D 2) = xm_Z g := if_pos ⟨rfl, rfl⟩
    have A5 : xd_A (nDl D (xm_Z h) (nE48 (xm_Z g) (xd_n D 2)) (xm_Z g) (xm_Z g + 1) none) 5 (xd_n D 2) = xm_Z g + 1 := by
      show (if 5 = 4 ∧ xd_n D 2 = xd_n D 2 then xm_Z g else if 5 = 5 ∧ xd_n D 2 = xd_n D 2 then xm_Z g + 1 else xd_A D 5 (xd_n D 2)) = _
      rw [if_neg (by omega), if_pos ⟨rfl, rfl⟩]
    have em : xd_m (nDl D (xm_Z h) (nE48 (xm_Z g) (xd_n D 2)) (xm_Z g) (xm_Z g + 1) none) (xd_n D 2) = none := if_pos rfl
    have B : xm_B (nH48 g (xd_A D 0 36) (xd_n D 2) (xd_X D) z u dt lo hi ct rp) = xm_B g := by
      rw [g_B_sR, cp_B]
      simp only [g_K_sI, g_N_sI, g_B_sI, g_Z_sI, g_K_sL, g_N_sL, g_B_sL, g_Z_sL, g_K_sR, g_N_sR, g_B_sR, g_Z_sR, g_L_sI, g_R_sI, g_I_sL, g_R_sL, g_I_sR, g_L_sR, g_R_sRv, g_K_nw, g_N_nw, g_B_nw, g_Z_nw, h_R_nw, h_I_nw, h_L_nw]
    unfold newLot
    rw [A0, A4, A5, em, Rz, Rz, Rz, B]
    refine ⟨?_, rfl, ⟨Kz, by rw [B]; exact kb, fun y hy => ?_⟩, rfl, rfl, Kz1, Nz1, by omega, fun l hl => ?_⟩
    · rw [h_R_sR, if_pos ⟨rfl, rfl⟩]
    · rw [ex_E, if_neg (by omega)]
      show nE48 _ _ _ _ = _
      unfold nE48
      rw [if_pos rfl]
      exact enm_get (by decide) y hy
    · rw [ex_E, if_neg (by omega)]
      show nE48 _ _ _ _ = _
      unfold nE48
      rw [if_neg (by omega), if_pos ⟨rfl, hl⟩]
theorem c48 (q : CS h D) (w : HW h D) (v : VN D) (hn : CN D F) (hl : rg (F 0 46) 4) {n : Nat} {L : Nat → Ln} (hC : CR h D 0 n L) (hm : F 14 0 = Int32.ofNat n) {k c a b : Int32} (hb : HB F (sp_cutOf F n L) (sp_lows (sp_reached F n L k c a) (F 0 6).toNatClampNeg)) {B0 : Bst} (hB : BRc F B0) (hr : sp_isPerson F (F 0 62) → ¬ F 43 (F 0 62).toNatClampNeg = 0) (hu : ¬ (sp_rows F n L k c a).2.2.2.length = 0 → 0 < (sp_rows F n L k c a).1.toInt ∧ (sp_rows F n L k c a).1.toInt ≤ 10000000) (hlo : ∀ j, j < (sp_rows F n L k c a).2.2.2.length → nthr (sp_rows F n L k c a).2.2.2 j ∈ sp_lows (sp_reached F n L k c a) (F 0 6).toNatClampNeg) (hw : CWc D F (sp_stays F n L) (sp_rows F n L k c a).2.2.2) :
    ∃ h' D' G, xm_met (d + 706) 48 [.ref (xd_X D), .int k, .int c, .int a, .int b] (xp_c h D F) = some (.inl (some (.int (sp_cut F n L k c a b).1)), xp_c h' D' G) ∧ cq (sp_cut F n L k c a b).2 G ∧ (∃ B, BRc G B) ∧ GX 3 34 h D h' D' ∧ CN D' G ∧ (sp_cut F n L k c a b = (-1, F) ∧ D' = D ∨ (sp_canCut F k c a b ∧ ¬ (sp_rows F n L k c a).2.2.2.length = 0) ∧ xd_n D' 2 = xd_n D 2 + 1 ∧ (∀ j, ¬ j = 2 → xd_n D' j = xd_n D j) ∧ ∀ i, xd_m D' i = if i = xd_n D 2 then none else xd_m D i) := by
  have e1 := @c34 (d + 704) h D F q hn hl k c a
  have e2 := @c44 (d + 704) h D F q hn b
  have n12 := (cs_n q).1
  have hnp := hn.2.2.1
  have y0 : xm_in 0 2 = true := by decide
  have z0 : (0 : Int32).toNatClampNeg = 0 := rfl
  have out : ¬ (sp_canCut F k c a b ∧ ¬ (sp_rows F n L k c a).2.2.2.length = 0) → xm_met (d + 706) 48 [.ref (xd_X D), .int k, .int c, .int a, .int b] (xp_c h D F) = some (.inl (some (.int (-1))), xp_c h D F) → ∃ h' D' G, xm_met (d + 706) 48 [.ref (xd_X D), .int k, .int c, .int a, .int b] (xp_c h D F) = some (.inl (some (.int (sp_cut F n L k c a b).1)), xp_c h' D' G) ∧ cq (sp_cut F n L k c a b).2 G ∧ (∃ B, BRc G B) ∧ GX 3 34 h D h' D' ∧ CN D' G ∧ (sp_cut F n L k c a b = (-1, F) ∧ D' = D ∨ (sp_canCut F k c a b ∧ ¬ (sp_rows F n L k c a).2.2.2.length = 0) ∧ xd_n D' 2 = xd_n D 2 + 1 ∧ (∀ j, ¬ j = 2 → xd_n D' j = xd_n D j) ∧ ∀ i, xd_m D' i = if i = xd_n D 2 then none else xd_m D i) := fun no m => by
    have e : sp_cut F n L k c a b = (-1, F) := if_neg no
    refine ⟨h, D, F, by rw [e]; exact m, by rw [e]; exact fun _ _ _ => rfl, ⟨B0, hB⟩, (GX.rf q w v).mono (by decide) (by decide), hn, Or.inl ⟨e, rfl⟩⟩
  by_cases c1 : sp_isLadder F k ∧ (0 ≤ c ∧ c ≤ 15) ∧ sp_isPerson F a
  case neg =>
    rw [if_neg c1] at e1
    refine out (fun z => c1 z.1.1) ?_
    unfold xm_met
    simp only [ite_not, ite_self, w8_nil, ok01, ite10, rf_rv, rf_ref, rf_cat, rf_lk2, rf_some, rf_none, w_add, w_cons, cr_int, cr_long, cr_ref, cr_null, is_ref, is_null, l2_int, l2_ref, l2_null, l2_none, ent_nil, ent_int, ent_ref, ent_null, ent_rf, ent_long, ok_0, ok_1, af_ret, af_void, List.tail_cons, List.tail_nil, Nat.reduceAdd, Nat.reduceLeDiff, not_false_eq_true, not_true_eq_false, and_self, and_true, true_and, ne_eq, or_true, true_or, or_false, false_or, eq_self, Nat.reduceEqDiff, ↓reduceIte, false_and, and_false, Nat.le_refl, Nat.zero_le, nz_1, nz_2, nz_3, nz_4, nz_5, nz_6, nz_8, nz_10, nz_12, nz_20, nz_30, nz_60, nz_100, mc_B, mc_Z, mc_S, mc_C, mc_K, mc_N, mc_R, mc_I, mc_L, va_Is, va_Ls, va_us, va_iss, u2_ap, sp_isLedge, sp_isLadder, sp_isPerson, sp_isLiving, sp_isLot, sp_isThere, sp_isSpan, cs_K q, cs_B q, mc_s (cs_inj q), cs_f32 q, cs_f30 q, cs_f19 q, cs_f37 q, cs_f26 q, cs_f25 q, cs_f23 q, cs_f0 q, cs_f27 q, cs_f5 q, cs_f35 q, r48_0, r48_1, r48_2, r48_3, r48_4, r48_10, r48_11, r48_12, r48_18, r48_19, r48_22, r48_23, r48_24, r48_27, r48_28, r48_31, r48_32, r48_33, r48_39, r48_40, r48_42, r48_48, r48_50, r48_54, r48_55, r48_58, r48_63, r48_64, r48_7, r48_15, r48_36, r48_45, r48_51, r48_60, e1]
  rw [if_pos c1] at e1
  have ia := in_cnt (hn.p q) c1.2.2
  have la := hn.pp q c1.2.2
  have oa := cs_P q la
  have ou := cs_U q (show 0 < 2 by decide)
  by_cases c5 : a = F 0 62
  case neg =>
    refine out (fun z => c5 z.1.2.2.2.2.1.symm) ?_
    unfold xm_met
    simp only [ite_not, ite_self, w8_nil, ok01, ite10, rf_rv, rf_ref, rf_cat, rf_lk2, rf_some, rf_none, w_add, w_cons, cr_int, cr_long, cr_ref, cr_null, is_ref, is_null, l2_int, l2_ref, l2_null, l2_none, ent_nil, ent_int, ent_ref, ent_null, ent_rf, ent_long, ok_0, ok_1, af_ret, af_void, List.tail_cons, List.tail_nil, Nat.reduceAdd, Nat.reduceLeDiff, not_false_eq_true, not_true_eq_false, and_self, and_true, true_and, ne_eq, or_true, true_or, or_false, false_or, eq_self, Nat.reduceEqDiff, ↓reduceIte, false_and, and_false, Nat.le_refl, Nat.zero_le, nz_1, nz_2, nz_3, nz_4, nz_5, nz_6, nz_8, nz_10, nz_12, nz_20, nz_30, nz_60, nz_100, mc_B, mc_Z, mc_S, mc_C, mc_K, mc_N, mc_R, mc_I, mc_L, va_Is, va_Ls, va_us, va_iss, u2_ap, sp_isLedge, sp_isLadder, sp_isPerson, sp_isLiving, sp_isLot, sp_isThere, sp_isSpan, cs_K q, cs_B q, mc_s (cs_inj q), cs_f32 q, cs_f30 q, cs_f19 q, cs_f37 q, cs_f26 q, cs_f25 q, cs_f23 q, cs_f0 q, cs_f27 q, cs_f5 q, cs_f35 q, r48_0, r48_1, r48_2, r48_3, r48_4, r48_10, r48_11, r48_12, r48_18, r48_19, r48_22, r48_23, r48_24, r48_27, r48_28, r48_31, r48_32, r48_33, r48_39, r48_40, r48_42, r48_48, r48_50, r48_54, r48_55, r48_58, r48_63, r48_64, r48_7, r48_15, r48_36, r48_45, r48_51, r48_60, e1, c5]
  have al : sp_isLiving F a := ⟨c1.2.2, by rw [c5]; exact hr (by rw [← c5]; exact c1.2.2)⟩
  by_cases c6 : F 41 a.toNatClampNeg < F 15 0
  · refine out (fun z => z.1.2.2.2.2.2.1 c6) ?_
    unfold xm_met
    simp only [ite_not, ite_self, w8_nil, ok01, ite10, rf_rv, rf_ref, rf_cat, rf_lk2, rf_some, rf_none, w_add, w_cons, cr_int, cr_long, cr_ref, cr_null, is_ref, is_null, l2_int, l2_ref, l2_null, l2_none, ent_nil, ent_int, ent_ref, ent_null, ent_rf, ent_long, ok_0, ok_1, af_ret, af_void, List.tail_cons, List.tail_nil, Nat.reduceAdd, Nat.reduceLeDiff, not_false_eq_true, not_true_eq_false, and_self, and_true, true_and, ne_eq, or_true, true_or, or_false, false_or, eq_self, Nat.reduceEqDiff, ↓reduceIte, false_and, and_false, Nat.le_refl, Nat.zero_le, nz_1, nz_2, nz_3, nz_4, nz_5, nz_6, nz_8, nz_10, nz_12, nz_20, nz_30, nz_60, nz_100, mc_B, mc_Z, mc_S, mc_C, mc_K, mc_N, mc_R, mc_I, mc_L, va_Is, va_Ls, va_us, va_iss, u2_ap, sp_isLedge, sp_isLadder, sp_isPerson, sp_isLiving, sp_isLot, sp_isThere, sp_isSpan, cs_K q, cs_B q, mc_s (cs_inj q), cs_f32 q, cs_f30 q, cs_f19 q, cs_f37 q, cs_f26 q, cs_f25 q, cs_f23 q, cs_f0 q, cs_f27 q, cs_f5 q, cs_f35 q, r48_0, r48_1, r48_2, r48_3, r48_4, r48_10, r48_11, r48_12, r48_18, r48_19, r48_22, r48_23, r48_24, r48_27, r48_28, r48_31, r48_32, r48_33, r48_39, r48_40, r48_42, r48_48, r48_50, r48_54, r48_55, r48_58, r48_63, r48_64, r48_7, r48_15, r48_36, r48_45, r48_51, r48_60, e1, ← c5, ia, oa, ou, y0, z0, c6]
  by_cases c2 : sp_isLiving F b
  case neg =>
    rw [if_neg c2] at e2
    refine out (fun z => c2 z.1.2.2.1) ?_
    unfold xm_met
    simp only [ite_not, ite_self, w8_nil, ok01, ite10, rf_rv, rf_ref, rf_cat, rf_lk2, rf_some, rf_none, w_add, w_cons, cr_int, cr_long, cr_ref, cr_null, is_ref, is_null, l2_int, l2_ref, l2_null, l2_none, ent_nil, ent_int, ent_ref, ent_null, ent_rf, ent_long, ok_0, ok_1, af_ret, af_void, List.tail_cons, List.tail_nil, Nat.reduceAdd, Nat.reduceLeDiff, not_false_eq_true, not_true_eq_false, and_self, and_true, true_and, ne_eq, or_true, true_or, or_false, false_or, eq_self, Nat.reduceEqDiff, ↓reduceIte, false_and, and_false, Nat.le_refl, Nat.zero_le, nz_1, nz_2, nz_3, nz_4, nz_5, nz_6, nz_8, nz_10, nz_12, nz_20, nz_30, nz_60, nz_100, mc_B, mc_Z, mc_S, mc_C, mc_K, mc_N, mc_R, mc_I, mc_L, va_Is, va_Ls, va_us, va_iss, u2_ap, sp_isLedge, sp_isLadder, sp_isPerson, sp_isLiving, sp_isLot, sp_isThere, sp_isSpan, cs_K q, cs_B q, mc_s (cs_inj q), cs_f32 q, cs_f30 q, cs_f19 q, cs_f37 q, cs_f26 q, cs_f25 q, cs_f23 q, cs_f0 q, cs_f27 q, cs_f5 q, cs_f35 q, r48_0, r48_1, r48_2, r48_3, r48_4, r48_10, r48_11, r48_12, r48_18, r48_19, r48_22, r48_23, r48_24, r48_27, r48_28, r48_31, r48_32, r48_33, r48_39, r48_40, r48_42, r48_48, r48_50, r48_54, r48_55, r48_58, r48_63, r48_64, r48_7, r48_15, r48_36, r48_45, r48_51, r48_60, e1, e2, ← c5, ia, oa, ou, y0, z0, c6]
  rw [if_pos c2] at e2
  by_cases c4 : b = a
  · refine out (fun z => z.1.2.2.2.1 c4.symm) ?_
    rw [c4] at e2
    unfold xm_met
    simp only [ite_not, ite_self, w8_nil, ok01, ite10, rf_rv, rf_ref, rf_cat, rf_lk2, rf_some, rf_none, w_add, w_cons, cr_int, cr_long, cr_ref, cr_null, is_ref, is_null, l2_int, l2_ref, l2_null, l2_none, ent_nil, ent_int, ent_ref, ent_null, ent_rf, ent_long, ok_0, ok_1, af_ret, af_void, List.tail_cons, List.tail_nil, Nat.reduceAdd, Nat.reduceLeDiff, not_false_eq_true, not_true_eq_false, and_self, and_true, true_and, ne_eq, or_true, true_or, or_false, false_or, eq_self, Nat.reduceEqDiff, ↓reduceIte, false_and, and_false, Nat.le_refl, Nat.zero_le, nz_1, nz_2, nz_3, nz_4, nz_5, nz_6, nz_8, nz_10, nz_12, nz_20, nz_30, nz_60, nz_100, mc_B, mc_Z, mc_S, mc_C, mc_K, mc_N, mc_R, mc_I, mc_L, va_Is, va_Ls, va_us, va_iss, u2_ap, sp_isLedge, sp_isLadder, sp_isPerson, sp_isLiving, sp_isLot, sp_isThere, sp_isSpan, cs_K q, cs_B q, mc_s (cs_inj q), cs_f32 q, cs_f30 q, cs_f19 q, cs_f37 q, cs_f26 q, cs_f25 q, cs_f23 q, cs_f0 q, cs_f27 q, cs_f5 q, cs_f35 q, r48_0, r48_1, r48_2, r48_3, r48_4, r48_10, r48_11, r48_12, r48_18, r48_19, r48_22, r48_23, r48_24, r48_27, r48_28, r48_31, r48_32, r48_33, r48_39, r48_40, r48_42, r48_48, r48_50, r48_54, r48_55, r48_58, r48_63, r48_64, r48_7, r48_15, r48_36, r48_45, r48_51, r48_60, e1, e2, ← c5, ia, oa, ou, y0, z0, c6, c4]
  by_cases c7 : F 0 68 = 40
  · refine out (fun z => z.1.2.2.2.2.2.2 c7) ?_
    unfold xm_met
    simp only [ite_not, ite_self, w8_nil, ok01, ite10, rf_rv, rf_ref, rf_cat, rf_lk2, rf_some, rf_none, w_add, w_cons, cr_int, cr_long, cr_ref, cr_null, is_ref, is_null, l2_int, l2_ref, l2_null, l2_none, ent_nil, ent_int, ent_ref, ent_null, ent_rf, ent_long, ok_0, ok_1, af_ret, af_void, List.tail_cons, List.tail_nil, Nat.reduceAdd, Nat.reduceLeDiff, not_false_eq_true, not_true_eq_false, and_self, and_true, true_and, ne_eq, or_true, true_or, or_false, false_or, eq_self, Nat.reduceEqDiff, ↓reduceIte, false_and, and_false, Nat.le_refl, Nat.zero_le, nz_1, nz_2, nz_3, nz_4, nz_5, nz_6, nz_8, nz_10, nz_12, nz_20, nz_30, nz_60, nz_100, mc_B, mc_Z, mc_S, mc_C, mc_K, mc_N, mc_R, mc_I, mc_L, va_Is, va_Ls, va_us, va_iss, u2_ap, sp_isLedge, sp_isLadder, sp_isPerson, sp_isLiving, sp_isLot, sp_isThere, sp_isSpan, cs_K q, cs_B q, mc_s (cs_inj q), cs_f32 q, cs_f30 q, cs_f19 q, cs_f37 q, cs_f26 q, cs_f25 q, cs_f23 q, cs_f0 q, cs_f27 q, cs_f5 q, cs_f35 q, r48_0, r48_1, r48_2, r48_3, r48_4, r48_10, r48_11, r48_12, r48_18, r48_19, r48_22, r48_23, r48_24, r48_27, r48_28, r48_31, r48_32, r48_33, r48_39, r48_40, r48_42, r48_48, r48_50, r48_54, r48_55, r48_58, r48_63, r48_64, r48_7, r48_15, r48_36, r48_45, r48_51, r48_60, e1, e2, ← c5, ia, oa, ou, y0, z0, c6, c4, c7]
  obtain ⟨G0, m38, g0, b0, r0⟩ := @c38 d h D F q hn n L hC hm k c a (in_cnt hl c1.1) c1.2.2 hb B0 hB
  have h7 := @rows_len F n L k c a
  have cc : sp_canCut F k c a b := ⟨c1, al, c2, fun z => c4 z.symm, c5.symm, c6, c7⟩
  unfold sp_cut at *
  generalize sp_rows F n L k c a = B at *
  obtain ⟨u, bm, bs, p⟩ := B
  have h7 : p.length ≤ 7 := h7
  have b26 : G0 80 26 = Int32.ofNat p.length := b0.2.2.2.1
  by_cases c8 : p.length = 0
  · have b26' : G0 80 26 = 0 := by rw [b26, c8]; rfl
    rw [if_neg (fun z => z.2 c8)]
    refine ⟨h, D, G0, ?_, g0, ⟨_, b0⟩, (GX.rf q w v).mono (by decide) (by decide), ⟨(g0 _ _ (by decide)).trans hn.1, (g0 _ _ (by decide)).trans hn.2.1, (g0 _ _ (by decide)).trans hn.2.2.1, (g0 _ _ (by decide)).trans hn.2.2.2⟩, Or.inl ⟨rfl, rfl⟩⟩
    unfold xm_met
    simp only [ite_not, ite_self, w8_nil, ok01, ite10, rf_rv, rf_ref, rf_cat, rf_lk2, rf_some, rf_none, w_add, w_cons, cr_int, cr_long, cr_ref, cr_null, is_ref, is_null, l2_int, l2_ref, l2_null, l2_none, ent_nil, ent_int, ent_ref, ent_null, ent_rf, ent_long, ok_0, ok_1, af_ret, af_void, List.tail_cons, List.tail_nil, Nat.reduceAdd, Nat.reduceLeDiff, not_false_eq_true, not_true_eq_false, and_self, and_true, true_and, ne_eq, or_true, true_or, or_false, false_or, eq_self, Nat.reduceEqDiff, ↓reduceIte, false_and, and_false, Nat.le_refl, Nat.zero_le, nz_1, nz_2, nz_3, nz_4, nz_5, nz_6, nz_8, nz_10, nz_12, nz_20, nz_30, nz_60, nz_100, mc_B, mc_Z, mc_S, mc_C, mc_K, mc_N, mc_R, mc_I, mc_L, va_Is, va_Ls, va_us, va_iss, u2_ap, sp_isLedge, sp_isLadder, sp_isPerson, sp_isLiving, sp_isLot, sp_isThere, sp_isSpan, cs_K q, cs_B q, mc_s (cs_inj q), cs_f32 q, cs_f30 q, cs_f19 q, cs_f37 q, cs_f26 q, cs_f25 q, cs_f23 q, cs_f0 q, cs_f27 q, cs_f5 q, cs_f35 q, r48_0, r48_1, r48_2, r48_3, r48_4, r48_10, r48_11, r48_12, r48_18, r48_19, r48_22, r48_23, r48_24, r48_27, r48_28, r48_31, r48_32, r48_33, r48_39, r48_40, r48_42, r48_48, r48_50, r48_54, r48_55, r48_58, r48_63, r48_64, r48_65, r48_66, r48_67, r48_68, r48_69, r48_72, r48_73, r48_79, r48_80, r48_7, r48_15, r48_36, r48_45, r48_51, r48_60, r48_76, e1, e2, ← c5, ia, oa, ou, y0, z0, c6, c4, c7, m38, b26']
  have hc : ¬ xd_n D 2 = 40 := fun z => c7 (by rw [hnp, z]; rfl)
  have n40 := (cs_n q).2.2.1
  have et : (F 0 68).toNatClampNeg = xd_n D 2 := by
    rw [hnp]
    exact (in_nat (show xd_n D 2 < 40 by omega) (by decide)).2
  have hu : 0 < u.toInt ∧ u.toInt ≤ 10000000 := hu c8
  have hw : CWc D F (sp_stays F n L) p := hw
  have h83 : ∀ j, j < p.length → G0 83 (nthr p j) = sp_cutOf F n L (nthr p j) := fun j hj => r0 _ (hlo j hj)
  have b26' : ¬ G0 80 26 = 0 := fun z => c8 (by
    rw [b26] at z
    have := congrArg Int32.toInt z
    rw [ti_nat (by omega), show (0 : Int32).toInt = 0 from rfl] at this
    omega)
  rw [if_pos ⟨cc, c8⟩]
  have hp12 : ∀ j, j < p.length → nthr p j < 12 := fun j hj => by have := (hw.1 j hj).1; omega
  -- the loop
  have wn : HW (xm_nw h 100 12 12) D := w.nw
  have C0 : ∀ o j, ctN o → sp_cutC F u o j = F o j := fun o j ho => by
    rw [cutC_ap (by omega) (by omega) (by omega), if_neg (by omega), if_neg (by omega), if_neg (by omega), if_neg (by omega), if_neg (by omega)]
  obtain ⟨⟨m, H, g⟩, t, e4, s1, ⟨s2, s3⟩, s4, x, wg, kz, nz, iz⟩ := xp_loop2 (P := ct48 (d + 704) D (xm_Z h) k c a b) (n := p.length) (ctI h D F G0 (sp_stays F n L) (sp_cutOf F n L) p u) (fun j s t hj hs => c48s q w h7 g0 b0 h83 hw j s t hj hs) p.length 0 (0, G0, xm_nw h 100 12 12) [] (Nat.zero_add _) ⟨rfl, ⟨by show (0 : Int) ≤ (0 : Int32).toInt; decide, by show (0 : Int32).toInt ≤ 32400 * ((0 : Nat) : Int); decide⟩, fun o j => by
      by_cases ho : ctN o
      · rw [if_pos ho]
        show G0 o j = sp_cutC F u o j
        rw [C0 o j ho]
        exact g0 _ _ (by omega)
      · rw [if_neg ho], hx_nw, wn, by rw [h_K_nw, if_pos rfl], by rw [h_N_nw, if_pos rfl], fun l hl => by
      rw [h_I_nw, if_pos rfl]
      show _ = sp_cutC F u 52 _
      rw [cutC_ap (by decide) (by omega) (by omega), et, if_pos ⟨rfl, Nat.le_add_right _ _, Nat.add_lt_add_left hl _⟩]⟩
  have s1 : m = (sp_cuts F (sp_stays F n L) (sp_cutOf F n L) (xd_n D 2) p (sp_cutC F u) p.length).1 := s1
  have s2 : 0 ≤ m.toInt := s2
  have s3 : m.toInt ≤ 32400 * p.length := s3
  have s4 : ∀ o k, H o k = if ctN o then (sp_cuts F (sp_stays F n L) (sp_cutOf F n L) (xd_n D 2) p (sp_cutC F u) p.length).2 o k else G0 o k := s4
  have x : hx 1 12 h g := x
  have wg : HW g D := wg
  have kz : xm_K g (xm_Z h) = 100 := kz
  have nz : xm_N g (xm_Z h) = 12 := nz
  have iz : ∀ l, l < 12 → xm_I g (xm_Z h) l = (sp_cuts F (sp_stays F n L) (sp_cutOf F n L) (xd_n D 2) p (sp_cutC F u) p.length).2 52 (12 * xd_n D 2 + l) := iz
  have fr := fun {o k : Nat} (h1 : ¬ ctN o) (h2 : ¬ (o = 52 ∧ 12 * xd_n D 2 ≤ k ∧ k < 12 * xd_n D 2 + 12)) (h3 : ¬ o = 53) => cuts_fr (F := F) (st := sp_stays F n L) (c := sp_cutOf F n L) (i := xd_n D 2) (u := u) hp12 h1 h2 h3 p.length (Nat.le_refl _)
  rw [et]
  have hS : (sp_cuts F (sp_stays F n L) (sp_cutOf F n L) (xd_n D 2) p (sp_cutC F u) p.length).1 = m := s1.symm
  generalize sp_cuts F (sp_stays F n L) (sp_cutOf F n L) (xd_n D 2) p (sp_cutC F u) p.length = S at *
  have zg : xm_Z h < xm_Z g := wg.lt kz (by decide)
  have qg := q.hx w x
  have lb := hn.pp q c2.1
  have ib := in_cnt (hn.p q) c2.1
  have H68 : H 0 68 = Int32.ofNat (xd_n D 2) := by rw [s4, if_neg (by omega), g0 _ _ (by decide)]; exact hnp
  have H27 : H 80 27 = u := by rw [s4, if_neg (by omega)]; exact b0.1
  have H00 : H 0 0 = F 0 0 := by rw [s4, if_neg (by omega)]; exact g0 _ _ (by decide)
  have H26 : H 80 26 = Int32.ofNat p.length := by rw [s4, if_neg (by omega)]; exact b26
  have tl := @c48t (d + 702) g D H qg wg (xm_Z h) kz nz (fun p => (w.2.1 (xm_Z h) p (Nat.le_refl _)).1) u m (F 0 0) a b H27 H00 ⟨s2, by omega⟩ hu H68 hc ib lb k c (some (.int (Int32.ofNat p.length)) :: t)
  have gx48 := c48g q w v hc x wg zg (z := xm_Z h) (u := u) (dt := F 0 0) (lo := sp_lo m u) (hi := sp_hi m u) (ct := a) (rp := b)
  have R : xm_met (d + 706) 48 [.ref (xd_X D), .int k, .int c, .int a, .int b] (xp_c h D F) = some (.inl (some (.int (Int32.ofNat (xd_n D 2) + 1 - 1))), xp_c (nH48 g (xd_A D 0 36) (xd_n D 2) (xd_X D) (xm_Z h) u (F 0 0) (sp_lo m u) (sp_hi m u) a b) D (xm_u2 (xm_u2 (xm_u2 H 0 69 (H 0 69 + u)) 41 b.toNatClampNeg (H 41 b.toNatClampNeg + 1)) 0 68 (Int32.ofNat (xd_n D 2) + 1))) := by
    have i3 : ¬ (12 : Int32) < 0 := by decide
    have i4 : (12 : Int32).toNatClampNeg = 12 := rfl
    have i5 : 12 ≤ 100000 := by decide
    have l2l : ∀ x : Int64, xm_lk2 (some (Value.long x)) = true := fun _ => rfl
    unfold ct48 at e4
    have e4 : xm_run (d + 706) 48 93 (some (.ref (xd_X D)) :: some (.int k) :: some (.int c) :: some (.int a) :: some (.int b) :: some (.long 0) :: none :: some (.ref (xm_Z h)) :: some (.int 0) :: []) [] (xp_c (xm_nw h 100 12 12) D G0) = xm_run (d + 706) 48 93 (some (.ref (xd_X D)) :: some (.int k) :: some (.int c) :: some (.int a) :: some (.int b) :: some (.long m.toInt64) :: none :: some (.ref (xm_Z h)) :: some (.int (Int32.ofNat p.length)) :: t) [] (xp_c g D H) := e4
    unfold xm_met
    simp only [ite_not, ite_self, w8_nil, ok01, ite10, rf_rv, rf_ref, rf_cat, rf_lk2, rf_some, rf_none, w_add, w_cons, cr_int, cr_long, cr_ref, cr_null, is_ref, is_null, l2_int, l2_ref, l2_null, l2_none, ent_nil, ent_int, ent_ref, ent_null, ent_rf, ent_long, ok_0, ok_1, af_ret, af_void, List.tail_cons, List.tail_nil, Nat.reduceAdd, Nat.reduceLeDiff, not_false_eq_true, not_true_eq_false, and_self, and_true, true_and, ne_eq, or_true, true_or, or_false, false_or, eq_self, Nat.reduceEqDiff, ↓reduceIte, false_and, and_false, Nat.le_refl, Nat.zero_le, nz_1, nz_2, nz_3, nz_4, nz_5, nz_6, nz_8, nz_10, nz_12, nz_20, nz_30, nz_60, nz_100, mc_B, mc_Z, mc_S, mc_C, mc_K, mc_N, mc_R, mc_I, mc_L, va_Is, va_Ls, va_us, va_iss, u2_ap, sp_isLedge, sp_isLadder, sp_isPerson, sp_isLiving, sp_isLot, sp_isThere, sp_isSpan, cs_K q, cs_B q, mc_s (cs_inj q), cs_f32 q, cs_f30 q, cs_f19 q, cs_f37 q, cs_f26 q, cs_f25 q, cs_f23 q, cs_f0 q, cs_f27 q, cs_f5 q, cs_f35 q, r48_0, r48_1, r48_2, r48_3, r48_4, r48_10, r48_11, r48_12, r48_18, r48_19, r48_22, r48_23, r48_24, r48_27, r48_28, r48_31, r48_32, r48_33, r48_39, r48_40, r48_42, r48_48, r48_50, r48_54, r48_55, r48_58, r48_63, r48_64, r48_65, r48_66, r48_67, r48_68, r48_69, r48_72, r48_73, r48_79, r48_80, r48_81, r48_82, r48_84, r48_86, r48_88, r48_90, r48_91, r48_7, r48_15, r48_36, r48_45, r48_51, r48_60, r48_76, e1, e2, ← c5, ia, oa, ou, y0, z0, c6, c4, c7, m38, b26', i3, i4, i5, mc_nw w]
    rw [e4, r48_93]
    have cz : Int32.ofNat p.length ≤ Int32.ofNat p.length := Int32.le_refl _
    simp only [ite_not, ite_self, w8_nil, ok01, ite10, rf_rv, rf_ref, rf_cat, rf_lk2, rf_some, rf_none, w_add, w_cons, cr_int, cr_long, cr_ref, cr_null, is_ref, is_null, l2_int, l2_ref, l2_null, l2_none, ent_nil, ent_int, ent_ref, ent_null, ent_rf, ent_long, ok_0, ok_1, af_ret, af_void, List.tail_cons, List.tail_nil, Nat.reduceAdd, Nat.reduceLeDiff, not_false_eq_true, not_true_eq_false, and_self, and_true, true_and, ne_eq, or_true, true_or, or_false, false_or, eq_self, Nat.reduceEqDiff, ↓reduceIte, false_and, and_false, Nat.le_refl, Nat.zero_le, nz_1, nz_2, nz_3, nz_4, nz_5, nz_6, nz_8, nz_10, nz_12, nz_20, nz_30, nz_60, nz_100, mc_B, mc_Z, mc_S, mc_C, mc_K, mc_N, mc_R, mc_I, mc_L, va_Is, va_Ls, va_us, va_iss, u2_ap, sp_isLedge, sp_isLadder, sp_isPerson, sp_isLiving, sp_isLot, sp_isThere, sp_isSpan, cs_K qg, cs_f26 qg, r48_95, r48_96, r48_99, H26, cz]
    exact tl
  have fF : ∀ {o k : Nat}, o < 80 → ¬ ctN o → H o k = F o k := fun {o k} h1 h2 => by rw [s4, if_neg h2]; exact g0 _ _ (by omega)
  have sF : ∀ {o k : Nat}, ¬ ctN o → ¬ o = 53 → ¬ (o = 52 ∧ 12 * xd_n D 2 ≤ k ∧ k < 12 * xd_n D 2 + 12) → ¬ (((44 ≤ o ∧ o ≤ 49) ∨ o = 54) ∧ k = xd_n D 2) → S.2 o k = if o = 0 ∧ k = 68 then F 0 68 + 1 else F o k := fun {o k} h1 h2 h3 h4 => by
    rw [fr h1 h3 h2, cutC_ap h2 (by rw [et]; omega) (by rw [et]; omega), et, if_neg h3, if_neg (by omega), if_neg (by omega), if_neg (by omega)]
  refine ⟨nH48 g (xd_A D 0 36) (xd_n D 2) (xd_X D) (xm_Z h) u (F 0 0) (sp_lo m u) (sp_hi m u) a b, _, fun o k => if o < 80 then sp_cutE (xd_n D 2) u a b S o k else G0 o k, ?_, fun o k ho => by
    show (if o < 80 then sp_cutE (xd_n D 2) u a b S o k else G0 o k) = sp_cutE (xd_n D 2) u a b S o k
    by_cases o8 : o < 80
    · rw [if_pos o8]
    · rw [if_neg o8, g0 o k ho, cutE_ap (by omega), if_neg (by omega), if_neg (by omega), if_neg (by omega), if_neg (by omega), if_neg (by omega), if_neg (by omega), sF (by omega) (by omega) (by omega) (by omega), if_neg (by omega)], ⟨_, b0⟩, gx48, ?_, Or.inr ⟨⟨cc, c8⟩, (if_pos rfl : (if 2 = 2 then xd_n D 2 + 1 else xd_n D 2) = _), fun j hj => (if_neg hj : (if j = 2 then xd_n D 2 + 1 else xd_n D j) = _), fun i => rfl⟩⟩
  · rw [R]
    have er := ex_ren (h' := nH48 g (xd_A D 0 36) (xd_n D 2) (xd_X D) (xm_Z h) u (F 0 0) (sp_lo m u) (sp_hi m u) a b) (e := nE48 (xm_Z g) (xd_n D 2)) (l := fun _ _ => none) (A := fun k r => if k = 4 ∧ r = xd_n D 2 then xm_Z g else if k = 5 ∧ r = xd_n D 2 then xm_Z g + 1 else xd_A D k r) (n := fun j => if j = 2 then xd_n D 2 + 1 else xd_n D j) (m := fun i => if i = xd_n D 2 then none else xd_m D i) (G := fun o k => if o < 80 then sp_cutE (xd_n D 2) u a b S o k else G0 o k) (F := xm_u2 (xm_u2 (xm_u2 H 0 69 (H 0 69 + u)) 41 b.toNatClampNeg (H 41 b.toNatClampNeg + 1)) 0 68 (Int32.ofNat (xd_n D 2) + 1)) v w (fun o k hk => ?_) (fun x2 p2 y hy => ?_) (fun a p y hy => by cases hy)
    · rw [show xp_c (nH48 g (xd_A D 0 36) (xd_n D 2) (xd_X D) (xm_Z h) u (F 0 0) (sp_lo m u) (sp_hi m u) a b) (nDl D (xm_Z h) (nE48 (xm_Z g) (xd_n D 2)) (xm_Z g) (xm_Z g + 1) none) (fun o k => if o < 80 then sp_cutE (xd_n D 2) u a b S o k else G0 o k) = _ from er.symm, hnp, i_as]
    · have hm := hk.1
      have h1 := hk.2.2.2.1
      have h2 := hk.2.2.2.2.1
      show (if o < 80 then sp_cutE (xd_n D 2) u a b S o k else G0 o k) = _
      simp only [u2_ap]
      by_cases o80 : o < 80
      · rw [if_pos o80, cutE_ap (by unfold mnm at hm; omega)]
        have h53 : ¬ o = 53 := by unfold mnm at hm; omega
        by_cases d1 : o = 41 ∧ k = b.toNatClampNeg
        · rw [if_pos d1, if_neg (by omega), if_pos d1, sF (by omega) (by omega) (by omega) (by omega), fF (by omega) (by omega), if_neg (by omega)]
        · rw [if_neg d1]
          by_cases d2 : o = 0 ∧ k = 69
          · rw [if_pos d2, if_neg (by omega), if_neg d1, if_pos d2, sF (by omega) (by omega) (by omega) (by omega), fF (by omega) (by omega), if_neg (by omega)]
          · rw [if_neg d2, if_neg (by omega), if_neg (by omega), if_neg (by omega), if_neg (by omega)]
            by_cases d3 : ctN o
            · rw [if_neg (by omega), if_neg d1, if_neg d2, s4, if_pos d3]
            · rw [sF d3 h53 (by omega) (by omega), if_neg d1, if_neg d2, fF o80 d3, hnp]
      · rw [if_neg o80, if_neg (by omega), if_neg (by omega), if_neg (by omega), s4, if_neg (by omega)]
    · have zg1 : xm_Z g = xm_Z h + 1 := by have := x.2.2.2.1; omega
      have n2 : ¬ xm_Z g = xm_Z g + 1 := by omega
      have n3 : ¬ xm_Z g + 1 = xm_Z g := by omega
      show (if y.1 < 80 then sp_cutE (xd_n D 2) u a b S y.1 y.2 else G0 y.1 y.2) = _
      rcases e48_mem hy with ⟨a1, a2, a3⟩ | ⟨a1, a2, a3⟩
      · have t := cut_r _ a3
        have i0 : ∀ p, xm_I (nH48 g (xd_A D 0 36) (xd_n D 2) (xd_X D) (xm_Z h) u (F 0 0) (sp_lo m u) (sp_hi m u) a b) (xm_Z g) p = if p = 7 then b else if p = 6 then a else if p = 3 then sp_hi m u else if p = 2 then sp_lo m u else if p = 1 then F 0 0 else if p = 0 then u else if p = 4 then 1 else 0 := by
          intro p
          rw [g_I_sR, h_I_cp, if_neg (by omega)]
          simp only [h_I_sI, g_K_sI, g_N_sI, g_B_sI, g_Z_sI, g_K_sL, g_N_sL, g_B_sL, g_Z_sL, g_K_sR, g_N_sR, g_B_sR, g_Z_sR, g_L_sI, g_R_sI, g_I_sL, g_R_sL, g_I_sR, g_L_sR, g_R_sRv, g_K_nw, g_N_nw, g_B_nw, g_Z_nw, h_R_nw, h_I_nw, h_L_nw, n2, true_and, ↓reduceIte]
        rw [if_pos (by omega), cutE_ap (by omega), a2, a1, i0, hS]
        have v44 : S.2 44 (xd_n D 2) = u := by
          rw [fr (by omega) (by omega) (by omega), cutC_ap (by omega) (by omega) (by omega), et, if_neg (by omega), if_neg (by omega), if_neg (by omega), if_pos ⟨rfl, rfl⟩]
        have v49 : S.2 49 (xd_n D 2) = F 0 0 := by
          rw [fr (by omega) (by omega) (by omega), cutC_ap (by omega) (by omega) (by omega), et, if_neg (by omega), if_neg (by omega), if_pos ⟨rfl, rfl⟩]
        have v54 : S.2 54 (xd_n D 2) = 1 := by
          rw [fr (by omega) (by omega) (by omega), cutC_ap (by omega) (by omega) (by omega), et, if_neg (by omega), if_pos ⟨rfl, rfl⟩]
        simp only [cs_lot, cs_cut, List.cons_append, List.nil_append, List.mem_cons, Prod.mk.injEq, List.not_mem_nil, or_false] at a3
        rcases a3 with ⟨f1, f2⟩ | ⟨f1, f2⟩ | ⟨f1, f2⟩ | ⟨f1, f2⟩ | ⟨f1, f2⟩ | ⟨f1, f2⟩ | ⟨f1, f2⟩ <;> rw [f1, f2] <;> simp only [Nat.reduceEqDiff, false_and, and_true, true_and, ↓reduceIte, reduceCtorEq, v44, v49, v54]
      · have i0 : xm_I (nH48 g (xd_A D 0 36) (xd_n D 2) (xd_X D) (xm_Z h) u (F 0 0) (sp_lo m u) (sp_hi m u) a b) (xm_Z g + 1) p2 = xm_I g (xm_Z h) p2 := by
          rw [g_I_sR, h_I_cp, if_pos (by omega)]
          rfl
        rw [a1, i0, a3, iz p2 a2]
        show (if 52 < 80 then sp_cutE (xd_n D 2) u a b S 52 (12 * xd_n D 2 + p2) else _) = _
        rw [if_pos (by decide), cutE_ap (by omega)]
        simp only [Nat.reduceEqDiff, false_and, ↓reduceIte]
  · have g : ∀ k, k = 6 ∨ k = 61 ∨ k = 83 → (if 0 < 80 then sp_cutE (xd_n D 2) u a b S 0 k else G0 0 k) = F 0 k := fun k hk => by
      rw [if_pos (by decide), cutE_ap (by omega), if_neg (by omega), if_neg (by omega), if_neg (by omega), if_neg (by omega), if_neg (by omega), if_neg (by omega), sF (by omega) (by omega) (by omega) (by omega), if_neg (by omega)]
    refine ⟨(g 6 (by omega)).trans hn.1, (g 61 (by omega)).trans hn.2.1, ?_, (g 83 (by omega)).trans hn.2.2.2⟩
    show (if 0 < 80 then sp_cutE (xd_n D 2) u a b S 0 68 else G0 0 68) = Int32.ofNat (xd_n D 2 + 1)
    rw [if_pos (by decide), cutE_ap (by omega), if_neg (by omega), if_neg (by omega), if_neg (by omega), if_neg (by omega), if_neg (by omega), if_neg (by omega), sF (by omega) (by omega) (by omega) (by omega), if_pos ⟨rfl, rfl⟩, hnp, nat_succ]
end CUTW
