/-! the component reads a word and a number -/
set_option maxRecDepth 100000
section RDU
variable {d : Nat} {h h' : xm_H} {D : xp_D} {F G : xp_F} {c : Nat → Int32} {T : Nat} {z : Nat}
theorem okb128 : ∀ n, n < 128 → xm_ok .byte (Int32.ofNat n) = true := by decide +kernel
/-- what a word comes to: from s, n letters -/
def wO (c : Nat → Int32) (s n : Nat) (F G : xp_F) : Prop := (∃ k, k < 21 ∧ (if n < 9 then sp_word (pkv c s n) else 1) = cod k ∧ G 86 2 = 2 ∧ G 86 3 = Int32.ofNat k) ∨ ((if n < 9 then sp_word (pkv c s n) else 1) = 1 ∧ G 86 2 = F 86 2)
theorem c72 (q : CS h D) (w : HW h D) (sw : SW h D) (tc : TC F c T) {s : Nat} (hs : s < T) (ha : F 86 0 = Int32.ofNat s) : ∃ h' G, xm_met (d + 6) 72 [.ref (xd_A D 0 15)] (xp_c h D F) = some (.inl none, xp_c h' D G) ∧ hx 4 40 h h' ∧ HW h' D ∧ fr86 F G ∧ G 86 0 = Int32.ofNat (rn tL c (T - s) s) ∧ (∀ k, ¬ k = 0 → ¬ k = 2 → ¬ k = 3 → G 86 k = F 86 k) ∧ wO c s (rn tL c (T - s) s - s) F G := by
  have t600 := tc.1.1
  have Bz := w.1
  have ne : ∀ a p, xm_Z h ≤ a → xd_E D a p = none := fun a p ha => (w.2.1 a p ha).1
  obtain ⟨f15a, f15k, f15b⟩ := cs_f15 q
  have w1 : HW (xm_nw h 27 0 4) D := w.nw
  have w2 : HW (xm_nw (xm_nw h 27 0 4) 101 12 12) D := w1.nw
  have z1 : xm_Z (xm_nw h 27 0 4) = xm_Z h + 1 := rfl
  -- the builder
  have m0 := c243 (d := d + 3) (h := xp_c (xm_nw h 27 0 4) D F) (a := xm_Z h) (by rw [mc_C]; exact sw.1) (by rw [mc_K, h_K_nw, if_pos rfl]) (by rw [mc_B]; exact Bz) (by rw [mc_Z, z1]; omega)
  rw [mc_nw w1, mc_sR, mc_sn (ne _ _ (Nat.le_refl _)), mc_Z, z1] at m0
  have x1 : hx 2 16 h (xm_sI (xm_sR (xm_nw (xm_nw h 27 0 4) 101 12 12) (xm_Z h) 0 (some (xm_Z h + 1))) (xm_Z h) 1 0) := (((hx_nw (kd := 27) (n := 0) (s := 4)).tr (hx_nw (kd := 101) (n := 12) (s := 12))).sR (Nat.le_refl _)).sI (Nat.le_refl _)
  have il : IL h D c s 0 (xm_sI (xm_sR (xm_nw (xm_nw h 27 0 4) 101 12 12) (xm_Z h) 0 (some (xm_Z h + 1))) (xm_Z h) 1 0) := by
    refine ⟨x1, w2, rfl, ?_, ?_, ?_, ?_, ?_, ?_, fun j hj => absurd hj (by omega)⟩
    · show xm_K (xm_nw (xm_nw h 27 0 4) 101 12 12) (xm_Z h) = 27
      rw [h_K_nw, z1, if_neg (by omega), h_K_nw, if_pos rfl]
    · show xm_R (xm_sR (xm_nw (xm_nw h 27 0 4) 101 12 12) (xm_Z h) 0 (some (xm_Z h + 1))) (xm_Z h) 0 = _
      rw [h_R_sR, if_pos ⟨rfl, rfl⟩]
    · rw [h_I_sI, if_pos ⟨rfl, rfl⟩]
    · rw [h_I_sI, if_neg (by omega)]
      show xm_I (xm_nw (xm_nw h 27 0 4) 101 12 12) (xm_Z h) 3 = 0
      rw [h_I_nw, z1, if_neg (by omega), h_I_nw, if_pos rfl]
    · show xm_K (xm_nw (xm_nw h 27 0 4) 101 12 12) (xm_Z h + 1) = 101
      rw [h_K_nw, z1, if_pos rfl]
    · show xm_N (xm_nw (xm_nw h 27 0 4) 101 12 12) (xm_Z h + 1) = 12
      rw [h_N_nw, z1, if_pos rfl]
  obtain ⟨h2, G2, e2, il2, a2, f2⟩ := c72l (d := d) q w sw tc (s := s) (T - s) 0 _ F (by omega) il (by rw [ha]; rfl) (fun _ _ _ => rfl)
  rw [Nat.add_zero] at e2 il2 a2
  have rl := rn_le (P := tL) (c := c) (T - s) s
  have lt : ∀ j, j < rn tL c (T - s) s - s → tL (c (s + j)) := fun j hj => rn_all (T - s) s (s + j) (by omega) (by omega)
  have rg := fun j hj => tL_rg (lt j hj)
  generalize hn : rn tL c (T - s) s - s = n at *
  obtain ⟨x2, w3, zz2, k2, r2, i2, i3, k4, n4, b4⟩ := il2
  have q2 := q.hx w x2
  have eI : ∀ a p, xm_Z h ≤ a → xm_I (xp_c h2 D G2) a p = xm_I h2 a p := fun a p ha => by rw [mc_I, ne a p ha, va_In]
  have B2 : xm_B h2 = xm_B h := x2.1
  have okb : ∀ x : Int32, 1 ≤ x.toInt ∧ x.toInt ≤ 127 → xm_ok .byte x = true := fun x hx => by
    rw [i_nat (x := x) (by omega)]
    exact okb128 _ (by omega)
  obtain ⟨H3, m3, x3, sm3, k3, z3, r3⟩ := c246 (d := d) (h := xp_c h2 D G2) (a := xm_Z h) (b := xm_Z h + 1) (m := min n 9) (by rw [mc_C, x2.2.1]; exact sw.1) (by rw [mc_K]; exact k2) (by rw [eI _ _ (Nat.le_refl _)]; exact i2) (by rw [eI _ _ (Nat.le_refl _)]; exact i3) (by rw [mc_R]; exact r2) (by rw [mc_K]; exact k4) (by rw [mc_N]; exact n4) (by omega) (by rw [mc_Z, zz2]; omega) (by rw [mc_Z, zz2]; omega) (by rw [mc_B, mc_Z, B2, zz2]; omega) (fun j hj => by
    rw [eI _ _ (Nat.le_succ _), b4 j hj]
    exact okb _ (rg j (by omega))) (fun x hx => by
    rw [mc_K]
    exact w3.2.2 x hx)
  obtain ⟨h3, eH, y3, w4, e3⟩ := raw_ext w3 x3 k3
  subst eH
  have y4 : hx 4 40 h h3 := (x2.tr y3).mono (by omega) (by omega)
  have q4 := q.hx w y4
  have sx : SX h3 D (xm_Z h2) (min n 9) (fun j => c (s + j)) := by
    obtain ⟨b, a1, a2', a3, a4, a5, a6⟩ := sm3
    have hb : b = xm_Z h2 + 1 := Option.some.inj (a2'.symm.trans r3)
    subst hb
    refine ⟨xm_Z h2 + 1, a1, a2', ?_, a4, a5, fun j hj => ?_, fun p => ⟨ne _ _ (by omega), ne _ _ (by omega)⟩⟩
    · rw [e3 _ _ (Nat.le_refl _)]
      exact a3
    · rw [e3 _ _ (Nat.le_succ _), a6 j hj]
      show xm_I (xp_c h2 D G2) (xm_Z h + 1) j = _
      rw [eI _ _ (Nat.le_succ _)]
      exact b4 j hj
  have st : ∀ G3, xm_run (d + 6) 72 60 [some (.ref (xd_A D 0 15)), some (.ref (xm_Z h)), some (.ref (xm_Z h2)), some (.int (Int32.ofNat 0))] [] (xp_c h3 D G2) = some (.inl none, xp_c h3 D G3) → xm_met (d + 6) 72 [.ref (xd_A D 0 15)] (xp_c h D F) = some (.inl none, xp_c h3 D G3) := by
    intro G3 eG
    have eG : xm_run (d + 6) 72 60 [some (.ref (xd_A D 0 15)), some (.ref (xm_Z h)), some (.ref (xm_Z h2)), some (.int 0)] [] (xp_c h3 D G2) = some (.inl none, xp_c h3 D G3) := eG
    unfold xm_met
    simp only [ite_not, ite_self, w8_nil, ok01, ite10, rf_rv, rf_ref, rf_cat, rf_lk2, rf_some, rf_none, w_add, w_cons, cr_int, cr_long, cr_ref, cr_null, is_ref, is_null, l2_int, l2_ref, l2_null, l2_none, ent_nil, ent_int, ent_ref, ent_null, ent_rf, ent_long, ok_0, ok_1, af_ret, af_void, List.tail_cons, List.tail_nil, Nat.reduceAdd, Nat.reduceLeDiff, not_false_eq_true, not_true_eq_false, and_self, and_true, true_and, ne_eq, or_true, true_or, or_false, false_or, eq_self, Nat.reduceEqDiff, ↓reduceIte, false_and, and_false, Nat.le_refl, Nat.zero_le, nz_1, nz_2, nz_3, nz_4, nz_5, nz_6, nz_8, nz_10, nz_12, nz_20, nz_30, nz_60, nz_100, mc_B, mc_Z, mc_S, mc_C, mc_K, mc_N, mc_R, mc_I, mc_L, va_Is, va_Ls, va_us, va_iss, u2_ap, sp_isLedge, sp_isLadder, sp_isPerson, sp_isLiving, sp_isLot, sp_isThere, sp_isSpan, mc_nw w, r72_0, r72_3, r72_4, r72_6, r72_9, ent_nil, m0, e2]
    simp only [ite_not, ite_self, w8_nil, ok01, ite10, rf_rv, rf_ref, rf_cat, rf_lk2, rf_some, rf_none, w_add, w_cons, cr_int, cr_long, cr_ref, cr_null, is_ref, is_null, l2_int, l2_ref, l2_null, l2_none, ent_nil, ent_int, ent_ref, ent_null, ent_rf, ent_long, ok_0, ok_1, af_ret, af_void, List.tail_cons, List.tail_nil, Nat.reduceAdd, Nat.reduceLeDiff, not_false_eq_true, not_true_eq_false, and_self, and_true, true_and, ne_eq, or_true, true_or, or_false, false_or, eq_self, Nat.reduceEqDiff, ↓reduceIte, false_and, and_false, Nat.le_refl, Nat.zero_le, nz_1, nz_2, nz_3, nz_4, nz_5, nz_6, nz_8, nz_10, nz_12, nz_20, nz_30, nz_60, nz_100, mc_B, mc_Z, mc_S, mc_C, mc_K, mc_N, mc_R, mc_I, mc_L, va_Is, va_Ls, va_us, va_iss, u2_ap, sp_isLedge, sp_isLadder, sp_isPerson, sp_isLiving, sp_isLot, sp_isThere, sp_isSpan, k2, r72_53, r72_54, r72_57, r72_58, r72_59, ent_nil, m3, eG]
  rcases mtc_one (c := c) (s := s) (n := n) rg with ⟨K, hK, u1, u2⟩ | ⟨u1, u2⟩
  · have ew := c72w (d := d) (G := G2) (sb := xm_Z h) q w sw y4 (s := s) (m := min n 9) (K := K) (a := xm_Z h2) (by omega) u1 sx (by omega) w4 21 0 (by omega)
    have g0 : gw K 0 G2 = G2 := if_neg (by omega)
    have g21 : gw K 21 G2 = xm_u2 (xm_u2 G2 86 2 2) 86 3 (Int32.ofNat K) := if_pos hK
    rw [g0, g21] at ew
    refine ⟨h3, _, st _ ew, y4, w4, f2.fr.u.u, ?_, fun k k0 k2 k3 => ?_, Or.inl ⟨K, hK, u2, ?_, ?_⟩⟩
    · rw [u2_ap, if_neg (by omega), u2_ap, if_neg (by omega)]
      exact a2
    · rw [u2_ap, if_neg (by omega), u2_ap, if_neg (by omega)]
      exact f2 _ _ (by omega)
    · rw [u2_ap, if_neg (by omega), u2_ap, if_pos ⟨rfl, rfl⟩]
    · rw [u2_ap, if_pos ⟨rfl, rfl⟩]
  · have ew := c72w (d := d) (G := G2) (sb := xm_Z h) q w sw y4 (s := s) (m := min n 9) (K := 21) (a := xm_Z h2) (by omega) (fun j hj => ⟨fun m => absurd m (u1 j hj), fun e => absurd e (by omega)⟩) sx (by omega) w4 21 0 (by omega)
    have g0 : gw 21 0 G2 = G2 := if_neg (by omega)
    have g21 : gw 21 21 G2 = G2 := if_neg (by omega)
    rw [g0, g21] at ew
    exact ⟨h3, _, st _ ew, y4, w4, f2.fr, a2, fun k k0 k2 k3 => f2 _ _ (by omega), Or.inr ⟨u2, f2 _ _ (by omega)⟩⟩
theorem c74l (q : CS h D) (tc : TC F c T) {s : Nat} : ∀ (k m : Nat) (G : xp_F), s + m + k = T → G 86 0 = Int32.ofNat (s + m) → G 86 3 = dgv c s (min m 4) → fr86 F G → (∀ j, ¬ j = 0 → ¬ j = 3 → G 86 j = F 86 j) → ∃ G2, xm_run (d + 1) 74 7 [some (.ref (xd_A D 0 15)), some (.int (Int32.ofNat m))] [] (xp_c h D G) = xm_run (d + 1) 74 65 [some (.ref (xd_A D 0 15)), some (.int (Int32.ofNat (rn tD c k (s + m) - s)))] [] (xp_c h D G2) ∧ G2 86 0 = Int32.ofNat (rn tD c k (s + m)) ∧ G2 86 3 = dgv c s (min (rn tD c k (s + m) - s) 4) ∧ fr86 F G2 ∧ (∀ j, ¬ j = 0 → ¬ j = 3 → G2 86 j = F 86 j)
  | 0, m, G, e, ha, hv, f, fj => by
    have t600 := tc.1.1
    have n1 := tc.1.nL (i := s + m) (by omega)
    have m1 := c70 (d := d) q (tc.fr f) (i := s + m) (by omega) ha
    have m2 := c73 (d := d) (h := xp_c h D G) (a := xd_A D 0 15) (x := c (s + m))
    rw [if_neg n1.2.2] at m2
    refine ⟨G, ?_, ha, ?_, f, fj⟩
    · show _ = xm_run (d + 1) 74 65 [some (.ref (xd_A D 0 15)), some (.int (Int32.ofNat (s + m - s)))] [] (xp_c h D G)
      rw [show s + m - s = m by omega, r74_7]
      simp only [ite_not, ite_self, w8_nil, ok01, ite10, rf_rv, rf_ref, rf_cat, rf_lk2, rf_some, rf_none, w_add, w_cons, cr_int, cr_long, cr_ref, cr_null, is_ref, is_null, l2_int, l2_ref, l2_null, l2_none, ent_nil, ent_int, ent_ref, ent_null, ent_rf, ent_long, ok_0, ok_1, af_ret, af_void, List.tail_cons, List.tail_nil, Nat.reduceAdd, Nat.reduceLeDiff, not_false_eq_true, not_true_eq_false, and_self, and_true, true_and, ne_eq, or_true, true_or, or_false, false_or, eq_self, Nat.reduceEqDiff, ↓reduceIte, false_and, and_false, Nat.le_refl, Nat.zero_le, nz_1, nz_2, nz_3, nz_4, nz_5, nz_6, nz_8, nz_10, nz_12, nz_20, nz_30, nz_60, nz_100, mc_B, mc_Z, mc_S, mc_C, mc_K, mc_N, mc_R, mc_I, mc_L, va_Is, va_Ls, va_us, va_iss, u2_ap, sp_isLedge, sp_isLadder, sp_isPerson, sp_isLiving, sp_isLot, sp_isThere, sp_isSpan, cs_f15 q, r74_8, r74_9, r74_12, r74_18, r74_19, r74_20, r74_24, r74_26, r74_27, r74_30, r74_31, r74_32, r74_35, r74_36, r74_38, r74_39, r74_42, r74_43, r74_46, r74_49, r74_52, r74_53, r74_54, r74_57, r74_58, r74_59, r74_62, r74_15, r74_21, m1, m2]
    · show _ = dgv c s (min (s + m - s) 4)
      rw [show s + m - s = m by omega]
      exact hv
  | k + 1, m, G, e, ha, hv, f, fj => by
    have t600 := tc.1.1
    have m1 := c70 (d := d) q (tc.fr f) (i := s + m) (by omega) ha
    have m2 := c73 (d := d) (h := xp_c h D G) (a := xd_A D 0 15) (x := c (s + m))
    unfold rn
    by_cases c1 : tD (c (s + m))
    · rw [if_pos c1]
      rw [if_pos c1] at m2
      have n1 : ¬ (1 : Int32) = 0 := by decide
      by_cases c4 : m < 4
      · have c4' : ¬ (4 : Int32) ≤ Int32.ofNat m := fun z => by
          have := Int32.le_iff_toInt_le.mp z
          rw [ti_nat (by omega), show (4 : Int32).toInt = 4 from rfl] at this
          omega
        obtain ⟨G2, e1, e2, e3, e4, e5⟩ := c74l (s := s) q tc k (m + 1) (xm_u2 (xm_u2 G 86 3 (10 * dgv c s (min m 4) + c (s + m) - 48)) 86 0 (Int32.ofNat (s + (m + 1)))) (by omega) (by rw [u2_ap, if_pos ⟨rfl, rfl⟩]) (by
          rw [u2_ap, if_neg (by omega), u2_ap, if_pos ⟨rfl, rfl⟩, show min (m + 1) 4 = m + 1 by omega, show min m 4 = m by omega]
          rfl) f.u.u (fun j j0 j3 => by rw [u2_ap, if_neg (by omega), u2_ap, if_neg (by omega)]; exact fj j j0 j3)
        rw [show s + (m + 1) = s + m + 1 by omega] at e1 e2 e3
        refine ⟨G2, ?_, e2, e3, e4, e5⟩
        rw [← e1, r74_7]
        simp only [ite_not, ite_self, w8_nil, ok01, ite10, rf_rv, rf_ref, rf_cat, rf_lk2, rf_some, rf_none, w_add, w_cons, cr_int, cr_long, cr_ref, cr_null, is_ref, is_null, l2_int, l2_ref, l2_null, l2_none, ent_nil, ent_int, ent_ref, ent_null, ent_rf, ent_long, ok_0, ok_1, af_ret, af_void, List.tail_cons, List.tail_nil, Nat.reduceAdd, Nat.reduceLeDiff, not_false_eq_true, not_true_eq_false, and_self, and_true, true_and, ne_eq, or_true, true_or, or_false, false_or, eq_self, Nat.reduceEqDiff, ↓reduceIte, false_and, and_false, Nat.le_refl, Nat.zero_le, nz_1, nz_2, nz_3, nz_4, nz_5, nz_6, nz_8, nz_10, nz_12, nz_20, nz_30, nz_60, nz_100, mc_B, mc_Z, mc_S, mc_C, mc_K, mc_N, mc_R, mc_I, mc_L, va_Is, va_Ls, va_us, va_iss, u2_ap, sp_isLedge, sp_isLadder, sp_isPerson, sp_isLiving, sp_isLot, sp_isThere, sp_isSpan, cs_f15 q, cs_B q, mc_s (cs_inj q), cs_rd q, r74_8, r74_9, r74_12, r74_18, r74_19, r74_20, r74_24, r74_26, r74_27, r74_30, r74_31, r74_32, r74_35, r74_36, r74_38, r74_39, r74_42, r74_43, r74_46, r74_49, r74_52, r74_53, r74_54, r74_57, r74_58, r74_59, r74_62, r74_15, r74_21, m1, m2, n1, c4', ha, hv, nat_succ]
      · have c4' : (4 : Int32) ≤ Int32.ofNat m := Int32.le_iff_toInt_le.mpr (by rw [ti_nat (by omega), show (4 : Int32).toInt = 4 from rfl]; omega)
        obtain ⟨G2, e1, e2, e3, e4, e5⟩ := c74l (s := s) q tc k (m + 1) (xm_u2 (xm_u2 G 86 3 (dgv c s (min m 4))) 86 0 (Int32.ofNat (s + (m + 1)))) (by omega) (by rw [u2_ap, if_pos ⟨rfl, rfl⟩]) (by
          rw [u2_ap, if_neg (by omega), u2_ap, if_pos ⟨rfl, rfl⟩, show min (m + 1) 4 = min m 4 by omega]) f.u.u (fun j j0 j3 => by rw [u2_ap, if_neg (by omega), u2_ap, if_neg (by omega)]; exact fj j j0 j3)
        rw [show s + (m + 1) = s + m + 1 by omega] at e1 e2 e3
        refine ⟨G2, ?_, e2, e3, e4, e5⟩
        rw [← e1, r74_7]
        simp only [ite_not, ite_self, w8_nil, ok01, ite10, rf_rv, rf_ref, rf_cat, rf_lk2, rf_some, rf_none, w_add, w_cons, cr_int, cr_long, cr_ref, cr_null, is_ref, is_null, l2_int, l2_ref, l2_null, l2_none, ent_nil, ent_int, ent_ref, ent_null, ent_rf, ent_long, ok_0, ok_1, af_ret, af_void, List.tail_cons, List.tail_nil, Nat.reduceAdd, Nat.reduceLeDiff, not_false_eq_true, not_true_eq_false, and_self, and_true, true_and, ne_eq, or_true, true_or, or_false, false_or, eq_self, Nat.reduceEqDiff, ↓reduceIte, false_and, and_false, Nat.le_refl, Nat.zero_le, nz_1, nz_2, nz_3, nz_4, nz_5, nz_6, nz_8, nz_10, nz_12, nz_20, nz_30, nz_60, nz_100, mc_B, mc_Z, mc_S, mc_C, mc_K, mc_N, mc_R, mc_I, mc_L, va_Is, va_Ls, va_us, va_iss, u2_ap, sp_isLedge, sp_isLadder, sp_isPerson, sp_isLiving, sp_isLot, sp_isThere, sp_isSpan, cs_f15 q, cs_B q, mc_s (cs_inj q), cs_rd q, r74_8, r74_9, r74_12, r74_18, r74_19, r74_20, r74_24, r74_26, r74_27, r74_30, r74_31, r74_32, r74_35, r74_36, r74_38, r74_39, r74_42, r74_43, r74_46, r74_49, r74_52, r74_53, r74_54, r74_57, r74_58, r74_59, r74_62, r74_15, r74_21, m1, m2, n1, c4', ha, hv, nat_succ]
    · rw [if_neg c1]
      rw [if_neg c1] at m2
      refine ⟨G, ?_, ha, ?_, f, fj⟩
      · rw [r74_7, show s + m - s = m by omega]
        simp only [ite_not, ite_self, w8_nil, ok01, ite10, rf_rv, rf_ref, rf_cat, rf_lk2, rf_some, rf_none, w_add, w_cons, cr_int, cr_long, cr_ref, cr_null, is_ref, is_null, l2_int, l2_ref, l2_null, l2_none, ent_nil, ent_int, ent_ref, ent_null, ent_rf, ent_long, ok_0, ok_1, af_ret, af_void, List.tail_cons, List.tail_nil, Nat.reduceAdd, Nat.reduceLeDiff, not_false_eq_true, not_true_eq_false, and_self, and_true, true_and, ne_eq, or_true, true_or, or_false, false_or, eq_self, Nat.reduceEqDiff, ↓reduceIte, false_and, and_false, Nat.le_refl, Nat.zero_le, nz_1, nz_2, nz_3, nz_4, nz_5, nz_6, nz_8, nz_10, nz_12, nz_20, nz_30, nz_60, nz_100, mc_B, mc_Z, mc_S, mc_C, mc_K, mc_N, mc_R, mc_I, mc_L, va_Is, va_Ls, va_us, va_iss, u2_ap, sp_isLedge, sp_isLadder, sp_isPerson, sp_isLiving, sp_isLot, sp_isThere, sp_isSpan, cs_f15 q, r74_8, r74_9, r74_12, r74_18, r74_19, r74_20, r74_24, r74_26, r74_27, r74_30, r74_31, r74_32, r74_35, r74_36, r74_38, r74_39, r74_42, r74_43, r74_46, r74_49, r74_52, r74_53, r74_54, r74_57, r74_58, r74_59, r74_62, r74_15, r74_21, m1, m2]
      · rw [show s + m - s = m by omega]
        exact hv
end RDU
