/-! a cut comes: the lot -/
set_option maxRecDepth 100000
theorem hx.cp {z s : Nat} {h h' : xm_H} {a p n : Nat} {f : Nat → Int32} (x : hx z s h h') (ha : xm_Z h ≤ a) : hx z s h (xm_cp h' a p n f) := by
  obtain ⟨a1, a2, a3, a4, a5, a6⟩ := x
  refine ⟨a1, a2, a3, a4, a5, fun b hb => ?_⟩
  obtain ⟨c1, c2, c3⟩ := a6 b hb
  refine ⟨c1, c2, fun q => ⟨?_, (c3 q).2.1, (c3 q).2.2⟩⟩
  rw [h_I_cp, if_neg (by omega)]
  exact (c3 q).1
theorem cp_K {h : xm_H} {a p n : Nat} {f : Nat → Int32} : xm_K (xm_cp h a p n f) = xm_K h := Eq.trans (b := xm_K h) rfl rfl
theorem cp_R {h : xm_H} {a p n : Nat} {f : Nat → Int32} : xm_R (xm_cp h a p n f) = xm_R h := Eq.trans (b := xm_R h) rfl rfl
theorem cp_B {h : xm_H} {a p n : Nat} {f : Nat → Int32} : xm_B (xm_cp h a p n f) = xm_B h := Eq.trans (b := xm_B h) rfl rfl
theorem cp_N {h : xm_H} {a p n : Nat} {f : Nat → Int32} : xm_N (xm_cp h a p n f) = xm_N h := Eq.trans (b := xm_N h) rfl rfl
section CUTT
variable {d : Nat} {h g : xm_H} {D : xp_D} {F H : xp_F}
abbrev nH48a (g : xm_H) (X z : Nat) (u dt lo hi ct rp : Int32) : xm_H := xm_cp (nH217 (xm_nw g 20 0 10) (xm_Z g) X u dt lo hi ct rp) (xm_Z g + 1) 0 12 (fun j => xm_I g z j)
abbrev nH48 (g : xm_H) (ar i X z : Nat) (u dt lo hi ct rp : Int32) : xm_H := xm_sR (nH48a g X z u dt lo hi ct rp) ar i (some (xm_Z g))
theorem h48_hx {X z : Nat} {u dt lo hi ct rp : Int32} : hx 2 22 g (nH48a g X z u dt lo hi ct rp) := by
  have z1 : xm_Z g ≤ xm_Z g := Nat.le_refl _
  have a1 := ((((((((hx_nw (kd := 20) (n := 0) (s := 10) (h := g)).sR (v := some X) (p := 9) z1).sR (v := some X) (p := 5) z1).sI (v := 1) (p := 4) z1).sI (v := u) (p := 0) z1).sI (v := dt) (p := 1) z1).sI (v := lo) (p := 2) z1).sI (v := hi) (p := 3) z1)
  exact (((((a1.tr (hx_nw (kd := 100) (n := 12) (s := 12))).sR z1).sI z1).sI z1).cp (Nat.le_succ _))
/-- the tail -/
theorem c48t (q : CS g D) (w : HW g D) {z : Nat} (kz : xm_K g z = 100) (nz : xm_N g z = 12) (ez : ∀ p, xd_E D z p = none) {u m dt a b : Int32} (h27 : H 80 27 = u) (h5 : H 0 0 = dt) (hm : 0 ≤ m.toInt ∧ m.toInt ≤ 1000000) (hu : 0 < u.toInt ∧ u.toInt ≤ 10000000) (hn : H 0 68 = Int32.ofNat (xd_n D 2)) (hc : ¬ xd_n D 2 = 40) (ib : xm_in b 16 = true) (hb : b.toNatClampNeg < xd_n D 1) {k c : Int32} {t : List (Option Value)} : xm_run (d + 4) 48 162 (some (.ref (xd_X D)) :: some (.int k) :: some (.int c) :: some (.int a) :: some (.int b) :: some (.long m.toInt64) :: none :: some (.ref z) :: t) [] (xp_c g D H) = some (.inl (some (.int (Int32.ofNat (xd_n D 2) + 1 - 1))), xp_c (nH48 g (xd_A D 0 36) (xd_n D 2) (xd_X D) z u dt (sp_lo m u) (sp_hi m u) a b) D (xm_u2 (xm_u2 (xm_u2 H 0 69 (H 0 69 + u)) 41 b.toNatClampNeg (H 41 b.toNatClampNeg + 1)) 0 68 (Int32.ofNat (xd_n D 2) + 1))) := by
  have XZ := w.lt (cs_K q) (by decide)
  have nX : ¬ xd_X D = xm_Z g := by omega
  have nX1 : ¬ xd_X D = xm_Z g + 1 := by omega
  have zZ := w.lt kz (by decide)
  have nZ : ¬ z = xm_Z g := by omega
  have nZ1 : ¬ z = xm_Z g + 1 := by omega
  have n2 : ¬ xm_Z g = xm_Z g + 1 := by omega
  have ob := cs_P q hb
  have PZ := w.lt ob.2.1 (by decide)
  have nP : ¬ xd_A D 3 b.toNatClampNeg = xm_Z g := by omega
  have nP1 : ¬ xd_A D 3 b.toNatClampNeg = xm_Z g + 1 := by omega
  obtain ⟨r30, k30, n30, b30⟩ := cs_f30 q
  have QZ := w.lt k30 (by decide)
  have nQ : ¬ xd_A D 0 30 = xm_Z g := by omega
  have nQ1 : ¬ xd_A D 0 30 = xm_Z g + 1 := by omega
  have kb := w.1
  have kb1 : xm_B g ≤ xm_Z g + 1 := by omega
  have en : ∀ p, xd_E D (xm_Z g) p = none := fun p => (w.2.1 (xm_Z g) p (Nat.le_refl _)).1
  have en1 : ∀ p, xd_E D (xm_Z g + 1) p = none := fun p => (w.2.1 (xm_Z g + 1) p (Nat.le_succ _)).1
  have w1 : HW (xm_nw g 20 0 10) D := w.nw
  have Kz : xm_K (xm_nw g 20 0 10) (xm_Z g) = 20 := by rw [h_K_nw, if_pos rfl]
  have m217 := @c217 d (xm_nw g 20 0 10) D H w1 (xm_Z g) (xd_X D) Kz kb en u dt m a b hm hu
  have x48 := h48_hx (g := g) (X := xd_X D) (z := z) (u := u) (dt := dt) (lo := sp_lo m u) (hi := sp_hi m u) (ct := a) (rp := b)
  have kz48 : xm_el 116 (xm_K (nH48a g (xd_X D) z u dt (sp_lo m u) (sp_hi m u) a b) (xm_Z g)) = true := by
    rw [cp_K]
    simp only [g_K_sI, g_N_sI, g_B_sI, g_Z_sI, g_K_sL, g_N_sL, g_B_sL, g_Z_sL, g_K_sR, g_N_sR, g_B_sR, g_Z_sR, g_L_sI, g_R_sI, g_I_sL, g_R_sL, g_I_sR, g_L_sR, g_R_sRv, g_K_nw, g_N_nw, g_B_nw, g_Z_nw, h_R_nw, h_I_nw, h_L_nw, n2, ↓reduceIte]
    rfl
  have m49 := c49 (d := d + 3) (F := xm_u2 (xm_u2 H 0 69 (H 0 69 + u)) 41 b.toNatClampNeg (H 41 b.toNatClampNeg + 1)) (q.hx w x48) (by rw [u2_ap, if_neg (by omega), u2_ap, if_neg (by omega)]; exact hn) hc kz48
  have z0 : (0 : Int32).toNatClampNeg = 0 := rfl
  have z12 : (12 : Int32).toNatClampNeg = 12 := rfl
  have cc : (xm_K (xp_c (nH217 (xm_nw g 20 0 10) (xm_Z g) (xd_X D) u dt (sp_lo m u) (sp_hi m u) a b) D H) z = 100 ∨ (xm_K (xp_c (nH217 (xm_nw g 20 0 10) (xm_Z g) (xd_X D) u dt (sp_lo m u) (sp_hi m u) a b) D H) z = 101 ∧ (List.range (12 : Int32).toNatClampNeg).all (fun j => fits .byte (.int (xm_I (xp_c (nH217 (xm_nw g 20 0 10) (xm_Z g) (xd_X D) u dt (sp_lo m u) (sp_hi m u) a b) D H) z ((0 : Int32).toNatClampNeg + j)))) = true)) ∧ xm_K (xp_c (nH217 (xm_nw g 20 0 10) (xm_Z g) (xd_X D) u dt (sp_lo m u) (sp_hi m u) a b) D H) (xm_Z g + 1) = xm_K (xp_c (nH217 (xm_nw g 20 0 10) (xm_Z g) (xd_X D) u dt (sp_lo m u) (sp_hi m u) a b) D H) z ∧ xm_B (xp_c (nH217 (xm_nw g 20 0 10) (xm_Z g) (xd_X D) u dt (sp_lo m u) (sp_hi m u) a b) D H) ≤ xm_Z g + 1 ∧ ¬ z = xm_Z g + 1 ∧ ¬ (12 : Int32) < 0 ∧ ¬ (0 : Int32) < 0 ∧ ¬ (0 : Int32) < 0 ∧ (0 : Int32).toNatClampNeg + (12 : Int32).toNatClampNeg ≤ xm_N (xp_c (nH217 (xm_nw g 20 0 10) (xm_Z g) (xd_X D) u dt (sp_lo m u) (sp_hi m u) a b) D H) z ∧ (0 : Int32).toNatClampNeg + (12 : Int32).toNatClampNeg ≤ xm_N (xp_c (nH217 (xm_nw g 20 0 10) (xm_Z g) (xd_X D) u dt (sp_lo m u) (sp_hi m u) a b) D H) (xm_Z g + 1) ∧ xm_w [] ≤ 8 := by
    simp only [mc_K, mc_N, mc_B, g_K_sI, g_N_sI, g_B_sI, g_Z_sI, g_K_sL, g_N_sL, g_B_sL, g_Z_sL, g_K_sR, g_N_sR, g_B_sR, g_Z_sR, g_L_sI, g_R_sI, g_I_sL, g_R_sL, g_I_sR, g_L_sR, g_R_sRv, g_K_nw, g_N_nw, g_B_nw, g_Z_nw, h_R_nw, h_I_nw, h_L_nw, nZ, nZ1, n2, ↓reduceIte, kz, nz, z0, z12]
    exact ⟨Or.inl trivial, trivial, kb1, by simp, by decide, by decide, by decide, by decide, by decide, by decide⟩
  have fe : (fun j => xm_I (xp_c (nH217 (xm_nw g 20 0 10) (xm_Z g) (xd_X D) u dt (sp_lo m u) (sp_hi m u) a b) D H) z ((0 : Int32).toNatClampNeg + j)) = fun j => xm_I g z j := by
    funext j
    rw [z0, Nat.zero_add, mc_I, ez, va_In]
    simp only [h_I_sI, g_K_sI, g_N_sI, g_B_sI, g_Z_sI, g_K_sL, g_N_sL, g_B_sL, g_Z_sL, g_K_sR, g_N_sR, g_B_sR, g_Z_sR, g_L_sI, g_R_sI, g_I_sL, g_R_sL, g_I_sR, g_L_sR, g_R_sRv, g_K_nw, g_N_nw, g_B_nw, g_Z_nw, h_R_nw, h_I_nw, h_L_nw, nZ, nZ1, false_and, ↓reduceIte]
  have mid : ∀ (l7 : List (Option Value)), xm_run (d + 4) 48 196 l7 [.int 12, .int 0, .ref (xm_Z g + 1), .int 0, .ref z] (xp_c (nH217 (xm_nw g 20 0 10) (xm_Z g) (xd_X D) u dt (sp_lo m u) (sp_hi m u) a b) D H) = xm_run (d + 4) 48 199 l7 [] (xp_c (nH48a g (xd_X D) z u dt (sp_lo m u) (sp_hi m u) a b) D H) := fun l7 => by
    rw [show d + 4 = d + 3 + 1 from rfl, r48_196 cc, fe, z0, z12, mc_cpn en1]
  simp only [ite_not, ite_self, w8_nil, ok01, ite10, rf_rv, rf_ref, rf_cat, rf_lk2, rf_some, rf_none, w_add, w_cons, cr_int, cr_long, cr_ref, cr_null, is_ref, is_null, l2_int, l2_ref, l2_null, l2_none, ent_nil, ent_int, ent_ref, ent_null, ent_rf, ent_long, ok_0, ok_1, af_ret, af_void, List.tail_cons, List.tail_nil, Nat.reduceAdd, Nat.reduceLeDiff, not_false_eq_true, not_true_eq_false, and_self, and_true, true_and, ne_eq, or_true, true_or, or_false, false_or, eq_self, Nat.reduceEqDiff, ↓reduceIte, false_and, and_false, Nat.le_refl, Nat.zero_le, nz_1, nz_2, nz_3, nz_4, nz_5, nz_6, nz_8, nz_10, nz_12, nz_20, nz_30, nz_60, nz_100, mc_B, mc_Z, mc_S, mc_C, mc_K, mc_N, mc_R, mc_I, mc_L, va_Is, va_Ls, va_us, va_iss, u2_ap, sp_isLedge, sp_isLadder, sp_isPerson, sp_isLiving, sp_isLot, sp_isThere, sp_isSpan, g_K_sI, g_N_sI, g_B_sI, g_Z_sI, g_K_sL, g_N_sL, g_B_sL, g_Z_sL, g_K_sR, g_N_sR, g_B_sR, g_Z_sR, g_L_sI, g_R_sI, g_I_sL, g_R_sL, g_I_sR, g_L_sR, g_R_sRv, g_K_nw, g_N_nw, g_B_nw, g_Z_nw, h_R_nw, h_I_nw, h_L_nw, cs_K q, cs_B q, cs_f5 q, cs_f27 q, r48_162, r48_165, r48_166, r48_167, r48_168, r48_171, r48_172, r48_175, r48_177, r48_178, r48_180, r48_183, r48_185, r48_187, r48_188, r48_190, r48_193, r48_194, mid, h27, h5, mc_nw w, mc_sR, nX, nX1, n2, m217]
  simp only [ite_not, ite_self, w8_nil, ok01, ite10, rf_rv, rf_ref, rf_cat, rf_lk2, rf_some, rf_none, w_add, w_cons, cr_int, cr_long, cr_ref, cr_null, is_ref, is_null, l2_int, l2_ref, l2_null, l2_none, ent_nil, ent_int, ent_ref, ent_null, ent_rf, ent_long, ok_0, ok_1, af_ret, af_void, List.tail_cons, List.tail_nil, Nat.reduceAdd, Nat.reduceLeDiff, not_false_eq_true, not_true_eq_false, and_self, and_true, true_and, ne_eq, or_true, true_or, or_false, false_or, eq_self, Nat.reduceEqDiff, ↓reduceIte, false_and, and_false, Nat.le_refl, Nat.zero_le, nz_1, nz_2, nz_3, nz_4, nz_5, nz_6, nz_8, nz_10, nz_12, nz_20, nz_30, nz_60, nz_100, mc_B, mc_Z, mc_S, mc_C, mc_K, mc_N, mc_R, mc_I, mc_L, va_Is, va_Ls, va_us, va_iss, u2_ap, sp_isLedge, sp_isLadder, sp_isPerson, sp_isLiving, sp_isLot, sp_isThere, sp_isSpan, g_K_sI, g_N_sI, g_B_sI, g_Z_sI, g_K_sL, g_N_sL, g_B_sL, g_Z_sL, g_K_sR, g_N_sR, g_B_sR, g_Z_sR, g_L_sI, g_R_sI, g_I_sL, g_R_sL, g_I_sR, g_L_sR, g_R_sRv, g_K_nw, g_N_nw, g_B_nw, g_Z_nw, h_R_nw, h_I_nw, h_L_nw, cp_K, cp_R, cp_B, cp_N, cs_K q, cs_B q, cs_f27 q, cs_f30 q, cs_f35 q, mc_s (cs_inj q), r48_199, r48_200, r48_201, r48_204, r48_205, r48_208, r48_209, r48_212, r48_213, r48_216, r48_218, r48_219, r48_220, r48_223, r48_224, r48_225, r48_228, r48_229, r48_231, r48_234, hn, h27, ib, ob, nX, nX1, nP, nP1, nQ, nQ1, n2, m49]
end CUTT
