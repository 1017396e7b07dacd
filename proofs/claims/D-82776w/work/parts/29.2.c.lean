/-! the component's contracts, 26: a cut is paid -/
set_option maxRecDepth 100000
section C26
variable {d : Nat} {h : xm_H} {D : xp_D} {F : xp_F}
/-- the row of what is due, so far -/
def duI (h : xm_H) (D : xp_D) (F : xp_F) (s a : Int32) (k : Nat) (g : xm_H) : Prop := hx 1 4 h g ∧ HW g D ∧ xm_K g (xm_Z h) = 100 ∧ xm_N g (xm_Z h) = 4 ∧ ∀ j, j < k → xm_I g (xm_Z h) j = sp_due F s j a
noncomputable def pdP (d : Nat) (D : xp_D) (F : xp_F) (i : Nat) (s : Int32) (z : Nat) (k : Nat) (g : xm_H) (t : List (Option Value)) : xm_V := xm_run (d + 1) 221 27 (some (.ref (xd_A D 4 i)) :: some (.int s) :: some (.ref (xd_A D 7 0)) :: some (.int s) :: some (.ref z) :: some (.int (Int32.ofNat k)) :: t) [] (xp_c g D F)
theorem c221d (q : CS h D) (w : HW h D) {i : Nat} {s : Int32} (ha : ¬ (sp_shares F).toInt64 = 0) (k : Nat) (g : xm_H) (t : List (Option Value)) (hk : k < 4) (hI : duI h D F s (sp_shares F) k g) : ∃ t', pdP d D F i s (xm_Z h) k g t = pdP d D F i s (xm_Z h) (k + 1) (xm_sI g (xm_Z h) k (sp_due F s k (sp_shares F))) t' ∧ duI h D F s (sp_shares F) (k + 1) (xm_sI g (xm_Z h) k (sp_due F s k (sp_shares F))) := by
  obtain ⟨x, wg, kz, nz, iz⟩ := hI
  have qg := q.hx w x
  have o1 := cs_U qg (show 0 < 2 by decide)
  have o2 := (cs_U qg (show 0 < 2 by decide)).2.2.2.2.2.2.2.2.2.2.2 k hk
  rw [show 4 * 0 + k = k by omega] at o2
  obtain ⟨i1, e1⟩ := in_nat hk (by decide)
  have c0 : ¬ (4 : Int32) ≤ Int32.ofNat k := (lp_k (x := 4) (N := 4) ⟨by decide, by decide⟩ (by decide) hk).2.2.1
  have m := @c88 d g D F qg
  have bz : xm_B g ≤ xm_Z h := by rw [x.1]; exact w.1
  have en : xd_E D (xm_Z h) k = none := (w.2.1 (xm_Z h) k (Nat.le_refl _)).1
  have sn := mc_sn (h := g) (D := D) (F := F) (v := sp_due F s k (sp_shares F)) en
  have j1 : (s.toInt64 * (F 17 k).toInt64 / (sp_shares F).toInt64).toInt32 = sp_due F s k (sp_shares F) := rfl
  refine ⟨t, ?_, x.sI (Nat.le_refl _), wg, kz, nz, fun j hj => ?_⟩
  · unfold pdP
    rw [← sn]
    have h4 : xm_run (d + 1) 221 27 (some (.ref (xd_A D 4 i)) :: some (.int s) :: some (.ref (xd_A D 7 0)) :: some (.int s) :: some (.ref (xm_Z h)) :: some (.int (Int32.ofNat k)) :: t) [] (xp_c g D F) = xm_run (d + 1) 221 27 (some (.ref (xd_A D 4 i)) :: some (.int s) :: some (.ref (xd_A D 7 0)) :: some (.int s) :: some (.ref (xm_Z h)) :: some (.int (Int32.ofNat (k + 1))) :: t) [] (xm_sI (xp_c g D F) (xm_Z h) k (sp_due F s k (sp_shares F))) := by
      rw [r221_27]
      simp only [ite_not, ite_self, w8_nil, ok01, ite10, rf_rv, rf_ref, rf_cat, rf_lk2, rf_some, rf_none, w_add, w_cons, cr_int, cr_long, cr_ref, cr_null, is_ref, is_null, l2_int, l2_ref, l2_null, l2_none, ent_nil, ent_int, ent_ref, ent_null, ent_rf, ent_long, ok_0, ok_1, af_ret, af_void, List.tail_cons, List.tail_nil, Nat.reduceAdd, Nat.reduceLeDiff, not_false_eq_true, not_true_eq_false, and_self, and_true, true_and, ne_eq, or_true, true_or, or_false, false_or, eq_self, Nat.reduceEqDiff, ↓reduceIte, false_and, and_false, Nat.le_refl, Nat.zero_le, nz_1, nz_2, nz_3, nz_4, nz_5, nz_6, nz_8, nz_10, nz_12, nz_20, nz_30, nz_60, nz_100, mc_B, mc_Z, mc_S, mc_C, mc_K, mc_N, mc_R, mc_I, mc_L, va_Is, va_Ls, va_us, va_iss, u2_ap, sp_isLedge, sp_isLadder, sp_isPerson, sp_isLiving, sp_isLot, sp_isThere, sp_isSpan, r221_29, r221_33, r221_35, r221_37, r221_38, r221_39, r221_40, r221_43, r221_45, r221_46, r221_47, r221_48, r221_49, r221_52, r221_53, r221_54, r221_55, r221_56, r221_59, r221_30, c0, i1, e1, o1, o2, kz, nz, bz, m, ha, j1, nat_succ]
    exact h4
  · rw [h_I_sI]
    by_cases e : j = k
    · rw [if_pos ⟨rfl, e⟩, e]
    · rw [if_neg (fun y => e y.2)]
      exact iz j (by omega)
noncomputable def plP (d : Nat) (D : xp_D) (g : xm_H) (i : Nat) (s : Int32) (z : Nat) (l : Nat) (st : Int32 × xp_F) (t : List (Option Value)) : xm_V := xm_run (d + 2) 221 125 (some (.ref (xd_A D 4 i)) :: some (.int s) :: some (.ref (xd_A D 7 0)) :: some (.int st.1) :: some (.ref z) :: some (.int (Int32.ofNat l)) :: t) [] (xp_c g D st.2)
theorem c221l (q : CS h D) (w : HW h D) (hn : F 0 6 = Int32.ofNat (xd_n D 0)) (hP : PWy D F) {i : Nat} (hi : i < xd_n D 2) (em : xd_m D i = none) {s a : Int32} (nu : ¬ (F 44 i).toInt64 = 0) {g : xm_H} (hI : duI h D F s a 4 g) (l : Nat) (st : Int32 × xp_F) (t : List (Option Value)) (hl : l < xd_n D 0) {st0 : Int32 × xp_F} (hs : st = xp_up (sp_pay1 F i s a) st0 l ∧ pp F st.2) :
    ∃ (st' : Int32 × xp_F) (t' : List (Option Value)), plP d D g i s (xm_Z h) l st t = plP d D g i s (xm_Z h) (l + 1) st' t' ∧ st' = xp_up (sp_pay1 F i s a) st0 (l + 1) ∧ pp F st'.2 := by
  obtain ⟨x, wg, kz, nz, iz⟩ := hI
  have qg := q.hx w x
  obtain ⟨b, G⟩ := st
  have h1 : (b, G) = xp_up (sp_pay1 F i s a) st0 l := hs.1
  have h2 : pp F G := hs.2
  have up : xp_up (sp_pay1 F i s a) st0 (l + 1) = sp_pay1 F i s a l (b, G) := by rw [h1]; rfl
  have hp' : pp F (sp_pay1 F i s a l (b, G)).2 := pay1_pp h2
  have n12 := (cs_n q).1
  have i40 := (cs_n q).2.2.1
  obtain ⟨o0, -, -, o3, o4, o5, o6, o7, o8⟩ := cs_C qg hi em
  have o1 := cs_I qg hi
  have o2 := cs_is qg hi
  have o9 := o8 l (by omega)
  have c0 := lt_nat hl (by omega)
  obtain ⟨i1, e1⟩ := in_nat (show l < 12 by omega) (by decide)
  have g0 := h2 0 6 (by decide) (by decide)
  rw [hn] at g0
  have g1 := h2 52 (12 * i + l) (by decide) (by decide)
  have g2 := h2 9 l (by decide) (by decide)
  have g3 := h2 44 i (by decide) (by decide)
  have z2 : (2 : Int32).toNatClampNeg = 2 := rfl
  have z3 : (3 : Int32).toNatClampNeg = 3 := rfl
  have y2 : xm_in 2 4 = true := by decide
  have y3 : xm_in 3 4 = true := by decide
  have en : ∀ p, xd_E D (xm_Z h) p = none := fun p => (w.2.1 (xm_Z h) p (Nat.le_refl _)).1
  have d2 := iz 2 (by decide)
  have d3 := iz 3 (by decide)
  have j2 : ((sp_due F s 2 a).toInt64 * (F 52 (12 * i + l)).toInt64 / (F 44 i).toInt64).toInt32 = sp_part F i l (sp_due F s 2 a) := rfl
  have j3 : ((sp_due F s 3 a).toInt64 * (F 52 (12 * i + l)).toInt64 / (F 44 i).toInt64).toInt32 = sp_part F i l (sp_due F s 3 a) := rfl
  have m1 := @c222 (d + 1) g D qg i hi em l hl G (by rw [g2]; exact hP.2.1 l hl) (sp_part F i l (sp_due F s 2 a))
  rw [g2] at m1
  generalize eG1 : (if F 9 l = -1 then G else xm_u2 G 42 (F 9 l).toNatClampNeg (G 42 (F 9 l).toNatClampNeg + sp_part F i l (sp_due F s 2 a))) = G1 at m1
  have p1 : pp F G1 := by
    rw [← eG1]
    split
    · exact h2
    · exact h2.tr pp.m
  have q1 := p1 52 (12 * i + l) (by decide) (by decide)
  have q3 := p1 44 i (by decide) (by decide)
  have m2 := @c223 d g D qg i hi em l G1 (by rw [p1 0 95 (by decide) (by decide)]; exact hP.1) (fun k => by rw [p1 65 k (by decide) (by decide)]; exact hP.2.2 k) (sp_part F i l (sp_due F s 3 a))
  have eo : sp_own G1 i l = sp_own F i l := by
    unfold sp_own
    rw [p1.whose, p1 49 i (by decide) (by decide)]
  rw [eo] at m2
  have fin : sp_pay1 F i s a l (b, G) = (b - (if F 9 l = -1 then 0 else sp_part F i l (sp_due F s 2 a)) - (if sp_own F i l = -1 then 0 else sp_part F i l (sp_due F s 3 a)), if sp_own F i l = -1 then G1 else xm_u2 G1 55 (sp_own F i l).toNatClampNeg (G1 55 (sp_own F i l).toNatClampNeg + sp_part F i l (sp_due F s 3 a))) := by
    rw [pay1_all]
    have f1 : sp_find1 F i s a l (b, G) = (b - (if F 9 l = -1 then 0 else sp_part F i l (sp_due F s 2 a)), G1) := by
      unfold sp_find1
      rw [← eG1]
      split
      · rw [Int32.sub_zero]
      · rfl
    rw [f1]
    unfold sp_own1
    split
    · rw [Int32.sub_zero]
    · rfl
  refine ⟨sp_pay1 F i s a l (b, G), t, ?_, up.symm, hp'⟩
  rw [fin]
  unfold plP
  show xm_run (d + 2) 221 125 (some (.ref (xd_A D 4 i)) :: some (.int s) :: some (.ref (xd_A D 7 0)) :: some (.int b) :: some (.ref (xm_Z h)) :: some (.int (Int32.ofNat l)) :: t) [] (xp_c g D G) = _
  rw [r221_125]
  simp only [ite_not, ite_self, w8_nil, ok01, ite10, rf_rv, rf_ref, rf_cat, rf_lk2, rf_some, rf_none, w_add, w_cons, cr_int, cr_long, cr_ref, cr_null, is_ref, is_null, l2_int, l2_ref, l2_null, l2_none, ent_nil, ent_int, ent_ref, ent_null, ent_rf, ent_long, ok_0, ok_1, af_ret, af_void, List.tail_cons, List.tail_nil, Nat.reduceAdd, Nat.reduceLeDiff, not_false_eq_true, not_true_eq_false, and_self, and_true, true_and, ne_eq, or_true, true_or, or_false, false_or, eq_self, Nat.reduceEqDiff, ↓reduceIte, false_and, and_false, Nat.le_refl, Nat.zero_le, nz_1, nz_2, nz_3, nz_4, nz_5, nz_6, nz_8, nz_10, nz_12, nz_20, nz_30, nz_60, nz_100, mc_B, mc_Z, mc_S, mc_C, mc_K, mc_N, mc_R, mc_I, mc_L, va_Is, va_Ls, va_us, va_iss, u2_ap, sp_isLedge, sp_isLadder, sp_isPerson, sp_isLiving, sp_isLot, sp_isThere, sp_isSpan, va_In, cs_K qg, cs_f4 qg, r221_127, r221_128, r221_131, r221_137, r221_138, r221_139, r221_141, r221_143, r221_144, r221_145, r221_146, r221_147, r221_150, r221_152, r221_153, r221_154, r221_155, r221_156, r221_159, r221_160, r221_161, r221_162, r221_165, r221_166, r221_167, r221_168, r221_169, r221_171, r221_173, r221_174, r221_175, r221_176, r221_177, r221_180, r221_182, r221_183, r221_184, r221_185, r221_186, r221_189, r221_190, r221_191, r221_192, r221_195, r221_196, r221_197, r221_200, r221_134, g0, c0, i1, e1, o0, o1, o2, o3, o4, o5, o6, o7, o9, kz, nz, en, d2, d3, z2, z3, y2, y3, g1, g3, nu, j2, m1, q1, q3, j3, m2, nat_succ]
theorem c221 (q : CS h D) (w : HW h D) (hn : F 0 6 = Int32.ofNat (xd_n D 0)) (hP : PWy D F) (h0 : 0 ≤ (sp_shares F).toInt) {i : Nat} (hi : i < xd_n D 2) (em : xd_m D i = none) (nu : ¬ (F 44 i).toInt64 = 0) (hc : xm_in (F 47 i) (xd_n D 1) = true) (hr : xm_in (F 48 i) (xd_n D 1) = true) {s : Int32} :
    ∃ h', xm_met (d + 2) 221 [.ref (xd_A D 4 i), .int s] (xp_c h D F) = some (.inl none, xp_c h' D (xm_u2 (sp_pay F i s).2 0 70 (F 0 70 + (sp_pay F i s).1))) ∧ hx 1 4 h h' ∧ HW h' D := by
  have n12 := (cs_n q).1
  have n16 := (cs_n q).2.1
  have m0 := @c88 (d + 1) h D F q
  obtain ⟨o0, -, -, o3, o4, o5, o6, o7, o8⟩ := cs_C q hi em
  have o1 := cs_U q (show 0 < 2 by decide)
  have z0 : (0 : Int32).toNatClampNeg = 0 := rfl
  have y20 : xm_in 0 2 = true := by decide
  by_cases c1 : sp_shares F = 0
  · have e1 : sp_pay F i s = (s, F) := if_pos c1
    have c1' : sp_shares F ≤ 0 := by rw [c1]; exact Int32.le_refl _
    refine ⟨h, ?_, hx.rf, w⟩
    rw [e1]
    unfold xm_met
    simp only [ite_not, ite_self, w8_nil, ok01, ite10, rf_rv, rf_ref, rf_cat, rf_lk2, rf_some, rf_none, w_add, w_cons, cr_int, cr_long, cr_ref, cr_null, is_ref, is_null, l2_int, l2_ref, l2_null, l2_none, ent_nil, ent_int, ent_ref, ent_null, ent_rf, ent_long, ok_0, ok_1, af_ret, af_void, List.tail_cons, List.tail_nil, Nat.reduceAdd, Nat.reduceLeDiff, not_false_eq_true, not_true_eq_false, and_self, and_true, true_and, ne_eq, or_true, true_or, or_false, false_or, eq_self, Nat.reduceEqDiff, ↓reduceIte, false_and, and_false, Nat.le_refl, Nat.zero_le, nz_1, nz_2, nz_3, nz_4, nz_5, nz_6, nz_8, nz_10, nz_12, nz_20, nz_30, nz_60, nz_100, mc_B, mc_Z, mc_S, mc_C, mc_K, mc_N, mc_R, mc_I, mc_L, va_Is, va_Ls, va_us, va_iss, u2_ap, sp_isLedge, sp_isLadder, sp_isPerson, sp_isLiving, sp_isLot, sp_isThere, sp_isSpan, cs_K q, cs_B q, cs_f19 q, cs_f34 q, mc_s (cs_inj q), r221_0, r221_1, r221_4, r221_7, r221_8, r221_9, r221_10, r221_11, r221_12, r221_13, r221_16, r221_203, r221_204, r221_207, r221_208, r221_211, r221_212, r221_213, r221_216, o0, o4, o1, z0, y20, m0, c1']
  have c1' : ¬ sp_shares F ≤ 0 := fun z => c1 (by
    have := Int32.le_iff_toInt_le.mp z
    rw [show (0 : Int32).toInt = 0 from rfl] at this
    exact i_eq (show (sp_shares F).toInt = (0 : Int32).toInt by rw [show (0 : Int32).toInt = 0 from rfl]; omega))
  have ha : ¬ (sp_shares F).toInt64 = 0 := fun z => c1 (by
    have := congrArg Int64.toInt32 z
    rw [l2i] at this
    exact this.trans (by decide))
  have d0 : duI h D F s (sp_shares F) 0 (xm_nw h 100 4 4) := ⟨hx_nw, w.nw, by rw [h_K_nw, if_pos rfl], by rw [h_N_nw, if_pos rfl], fun j hj => absurd hj (Nat.not_lt_zero _)⟩
  obtain ⟨t, e, hI⟩ := xp_loop (P := pdP (d + 1) D F i s (xm_Z h)) (n := 4) (fun k g => duI h D F s (sp_shares F) k g) (f := fun k g => xm_sI g (xm_Z h) k (sp_due F s k (sp_shares F))) (fun k g t hk hI => c221d q w ha k g t hk hI) 4 0 (xm_nw h 100 4 4) [] (Nat.zero_add _) d0
  generalize xp_it (fun k g => xm_sI g (xm_Z h) k (sp_due F s k (sp_shares F))) 0 4 (xm_nw h 100 4 4) = g at e hI
  have hI' := hI
  obtain ⟨x, wg, kz, nz, iz⟩ := hI
  have qg := q.hx w x
  obtain ⟨cc1, cc2⟩ := nr_lt hc n16
  obtain ⟨rr1, rr2⟩ := nr_lt hr n16
  have og := cs_C qg hi em
  have oc := cs_P qg cc2
  have or' := cs_P qg rr2
  have en : ∀ p, xd_E D (xm_Z h) p = none := fun p => (w.2.1 (xm_Z h) p (Nat.le_refl _)).1
  have iz0 := iz 0 (by decide)
  have iz1 := iz 1 (by decide)
  have z1 : (1 : Int32).toNatClampNeg = 1 := rfl
  have y0 : xm_in 0 4 = true := by decide
  have y1 : xm_in 1 4 = true := by decide
  have es : s - (sp_due F s 0 (sp_shares F) + sp_due F s 1 (sp_shares F)) = s - sp_due F s 0 (sp_shares F) - sp_due F s 1 (sp_shares F) := (Int32.sub_sub _ _ _).symm
  obtain ⟨⟨b, G⟩, t2, e2, i1, i2⟩ := xp_loop2 (P := plP d D g i s (xm_Z h)) (n := xd_n D 0) (fun l st => st = xp_up (sp_pay1 F i s (sp_shares F)) (sp_pay0 F i s (sp_shares F)) l ∧ pp F st.2) (fun l st t hl hs => c221l q w hn hP hi em nu hI' l st t hl hs) _ 0 (sp_pay0 F i s (sp_shares F)) t (Nat.zero_add _) ⟨rfl, pp.m.tr pp.m⟩
  have i2 : pp F G := i2
  have gn := i2 0 6 (by decide) (by decide)
  rw [hn] at gn
  have gt := i2 0 70 (by decide) (by decide)
  have cz : Int32.ofNat (xd_n D 0) ≤ Int32.ofNat (xd_n D 0) := Int32.le_refl _
  have ep : sp_pay F i s = (b, G) := by
    rw [i1]
    unfold sp_pay
    rw [if_neg c1, hn, tc_nat (by omega)]
  have cz4 : (4 : Int32) ≤ Int32.ofNat 4 := by decide
  have tn4 : (4 : Int32).toNatClampNeg = 4 := rfl
  have n40 : ¬ (4 : Int32) < 0 := by decide
  have l4 : 4 ≤ 100000 := by decide
  refine ⟨g, ?_, x, wg⟩
  rw [ep]
  unfold pdP at e
  unfold plP sp_pay0 at e2
  rw [show Int32.ofNat 0 = (0 : Int32) from rfl] at e e2
  simp only [u2_ap, eq_self, true_and] at e2
  unfold xm_met
  simp only [ite_not, ite_self, w8_nil, ok01, ite10, rf_rv, rf_ref, rf_cat, rf_lk2, rf_some, rf_none, w_add, w_cons, cr_int, cr_long, cr_ref, cr_null, is_ref, is_null, l2_int, l2_ref, l2_null, l2_none, ent_nil, ent_int, ent_ref, ent_null, ent_rf, ent_long, ok_0, ok_1, af_ret, af_void, List.tail_cons, List.tail_nil, Nat.reduceAdd, Nat.reduceLeDiff, not_false_eq_true, not_true_eq_false, and_self, and_true, true_and, ne_eq, or_true, true_or, or_false, false_or, eq_self, Nat.reduceEqDiff, ↓reduceIte, false_and, and_false, Nat.le_refl, Nat.zero_le, nz_1, nz_2, nz_3, nz_4, nz_5, nz_6, nz_8, nz_10, nz_12, nz_20, nz_30, nz_60, nz_100, mc_B, mc_Z, mc_S, mc_C, mc_K, mc_N, mc_R, mc_I, mc_L, va_Is, va_Ls, va_us, va_iss, u2_ap, sp_isLedge, sp_isLadder, sp_isPerson, sp_isLiving, sp_isLot, sp_isThere, sp_isSpan, cs_K q, cs_B q, cs_f19 q, mc_nw w, r221_0, r221_1, r221_4, r221_7, r221_8, r221_9, r221_10, r221_11, r221_12, r221_13, r221_19, r221_20, r221_22, r221_24, r221_25, r221_16, o0, o4, o1, z0, y20, m0, c1', tn4, n40, l4]
  rw [e, r221_27]
  simp only [ite_not, ite_self, w8_nil, ok01, ite10, rf_rv, rf_ref, rf_cat, rf_lk2, rf_some, rf_none, w_add, w_cons, cr_int, cr_long, cr_ref, cr_null, is_ref, is_null, l2_int, l2_ref, l2_null, l2_none, ent_nil, ent_int, ent_ref, ent_null, ent_rf, ent_long, ok_0, ok_1, af_ret, af_void, List.tail_cons, List.tail_nil, Nat.reduceAdd, Nat.reduceLeDiff, not_false_eq_true, not_true_eq_false, and_self, and_true, true_and, ne_eq, or_true, true_or, or_false, false_or, eq_self, Nat.reduceEqDiff, ↓reduceIte, false_and, and_false, Nat.le_refl, Nat.zero_le, nz_1, nz_2, nz_3, nz_4, nz_5, nz_6, nz_8, nz_10, nz_12, nz_20, nz_30, nz_60, nz_100, mc_B, mc_Z, mc_S, mc_C, mc_K, mc_N, mc_R, mc_I, mc_L, va_Is, va_Ls, va_us, va_iss, u2_ap, sp_isLedge, sp_isLadder, sp_isPerson, sp_isLiving, sp_isLot, sp_isThere, sp_isSpan, va_In, cs_K qg, cs_f30 qg, mc_s (cs_inj qg), r221_29, r221_30, r221_62, r221_63, r221_66, r221_69, r221_70, r221_73, r221_74, r221_75, r221_78, r221_80, r221_81, r221_82, r221_83, r221_86, r221_87, r221_90, r221_93, r221_94, r221_97, r221_98, r221_99, r221_102, r221_104, r221_105, r221_106, r221_107, r221_110, r221_111, r221_113, r221_114, r221_115, r221_117, r221_118, r221_119, r221_120, r221_121, r221_122, r221_123, cz4, og, oc, or', kz, nz, en, iz0, iz1, z0, z1, y0, y1, cc1, rr1, es]
  rw [e2]
  show xm_run (d + 2) 221 125 (some (.ref (xd_A D 4 i)) :: some (.int s) :: some (.ref (xd_A D 7 0)) :: some (.int b) :: some (.ref (xm_Z h)) :: some (.int (Int32.ofNat (xd_n D 0))) :: t2) [] (xp_c g D G) = _
  rw [r221_125]
  simp only [ite_not, ite_self, w8_nil, ok01, ite10, rf_rv, rf_ref, rf_cat, rf_lk2, rf_some, rf_none, w_add, w_cons, cr_int, cr_long, cr_ref, cr_null, is_ref, is_null, l2_int, l2_ref, l2_null, l2_none, ent_nil, ent_int, ent_ref, ent_null, ent_rf, ent_long, ok_0, ok_1, af_ret, af_void, List.tail_cons, List.tail_nil, Nat.reduceAdd, Nat.reduceLeDiff, not_false_eq_true, not_true_eq_false, and_self, and_true, true_and, ne_eq, or_true, true_or, or_false, false_or, eq_self, Nat.reduceEqDiff, ↓reduceIte, false_and, and_false, Nat.le_refl, Nat.zero_le, nz_1, nz_2, nz_3, nz_4, nz_5, nz_6, nz_8, nz_10, nz_12, nz_20, nz_30, nz_60, nz_100, mc_B, mc_Z, mc_S, mc_C, mc_K, mc_N, mc_R, mc_I, mc_L, va_Is, va_Ls, va_us, va_iss, u2_ap, sp_isLedge, sp_isLadder, sp_isPerson, sp_isLiving, sp_isLot, sp_isThere, sp_isSpan, cs_K qg, cs_B qg, cs_f4 qg, cs_f34 qg, mc_s (cs_inj qg), r221_127, r221_128, r221_131, r221_134, r221_203, r221_204, r221_207, r221_208, r221_211, r221_212, r221_213, r221_216, gn, cz, og, gt]
end C26
