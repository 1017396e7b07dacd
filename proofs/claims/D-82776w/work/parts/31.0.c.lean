/-! a cut comes: its ledges -/
set_option maxRecDepth 100000
section CUTL
variable {d : Nat} {h : xm_H} {D : xp_D} {F G0 : xp_F}
noncomputable def ct48 (d : Nat) (D : xp_D) (z : Nat) (k c a b : Int32) (q : Nat) (s : Int32 × xp_F × xm_H) (t : List (Option Value)) : xm_V := xm_run (d + 2) 48 93 (some (.ref (xd_X D)) :: some (.int k) :: some (.int c) :: some (.int a) :: some (.int b) :: some (.long s.1.toInt64) :: none :: some (.ref z) :: some (.int (Int32.ofNat q)) :: t) [] (xp_c s.2.2 D s.2.1)
abbrev ctN (o : Nat) : Prop := o = 6 ∨ o = 7 ∨ o = 8 ∨ o = 12
def ctI (h : xm_H) (D : xp_D) (F G0 : xp_F) (st c : Nat → Int32) (p : List Nat) (u : Int32) (k : Nat) (s : Int32 × xp_F × xm_H) : Prop := s.1 = (sp_cuts F st c (xd_n D 2) p (sp_cutC F u) k).1 ∧ (0 ≤ s.1.toInt ∧ s.1.toInt ≤ 32400 * k) ∧ (∀ o j, s.2.1 o j = if ctN o then (sp_cuts F st c (xd_n D 2) p (sp_cutC F u) k).2 o j else G0 o j) ∧ hx 1 12 h s.2.2 ∧ HW s.2.2 D ∧ xm_K s.2.2 (xm_Z h) = 100 ∧ xm_N s.2.2 (xm_Z h) = 12 ∧ ∀ l, l < 12 → xm_I s.2.2 (xm_Z h) l = (sp_cuts F st c (xd_n D 2) p (sp_cutC F u) k).2 52 (12 * xd_n D 2 + l)
/-- a row that the component can cut -/
def CWc (D : xp_D) (F : xp_F) (st : Nat → Int32) (p : List Nat) : Prop := (∀ j, j < p.length → nthr p j < xd_n D 0 ∧ LKx true (nthr p j) F ∧ 0 ≤ (st (nthr p j)).toInt ∧ (st (nthr p j)).toInt ≤ (F 6 (nthr p j)).toInt) ∧ ∀ i j, i < j → j < p.length → ¬ nthr p i = nthr p j
theorem c48s (q : CS h D) (w : HW h D) {n : Nat} {L : Nat → Ln} {u bm bs : Int32} {p : List Nat} (h7 : p.length ≤ 7) (hg : cq F G0) (hb : BRc G0 (u, bm, bs, p)) (h83 : ∀ j, j < p.length → G0 83 (nthr p j) = sp_cutOf F n L (nthr p j)) (hw : CWc D F (sp_stays F n L) p) {k c a b : Int32} (j : Nat) (s : Int32 × xp_F × xm_H) (t : List (Option Value)) (hj : j < p.length) (hs : ctI h D F G0 (sp_stays F n L) (sp_cutOf F n L) p u j s) :
    ∃ (s' : Int32 × xp_F × xm_H) (t' : List (Option Value)), ct48 d D (xm_Z h) k c a b j s t = ct48 d D (xm_Z h) k c a b (j + 1) s' t' ∧ ctI h D F G0 (sp_stays F n L) (sp_cutOf F n L) p u (j + 1) s' := by
  obtain ⟨w1, w2⟩ := hw
  have cw := cuts_cw (F := F) (st := sp_stays F n L) (c := sp_cutOf F n L) (i := xd_n D 2) (u := u) w2 j (by omega)
  obtain ⟨m, H, g⟩ := s
  obtain ⟨s1, ⟨s2, s3⟩, s4, x, wg, kz, nz, iz⟩ := hs
  have s1 : m = (sp_cuts F (sp_stays F n L) (sp_cutOf F n L) (xd_n D 2) p (sp_cutC F u) j).1 := s1
  have s2 : 0 ≤ m.toInt := s2
  have s3 : m.toInt ≤ 32400 * j := s3
  have s4 : ∀ o k, H o k = if ctN o then (sp_cuts F (sp_stays F n L) (sp_cutOf F n L) (xd_n D 2) p (sp_cutC F u) j).2 o k else G0 o k := s4
  have x : hx 1 12 h g := x
  have wg : HW g D := wg
  have kz : xm_K g (xm_Z h) = 100 := kz
  have nz : xm_N g (xm_Z h) = 12 := nz
  have iz : ∀ l, l < 12 → xm_I g (xm_Z h) l = (sp_cuts F (sp_stays F n L) (sp_cutOf F n L) (xd_n D 2) p (sp_cutC F u) j).2 52 (12 * xd_n D 2 + l) := iz
  have up : sp_cuts F (sp_stays F n L) (sp_cutOf F n L) (xd_n D 2) p (sp_cutC F u) (j + 1) = sp_cut1 F (sp_stays F n L) (sp_cutOf F n L) (xd_n D 2) (nthr p j) (sp_cuts F (sp_stays F n L) (sp_cutOf F n L) (xd_n D 2) p (sp_cutC F u) j) := rfl
  generalize hS : sp_cuts F (sp_stays F n L) (sp_cutOf F n L) (xd_n D 2) p (sp_cutC F u) j = S at *
  obtain ⟨l0, lk, st1, st2⟩ := w1 j hj
  have f83 := h83 j hj
  have c6 := cw.1 j (Nat.le_refl _) hj 6 (by omega)
  have c7 := cw.1 j (Nat.le_refl _) hj 7 (by omega)
  generalize hl : nthr p j = l at *
  have n12 := (cs_n q).1
  have qg := q.hx w x
  have H6 : H 6 l = F 6 l := by rw [s4, if_pos (by omega)]; exact c6
  have H7 : H 7 l = F 7 l := by rw [s4, if_pos (by omega)]; exact c7
  have H83 : H 83 l = sp_cutOf F n L l := by rw [s4, if_neg (by omega)]; exact f83
  have H85 : H 85 j = Int32.ofNat l := by rw [s4, if_neg (by omega), hb.2.2.2.2 j hj, hl]
  have H26 : H 80 26 = Int32.ofNat p.length := by rw [s4, if_neg (by omega)]; exact hb.2.2.2.1
  have ex : F 6 l - sp_cutOf F n L l = sp_stays F n L l := by
    unfold sp_cutOf
    rw [Int32.sub_eq_add_neg, Int32.neg_sub, Int32.sub_eq_add_neg, Int32.add_comm, Int32.add_assoc, Int32.add_left_neg, Int32.add_zero]
  have ey : F 6 l - sp_stays F n L l = sp_cutOf F n L l := rfl
  have lkH : LKx true l H := ⟨by show 0 < (H 6 l).toInt; rw [H6]; exact lk.1, by show (H 6 l).toInt ≤ _; rw [H6]; exact lk.2.1, by show 0 ≤ (H 7 l).toInt; rw [H7]; exact lk.2.2.1, by show (H 7 l).toInt ≤ _; rw [H7]; exact lk.2.2.2⟩
  have m188 : xm_met (d + 1) 188 [.ref (xd_A D 1 l), .int (sp_stays F n L l)] (xp_c (xm_sI g (xm_Z h) l (sp_cutOf F n L l)) D H) = some (.inl (some (.long (sq_mad true H l (sp_stays F n L l)).toInt64)), xp_c (xm_sI g (xm_Z h) l (sp_cutOf F n L l)) D (sq_cutL true H l (sp_stays F n L l))) := by
    exact c188 (b := true) (h := xm_sI g (xm_Z h) l (sp_cutOf F n L l)) (q.hx w (x.sI (Nat.le_refl _))) l0 lkH ⟨st1, by show _ ≤ (H 6 l).toInt; rw [H6]; exact st2⟩
  have em : sq_mad true H l (sp_stays F n L l) = sp_mad1 F (sp_cutOf F n L) l := by
    show H 7 l * (H 6 l - sp_stays F n L l) / H 6 l = _
    rw [H6, H7]
    rfl
  have bm' := mad_bd lkH (x := sp_stays F n L l) ⟨st1, by show _ ≤ (H 6 l).toInt; rw [H6]; exact st2⟩
  rw [em] at bm' m188
  obtain ⟨-, b2, b3⟩ := bm'
  have b4 : (sp_mad1 F (sp_cutOf F n L) l).toInt ≤ 32400 := Int.le_trans b3 lkH.2.2.2
  have ea : m.toInt64 + (sp_mad1 F (sp_cutOf F n L) l).toInt64 = (m + sp_mad1 F (sp_cutOf F n L) l).toInt64 := l_add (by omega)
  have em2 : (m + sp_mad1 F (sp_cutOf F n L) l).toInt = m.toInt + (sp_mad1 F (sp_cutOf F n L) l).toInt := ti_add (by omega)
  obtain ⟨i1, e1⟩ := in_nat (show j < 7 by omega) (by decide)
  obtain ⟨i2, e2⟩ := in_nat (show l < 12 by omega) (by decide)
  have c0 := lt_nat hj (by omega)
  have kb : xm_B g ≤ xm_Z h := by rw [x.1]; exact w.1
  have en : ∀ p, xd_E D (xm_Z h) p = none := fun p => (w.2.1 (xm_Z h) p (Nat.le_refl _)).1
  have o1 := cs_L qg l0
  refine ⟨(m + sp_mad1 F (sp_cutOf F n L) l, sq_cutL true H l (sp_stays F n L l), xm_sI g (xm_Z h) l (sp_cutOf F n L l)), some (.int (Int32.ofNat l)) :: t.tail, ?_, ?_⟩
  · unfold ct48
    show xm_run (d + 2) 48 93 (some (.ref (xd_X D)) :: some (.int k) :: some (.int c) :: some (.int a) :: some (.int b) :: some (.long m.toInt64) :: none :: some (.ref (xm_Z h)) :: some (.int (Int32.ofNat j)) :: t) [] (xp_c g D H) = xm_run (d + 2) 48 93 (some (.ref (xd_X D)) :: some (.int k) :: some (.int c) :: some (.int a) :: some (.int b) :: some (.long (m + sp_mad1 F (sp_cutOf F n L) l).toInt64) :: none :: some (.ref (xm_Z h)) :: some (.int (Int32.ofNat (j + 1))) :: some (.int (Int32.ofNat l)) :: t.tail) [] (xp_c (xm_sI g (xm_Z h) l (sp_cutOf F n L l)) D (sq_cutL true H l (sp_stays F n L l)))
    rw [r48_93]
    simp only [ite_not, ite_self, w8_nil, ok01, ite10, rf_rv, rf_ref, rf_cat, rf_lk2, rf_some, rf_none, w_add, w_cons, cr_int, cr_long, cr_ref, cr_null, is_ref, is_null, l2_int, l2_ref, l2_null, l2_none, ent_nil, ent_int, ent_ref, ent_null, ent_rf, ent_long, ok_0, ok_1, af_ret, af_void, List.tail_cons, List.tail_nil, Nat.reduceAdd, Nat.reduceLeDiff, not_false_eq_true, not_true_eq_false, and_self, and_true, true_and, ne_eq, or_true, true_or, or_false, false_or, eq_self, Nat.reduceEqDiff, ↓reduceIte, false_and, and_false, Nat.le_refl, Nat.zero_le, nz_1, nz_2, nz_3, nz_4, nz_5, nz_6, nz_8, nz_10, nz_12, nz_20, nz_30, nz_60, nz_100, mc_B, mc_Z, mc_S, mc_C, mc_K, mc_N, mc_R, mc_I, mc_L, va_Is, va_Ls, va_us, va_iss, u2_ap, sp_isLedge, sp_isLadder, sp_isPerson, sp_isLiving, sp_isLot, sp_isThere, sp_isSpan, g_K_sI, g_N_sI, g_B_sI, g_Z_sI, g_K_sL, g_N_sL, g_B_sL, g_Z_sL, g_K_sR, g_N_sR, g_B_sR, g_Z_sR, g_L_sI, g_R_sI, g_I_sL, g_R_sL, g_I_sR, g_L_sR, g_R_sRv, g_K_nw, g_N_nw, g_B_nw, g_Z_nw, h_R_nw, h_I_nw, h_L_nw, cs_K qg, cs_B qg, cs_f0 qg, cs_f23 qg, cs_f25 qg, cs_f26 qg, r48_95, r48_96, r48_102, r48_103, r48_106, r48_108, r48_109, r48_111, r48_113, r48_115, r48_116, r48_119, r48_121, r48_122, r48_123, r48_125, r48_126, r48_129, r48_131, r48_132, r48_133, r48_136, r48_138, r48_139, r48_142, r48_143, r48_146, r48_148, r48_149, r48_150, r48_153, r48_154, r48_156, r48_159, r48_99, H26, H85, H83, H6, c0, i1, e1, i2, e2, o1, kz, nz, kb, en, mc_sn, ex, m188, ea, nat_succ, List.tail_cons]
    done
  · refine ⟨?_, ⟨?_, ?_⟩, ?_, x.sI (Nat.le_refl _), wg, kz, nz, fun l' hl' => ?_⟩
    · rw [up]
      show _ = S.1 + _
      rw [s1]
    · show 0 ≤ (m + sp_mad1 F (sp_cutOf F n L) l).toInt
      rw [em2]
      omega
    · show (m + sp_mad1 F (sp_cutOf F n L) l).toInt ≤ _
      rw [em2]
      omega
    · intro o k'
      rw [up]
      show xm_u2 (xm_u2 (xm_u2 (xm_u2 H 8 l (sp_stays F n L l * 100 / H 6 l)) 6 l (sp_stays F n L l)) 7 l (H 7 l - sq_mad true H l (sp_stays F n L l))) 12 l 1 o k' = if ctN o then xm_u2 (xm_u2 (xm_u2 (xm_u2 (xm_u2 (xm_u2 S.2 7 l (F 7 l - sp_mad1 F (sp_cutOf F n L) l)) 8 l (100 * sp_stays F n L l / F 6 l)) 6 l (sp_stays F n L l)) 12 l 1) 52 (12 * xd_n D 2 + l) (sp_cutOf F n L l)) 53 (xd_n D 2) (S.2 53 (xd_n D 2) ||| 1 <<< (Int32.ofNat l &&& 31)) o k' else G0 o k'
      rw [em, H6, H7, Int32.mul_comm]
      simp only [u2_ap]
      rw [s4]
      by_cases e1 : ctN o
      · rw [if_pos e1, if_pos e1]
        rcases e1 with e | e | e | e <;> subst e <;> simp only [Nat.reduceEqDiff, false_and, true_and, ↓reduceIte]
      · rw [if_neg e1, if_neg e1, if_neg (by omega), if_neg (by omega), if_neg (by omega), if_neg (by omega)]
    · rw [up]
      show xm_I (xm_sI g (xm_Z h) l (sp_cutOf F n L l)) (xm_Z h) l' = xm_u2 (xm_u2 (xm_u2 (xm_u2 (xm_u2 (xm_u2 S.2 7 l (F 7 l - sp_mad1 F (sp_cutOf F n L) l)) 8 l (100 * sp_stays F n L l / F 6 l)) 6 l (sp_stays F n L l)) 12 l 1) 52 (12 * xd_n D 2 + l) (sp_cutOf F n L l)) 53 (xd_n D 2) (S.2 53 (xd_n D 2) ||| 1 <<< (Int32.ofNat l &&& 31)) 52 (12 * xd_n D 2 + l')
      rw [h_I_sI]
      simp only [u2_ap, Nat.reduceEqDiff, false_and, ↓reduceIte, true_and]
      by_cases e : l' = l
      · rw [if_pos e, if_pos (by omega)]
      · rw [if_neg e, if_neg (by omega)]
        exact iz l' hl'
end CUTL
