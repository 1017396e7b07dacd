/-! what is foreseen -/
set_option maxRecDepth 100000
/-- ledges that are tried stand where ledges are -/
def TI (N : Nat) (F : xp_F) : Prop := ∀ l, l < N → F 90 l = F 3 l ∧ F 91 l = F 4 l ∧ F 98 l = 0
/-- what is kept as yes or no -/
def BO (N : Nat) (F : xp_F) : Prop := ∀ l, l < N → xm_ok .boolean (F 12 l) = true ∧ xm_ok .boolean (F 13 l) = true
section FY
variable {d : Nat} {h : xm_H} {D : xp_D} {F P G G0 : xp_F}
def becI (F : xp_F) (k : Nat) (G : xp_F) : Prop := (∀ l, l < k → G 93 l = F 5 l ∧ G 94 l = F 6 l ∧ G 95 l = F 8 l ∧ G 99 l = F 12 l ∧ G 100 l = F 13 l) ∧ ∀ o j, ¬ (o = 93 ∨ o = 94 ∨ o = 95 ∨ o = 99 ∨ o = 100) → G o j = F o j
theorem bec_i {k : Nat} (a : becI F k G) : becI F (k + 1) (sq_bec k G) := by
  obtain ⟨a1, a2⟩ := a
  have e : ∀ o, (o = 5 ∨ o = 6 ∨ o = 8 ∨ o = 12 ∨ o = 13) → G o k = F o k := fun o ho => a2 o k (by omega)
  refine ⟨fun l hl => ?_, fun o j ho => ?_⟩
  · unfold sq_bec
    rw [e 5 (by omega), e 6 (by omega), e 8 (by omega), e 12 (by omega), e 13 (by omega)]
    simp only [u2_ap, Nat.reduceEqDiff, false_and, true_and, ↓reduceIte]
    by_cases c : l = k
    · simp only [c, ↓reduceIte, and_self]
    · simp only [c, ↓reduceIte]
      exact a1 l (by omega)
  · unfold sq_bec
    rw [u2_ap, if_neg (by omega), u2_ap, if_neg (by omega), u2_ap, if_neg (by omega), u2_ap, if_neg (by omega), u2_ap, if_neg (by omega)]
    exact a2 o j ho
theorem bec_all {N : Nat} : becI F N (xp_it sq_bec 0 N F) := it_up (f := sq_bec) (n := N) (becI F) (fun _ _ _ a => bec_i a) N 0 F (Nat.zero_add _) ⟨fun l hl => absurd hl (Nat.not_lt_zero _), fun _ _ _ => rfl⟩
theorem becJ {N : Nat} (hN : F 0 6 = Int32.ofNat N) (hB : GB F) (hI : GI true N F) (hg : GG N F) (ht : TI N F) : fJ N (F 0 0) (xm_u2 F 0 1 0) (xp_it sq_bec 0 N F) F := by
  obtain ⟨b1, b2⟩ := bec_all (F := F) (N := N)
  generalize xp_it sq_bec 0 N F = G at *
  refine ⟨⟨?_, ?_, fun k => ⟨?_, ?_⟩, fun s hs k hk => ?_⟩, ?_, ?_, ?_, fun l hl => ?_, fun l hl => ?_, fun o k h1 h2 => b2 o k (by omega)⟩
  · rw [u2_ap, if_pos ⟨rfl, rfl⟩]
  · rw [u2_ap, if_neg (by decide), b2 _ _ (by decide)]
  · rw [u2_ap, if_neg (by omega), b2 _ _ (by decide)]
  · rw [u2_ap, if_neg (by omega), b2 _ _ (by decide)]
  · obtain ⟨t1, t2, -⟩ := ht k hk
    obtain ⟨c1, c2, c3, c4, c5⟩ := b1 k hk
    have r := nu_r true s hs.1
    rw [u2_ap, if_neg (by omega)]
    have : s = 0 ∨ s = 1 ∨ s = 3 ∨ s = 4 ∨ s = 5 ∨ s = 9 ∨ s = 10 := by
      have := hs.1
      have := hs.2.1
      have := hs.2.2.1
      have := hs.2.2.2.1
      have := hs.2.2.2.2.1
      omega
    rcases this with e | e | e | e | e | e | e <;> subst e
    · exact ((b2 90 k (by decide)).trans t1).symm
    · exact ((b2 91 k (by decide)).trans t2).symm
    · exact c1.symm
    · exact c2.symm
    · exact c3.symm
    · exact c4.symm
    · exact c5.symm
  · rw [u2_ap, if_neg (by decide)]
  · rw [u2_ap, if_neg (by decide)]
    exact hN
  · exact hB.ag (fun o k ho => b2 o k (by omega))
  · obtain ⟨g1, g2, g3, -, -⟩ := hI l hl
    obtain ⟨c1, c2, -⟩ := b1 l hl
    have t3 := (ht l hl).2.2
    have z : (0 : Int32).toInt = 0 := rfl
    show rg (G 93 l) 9 ∧ 0 ≤ (G 94 l).toInt ∧ (G 94 l).toInt ≤ 400 * (G 93 l).toInt ∧ 0 ≤ (G 98 l).toInt ∧ (G 98 l).toInt ≤ 9 * (G 94 l).toInt
    rw [c1, c2, b2 98 l (by decide), t3]
    have g1 : rg (F 5 l) 9 := g1
    have g2 : 0 ≤ (F 6 l).toInt := g2
    have g3 : (F 6 l).toInt ≤ 400 * (F 5 l).toInt := g3
    exact ⟨g1, g2, g3, by omega, by omega⟩
  · rw [u2_ap, if_neg (by omega), u2_ap, if_neg (by omega), u2_ap, if_neg (by omega)]
    exact hg l hl
/-- a season's end behind the cuts -/
theorem fJ.ends {N : Nat} {x : Int32} (hN : N ≤ 12) (hx : rg x 100000) (h59 : sp_day x = 59) (a : fJ N x P G G0) : fJ N (x + 1) (sp_goes P) (sq_ends false N G) G0 := by
  obtain ⟨a1, a2, a3, a4, a5, a6, a7⟩ := a
  have eg : sp_grow P = sq_grow true N x P := by rw [← grow_eq a3 hN, a2]
  have gg : GG N (sp_grow P) := fun l hl => by
    have o : ∀ o, (o = 5 ∨ o = 10 ∨ o = 11) → sp_grow P o l = P o l := fun o ho => by
      rw [eg]
      exact grow_o (show ¬ o = 6 by omega) (show ¬ o = 7 by omega)
    rw [o 5 (by omega), o 10 (by omega), o 11 (by omega)]
    exact a6 l hl
  have ee : sp_ends (sp_grow P) = sq_ends true N (sq_grow true N x P) := by rw [← ends_eq (grow_0.trans a3) hN gg, eg]
  have e : sp_goes P = xm_u2 (sq_ends true N (sq_grow true N x P)) 0 0 (x + 1) := by
    unfold sp_goes
    rw [a2, if_pos h59, ee]
  refine ⟨?_, ?_, goes_6.trans a3, ?_, (ends_gz hN).gi, fun l hl => ?_, a7.tr fC.ends⟩
  · rw [e]
    exact (fR.ends4 hN a1.weak.growl).d
  · rw [e, u2_ap, if_pos ⟨rfl, rfl⟩]
  · exact a4.ag (fun o k ho => ends_o (fun j h3 h4 => by show ¬ o = 90 + j; omega))
  · rw [e, u2_ap, if_neg (by omega), u2_ap, if_neg (by omega), u2_ap, if_neg (by omega)]
    exact GG.ends hN l hl
noncomputable def fyP (d : Nat) (h : xm_H) (D : xp_D) (r m w : Int32) (k : Nat) (s : Int32 × Int32 × xp_F) (t : List (Option Value)) : xm_V := xm_run (d + 704) 65 86 (some (.ref (xd_X D)) :: some (.int r) :: some (.int m) :: some (.int w) :: some (.int s.2.1) :: some (.int s.1) :: some (.int (Int32.ofNat k)) :: t) [] (xp_c h D s.2.2)
def fyI (N n : Nat) (L : Nat → Ln) (F G0 : xp_F) (k : Nat) (s : Int32 × Int32 × xp_F) : Prop := s.1 = (sp_fo L n F k).1 ∧ (0 ≤ s.2.1.toInt ∧ s.2.1.toInt ≤ 2400 + 60 * k) ∧ fJ N s.2.1 (sp_fo L n F k).2 s.2.2 G0 ∧ (0 < k → ∀ l, l < N → s.2.2 98 l = 0)
theorem c65y (q : CS h D) {r : Nat} (hr : r < 2) {n : Nat} {L : Nat → Ln} (hC : CR h D r n L) (hm : G0 14 r = Int32.ofNat n) {m w : Int32} (h8 : rg m 8) (k : Nat) (s : Int32 × Int32 × xp_F) (t : List (Option Value)) (hk : k < m.toNatClampNeg) (hs : fyI (xd_n D 0) n L F G0 k s) : ∃ (s' : Int32 × Int32 × xp_F) (t' : List (Option Value)), fyP d h D (Int32.ofNat r) m w k s t = fyP d h D (Int32.ofNat r) m w (k + 1) s' t' ∧ fyI (xd_n D 0) n L F G0 (k + 1) s' := by
  have n12 := (cs_n q).1
  obtain ⟨u, x, G⟩ := s
  obtain ⟨h1, ⟨h2, h3⟩, J, -⟩ := hs
  have h1 : u = (sp_fo L n F k).1 := h1
  have h2 : 0 ≤ x.toInt := h2
  have h3 : x.toInt ≤ 2400 + 60 * k := h3
  have J : fJ (xd_n D 0) x (sp_fo L n F k).2 G G0 := J
  obtain ⟨i1, e1, c0, -, k8⟩ := lp_k h8 (by decide) hk
  have up : sp_fo L n F (k + 1) = ((sp_fo L n F k).1 + (sp_foresees L n (sp_fo L n F k).2).1, (sp_foresees L n (sp_fo L n F k).2).2) := rfl
  unfold fyI
  rw [up]
  generalize sp_fo L n F k = S at *
  obtain ⟨v, P⟩ := S
  have h1 : u = v := h1
  have J : fJ (xd_n D 0) x P G G0 := J
  have j2 : P 0 0 = x := J.2.1
  have j3 : P 0 6 = Int32.ofNat (xd_n D 0) := J.2.2.1
  obtain ⟨x', G', m1, x1, J1⟩ := c65w (d := d) (G0 := G0) q (r := Int32.ofNat r) (m := m) (w := w) (u := u) (i := Int32.ofNat k) (t := t) (59 - (x.toInt % 60).toNat) 0 x P G h2 (by omega) (by omega) J
  have er : xp_it (fun _ => sp_goes) 0 (59 - (x.toInt % 60).toNat) P = sp_rest P := by
    unfold sp_rest
    rw [j2]
  rw [er] at J1
  obtain ⟨⟨u2, G2⟩, t2, m2, k1, J2⟩ := xp_loop2 (P := fcP d h D (Int32.ofNat r) m w x' (Int32.ofNat k)) (n := xd_n D 0) (fK (xd_n D 0) n L x' u (sp_rest P) G0) (fun l s t hl hs => c65c q hr hC hm l s t hl hs) (xd_n D 0) 0 (u, G') (t.tail) (Nat.zero_add _) ⟨by show u = u + 0; rw [Int32.add_zero], J1⟩
  have tn : (P 0 6).toNatClampNeg = xd_n D 0 := by rw [j3, tc_nat (by omega)]
  have k1 : u2 = u + (sp_foresees L n P).1 := by
    unfold sp_foresees sp_fores
    rw [tn]
    exact k1
  have J2 : fJ (xd_n D 0) x' (sp_fores L n P (xd_n D 0)).2 G2 G0 := J2
  have d59 : sp_day x' = 59 := i_eq (by rw [day_ti (by omega), show (59 : Int32).toInt = 59 from rfl]; omega)
  have hx' : rg x' 100000 := ⟨by omega, by omega⟩
  have J3 := J2.ends n12 hx' d59
  have e2 : (sp_foresees L n P).2 = sp_goes (sp_fores L n P (xd_n D 0)).2 := by
    unfold sp_foresees
    rw [tn]
  have xt : (x' + 1).toInt = x'.toInt + 1 := ti_add1 hx' (by decide)
  have m11 := @c11 (d + 699) h D G2 false q (J2.1.2.1.symm.trans J2.2.2.1)
  rw [show ra false = 1 from rfl] at m11
  have g6 : G2 0 6 = Int32.ofNat (xd_n D 0) := J2.1.2.1.symm.trans J2.2.2.1
  refine ⟨(u2, x' + 1, sq_ends false (xd_n D 0) G2), some (.int (Int32.ofNat (xd_n D 0))) :: t2, ?_, ?_, ⟨?_, ?_⟩, ?_, fun _ l hl => (ends_gz (b := false) n12 l hl).2.2⟩
  · have cz : Int32.ofNat (xd_n D 0) ≤ Int32.ofNat (xd_n D 0) := Int32.le_refl _
    unfold fyP
    unfold fcP at m2
    rw [r65_86]
    show xm_run (d + 704) 65 88 (some (.ref (xd_X D)) :: some (.int (Int32.ofNat r)) :: some (.int m) :: some (.int w) :: some (.int x) :: some (.int u) :: some (.int (Int32.ofNat k)) :: t) [.int (Int32.ofNat k)] (xp_c h D G) = xm_run (d + 704) 65 86 (some (.ref (xd_X D)) :: some (.int (Int32.ofNat r)) :: some (.int m) :: some (.int w) :: some (.int (x' + 1)) :: some (.int u2) :: some (.int (Int32.ofNat (k + 1))) :: some (.int (Int32.ofNat (xd_n D 0))) :: t2) [] (xp_c h D (sq_ends false (xd_n D 0) G2))
    have m2 : xm_run (d + 704) 65 121 (some (.ref (xd_X D)) :: some (.int (Int32.ofNat r)) :: some (.int m) :: some (.int w) :: some (.int x') :: some (.int u) :: some (.int (Int32.ofNat k)) :: some (.int 0) :: t.tail) [] (xp_c h D G') = xm_run (d + 704) 65 121 (some (.ref (xd_X D)) :: some (.int (Int32.ofNat r)) :: some (.int m) :: some (.int w) :: some (.int x') :: some (.int u2) :: some (.int (Int32.ofNat k)) :: some (.int (Int32.ofNat (xd_n D 0))) :: t2) [] (xp_c h D G2) := m2
    simp only [ite_not, ite_self, w8_nil, ok01, ite10, rf_rv, rf_ref, rf_cat, rf_lk2, rf_some, rf_none, w_add, w_cons, cr_int, cr_long, cr_ref, cr_null, is_ref, is_null, l2_int, l2_ref, l2_null, l2_none, ent_nil, ent_int, ent_ref, ent_null, ent_rf, ent_long, ok_0, ok_1, af_ret, af_void, List.tail_cons, List.tail_nil, Nat.reduceAdd, Nat.reduceLeDiff, not_false_eq_true, not_true_eq_false, and_self, and_true, true_and, ne_eq, or_true, true_or, or_false, false_or, eq_self, Nat.reduceEqDiff, ↓reduceIte, false_and, and_false, Nat.le_refl, Nat.zero_le, nz_1, nz_2, nz_3, nz_4, nz_5, nz_6, nz_8, nz_10, nz_12, nz_20, nz_30, nz_60, nz_100, r65_88, r65_89, c0]
    rw [m1]
    simp only [ite_not, ite_self, w8_nil, ok01, ite10, rf_rv, rf_ref, rf_cat, rf_lk2, rf_some, rf_none, w_add, w_cons, cr_int, cr_long, cr_ref, cr_null, is_ref, is_null, l2_int, l2_ref, l2_null, l2_none, ent_nil, ent_int, ent_ref, ent_null, ent_rf, ent_long, ok_0, ok_1, af_ret, af_void, List.tail_cons, List.tail_nil, Nat.reduceAdd, Nat.reduceLeDiff, not_false_eq_true, not_true_eq_false, and_self, and_true, true_and, ne_eq, or_true, true_or, or_false, false_or, eq_self, Nat.reduceEqDiff, ↓reduceIte, false_and, and_false, Nat.le_refl, Nat.zero_le, nz_1, nz_2, nz_3, nz_4, nz_5, nz_6, nz_8, nz_10, nz_12, nz_20, nz_30, nz_60, nz_100, r65_118, r65_119]
    rw [m2, r65_121]
    simp only [ite_not, ite_self, w8_nil, ok01, ite10, rf_rv, rf_ref, rf_cat, rf_lk2, rf_some, rf_none, w_add, w_cons, cr_int, cr_long, cr_ref, cr_null, is_ref, is_null, l2_int, l2_ref, l2_null, l2_none, ent_nil, ent_int, ent_ref, ent_null, ent_rf, ent_long, ok_0, ok_1, af_ret, af_void, List.tail_cons, List.tail_nil, Nat.reduceAdd, Nat.reduceLeDiff, not_false_eq_true, not_true_eq_false, and_self, and_true, true_and, ne_eq, or_true, true_or, or_false, false_or, eq_self, Nat.reduceEqDiff, ↓reduceIte, false_and, and_false, Nat.le_refl, Nat.zero_le, nz_1, nz_2, nz_3, nz_4, nz_5, nz_6, nz_8, nz_10, nz_12, nz_20, nz_30, nz_60, nz_100, mc_B, mc_Z, mc_S, mc_C, mc_K, mc_N, mc_R, mc_I, mc_L, va_Is, va_Ls, va_us, va_iss, u2_ap, sp_isLedge, sp_isLadder, sp_isPerson, sp_isLiving, sp_isLot, sp_isThere, sp_isSpan, cs_K q, cs_B q, mc_s (cs_inj q), cs_f4 q, cs_f1 q, cs_f0 q, cs_f5 q, cs_K q, r65_123, r65_124, r65_127, r65_217, r65_220, r65_221, r65_222, r65_225, r65_228, r65_231, g6, cz, m11, nat_succ]
  · show u2 = v + (sp_foresees L n P).1
    rw [k1, h1]
  · show 0 ≤ (x' + 1).toInt
    omega
  · show (x' + 1).toInt ≤ _
    omega
  · show fJ (xd_n D 0) (x' + 1) (sp_foresees L n P).2 _ G0
    rw [e2]
    exact J3
end FY
section FZ
variable {d : Nat} {h : xm_H} {D : xp_D} {F P G G0 : xp_F}
theorem c17t (q : CS h D) (hn : G 0 6 = Int32.ofNat (xd_n D 0)) (a : fR false (xd_n D 0) P G) : xm_met d 17 [.ref (xd_X D), .ref (xd_A D 0 1)] (xp_c h D G) = some (.inl (some (.int (sp_strengths P))), xp_c h D G) := by
  have n12 := (cs_n q).1
  obtain ⟨t, e, -⟩ := xp_loop (P := fun k s t => xm_run d 17 4 (some (.ref (xd_X D)) :: some (.ref (xd_A D 0 1)) :: some (.int s) :: some (.int (Int32.ofNat k)) :: t) [] (xp_c h D G)) (fun _ _ => True) (f := fun k s => s + P 5 k) (n := xd_n D 0) (fun k s t hk _ => by
    obtain ⟨i1, e1⟩ := in_nat (show k < 12 by omega) (by decide)
    have c0 := lt_nat hk (by omega)
    have o1 := cs_T q hk
    have e5 : P 5 k = G 93 k := a.2.2.2 3 (by decide) k hk
    refine ⟨t, ?_, trivial⟩
    show xm_run _ _ _ _ _ _ = _
    rw [r17_4]
    simp only [ite_not, ite_self, w8_nil, ok01, ite10, rf_rv, rf_ref, rf_cat, rf_lk2, rf_some, rf_none, w_add, w_cons, cr_int, cr_long, cr_ref, cr_null, is_ref, is_null, l2_int, l2_ref, l2_null, l2_none, ent_nil, ent_int, ent_ref, ent_null, ent_rf, ent_long, ok_0, ok_1, af_ret, af_void, List.tail_cons, List.tail_nil, Nat.reduceAdd, Nat.reduceLeDiff, not_false_eq_true, not_true_eq_false, and_self, and_true, true_and, ne_eq, or_true, true_or, or_false, false_or, eq_self, Nat.reduceEqDiff, ↓reduceIte, false_and, and_false, Nat.le_refl, Nat.zero_le, nz_1, nz_2, nz_3, nz_4, nz_5, nz_6, nz_8, nz_10, nz_12, nz_20, nz_30, nz_60, nz_100, mc_B, mc_Z, mc_S, mc_C, mc_K, mc_N, mc_R, mc_I, mc_L, va_Is, va_Ls, va_us, va_iss, u2_ap, sp_isLedge, sp_isLadder, sp_isPerson, sp_isLiving, sp_isLot, sp_isThere, sp_isSpan, cs_K q, cs_B q, mc_s (cs_inj q), cs_f4 q, cs_f1 q, r17_5, r17_6, r17_12, r17_13, r17_14, r17_15, r17_16, r17_19, r17_20, r17_21, r17_24, r17_27, r17_28, r17_9, hn, c0, i1, e1, o1, e5, nat_succ]) _ 0 0 [] (Nat.zero_add _) trivial
  have c0 : Int32.ofNat (xd_n D 0) ≤ Int32.ofNat (xd_n D 0) := Int32.le_refl _
  have tn : (P 0 6).toNatClampNeg = xd_n D 0 := by rw [a.2.1, hn, tc_nat (by omega)]
  rw [show Int32.ofNat 0 = (0 : Int32) from rfl] at e
  unfold xm_met sp_strengths
  rw [tn]
  simp only [ite_not, ite_self, w8_nil, ok01, ite10, rf_rv, rf_ref, rf_cat, rf_lk2, rf_some, rf_none, w_add, w_cons, cr_int, cr_long, cr_ref, cr_null, is_ref, is_null, l2_int, l2_ref, l2_null, l2_none, ent_nil, ent_int, ent_ref, ent_null, ent_rf, ent_long, ok_0, ok_1, af_ret, af_void, List.tail_cons, List.tail_nil, Nat.reduceAdd, Nat.reduceLeDiff, not_false_eq_true, not_true_eq_false, and_self, and_true, true_and, ne_eq, or_true, true_or, or_false, false_or, eq_self, Nat.reduceEqDiff, ↓reduceIte, false_and, and_false, Nat.le_refl, Nat.zero_le, nz_1, nz_2, nz_3, nz_4, nz_5, nz_6, nz_8, nz_10, nz_12, nz_20, nz_30, nz_60, nz_100, r17_0, r17_1, r17_2, r17_3]
  rw [e, r17_4]
  simp only [ite_not, ite_self, w8_nil, ok01, ite10, rf_rv, rf_ref, rf_cat, rf_lk2, rf_some, rf_none, w_add, w_cons, cr_int, cr_long, cr_ref, cr_null, is_ref, is_null, l2_int, l2_ref, l2_null, l2_none, ent_nil, ent_int, ent_ref, ent_null, ent_rf, ent_long, ok_0, ok_1, af_ret, af_void, List.tail_cons, List.tail_nil, Nat.reduceAdd, Nat.reduceLeDiff, not_false_eq_true, not_true_eq_false, and_self, and_true, true_and, ne_eq, or_true, true_or, or_false, false_or, eq_self, Nat.reduceEqDiff, ↓reduceIte, false_and, and_false, Nat.le_refl, Nat.zero_le, nz_1, nz_2, nz_3, nz_4, nz_5, nz_6, nz_8, nz_10, nz_12, nz_20, nz_30, nz_60, nz_100, mc_B, mc_Z, mc_S, mc_C, mc_K, mc_N, mc_R, mc_I, mc_L, va_Is, va_Ls, va_us, va_iss, u2_ap, sp_isLedge, sp_isLadder, sp_isPerson, sp_isLiving, sp_isLot, sp_isThere, sp_isSpan, cs_K q, cs_B q, mc_s (cs_inj q), cs_f4 q, r17_5, r17_6, r17_9, r17_27, r17_28, hn, c0]
theorem c65 (q : CS h D) (hn : CN D F) (hG : GD (xd_n D 0) F) (hd : rg (F 0 0) 2400) (hB : BO (xd_n D 0) F) (ht : TI (xd_n D 0) F) {n0 n1 : Nat} {L0 L1 : Nat → Ln} (hC0 : CR h D 0 n0 L0) (hm0 : F 14 0 = Int32.ofNat n0) (hC1 : CR h D 1 n1 L1) (hm1 : F 14 1 = Int32.ofNat n1) {r m w : Int32} : ∃ G, xm_met (d + 704) 65 [.ref (xd_X D), .int r, .int m, .int w] (xp_c h D F) = some (.inl (some (.int (sp_foreseen F n0 L0 n1 L1 r m w))), xp_c h D G) ∧ fC F G ∧ TI (xd_n D 0) G := by
  have n12 := (cs_n q).1
  have hd0 : 0 ≤ (F 0 0).toInt := hd.1
  have m16 := @c16 (d + 703) h D F q
  have es : ∀ y : Int32, (F 0 0 / 60 + y ≤ 40) ↔ ¬ 40 < F 0 0 / 60 + y := fun y => Int32.not_lt.symm
  unfold sp_foreseen
  by_cases c1 : 0 ≤ r ∧ r ≤ 1
  case neg =>
    rw [if_neg (fun z => c1 z.1)]
    refine ⟨F, ?_, fun _ _ _ _ => rfl, ht⟩
    unfold xm_met
    simp only [ite_not, ite_self, w8_nil, ok01, ite10, rf_rv, rf_ref, rf_cat, rf_lk2, rf_some, rf_none, w_add, w_cons, cr_int, cr_long, cr_ref, cr_null, is_ref, is_null, l2_int, l2_ref, l2_null, l2_none, ent_nil, ent_int, ent_ref, ent_null, ent_rf, ent_long, ok_0, ok_1, af_ret, af_void, List.tail_cons, List.tail_nil, Nat.reduceAdd, Nat.reduceLeDiff, not_false_eq_true, not_true_eq_false, and_self, and_true, true_and, ne_eq, or_true, true_or, or_false, false_or, eq_self, Nat.reduceEqDiff, ↓reduceIte, false_and, and_false, Nat.le_refl, Nat.zero_le, nz_1, nz_2, nz_3, nz_4, nz_5, nz_6, nz_8, nz_10, nz_12, nz_20, nz_30, nz_60, nz_100, mc_B, mc_Z, mc_S, mc_C, mc_K, mc_N, mc_R, mc_I, mc_L, va_Is, va_Ls, va_us, va_iss, u2_ap, sp_isLedge, sp_isLadder, sp_isPerson, sp_isLiving, sp_isLot, sp_isThere, sp_isSpan, cs_K q, cs_B q, mc_s (cs_inj q), cs_f4 q, cs_f1 q, cs_f0 q, cs_f5 q, r65_0, r65_1, r65_7, r65_8, r65_9, r65_11, r65_17, r65_18, r65_21, r65_22, r65_23, r65_28, r65_29, r65_30, r65_31, r65_37, r65_38, r65_4, r65_14, r65_25, r65_34, c19, c1]
  by_cases c22 : 1 ≤ m ∧ m ≤ 8
  case neg =>
    rw [if_neg (fun z => c22 z.2.1)]
    refine ⟨F, ?_, fun _ _ _ _ => rfl, ht⟩
    unfold xm_met
    simp only [ite_not, ite_self, w8_nil, ok01, ite10, rf_rv, rf_ref, rf_cat, rf_lk2, rf_some, rf_none, w_add, w_cons, cr_int, cr_long, cr_ref, cr_null, is_ref, is_null, l2_int, l2_ref, l2_null, l2_none, ent_nil, ent_int, ent_ref, ent_null, ent_rf, ent_long, ok_0, ok_1, af_ret, af_void, List.tail_cons, List.tail_nil, Nat.reduceAdd, Nat.reduceLeDiff, not_false_eq_true, not_true_eq_false, and_self, and_true, true_and, ne_eq, or_true, true_or, or_false, false_or, eq_self, Nat.reduceEqDiff, ↓reduceIte, false_and, and_false, Nat.le_refl, Nat.zero_le, nz_1, nz_2, nz_3, nz_4, nz_5, nz_6, nz_8, nz_10, nz_12, nz_20, nz_30, nz_60, nz_100, mc_B, mc_Z, mc_S, mc_C, mc_K, mc_N, mc_R, mc_I, mc_L, va_Is, va_Ls, va_us, va_iss, u2_ap, sp_isLedge, sp_isLadder, sp_isPerson, sp_isLiving, sp_isLot, sp_isThere, sp_isSpan, cs_K q, cs_B q, mc_s (cs_inj q), cs_f4 q, cs_f1 q, cs_f0 q, cs_f5 q, r65_0, r65_1, r65_7, r65_8, r65_9, r65_11, r65_17, r65_18, r65_21, r65_22, r65_23, r65_28, r65_29, r65_30, r65_31, r65_37, r65_38, r65_4, r65_14, r65_25, r65_34, c19, c2, c1, c22]
  by_cases c3 : 40 < F 0 0 / 60 + m
  · rw [if_neg (fun z => (es m).mp z.2.2.2 c3)]
    refine ⟨F, ?_, fun _ _ _ _ => rfl, ht⟩
    unfold xm_met
    simp only [ite_not, ite_self, w8_nil, ok01, ite10, rf_rv, rf_ref, rf_cat, rf_lk2, rf_some, rf_none, w_add, w_cons, cr_int, cr_long, cr_ref, cr_null, is_ref, is_null, l2_int, l2_ref, l2_null, l2_none, ent_nil, ent_int, ent_ref, ent_null, ent_rf, ent_long, ok_0, ok_1, af_ret, af_void, List.tail_cons, List.tail_nil, Nat.reduceAdd, Nat.reduceLeDiff, not_false_eq_true, not_true_eq_false, and_self, and_true, true_and, ne_eq, or_true, true_or, or_false, false_or, eq_self, Nat.reduceEqDiff, ↓reduceIte, false_and, and_false, Nat.le_refl, Nat.zero_le, nz_1, nz_2, nz_3, nz_4, nz_5, nz_6, nz_8, nz_10, nz_12, nz_20, nz_30, nz_60, nz_100, mc_B, mc_Z, mc_S, mc_C, mc_K, mc_N, mc_R, mc_I, mc_L, va_Is, va_Ls, va_us, va_iss, u2_ap, sp_isLedge, sp_isLadder, sp_isPerson, sp_isLiving, sp_isLot, sp_isThere, sp_isSpan, cs_K q, cs_B q, mc_s (cs_inj q), cs_f4 q, cs_f1 q, cs_f0 q, cs_f5 q, r65_0, r65_1, r65_7, r65_8, r65_9, r65_11, r65_17, r65_18, r65_21, r65_22, r65_23, r65_28, r65_29, r65_30, r65_31, r65_37, r65_38, r65_4, r65_14, r65_25, r65_34, c19, c2, m16, c1, c22, c3]
  by_cases c4 : 0 ≤ w ∧ w ≤ 1
  case neg =>
    rw [if_neg (fun z => c4 z.2.2.1)]
    refine ⟨F, ?_, fun _ _ _ _ => rfl, ht⟩
    unfold xm_met
    simp only [ite_not, ite_self, w8_nil, ok01, ite10, rf_rv, rf_ref, rf_cat, rf_lk2, rf_some, rf_none, w_add, w_cons, cr_int, cr_long, cr_ref, cr_null, is_ref, is_null, l2_int, l2_ref, l2_null, l2_none, ent_nil, ent_int, ent_ref, ent_null, ent_rf, ent_long, ok_0, ok_1, af_ret, af_void, List.tail_cons, List.tail_nil, Nat.reduceAdd, Nat.reduceLeDiff, not_false_eq_true, not_true_eq_false, and_self, and_true, true_and, ne_eq, or_true, true_or, or_false, false_or, eq_self, Nat.reduceEqDiff, ↓reduceIte, false_and, and_false, Nat.le_refl, Nat.zero_le, nz_1, nz_2, nz_3, nz_4, nz_5, nz_6, nz_8, nz_10, nz_12, nz_20, nz_30, nz_60, nz_100, mc_B, mc_Z, mc_S, mc_C, mc_K, mc_N, mc_R, mc_I, mc_L, va_Is, va_Ls, va_us, va_iss, u2_ap, sp_isLedge, sp_isLadder, sp_isPerson, sp_isLiving, sp_isLot, sp_isThere, sp_isSpan, cs_K q, cs_B q, mc_s (cs_inj q), cs_f4 q, cs_f1 q, cs_f0 q, cs_f5 q, r65_0, r65_1, r65_7, r65_8, r65_9, r65_11, r65_17, r65_18, r65_21, r65_22, r65_23, r65_28, r65_29, r65_30, r65_31, r65_37, r65_38, r65_4, r65_14, r65_25, r65_34, c19, c2, m16, c1, c22, c3, c4]
  rw [if_pos ⟨c1, c22, c4, (es m).mpr c3⟩]
  -- what is tried becomes what is
  obtain ⟨t, eb, ib⟩ := xp_loop (P := fun k G t => xm_run (d + 704) 65 42 (some (.ref (xd_X D)) :: some (.int r) :: some (.int m) :: some (.int w) :: some (.int (Int32.ofNat k)) :: t) [] (xp_c h D G)) (n := xd_n D 0) (becI F) (f := sq_bec) (fun k G t hk hI => by
    obtain ⟨i1, e1⟩ := in_nat (show k < 12 by omega) (by decide)
    have c0 := lt_nat hk (by omega)
    have o1 := cs_T q hk
    have o2 := cs_L q hk
    have g6 : G 0 6 = Int32.ofNat (xd_n D 0) := (hI.2 0 6 (by decide)).trans hn.1
    have m189 := @c189 (d + 703) h D G q k hk (by rw [hI.2 12 k (by decide)]; exact (hB k hk).1) (by rw [hI.2 13 k (by decide)]; exact (hB k hk).2)
    refine ⟨t, ?_, bec_i hI⟩
    show xm_run _ _ _ _ _ _ = _
    rw [r65_42]
    simp only [ite_not, ite_self, w8_nil, ok01, ite10, rf_rv, rf_ref, rf_cat, rf_lk2, rf_some, rf_none, w_add, w_cons, cr_int, cr_long, cr_ref, cr_null, is_ref, is_null, l2_int, l2_ref, l2_null, l2_none, ent_nil, ent_int, ent_ref, ent_null, ent_rf, ent_long, ok_0, ok_1, af_ret, af_void, List.tail_cons, List.tail_nil, Nat.reduceAdd, Nat.reduceLeDiff, not_false_eq_true, not_true_eq_false, and_self, and_true, true_and, ne_eq, or_true, true_or, or_false, false_or, eq_self, Nat.reduceEqDiff, ↓reduceIte, false_and, and_false, Nat.le_refl, Nat.zero_le, nz_1, nz_2, nz_3, nz_4, nz_5, nz_6, nz_8, nz_10, nz_12, nz_20, nz_30, nz_60, nz_100, mc_B, mc_Z, mc_S, mc_C, mc_K, mc_N, mc_R, mc_I, mc_L, va_Is, va_Ls, va_us, va_iss, u2_ap, sp_isLedge, sp_isLadder, sp_isPerson, sp_isLiving, sp_isLot, sp_isThere, sp_isSpan, cs_K q, cs_B q, mc_s (cs_inj q), cs_f4 q, cs_f1 q, cs_f0 q, cs_f5 q, r65_44, r65_45, r65_51, r65_52, r65_55, r65_57, r65_58, r65_59, r65_62, r65_64, r65_65, r65_68, r65_71, r65_48, g6, c0, i1, e1, o1, o2, m189, nat_succ]) (xd_n D 0) 0 F [] (Nat.zero_add _) ⟨fun l hl => absurd hl (Nat.not_lt_zero _), fun _ _ _ => rfl⟩
  have J := becJ hn.1 hG.2.1 hG.2.2.1 hG.2.2.2 ht
  have b6 : xp_it sq_bec 0 (xd_n D 0) F 0 6 = Int32.ofNat (xd_n D 0) := (ib.2 0 6 (by decide)).trans hn.1
  have b0 : xp_it sq_bec 0 (xd_n D 0) F 0 0 = F 0 0 := ib.2 0 0 (by decide)
  have b98 : ∀ l, l < xd_n D 0 → xp_it sq_bec 0 (xd_n D 0) F 98 l = 0 := fun l hl => (ib.2 98 l (by decide)).trans (ht l hl).2.2
  generalize xp_it sq_bec 0 (xd_n D 0) F = G1 at *
  have h8 : rg m 8 := by
    have a1 := Int32.le_iff_toInt_le.mp c22.1
    have a2 := Int32.le_iff_toInt_le.mp c22.2
    rw [show (1 : Int32).toInt = 1 from rfl] at a1
    rw [show (8 : Int32).toInt = 8 from rfl] at a2
    exact ⟨by omega, by omega⟩
  have main : ∀ (rr : Nat), rr < 2 → r = Int32.ofNat rr → ∀ (n : Nat) (L : Nat → Ln), CR h D rr n L → F 14 rr = Int32.ofNat n → ∃ G, xm_met (d + 704) 65 [.ref (xd_X D), .int r, .int m, .int w] (xp_c h D F) = some (.inl (some (.int (if w = 0 then (sp_fo L n F m.toNatClampNeg).1 else sp_strengths (sp_fo L n F m.toNatClampNeg).2))), xp_c h D G) ∧ fC F G ∧ TI (xd_n D 0) G := by
    intro rr hr er n L hC hm
    subst er
    obtain ⟨⟨u, x, G⟩, t3, m3, k1, k2, J3, k4⟩ := xp_loop2 (P := fyP d h D (Int32.ofNat rr) m w) (n := m.toNatClampNeg) (fyI (xd_n D 0) n L F F) (fun k s t hk hs => c65y q hr hC hm h8 k s t hk hs) m.toNatClampNeg 0 (0, F 0 0, G1) t.tail.tail (Nat.zero_add _) ⟨rfl, ⟨hd0, by show (F 0 0).toInt ≤ 2400 + 60 * ((0 : Nat) : Int); have := hd.2; omega⟩, J, fun z => absurd z (Nat.lt_irrefl _)⟩
    have k1 : u = (sp_fo L n F m.toNatClampNeg).1 := k1
    have J3 : fJ (xd_n D 0) x (sp_fo L n F m.toNatClampNeg).2 G F := J3
    have cm := (lp_end h8 (by decide)).1
    have m0 : 0 < m.toNatClampNeg := by
      have a1 := Int32.le_iff_toInt_le.mp c22.1
      rw [show (1 : Int32).toInt = 1 from rfl] at a1
      show 0 < m.toInt.toNat
      omega
    have g6 : G 0 6 = Int32.ofNat (xd_n D 0) := J3.1.2.1.symm.trans J3.2.2.1
    have m17 := c17t (d := d + 703) q g6 J3.1
    refine ⟨G, ?_, J3.2.2.2.2.2.2, fun l hl => ?_⟩
    · have cz : Int32.ofNat (xd_n D 0) ≤ Int32.ofNat (xd_n D 0) := Int32.le_refl _
      unfold fyP at m3
      have m3 : xm_run (d + 704) 65 86 (some (.ref (xd_X D)) :: some (.int (Int32.ofNat rr)) :: some (.int m) :: some (.int w) :: some (.int (F 0 0)) :: some (.int 0) :: some (.int 0) :: t.tail.tail) [] (xp_c h D G1) = xm_run (d + 704) 65 86 (some (.ref (xd_X D)) :: some (.int (Int32.ofNat rr)) :: some (.int m) :: some (.int w) :: some (.int x) :: some (.int u) :: some (.int (Int32.ofNat m.toNatClampNeg)) :: t3) [] (xp_c h D G) := m3
      rw [show Int32.ofNat 0 = (0 : Int32) from rfl] at eb
      unfold xm_met
      simp only [ite_not, ite_self, w8_nil, ok01, ite10, rf_rv, rf_ref, rf_cat, rf_lk2, rf_some, rf_none, w_add, w_cons, cr_int, cr_long, cr_ref, cr_null, is_ref, is_null, l2_int, l2_ref, l2_null, l2_none, ent_nil, ent_int, ent_ref, ent_null, ent_rf, ent_long, ok_0, ok_1, af_ret, af_void, List.tail_cons, List.tail_nil, Nat.reduceAdd, Nat.reduceLeDiff, not_false_eq_true, not_true_eq_false, and_self, and_true, true_and, ne_eq, or_true, true_or, or_false, false_or, eq_self, Nat.reduceEqDiff, ↓reduceIte, false_and, and_false, Nat.le_refl, Nat.zero_le, nz_1, nz_2, nz_3, nz_4, nz_5, nz_6, nz_8, nz_10, nz_12, nz_20, nz_30, nz_60, nz_100, mc_B, mc_Z, mc_S, mc_C, mc_K, mc_N, mc_R, mc_I, mc_L, va_Is, va_Ls, va_us, va_iss, u2_ap, sp_isLedge, sp_isLadder, sp_isPerson, sp_isLiving, sp_isLot, sp_isThere, sp_isSpan, cs_K q, cs_B q, mc_s (cs_inj q), cs_f4 q, cs_f1 q, cs_f0 q, cs_f5 q, r65_0, r65_1, r65_7, r65_8, r65_9, r65_11, r65_17, r65_18, r65_21, r65_22, r65_23, r65_28, r65_29, r65_30, r65_31, r65_37, r65_38, r65_39, r65_40, r65_4, r65_14, r65_25, r65_34, c19, c2, m16, c1, c22, c3, c4]
      rw [eb, r65_42]
      simp only [ite_not, ite_self, w8_nil, ok01, ite10, rf_rv, rf_ref, rf_cat, rf_lk2, rf_some, rf_none, w_add, w_cons, cr_int, cr_long, cr_ref, cr_null, is_ref, is_null, l2_int, l2_ref, l2_null, l2_none, ent_nil, ent_int, ent_ref, ent_null, ent_rf, ent_long, ok_0, ok_1, af_ret, af_void, List.tail_cons, List.tail_nil, Nat.reduceAdd, Nat.reduceLeDiff, not_false_eq_true, not_true_eq_false, and_self, and_true, true_and, ne_eq, or_true, true_or, or_false, false_or, eq_self, Nat.reduceEqDiff, ↓reduceIte, false_and, and_false, Nat.le_refl, Nat.zero_le, nz_1, nz_2, nz_3, nz_4, nz_5, nz_6, nz_8, nz_10, nz_12, nz_20, nz_30, nz_60, nz_100, mc_B, mc_Z, mc_S, mc_C, mc_K, mc_N, mc_R, mc_I, mc_L, va_Is, va_Ls, va_us, va_iss, u2_ap, sp_isLedge, sp_isLadder, sp_isPerson, sp_isLiving, sp_isLot, sp_isThere, sp_isSpan, cs_K q, cs_B q, mc_s (cs_inj q), cs_f4 q, cs_f1 q, cs_f0 q, cs_f5 q, r65_44, r65_45, r65_48, r65_74, r65_75, r65_78, r65_80, r65_81, r65_83, r65_84, b6, b0, cz]
      rw [m3, r65_86]
      simp only [ite_not, ite_self, w8_nil, ok01, ite10, rf_rv, rf_ref, rf_cat, rf_lk2, rf_some, rf_none, w_add, w_cons, cr_int, cr_long, cr_ref, cr_null, is_ref, is_null, l2_int, l2_ref, l2_null, l2_none, ent_nil, ent_int, ent_ref, ent_null, ent_rf, ent_long, ok_0, ok_1, af_ret, af_void, List.tail_cons, List.tail_nil, Nat.reduceAdd, Nat.reduceLeDiff, not_false_eq_true, not_true_eq_false, and_self, and_true, true_and, ne_eq, or_true, true_or, or_false, false_or, eq_self, Nat.reduceEqDiff, ↓reduceIte, false_and, and_false, Nat.le_refl, Nat.zero_le, nz_1, nz_2, nz_3, nz_4, nz_5, nz_6, nz_8, nz_10, nz_12, nz_20, nz_30, nz_60, nz_100, r65_88, r65_89, cm]
      rw [k1]
      by_cases c5 : w = 0
      · simp only [ite_not, ite_self, w8_nil, ok01, ite10, rf_rv, rf_ref, rf_cat, rf_lk2, rf_some, rf_none, w_add, w_cons, cr_int, cr_long, cr_ref, cr_null, is_ref, is_null, l2_int, l2_ref, l2_null, l2_none, ent_nil, ent_int, ent_ref, ent_null, ent_rf, ent_long, ok_0, ok_1, af_ret, af_void, List.tail_cons, List.tail_nil, Nat.reduceAdd, Nat.reduceLeDiff, not_false_eq_true, not_true_eq_false, and_self, and_true, true_and, ne_eq, or_true, true_or, or_false, false_or, eq_self, Nat.reduceEqDiff, ↓reduceIte, false_and, and_false, Nat.le_refl, Nat.zero_le, nz_1, nz_2, nz_3, nz_4, nz_5, nz_6, nz_8, nz_10, nz_12, nz_20, nz_30, nz_60, nz_100, mc_B, mc_Z, mc_S, mc_C, mc_K, mc_N, mc_R, mc_I, mc_L, va_Is, va_Ls, va_us, va_iss, u2_ap, sp_isLedge, sp_isLadder, sp_isPerson, sp_isLiving, sp_isLot, sp_isThere, sp_isSpan, cs_K q, cs_B q, mc_s (cs_inj q), cs_f4 q, cs_f1 q, cs_f0 q, cs_f5 q, r65_234, r65_238, r65_240, r65_243, r65_244, r65_245, r65_248, r65_251, r65_235, c5]
      · simp only [ite_not, ite_self, w8_nil, ok01, ite10, rf_rv, rf_ref, rf_cat, rf_lk2, rf_some, rf_none, w_add, w_cons, cr_int, cr_long, cr_ref, cr_null, is_ref, is_null, l2_int, l2_ref, l2_null, l2_none, ent_nil, ent_int, ent_ref, ent_null, ent_rf, ent_long, ok_0, ok_1, af_ret, af_void, List.tail_cons, List.tail_nil, Nat.reduceAdd, Nat.reduceLeDiff, not_false_eq_true, not_true_eq_false, and_self, and_true, true_and, ne_eq, or_true, true_or, or_false, false_or, eq_self, Nat.reduceEqDiff, ↓reduceIte, false_and, and_false, Nat.le_refl, Nat.zero_le, nz_1, nz_2, nz_3, nz_4, nz_5, nz_6, nz_8, nz_10, nz_12, nz_20, nz_30, nz_60, nz_100, mc_B, mc_Z, mc_S, mc_C, mc_K, mc_N, mc_R, mc_I, mc_L, va_Is, va_Ls, va_us, va_iss, u2_ap, sp_isLedge, sp_isLadder, sp_isPerson, sp_isLiving, sp_isLot, sp_isThere, sp_isSpan, cs_K q, cs_B q, mc_s (cs_inj q), cs_f4 q, cs_f1 q, cs_f0 q, cs_f5 q, r65_234, r65_238, r65_240, r65_243, r65_244, r65_245, r65_248, r65_251, r65_235, c5, m17]
    · obtain ⟨t1, t2, t3⟩ := ht l hl
      have fr : fC F G := J3.2.2.2.2.2.2
      have z98 : G 98 l = 0 := k4 m0 l hl
      rw [fr 90 l (by decide) (by decide), fr 91 l (by decide) (by decide), fr 3 l (by decide) (by decide), fr 4 l (by decide) (by decide)]
      exact ⟨t1, t2, z98⟩
  rcases r01 c1 with e | e <;> subst e
  · exact main 0 (by decide) rfl n0 L0 hC0 hm0
  · exact main 1 (by decide) rfl n1 L1 hC1 hm1
end FZ
