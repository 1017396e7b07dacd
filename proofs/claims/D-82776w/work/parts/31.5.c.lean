/-! what is foreseen: the walk -/
set_option maxRecDepth 100000
section FW
variable {d : Nat} {h : xm_H} {D : xp_D} {F P G G0 : xp_F}
def fJ (N : Nat) (x : Int32) (P G G0 : xp_F) : Prop := fR false N P G ∧ P 0 0 = x ∧ P 0 6 = Int32.ofNat N ∧ GB G ∧ GI false N G ∧ GG N P ∧ fC G0 G
theorem fC.tr {G1 G2 : xp_F} (a : fC G0 G1) (b : fC G1 G2) : fC G0 G2 := fun o k h1 h2 => (b o k h1 h2).trans (a o k h1 h2)
theorem fC.grow {N : Nat} {x : Int32} : fC G (sq_grow false N x G) := fun o k _ h2 => grow_o (show ¬ o = 94 by omega) (show ¬ o = 98 by omega)
theorem fC.ends {N : Nat} : fC G (sq_ends false N G) := fun o k _ h2 => ends_o (fun j h3 h4 => by show ¬ o = 90 + j; omega)
theorem fJ.grow {N : Nat} {x : Int32} (hN : N ≤ 12) (hx : rg x 100000) (h59 : ¬ sp_day x = 59) (a : fJ N x P G G0) : fJ N (x + 1) (sp_goes P) (sq_grow false N x G) G0 := by
  obtain ⟨a1, a2, a3, a4, a5, a6, a7⟩ := a
  have eg : sp_grow P = sq_grow true N x P := by rw [← grow_eq a3 hN, a2]
  have e : sp_goes P = xm_u2 (sp_grow P) 0 0 (x + 1) := by
    unfold sp_goes
    rw [a2, if_neg h59]
  obtain ⟨g1, g2⟩ := grow_gi hx a4 a5
  refine ⟨?_, ?_, ?_, g1, g2, fun l hl => ?_, a7.tr fC.grow⟩
  · rw [e, eg]
    exact a1.grow.d
  · rw [e, u2_ap, if_pos ⟨rfl, rfl⟩]
  · exact goes_6.trans a3
  · have o : ∀ o, (o = 5 ∨ o = 10 ∨ o = 11) → sp_goes P o l = P o l := fun o ho => by
      rw [e, u2_ap, if_neg (by omega), eg]
      exact grow_o (show ¬ o = 6 by omega) (show ¬ o = 7 by omega)
    rw [o 5 (by omega), o 10 (by omega), o 11 (by omega)]
    exact a6 l hl
theorem c65w (q : CS h D) {r m w u i : Int32} {t : List (Option Value)} : ∀ (c k : Nat) (x : Int32) (P G : xp_F), 0 ≤ x.toInt → x.toInt + c ≤ 99999 → x.toInt % 60 + c = 59 → fJ (xd_n D 0) x P G G0 → ∃ (x' : Int32) (G' : xp_F), xm_run (d + 704) 65 92 (some (.ref (xd_X D)) :: some (.int r) :: some (.int m) :: some (.int w) :: some (.int x) :: some (.int u) :: some (.int i) :: t) [] (xp_c h D G) = xm_run (d + 704) 65 118 (some (.ref (xd_X D)) :: some (.int r) :: some (.int m) :: some (.int w) :: some (.int x') :: some (.int u) :: some (.int i) :: t) [] (xp_c h D G') ∧ x'.toInt = x.toInt + c ∧ fJ (xd_n D 0) x' (xp_it (fun _ => sp_goes) k c P) G' G0
  | 0, k, x, P, G, h0, h1, h2, J => by
    refine ⟨x, G, ?_, by omega, J⟩
    have c0 : (59 : Int32) ≤ x - x / 60 * 60 := Int32.le_iff_toInt_le.mpr (by
      have := day_ti (x := x) h0
      unfold sp_day at this
      rw [this, show (59 : Int32).toInt = 59 from rfl]
      omega)
    rw [r65_92]
    simp only [ite_not, ite_self, w8_nil, ok01, ite10, rf_rv, rf_ref, rf_cat, rf_lk2, rf_some, rf_none, w_add, w_cons, cr_int, cr_long, cr_ref, cr_null, is_ref, is_null, l2_int, l2_ref, l2_null, l2_none, ent_nil, ent_int, ent_ref, ent_null, ent_rf, ent_long, ok_0, ok_1, af_ret, af_void, List.tail_cons, List.tail_nil, Nat.reduceAdd, Nat.reduceLeDiff, not_false_eq_true, not_true_eq_false, and_self, and_true, true_and, ne_eq, or_true, true_or, or_false, false_or, eq_self, Nat.reduceEqDiff, ↓reduceIte, false_and, and_false, Nat.le_refl, Nat.zero_le, nz_1, nz_2, nz_3, nz_4, nz_5, nz_6, nz_8, nz_10, nz_12, nz_20, nz_30, nz_60, nz_100, r65_94, r65_96, r65_97, r65_99, c0]
  | c + 1, k, x, P, G, h0, h1, h2, J => by
    have dt := day_ti (x := x) h0
    have c0 : ¬ (59 : Int32) ≤ x - x / 60 * 60 := fun z => by
      have z := Int32.le_iff_toInt_le.mp z
      unfold sp_day at dt
      rw [dt, show (59 : Int32).toInt = 59 from rfl] at z
      omega
    have n59 : ¬ sp_day x = 59 := fun z => by
      rw [z, show (59 : Int32).toInt = 59 from rfl] at dt
      omega
    have hx : rg x 100000 := ⟨h0, by omega⟩
    have e1 : (x + 1).toInt = x.toInt + 1 := ti_add1 hx (by decide)
    have J' := J.grow (cs_n q).1 hx n59
    obtain ⟨x', G', m1, m2, m3⟩ := c65w q (r := r) (m := m) (w := w) (u := u) (i := i) (t := t) c (k + 1) (x + 1) (sp_goes P) (sq_grow false (xd_n D 0) x G) (by omega) (by omega) (by omega) J'
    refine ⟨x', G', ?_, by omega, m3⟩
    have m8 := @c8 (d + 701) h D G false q (J.1.2.1.symm.trans J.2.2.1) x hx J.2.2.2.1 J.2.2.2.2.1
    rw [show ra false = 1 from rfl] at m8
    rw [r65_92]
    simp only [ite_not, ite_self, w8_nil, ok01, ite10, rf_rv, rf_ref, rf_cat, rf_lk2, rf_some, rf_none, w_add, w_cons, cr_int, cr_long, cr_ref, cr_null, is_ref, is_null, l2_int, l2_ref, l2_null, l2_none, ent_nil, ent_int, ent_ref, ent_null, ent_rf, ent_long, ok_0, ok_1, af_ret, af_void, List.tail_cons, List.tail_nil, Nat.reduceAdd, Nat.reduceLeDiff, not_false_eq_true, not_true_eq_false, and_self, and_true, true_and, ne_eq, or_true, true_or, or_false, false_or, eq_self, Nat.reduceEqDiff, ↓reduceIte, false_and, and_false, Nat.le_refl, Nat.zero_le, nz_1, nz_2, nz_3, nz_4, nz_5, nz_6, nz_8, nz_10, nz_12, nz_20, nz_30, nz_60, nz_100, mc_B, mc_Z, mc_S, mc_C, mc_K, mc_N, mc_R, mc_I, mc_L, va_Is, va_Ls, va_us, va_iss, u2_ap, sp_isLedge, sp_isLadder, sp_isPerson, sp_isLiving, sp_isLot, sp_isThere, sp_isSpan, cs_K q, cs_B q, mc_s (cs_inj q), cs_f4 q, cs_f1 q, cs_f0 q, cs_f5 q, r65_94, r65_96, r65_97, r65_102, r65_103, r65_104, r65_107, r65_109, r65_112, r65_115, r65_99, c0, m8]
    exact m1
/-- of a season what is cut, so far -/
def fK (N n : Nat) (L : Nat → Ln) (x u0 : Int32) (P0 G0 : xp_F) (l : Nat) (s : Int32 × xp_F) : Prop := s.1 = u0 + (xp_up (sp_fore1 L n) (0, P0) l).1 ∧ fJ N x (xp_up (sp_fore1 L n) (0, P0) l).2 s.2 G0
noncomputable def fcP (d : Nat) (h : xm_H) (D : xp_D) (r m w x i : Int32) (l : Nat) (s : Int32 × xp_F) (t : List (Option Value)) : xm_V := xm_run (d + 704) 65 121 (some (.ref (xd_X D)) :: some (.int r) :: some (.int m) :: some (.int w) :: some (.int x) :: some (.int s.1) :: some (.int i) :: some (.int (Int32.ofNat l)) :: t) [] (xp_c h D s.2)
theorem c65c (q : CS h D) {r : Nat} (hr : r < 2) {n : Nat} {L : Nat → Ln} (hC : CR h D r n L) (hm : G0 14 r = Int32.ofNat n) {m w x i u0 : Int32} {P0 : xp_F} (l : Nat) (s : Int32 × xp_F) (t : List (Option Value)) (hl : l < xd_n D 0) (hs : fK (xd_n D 0) n L x u0 P0 G0 l s) : ∃ (s' : Int32 × xp_F) (t' : List (Option Value)), fcP d h D (Int32.ofNat r) m w x i l s t = fcP d h D (Int32.ofNat r) m w x i (l + 1) s' t' ∧ fK (xd_n D 0) n L x u0 P0 G0 (l + 1) s' := by
  have n12 := (cs_n q).1
  obtain ⟨u, G⟩ := s
  obtain ⟨h1, J⟩ := hs
  have h1 : u = u0 + (xp_up (sp_fore1 L n) (0, P0) l).1 := h1
  have J : fJ (xd_n D 0) x (xp_up (sp_fore1 L n) (0, P0) l).2 G G0 := J
  have up : xp_up (sp_fore1 L n) (0, P0) (l + 1) = sp_fore1 L n l (xp_up (sp_fore1 L n) (0, P0) l) := rfl
  unfold fK
  rw [up]
  generalize xp_up (sp_fore1 L n) (0, P0) l = S at *
  obtain ⟨v, P⟩ := S
  have h1 : u = u0 + v := h1
  obtain ⟨j1, j2, j3, j4, j5, j6, j7⟩ := J
  have j1 : fR false (xd_n D 0) P G := j1
  have j2 : P 0 0 = x := j2
  have j3 : P 0 6 = Int32.ofNat (xd_n D 0) := j3
  have j6 : GG (xd_n D 0) P := j6
  obtain ⟨r1, r2, r3, r4⟩ := j1
  have f1 : fR false (xd_n D 0) P G := ⟨r1, r2, r3, r4⟩
  have P4 : P 4 l = G 91 l := r4 1 (by decide) l hl
  have P5 : P 5 l = G 93 l := r4 3 (by decide) l hl
  have P6 : P 6 l = G 94 l := r4 4 (by decide) l hl
  have P12 : P 12 l = G 99 l := r4 9 (by decide) l hl
  have eh : sp_has P l = sq_has false G l x 0 := by
    funext k
    show sp_has P l k = (if k = 0 then sp_day x else if k = 1 then sp_mon x else if k = 2 then x - x / 30 * 30 else if k = 3 then 0 else if k = 4 then G 91 l else if k = 5 then G 93 l else if k = 6 then G 94 l else x / 60)
    unfold sp_has
    rw [j2, r1, P4, P5, P6]
  obtain ⟨b1, b2, b3, b4, b5⟩ := j5 l hl
  have hcomb : 0 ≤ (G 94 l).toInt ∧ (G 94 l).toInt ≤ 3600 := by
    have b2 : 0 ≤ (G 94 l).toInt := b2
    have b3 : (G 94 l).toInt ≤ 400 * (G 93 l).toInt := b3
    have b1 : (G 93 l).toInt ≤ 9 := b1.2
    omega
  have es : sp_stays P n L l = sp_left (G 94 l) (sp_leaves (sq_has false G l x 0) L n) := by
    unfold sp_stays
    rw [P6, eh]
  obtain ⟨-, lt1, lt2⟩ := left_ti hcomb (leaves_rg (s := sq_has false G l x 0) (L := L) (n := n))
  have m27 := @c27 d h D G false q r hr n L hC ((j7 _ _ (by decide) (by decide)).trans hm) l hl x 0
  rw [show rk false = 2 from rfl] at m27
  have aq : ∀ o k, ¬ o = 82 → ¬ o = 101 → ¬ o = 102 → sq_ask false G l x 0 r n L o k = G o k := fun o k a1 a2 a3 => by
    unfold sq_ask sq_hset
    simp only [u2_ap, a1, a2, a3, false_and, ↓reduceIte]
  have q101 : sq_ask false G l x 0 r n L 101 r = sp_leaves (sq_has false G l x 0) L n := by
    unfold sq_ask
    simp only [u2_ap, Nat.reduceEqDiff, false_and, and_self, ↓reduceIte]
  have q102 : sq_ask false G l x 0 r n L 102 r = sp_barred (sq_has false G l x 0) L n := by
    unfold sq_ask
    simp only [u2_ap, Nat.reduceEqDiff, false_and, and_self, ↓reduceIte]
  have m28 := @c28 (d + 703) h D (sq_ask false G l x 0 r n L) false q l r hl hr
  have fq : fR false (xd_n D 0) P (sq_ask false G l x 0 r n L) := f1.ag (fun o k ho => aq o k (by omega) (by omega) (by omega))
  have gq : GI false (xd_n D 0) (sq_ask false G l x 0 r n L) := GI.ag j5 (fun l _ => ⟨aq _ _ (by decide) (by decide) (by decide), aq _ _ (by decide) (by decide) (by decide), aq _ _ (by decide) (by decide) (by decide)⟩)
  have bq : GB (sq_ask false G l x 0 r n L) := j4.ag (fun o k ho => aq o k (by omega) (by omega) (by omega))
  have cq' : fC G0 (sq_ask false G l x 0 r n L) := j7.tr (fun o k a1 a2 => aq o k a1 (by omega) (by omega))
  have q94 := aq 94 l (by decide) (by decide) (by decide)
  have q99 := aq 99 l (by decide) (by decide) (by decide)
  have q6 := aq 0 6 (by decide) (by decide) (by decide)
  rw [show nu false 4 = 94 from rfl, show rk false = 2 from rfl, q94, q101] at m28
  have g6 : G 0 6 = Int32.ofNat (xd_n D 0) := r2.symm.trans j3
  obtain ⟨i1, e1⟩ := in_nat (show l < 12 by omega) (by decide)
  have c0 := lt_nat hl (by omega)
  have o1 := cs_T q hl
  have o2 := cs_U q hr
  unfold sp_fore1
  show ∃ (s' : Int32 × xp_F) (t' : List (Option Value)), _ ∧ s'.1 = u0 + (if P 12 l = 0 ∧ sp_barred (sp_has P l) L n = 0 ∧ sp_stays P n L l < P 6 l then (v + (P 6 l - sp_stays P n L l), xm_u2 (xm_u2 (xm_u2 P 8 l (100 * sp_stays P n L l / P 6 l)) 6 l (sp_stays P n L l)) 12 l 1) else (v, P)).1 ∧ fJ (xd_n D 0) x (if P 12 l = 0 ∧ sp_barred (sp_has P l) L n = 0 ∧ sp_stays P n L l < P 6 l then (v + (P 6 l - sp_stays P n L l), xm_u2 (xm_u2 (xm_u2 P 8 l (100 * sp_stays P n L l / P 6 l)) 6 l (sp_stays P n L l)) 12 l 1) else (v, P)).2 s'.2 G0
  rw [es, eh, P12, P6]
  generalize sp_left (G 94 l) (sp_leaves (sq_has false G l x 0) L n) = st at *
  generalize sp_barred (sq_has false G l x 0) L n = ba at *
  have e4 : (G 94 l - st).toInt = (G 94 l).toInt - st.toInt := ti_sub (by omega)
  have ex : G 94 l - (G 94 l - st) = st := by
    rw [Int32.sub_eq_add_neg, Int32.neg_sub, Int32.sub_eq_add_neg, Int32.add_comm, Int32.add_assoc, Int32.add_left_neg, Int32.add_zero]
  have Jq : fJ (xd_n D 0) x P (sq_ask false G l x 0 r n L) G0 := ⟨fq, j2, j3, bq, gq, j6, cq'⟩
  generalize sq_ask false G l x 0 r n L = Gq at *
  unfold fcP
  show ∃ (s' : Int32 × xp_F) (t' : List (Option Value)), xm_run (d + 704) 65 121 (some (.ref (xd_X D)) :: some (.int (Int32.ofNat r)) :: some (.int m) :: some (.int w) :: some (.int x) :: some (.int u) :: some (.int i) :: some (.int (Int32.ofNat l)) :: t) [] (xp_c h D G) = _ ∧ _
  by_cases d1 : ba = 0
  case neg =>
    rw [if_neg (fun z => d1 z.2.1)]
    refine ⟨(u, Gq), some (.ref (xd_A D 2 l)) :: some (.ref (xd_A D 7 r)) :: some (.int (G 94 l - st)) :: t.tail.tail.tail, ?_, h1, Jq⟩
    rw [r65_121]
    simp only [ite_not, ite_self, w8_nil, ok01, ite10, rf_rv, rf_ref, rf_cat, rf_lk2, rf_some, rf_none, w_add, w_cons, cr_int, cr_long, cr_ref, cr_null, is_ref, is_null, l2_int, l2_ref, l2_null, l2_none, ent_nil, ent_int, ent_ref, ent_null, ent_rf, ent_long, ok_0, ok_1, af_ret, af_void, List.tail_cons, List.tail_nil, Nat.reduceAdd, Nat.reduceLeDiff, not_false_eq_true, not_true_eq_false, and_self, and_true, true_and, ne_eq, or_true, true_or, or_false, false_or, eq_self, Nat.reduceEqDiff, ↓reduceIte, false_and, and_false, Nat.le_refl, Nat.zero_le, nz_1, nz_2, nz_3, nz_4, nz_5, nz_6, nz_8, nz_10, nz_12, nz_20, nz_30, nz_60, nz_100, mc_B, mc_Z, mc_S, mc_C, mc_K, mc_N, mc_R, mc_I, mc_L, va_Is, va_Ls, va_us, va_iss, u2_ap, sp_isLedge, sp_isLadder, sp_isPerson, sp_isLiving, sp_isLot, sp_isThere, sp_isSpan, cs_K q, cs_B q, mc_s (cs_inj q), cs_f4 q, cs_f1 q, cs_f0 q, cs_f5 q, cs_K q, r65_123, r65_124, r65_130, r65_131, r65_134, r65_136, r65_137, r65_139, r65_140, r65_141, r65_143, r65_145, r65_146, r65_149, r65_151, r65_153, r65_156, r65_158, r65_160, r65_163, r65_164, r65_166, r65_168, r65_174, r65_176, r65_182, r65_187, r65_190, r65_192, r65_194, r65_195, r65_197, r65_199, r65_201, r65_204, r65_206, r65_207, r65_210, r65_211, r65_214, r65_127, r65_171, r65_179, r65_184, g6, c0, i1, e1, o1, o2, m27, m28, q94, q102, d1, nat_succ]
  by_cases d2 : G 99 l = 0
  case neg =>
    rw [if_neg (fun z => d2 z.1)]
    refine ⟨(u, Gq), some (.ref (xd_A D 2 l)) :: some (.ref (xd_A D 7 r)) :: some (.int (G 94 l - st)) :: t.tail.tail.tail, ?_, h1, Jq⟩
    rw [r65_121]
    simp only [ite_not, ite_self, w8_nil, ok01, ite10, rf_rv, rf_ref, rf_cat, rf_lk2, rf_some, rf_none, w_add, w_cons, cr_int, cr_long, cr_ref, cr_null, is_ref, is_null, l2_int, l2_ref, l2_null, l2_none, ent_nil, ent_int, ent_ref, ent_null, ent_rf, ent_long, ok_0, ok_1, af_ret, af_void, List.tail_cons, List.tail_nil, Nat.reduceAdd, Nat.reduceLeDiff, not_false_eq_true, not_true_eq_false, and_self, and_true, true_and, ne_eq, or_true, true_or, or_false, false_or, eq_self, Nat.reduceEqDiff, ↓reduceIte, false_and, and_false, Nat.le_refl, Nat.zero_le, nz_1, nz_2, nz_3, nz_4, nz_5, nz_6, nz_8, nz_10, nz_12, nz_20, nz_30, nz_60, nz_100, mc_B, mc_Z, mc_S, mc_C, mc_K, mc_N, mc_R, mc_I, mc_L, va_Is, va_Ls, va_us, va_iss, u2_ap, sp_isLedge, sp_isLadder, sp_isPerson, sp_isLiving, sp_isLot, sp_isThere, sp_isSpan, cs_K q, cs_B q, mc_s (cs_inj q), cs_f4 q, cs_f1 q, cs_f0 q, cs_f5 q, cs_K q, r65_123, r65_124, r65_130, r65_131, r65_134, r65_136, r65_137, r65_139, r65_140, r65_141, r65_143, r65_145, r65_146, r65_149, r65_151, r65_153, r65_156, r65_158, r65_160, r65_163, r65_164, r65_166, r65_168, r65_174, r65_176, r65_182, r65_187, r65_190, r65_192, r65_194, r65_195, r65_197, r65_199, r65_201, r65_204, r65_206, r65_207, r65_210, r65_211, r65_214, r65_127, r65_171, r65_179, r65_184, g6, c0, i1, e1, o1, o2, m27, m28, q94, q99, q102, d1, d2, nat_succ]
  by_cases d3 : st < G 94 l
  case neg =>
    have d4 : ¬ 0 < G 94 l - st := fun z => d3 (Int32.lt_iff_toInt_lt.mpr (by
      have z := Int32.lt_iff_toInt_lt.mp z
      rw [e4, show (0 : Int32).toInt = 0 from rfl] at z
      omega))
    rw [if_neg (fun z => d3 z.2.2)]
    refine ⟨(u, Gq), some (.ref (xd_A D 2 l)) :: some (.ref (xd_A D 7 r)) :: some (.int (G 94 l - st)) :: t.tail.tail.tail, ?_, h1, Jq⟩
    rw [r65_121]
    simp only [ite_not, ite_self, w8_nil, ok01, ite10, rf_rv, rf_ref, rf_cat, rf_lk2, rf_some, rf_none, w_add, w_cons, cr_int, cr_long, cr_ref, cr_null, is_ref, is_null, l2_int, l2_ref, l2_null, l2_none, ent_nil, ent_int, ent_ref, ent_null, ent_rf, ent_long, ok_0, ok_1, af_ret, af_void, List.tail_cons, List.tail_nil, Nat.reduceAdd, Nat.reduceLeDiff, not_false_eq_true, not_true_eq_false, and_self, and_true, true_and, ne_eq, or_true, true_or, or_false, false_or, eq_self, Nat.reduceEqDiff, ↓reduceIte, false_and, and_false, Nat.le_refl, Nat.zero_le, nz_1, nz_2, nz_3, nz_4, nz_5, nz_6, nz_8, nz_10, nz_12, nz_20, nz_30, nz_60, nz_100, mc_B, mc_Z, mc_S, mc_C, mc_K, mc_N, mc_R, mc_I, mc_L, va_Is, va_Ls, va_us, va_iss, u2_ap, sp_isLedge, sp_isLadder, sp_isPerson, sp_isLiving, sp_isLot, sp_isThere, sp_isSpan, cs_K q, cs_B q, mc_s (cs_inj q), cs_f4 q, cs_f1 q, cs_f0 q, cs_f5 q, cs_K q, r65_123, r65_124, r65_130, r65_131, r65_134, r65_136, r65_137, r65_139, r65_140, r65_141, r65_143, r65_145, r65_146, r65_149, r65_151, r65_153, r65_156, r65_158, r65_160, r65_163, r65_164, r65_166, r65_168, r65_174, r65_176, r65_182, r65_187, r65_190, r65_192, r65_194, r65_195, r65_197, r65_199, r65_201, r65_204, r65_206, r65_207, r65_210, r65_211, r65_214, r65_127, r65_171, r65_179, r65_184, g6, c0, i1, e1, o1, o2, m27, m28, q94, q99, q102, d1, d2, d4, nat_succ]
  have d3' := Int32.lt_iff_toInt_lt.mp d3
  have d4 : 0 < G 94 l - st := Int32.lt_iff_toInt_lt.mpr (by
    rw [e4, show (0 : Int32).toInt = 0 from rfl]
    omega)
  rw [if_pos ⟨d2, d1, d3⟩]
  have cp : 0 < (Gq (nu false 4) l).toInt := by show 0 < (Gq 94 l).toInt; rw [q94]; omega
  have sx : 0 ≤ st.toInt ∧ st.toInt ≤ (Gq (nu false 4) l).toInt := ⟨lt1, by show _ ≤ (Gq 94 l).toInt; rw [q94]; exact lt2⟩
  have m188 := @c188 (d + 702) h D Gq false q l hl st (gq.LKx hl cp) sx
  rw [show rk false = 2 from rfl] at m188
  refine ⟨(u + (G 94 l - st), sq_cutL false Gq l st), some (.ref (xd_A D 2 l)) :: some (.ref (xd_A D 7 r)) :: some (.int (G 94 l - st)) :: t.tail.tail.tail, ?_, ?_, ?_⟩
  · rw [r65_121]
    simp only [ite_not, ite_self, w8_nil, ok01, ite10, rf_rv, rf_ref, rf_cat, rf_lk2, rf_some, rf_none, w_add, w_cons, cr_int, cr_long, cr_ref, cr_null, is_ref, is_null, l2_int, l2_ref, l2_null, l2_none, ent_nil, ent_int, ent_ref, ent_null, ent_rf, ent_long, ok_0, ok_1, af_ret, af_void, List.tail_cons, List.tail_nil, Nat.reduceAdd, Nat.reduceLeDiff, not_false_eq_true, not_true_eq_false, and_self, and_true, true_and, ne_eq, or_true, true_or, or_false, false_or, eq_self, Nat.reduceEqDiff, ↓reduceIte, false_and, and_false, Nat.le_refl, Nat.zero_le, nz_1, nz_2, nz_3, nz_4, nz_5, nz_6, nz_8, nz_10, nz_12, nz_20, nz_30, nz_60, nz_100, mc_B, mc_Z, mc_S, mc_C, mc_K, mc_N, mc_R, mc_I, mc_L, va_Is, va_Ls, va_us, va_iss, u2_ap, sp_isLedge, sp_isLadder, sp_isPerson, sp_isLiving, sp_isLot, sp_isThere, sp_isSpan, cs_K q, cs_B q, mc_s (cs_inj q), cs_f4 q, cs_f1 q, cs_f0 q, cs_f5 q, cs_K q, r65_123, r65_124, r65_130, r65_131, r65_134, r65_136, r65_137, r65_139, r65_140, r65_141, r65_143, r65_145, r65_146, r65_149, r65_151, r65_153, r65_156, r65_158, r65_160, r65_163, r65_164, r65_166, r65_168, r65_174, r65_176, r65_182, r65_187, r65_190, r65_192, r65_194, r65_195, r65_197, r65_199, r65_201, r65_204, r65_206, r65_207, r65_210, r65_211, r65_214, r65_127, r65_171, r65_179, r65_184, g6, c0, i1, e1, o1, o2, m27, m28, q94, q99, q102, d1, d2, d4, ex, m188, nat_succ]
  · show u + (G 94 l - st) = u0 + (v + (G 94 l - st))
    rw [h1, Int32.add_assoc]
  · refine ⟨?_, ?_, ?_, ?_, gq.cutL hl cp sx, ?_, cq'.tr ?_⟩
    · show fR false _ (xm_u2 (xm_u2 (xm_u2 P (nu true 5) l (100 * st / G 94 l)) (nu true 4) l st) (nu true 9) l 1) (xm_u2 (xm_u2 (xm_u2 (xm_u2 Gq (nu false 5) l (st * 100 / Gq (nu false 4) l)) (nu false 4) l st) (nu false 8) l (Gq (nu false 8) l - sq_mad false Gq l st)) (nu false 9) l 1)
      have e5 : Gq (nu false 4) l = G 94 l := q94
      rw [e5, Int32.mul_comm]
      exact fR.u2 (by decide) (fun _ => rfl) (fR.g8 (fR.u2 (by decide) (fun _ => rfl) (fR.u2 (by decide) (fun _ => rfl) fq)))
    · show xm_u2 (xm_u2 (xm_u2 P 8 l (100 * st / G 94 l)) 6 l st) 12 l 1 0 0 = x
      simp only [u2_ap, Nat.reduceEqDiff, false_and, ↓reduceIte]
      exact j2
    · show xm_u2 (xm_u2 (xm_u2 P 8 l (100 * st / G 94 l)) 6 l st) 12 l 1 0 6 = _
      simp only [u2_ap, Nat.reduceEqDiff, false_and, ↓reduceIte]
      exact j3
    · refine bq.ag (fun o k ho => ?_)
      exact cutL_o (fun j h3 h4 => by show ¬ o = 90 + j; omega)
    · intro k hk
      show 0 ≤ (xm_u2 (xm_u2 (xm_u2 P 8 l (100 * st / G 94 l)) 6 l st) 12 l 1 5 k).toInt ∧ 0 ≤ (xm_u2 (xm_u2 (xm_u2 P 8 l (100 * st / G 94 l)) 6 l st) 12 l 1 10 k).toInt ∧ 0 ≤ (xm_u2 (xm_u2 (xm_u2 P 8 l (100 * st / G 94 l)) 6 l st) 12 l 1 11 k).toInt
      simp only [u2_ap, Nat.reduceEqDiff, false_and, ↓reduceIte]
      exact j6 k hk
    · intro o k a1 a2
      exact cutL_o (fun j h3 h4 => by show ¬ o = 90 + j; omega)
end FW
