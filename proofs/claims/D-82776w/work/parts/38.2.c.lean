/-! the law, from its start -/
set_option maxRecDepth 100000
section LWS
variable {d : Nat} {h hE : xm_H} {S N x : Nat} {sc : Nat → Int32} {q : Nat → Nat}
theorem asl_hx {a z s : Nat} (l : List (Nat × Nat × Nat × Int32)) {h0 : xm_H} (ha : xm_Z h0 ≤ a) (x : hx z s h0 h) : hx (z + acn l) (s + asz l) h0 (asl a l h) := by
  obtain ⟨z1, z2, z3, z4⟩ := asl_Z (a := a) l (h := h)
  obtain ⟨a1, a2, a3, a4, a5, a6⟩ := x
  refine ⟨z3.trans a1, z4.trans a2, by omega, by omega, by omega, fun y hy => ?_⟩
  obtain ⟨c1, c2, c3⟩ := a6 y hy
  obtain ⟨i1, i2, i3, i4, i5⟩ := asl_old (a := a) l (h := h) (x := y) (by omega)
  refine ⟨i1.trans c1, i2.trans c2, fun p => ⟨?_, (i3 p).trans (c3 p).2.1, (i5 p (fun w => by omega)).trans (c3 p).2.2⟩⟩
  rw [i4 p, if_neg (by omega)]
  exact (c3 p).1
/-- what the law's start must have -/
def LW0 (h : xm_H) (q : Nat → Nat) : Prop := xm_B h ≤ xm_Z h ∧ (∀ x, xm_Z h ≤ x → xm_K h x = 0) ∧ xm_C h 100 = .int 1 ∧ (∃ s, xm_C h 21 = .ref s ∧ STR h s 10 sgf) ∧ (∀ k, k < 21 → xm_C h k = .ref (q k) ∧ STR h (q k) (wln k) (wdf k)) ∧ (∃ q1, xm_C h 104 = .ref q1) ∧ ∃ q2, xm_C h 105 = .ref q2
theorem law_from {IV : xm_H → xp_D → xp_F → Prop} (l : LW0 h q) (a : AT h S N sc) (hN : N ≤ 384) (R : RND IV (d + 5) (xm_Z h + 35)) (iv0 : ∀ h', JS h' (D0 (xm_Z h)) (xm_Z h + 35) → IV h' (D0 (xm_Z h)) F0m) : ∃ H', xm_run (d + 6) 294 0 [some (.ref S)] [] h = some (.inl (some (.int 1)), H') ∧ xm_Z H' ≤ xm_Z h + 300000 ∧ xm_S H' ≤ xm_S h + 2000000 := by
  obtain ⟨l1, l2, l3, ⟨s21, l4, l5⟩, l6, ⟨q1, l7⟩, ⟨q2, l8⟩⟩ := l
  obtain ⟨a1, a2, a3⟩ := a
  have nwK : ∀ y, y < xm_Z h → xm_K (xm_nw h 1 0 51) y = xm_K h y := fun y hy => by rw [h_K_nw, if_neg (by omega)]
  have lt : ∀ {y k : Nat}, xm_K h y = k → ¬ k = 0 → y < xm_Z h := fun {y k} e hk => by
    false_or_by_contra
    exact hk (e.symm.trans (l2 y (by omega)))
  have hz1 : xm_Z (xm_nw h 1 0 51) = xm_Z h + 1 := rfl
  have o : ob 1 (xm_Z h) (xm_nw h 1 0 51) := ⟨by rw [h_K_nw, if_pos rfl], l1, Nat.lt_succ_self _, fun y hy => by
    have hy : xm_Z h + 1 ≤ y := hy
    rw [h_K_nw, if_neg (by omega)]
    exact l2 y (by omega)⟩
  have str : ∀ {y m : Nat} {f : Nat → Int32}, STR h y m f → STR (xm_nw h 1 0 51) y m f := fun {y m f} s => by
    obtain ⟨c, s1, s2, s3, s4, s5, s6⟩ := s
    have ly := lt s1 (by decide)
    have lc := lt s4 (by decide)
    exact ⟨c, (nwK y ly).trans s1, by rw [h_R_nw, if_neg (by omega)]; exact s2, by rw [h_I_nw, if_neg (by omega)]; exact s3, (nwK c lc).trans s4, by rw [h_N_nw, if_neg (by omega)]; exact s5, fun j hj => by rw [h_I_nw, if_neg (by omega)]; exact s6 j hj⟩
  obtain ⟨hE, m0, fe⟩ := c0 (d := d + 1) o hz1 (fun p => by rw [h_I_nw, if_pos rfl]) (q := q) (fun k hk => ⟨(l6 k hk).1, by
    obtain ⟨-, c, s1, -⟩ := l6 k hk
    rw [nwK _ (lt s1 (by decide))]
    exact s1⟩) (q1 := q1) (q2 := q2) l7 l8
  have csE := CS0 fe
  have hwE := HW0 fe
  have swE : SW hE (D0 (xm_Z h)) := SW0 fe o.1 (fun y hy => o.2.2.2 y (by rw [hz1]; omega)) l3 l4 (str l5) (fun k hk => str (l6 k hk).2)
  have putE := put0 fe
  have zE : xm_Z hE = xm_Z h + 35 := fe.2.2.2.1
  have sE : xm_S hE = xm_S h + 51 + 1265 := fe.2.2.2.2.1
  have oM : ob 5 (xm_Z hE) (xm_nw hE 5 0 103) := ⟨by rw [h_K_nw, if_pos rfl], hwE.1, Nat.lt_succ_self _, fun y hy => by
    have hy : xm_Z hE + 1 ≤ y := hy
    rw [h_K_nw, if_neg (by omega)]
    exact hwE.2.2 y (by omega)⟩
  obtain ⟨m89, ms⟩ := c89 (d := d + 4) oM rfl (fun p => by rw [h_I_nw, if_pos rfl])
  have xh : hx (1 + acn acts89) (103 + asz acts89) hE (asl (xm_Z hE) acts89 (xm_nw hE 5 0 103)) := asl_hx acts89 (Nat.le_refl _) (hx_nw (kd := 5) (n := 0) (s := 103))
  have oM2 := ob.lst acts89 oM
  have zM := (asl_Z (a := xm_Z hE) acts89 (h := xm_nw hE 5 0 103)).1
  have sM := (asl_Z (a := xm_Z hE) acts89 (h := xm_nw hE 5 0 103)).2.1
  generalize asl (xm_Z hE) acts89 (xm_nw hE 5 0 103) = h3 at m89 ms xh oM2 zM sM
  have cs3 := csE.hx hwE xh
  have hw3 : HW h3 (D0 (xm_Z h)) := hwE.hx xh oM2.2.2.2
  have js : JS h3 (D0 (xm_Z h)) (xm_Z hE) := ⟨cs3, hw3, VN0, swE.hx csE hwE xh, ms, fun o p _ => (hwE.2.1 _ p (by omega)).1, n01_0⟩
  have put3 : h3 = xp_c h3 (D0 (xm_Z h)) F0m := by
    refine same_put (fun b p y e => ?_) (fun b p y e => nomatch e)
    have lb : b < xm_Z hE := by
      false_or_by_contra
      rw [(hwE.2.1 b p (by omega)).1] at e
      cases e
    rw [((xh.2.2.2.2.2 b lb).2.2 p).1, putE, mc_I, e]
    exact va_Is.symm
  have st : xm_run (d + 6) 294 0 [some (.ref S)] [] h = xm_run (d + 6) 294 18 [some (.ref S), some (.ref (xm_Z h)), some (.ref (xm_Z hE)), some (.int 0)] [] (xp_m h3 (xm_Z hE) F0m) := by
    have m0 : xm_met (d + 5) 0 [.ref (xm_Z h)] (xm_nw h 1 0 51) = some (.inl none, hE) := m0
    have m89 : xm_met (d + 5) 89 [.ref (xm_Z hE)] (xm_nw hE 5 0 103) = some (.inl none, xp_m h3 (xm_Z hE) F0m) := m89
    simp only [ite_not, ite_self, w8_nil, ok01, ite10, rf_rv, rf_ref, rf_cat, rf_lk2, rf_some, rf_none, w_add, w_cons, cr_int, cr_long, cr_ref, cr_null, is_ref, is_null, l2_int, l2_ref, l2_null, l2_none, ent_nil, ent_int, ent_ref, ent_null, ent_rf, ent_long, ok_0, ok_1, af_ret, af_void, List.tail_cons, List.tail_nil, Nat.reduceAdd, Nat.reduceLeDiff, not_false_eq_true, not_true_eq_false, and_self, and_true, true_and, ne_eq, or_true, true_or, or_false, false_or, eq_self, Nat.reduceEqDiff, ↓reduceIte, false_and, and_false, Nat.le_refl, Nat.zero_le, nz_1, nz_2, nz_3, nz_4, nz_5, nz_6, nz_8, nz_10, nz_12, nz_20, nz_30, nz_60, nz_100, m0, m89, r294_0, r294_3, r294_4, r294_7, r294_8, r294_11, r294_12, r294_15, r294_16, r294_17]
  have eJ : xp_m h3 (xm_Z hE) F0m = Jh h3 (D0 (xm_Z h)) (xm_Z hE) F0m := congrArg (fun y => xp_m y (xm_Z hE) F0m) put3
  rw [zE] at js eJ st
  have lS := lt a1 (by decide)
  have sS := fe.2.2.2.2.2.1 S lS
  have lSE : S < xm_Z hE := by omega
  obtain ⟨x1, x2, x3⟩ := xh.2.2.2.2.2 S lSE
  have scr : SCR h3 (D0 (xm_Z h)) (xm_Z h + 35) S N sc := by
    refine ⟨x1.trans (sS.1.trans ((nwK S lS).trans a1)), x2.trans (sS.2.1.trans ?_), fun j => ?_, fun p => if_pos lS, by omega⟩
    · rw [h_N_nw, if_neg (by omega)]
      exact a2
    · rw [(x3 j).1, (sS.2.2 j).2.1, h_I_nw, if_neg (by omega)]
      exact a3 j
  obtain ⟨H', e1, z1, s1⟩ := law_loop (d := d + 5) R hN (N / 6) 0 (Nat.zero_add _) (iv0 h3 js) scr
  have e1 : xm_run (d + 6) 294 18 [some (.ref S), some (.ref (xm_Z h)), some (.ref (xm_Z h + 35)), some (.int 0)] [] (Jh h3 (D0 (xm_Z h)) (xm_Z h + 35) F0m) = some (.inl (some (.int 1)), H') := e1
  have c89n : acn acts89 = 70 := by decide +kernel
  have c89s : asz acts89 ≤ 20000 := by decide +kernel
  have zM : xm_Z h3 = xm_Z hE + 1 + acn acts89 := zM
  have sM : xm_S h3 = xm_S hE + 103 + asz acts89 := sM
  have n64 : N / 6 ≤ 64 := by omega
  refine ⟨H', st.trans ((congrArg (fun y => xm_run (d + 6) 294 18 [some (.ref S), some (.ref (xm_Z h)), some (.ref (xm_Z h + 35)), some (.int 0)] [] y) eJ).trans e1), by omega, by omega⟩
end LWS
