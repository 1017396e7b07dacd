/-! the component's contracts, 10: rules asked -/
set_option maxRecDepth 100000
theorem u2_u2 {F : xp_F} {o k a i : Nat} {v w : Int32} (h : ¬ (a = o ∧ i = k)) : xm_u2 (xm_u2 F o k v) a i w = xm_u2 (xm_u2 F a i w) o k v := by
  funext x y
  simp only [u2_ap]
  by_cases e : x = a ∧ y = i
  · rw [if_pos e, if_neg (by omega), if_pos e]
  · rw [if_neg e, if_neg e]
theorem u2_over {F : xp_F} {o k : Nat} {v w : Int32} : xm_u2 (xm_u2 F o k v) o k w = xm_u2 F o k w := by
  funext x y
  simp only [u2_ap]
  by_cases e : x = o ∧ y = k
  · rw [if_pos e, if_pos e]
  · rw [if_neg e, if_neg e, if_neg e]
theorem mnmx {a v : Int32} : mx (mn 100 a) (mn 100 v) = mn 100 (mx v a) := by
  apply i_eq
  rw [mx_ti, mn_ti, mn_ti, mn_ti, mx_ti]
  omega
section C10
variable {d : Nat} {h : xm_H} {D : xp_D} {F : xp_F} {b : Bool}
def sq_has (b : Bool) (F : xp_F) (l : Nat) (x w : Int32) (k : Nat) : Int32 := if k = 0 then sp_day x else if k = 1 then sp_mon x else if k = 2 then x - x / 30 * 30 else if k = 3 then w else if k = 4 then F (nu b 1) l else if k = 5 then F (nu b 3) l else if k = 6 then F (nu b 4) l else x / 60
def sq_hset (b : Bool) (F : xp_F) (l : Nat) (x w : Int32) : xp_F := xm_u2 (xm_u2 (xm_u2 (xm_u2 (xm_u2 (xm_u2 (xm_u2 (xm_u2 F 82 0 (sp_day x)) 82 1 (sp_mon x)) 82 2 (x - x / 30 * 30)) 82 3 w) 82 4 (F (nu b 1) l)) 82 5 (F (nu b 3) l)) 82 6 (F (nu b 4) l)) 82 7 (x / 60)
def sq_ask (b : Bool) (F : xp_F) (l : Nat) (x w : Int32) (r n : Nat) (L : Nat → Ln) : xp_F := xm_u2 (xm_u2 (sq_hset b F l x w) 101 r (sp_leaves (sq_has b F l x w) L n)) 102 r (sp_barred (sq_has b F l x w) L n)
theorem hset_82 {l : Nat} {x w : Int32} {k : Nat} (hk : k < 8) : sq_hset b F l x w 82 k = sq_has b F l x w k := by
  have : k = 0 ∨ k = 1 ∨ k = 2 ∨ k = 3 ∨ k = 4 ∨ k = 5 ∨ k = 6 ∨ k = 7 := by omega
  unfold sq_hset sq_has
  rcases this with e | e | e | e | e | e | e | e <;> subst e <;> simp only [u2_ap, Nat.reduceEqDiff, and_false, and_self, ↓reduceIte]
def LK (k : Nat) : Prop := k = 12 ∨ k = 14 ∨ k = 15 ∨ k = 16 ∨ k = 17
theorem t27_129 {g : xm_H} {v0 v1 : Value} {a : Nat} {ls : List (Option Value)} {st : List Value} (hk : LK (xm_K g a)) (hw : xm_w st ≤ 8) (he : xm_w [.ref a, v0, v1] ≤ 3) : xm_run (d + 1) 27 129 ls (v1 :: v0 :: .ref a :: st) g = xm_aft (xm_run (d + 1) 27) 27 129 ls st (xm_met d 199 [.ref a, v0, v1] g) := by
  rcases hk with e | e | e | e | e
  · exact r27_129k12 e hw he
  · exact r27_129k14 e hw he
  · exact r27_129k15 e hw he
  · exact r27_129k16 e hw he
  · exact r27_129k17 e hw he
theorem LO.k {L : Ln} {a : Nat} (o : LO h D L a) : LK (xm_K h a) := by
  rcases o with ⟨-, hk, -⟩ | ⟨-, hk, -⟩ | ⟨-, -, hk, -⟩
  · exact Or.inl hk
  · exact Or.inr (Or.inl hk)
  · exact Or.inr (Or.inr hk)
theorem barred_01 {s : Nat → Int32} {L : Nat → Ln} : ∀ k, sp_barred s L k = 0 ∨ sp_barred s L k = 1
  | 0 => Or.inl rfl
  | k + 1 => by
    show sp_bar1 s L k (sp_barred s L k) = 0 ∨ sp_bar1 s L k (sp_barred s L k) = 1
    unfold sp_bar1
    split
    · exact Or.inr rfl
    · exact Or.inl rfl
/-- one line more -/
theorem line_step {H : xp_F} {s : Nat → Int32} (hH : ∀ k, k < 8 → H 82 k = s k) {r k : Nat} {L : Nat → Ln} {a : Nat} (ho : LO h D (L k) a) :
    sq_line (xm_u2 (xm_u2 H 101 r (mn 100 (xp_up (sp_leave1 s L) 0 k))) 102 r (sp_barred s L k) 82) r (L k) (xm_u2 (xm_u2 H 101 r (mn 100 (xp_up (sp_leave1 s L) 0 k))) 102 r (sp_barred s L k)) = xm_u2 (xm_u2 H 101 r (mn 100 (xp_up (sp_leave1 s L) 0 (k + 1)))) 102 r (sp_barred s L (k + 1)) := by
  generalize eG : xm_u2 (xm_u2 H 101 r (mn 100 (xp_up (sp_leave1 s L) 0 k))) 102 r (sp_barred s L k) = G
  have g8 : ∀ j, j < 8 → G 82 j = s j := fun j hj => by
    rw [← eG, u2_ap, if_neg (by omega), u2_ap, if_neg (by omega)]
    exact hH j hj
  have g1 : G 101 r = mn 100 (xp_up (sp_leave1 s L) 0 k) := by
    rw [← eG, u2_ap, if_neg (by omega), u2_ap, if_pos ⟨rfl, rfl⟩]
  have up1 : xp_up (sp_leave1 s L) 0 (k + 1) = if (L k).1 = 3 ∧ hold s (L k).2.2 = true then mx (ev s (L k).2.1) (xp_up (sp_leave1 s L) 0 k) else xp_up (sp_leave1 s L) 0 k := rfl
  have up2 : sp_barred s L (k + 1) = sp_bar1 s L k (sp_barred s L k) := rfl
  have hh : ∀ t, wf true t → hold (G 82) (some t) = hold s (some t) := fun t w => by
    show decide (ev (G 82) t = 1) = decide (ev s t = 1)
    rw [ev_cg g8 w]
  have keep : (¬ ((L k).1 = 4 ∧ hold s (L k).2.2 = true)) → sp_bar1 s L k (sp_barred s L k) = sp_barred s L k := fun hn => by
    unfold sp_bar1
    rcases barred_01 (s := s) (L := L) k with e | e
    · rw [e, if_neg (fun z => z.elim (fun y => y rfl) hn)]
    · rw [e, if_pos (Or.inl (by decide))]
  rw [up2]
  unfold sq_line
  rcases ho with ⟨s3, -, w, -, -, hc⟩ | ⟨s4, -, t, c, e, w, -⟩ | ⟨n3, n4, -⟩
  · have n4 : ¬ (L k).1 = 4 := by rw [s3]; decide
    have eh : hold (G 82) (L k).2.2 = hold s (L k).2.2 := by
      cases e : (L k).2.2 with
      | none => rfl
      | some t =>
        rw [e] at hc
        exact hh t hc.1
    rw [keep (fun z => n4 z.1), eh]
    by_cases z : hold s (L k).2.2 = true
    · rw [if_pos ⟨s3, z⟩] at up1
      rw [if_pos ⟨s3, z⟩, up1, g1, ev_cg g8 w, mnmx, ← eG, u2_u2 (by omega), u2_over]
    · rw [if_neg (fun y => z y.2)] at up1
      rw [if_neg (fun y => z y.2), if_neg (fun y => n4 y.1), up1, eG]
  · have n3 : ¬ (L k).1 = 3 := by rw [s4]; decide
    rw [if_neg (fun y => n3 y.1)] at up1
    rw [if_neg (fun y => n3 y.1), up1, e, hh t w]
    by_cases z : hold s (some t) = true
    · have : sp_bar1 s L k (sp_barred s L k) = 1 := by
        unfold sp_bar1
        rw [if_pos (Or.inr ⟨s4, by rw [e]; exact z⟩)]
      rw [if_pos ⟨s4, z⟩, this, ← eG, u2_over]
    · rw [if_neg (fun y => z y.2), keep (fun y => z (by rw [← e]; exact y.2)), eG]
  · rw [if_neg (fun y => n3 y.1)] at up1
    rw [if_neg (fun y => n3 y.1), if_neg (fun y => n4 y.1), up1, keep (fun y => n4 y.1), eG]
theorem c27 (q : CS h D) {r : Nat} (hr : r < 2) {n : Nat} {L : Nat → Ln} (hC : CR h D r n L) (hn : F 14 r = Int32.ofNat n) {l : Nat} (hl : l < xd_n D 0) {x w : Int32} : xm_met (d + 703) 27 [.ref (xd_X D), .int (Int32.ofNat r), .ref (xd_A D (rk b) l), .int x, .int w] (xp_c h D F) = some (.inl (some (.ref (xd_A D 7 r))), xp_c h D (sq_ask b F l x w r n L)) := by
  have o0 := cs_Z q b hl
  have o1 := cs_U q hr
  have o2 := cs_W q hr
  obtain ⟨hn20, hL⟩ := hC
  obtain ⟨ir, er⟩ := in_nat hr (by decide)
  have H8 := fun k hk => @hset_82 F b l x w k hk
  obtain ⟨t, e, i⟩ := xp_loop (P := fun k G t => xm_run (d + 703) 27 103 (some (.ref (xd_X D)) :: some (.int (Int32.ofNat r)) :: some (.ref (xd_A D (rk b) l)) :: some (.int x) :: some (.int w) :: some (.ref (xd_A D 7 r)) :: some (.int (Int32.ofNat k)) :: t) [] (xp_c h D G)) (n := n) (fun k (G : xp_F) => G = xm_u2 (xm_u2 (sq_hset b F l x w) 101 r (mn 100 (xp_up (sp_leave1 (sq_has b F l x w) L) 0 k))) 102 r (sp_barred (sq_has b F l x w) L k)) (f := fun k G => sq_line (G 82) r (L k) G) (fun k G t hk hG => by
    obtain ⟨a, ha, oa⟩ := hL k hk
    have c0 := lt_nat hk (by omega)
    obtain ⟨i1, e1⟩ := in_nat (show k < 20 by omega) (by decide)
    have g1 : G 14 r = Int32.ofNat n := by
      rw [hG, u2_ap, if_neg (by omega), u2_ap, if_neg (by omega)]
      unfold sq_hset
      rw [u2_ap, if_neg (by omega), u2_ap, if_neg (by omega), u2_ap, if_neg (by omega), u2_ap, if_neg (by omega), u2_ap, if_neg (by omega), u2_ap, if_neg (by omega), u2_ap, if_neg (by omega), u2_ap, if_neg (by omega)]
      exact hn
    have m1 := @c199 d h D G q r hr (L k) a oa
    have ka := oa.k
    refine ⟨t, ?_, ?_⟩
    · show xm_run _ _ _ _ _ _ = _
      rw [r27_103]
      simp only [ite_not, ite_self, w8_nil, ok01, ite10, rf_rv, rf_ref, rf_cat, rf_lk2, rf_some, rf_none, w_add, w_cons, cr_int, cr_long, cr_ref, cr_null, is_ref, is_null, l2_int, l2_ref, l2_null, l2_none, ent_nil, ent_int, ent_ref, ent_null, ent_rf, ent_long, ok_0, ok_1, af_ret, af_void, List.tail_cons, List.tail_nil, Nat.reduceAdd, Nat.reduceLeDiff, not_false_eq_true, not_true_eq_false, and_self, and_true, true_and, ne_eq, or_true, true_or, or_false, false_or, eq_self, Nat.reduceEqDiff, ↓reduceIte, false_and, and_false, Nat.le_refl, Nat.zero_le, nz_1, nz_2, nz_3, nz_4, nz_5, nz_6, nz_8, nz_10, nz_12, nz_20, nz_30, nz_60, nz_100, mc_B, mc_Z, mc_S, mc_C, mc_K, mc_N, mc_R, mc_I, mc_L, va_Is, va_Ls, va_us, va_iss, u2_ap, sp_isLedge, sp_isLadder, sp_isPerson, sp_isLiving, sp_isLot, sp_isThere, sp_isSpan, cs_K q, cs_B q, mc_s (cs_inj q), cs_f19 q, cs_f18 q, cs_f17 q, cs_f16 q, r27_105, r27_106, r27_109, r27_110, r27_114, r27_115, r27_118, r27_119, r27_120, r27_122, r27_123, r27_124, r27_127, r27_111, g1, c0, ir, er, o2, i1, e1, ha]
      rw [show d + 703 = d + 702 + 1 from rfl]
      simp only [ite_not, ite_self, w8_nil, ok01, ite10, rf_rv, rf_ref, rf_cat, rf_lk2, rf_some, rf_none, w_add, w_cons, cr_int, cr_long, cr_ref, cr_null, is_ref, is_null, l2_int, l2_ref, l2_null, l2_none, ent_nil, ent_int, ent_ref, ent_null, ent_rf, ent_long, ok_0, ok_1, af_ret, af_void, List.tail_cons, List.tail_nil, Nat.reduceAdd, Nat.reduceLeDiff, not_false_eq_true, not_true_eq_false, and_self, and_true, true_and, ne_eq, or_true, true_or, or_false, false_or, eq_self, Nat.reduceEqDiff, ↓reduceIte, false_and, and_false, Nat.le_refl, Nat.zero_le, nz_1, nz_2, nz_3, nz_4, nz_5, nz_6, nz_8, nz_10, nz_12, nz_20, nz_30, nz_60, nz_100, mc_B, mc_Z, mc_S, mc_C, mc_K, mc_N, mc_R, mc_I, mc_L, va_Is, va_Ls, va_us, va_iss, u2_ap, sp_isLedge, sp_isLadder, sp_isPerson, sp_isLiving, sp_isLot, sp_isThere, sp_isSpan, t27_129, ka, m1]
      simp only [ite_not, ite_self, w8_nil, ok01, ite10, rf_rv, rf_ref, rf_cat, rf_lk2, rf_some, rf_none, w_add, w_cons, cr_int, cr_long, cr_ref, cr_null, is_ref, is_null, l2_int, l2_ref, l2_null, l2_none, ent_nil, ent_int, ent_ref, ent_null, ent_rf, ent_long, ok_0, ok_1, af_ret, af_void, List.tail_cons, List.tail_nil, Nat.reduceAdd, Nat.reduceLeDiff, not_false_eq_true, not_true_eq_false, and_self, and_true, true_and, ne_eq, or_true, true_or, or_false, false_or, eq_self, Nat.reduceEqDiff, ↓reduceIte, false_and, and_false, Nat.le_refl, Nat.zero_le, nz_1, nz_2, nz_3, nz_4, nz_5, nz_6, nz_8, nz_10, nz_12, nz_20, nz_30, nz_60, nz_100, r27_132, r27_135, nat_succ]
    · rw [hG]
      exact line_step H8 oa) n 0 (xm_u2 (xm_u2 (sq_hset b F l x w) 101 r 0) 102 r 0) [] (Nat.zero_add _) rfl
  have cz : Int32.ofNat n ≤ Int32.ofNat n := Int32.le_refl _
  rw [i] at e
  rw [show Int32.ofNat 0 = (0 : Int32) from rfl] at e
  have g1 : sq_ask b F l x w r n L 14 r = Int32.ofNat n := by
    unfold sq_ask sq_hset
    rw [u2_ap, if_neg (by omega), u2_ap, if_neg (by omega), u2_ap, if_neg (by omega), u2_ap, if_neg (by omega), u2_ap, if_neg (by omega), u2_ap, if_neg (by omega), u2_ap, if_neg (by omega), u2_ap, if_neg (by omega), u2_ap, if_neg (by omega), u2_ap, if_neg (by omega)]
    exact hn
  have z0 : (0 : Int32).toNatClampNeg = 0 := rfl
  have z1 : (1 : Int32).toNatClampNeg = 1 := rfl
  have z2 : (2 : Int32).toNatClampNeg = 2 := rfl
  have z3 : (3 : Int32).toNatClampNeg = 3 := rfl
  have z4 : (4 : Int32).toNatClampNeg = 4 := rfl
  have z5 : (5 : Int32).toNatClampNeg = 5 := rfl
  have z6 : (6 : Int32).toNatClampNeg = 6 := rfl
  have z7 : (7 : Int32).toNatClampNeg = 7 := rfl
  have y0 : xm_in 0 8 = true := by decide
  have y1 : xm_in 1 8 = true := by decide
  have y2 : xm_in 2 8 = true := by decide
  have y3 : xm_in 3 8 = true := by decide
  have y4 : xm_in 4 8 = true := by decide
  have y5 : xm_in 5 8 = true := by decide
  have y6 : xm_in 6 8 = true := by decide
  have y7 : xm_in 7 8 = true := by decide
  have n1 : (nu b 1 = 82) = False := by cases b <;> decide
  have n3 : (nu b 3 = 82) = False := by cases b <;> decide
  have n4 : (nu b 4 = 82) = False := by cases b <;> decide
  have jd : x - x / 60 * 60 = sp_day x := rfl
  have jh : xm_u2 (xm_u2 (xm_u2 (xm_u2 (xm_u2 (xm_u2 (xm_u2 (xm_u2 F 82 0 (sp_day x)) 82 1 (sp_mon x)) 82 2 (x - x / 30 * 30)) 82 3 w) 82 4 (F (nu b 1) l)) 82 5 (F (nu b 3) l)) 82 6 (F (nu b 4) l)) 82 7 (x / 60) = sq_hset b F l x w := rfl
  unfold xm_met
  simp only [ite_not, ite_self, w8_nil, ok01, ite10, rf_rv, rf_ref, rf_cat, rf_lk2, rf_some, rf_none, w_add, w_cons, cr_int, cr_long, cr_ref, cr_null, is_ref, is_null, l2_int, l2_ref, l2_null, l2_none, ent_nil, ent_int, ent_ref, ent_null, ent_rf, ent_long, ok_0, ok_1, af_ret, af_void, List.tail_cons, List.tail_nil, Nat.reduceAdd, Nat.reduceLeDiff, not_false_eq_true, not_true_eq_false, and_self, and_true, true_and, ne_eq, or_true, true_or, or_false, false_or, eq_self, Nat.reduceEqDiff, ↓reduceIte, false_and, and_false, Nat.le_refl, Nat.zero_le, nz_1, nz_2, nz_3, nz_4, nz_5, nz_6, nz_8, nz_10, nz_12, nz_20, nz_30, nz_60, nz_100, mc_B, mc_Z, mc_S, mc_C, mc_K, mc_N, mc_R, mc_I, mc_L, va_Is, va_Ls, va_us, va_iss, u2_ap, sp_isLedge, sp_isLadder, sp_isPerson, sp_isLiving, sp_isLot, sp_isThere, sp_isSpan, cs_K q, cs_B q, mc_s (cs_inj q), cs_f19 q, cs_f18 q, cs_f17 q, cs_f16 q, r27_0, r27_1, r27_4, r27_5, r27_6, r27_8, r27_9, r27_12, r27_13, r27_14, r27_16, r27_17, r27_18, r27_19, r27_22, r27_23, r27_24, r27_27, r27_28, r27_29, r27_32, r27_33, r27_34, r27_36, r27_37, r27_38, r27_39, r27_42, r27_43, r27_45, r27_46, r27_47, r27_50, r27_51, r27_52, r27_55, r27_56, r27_57, r27_60, r27_61, r27_62, r27_65, r27_66, r27_67, r27_70, r27_72, r27_73, r27_76, r27_77, r27_78, r27_81, r27_83, r27_84, r27_86, r27_87, r27_88, r27_90, r27_91, r27_94, r27_96, r27_97, r27_100, r27_101, ent_nil, o0, o1, ir, er, c10, z0, z1, z2, z3, z4, z5, z6, z7, y0, y1, y2, y3, y4, y5, y6, y7, n1, n3, n4, jd, jh]
  rw [e]
  show xm_run _ _ _ _ _ (xp_c h D (sq_ask b F l x w r n L)) = _
  rw [r27_103]
  simp only [ite_not, ite_self, w8_nil, ok01, ite10, rf_rv, rf_ref, rf_cat, rf_lk2, rf_some, rf_none, w_add, w_cons, cr_int, cr_long, cr_ref, cr_null, is_ref, is_null, l2_int, l2_ref, l2_null, l2_none, ent_nil, ent_int, ent_ref, ent_null, ent_rf, ent_long, ok_0, ok_1, af_ret, af_void, List.tail_cons, List.tail_nil, Nat.reduceAdd, Nat.reduceLeDiff, not_false_eq_true, not_true_eq_false, and_self, and_true, true_and, ne_eq, or_true, true_or, or_false, false_or, eq_self, Nat.reduceEqDiff, ↓reduceIte, false_and, and_false, Nat.le_refl, Nat.zero_le, nz_1, nz_2, nz_3, nz_4, nz_5, nz_6, nz_8, nz_10, nz_12, nz_20, nz_30, nz_60, nz_100, mc_B, mc_Z, mc_S, mc_C, mc_K, mc_N, mc_R, mc_I, mc_L, va_Is, va_Ls, va_us, va_iss, u2_ap, sp_isLedge, sp_isLadder, sp_isPerson, sp_isLiving, sp_isLot, sp_isThere, sp_isSpan, cs_K q, cs_B q, mc_s (cs_inj q), cs_f19 q, cs_f18 q, cs_f17 q, cs_f16 q, r27_105, r27_106, r27_109, r27_110, r27_111, r27_138, r27_140, g1, cz, ir, er]
end C10
