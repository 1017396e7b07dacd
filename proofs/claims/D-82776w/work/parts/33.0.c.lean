/-! texts: all lines; the model reads one -/
set_option maxRecDepth 100000
/-- a line, m of them read -/
def p1 (c : Nat → Int32) (T m q : Nat) : (Int32 × Nat) ⊕ (Ln × Nat) := if 3 ≤ lK c T q ∧ lK c T q ≤ 7 then (if m = 20 then .inl (3, lS c T q) else pw (pl c T (lK c T q) (lE c T q)) fun x => if lK c T x.2 = 59 then .inr (x.1, lE c T x.2) else .inl (1, lS c T x.2)) else .inl (1, lS c T q)
/-- all lines, m of them read -/
def pls (c : Nat → Int32) (T : Nat) : Nat → Nat → (Nat → Ln) → Nat → (Int32 × Nat) ⊕ (Nat × (Nat → Ln))
  | 0, _, _, _ => .inl (0, 0)
  | n + 1, m, L, q => if lK c T q = 0 then .inr (m, L) else pw (p1 c T m q) fun x => pls c T n (m + 1) (fun j => if j = m then x.1 else L j) x.2
section MLA
variable {d : Nat} {h : xm_H} {M : Nat} {F F0 : xp_F} {c : Nat → Int32} {T : Nat}
theorem c120 (q : MS h M) (tp : TP F0 c T) {i j s : Nat} {k : Int32} (hk : 3 ≤ k ∧ k ≤ 7) (hi : i ≤ T) (hs : s ≤ i) (a : PS F0 c T i 0 s F) (hj : F 0 34 = Int32.ofNat j) (j20 : j < 20) : iO h M F0 c T j k s i F (xm_met (d + 106) 120 [.ref M, .int k] (xp_m h M F)) (pl c T k i) := by
  by_cases k3 : k = 3
  · rw [k3]
    exact c120_3 q tp hi hs a hj j20
  by_cases k4 : k = 4
  · rw [k4]
    exact c120_4 q tp hi hs a
  by_cases k5 : k = 5
  · rw [k5]
    exact c120_5 q tp hi hs a hj j20
  refine c120_6 q tp ?_ hi hs a hj j20
  have h1 := Int32.le_iff_toInt_le.mp hk.1
  have h2 := Int32.le_iff_toInt_le.mp hk.2
  rw [show (3 : Int32).toInt = 3 from rfl] at h1
  rw [show (7 : Int32).toInt = 7 from rfl] at h2
  have n3 : ¬ k.toInt = 3 := fun z => k3 (i_eq z)
  have n4 : ¬ k.toInt = 4 := fun z => k4 (i_eq z)
  have n5 : ¬ k.toInt = 5 := fun z => k5 (i_eq z)
  by_cases k6 : k.toInt = 6
  · exact Or.inl (i_eq k6)
  · exact Or.inr (i_eq (show k.toInt = 7 by omega))
/-- line j as laid, its steps from b to e -/
def FL (G : xp_F) (j : Nat) (L : Ln) (b e : Nat) : Prop := G 22 j = L.1 ∧ G 23 j = Int32.ofNat b ∧ b ≤ e ∧ FB G j L.1 L b e
theorem FB.mono {F G : xp_F} {j : Nat} {k : Int32} {L : Ln} {b e s : Nat} (a : FB F j k L b e) (f : ∀ o, 24 ≤ o ∧ o ≤ 26 → G o j = F o j) (kp : kp2 s F G) (l : e ≤ s) : FB G j k L b e := by
  obtain ⟨a1, a3, a4, a5, a6⟩ := a
  have kp' : kp2 e F G := fun x hx => kp x (by omega)
  refine ⟨a1, fun z => ?_, fun z => ?_, fun z => ?_, fun z => ?_⟩
  · obtain ⟨w, b1, b2, b3, b4, b5⟩ := a3 z
    cases e2 : L.2.2 with
    | none =>
      rw [e2] at b5
      have b5 : w = e := b5
      exact ⟨w, (f _ (by omega)).trans b1, b2, b3, sg_kp b3 b4 (by rw [b5]; exact kp'), b5⟩
    | some t =>
      rw [e2] at b5
      have b5 : wf true t ∧ sg (cf F) t w e := b5
      have lw := sg_lt b5.1 b5.2
      exact ⟨w, (f _ (by omega)).trans b1, b2, b3, sg_kp b3 b4 (fun x hx => kp' x (by omega)), b5.1, sg_kp b5.1 b5.2 kp'⟩
  · obtain ⟨t, b1, b2, b3⟩ := a4 z
    exact ⟨t, b1, b2, sg_kp b2 b3 kp'⟩
  · obtain ⟨w, v, b1, b2, b3, b4, b5⟩ := a5 z
    exact ⟨w, v, b1, b2, b3, (f _ (by omega)).trans b4, (f _ (by omega)).trans b5⟩
  · obtain ⟨v, b1, b2, b3⟩ := a6 z
    exact ⟨v, b1, b2, (f _ (by omega)).trans b3⟩
theorem FL.mono {F G : xp_F} {j : Nat} {L : Ln} {b e s : Nat} (a : FL F j L b e) (f : ∀ o, 22 ≤ o ∧ o ≤ 26 → G o j = F o j) (kp : kp2 s F G) (l : e ≤ s) : FL G j L b e := ⟨(f _ (by omega)).trans a.1, (f _ (by omega)).trans a.2.1, a.2.2.1, a.2.2.2.mono (fun o ho => f o (by omega)) kp l⟩
/-- what reading a line comes to -/
def aO (h : xm_H) (M : Nat) (F0 : xp_F) (c : Nat → Int32) (T m s i : Nat) (F : xp_F) (v : xm_V) (r : (Int32 × Nat) ⊕ (Ln × Nat)) : Prop := match r with
  | .inl x => ∃ G, v = some (.inl (some (.int 0)), xp_m h M G) ∧ PE F0 x.1 x.2 G
  | .inr x => ∃ G F1 s', v = some (.inl (some (.int 1)), xp_m h M G) ∧ PS F1 c T x.2 0 s' G ∧ kp2 s F G ∧ FL G m x.1 s s' ∧ G 0 34 = Int32.ofNat (m + 1) ∧ (∀ o k, 22 ≤ o ∧ o ≤ 26 → ¬ k = m → G o k = F o k) ∧ TP F1 c T ∧ fq F0 F1 ∧ F1 0 41 = F0 0 41 ∧ s ≤ s' ∧ s' ≤ x.2 ∧ i < x.2 ∧ x.2 ≤ T
theorem c118 (q : MS h M) (tp : TP F0 c T) {i dp m s : Nat} (hi : i ≤ T) (hs : s ≤ i) (a : PS F0 c T i dp s F) (hm : F 0 34 = Int32.ofNat m) (m20 : m ≤ 20) : aO h M F0 c T m s i F (xm_met (d + 107) 118 [.ref M] (xp_m h M F)) (p1 c T m i) := by
  have t600 := tp.1.1
  have tk : F 0 38 = lK c T i := a.1.2.1
  unfold p1
  by_cases c1 : 3 ≤ lK c T i ∧ lK c T i ≤ 7
  · rw [if_pos c1]
    by_cases c20 : m = 20
    · rw [if_pos c20]
      obtain ⟨G, m1, pf⟩ := a.bad (d := d + 106) q (k := 3)
      refine ⟨G, ?_, pf.e fq.rf⟩
      have hm2 : F 0 34 = 20 := by rw [hm, c20]; rfl
      unfold xm_met
      simp only [ite_not, ite_self, w8_nil, ok01, ite10, rf_rv, rf_ref, rf_cat, rf_lk2, rf_some, rf_none, w_add, w_cons, cr_int, cr_long, cr_ref, cr_null, is_ref, is_null, l2_int, l2_ref, l2_null, l2_none, ent_nil, ent_int, ent_ref, ent_null, ent_rf, ent_long, ok_0, ok_1, af_ret, af_void, List.tail_cons, List.tail_nil, Nat.reduceAdd, Nat.reduceLeDiff, not_false_eq_true, not_true_eq_false, and_self, and_true, true_and, ne_eq, or_true, true_or, or_false, false_or, eq_self, Nat.reduceEqDiff, ↓reduceIte, false_and, and_false, Nat.le_refl, Nat.zero_le, nz_1, nz_2, nz_3, nz_4, nz_5, nz_6, nz_8, nz_10, nz_12, nz_20, nz_30, nz_60, nz_100, mp_B, mp_Z, mp_S, mp_C, mp_K, mp_N, mp_L, mp_R, mp_I, mp_I0, mp_s, mp_s0, u2_ap, sp_isLedge, sp_isLadder, sp_isPerson, sp_isLiving, sp_isLot, sp_isThere, sp_isSpan, ms_K q, ms_B q, ms_f26 q, ms_f27 q, ms_f28 q, r118_0, r118_1, r118_4, r118_5, r118_7, r118_13, r118_14, r118_15, r118_18, r118_19, r118_20, r118_23, r118_28, r118_29, r118_30, r118_33, r118_34, r118_35, r118_38, r118_39, r118_42, r118_43, r118_46, r118_47, r118_48, r118_51, r118_52, r118_55, r118_56, r118_59, r118_60, r118_61, r118_64, r118_65, r118_68, r118_69, r118_72, r118_73, r118_74, r118_75, r118_78, r118_79, r118_82, r118_83, r118_84, r118_87, r118_88, r118_91, r118_92, r118_98, r118_99, r118_100, r118_101, r118_102, r118_105, r118_106, r118_107, r118_110, r118_111, r118_113, r118_116, r118_10, r118_25, r118_95, c91, tk, c1.1, c1.2, hm2, m1]
    · rw [if_neg c20]
      have hm2 : ¬ Int32.ofNat m = 20 := fun z => by
        have := congrArg Int32.toInt z
        rw [ti_nat (by omega), show (20 : Int32).toInt = 20 from rfl] at this
        omega
      have im := in_nat (show m < 20 by omega) (by decide)
      have im2 := in_nat (show m < 21 by omega) (by decide)
      have l1 := lE_lt tp.1 hi (fun z => by rw [z] at c1; exact absurd c1 (by decide))
      have fs : F 0 35 = Int32.ofNat s := a.2.2.1
      have a1 := (((a.set (o := 22) (k := m) (v := lK c T i) (by omega)).set (o := 23) (k := m) (v := Int32.ofNat s) (by omega)).set (o := 24) (k := m) (v := Int32.ofNat s) (by omega))
      have tp1 := (((tp.set (o := 22) (k := m) (v := lK c T i) (by omega)).set (o := 23) (k := m) (v := Int32.ofNat s) (by omega)).set (o := 24) (k := m) (v := Int32.ofNat s) (by omega))
      have f01 : fq F0 (xm_u2 (xm_u2 (xm_u2 F0 22 m (lK c T i)) 23 m (Int32.ofNat s)) 24 m (Int32.ofNat s)) := ((fq.rf.u (by omega)).u (by omega)).u (by omega)
      have w01 : xm_u2 (xm_u2 (xm_u2 F0 22 m (lK c T i)) 23 m (Int32.ofNat s)) 24 m (Int32.ofNat s) 0 41 = F0 0 41 := by rw [u2_ap, if_neg (by omega), u2_ap, if_neg (by omega), u2_ap, if_neg (by omega)]
      have g22 : xm_u2 (xm_u2 (xm_u2 F0 22 m (lK c T i)) 23 m (Int32.ofNat s)) 24 m (Int32.ofNat s) 22 m = lK c T i := by rw [u2_ap, if_neg (by omega), u2_ap, if_neg (by omega), u2_ap, if_pos ⟨rfl, rfl⟩]
      have g23 : xm_u2 (xm_u2 (xm_u2 F0 22 m (lK c T i)) 23 m (Int32.ofNat s)) 24 m (Int32.ofNat s) 23 m = Int32.ofNat s := by rw [u2_ap, if_neg (by omega), u2_ap, if_pos ⟨rfl, rfl⟩]
      have gfr : ∀ o k, 22 ≤ o ∧ o ≤ 26 → ¬ k = m → xm_u2 (xm_u2 (xm_u2 F0 22 m (lK c T i)) 23 m (Int32.ofNat s)) 24 m (Int32.ofNat s) o k = F o k := fun o k ho hk => by
        rw [u2_ap, if_neg (by omega), u2_ap, if_neg (by omega), u2_ap, if_neg (by omega)]
        exact (a.2.2.2 o k (by omega) (by omega)).symm
      have g34 : xm_u2 (xm_u2 (xm_u2 F0 22 m (lK c T i)) 23 m (Int32.ofNat s)) 24 m (Int32.ofNat s) 0 34 = Int32.ofNat m := by
        rw [u2_ap, if_neg (by omega), u2_ap, if_neg (by omega), u2_ap, if_neg (by omega)]
        exact (a.2.2.2 _ _ (by omega) (by omega)).symm.trans hm
      obtain ⟨G1, m1, a2, -, fr1⟩ := a1.d0.next (d := d + 104) q tp1 hi
      generalize xm_u2 (xm_u2 (xm_u2 F0 22 m (lK c T i)) 23 m (Int32.ofNat s)) 24 m (Int32.ofNat s) = F2 at *
      have h22 : G1 22 m = lK c T i := (a2.2.2.2 _ _ (by omega) (by omega)).trans g22
      have h34 : G1 0 34 = Int32.ofNat m := (a2.2.2.2 _ _ (by omega) (by omega)).trans g34
      have r := c120 (d := d) q tp1 c1 l1.2 (by omega) a2 h34 (by omega)
      have k1 : kp2 s F G1 := fun x _ => (fr1 x).trans (by rw [u2_ap, if_neg (by omega), u2_ap, if_neg (by omega), u2_ap, if_neg (by omega), u2_ap, if_neg (by omega)])
      generalize pl c T (lK c T i) (lE c T i) = r0 at r ⊢
      cases r0 with
      | inl x =>
        obtain ⟨G, m2, pe⟩ := r
        refine ⟨G, ?_, pe.1, pe.2.1, f01.tr pe.2.2⟩
        unfold xm_met
        simp only [ite_not, ite_self, w8_nil, ok01, ite10, rf_rv, rf_ref, rf_cat, rf_lk2, rf_some, rf_none, w_add, w_cons, cr_int, cr_long, cr_ref, cr_null, is_ref, is_null, l2_int, l2_ref, l2_null, l2_none, ent_nil, ent_int, ent_ref, ent_null, ent_rf, ent_long, ok_0, ok_1, af_ret, af_void, List.tail_cons, List.tail_nil, Nat.reduceAdd, Nat.reduceLeDiff, not_false_eq_true, not_true_eq_false, and_self, and_true, true_and, ne_eq, or_true, true_or, or_false, false_or, eq_self, Nat.reduceEqDiff, ↓reduceIte, false_and, and_false, Nat.le_refl, Nat.zero_le, nz_1, nz_2, nz_3, nz_4, nz_5, nz_6, nz_8, nz_10, nz_12, nz_20, nz_30, nz_60, nz_100, mp_B, mp_Z, mp_S, mp_C, mp_K, mp_N, mp_L, mp_R, mp_I, mp_I0, mp_s, mp_s0, u2_ap, sp_isLedge, sp_isLadder, sp_isPerson, sp_isLiving, sp_isLot, sp_isThere, sp_isSpan, ms_K q, ms_B q, ms_f26 q, ms_f27 q, ms_f28 q, r118_0, r118_1, r118_4, r118_5, r118_7, r118_13, r118_14, r118_15, r118_18, r118_19, r118_20, r118_23, r118_28, r118_29, r118_30, r118_33, r118_34, r118_35, r118_38, r118_39, r118_42, r118_43, r118_46, r118_47, r118_48, r118_51, r118_52, r118_55, r118_56, r118_59, r118_60, r118_61, r118_64, r118_65, r118_68, r118_69, r118_72, r118_73, r118_74, r118_75, r118_78, r118_79, r118_82, r118_83, r118_84, r118_87, r118_88, r118_91, r118_92, r118_98, r118_99, r118_100, r118_101, r118_102, r118_105, r118_106, r118_107, r118_110, r118_111, r118_113, r118_116, r118_10, r118_25, r118_95, c91, tk, c1.1, c1.2, hm, hm2, fs, im, im2, m1, h22, h34, m2]
      | inr x =>
        obtain ⟨L, q1⟩ := x
        obtain ⟨G, F3, s', m2, a3, k2, fb, f6a, l2, l3, l4, l5⟩ := r
        have l3 : lE c T i ≤ q1 := l3
        have l4 : q1 ≤ T := l4
        have l5 : s' + lE c T i ≤ s + q1 := l5
        have a4 := a3.set (o := 0) (k := 34) (v := Int32.ofNat (m + 1)) (by omega)
        have g3 : G 0 34 = Int32.ofNat m := (a3.2.2.2 _ _ (by omega) (by omega)).trans ((f6a _ _ (by omega)).trans g34)
        have tp3 : TP F3 c T := ⟨tp1.1, (f6a _ _ (by omega)).trans tp1.2.1, fun x hx => (f6a _ _ (by omega)).trans (tp1.2.2 x hx)⟩
        have tp4 := tp3.set (o := 0) (k := 34) (v := Int32.ofNat (m + 1)) (by omega)
        have nd := c125 (d := d + 103) q tp4 l4 a4 (k := 59)
        have f04 : fq F0 (xm_u2 F3 0 34 (Int32.ofNat (m + 1))) := (f01.tr f6a.fq).u (by omega)
        show aO h M F0 c T m s i F _ (if lK c T q1 = 59 then .inr (L, lE c T q1) else .inl (1, lS c T q1))
        by_cases c5 : lK c T q1 = 59
        · rw [if_pos c5]
          obtain ⟨H, m3, a5, fr5⟩ := nd.1 c5
          have l6 := lE_lt tp.1 l4 (by rw [c5]; decide)
          have kH : kp2 s' G H := fun x _ => (fr5 x).trans (u27 (by omega))
          have hG : ∀ o, 22 ≤ o ∧ o ≤ 26 → ∀ k, H o k = G o k := fun o ho k => by
            rw [a5.2.2.2 _ _ (by omega) (by omega), u2_ap, if_neg (by omega)]
            exact (a3.2.2.2 _ _ (by omega) (by omega)).symm
          have gF : ∀ o k, 22 ≤ o ∧ o ≤ 26 → ¬ k = m → G o k = F o k := fun o k ho hk => (a3.2.2.2 _ _ (by omega) (by omega)).trans ((f6a _ _ (by omega)).trans (gfr o k ho hk))
          have s22 : G 22 m = lK c T i := (a3.2.2.2 _ _ (by omega) (by omega)).trans ((f6a _ _ (by omega)).trans g22)
          have s23 : G 23 m = Int32.ofNat s := (a3.2.2.2 _ _ (by omega) (by omega)).trans ((f6a _ _ (by omega)).trans g23)
          have flG : FL G m L s s' := by
            have e1 : L.1 = lK c T i := fb.1
            refine ⟨s22.trans e1.symm, s23, l2, ?_⟩
            rw [e1]
            exact fb
          refine ⟨H, _, s', ?_, a5, (k1.tr k2 (Nat.le_refl _)).tr kH l2, flG.mono (fun o ho => hG o ho m) kH (Nat.le_refl _), ?_, fun o k ho hk => (hG o ho k).trans (gF o k ho hk), tp4, f04, ?_, l2, by show s' ≤ lE c T q1; omega, by show i < lE c T q1; omega, l6.2⟩
          · unfold xm_met
            simp only [ite_not, ite_self, w8_nil, ok01, ite10, rf_rv, rf_ref, rf_cat, rf_lk2, rf_some, rf_none, w_add, w_cons, cr_int, cr_long, cr_ref, cr_null, is_ref, is_null, l2_int, l2_ref, l2_null, l2_none, ent_nil, ent_int, ent_ref, ent_null, ent_rf, ent_long, ok_0, ok_1, af_ret, af_void, List.tail_cons, List.tail_nil, Nat.reduceAdd, Nat.reduceLeDiff, not_false_eq_true, not_true_eq_false, and_self, and_true, true_and, ne_eq, or_true, true_or, or_false, false_or, eq_self, Nat.reduceEqDiff, ↓reduceIte, false_and, and_false, Nat.le_refl, Nat.zero_le, nz_1, nz_2, nz_3, nz_4, nz_5, nz_6, nz_8, nz_10, nz_12, nz_20, nz_30, nz_60, nz_100, mp_B, mp_Z, mp_S, mp_C, mp_K, mp_N, mp_L, mp_R, mp_I, mp_I0, mp_s, mp_s0, u2_ap, sp_isLedge, sp_isLadder, sp_isPerson, sp_isLiving, sp_isLot, sp_isThere, sp_isSpan, ms_K q, ms_B q, ms_f26 q, ms_f27 q, ms_f28 q, r118_0, r118_1, r118_4, r118_5, r118_7, r118_13, r118_14, r118_15, r118_18, r118_19, r118_20, r118_23, r118_28, r118_29, r118_30, r118_33, r118_34, r118_35, r118_38, r118_39, r118_42, r118_43, r118_46, r118_47, r118_48, r118_51, r118_52, r118_55, r118_56, r118_59, r118_60, r118_61, r118_64, r118_65, r118_68, r118_69, r118_72, r118_73, r118_74, r118_75, r118_78, r118_79, r118_82, r118_83, r118_84, r118_87, r118_88, r118_91, r118_92, r118_98, r118_99, r118_100, r118_101, r118_102, r118_105, r118_106, r118_107, r118_110, r118_111, r118_113, r118_116, r118_10, r118_25, r118_95, c91, tk, c1.1, c1.2, hm, hm2, fs, im, im2, m1, h22, h34, m2, g3, nat_succ, m3]
          · rw [a5.2.2.2 _ _ (by omega) (by omega), u2_ap, if_pos ⟨rfl, rfl⟩]
          · rw [u2_ap, if_neg (by omega)]
            exact (f6a _ _ (by omega)).trans w01
        · rw [if_neg c5]
          obtain ⟨H, m3, pf⟩ := nd.2 c5
          refine ⟨H, ?_, pf.e f04⟩
          unfold xm_met
          simp only [ite_not, ite_self, w8_nil, ok01, ite10, rf_rv, rf_ref, rf_cat, rf_lk2, rf_some, rf_none, w_add, w_cons, cr_int, cr_long, cr_ref, cr_null, is_ref, is_null, l2_int, l2_ref, l2_null, l2_none, ent_nil, ent_int, ent_ref, ent_null, ent_rf, ent_long, ok_0, ok_1, af_ret, af_void, List.tail_cons, List.tail_nil, Nat.reduceAdd, Nat.reduceLeDiff, not_false_eq_true, not_true_eq_false, and_self, and_true, true_and, ne_eq, or_true, true_or, or_false, false_or, eq_self, Nat.reduceEqDiff, ↓reduceIte, false_and, and_false, Nat.le_refl, Nat.zero_le, nz_1, nz_2, nz_3, nz_4, nz_5, nz_6, nz_8, nz_10, nz_12, nz_20, nz_30, nz_60, nz_100, mp_B, mp_Z, mp_S, mp_C, mp_K, mp_N, mp_L, mp_R, mp_I, mp_I0, mp_s, mp_s0, u2_ap, sp_isLedge, sp_isLadder, sp_isPerson, sp_isLiving, sp_isLot, sp_isThere, sp_isSpan, ms_K q, ms_B q, ms_f26 q, ms_f27 q, ms_f28 q, r118_0, r118_1, r118_4, r118_5, r118_7, r118_13, r118_14, r118_15, r118_18, r118_19, r118_20, r118_23, r118_28, r118_29, r118_30, r118_33, r118_34, r118_35, r118_38, r118_39, r118_42, r118_43, r118_46, r118_47, r118_48, r118_51, r118_52, r118_55, r118_56, r118_59, r118_60, r118_61, r118_64, r118_65, r118_68, r118_69, r118_72, r118_73, r118_74, r118_75, r118_78, r118_79, r118_82, r118_83, r118_84, r118_87, r118_88, r118_91, r118_92, r118_98, r118_99, r118_100, r118_101, r118_102, r118_105, r118_106, r118_107, r118_110, r118_111, r118_113, r118_116, r118_10, r118_25, r118_95, c91, tk, c1.1, c1.2, hm, hm2, fs, im, im2, m1, h22, h34, m2, g3, nat_succ, m3]
  · rw [if_neg c1]
    obtain ⟨G, m1, pf⟩ := a.bad (d := d + 106) q (k := 1)
    refine ⟨G, ?_, pf.e fq.rf⟩
    unfold xm_met
    simp only [ite_not, ite_self, w8_nil, ok01, ite10, rf_rv, rf_ref, rf_cat, rf_lk2, rf_some, rf_none, w_add, w_cons, cr_int, cr_long, cr_ref, cr_null, is_ref, is_null, l2_int, l2_ref, l2_null, l2_none, ent_nil, ent_int, ent_ref, ent_null, ent_rf, ent_long, ok_0, ok_1, af_ret, af_void, List.tail_cons, List.tail_nil, Nat.reduceAdd, Nat.reduceLeDiff, not_false_eq_true, not_true_eq_false, and_self, and_true, true_and, ne_eq, or_true, true_or, or_false, false_or, eq_self, Nat.reduceEqDiff, ↓reduceIte, false_and, and_false, Nat.le_refl, Nat.zero_le, nz_1, nz_2, nz_3, nz_4, nz_5, nz_6, nz_8, nz_10, nz_12, nz_20, nz_30, nz_60, nz_100, mp_B, mp_Z, mp_S, mp_C, mp_K, mp_N, mp_L, mp_R, mp_I, mp_I0, mp_s, mp_s0, u2_ap, sp_isLedge, sp_isLadder, sp_isPerson, sp_isLiving, sp_isLot, sp_isThere, sp_isSpan, ms_K q, ms_B q, ms_f26 q, ms_f27 q, ms_f28 q, r118_0, r118_1, r118_4, r118_5, r118_7, r118_13, r118_14, r118_15, r118_18, r118_19, r118_20, r118_23, r118_28, r118_29, r118_30, r118_33, r118_34, r118_35, r118_38, r118_39, r118_42, r118_43, r118_46, r118_47, r118_48, r118_51, r118_52, r118_55, r118_56, r118_59, r118_60, r118_61, r118_64, r118_65, r118_68, r118_69, r118_72, r118_73, r118_74, r118_75, r118_78, r118_79, r118_82, r118_83, r118_84, r118_87, r118_88, r118_91, r118_92, r118_98, r118_99, r118_100, r118_101, r118_102, r118_105, r118_106, r118_107, r118_110, r118_111, r118_113, r118_116, r118_10, r118_25, r118_95, c91, tk, c1, m1]
end MLA
