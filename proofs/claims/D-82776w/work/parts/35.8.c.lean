/-! the component's rules -/
set_option maxRecDepth 100000
section RUL
variable {d : Nat} {h h' h2 : xm_H} {D D' D2 : xp_D} {F G : xp_F} {c : Nat → Int32} {T : Nat} {z s : Nat}
theorem tel_86 {R : Nat} {L : Nat → Ln} {G0 : xp_F} {o k : Nat} (ho : ¬ (15 ≤ o ∧ o ≤ 17)) : ∀ m, xp_up (fun j G => tel1 R (L j) G) G0 m o k = G0 o k
  | 0 => rfl
  | m + 1 => by
    show tel1 R (L m) (xp_up (fun j G => tel1 R (L j) G) G0 m) o k = _
    rw [tel1_ap ho]
    exact tel_86 ho m
theorem c18l (q : CS h D) {R : Nat} (hR : R < 2) {row m : Nat} {L : Nat → Ln} (rw : RW h D row m L) (m20 : m ≤ 20) {G0 : xp_F} (told : G0 86 5 = Int32.ofNat m) {r : Int32} (er : r.toNatClampNeg = R) (ir : xm_in r 2 = true) : ∀ n k, k + n = m → xm_run (d + 113) 18 64 [some (.ref (xd_X D)), some (.int r), some (.int (Int32.ofNat k))] [] (xp_c h D (xp_up (fun j G => tel1 R (L j) G) G0 k)) = xm_run (d + 113) 18 99 [some (.ref (xd_X D)), some (.int r), some (.int (Int32.ofNat m))] [] (xp_c h D (xp_up (fun j G => tel1 R (L j) G) G0 m))
  | 0, k, e => by
    have e : k = m := by omega
    subst e
    have t := (tel_86 (R := R) (L := L) (G0 := G0) (o := 86) (k := 5) (by omega) k).trans told
    have le : Int32.ofNat k ≤ Int32.ofNat k := Int32.le_refl _
    rw [r18_64]
    simp only [ite_not, ite_self, w8_nil, ok01, ite10, rf_rv, rf_ref, rf_cat, rf_lk2, rf_some, rf_none, w_add, w_cons, cr_int, cr_long, cr_ref, cr_null, is_ref, is_null, l2_int, l2_ref, l2_null, l2_none, ent_nil, ent_int, ent_ref, ent_null, ent_rf, ent_long, ok_0, ok_1, af_ret, af_void, List.tail_cons, List.tail_nil, Nat.reduceAdd, Nat.reduceLeDiff, not_false_eq_true, not_true_eq_false, and_self, and_true, true_and, ne_eq, or_true, true_or, or_false, false_or, eq_self, Nat.reduceEqDiff, ↓reduceIte, false_and, and_false, Nat.le_refl, Nat.zero_le, nz_1, nz_2, nz_3, nz_4, nz_5, nz_6, nz_8, nz_10, nz_12, nz_20, nz_30, nz_60, nz_100, mc_B, mc_Z, mc_S, mc_C, mc_K, mc_N, mc_R, mc_I, mc_L, va_Is, va_Ls, va_us, va_iss, u2_ap, sp_isLedge, sp_isLadder, sp_isPerson, sp_isLiving, sp_isLot, sp_isThere, sp_isSpan, cs_f15 q, cs_rd q, cs_K q, r18_65, r18_66, r18_69, r18_75, r18_76, r18_79, r18_82, r18_83, r18_84, r18_85, r18_88, r18_89, r18_90k12, r18_90k14, r18_90k15, r18_90k16, r18_90k17, r18_93, r18_96, r18_72, t, le]
  | n + 1, k, e => by
    have t := (tel_86 (R := R) (L := L) (G0 := G0) (o := 86) (k := 5) (by omega) k).trans told
    have le := lt_nat (show k < m by omega) (by omega)
    obtain ⟨r1, r2, r3, r4, r5⟩ := rw
    obtain ⟨b, b1, b2⟩ := r5 k (by omega)
    have k110 : 110 ≤ 113 := by decide
    have k114 : 110 ≤ 114 := by decide
    obtain ⟨i1, i2⟩ := in_nat (show k < 20 by omega) (by decide)
    have ih := c18l q hR ⟨r1, r2, r3, r4, r5⟩ m20 told er ir n (k + 1) (by omega)
    have ih : xm_run (d + 113) 18 64 [some (.ref (xd_X D)), some (.int r), some (.int (Int32.ofNat (k + 1)))] [] (xp_c h D (tel1 R (L k) (xp_up (fun j G => tel1 R (L j) G) G0 k))) = _ := ih
    obtain ⟨mi, hmi, m1⟩ := c_tell (d := d + 112) q hR b2 (G := xp_up (fun j G => tel1 R (L j) G) G0 k)
    rw [← ih, r18_64]
    rcases hmi with ⟨kb, e1⟩ | ⟨kb, e1⟩ | ⟨kb, e1⟩ | ⟨kb, e1⟩ | ⟨kb, e1⟩
    all_goals
      subst e1
      simp only [ite_not, ite_self, w8_nil, ok01, ite10, rf_rv, rf_ref, rf_cat, rf_lk2, rf_some, rf_none, w_add, w_cons, cr_int, cr_long, cr_ref, cr_null, is_ref, is_null, l2_int, l2_ref, l2_null, l2_none, ent_nil, ent_int, ent_ref, ent_null, ent_rf, ent_long, ok_0, ok_1, af_ret, af_void, List.tail_cons, List.tail_nil, Nat.reduceAdd, Nat.reduceLeDiff, not_false_eq_true, not_true_eq_false, and_self, and_true, true_and, ne_eq, or_true, true_or, or_false, false_or, eq_self, Nat.reduceEqDiff, ↓reduceIte, false_and, and_false, Nat.le_refl, Nat.zero_le, nz_1, nz_2, nz_3, nz_4, nz_5, nz_6, nz_8, nz_10, nz_12, nz_20, nz_30, nz_60, nz_100, mc_B, mc_Z, mc_S, mc_C, mc_K, mc_N, mc_R, mc_I, mc_L, va_Is, va_Ls, va_us, va_iss, u2_ap, sp_isLedge, sp_isLadder, sp_isPerson, sp_isLiving, sp_isLot, sp_isThere, sp_isSpan, cs_f15 q, cs_rd q, cs_K q, cs_f19 q, cs_U q hR, r18_65, r18_66, r18_69, r18_75, r18_76, r18_79, r18_82, r18_83, r18_84, r18_85, r18_88, r18_89, r18_90k12, r18_90k14, r18_90k15, r18_90k16, r18_90k17, r18_93, r18_96, r18_72, t, le, r1, r2, r3, r4, b1, k110, k114, i1, i2, er, ir, kb, m1, nat_succ]
theorem thr_18 (q : CS h D) {ls : List (Option Value)} : xm_thr (xm_run d 18) 18 20 ls (xp_c h D G) (xd_A D 0 13) = xm_run d 18 124 ls [.ref (xd_A D 0 13)] (xp_c h D G) := by
  obtain ⟨a1, a2, a3⟩ := cs_f13 q
  exact th_in (by rw [mc_K]; exact a2) (by rw [mc_B]; exact a3) (by decide)
/-- refused -/
def rucX (F : xp_F) (k : Int32) (p : Nat) (G : xp_F) : Prop := G 0 36 = 0 ∧ G 0 43 = k ∧ G 0 45 = Int32.ofNat p ∧ ∀ o j, ¬ o = 86 → ¬ o = 87 → ¬ (o = 0 ∧ (j = 36 ∨ j = 43 ∨ j = 45)) → G o j = F o j
/-- taken -/
def rucY (F : xp_F) (R m : Nat) (L : Nat → Ln) (G : xp_F) : Prop := G 14 R = Int32.ofNat m ∧ (∀ o k, 15 ≤ o ∧ o ≤ 17 → G o k = sp_tel R L F m o k) ∧ G 0 36 = 0 ∧ G 0 43 = 0 ∧ G 0 45 = -1 ∧ ∀ o j, ¬ o = 86 → ¬ o = 87 → ¬ (o = 0 ∧ (j = 36 ∨ j = 43 ∨ j = 45)) → ¬ (15 ≤ o ∧ o ≤ 17) → ¬ ((o = 14 ∨ o = 101 ∨ o = 102) ∧ j = R) → G o j = F o j
theorem c18n (q : CS h D) {r : Int32} (hr : ¬ (0 ≤ r ∧ r ≤ 1)) : xm_met (d + 1) 18 [.ref (xd_X D), .int r] (xp_c h D F) = some (.inl (some (.int (-1))), xp_c h D (xm_u2 F 0 36 0)) := by
  have m1 := c19 (d := d) (h := xp_c h D F) (r := r)
  rw [if_neg hr] at m1
  unfold xm_met
  simp only [ite_not, ite_self, w8_nil, ok01, ite10, rf_rv, rf_ref, rf_cat, rf_lk2, rf_some, rf_none, w_add, w_cons, cr_int, cr_long, cr_ref, cr_null, is_ref, is_null, l2_int, l2_ref, l2_null, l2_none, ent_nil, ent_int, ent_ref, ent_null, ent_rf, ent_long, ok_0, ok_1, af_ret, af_void, List.tail_cons, List.tail_nil, Nat.reduceAdd, Nat.reduceLeDiff, not_false_eq_true, not_true_eq_false, and_self, and_true, true_and, ne_eq, or_true, true_or, or_false, false_or, eq_self, Nat.reduceEqDiff, ↓reduceIte, false_and, and_false, Nat.le_refl, Nat.zero_le, nz_1, nz_2, nz_3, nz_4, nz_5, nz_6, nz_8, nz_10, nz_12, nz_20, nz_30, nz_60, nz_100, mc_B, mc_Z, mc_S, mc_C, mc_K, mc_N, mc_R, mc_I, mc_L, va_Is, va_Ls, va_us, va_iss, u2_ap, sp_isLedge, sp_isLadder, sp_isPerson, sp_isLiving, sp_isLot, sp_isThere, sp_isSpan, cs_K q, cs_B q, cs_f10 q, mc_s (cs_inj q), r18_0, r18_1, r18_7, r18_8, r18_9, r18_10, r18_11, r18_14, r18_15, r18_4, m1]
theorem c18y (q : CS h D) (w : HW h D) (v : VN D) (sw : SW h D) (tc : TC F c T) {r : Int32} (hr : rg r 1) : match pls c T (T + 1) 0 L0 0 with
    | .inl x => ∃ h' G, xm_met (d + 113) 18 [.ref (xd_X D), .int r] (xp_c h D F) = some (.inl (some (.int (-1))), xp_c h' D G) ∧ CS h' D ∧ HW h' D ∧ wx (7 + 6 * T) (69 + 48 * T) h D h' D ∧ rucX F x.1 x.2 G
    | .inr x => ∃ h' D' G, xm_met (d + 113) 18 [.ref (xd_X D), .int r] (xp_c h D F) = some (.inl (some (.int (Int32.ofNat x.1))), xp_c h' D' G) ∧ CS h' D' ∧ HW h' D' ∧ VN D' ∧ wx (7 + 6 * T) (69 + 48 * T) h D h' D' ∧ xd_X D' = xd_X D ∧ (∀ k, xd_A D' 0 k = xd_A D 0 k) ∧ (∀ j, xd_n D' j = xd_n D j) ∧ (∀ i, xd_m D' i = xd_m D i) ∧ (∀ i, ¬ i = r.toNatClampNeg → xd_A D' 9 i = xd_A D 9 i) ∧ CR h' D' r.toNatClampNeg x.1 x.2 ∧ rucY F r.toNatClampNeg x.1 x.2 G := by
  have e := rg_tc hr
  have h2r := hr.2
  have hR : r.toNatClampNeg < 2 := by omega
  have ir := rg_in (N := 2) hr (by omega)
  have r01 : 0 ≤ r ∧ r ≤ 1 := ⟨Int32.le_iff_toInt_le.mpr hr.1, Int32.le_iff_toInt_le.mpr hr.2⟩
  have m19 := c19 (d := d + 112) (h := xp_c h D F) (r := r)
  rw [if_pos r01] at m19
  have n1 : ¬ (1 : Int32) = 0 := by decide
  have rd := c68 (d := d) q w sw tc
  generalize pls c T (T + 1) 0 L0 0 = r0 at rd ⊢
  cases r0 with
  | inl x =>
    obtain ⟨h1, G1, m1, x1, w1, ft⟩ := rd
    have q1 := q.rx w x1
    obtain ⟨f1, f2, f3⟩ := ft
    refine ⟨h1, xm_u2 (xm_u2 (xm_u2 G1 0 43 x.1) 0 45 (Int32.ofNat x.2)) 0 36 0, ?_, q1, w1, (x1.wx q).mono (by omega) (by omega), ?_, ?_, ?_, fun o j o86 o87 oj => ?_⟩
    · unfold xm_met
      simp only [ite_not, ite_self, w8_nil, ok01, ite10, rf_rv, rf_ref, rf_cat, rf_lk2, rf_some, rf_none, w_add, w_cons, cr_int, cr_long, cr_ref, cr_null, is_ref, is_null, l2_int, l2_ref, l2_null, l2_none, ent_nil, ent_int, ent_ref, ent_null, ent_rf, ent_long, ok_0, ok_1, af_ret, af_void, List.tail_cons, List.tail_nil, Nat.reduceAdd, Nat.reduceLeDiff, not_false_eq_true, not_true_eq_false, and_self, and_true, true_and, ne_eq, or_true, true_or, or_false, false_or, eq_self, Nat.reduceEqDiff, ↓reduceIte, false_and, and_false, Nat.le_refl, Nat.zero_le, nz_1, nz_2, nz_3, nz_4, nz_5, nz_6, nz_8, nz_10, nz_12, nz_20, nz_30, nz_60, nz_100, mc_B, mc_Z, mc_S, mc_C, mc_K, mc_N, mc_R, mc_I, mc_L, va_Is, va_Ls, va_us, va_iss, u2_ap, sp_isLedge, sp_isLadder, sp_isPerson, sp_isLiving, sp_isLot, sp_isThere, sp_isSpan, cs_K q, cs_f15 q, af_thr, thr_18 q1, r18_0, r18_1, r18_7, r18_8, r18_9, r18_10, r18_11, r18_14, r18_15, r18_16, r18_17, r18_20, r18_4, m19, n1, m1]
      simp only [ite_not, ite_self, w8_nil, ok01, ite10, rf_rv, rf_ref, rf_cat, rf_lk2, rf_some, rf_none, w_add, w_cons, cr_int, cr_long, cr_ref, cr_null, is_ref, is_null, l2_int, l2_ref, l2_null, l2_none, ent_nil, ent_int, ent_ref, ent_null, ent_rf, ent_long, ok_0, ok_1, af_ret, af_void, List.tail_cons, List.tail_nil, Nat.reduceAdd, Nat.reduceLeDiff, not_false_eq_true, not_true_eq_false, and_self, and_true, true_and, ne_eq, or_true, true_or, or_false, false_or, eq_self, Nat.reduceEqDiff, ↓reduceIte, false_and, and_false, Nat.le_refl, Nat.zero_le, nz_1, nz_2, nz_3, nz_4, nz_5, nz_6, nz_8, nz_10, nz_12, nz_20, nz_30, nz_60, nz_100, mc_B, mc_Z, mc_S, mc_C, mc_K, mc_N, mc_R, mc_I, mc_L, va_Is, va_Ls, va_us, va_iss, u2_ap, sp_isLedge, sp_isLadder, sp_isPerson, sp_isLiving, sp_isLot, sp_isThere, sp_isSpan, cs_K q1, cs_B q1, cs_f13 q1, cs_fl q1, cs_f11 q1, cs_f12 q1, cs_f10 q1, mc_s (cs_inj q1), r18_124, r18_125, r18_126, r18_127, r18_130, r18_133, r18_134, r18_135, r18_138, r18_141, r18_142, r18_143, r18_144, r18_145, r18_148, r18_149, ent_nil, f1, f2]
    · rw [u2_ap, if_pos ⟨rfl, rfl⟩]
    · rw [u2_ap, if_neg (by omega), u2_ap, if_neg (by omega), u2_ap, if_pos ⟨rfl, rfl⟩]
    · rw [u2_ap, if_neg (by omega), u2_ap, if_pos ⟨rfl, rfl⟩]
    · rw [u2_ap, if_neg (by omega), u2_ap, if_neg (by omega), u2_ap, if_neg (by omega)]
      exact f3 o j o86 o87
  | inr x =>
    obtain ⟨m, L⟩ := x
    obtain ⟨h1, G1, m1, x1, w1, rw1, told, f1, m20⟩ := rd
    have rw1 : RW h1 D (xm_Z h) m L := rw1
    have told : G1 86 5 = Int32.ofNat m := told
    have m20 : m ≤ 20 := m20
    have q1 := q.rx w x1
    obtain ⟨a1, a2, a3, a4, a5⟩ := rw1
    obtain ⟨y1, y2, y3, y4, y5⟩ := cus_new (G := xm_u2 G1 14 r.toNatClampNeg (Int32.ofNat m)) q1 w1 v hR a2 a3 a4
    have k16 := (cs_f16 q1).2.1
    have k19 := (cs_f19 q1).2.1
    have z16 := w1.lt k16 (by decide)
    have z19 := w1.lt k19 (by decide)
    have zrd := w1.lt (cs_f15 q1).2.1 (by decide)
    have nx : ¬ xd_X D = xd_A D 0 16 := fun y => by
      have := cs_K q1
      rw [y, k16] at this
      exact absurd this (by decide)
    have nrd : ¬ xd_A D 0 15 = xd_A D 0 16 := fun y => by
      have := (cs_f15 q1).2.1
      rw [y, k16] at this
      exact absurd this (by decide)
    have bX : ∀ p, xm_R (xm_sR h1 (xd_A D 0 16) r.toNatClampNeg (some (xm_Z h))) (xd_X D) p = xm_R h1 (xd_X D) p := fun p => by rw [h_R_sR, if_neg (fun y => nx y.1)]
    have bK : xm_K (xm_sR h1 (xd_A D 0 16) r.toNatClampNeg (some (xm_Z h))) = xm_K h1 := rfl
    have bN : xm_N (xm_sR h1 (xd_A D 0 16) r.toNatClampNeg (some (xm_Z h))) = xm_N h1 := rfl
    have bB : xm_B (xm_sR h1 (xd_A D 0 16) r.toNatClampNeg (some (xm_Z h))) = xm_B h1 := rfl
    have bZ : xm_Z (xm_sR h1 (xd_A D 0 16) r.toNatClampNeg (some (xm_Z h))) = xm_Z h1 := rfl
    have wb : HW (xm_sR h1 (xd_A D 0 16) r.toNatClampNeg (some (xm_Z h))) D := w1
    have wc : HW (xm_nw (xm_sR h1 (xd_A D 0 16) r.toNatClampNeg (some (xm_Z h))) 4 0 5) D := wb.nw
    have nE : ∀ p, xd_E D (xm_Z h1) p = none := fun p => (w1.2.1 _ p (Nat.le_refl _)).1
    have m87 := c87 (d := d + 111) (h := xp_c (xm_nw (xm_sR h1 (xd_A D 0 16) r.toNatClampNeg (some (xm_Z h))) 4 0 5) D (xm_u2 G1 14 r.toNatClampNeg (Int32.ofNat m))) (a := xm_Z h1) (by rw [mc_K, h_K_nw, bZ, if_pos rfl]) (by rw [mc_B]; exact w1.1) (by rw [mc_Z]; show ¬ xm_Z h1 = xm_Z h1 + 1; omega)
    rw [mc_nw wc, mc_sR, mc_sn (nE _), mc_Z] at m87
    have m87 : xm_met (d + 112) 87 [.ref (xm_Z h1)] (xp_c (xm_nw (xm_sR h1 (xd_A D 0 16) r.toNatClampNeg (some (xm_Z h))) 4 0 5) D (xm_u2 G1 14 r.toNatClampNeg (Int32.ofNat m))) = some (.inl none, xp_c (xm_sI (xm_sR (xm_nw (xm_nw (xm_sR h1 (xd_A D 0 16) r.toNatClampNeg (some (xm_Z h))) 4 0 5) 100 4 4) (xm_Z h1) 0 (some (xm_Z h1 + 1))) (xm_Z h1) 2 20) D (xm_u2 G1 14 r.toNatClampNeg (Int32.ofNat m))) := m87
    have el1 : xm_el 112 113 = true := by decide
    have el2 : xm_el 114 4 = true := by decide
    have g19 : xm_K (xm_sI (xm_sR (xm_nw (xm_nw (xm_sR h1 (xd_A D 0 16) r.toNatClampNeg (some (xm_Z h))) 4 0 5) 100 4 4) (xm_Z h1) 0 (some (xm_Z h1 + 1))) (xm_Z h1) 2 20) (xd_A D 0 19) = 114 := by
      show (if xd_A D 0 19 = xm_Z h1 + 1 then 100 else if xd_A D 0 19 = xm_Z h1 then 4 else xm_K h1 (xd_A D 0 19)) = 114
      rw [if_neg (by omega), if_neg (by omega)]
      exact k19
    have gZ : xm_K (xm_sI (xm_sR (xm_nw (xm_nw (xm_sR h1 (xd_A D 0 16) r.toNatClampNeg (some (xm_Z h))) 4 0 5) 100 4 4) (xm_Z h1) 0 (some (xm_Z h1 + 1))) (xm_Z h1) 2 20) (xm_Z h1) = 4 := by
      show (if xm_Z h1 = xm_Z h1 + 1 then 100 else if xm_Z h1 = xm_Z h1 then 4 else xm_K h1 (xm_Z h1)) = 4
      rw [if_neg (by omega), if_pos rfl]
    have gN : xm_N (xm_sI (xm_sR (xm_nw (xm_nw (xm_sR h1 (xd_A D 0 16) r.toNatClampNeg (some (xm_Z h))) 4 0 5) 100 4 4) (xm_Z h1) 0 (some (xm_Z h1 + 1))) (xm_Z h1) 2 20) (xd_A D 0 19) = 2 := by
      show (if xd_A D 0 19 = xm_Z h1 + 1 then 4 else if xd_A D 0 19 = xm_Z h1 then 0 else xm_N h1 (xd_A D 0 19)) = 2
      rw [if_neg (by omega), if_neg (by omega)]
      exact (cs_f19 q1).2.2.1
    have gB : xm_B (xm_sI (xm_sR (xm_nw (xm_nw (xm_sR h1 (xd_A D 0 16) r.toNatClampNeg (some (xm_Z h))) 4 0 5) 100 4 4) (xm_Z h1) 0 (some (xm_Z h1 + 1))) (xm_Z h1) 2 20) = xm_B h1 := rfl
    have zrow := w1.lt a2 (by decide)
    have rw5 : RW (xp_c (nH18 h1 D r.toNatClampNeg (xm_Z h)) D (xm_u2 G1 14 r.toNatClampNeg (Int32.ofNat m))) (nD18 D r.toNatClampNeg (xm_Z h1) (xm_Z h)) (xm_Z h) m L := by
      refine ⟨?_, y4.K w1 a2 (by decide), y4.N w1 a2 (by decide) a3, by rw [y4.1]; exact a4, fun j hj => ?_⟩
      · show xm_R (nH18 h1 D r.toNatClampNeg (xm_Z h)) (xd_A D 0 15) 6 = _
        rw [n18_R, if_neg (fun y => by
          have k15 := (cs_f15 q1).2.1
          rw [y.1, k19] at k15
          exact absurd k15 (by decide)), if_neg (by omega), if_neg (by omega), if_neg (by omega), if_neg (fun y => nrd y.1)]
        exact a1
      · obtain ⟨b, b1, b2⟩ := a5 j hj
        exact ⟨b, (y4.R w1 a2 (by decide) (by decide)).trans b1, LQ.wx w1 y4 b2⟩
    have eA15 : xd_A (nD18 D r.toNatClampNeg (xm_Z h1) (xm_Z h)) 0 15 = xd_A D 0 15 := rfl
    have told2 : sp_cu2 (xm_u2 G1 14 r.toNatClampNeg (Int32.ofNat m)) r.toNatClampNeg 86 5 = Int32.ofNat m := by
      rw [cu2_ap (by omega) (by omega), u2_ap, if_neg (by omega)]
      exact told
    have lp := c18l (d := d) y1 hR rw5 m20 told2 rfl ir m 0 (by omega)
    generalize eH : xp_c (nH18 h1 D r.toNatClampNeg (xm_Z h)) D (xm_u2 G1 14 r.toNatClampNeg (Int32.ofNat m)) = H5 at y1 y2 y4 y5 rw5 lp
    have lp : xm_run (d + 113) 18 64 [some (.ref (xd_X D)), some (.int r), some (.int 0)] [] (xp_c H5 (nD18 D r.toNatClampNeg (xm_Z h1) (xm_Z h)) (sp_cu2 (xm_u2 G1 14 r.toNatClampNeg (Int32.ofNat m)) r.toNatClampNeg)) = xm_run (d + 113) 18 99 [some (.ref (xd_X D)), some (.int r), some (.int (Int32.ofNat m))] [] (xp_c H5 (nD18 D r.toNatClampNeg (xm_Z h1) (xm_Z h)) (xp_up (fun j G => tel1 r.toNatClampNeg (L j) G) (sp_cu2 (xm_u2 G1 14 r.toNatClampNeg (Int32.ofNat m)) r.toNatClampNeg) m)) := lp
    have st : xm_met (d + 113) 18 [.ref (xd_X D), .int r] (xp_c h D F) = xm_run (d + 113) 18 64 [some (.ref (xd_X D)), some (.int r), some (.int 0)] [] H5 := by
      unfold xm_met
      simp only [ite_not, ite_self, w8_nil, ok01, ite10, rf_rv, rf_ref, rf_cat, rf_lk2, rf_some, rf_none, w_add, w_cons, cr_int, cr_long, cr_ref, cr_null, is_ref, is_null, l2_int, l2_ref, l2_null, l2_none, ent_nil, ent_int, ent_ref, ent_null, ent_rf, ent_long, ok_0, ok_1, af_ret, af_void, List.tail_cons, List.tail_nil, Nat.reduceAdd, Nat.reduceLeDiff, not_false_eq_true, not_true_eq_false, and_self, and_true, true_and, ne_eq, or_true, true_or, or_false, false_or, eq_self, Nat.reduceEqDiff, ↓reduceIte, false_and, and_false, Nat.le_refl, Nat.zero_le, nz_1, nz_2, nz_3, nz_4, nz_5, nz_6, nz_8, nz_10, nz_12, nz_20, nz_30, nz_60, nz_100, mc_B, mc_Z, mc_S, mc_C, mc_K, mc_N, mc_R, mc_I, mc_L, va_Is, va_Ls, va_us, va_iss, u2_ap, sp_isLedge, sp_isLadder, sp_isPerson, sp_isLiving, sp_isLot, sp_isThere, sp_isSpan, cs_K q, cs_f15 q, r18_0, r18_1, r18_7, r18_8, r18_9, r18_10, r18_11, r18_14, r18_15, r18_16, r18_17, r18_20, r18_4, m19, n1, m1]
      simp only [ite_not, ite_self, w8_nil, ok01, ite10, rf_rv, rf_ref, rf_cat, rf_lk2, rf_some, rf_none, w_add, w_cons, cr_int, cr_long, cr_ref, cr_null, is_ref, is_null, l2_int, l2_ref, l2_null, l2_none, ent_nil, ent_int, ent_ref, ent_null, ent_rf, ent_long, ok_0, ok_1, af_ret, af_void, List.tail_cons, List.tail_nil, Nat.reduceAdd, Nat.reduceLeDiff, not_false_eq_true, not_true_eq_false, and_self, and_true, true_and, ne_eq, or_true, true_or, or_false, false_or, eq_self, Nat.reduceEqDiff, ↓reduceIte, false_and, and_false, Nat.le_refl, Nat.zero_le, nz_1, nz_2, nz_3, nz_4, nz_5, nz_6, nz_8, nz_10, nz_12, nz_20, nz_30, nz_60, nz_100, mc_B, mc_Z, mc_S, mc_C, mc_K, mc_N, mc_R, mc_I, mc_L, va_Is, va_Ls, va_us, va_iss, u2_ap, sp_isLedge, sp_isLadder, sp_isPerson, sp_isLiving, sp_isLot, sp_isThere, sp_isSpan, cs_K q1, cs_f16 q1, cs_f15 q1, cs_rd q1, cs_f17 q1, cs_f19 q1, a1, a2, ir, el1, bX, bK, bN, bB, bZ, mc_sR, mc_s (cs_inj q1), mc_nw wb, told, r18_23, r18_24, r18_27, r18_28, r18_29, r18_32, r18_35, r18_36, r18_37, r18_40, r18_41, r18_42, r18_45, r18_48, r18_49, r18_50, r18_53, r18_54, r18_57, ent_nil]
      simp only [ite_not, ite_self, w8_nil, ok01, ite10, rf_rv, rf_ref, rf_cat, rf_lk2, rf_some, rf_none, w_add, w_cons, cr_int, cr_long, cr_ref, cr_null, is_ref, is_null, l2_int, l2_ref, l2_null, l2_none, ent_nil, ent_int, ent_ref, ent_null, ent_rf, ent_long, ok_0, ok_1, af_ret, af_void, List.tail_cons, List.tail_nil, Nat.reduceAdd, Nat.reduceLeDiff, not_false_eq_true, not_true_eq_false, and_self, and_true, true_and, ne_eq, or_true, true_or, or_false, false_or, eq_self, Nat.reduceEqDiff, ↓reduceIte, false_and, and_false, Nat.le_refl, Nat.zero_le, nz_1, nz_2, nz_3, nz_4, nz_5, nz_6, nz_8, nz_10, nz_12, nz_20, nz_30, nz_60, nz_100, mc_B, mc_Z, mc_S, mc_C, mc_K, mc_N, mc_R, mc_I, mc_L, va_Is, va_Ls, va_us, va_iss, u2_ap, sp_isLedge, sp_isLadder, sp_isPerson, sp_isLiving, sp_isLot, sp_isThere, sp_isSpan, m87, g19, gZ, gN, gB, cs_f19 q1, el2, ir, mc_sR, eH, r18_58, r18_61, r18_62, r18_63, ent_nil]
    rw [← y5] at lp
    have fin : ∀ o j, xp_up (fun j G => tel1 r.toNatClampNeg (L j) G) (sp_cu2 (xm_u2 G1 14 r.toNatClampNeg (Int32.ofNat m)) r.toNatClampNeg) m o j = xp_up (fun j G => tel1 r.toNatClampNeg (L j) G) (sp_cu2 (xm_u2 G1 14 r.toNatClampNeg (Int32.ofNat m)) r.toNatClampNeg) m o j := fun _ _ => rfl
    have t5 := (tel_86 (R := r.toNatClampNeg) (L := L) (G0 := sp_cu2 (xm_u2 G1 14 r.toNatClampNeg (Int32.ofNat m)) r.toNatClampNeg) (o := 86) (k := 5) (by omega) m).trans told2
    have old : ∀ o j, ¬ (15 ≤ o ∧ o ≤ 17) → ¬ ((o = 101 ∨ o = 102) ∧ j = r.toNatClampNeg) → xp_up (fun j G => tel1 r.toNatClampNeg (L j) G) (sp_cu2 (xm_u2 G1 14 r.toNatClampNeg (Int32.ofNat m)) r.toNatClampNeg) m o j = xm_u2 G1 14 r.toNatClampNeg (Int32.ofNat m) o j := fun o j h1 h2 => (tel_86 h1 m).trans (cu2_ap (by omega) (by omega))
    have tel : ∀ o j, 15 ≤ o ∧ o ≤ 17 → xp_up (fun j G => tel1 r.toNatClampNeg (L j) G) (sp_cu2 (xm_u2 G1 14 r.toNatClampNeg (Int32.ofNat m)) r.toNatClampNeg) m o j = sp_tel r.toNatClampNeg L F m o j := by
      have base : ∀ o j, 15 ≤ o ∧ o ≤ 17 → sp_cu2 (xm_u2 G1 14 r.toNatClampNeg (Int32.ofNat m)) r.toNatClampNeg o j = sp_cus F r.toNatClampNeg o j := fun o j ho => by
        have eG : ∀ o j, 15 ≤ o ∧ o ≤ 17 → xm_u2 G1 14 r.toNatClampNeg (Int32.ofNat m) o j = F o j := fun o j ho => by
          rw [u2_ap, if_neg (by omega)]
          exact f1 o j (by omega)
        have c0 := tel_cg (R := r.toNatClampNeg) (L := L) eG 0 o j ho
        unfold sp_cu2
        rw [u2_ap, if_neg (by omega), u2_ap, if_neg (by omega)]
        exact c0
      unfold sp_tel
      have : ∀ n o j, 15 ≤ o ∧ o ≤ 17 → xp_up (fun j G => tel1 r.toNatClampNeg (L j) G) (sp_cu2 (xm_u2 G1 14 r.toNatClampNeg (Int32.ofNat m)) r.toNatClampNeg) n o j = xp_up (fun j G => tel1 r.toNatClampNeg (L j) G) (sp_cus F r.toNatClampNeg) n o j := by
        intro n
        induction n with
        | zero => exact base
        | succ n ih => exact tel1_cg ih
      exact this m
    clear fin
    generalize xp_up (fun j G => tel1 r.toNatClampNeg (L j) G) (sp_cu2 (xm_u2 G1 14 r.toNatClampNeg (Int32.ofNat m)) r.toNatClampNeg) m = G5 at lp t5 old tel
    refine ⟨H5, nD18 D r.toNatClampNeg (xm_Z h1) (xm_Z h), xm_u2 (xm_u2 (xm_u2 G5 0 43 0) 0 45 (-1)) 0 36 0, ?_, y1, y2, y3, ((x1.wx q).tr y4).mono (by omega) (by omega), rfl, fun k => ?_, fun j => rfl, fun i => rfl, fun i hi => ?_, ⟨m20, fun i hi => ?_⟩, ?_, fun o k ho => ?_, ?_, ?_, ?_, fun o j o86 o87 oj o15 o14 => ?_⟩
    · rw [st, lp]
      have eX : xd_X (nD18 D r.toNatClampNeg (xm_Z h1) (xm_Z h)) = xd_X D := rfl
      rw [← eX]
      simp only [ite_not, ite_self, w8_nil, ok01, ite10, rf_rv, rf_ref, rf_cat, rf_lk2, rf_some, rf_none, w_add, w_cons, cr_int, cr_long, cr_ref, cr_null, is_ref, is_null, l2_int, l2_ref, l2_null, l2_none, ent_nil, ent_int, ent_ref, ent_null, ent_rf, ent_long, ok_0, ok_1, af_ret, af_void, List.tail_cons, List.tail_nil, Nat.reduceAdd, Nat.reduceLeDiff, not_false_eq_true, not_true_eq_false, and_self, and_true, true_and, ne_eq, or_true, true_or, or_false, false_or, eq_self, Nat.reduceEqDiff, ↓reduceIte, false_and, and_false, Nat.le_refl, Nat.zero_le, nz_1, nz_2, nz_3, nz_4, nz_5, nz_6, nz_8, nz_10, nz_12, nz_20, nz_30, nz_60, nz_100, mc_B, mc_Z, mc_S, mc_C, mc_K, mc_N, mc_R, mc_I, mc_L, va_Is, va_Ls, va_us, va_iss, u2_ap, sp_isLedge, sp_isLadder, sp_isPerson, sp_isLiving, sp_isLot, sp_isThere, sp_isSpan, cs_K y1, cs_B y1, cs_f15 y1, cs_rd y1, cs_f11 y1, cs_f12 y1, cs_f10 y1, mc_s (cs_inj y1), r18_99, r18_100, r18_101, r18_104, r18_105, r18_106, r18_109, r18_110, r18_113, r18_116, r18_117, r18_118, r18_119, r18_122, r18_123, ent_nil, t5]
    · show (if 0 = 7 ∧ k = r.toNatClampNeg then xm_Z h1 else if 0 = 8 ∧ k = r.toNatClampNeg then xm_Z h1 + 1 else if 0 = 9 ∧ k = r.toNatClampNeg then xm_Z h else D.2.2.2.1 0 k) = D.2.2.2.1 0 k
      rw [if_neg (by omega), if_neg (by omega), if_neg (by omega)]
    · show (if 9 = 7 ∧ i = r.toNatClampNeg then xm_Z h1 else if 9 = 8 ∧ i = r.toNatClampNeg then xm_Z h1 + 1 else if 9 = 9 ∧ i = r.toNatClampNeg then xm_Z h else D.2.2.2.1 9 i) = D.2.2.2.1 9 i
      rw [if_neg (by omega), if_neg (by omega), if_neg (by omega)]
    · obtain ⟨-, -, -, -, c5⟩ := rw5
      obtain ⟨b, b1, b2⟩ := c5 i hi
      refine ⟨b, ?_, b2.1⟩
      have A9 : xd_A (nD18 D r.toNatClampNeg (xm_Z h1) (xm_Z h)) 9 r.toNatClampNeg = xm_Z h := by
        show (if 9 = 7 ∧ r.toNatClampNeg = r.toNatClampNeg then xm_Z h1 else if 9 = 8 ∧ r.toNatClampNeg = r.toNatClampNeg then xm_Z h1 + 1 else if 9 = 9 ∧ r.toNatClampNeg = r.toNatClampNeg then xm_Z h else _) = _
        rw [if_neg (by omega), if_neg (by omega), if_pos ⟨rfl, rfl⟩]
      rw [A9]
      exact b1
    · rw [u2_ap, if_neg (by omega), u2_ap, if_neg (by omega), u2_ap, if_neg (by omega), old _ _ (by omega) (by omega), u2_ap, if_pos ⟨rfl, rfl⟩]
    · rw [u2_ap, if_neg (by omega), u2_ap, if_neg (by omega), u2_ap, if_neg (by omega)]
      exact tel o k ho
    · rw [u2_ap, if_pos ⟨rfl, rfl⟩]
    · rw [u2_ap, if_neg (by omega), u2_ap, if_neg (by omega), u2_ap, if_pos ⟨rfl, rfl⟩]
    · rw [u2_ap, if_neg (by omega), u2_ap, if_pos ⟨rfl, rfl⟩]
    · rw [u2_ap, if_neg (by omega), u2_ap, if_neg (by omega), u2_ap, if_neg (by omega), old o j o15 (by omega), u2_ap, if_neg (by omega)]
      exact f1 o j o86
end RUL
