/-! the model's contracts, 14: rules asked of a ledge -/
set_option maxRecDepth 100000
section M14
variable {d : Nat} {h : xm_H} {M : Nat} {F : xp_F}
/-- a line: its sort (3 leave, 4 bar, others told once), its amount, its condition -/
abbrev Ln : Type := Int32 × Tm × Option Tm
def hold (s : Nat → Int32) (o : Option Tm) : Bool := match o with
  | none => true
  | some t => decide (ev s t = 1)
def sp_bar1 (s : Nat → Int32) (L : Nat → Ln) (k : Nat) (b : Int32) : Int32 := if ¬ b = 0 ∨ ((L k).1 = 4 ∧ hold s (L k).2.2 = true) then 1 else 0
def sp_barred (s : Nat → Int32) (L : Nat → Ln) (n : Nat) : Int32 := xp_up (sp_bar1 s L) 0 n
def sp_leave1 (s : Nat → Int32) (L : Nat → Ln) (k : Nat) (m : Int32) : Int32 := if (L k).1 = 3 ∧ hold s (L k).2.2 = true then mx (ev s (L k).2.1) m else m
def sp_leaves (s : Nat → Int32) (L : Nat → Ln) (n : Nat) : Int32 := mn 100 (xp_up (sp_leave1 s L) 0 n)
/-- the model's rules r are the lines L -/
def MR (F : xp_F) (r n : Nat) (L : Nat → Ln) : Prop := F 14 r = Int32.ofNat n ∧ n ≤ 20 ∧ ∀ i, i < n → F 18 (20 * r + i) = (L i).1 ∧
    ((L i).1 = 3 → ∃ b w e, F 19 (21 * r + i) = Int32.ofNat b ∧ F 20 (20 * r + i) = Int32.ofNat w ∧ F 19 (21 * r + (i + 1)) = Int32.ofNat e ∧ e ≤ 610 ∧ wf false (L i).2.1 ∧ sg (cd2 F r) (L i).2.1 b w ∧ match (L i).2.2 with
      | none => w = e
      | some t => wf true t ∧ sg (cd2 F r) t w e) ∧
    ((L i).1 = 4 → ∃ b e t, F 19 (21 * r + i) = Int32.ofNat b ∧ F 19 (21 * r + (i + 1)) = Int32.ofNat e ∧ e ≤ 610 ∧ (L i).2.2 = some t ∧ wf true t ∧ sg (cd2 F r) t b e)
theorem MR.pq {r n m : Nat} {L : Nat → Ln} {G : xp_F} (a : MR F r n L) (p : pq m F G) : MR G r n L := by
  unfold MR
  rw [p.cd, p.1 14 _ (by decide)]
  refine ⟨a.1, a.2.1, fun i hi => ?_⟩
  rw [p.1 18 _ (by decide), p.1 19 _ (by decide), p.1 20 _ (by decide), p.1 19 _ (by decide)]
  exact a.2.2 i hi
theorem ix_line {r : Int32} {i : Nat} (hr : rg r 1) (hi : i < 20) : (xm_in (20 * r + Int32.ofNat i) 40 = true ∧ (20 * r + Int32.ofNat i).toNatClampNeg = 20 * r.toNatClampNeg + i) ∧ (xm_in (21 * r + Int32.ofNat i) 42 = true ∧ (21 * r + Int32.ofNat i).toNatClampNeg = 21 * r.toNatClampNeg + i) ∧ (xm_in (21 * r + Int32.ofNat i + 1) 42 = true ∧ (21 * r + Int32.ofNat i + 1).toNatClampNeg = 21 * r.toNatClampNeg + (i + 1)) := by
  have e := rg_tc hr
  have h2 := hr.2
  have a := ix2 (c := 20) (C := 20) (l := i) (T := 40) hr.1 rfl (by omega) (by decide)
  have b := ix2 (c := 21) (C := 21) (l := i) (T := 42) hr.1 rfl (by omega) (by decide)
  have c := ix2 (c := 21) (C := 21) (l := i + 1) (T := 42) hr.1 rfl (by omega) (by decide)
  have e2 : 21 * r + Int32.ofNat i + 1 = 21 * r + Int32.ofNat (i + 1) := by
    rw [Int32.add_assoc, nat_succ]
  rw [e2]
  exact ⟨a, b, c⟩
theorem rg_in {r : Int32} {n N : Nat} (hr : rg r n) (h : n < N) : xm_in r N = true := in_iff.mpr ⟨hr.1, by have := hr.2; omega⟩
theorem c135s (q : MS h M) {r l : Int32} (hr : rg r 1) (hl : xm_in l 12 = true) {n : Nat} {L : Nat → Ln} (hm : MR F r.toNatClampNeg n L) (k : Nat) (s : Int32 × xp_F) (t : List (Option Value)) (hk : k < n) (hi : s.1 = xp_up (sp_bar1 (sp_has F l.toNatClampNeg) L) 0 k ∧ pq 0 F s.2) : ∃ (s' : Int32 × xp_F) (t' : List (Option Value)), xm_run (d + 4) 135 5 (some (.ref M) :: some (.int r) :: some (.int l) :: some (.int s.1) :: some (.int (Int32.ofNat k)) :: t) [] (xp_m h M s.2) = xm_run (d + 4) 135 5 (some (.ref M) :: some (.int r) :: some (.int l) :: some (.int s'.1) :: some (.int (Int32.ofNat (k + 1))) :: t') [] (xp_m h M s'.2) ∧ s'.1 = xp_up (sp_bar1 (sp_has F l.toNatClampNeg) L) 0 (k + 1) ∧ pq 0 F s'.2 := by
  obtain ⟨b, G⟩ := s
  obtain ⟨hb, hp⟩ := hi
  have hp : pq 0 F G := hp
  have hb : b = xp_up (sp_bar1 (sp_has F l.toNatClampNeg) L) 0 k := hb
  have hg := hm.pq hp
  have hn := hm.2.1
  obtain ⟨g1, g2, g3⟩ := hg
  obtain ⟨⟨a1, a2⟩, ⟨a3, a4⟩, a5, a6⟩ := ix_line hr (show k < 20 by omega)
  have c0 := lt_nat hk (by omega)
  have ir := rg_in (N := 2) hr (by decide)
  obtain ⟨s1, s2, s3⟩ := g3 k hk
  have up : xp_up (sp_bar1 (sp_has F l.toNatClampNeg) L) 0 (k + 1) = sp_bar1 (sp_has F l.toNatClampNeg) L k b := by rw [hb]; rfl
  rw [up]
  unfold sp_bar1
  show ∃ (s' : Int32 × xp_F) (t' : List (Option Value)), xm_run (d + 4) 135 5 (some (.ref M) :: some (.int r) :: some (.int l) :: some (.int b) :: some (.int (Int32.ofNat k)) :: t) [] (xp_m h M G) = _ ∧ _
  rw [r135_5]
  by_cases c1 : b = 0
  case neg =>
    rw [if_pos (Or.inl c1)]
    refine ⟨(1, G), t, ?_, rfl, hp⟩
    simp only [ite_not, ite_self, w8_nil, ok01, ite10, rf_rv, rf_ref, rf_cat, rf_lk2, rf_some, rf_none, w_add, w_cons, cr_int, cr_long, cr_ref, cr_null, is_ref, is_null, l2_int, l2_ref, l2_null, l2_none, ent_nil, ent_int, ent_ref, ent_null, ent_rf, ent_long, ok_0, ok_1, af_ret, af_void, List.tail_cons, List.tail_nil, Nat.reduceAdd, Nat.reduceLeDiff, not_false_eq_true, not_true_eq_false, and_self, and_true, true_and, ne_eq, or_true, true_or, or_false, false_or, eq_self, Nat.reduceEqDiff, ↓reduceIte, false_and, and_false, Nat.le_refl, Nat.zero_le, nz_1, nz_2, nz_3, nz_4, nz_5, nz_6, nz_8, nz_10, nz_12, nz_20, nz_30, nz_60, nz_100, mp_B, mp_Z, mp_S, mp_C, mp_K, mp_N, mp_L, mp_R, mp_I, mp_I0, mp_s, mp_s0, u2_ap, sp_isLedge, sp_isLadder, sp_isPerson, sp_isLiving, sp_isLot, sp_isThere, sp_isSpan, ms_K q, ms_B q, ms_f18 q, ms_f22 q, ms_f23 q, r135_7, r135_8, r135_11, r135_12, r135_16, r135_20, r135_21, r135_24, r135_26, r135_27, r135_28, r135_30, r135_31, r135_32, r135_36, r135_37, r135_38, r135_39, r135_40, r135_43, r135_45, r135_46, r135_47, r135_49, r135_50, r135_51, r135_52, r135_55, r135_57, r135_58, r135_59, r135_61, r135_62, r135_63, r135_64, r135_65, r135_68, r135_72, r135_73, r135_76, r135_13, r135_17, r135_33, r135_69, g1, ir, c0, c1]
    simp only [ite_not, ite_self, w8_nil, ok01, ite10, rf_rv, rf_ref, rf_cat, rf_lk2, rf_some, rf_none, w_add, w_cons, cr_int, cr_long, cr_ref, cr_null, is_ref, is_null, l2_int, l2_ref, l2_null, l2_none, ent_nil, ent_int, ent_ref, ent_null, ent_rf, ent_long, ok_0, ok_1, af_ret, af_void, List.tail_cons, List.tail_nil, Nat.reduceAdd, Nat.reduceLeDiff, not_false_eq_true, not_true_eq_false, and_self, and_true, true_and, ne_eq, or_true, true_or, or_false, false_or, eq_self, Nat.reduceEqDiff, ↓reduceIte, false_and, and_false, Nat.le_refl, Nat.zero_le, nz_1, nz_2, nz_3, nz_4, nz_5, nz_6, nz_8, nz_10, nz_12, nz_20, nz_30, nz_60, nz_100, r135_77, r135_78, r135_81, nat_succ]
  by_cases c2 : (L k).1 = 4
  case neg =>
    rw [if_neg (fun z => z.elim (fun y => y c1) (fun y => c2 y.1))]
    refine ⟨(0, G), t, ?_, rfl, hp⟩
    simp only [ite_not, ite_self, w8_nil, ok01, ite10, rf_rv, rf_ref, rf_cat, rf_lk2, rf_some, rf_none, w_add, w_cons, cr_int, cr_long, cr_ref, cr_null, is_ref, is_null, l2_int, l2_ref, l2_null, l2_none, ent_nil, ent_int, ent_ref, ent_null, ent_rf, ent_long, ok_0, ok_1, af_ret, af_void, List.tail_cons, List.tail_nil, Nat.reduceAdd, Nat.reduceLeDiff, not_false_eq_true, not_true_eq_false, and_self, and_true, true_and, ne_eq, or_true, true_or, or_false, false_or, eq_self, Nat.reduceEqDiff, ↓reduceIte, false_and, and_false, Nat.le_refl, Nat.zero_le, nz_1, nz_2, nz_3, nz_4, nz_5, nz_6, nz_8, nz_10, nz_12, nz_20, nz_30, nz_60, nz_100, mp_B, mp_Z, mp_S, mp_C, mp_K, mp_N, mp_L, mp_R, mp_I, mp_I0, mp_s, mp_s0, u2_ap, sp_isLedge, sp_isLadder, sp_isPerson, sp_isLiving, sp_isLot, sp_isThere, sp_isSpan, ms_K q, ms_B q, ms_f18 q, ms_f22 q, ms_f23 q, r135_7, r135_8, r135_11, r135_12, r135_16, r135_20, r135_21, r135_24, r135_26, r135_27, r135_28, r135_30, r135_31, r135_32, r135_36, r135_37, r135_38, r135_39, r135_40, r135_43, r135_45, r135_46, r135_47, r135_49, r135_50, r135_51, r135_52, r135_55, r135_57, r135_58, r135_59, r135_61, r135_62, r135_63, r135_64, r135_65, r135_68, r135_72, r135_73, r135_76, r135_13, r135_17, r135_33, r135_69, g1, ir, c0, c1, a1, a2, s1, c2]
    simp only [ite_not, ite_self, w8_nil, ok01, ite10, rf_rv, rf_ref, rf_cat, rf_lk2, rf_some, rf_none, w_add, w_cons, cr_int, cr_long, cr_ref, cr_null, is_ref, is_null, l2_int, l2_ref, l2_null, l2_none, ent_nil, ent_int, ent_ref, ent_null, ent_rf, ent_long, ok_0, ok_1, af_ret, af_void, List.tail_cons, List.tail_nil, Nat.reduceAdd, Nat.reduceLeDiff, not_false_eq_true, not_true_eq_false, and_self, and_true, true_and, ne_eq, or_true, true_or, or_false, false_or, eq_self, Nat.reduceEqDiff, ↓reduceIte, false_and, and_false, Nat.le_refl, Nat.zero_le, nz_1, nz_2, nz_3, nz_4, nz_5, nz_6, nz_8, nz_10, nz_12, nz_20, nz_30, nz_60, nz_100, r135_77, r135_78, r135_81, nat_succ]
  obtain ⟨x, e, tm, f1, f2, f3, f4, f5, f6⟩ := s3 c2
  obtain ⟨G2, m1, m2⟩ := @c136 d h M G q r l hr hl x e f3 true tm f5 f6
  rw [hp.has] at m1
  have hv : hold (sp_has F l.toNatClampNeg) (L k).2.2 = decide (ev (sp_has F l.toNatClampNeg) tm = 1) := by rw [f4]; rfl
  by_cases c3 : ev (sp_has F l.toNatClampNeg) tm = 1
  · rw [if_pos (Or.inr ⟨c2, by rw [hv]; exact decide_eq_true c3⟩)]
    refine ⟨(1, G2), t, ?_, rfl, hp.tr m2 (Nat.le_refl _)⟩
    simp only [ite_not, ite_self, w8_nil, ok01, ite10, rf_rv, rf_ref, rf_cat, rf_lk2, rf_some, rf_none, w_add, w_cons, cr_int, cr_long, cr_ref, cr_null, is_ref, is_null, l2_int, l2_ref, l2_null, l2_none, ent_nil, ent_int, ent_ref, ent_null, ent_rf, ent_long, ok_0, ok_1, af_ret, af_void, List.tail_cons, List.tail_nil, Nat.reduceAdd, Nat.reduceLeDiff, not_false_eq_true, not_true_eq_false, and_self, and_true, true_and, ne_eq, or_true, true_or, or_false, false_or, eq_self, Nat.reduceEqDiff, ↓reduceIte, false_and, and_false, Nat.le_refl, Nat.zero_le, nz_1, nz_2, nz_3, nz_4, nz_5, nz_6, nz_8, nz_10, nz_12, nz_20, nz_30, nz_60, nz_100, mp_B, mp_Z, mp_S, mp_C, mp_K, mp_N, mp_L, mp_R, mp_I, mp_I0, mp_s, mp_s0, u2_ap, sp_isLedge, sp_isLadder, sp_isPerson, sp_isLiving, sp_isLot, sp_isThere, sp_isSpan, ms_K q, ms_B q, ms_f18 q, ms_f22 q, ms_f23 q, r135_7, r135_8, r135_11, r135_12, r135_16, r135_20, r135_21, r135_24, r135_26, r135_27, r135_28, r135_30, r135_31, r135_32, r135_36, r135_37, r135_38, r135_39, r135_40, r135_43, r135_45, r135_46, r135_47, r135_49, r135_50, r135_51, r135_52, r135_55, r135_57, r135_58, r135_59, r135_61, r135_62, r135_63, r135_64, r135_65, r135_68, r135_72, r135_73, r135_76, r135_13, r135_17, r135_33, r135_69, g1, ir, c0, c1, a1, a2, a3, a4, a5, a6, s1, c2, f1, f2, m1, c3]
    simp only [ite_not, ite_self, w8_nil, ok01, ite10, rf_rv, rf_ref, rf_cat, rf_lk2, rf_some, rf_none, w_add, w_cons, cr_int, cr_long, cr_ref, cr_null, is_ref, is_null, l2_int, l2_ref, l2_null, l2_none, ent_nil, ent_int, ent_ref, ent_null, ent_rf, ent_long, ok_0, ok_1, af_ret, af_void, List.tail_cons, List.tail_nil, Nat.reduceAdd, Nat.reduceLeDiff, not_false_eq_true, not_true_eq_false, and_self, and_true, true_and, ne_eq, or_true, true_or, or_false, false_or, eq_self, Nat.reduceEqDiff, ↓reduceIte, false_and, and_false, Nat.le_refl, Nat.zero_le, nz_1, nz_2, nz_3, nz_4, nz_5, nz_6, nz_8, nz_10, nz_12, nz_20, nz_30, nz_60, nz_100, r135_77, r135_78, r135_81, nat_succ]
  · rw [if_neg (fun z => z.elim (fun y => y c1) (fun y => c3 (of_decide_eq_true (hv ▸ y.2))))]
    refine ⟨(0, G2), t, ?_, rfl, hp.tr m2 (Nat.le_refl _)⟩
    simp only [ite_not, ite_self, w8_nil, ok01, ite10, rf_rv, rf_ref, rf_cat, rf_lk2, rf_some, rf_none, w_add, w_cons, cr_int, cr_long, cr_ref, cr_null, is_ref, is_null, l2_int, l2_ref, l2_null, l2_none, ent_nil, ent_int, ent_ref, ent_null, ent_rf, ent_long, ok_0, ok_1, af_ret, af_void, List.tail_cons, List.tail_nil, Nat.reduceAdd, Nat.reduceLeDiff, not_false_eq_true, not_true_eq_false, and_self, and_true, true_and, ne_eq, or_true, true_or, or_false, false_or, eq_self, Nat.reduceEqDiff, ↓reduceIte, false_and, and_false, Nat.le_refl, Nat.zero_le, nz_1, nz_2, nz_3, nz_4, nz_5, nz_6, nz_8, nz_10, nz_12, nz_20, nz_30, nz_60, nz_100, mp_B, mp_Z, mp_S, mp_C, mp_K, mp_N, mp_L, mp_R, mp_I, mp_I0, mp_s, mp_s0, u2_ap, sp_isLedge, sp_isLadder, sp_isPerson, sp_isLiving, sp_isLot, sp_isThere, sp_isSpan, ms_K q, ms_B q, ms_f18 q, ms_f22 q, ms_f23 q, r135_7, r135_8, r135_11, r135_12, r135_16, r135_20, r135_21, r135_24, r135_26, r135_27, r135_28, r135_30, r135_31, r135_32, r135_36, r135_37, r135_38, r135_39, r135_40, r135_43, r135_45, r135_46, r135_47, r135_49, r135_50, r135_51, r135_52, r135_55, r135_57, r135_58, r135_59, r135_61, r135_62, r135_63, r135_64, r135_65, r135_68, r135_72, r135_73, r135_76, r135_13, r135_17, r135_33, r135_69, g1, ir, c0, c1, a1, a2, a3, a4, a5, a6, s1, c2, f1, f2, m1, c3]
    simp only [ite_not, ite_self, w8_nil, ok01, ite10, rf_rv, rf_ref, rf_cat, rf_lk2, rf_some, rf_none, w_add, w_cons, cr_int, cr_long, cr_ref, cr_null, is_ref, is_null, l2_int, l2_ref, l2_null, l2_none, ent_nil, ent_int, ent_ref, ent_null, ent_rf, ent_long, ok_0, ok_1, af_ret, af_void, List.tail_cons, List.tail_nil, Nat.reduceAdd, Nat.reduceLeDiff, not_false_eq_true, not_true_eq_false, and_self, and_true, true_and, ne_eq, or_true, true_or, or_false, false_or, eq_self, Nat.reduceEqDiff, ↓reduceIte, false_and, and_false, Nat.le_refl, Nat.zero_le, nz_1, nz_2, nz_3, nz_4, nz_5, nz_6, nz_8, nz_10, nz_12, nz_20, nz_30, nz_60, nz_100, r135_77, r135_78, r135_81, nat_succ]
theorem c135 (q : MS h M) {r l : Int32} (hr : rg r 1) (hl : xm_in l 12 = true) {n : Nat} {L : Nat → Ln} (hm : MR F r.toNatClampNeg n L) : ∃ G, xm_met (d + 4) 135 [.ref M, .int r, .int l] (xp_m h M F) = some (.inl (some (.int (sp_barred (sp_has F l.toNatClampNeg) L n))), xp_m h M G) ∧ pq 0 F G := by
  obtain ⟨s, t, e, i1, i2⟩ := xp_loop2 (P := fun k (s : Int32 × xp_F) t => xm_run (d + 4) 135 5 (some (.ref M) :: some (.int r) :: some (.int l) :: some (.int s.1) :: some (.int (Int32.ofNat k)) :: t) [] (xp_m h M s.2)) (fun k s => s.1 = xp_up (sp_bar1 (sp_has F l.toNatClampNeg) L) 0 k ∧ pq 0 F s.2) (fun k s t hk hi => c135s q hr hl hm k s t hk hi) n 0 (0, F) [] (Nat.zero_add _) ⟨rfl, pq.rf⟩
  obtain ⟨b, G⟩ := s
  have hg := (hm.pq i2).1
  have i1 : b = sp_barred (sp_has F l.toNatClampNeg) L n := i1
  have i2 : pq 0 F G := i2
  have hg : G 14 r.toNatClampNeg = Int32.ofNat n := hg
  have ok : xm_ok .boolean b = true := by
    rw [i1]
    unfold sp_barred
    cases n with
    | zero => exact ok_0
    | succ n => exact ok01
  have ir := rg_in (N := 2) hr (by decide)
  have c0 : Int32.ofNat n ≤ Int32.ofNat n := Int32.le_refl _
  refine ⟨G, ?_, i2⟩
  rw [show Int32.ofNat 0 = (0 : Int32) from rfl] at e
  unfold xm_met
  simp only [ite_not, ite_self, w8_nil, ok01, ite10, rf_rv, rf_ref, rf_cat, rf_lk2, rf_some, rf_none, w_add, w_cons, cr_int, cr_long, cr_ref, cr_null, is_ref, is_null, l2_int, l2_ref, l2_null, l2_none, ent_nil, ent_int, ent_ref, ent_null, ent_rf, ent_long, ok_0, ok_1, af_ret, af_void, List.tail_cons, List.tail_nil, Nat.reduceAdd, Nat.reduceLeDiff, not_false_eq_true, not_true_eq_false, and_self, and_true, true_and, ne_eq, or_true, true_or, or_false, false_or, eq_self, Nat.reduceEqDiff, ↓reduceIte, false_and, and_false, Nat.le_refl, Nat.zero_le, nz_1, nz_2, nz_3, nz_4, nz_5, nz_6, nz_8, nz_10, nz_12, nz_20, nz_30, nz_60, nz_100, r135_0, r135_1, r135_2, r135_3]
  rw [e]
  show xm_run (d + 4) 135 5 (some (.ref M) :: some (.int r) :: some (.int l) :: some (.int b) :: some (.int (Int32.ofNat n)) :: t) [] (xp_m h M G) = _
  rw [r135_5, ← i1]
  simp only [ite_not, ite_self, w8_nil, ok01, ite10, rf_rv, rf_ref, rf_cat, rf_lk2, rf_some, rf_none, w_add, w_cons, cr_int, cr_long, cr_ref, cr_null, is_ref, is_null, l2_int, l2_ref, l2_null, l2_none, ent_nil, ent_int, ent_ref, ent_null, ent_rf, ent_long, ok_0, ok_1, af_ret, af_void, List.tail_cons, List.tail_nil, Nat.reduceAdd, Nat.reduceLeDiff, not_false_eq_true, not_true_eq_false, and_self, and_true, true_and, ne_eq, or_true, true_or, or_false, false_or, eq_self, Nat.reduceEqDiff, ↓reduceIte, false_and, and_false, Nat.le_refl, Nat.zero_le, nz_1, nz_2, nz_3, nz_4, nz_5, nz_6, nz_8, nz_10, nz_12, nz_20, nz_30, nz_60, nz_100, mp_B, mp_Z, mp_S, mp_C, mp_K, mp_N, mp_L, mp_R, mp_I, mp_I0, mp_s, mp_s0, u2_ap, sp_isLedge, sp_isLadder, sp_isPerson, sp_isLiving, sp_isLot, sp_isThere, sp_isSpan, ms_K q, ms_B q, ms_f18 q, ms_f22 q, ms_f23 q, r135_7, r135_8, r135_11, r135_12, r135_13, r135_84, r135_85, hg, ir, c0, ok]
end M14
