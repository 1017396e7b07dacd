/-! texts: the model takes the lines -/
set_option maxRecDepth 100000
/-- a number of a line's -/
def lnum (t : Tm) : Int32 := match t with
  | .num v => Int32.ofInt v
  | .add _ (.num v) => Int32.ofInt v
  | _ => 0
def lwho (t : Tm) : Nat := match t with
  | .add (.num w) _ => w.toNat
  | _ => 0
/-- a line tells of customs -/
def tel1 (R : Nat) (L : Ln) (G : xp_F) : xp_F := if L.1 = 5 then xm_u2 G 17 (4 * R + lwho L.2.1) (lnum L.2.1) else if L.1 = 6 then xm_u2 G 15 R (lnum L.2.1) else if L.1 = 7 then xm_u2 G 16 R (lnum L.2.1) else G
/-- customs anew -/
def sp_cus (F : xp_F) (R : Nat) : xp_F := xp_it (fun w G => xm_u2 G 17 (4 * R + w) 0) 0 4 (xm_u2 (xm_u2 F 15 R 0) 16 R 20)
def sp_tel (R : Nat) (L : Nat → Ln) (F : xp_F) (m : Nat) : xp_F := xp_up (fun j G => tel1 R (L j) G) (sp_cus F R) m
section MTK
variable {d : Nat} {h : xm_H} {M : Nat} {F F0 : xp_F}
theorem tel1_ap {R : Nat} {L : Ln} {G : xp_F} {o k : Nat} (ho : ¬ (15 ≤ o ∧ o ≤ 17)) : tel1 R L G o k = G o k := by
  unfold tel1
  split
  · rw [u2_ap, if_neg (by omega)]
  · split
    · rw [u2_ap, if_neg (by omega)]
    · split
      · rw [u2_ap, if_neg (by omega)]
      · rfl
theorem tel1_cg {R : Nat} {L : Ln} {G H : xp_F} (e : ∀ o k, 15 ≤ o ∧ o ≤ 17 → G o k = H o k) : ∀ o k, 15 ≤ o ∧ o ≤ 17 → tel1 R L G o k = tel1 R L H o k := by
  intro o k ho
  unfold tel1
  split
  · rw [u2_ap, u2_ap, e o k ho]
  · split
    · rw [u2_ap, u2_ap, e o k ho]
    · split
      · rw [u2_ap, u2_ap, e o k ho]
      · exact e o k ho
/-- all lines as laid -/
def LnS (F : xp_F) (m : Nat) (L : Nat → Ln) (s : Nat) : Prop := ∃ B : Nat → Nat, B m = s ∧ ∀ j, j < m → B (j + 1) ≤ s ∧ FL F j (L j) (B j) (B (j + 1))
/-- what a line was told of numbers -/
theorem FB.tel {G : xp_F} {j : Nat} {k : Int32} {L : Ln} {b e : Nat} (a : FB G j k L b e) : (k = 5 → G 25 j = Int32.ofNat (lwho L.2.1) ∧ lwho L.2.1 < 4 ∧ G 26 j = lnum L.2.1) ∧ (k = 6 ∨ k = 7 → G 26 j = lnum L.2.1) := by
  constructor
  · intro z
    obtain ⟨w, v, b1, b2, b3, b4, b5⟩ := a.2.2.2.1 z
    rw [b3]
    refine ⟨b4, b1, b5.trans ?_⟩
    show v = Int32.ofInt v.toInt
    rw [Int32.ofInt_toInt]
  · intro z
    obtain ⟨v, b1, b2, b3⟩ := a.2.2.2.2 z
    rw [b2]
    refine b3.trans ?_
    show v = Int32.ofInt v.toInt
    rw [Int32.ofInt_toInt]
/-- where rules R of the model stand -/
def tkR (R o k : Nat) : Prop := (14 ≤ o ∧ o ≤ 16 ∧ k = R) ∨ (o = 17 ∧ 4 * R ≤ k ∧ k < 4 * R + 4) ∨ ((o = 18 ∨ o = 20) ∧ 20 * R ≤ k ∧ k < 20 * R + 20) ∨ (o = 19 ∧ 21 * R ≤ k ∧ k < 21 * R + 21) ∨ (o = 21 ∧ 1220 * R ≤ k ∧ k < 1220 * R + 1220)
theorem c131a (q : MS h M) {r : Int32} (hr : rg r 1) {G : xp_F} {t : List (Option Value)} : ∃ t', xm_run d 131 27 (some (.ref M) :: some (.int r) :: some (.int 0) :: t) [] (xp_m h M G) = xm_run d 131 49 (some (.ref M) :: some (.int r) :: some (.int 4) :: t') [] (xp_m h M (xp_it (fun w G => xm_u2 G 17 (4 * r.toNatClampNeg + w) 0) 0 4 G)) := by
  have e := rg_tc hr
  have h2 := hr.2
  obtain ⟨t', e1, -⟩ := xp_loop (P := fun k G t => xm_run d 131 27 (some (.ref M) :: some (.int r) :: some (.int (Int32.ofNat k)) :: t) [] (xp_m h M G)) (n := 4) (fun _ _ => True) (f := fun w G => xm_u2 G 17 (4 * r.toNatClampNeg + w) 0) (fun k G t hk _ => by
    have c0 := lt_nat hk (by omega)
    have c0 : ¬ (4 : Int32) ≤ Int32.ofNat k := c0
    have i1 := ix2 (c := 4) (C := 4) (l := k) (T := 8) hr.1 rfl (by omega) (by decide)
    refine ⟨t, ?_, trivial⟩
    show xm_run _ _ _ _ _ _ = _
    rw [r131_27]
    simp only [ite_not, ite_self, w8_nil, ok01, ite10, rf_rv, rf_ref, rf_cat, rf_lk2, rf_some, rf_none, w_add, w_cons, cr_int, cr_long, cr_ref, cr_null, is_ref, is_null, l2_int, l2_ref, l2_null, l2_none, ent_nil, ent_int, ent_ref, ent_null, ent_rf, ent_long, ok_0, ok_1, af_ret, af_void, List.tail_cons, List.tail_nil, Nat.reduceAdd, Nat.reduceLeDiff, not_false_eq_true, not_true_eq_false, and_self, and_true, true_and, ne_eq, or_true, true_or, or_false, false_or, eq_self, Nat.reduceEqDiff, ↓reduceIte, false_and, and_false, Nat.le_refl, Nat.zero_le, nz_1, nz_2, nz_3, nz_4, nz_5, nz_6, nz_8, nz_10, nz_12, nz_20, nz_30, nz_60, nz_100, mp_B, mp_Z, mp_S, mp_C, mp_K, mp_N, mp_L, mp_R, mp_I, mp_I0, mp_s, mp_s0, u2_ap, sp_isLedge, sp_isLadder, sp_isPerson, sp_isLiving, sp_isLot, sp_isThere, sp_isSpan, ms_K q, ms_B q, ms_f18 q, ms_f19 q, ms_f20 q, ms_f21 q, ms_f22 q, ms_f26 q, ms_f23 q, ms_f27 q, ms_f24 q, ms_f28 q, ms_f29 q, ms_f30 q, ms_f25 q, ms_f31 q, r131_28, r131_32, r131_33, r131_36, r131_37, r131_38, r131_39, r131_40, r131_41, r131_42, r131_43, r131_46, r131_29, c0, i1, nat_succ]) 4 0 G t (Nat.zero_add _) trivial
  rw [show Int32.ofNat 0 = (0 : Int32) from rfl] at e1
  refine ⟨t', e1.trans ?_⟩
  show xm_run d 131 27 (some (.ref M) :: some (.int r) :: some (.int 4) :: t') [] _ = _
  rw [r131_27]
  have c4 : (4 : Int32) ≤ 4 := by decide
  simp only [ite_not, ite_self, w8_nil, ok01, ite10, rf_rv, rf_ref, rf_cat, rf_lk2, rf_some, rf_none, w_add, w_cons, cr_int, cr_long, cr_ref, cr_null, is_ref, is_null, l2_int, l2_ref, l2_null, l2_none, ent_nil, ent_int, ent_ref, ent_null, ent_rf, ent_long, ok_0, ok_1, af_ret, af_void, List.tail_cons, List.tail_nil, Nat.reduceAdd, Nat.reduceLeDiff, not_false_eq_true, not_true_eq_false, and_self, and_true, true_and, ne_eq, or_true, true_or, or_false, false_or, eq_self, Nat.reduceEqDiff, ↓reduceIte, false_and, and_false, Nat.le_refl, Nat.zero_le, nz_1, nz_2, nz_3, nz_4, nz_5, nz_6, nz_8, nz_10, nz_12, nz_20, nz_30, nz_60, nz_100, mp_B, mp_Z, mp_S, mp_C, mp_K, mp_N, mp_L, mp_R, mp_I, mp_I0, mp_s, mp_s0, u2_ap, sp_isLedge, sp_isLadder, sp_isPerson, sp_isLiving, sp_isLot, sp_isThere, sp_isSpan, ms_K q, ms_B q, ms_f18 q, ms_f19 q, ms_f20 q, ms_f21 q, ms_f22 q, ms_f26 q, ms_f23 q, ms_f27 q, ms_f24 q, ms_f28 q, ms_f29 q, ms_f30 q, ms_f25 q, ms_f31 q, r131_28, r131_32, r131_33, r131_36, r131_37, r131_38, r131_39, r131_40, r131_41, r131_42, r131_43, r131_46, r131_29, c4]
/-- behind j lines -/
def tk2 (F G1 : xp_F) (R : Nat) (L : Nat → Ln) (j : Nat) (G : xp_F) : Prop := (∀ i, i < j → G 18 (20 * R + i) = (L i).1 ∧ G 19 (21 * R + i) = F 23 i ∧ G 20 (20 * R + i) = F 24 i) ∧ (∀ o k, 15 ≤ o ∧ o ≤ 17 → G o k = xp_up (fun j G => tel1 R (L j) G) G1 j o k) ∧ (∀ o k, ¬ (15 ≤ o ∧ o ≤ 17) → (o = 14 ∨ ¬ tkR R o k) → G o k = G1 o k)
theorem c131b (q : MS h M) {r : Int32} (hr : rg r 1) {m s : Nat} {L : Nat → Ln} (m20 : m ≤ 20) (hl : LnS F m L s) (hm : F 0 34 = Int32.ofNat m) {G1 : xp_F} (f1 : ∀ o k, o = 0 ∨ (22 ≤ o ∧ o ≤ 27) → G1 o k = F o k) {t : List (Option Value)} : ∃ G t', xm_run d 131 51 (some (.ref M) :: some (.int r) :: some (.int 0) :: t) [] (xp_m h M G1) = xm_run d 131 193 (some (.ref M) :: some (.int r) :: some (.int (Int32.ofNat m)) :: t') [] (xp_m h M G) ∧ tk2 F G1 r.toNatClampNeg L m G := by
  have e := rg_tc hr
  have h2 := hr.2
  obtain ⟨B, hB, hL⟩ := hl
  obtain ⟨G, t', e1, tk⟩ := xp_loop2 (P := fun k G t => xm_run d 131 51 (some (.ref M) :: some (.int r) :: some (.int (Int32.ofNat k)) :: t) [] (xp_m h M G)) (n := m) (fun j G => tk2 F G1 r.toNatClampNeg L j G) (fun k G t hk tk => by
    have c0 := lt_nat hk (by omega)
    obtain ⟨i1, e1⟩ := in_nat (show k < 20 by omega) (by decide)
    obtain ⟨i2, e2⟩ := in_nat (show k < 21 by omega) (by decide)
    obtain ⟨⟨a1, a2⟩, ⟨b1, b2⟩, -⟩ := ix_line (i := k) hr (by omega)
    obtain ⟨l1, fl1, fl2, fl3, fb⟩ := hL k hk
    obtain ⟨t5, t6⟩ := fb.tel
    have nt : ∀ o k', o = 0 ∨ (22 ≤ o ∧ o ≤ 27) → G o k' = F o k' := fun o k' ho => (tk.2.2 o k' (by omega) (by unfold tkR; omega)).trans (f1 o k' ho)
    have g34 := (nt 0 34 (by omega)).trans hm
    have g22 := (nt 22 k (by omega)).trans fl1
    have g23 := nt 23 k (by omega)
    have g24 := nt 24 k (by omega)
    have g25 := nt 25 k (by omega)
    have g26 := nt 26 k (by omega)
    refine ⟨tel1 r.toNatClampNeg (L k) (xm_u2 (xm_u2 (xm_u2 G 18 (20 * r.toNatClampNeg + k) (L k).1) 19 (21 * r.toNatClampNeg + k) (F 23 k)) 20 (20 * r.toNatClampNeg + k) (F 24 k)), t, ?_, ⟨fun i hi => ?_, fun o k' ho => ?_, fun o k' ho hR => ?_⟩⟩
    · show xm_run _ _ _ _ _ _ = _
      rw [r131_51]
      by_cases c5 : (L k).1 = 5
      · obtain ⟨w1, w2, w3⟩ := t5 c5
        have ew : tel1 r.toNatClampNeg (L k) (xm_u2 (xm_u2 (xm_u2 G 18 (20 * r.toNatClampNeg + k) (L k).1) 19 (21 * r.toNatClampNeg + k) (F 23 k)) 20 (20 * r.toNatClampNeg + k) (F 24 k)) = xm_u2 (xm_u2 (xm_u2 (xm_u2 G 18 (20 * r.toNatClampNeg + k) 5) 19 (21 * r.toNatClampNeg + k) (F 23 k)) 20 (20 * r.toNatClampNeg + k) (F 24 k)) 17 (4 * r.toNatClampNeg + lwho (L k).2.1) (lnum (L k).2.1) := by
          unfold tel1
          rw [if_pos c5, c5]
        rw [ew]
        rw [c5] at g22
        have i3 := ix2 (c := 4) (C := 4) (l := lwho (L k).2.1) (T := 8) hr.1 rfl (by omega) (by decide)
        have n56 : ¬ (5 : Int32) = 6 := by decide
        have n57 : ¬ (5 : Int32) = 7 := by decide
        simp only [ite_not, ite_self, w8_nil, ok01, ite10, rf_rv, rf_ref, rf_cat, rf_lk2, rf_some, rf_none, w_add, w_cons, cr_int, cr_long, cr_ref, cr_null, is_ref, is_null, l2_int, l2_ref, l2_null, l2_none, ent_nil, ent_int, ent_ref, ent_null, ent_rf, ent_long, ok_0, ok_1, af_ret, af_void, List.tail_cons, List.tail_nil, Nat.reduceAdd, Nat.reduceLeDiff, not_false_eq_true, not_true_eq_false, and_self, and_true, true_and, ne_eq, or_true, true_or, or_false, false_or, eq_self, Nat.reduceEqDiff, ↓reduceIte, false_and, and_false, Nat.le_refl, Nat.zero_le, nz_1, nz_2, nz_3, nz_4, nz_5, nz_6, nz_8, nz_10, nz_12, nz_20, nz_30, nz_60, nz_100, mp_B, mp_Z, mp_S, mp_C, mp_K, mp_N, mp_L, mp_R, mp_I, mp_I0, mp_s, mp_s0, u2_ap, sp_isLedge, sp_isLadder, sp_isPerson, sp_isLiving, sp_isLot, sp_isThere, sp_isSpan, ms_K q, ms_B q, ms_f18 q, ms_f19 q, ms_f20 q, ms_f21 q, ms_f22 q, ms_f26 q, ms_f23 q, ms_f27 q, ms_f24 q, ms_f28 q, ms_f29 q, ms_f30 q, ms_f25 q, ms_f31 q, r131_52, r131_53, r131_59, r131_60, r131_63, r131_65, r131_66, r131_67, r131_68, r131_69, r131_70, r131_73, r131_74, r131_75, r131_76, r131_77, r131_80, r131_82, r131_83, r131_84, r131_85, r131_86, r131_87, r131_90, r131_91, r131_92, r131_93, r131_94, r131_97, r131_99, r131_100, r131_101, r131_102, r131_103, r131_104, r131_107, r131_108, r131_109, r131_110, r131_111, r131_114, r131_115, r131_116, r131_120, r131_121, r131_124, r131_125, r131_126, r131_127, r131_128, r131_131, r131_132, r131_133, r131_134, r131_135, r131_138, r131_139, r131_140, r131_141, r131_142, r131_145, r131_146, r131_147, r131_152, r131_153, r131_156, r131_157, r131_158, r131_161, r131_162, r131_163, r131_164, r131_165, r131_168, r131_169, r131_170, r131_175, r131_176, r131_179, r131_180, r131_181, r131_184, r131_185, r131_186, r131_187, r131_190, r131_56, r131_117, r131_149, r131_172, g34, c0, i1, e1, i2, e2, a1, a2, b1, b2, g22, g23, g24, g25, g26, w1, w3, i3, n56, n57, nat_succ]
      · by_cases c6 : (L k).1 = 6
        · have w3 := t6 (Or.inl c6)
          have ew : tel1 r.toNatClampNeg (L k) (xm_u2 (xm_u2 (xm_u2 G 18 (20 * r.toNatClampNeg + k) (L k).1) 19 (21 * r.toNatClampNeg + k) (F 23 k)) 20 (20 * r.toNatClampNeg + k) (F 24 k)) = xm_u2 (xm_u2 (xm_u2 (xm_u2 G 18 (20 * r.toNatClampNeg + k) 6) 19 (21 * r.toNatClampNeg + k) (F 23 k)) 20 (20 * r.toNatClampNeg + k) (F 24 k)) 15 r.toNatClampNeg (lnum (L k).2.1) := by
            unfold tel1
            rw [if_neg c5, if_pos c6, c6]
          rw [ew]
          rw [c6] at g22
          have i3 := rg_in (N := 2) hr (by omega)
          have n65 : ¬ (6 : Int32) = 5 := by decide
          have n67 : ¬ (6 : Int32) = 7 := by decide
          simp only [ite_not, ite_self, w8_nil, ok01, ite10, rf_rv, rf_ref, rf_cat, rf_lk2, rf_some, rf_none, w_add, w_cons, cr_int, cr_long, cr_ref, cr_null, is_ref, is_null, l2_int, l2_ref, l2_null, l2_none, ent_nil, ent_int, ent_ref, ent_null, ent_rf, ent_long, ok_0, ok_1, af_ret, af_void, List.tail_cons, List.tail_nil, Nat.reduceAdd, Nat.reduceLeDiff, not_false_eq_true, not_true_eq_false, and_self, and_true, true_and, ne_eq, or_true, true_or, or_false, false_or, eq_self, Nat.reduceEqDiff, ↓reduceIte, false_and, and_false, Nat.le_refl, Nat.zero_le, nz_1, nz_2, nz_3, nz_4, nz_5, nz_6, nz_8, nz_10, nz_12, nz_20, nz_30, nz_60, nz_100, mp_B, mp_Z, mp_S, mp_C, mp_K, mp_N, mp_L, mp_R, mp_I, mp_I0, mp_s, mp_s0, u2_ap, sp_isLedge, sp_isLadder, sp_isPerson, sp_isLiving, sp_isLot, sp_isThere, sp_isSpan, ms_K q, ms_B q, ms_f18 q, ms_f19 q, ms_f20 q, ms_f21 q, ms_f22 q, ms_f26 q, ms_f23 q, ms_f27 q, ms_f24 q, ms_f28 q, ms_f29 q, ms_f30 q, ms_f25 q, ms_f31 q, r131_52, r131_53, r131_59, r131_60, r131_63, r131_65, r131_66, r131_67, r131_68, r131_69, r131_70, r131_73, r131_74, r131_75, r131_76, r131_77, r131_80, r131_82, r131_83, r131_84, r131_85, r131_86, r131_87, r131_90, r131_91, r131_92, r131_93, r131_94, r131_97, r131_99, r131_100, r131_101, r131_102, r131_103, r131_104, r131_107, r131_108, r131_109, r131_110, r131_111, r131_114, r131_115, r131_116, r131_120, r131_121, r131_124, r131_125, r131_126, r131_127, r131_128, r131_131, r131_132, r131_133, r131_134, r131_135, r131_138, r131_139, r131_140, r131_141, r131_142, r131_145, r131_146, r131_147, r131_152, r131_153, r131_156, r131_157, r131_158, r131_161, r131_162, r131_163, r131_164, r131_165, r131_168, r131_169, r131_170, r131_175, r131_176, r131_179, r131_180, r131_181, r131_184, r131_185, r131_186, r131_187, r131_190, r131_56, r131_117, r131_149, r131_172, g34, c0, i1, e1, i2, e2, a1, a2, b1, b2, g22, g23, g24, g26, w3, i3, n65, n67, nat_succ]
        · by_cases c7 : (L k).1 = 7
          · have w3 := t6 (Or.inr c7)
            have ew : tel1 r.toNatClampNeg (L k) (xm_u2 (xm_u2 (xm_u2 G 18 (20 * r.toNatClampNeg + k) (L k).1) 19 (21 * r.toNatClampNeg + k) (F 23 k)) 20 (20 * r.toNatClampNeg + k) (F 24 k)) = xm_u2 (xm_u2 (xm_u2 (xm_u2 G 18 (20 * r.toNatClampNeg + k) 7) 19 (21 * r.toNatClampNeg + k) (F 23 k)) 20 (20 * r.toNatClampNeg + k) (F 24 k)) 16 r.toNatClampNeg (lnum (L k).2.1) := by
              unfold tel1
              rw [if_neg c5, if_neg c6, if_pos c7, c7]
            rw [ew]
            rw [c7] at g22
            have i3 := rg_in (N := 2) hr (by omega)
            have n75 : ¬ (7 : Int32) = 5 := by decide
            have n76 : ¬ (7 : Int32) = 6 := by decide
            simp only [ite_not, ite_self, w8_nil, ok01, ite10, rf_rv, rf_ref, rf_cat, rf_lk2, rf_some, rf_none, w_add, w_cons, cr_int, cr_long, cr_ref, cr_null, is_ref, is_null, l2_int, l2_ref, l2_null, l2_none, ent_nil, ent_int, ent_ref, ent_null, ent_rf, ent_long, ok_0, ok_1, af_ret, af_void, List.tail_cons, List.tail_nil, Nat.reduceAdd, Nat.reduceLeDiff, not_false_eq_true, not_true_eq_false, and_self, and_true, true_and, ne_eq, or_true, true_or, or_false, false_or, eq_self, Nat.reduceEqDiff, ↓reduceIte, false_and, and_false, Nat.le_refl, Nat.zero_le, nz_1, nz_2, nz_3, nz_4, nz_5, nz_6, nz_8, nz_10, nz_12, nz_20, nz_30, nz_60, nz_100, mp_B, mp_Z, mp_S, mp_C, mp_K, mp_N, mp_L, mp_R, mp_I, mp_I0, mp_s, mp_s0, u2_ap, sp_isLedge, sp_isLadder, sp_isPerson, sp_isLiving, sp_isLot, sp_isThere, sp_isSpan, ms_K q, ms_B q, ms_f18 q, ms_f19 q, ms_f20 q, ms_f21 q, ms_f22 q, ms_f26 q, ms_f23 q, ms_f27 q, ms_f24 q, ms_f28 q, ms_f29 q, ms_f30 q, ms_f25 q, ms_f31 q, r131_52, r131_53, r131_59, r131_60, r131_63, r131_65, r131_66, r131_67, r131_68, r131_69, r131_70, r131_73, r131_74, r131_75, r131_76, r131_77, r131_80, r131_82, r131_83, r131_84, r131_85, r131_86, r131_87, r131_90, r131_91, r131_92, r131_93, r131_94, r131_97, r131_99, r131_100, r131_101, r131_102, r131_103, r131_104, r131_107, r131_108, r131_109, r131_110, r131_111, r131_114, r131_115, r131_116, r131_120, r131_121, r131_124, r131_125, r131_126, r131_127, r131_128, r131_131, r131_132, r131_133, r131_134, r131_135, r131_138, r131_139, r131_140, r131_141, r131_142, r131_145, r131_146, r131_147, r131_152, r131_153, r131_156, r131_157, r131_158, r131_161, r131_162, r131_163, r131_164, r131_165, r131_168, r131_169, r131_170, r131_175, r131_176, r131_179, r131_180, r131_181, r131_184, r131_185, r131_186, r131_187, r131_190, r131_56, r131_117, r131_149, r131_172, g34, c0, i1, e1, i2, e2, a1, a2, b1, b2, g22, g23, g24, g26, w3, i3, n75, n76, nat_succ]
          · have ew : tel1 r.toNatClampNeg (L k) (xm_u2 (xm_u2 (xm_u2 G 18 (20 * r.toNatClampNeg + k) (L k).1) 19 (21 * r.toNatClampNeg + k) (F 23 k)) 20 (20 * r.toNatClampNeg + k) (F 24 k)) = xm_u2 (xm_u2 (xm_u2 G 18 (20 * r.toNatClampNeg + k) (L k).1) 19 (21 * r.toNatClampNeg + k) (F 23 k)) 20 (20 * r.toNatClampNeg + k) (F 24 k) := by
              unfold tel1
              rw [if_neg c5, if_neg c6, if_neg c7]
            rw [ew]
            simp only [ite_not, ite_self, w8_nil, ok01, ite10, rf_rv, rf_ref, rf_cat, rf_lk2, rf_some, rf_none, w_add, w_cons, cr_int, cr_long, cr_ref, cr_null, is_ref, is_null, l2_int, l2_ref, l2_null, l2_none, ent_nil, ent_int, ent_ref, ent_null, ent_rf, ent_long, ok_0, ok_1, af_ret, af_void, List.tail_cons, List.tail_nil, Nat.reduceAdd, Nat.reduceLeDiff, not_false_eq_true, not_true_eq_false, and_self, and_true, true_and, ne_eq, or_true, true_or, or_false, false_or, eq_self, Nat.reduceEqDiff, ↓reduceIte, false_and, and_false, Nat.le_refl, Nat.zero_le, nz_1, nz_2, nz_3, nz_4, nz_5, nz_6, nz_8, nz_10, nz_12, nz_20, nz_30, nz_60, nz_100, mp_B, mp_Z, mp_S, mp_C, mp_K, mp_N, mp_L, mp_R, mp_I, mp_I0, mp_s, mp_s0, u2_ap, sp_isLedge, sp_isLadder, sp_isPerson, sp_isLiving, sp_isLot, sp_isThere, sp_isSpan, ms_K q, ms_B q, ms_f18 q, ms_f19 q, ms_f20 q, ms_f21 q, ms_f22 q, ms_f26 q, ms_f23 q, ms_f27 q, ms_f24 q, ms_f28 q, ms_f29 q, ms_f30 q, ms_f25 q, ms_f31 q, r131_52, r131_53, r131_59, r131_60, r131_63, r131_65, r131_66, r131_67, r131_68, r131_69, r131_70, r131_73, r131_74, r131_75, r131_76, r131_77, r131_80, r131_82, r131_83, r131_84, r131_85, r131_86, r131_87, r131_90, r131_91, r131_92, r131_93, r131_94, r131_97, r131_99, r131_100, r131_101, r131_102, r131_103, r131_104, r131_107, r131_108, r131_109, r131_110, r131_111, r131_114, r131_115, r131_116, r131_120, r131_121, r131_124, r131_125, r131_126, r131_127, r131_128, r131_131, r131_132, r131_133, r131_134, r131_135, r131_138, r131_139, r131_140, r131_141, r131_142, r131_145, r131_146, r131_147, r131_152, r131_153, r131_156, r131_157, r131_158, r131_161, r131_162, r131_163, r131_164, r131_165, r131_168, r131_169, r131_170, r131_175, r131_176, r131_179, r131_180, r131_181, r131_184, r131_185, r131_186, r131_187, r131_190, r131_56, r131_117, r131_149, r131_172, g34, c0, i1, e1, i2, e2, a1, a2, b1, b2, g22, g23, g24, c5, c6, c7, nat_succ]
    · rw [tel1_ap (by omega), tel1_ap (by omega), tel1_ap (by omega)]
      simp only [u2_ap, Nat.reduceEqDiff, false_and, true_and, ↓reduceIte]
      by_cases ci : i = k
      · subst ci
        rw [if_pos rfl, if_pos rfl, if_pos rfl]
        exact ⟨rfl, rfl, rfl⟩
      · rw [if_neg (by omega), if_neg (by omega), if_neg (by omega)]
        exact tk.1 i (by omega)
    · refine (tel1_cg (H := xp_up (fun j G => tel1 r.toNatClampNeg (L j) G) G1 k) (fun o' k'' ho' => ?_) o k' ho)
      rw [u2_ap, if_neg (by omega), u2_ap, if_neg (by omega), u2_ap, if_neg (by omega)]
      exact tk.2.1 o' k'' ho'
    · unfold tkR at hR
      rw [tel1_ap ho, u2_ap, if_neg (by omega), u2_ap, if_neg (by omega), u2_ap, if_neg (by omega)]
      exact tk.2.2 o k' ho (by unfold tkR; omega)) m 0 G1 t (Nat.zero_add _) ⟨fun i hi => absurd hi (by omega), fun o k ho => rfl, fun o k _ _ => rfl⟩
  rw [show Int32.ofNat 0 = (0 : Int32) from rfl] at e1
  have g34 := ((tk.2.2 0 34 (by omega) (by unfold tkR; omega)).trans (f1 0 34 (by omega))).trans hm
  refine ⟨G, t', e1.trans ?_, tk⟩
  rw [r131_51]
  have c0 : Int32.ofNat m ≤ Int32.ofNat m := Int32.le_refl _
  simp only [ite_not, ite_self, w8_nil, ok01, ite10, rf_rv, rf_ref, rf_cat, rf_lk2, rf_some, rf_none, w_add, w_cons, cr_int, cr_long, cr_ref, cr_null, is_ref, is_null, l2_int, l2_ref, l2_null, l2_none, ent_nil, ent_int, ent_ref, ent_null, ent_rf, ent_long, ok_0, ok_1, af_ret, af_void, List.tail_cons, List.tail_nil, Nat.reduceAdd, Nat.reduceLeDiff, not_false_eq_true, not_true_eq_false, and_self, and_true, true_and, ne_eq, or_true, true_or, or_false, false_or, eq_self, Nat.reduceEqDiff, ↓reduceIte, false_and, and_false, Nat.le_refl, Nat.zero_le, nz_1, nz_2, nz_3, nz_4, nz_5, nz_6, nz_8, nz_10, nz_12, nz_20, nz_30, nz_60, nz_100, mp_B, mp_Z, mp_S, mp_C, mp_K, mp_N, mp_L, mp_R, mp_I, mp_I0, mp_s, mp_s0, u2_ap, sp_isLedge, sp_isLadder, sp_isPerson, sp_isLiving, sp_isLot, sp_isThere, sp_isSpan, ms_K q, ms_B q, ms_f18 q, ms_f19 q, ms_f20 q, ms_f21 q, ms_f22 q, ms_f26 q, ms_f23 q, ms_f27 q, ms_f24 q, ms_f28 q, ms_f29 q, ms_f30 q, ms_f25 q, ms_f31 q, r131_52, r131_53, r131_56, g34, c0]
end MTK
