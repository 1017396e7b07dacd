/-! the model's contracts, 13: a term comes to its value -/
set_option maxRecDepth 100000
section M13
variable {d : Nat} {h : xm_H} {M : Nat} {F : xp_F}
theorem sg_lt {c : Nat → Int32 × Int32} {k : Bool} {t : Tm} (hw : wf k t) : ∀ {b e : Nat}, sg c t b e → b < e := by
  refine wf_ind (P := fun _ t => ∀ {b e : Nat}, sg c t b e → b < e) ?_ ?_ ?_ ?_ ?_ ?_ ?_ t k hw
  · intro v b e h
    have := h.1
    omega
  · intro k _ b e h
    have := h.1
    omega
  · intro a v _ _ ih b e h
    obtain ⟨m, h1, h2, -⟩ := h
    have := ih h1
    omega
  · intro o a b _ _ _ i1 i2 b e h
    obtain ⟨m, n, h1, h2, h3, -⟩ := h
    have := i1 h1
    have := i2 h2
    omega
  · intro a _ ih b e h
    obtain ⟨m, h1, h2, -⟩ := h
    have := ih h1
    omega
  · intro o a b _ _ _ i1 i2 b e h
    obtain ⟨m, n, h1, h2, h3, -⟩ := h
    have := i1 h1
    have := i2 h2
    omega
  · intro o a b _ _ _ i1 i2 b e h
    obtain ⟨m, n, h1, h2, h3, -⟩ := h
    have := i1 h1
    have := i2 h2
    omega
theorem u2_same {F : xp_F} {o n : Nat} {v : Int32} : xm_u2 F o n v o n = v := by
  rw [u2_ap, if_pos ⟨rfl, rfl⟩]
theorem both_and {x y : Int32} (hx : x = 0 ∨ x = 1) (hy : y = 0 ∨ y = 1) : x &&& y = sp_two 17 x y := by
  rcases hx with e | e <;> subst e <;> rcases hy with e | e <;> subst e <;> decide
theorem both_or {x y : Int32} (hx : x = 0 ∨ x = 1) (hy : y = 0 ∨ y = 1) : x ||| y = sp_two 18 x y := by
  rcases hx with e | e <;> subst e <;> rcases hy with e | e <;> subst e <;> decide
theorem c138l {o x y : Int32} (ho : o = 17 ∨ o = 18) (hx : x = 0 ∨ x = 1) (hy : y = 0 ∨ y = 1) : xm_met d 138 [.int o, .int x, .int y] h = some (.inl (some (.int (sp_two o x y))), h) := by
  unfold xm_met
  rcases ho with e | e <;> subst e
  · rw [← both_and hx hy]
    simp only [ite_not, ite_self, w8_nil, ok01, ite10, rf_rv, rf_ref, rf_cat, rf_lk2, rf_some, rf_none, w_add, w_cons, cr_int, cr_long, cr_ref, cr_null, is_ref, is_null, l2_int, l2_ref, l2_null, l2_none, ent_nil, ent_int, ent_ref, ent_null, ent_rf, ent_long, ok_0, ok_1, af_ret, af_void, List.tail_cons, List.tail_nil, Nat.reduceAdd, Nat.reduceLeDiff, not_false_eq_true, not_true_eq_false, and_self, and_true, true_and, ne_eq, or_true, true_or, or_false, false_or, eq_self, Nat.reduceEqDiff, ↓reduceIte, false_and, and_false, Nat.le_refl, Nat.zero_le, nz_1, nz_2, nz_3, nz_4, nz_5, nz_6, nz_8, nz_10, nz_12, nz_20, nz_30, nz_60, nz_100, r138_0, r138_52, r138_53, r138_54, r138_55, r138_56, r138_57, r138_58, r138_59, r138_60, r138_61, r138_62, r138_63, r138_64, r138_65, r138_69, r138_70, r138_73, r138_74, r138_75, r138_76, r138_80, r138_81, r138_84, r138_85, r138_86, r138_87, r138_91, r138_92, r138_95, r138_96, r138_97, r138_98, r138_99, r138_100, r138_101, r138_102, r138_103, r138_104, r138_1, r138_66, r138_77, r138_88, xm_sw, (by decide : ¬ (17 : Int32) = 9), (by decide : ¬ (17 : Int32) = 10), (by decide : ¬ (17 : Int32) = 11), (by decide : ¬ (17 : Int32) = 13), (by decide : ¬ (17 : Int32) = 14), (by decide : ¬ (17 : Int32) = 15)]
  · rw [← both_or hx hy]
    simp only [ite_not, ite_self, w8_nil, ok01, ite10, rf_rv, rf_ref, rf_cat, rf_lk2, rf_some, rf_none, w_add, w_cons, cr_int, cr_long, cr_ref, cr_null, is_ref, is_null, l2_int, l2_ref, l2_null, l2_none, ent_nil, ent_int, ent_ref, ent_null, ent_rf, ent_long, ok_0, ok_1, af_ret, af_void, List.tail_cons, List.tail_nil, Nat.reduceAdd, Nat.reduceLeDiff, not_false_eq_true, not_true_eq_false, and_self, and_true, true_and, ne_eq, or_true, true_or, or_false, false_or, eq_self, Nat.reduceEqDiff, ↓reduceIte, false_and, and_false, Nat.le_refl, Nat.zero_le, nz_1, nz_2, nz_3, nz_4, nz_5, nz_6, nz_8, nz_10, nz_12, nz_20, nz_30, nz_60, nz_100, r138_0, r138_52, r138_53, r138_54, r138_55, r138_56, r138_57, r138_58, r138_59, r138_60, r138_61, r138_62, r138_63, r138_64, r138_65, r138_69, r138_70, r138_73, r138_74, r138_75, r138_76, r138_80, r138_81, r138_84, r138_85, r138_86, r138_87, r138_91, r138_92, r138_95, r138_96, r138_97, r138_98, r138_99, r138_100, r138_101, r138_102, r138_103, r138_104, r138_1, r138_66, r138_77, r138_88, xm_sw, (by decide : ¬ (18 : Int32) = 9), (by decide : ¬ (18 : Int32) = 10), (by decide : ¬ (18 : Int32) = 11), (by decide : ¬ (18 : Int32) = 13), (by decide : ¬ (18 : Int32) = 14), (by decide : ¬ (18 : Int32) = 15), (by decide : ¬ (18 : Int32) = 17)]
theorem ct_run (q : MS h M) {r l b : Int32} (hr : rg r 1) (hl : xm_in l 12 = true) {e : Nat} (he : e ≤ 610) {k : Bool} {t : Tm} (hw : wf k t) : ∀ (i j n : Nat) (F : xp_F) (tl : List (Option Value)), sg (cd2 F r.toNatClampNeg) t i j → j ≤ e → n + (j - i) ≤ 619 →
    ∃ tl' G, ctP d h M r l b (Int32.ofNat e) i n F tl = ctP d h M r l b (Int32.ofNat e) j (n + 1) G tl' ∧ G 29 n = ev (sp_has F l.toNatClampNeg) t ∧ pq n F G := by
  have bin : ∀ (o : Int) (a b' : Tm) (k2 : Bool), wf k2 a → wf k2 b' → (9 ≤ Int32.ofInt o ∧ ¬ Int32.ofInt o = 12 ∧ ¬ Int32.ofInt o = 16) → (∀ s g, xm_met (d + 2) 138 [.int (Int32.ofInt o), .int (ev s a), .int (ev s b')] g = some (.inl (some (.int (sp_two (Int32.ofInt o) (ev s a) (ev s b')))), g)) →
      (∀ (i j n : Nat) (F : xp_F) (tl : List (Option Value)), sg (cd2 F r.toNatClampNeg) a i j → j ≤ e → n + (j - i) ≤ 619 → ∃ tl' G, ctP d h M r l b (Int32.ofNat e) i n F tl = ctP d h M r l b (Int32.ofNat e) j (n + 1) G tl' ∧ G 29 n = ev (sp_has F l.toNatClampNeg) a ∧ pq n F G) →
      (∀ (i j n : Nat) (F : xp_F) (tl : List (Option Value)), sg (cd2 F r.toNatClampNeg) b' i j → j ≤ e → n + (j - i) ≤ 619 → ∃ tl' G, ctP d h M r l b (Int32.ofNat e) i n F tl = ctP d h M r l b (Int32.ofNat e) j (n + 1) G tl' ∧ G 29 n = ev (sp_has F l.toNatClampNeg) b' ∧ pq n F G) →
      ∀ (i j n : Nat) (F : xp_F) (tl : List (Option Value)), sg (cd2 F r.toNatClampNeg) (.mulL o (.add a b')) i j → j ≤ e → n + (j - i) ≤ 619 → ∃ tl' G, ctP d h M r l b (Int32.ofNat e) i n F tl = ctP d h M r l b (Int32.ofNat e) j (n + 1) G tl' ∧ G 29 n = ev (sp_has F l.toNatClampNeg) (.mulL o (.add a b')) ∧ pq n F G := by
    intro o a b' k2 wa wb ho hm ia ib i j n F tl hs hj hn
    obtain ⟨m, m2, s1, s2, s3, s4⟩ := hs
    have l1 := sg_lt wa s1
    have l2 := sg_lt wb s2
    obtain ⟨t1, G1, e1, v1, p1⟩ := ia i m n F tl s1 (by omega) (by omega)
    rw [← p1.cd] at s2
    obtain ⟨t2, G2, e2, v2, p2⟩ := ib m m2 (n + 1) G1 t1 s2 (by omega) (by omega)
    rw [p1.has] at v2
    have v3 : G2 29 n = ev (sp_has F l.toNatClampNeg) a := (p2.2 n (by omega)).trans v1
    have p3 := p1.tr p2 (by omega)
    rw [← p3.cd] at s4
    obtain ⟨t3, e3⟩ := @ct_two d h M G2 q r l b hr e m2 n he (by omega) (by omega) (Int32.ofInt o) (sp_two (Int32.ofInt o) (ev (sp_has F l.toNatClampNeg) a) (ev (sp_has F l.toNatClampNeg) b')) ho.1 ho.2.1 ho.2.2 (by rw [v3, v2]; exact hm _ _) s4 t2
    refine ⟨t3, _, e1.trans (e2.trans (e3.trans ?_)), u2_same, p3.tr pq.st (by omega)⟩
    rw [s3]
    rfl
  refine wf_ind (P := fun _ t => ∀ (i j n : Nat) (F : xp_F) (tl : List (Option Value)), sg (cd2 F r.toNatClampNeg) t i j → j ≤ e → n + (j - i) ≤ 619 → ∃ tl' G, ctP d h M r l b (Int32.ofNat e) i n F tl = ctP d h M r l b (Int32.ofNat e) j (n + 1) G tl' ∧ G 29 n = ev (sp_has F l.toNatClampNeg) t ∧ pq n F G) ?_ ?_ ?_ ?_ ?_ ?_ ?_ t k hw
  · intro v i j n F tl hs hj hn
    obtain ⟨s1, s2, s3⟩ := hs
    subst s1
    obtain ⟨t1, e1⟩ := @ct_known d h M F q r l b hr hl e i n he (by omega) (by omega) 0 (by decide) s2 tl
    refine ⟨t1, _, e1, ?_, pq.st⟩
    rw [u2_same, s3]
    rfl
  · intro k hk i j n F tl hs hj hn
    obtain ⟨s1, s2⟩ := hs
    subst s1
    have hk' : @LT.lt Nat instLTNat k 8 := hk
    obtain ⟨t1, e1⟩ := @ct_known d h M F q r l b hr hl e i n he (by omega) (by omega) (k + 1) (by omega) s2 tl
    refine ⟨t1, _, e1, ?_, pq.st⟩
    rw [u2_same, known_has hk]
    rfl
  · intro a v hv wa ia i j n F tl hs hj hn
    obtain ⟨m, s1, s2, s3, s4⟩ := hs
    subst s2
    have l1 := sg_lt wa s1
    obtain ⟨t1, G1, e1, v1, p1⟩ := ia i m n F tl s1 (by omega) (by omega)
    rw [← p1.cd] at s3 s4
    obtain ⟨t2, e2⟩ := @ct_part d h M G1 q r l b hr e m n he (by omega) (by omega) (Int32.ofInt v) hv s3 s4 t1
    refine ⟨t2, _, e1.trans e2, ?_, p1.tr pq.st (Nat.le_refl _)⟩
    rw [u2_same, v1]
    rfl
  · intro o a b' ho wa wb ia ib
    refine bin o a b' false wa wb ?_ ?_ ia ib
    · rcases ho with z | z | z <;> subst z <;> decide
    · intro s g
      rcases ho with z | z | z <;> subst z
      · exact c138 (Or.inl rfl)
      · exact c138 (Or.inr (Or.inl rfl))
      · exact c138 (Or.inr (Or.inr (Or.inl rfl)))
  · intro a wa ia i j n F tl hs hj hn
    obtain ⟨m, s1, s2, s3⟩ := hs
    subst s2
    have l1 := sg_lt wa s1
    obtain ⟨t1, G1, e1, v1, p1⟩ := ia i m n F tl s1 (by omega) (by omega)
    rw [← p1.cd] at s3
    obtain ⟨t2, e2⟩ := @ct_not d h M G1 q r l b hr e m n he (by omega) (by omega) s3 t1
    refine ⟨t2, _, e1.trans e2, ?_, p1.tr pq.st (Nat.le_refl _)⟩
    rw [u2_same, v1, ev]
    rcases ev01 (s := sp_has F l.toNatClampNeg) wa with z | z <;> rw [z] <;> rfl
  · intro o a b' ho wa wb ia ib
    refine bin o a b' false wa wb ?_ ?_ ia ib
    · rcases ho with z | z | z <;> subst z <;> decide
    · intro s g
      rcases ho with z | z | z <;> subst z
      · exact c138 (Or.inr (Or.inr (Or.inr (Or.inl rfl))))
      · exact c138 (Or.inr (Or.inr (Or.inr (Or.inr (Or.inl rfl)))))
      · exact c138 (Or.inr (Or.inr (Or.inr (Or.inr (Or.inr rfl)))))
  · intro o a b' ho wa wb ia ib
    refine bin o a b' true wa wb ?_ ?_ ia ib
    · rcases ho with z | z <;> subst z <;> decide
    · intro s g
      rcases ho with z | z <;> subst z
      · exact c138l (Or.inl rfl) (ev01 wa) (ev01 wb)
      · exact c138l (Or.inr rfl) (ev01 wa) (ev01 wb)
theorem c136 (q : MS h M) {r l : Int32} (hr : rg r 1) (hl : xm_in l 12 = true) {b e : Nat} (he : e ≤ 610) {k : Bool} {t : Tm} (hw : wf k t) (hs : sg (cd2 F r.toNatClampNeg) t b e) : ∃ G, xm_met (d + 3) 136 [.ref M, .int r, .int l, .int (Int32.ofNat b), .int (Int32.ofNat e)] (xp_m h M F) = some (.inl (some (.int (ev (sp_has F l.toNatClampNeg) t))), xp_m h M G) ∧ pq 0 F G := by
  have l1 := sg_lt hw hs
  obtain ⟨t1, G, e1, v1, p1⟩ := @ct_run d h M q r l (Int32.ofNat b) hr hl e he k t hw b e 0 F [] hs (Nat.le_refl _) (by omega)
  refine ⟨G, ?_, p1⟩
  have c0 : Int32.ofNat e ≤ Int32.ofNat e := Int32.le_refl _
  have z1 : xm_in 0 620 = true := by decide
  unfold ctP at e1
  rw [show Int32.ofNat 0 = (0 : Int32) from rfl] at e1
  unfold xm_met
  simp only [ite_not, ite_self, w8_nil, ok01, ite10, rf_rv, rf_ref, rf_cat, rf_lk2, rf_some, rf_none, w_add, w_cons, cr_int, cr_long, cr_ref, cr_null, is_ref, is_null, l2_int, l2_ref, l2_null, l2_none, ent_nil, ent_int, ent_ref, ent_null, ent_rf, ent_long, ok_0, ok_1, af_ret, af_void, List.tail_cons, List.tail_nil, Nat.reduceAdd, Nat.reduceLeDiff, not_false_eq_true, not_true_eq_false, and_self, and_true, true_and, ne_eq, or_true, true_or, or_false, false_or, eq_self, Nat.reduceEqDiff, ↓reduceIte, false_and, and_false, Nat.le_refl, Nat.zero_le, nz_1, nz_2, nz_3, nz_4, nz_5, nz_6, nz_8, nz_10, nz_12, nz_20, nz_30, nz_60, nz_100, r136_0, r136_1, r136_3, r136_4]
  rw [e1, r136_6]
  simp only [ite_not, ite_self, w8_nil, ok01, ite10, rf_rv, rf_ref, rf_cat, rf_lk2, rf_some, rf_none, w_add, w_cons, cr_int, cr_long, cr_ref, cr_null, is_ref, is_null, l2_int, l2_ref, l2_null, l2_none, ent_nil, ent_int, ent_ref, ent_null, ent_rf, ent_long, ok_0, ok_1, af_ret, af_void, List.tail_cons, List.tail_nil, Nat.reduceAdd, Nat.reduceLeDiff, not_false_eq_true, not_true_eq_false, and_self, and_true, true_and, ne_eq, or_true, true_or, or_false, false_or, eq_self, Nat.reduceEqDiff, ↓reduceIte, false_and, and_false, Nat.le_refl, Nat.zero_le, nz_1, nz_2, nz_3, nz_4, nz_5, nz_6, nz_8, nz_10, nz_12, nz_20, nz_30, nz_60, nz_100, mp_B, mp_Z, mp_S, mp_C, mp_K, mp_N, mp_L, mp_R, mp_I, mp_I0, mp_s, mp_s0, u2_ap, sp_isLedge, sp_isLadder, sp_isPerson, sp_isLiving, sp_isLot, sp_isThere, sp_isSpan, ms_K q, ms_B q, ms_f25 q, ms_f33 q, r136_8, r136_10, r136_171, r136_172, r136_175, r136_176, r136_177, c0, z1, v1, show (0 : Int32).toNatClampNeg = 0 from rfl]
end M13
