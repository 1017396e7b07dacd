/-! the model's contracts, 12: a term's steps run -/
set_option maxRecDepth 100000
section M12
variable {d : Nat} {h : xm_H} {M : Nat} {F : xp_F}
/-- the steps of the rules r -/
def cd2 (F : xp_F) (r : Nat) (i : Nat) : Int32 × Int32 := (F 21 (1220 * r + 2 * i), F 21 (1220 * r + 2 * i + 1))
/-- but for the pile from n on the same -/
def pq (n : Nat) (F G : xp_F) : Prop := (∀ o k, ¬ o = 29 → G o k = F o k) ∧ ∀ k, k < n → G 29 k = F 29 k
theorem pq.rf {n : Nat} : pq n F F := ⟨fun _ _ _ => rfl, fun _ _ => rfl⟩
theorem pq.tr {n m : Nat} {G H : xp_F} (a : pq n F G) (b : pq m G H) (hm : n ≤ m) : pq n F H := ⟨fun o k ho => (b.1 o k ho).trans (a.1 o k ho), fun k hk => (b.2 k (by omega)).trans (a.2 k hk)⟩
theorem pq.st {n : Nat} {v : Int32} : pq n F (xm_u2 F 29 n v) := by
  refine ⟨fun o k ho => ?_, fun k hk => ?_⟩
  · rw [u2_ap, if_neg (fun z => ho z.1)]
  · rw [u2_ap, if_neg (fun z => by have := z.2; omega)]
theorem pq.has {n l : Nat} {G : xp_F} (a : pq n F G) : sp_has G l = sp_has F l := by
  funext k
  unfold sp_has
  rw [a.1 0 0 (by decide), a.1 0 1 (by decide), a.1 4 l (by decide), a.1 5 l (by decide), a.1 6 l (by decide)]
theorem pq.cd {n r : Nat} {G : xp_F} (a : pq n F G) : cd2 G r = cd2 F r := by
  funext i
  unfold cd2
  rw [a.1 21 _ (by decide), a.1 21 _ (by decide)]
theorem ix_step {r : Int32} {i : Nat} (hr : rg r 1) (hi : i < 610) : (xm_in (1220 * r + 2 * Int32.ofNat i) 2440 = true ∧ (1220 * r + 2 * Int32.ofNat i).toNatClampNeg = 1220 * r.toNatClampNeg + 2 * i) ∧ (xm_in (1220 * r + 2 * Int32.ofNat i + 1) 2440 = true ∧ (1220 * r + 2 * Int32.ofNat i + 1).toNatClampNeg = 1220 * r.toNatClampNeg + 2 * i + 1) := by
  have e := rg_tc hr
  have h2 := hr.2
  have a := ix2 (c := 1220) (C := 1220) (l := 2 * i) (T := 2440) hr.1 rfl (by omega) (by decide)
  have b := ix2 (c := 1220) (C := 1220) (l := 2 * i + 1) (T := 2440) hr.1 rfl (by omega) (by decide)
  have e1 : (2 : Int32) * Int32.ofNat i = Int32.ofNat (2 * i) := nat_mul (a := 2)
  have e2 : 1220 * r + 2 * Int32.ofNat i + 1 = 1220 * r + Int32.ofNat (2 * i + 1) := by
    rw [e1, Int32.add_assoc, nat_succ]
  rw [e2, e1]
  exact ⟨a, b⟩
/-- the loop's head -/
noncomputable def ctP (d : Nat) (h : xm_H) (M : Nat) (r l b e : Int32) (i n : Nat) (F : xp_F) (t : List (Option Value)) : xm_V := xm_run (d + 3) 136 6 (some (.ref M) :: some (.int r) :: some (.int l) :: some (.int b) :: some (.int e) :: some (.int (Int32.ofNat n)) :: some (.int (Int32.ofNat i)) :: t) [] (xp_m h M F)
theorem le9 {k : Nat} (hk : k < 9) : ¬ (9 : Int32) ≤ Int32.ofNat k := by
  rw [Int32.le_iff_toInt_le, ti_nat (by omega), show (9 : Int32).toInt = 9 from rfl]
  omega
theorem lt_nat {a b : Nat} (h : a < b) (hb : b < 2147483648) : ¬ Int32.ofNat b ≤ Int32.ofNat a := by
  rw [Int32.le_iff_toInt_le, ti_nat hb, ti_nat (by omega)]
  omega
theorem ct_known (q : MS h M) {r l b : Int32} (hr : rg r 1) (hl : xm_in l 12 = true) {e i n : Nat} (he : e ≤ 610) (hi : i < e) (hn : n < 620) {s : Nat} (hs : s < 9) (hc : (cd2 F r.toNatClampNeg i).1 = Int32.ofNat s) (t : List (Option Value)) : ∃ t', ctP d h M r l b (Int32.ofNat e) i n F t = ctP d h M r l b (Int32.ofNat e) (i + 1) (n + 1) (xm_u2 F 29 n (sp_known F l.toNatClampNeg (Int32.ofNat s) (cd2 F r.toNatClampNeg i).2)) t' := by
  obtain ⟨⟨a1, a2⟩, a3, a4⟩ := ix_step hr (show i < 610 by omega)
  obtain ⟨n1, n2⟩ := in_nat hn (by decide)
  have c0 := lt_nat hi (by omega)
  have hc2 : F 21 (1220 * r.toNatClampNeg + 2 * i) = Int32.ofNat s := hc
  refine ⟨some (.int (Int32.ofNat s)) :: some (.int (cd2 F r.toNatClampNeg i).2) :: t.tail.tail, ?_⟩
  unfold ctP cd2
  rw [r136_6]
  simp only [ite_not, ite_self, w8_nil, ok01, ite10, rf_rv, rf_ref, rf_cat, rf_lk2, rf_some, rf_none, w_add, w_cons, cr_int, cr_long, cr_ref, cr_null, is_ref, is_null, l2_int, l2_ref, l2_null, l2_none, ent_nil, ent_int, ent_ref, ent_null, ent_rf, ent_long, ok_0, ok_1, af_ret, af_void, List.tail_cons, List.tail_nil, Nat.reduceAdd, Nat.reduceLeDiff, not_false_eq_true, not_true_eq_false, and_self, and_true, true_and, ne_eq, or_true, true_or, or_false, false_or, eq_self, Nat.reduceEqDiff, ↓reduceIte, false_and, and_false, Nat.le_refl, Nat.zero_le, nz_1, nz_2, nz_3, nz_4, nz_5, nz_6, nz_8, nz_10, nz_12, nz_20, nz_30, nz_60, nz_100, mp_B, mp_Z, mp_S, mp_C, mp_K, mp_N, mp_L, mp_R, mp_I, mp_I0, mp_s, mp_s0, u2_ap, sp_isLedge, sp_isLadder, sp_isPerson, sp_isLiving, sp_isLot, sp_isThere, sp_isSpan, ms_K q, ms_B q, ms_f25 q, ms_f33 q, r136_8, r136_13, r136_14, r136_17, r136_20, r136_21, r136_22, r136_23, r136_25, r136_26, r136_27, r136_28, r136_30, r136_31, r136_34, r136_37, r136_38, r136_39, r136_40, r136_42, r136_43, r136_44, r136_45, r136_46, r136_47, r136_49, r136_51, r136_56, r136_57, r136_60, r136_62, r136_63, r136_64, r136_66, r136_68, r136_71, r136_72, r136_75, r136_10, r136_53, r136_165, r136_168, a1, a2, a3, a4, n1, n2, c0, hc2, le9 hs, c137 q hl, nat_succ]
theorem ct_part (q : MS h M) {r l b : Int32} (hr : rg r 1) {e i n : Nat} (he : e ≤ 610) (hi : i < e) (hn : n < 620) {v : Int32} (hv : ¬ v = 0) (hc : (cd2 F r.toNatClampNeg i).1 = 12) (hc1 : (cd2 F r.toNatClampNeg i).2 = v) (t : List (Option Value)) : ∃ t', ctP d h M r l b (Int32.ofNat e) i (n + 1) F t = ctP d h M r l b (Int32.ofNat e) (i + 1) (n + 1) (xm_u2 F 29 n (F 29 n / v)) t' := by
  obtain ⟨⟨a1, a2⟩, a3, a4⟩ := ix_step hr (show i < 610 by omega)
  obtain ⟨n1, n2⟩ := in_nat hn (by decide)
  have c0 := lt_nat hi (by omega)
  have hc2 : F 21 (1220 * r.toNatClampNeg + 2 * i) = 12 := hc
  have hc3 : F 21 (1220 * r.toNatClampNeg + 2 * i + 1) = v := hc1
  have c9 : (9 : Int32) ≤ 12 := by decide
  refine ⟨some (.int 12) :: some (.int v) :: t.tail.tail, ?_⟩
  unfold ctP
  rw [r136_6]
  simp only [ite_not, ite_self, w8_nil, ok01, ite10, rf_rv, rf_ref, rf_cat, rf_lk2, rf_some, rf_none, w_add, w_cons, cr_int, cr_long, cr_ref, cr_null, is_ref, is_null, l2_int, l2_ref, l2_null, l2_none, ent_nil, ent_int, ent_ref, ent_null, ent_rf, ent_long, ok_0, ok_1, af_ret, af_void, List.tail_cons, List.tail_nil, Nat.reduceAdd, Nat.reduceLeDiff, not_false_eq_true, not_true_eq_false, and_self, and_true, true_and, ne_eq, or_true, true_or, or_false, false_or, eq_self, Nat.reduceEqDiff, ↓reduceIte, false_and, and_false, Nat.le_refl, Nat.zero_le, nz_1, nz_2, nz_3, nz_4, nz_5, nz_6, nz_8, nz_10, nz_12, nz_20, nz_30, nz_60, nz_100, mp_B, mp_Z, mp_S, mp_C, mp_K, mp_N, mp_L, mp_R, mp_I, mp_I0, mp_s, mp_s0, u2_ap, sp_isLedge, sp_isLadder, sp_isPerson, sp_isLiving, sp_isLot, sp_isThere, sp_isSpan, ms_K q, ms_B q, ms_f25 q, ms_f33 q, r136_8, r136_13, r136_14, r136_17, r136_20, r136_21, r136_22, r136_23, r136_25, r136_26, r136_27, r136_28, r136_30, r136_31, r136_34, r136_37, r136_38, r136_39, r136_40, r136_42, r136_43, r136_44, r136_45, r136_46, r136_47, r136_49, r136_51, r136_56, r136_57, r136_60, r136_62, r136_63, r136_64, r136_66, r136_68, r136_71, r136_72, r136_75, r136_78, r136_80, r136_85, r136_86, r136_89, r136_91, r136_92, r136_93, r136_94, r136_95, r136_97, r136_98, r136_99, r136_10, r136_53, r136_82, r136_165, r136_168, a1, a2, a3, a4, n1, n2, c0, hc2, hc3, c9, hv, nat_succ, nat_pred]
theorem ct_not (q : MS h M) {r l b : Int32} (hr : rg r 1) {e i n : Nat} (he : e ≤ 610) (hi : i < e) (hn : n < 620) (hc : (cd2 F r.toNatClampNeg i).1 = 16) (t : List (Option Value)) : ∃ t', ctP d h M r l b (Int32.ofNat e) i (n + 1) F t = ctP d h M r l b (Int32.ofNat e) (i + 1) (n + 1) (xm_u2 F 29 n (1 - F 29 n)) t' := by
  obtain ⟨⟨a1, a2⟩, a3, a4⟩ := ix_step hr (show i < 610 by omega)
  obtain ⟨n1, n2⟩ := in_nat hn (by decide)
  have c0 := lt_nat hi (by omega)
  have hc2 : F 21 (1220 * r.toNatClampNeg + 2 * i) = 16 := hc
  have c9 : (9 : Int32) ≤ 16 := by decide
  have c12 : ¬ (16 : Int32) = 12 := by decide
  refine ⟨some (.int 16) :: some (.int (cd2 F r.toNatClampNeg i).2) :: t.tail.tail, ?_⟩
  unfold ctP cd2
  rw [r136_6]
  simp only [ite_not, ite_self, w8_nil, ok01, ite10, rf_rv, rf_ref, rf_cat, rf_lk2, rf_some, rf_none, w_add, w_cons, cr_int, cr_long, cr_ref, cr_null, is_ref, is_null, l2_int, l2_ref, l2_null, l2_none, ent_nil, ent_int, ent_ref, ent_null, ent_rf, ent_long, ok_0, ok_1, af_ret, af_void, List.tail_cons, List.tail_nil, Nat.reduceAdd, Nat.reduceLeDiff, not_false_eq_true, not_true_eq_false, and_self, and_true, true_and, ne_eq, or_true, true_or, or_false, false_or, eq_self, Nat.reduceEqDiff, ↓reduceIte, false_and, and_false, Nat.le_refl, Nat.zero_le, nz_1, nz_2, nz_3, nz_4, nz_5, nz_6, nz_8, nz_10, nz_12, nz_20, nz_30, nz_60, nz_100, mp_B, mp_Z, mp_S, mp_C, mp_K, mp_N, mp_L, mp_R, mp_I, mp_I0, mp_s, mp_s0, u2_ap, sp_isLedge, sp_isLadder, sp_isPerson, sp_isLiving, sp_isLot, sp_isThere, sp_isSpan, ms_K q, ms_B q, ms_f25 q, ms_f33 q, r136_8, r136_13, r136_14, r136_17, r136_20, r136_21, r136_22, r136_23, r136_25, r136_26, r136_27, r136_28, r136_30, r136_31, r136_34, r136_37, r136_38, r136_39, r136_40, r136_42, r136_43, r136_44, r136_45, r136_46, r136_47, r136_49, r136_51, r136_56, r136_57, r136_60, r136_62, r136_63, r136_64, r136_66, r136_68, r136_71, r136_72, r136_75, r136_78, r136_80, r136_85, r136_86, r136_89, r136_91, r136_92, r136_93, r136_94, r136_95, r136_97, r136_98, r136_99, r136_102, r136_104, r136_109, r136_110, r136_113, r136_115, r136_116, r136_117, r136_118, r136_119, r136_122, r136_124, r136_125, r136_126, r136_127, r136_128, r136_129, r136_10, r136_53, r136_82, r136_106, r136_165, r136_168, a1, a2, a3, a4, n1, n2, c0, hc2, c9, c12, nat_succ, nat_pred]
theorem ct_two (q : MS h M) {r l b : Int32} (hr : rg r 1) {e i n : Nat} (he : e ≤ 610) (hi : i < e) (hn : n + 1 < 620) {o v : Int32} (c9 : 9 ≤ o) (c12 : ¬ o = 12) (c16 : ¬ o = 16) (hv : xm_met (d + 2) 138 [.int o, .int (F 29 n), .int (F 29 (n + 1))] (xp_m h M F) = some (.inl (some (.int v)), xp_m h M F)) (hc : (cd2 F r.toNatClampNeg i).1 = o) (t : List (Option Value)) : ∃ t', ctP d h M r l b (Int32.ofNat e) i (n + 2) F t = ctP d h M r l b (Int32.ofNat e) (i + 1) (n + 1) (xm_u2 F 29 n v) t' := by
  obtain ⟨⟨a1, a2⟩, a3, a4⟩ := ix_step hr (show i < 610 by omega)
  obtain ⟨n1, n2⟩ := in_nat (show n < 620 by omega) (by decide)
  obtain ⟨m1, m2⟩ := in_nat hn (by decide)
  have c0 := lt_nat hi (by omega)
  have hc2 : F 21 (1220 * r.toNatClampNeg + 2 * i) = o := hc
  have p1 : Int32.ofNat (n + 2) + (-1) = Int32.ofNat (n + 1) := nat_predi
  refine ⟨some (.int o) :: some (.int (cd2 F r.toNatClampNeg i).2) :: t.tail.tail, ?_⟩
  unfold ctP cd2
  rw [r136_6]
  simp only [ite_not, ite_self, w8_nil, ok01, ite10, rf_rv, rf_ref, rf_cat, rf_lk2, rf_some, rf_none, w_add, w_cons, cr_int, cr_long, cr_ref, cr_null, is_ref, is_null, l2_int, l2_ref, l2_null, l2_none, ent_nil, ent_int, ent_ref, ent_null, ent_rf, ent_long, ok_0, ok_1, af_ret, af_void, List.tail_cons, List.tail_nil, Nat.reduceAdd, Nat.reduceLeDiff, not_false_eq_true, not_true_eq_false, and_self, and_true, true_and, ne_eq, or_true, true_or, or_false, false_or, eq_self, Nat.reduceEqDiff, ↓reduceIte, false_and, and_false, Nat.le_refl, Nat.zero_le, nz_1, nz_2, nz_3, nz_4, nz_5, nz_6, nz_8, nz_10, nz_12, nz_20, nz_30, nz_60, nz_100, mp_B, mp_Z, mp_S, mp_C, mp_K, mp_N, mp_L, mp_R, mp_I, mp_I0, mp_s, mp_s0, u2_ap, sp_isLedge, sp_isLadder, sp_isPerson, sp_isLiving, sp_isLot, sp_isThere, sp_isSpan, ms_K q, ms_B q, ms_f25 q, ms_f33 q, r136_8, r136_13, r136_14, r136_17, r136_20, r136_21, r136_22, r136_23, r136_25, r136_26, r136_27, r136_28, r136_30, r136_31, r136_34, r136_37, r136_38, r136_39, r136_40, r136_42, r136_43, r136_44, r136_45, r136_46, r136_47, r136_49, r136_51, r136_56, r136_57, r136_60, r136_62, r136_63, r136_64, r136_66, r136_68, r136_71, r136_72, r136_75, r136_78, r136_80, r136_85, r136_86, r136_89, r136_91, r136_92, r136_93, r136_94, r136_95, r136_97, r136_98, r136_99, r136_102, r136_104, r136_109, r136_110, r136_113, r136_115, r136_116, r136_117, r136_118, r136_119, r136_122, r136_124, r136_125, r136_126, r136_127, r136_128, r136_129, r136_132, r136_135, r136_136, r136_139, r136_141, r136_142, r136_143, r136_145, r136_146, r136_149, r136_151, r136_152, r136_153, r136_154, r136_155, r136_158, r136_160, r136_161, r136_164, r136_165, r136_168, r136_10, r136_53, r136_82, r136_106, a1, a2, a3, a4, n1, n2, m1, m2, c0, hc2, c9, c12, c16, p1, hv, nat_succ, nat_pred]
end M12
