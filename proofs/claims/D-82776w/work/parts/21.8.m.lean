/-! the model's contracts, 8: days, looks -/
set_option maxRecDepth 100000
section M8
variable {d : Nat} {h : xm_H} {M : Nat} {F : xp_F}
theorem swarm_0 {l j : Nat} : sp_swarm F l 0 j = F 0 j := by
  unfold sp_swarm
  split <;> simp only [u2_ap, Nat.reduceEqDiff, false_and, ↓reduceIte]
def sp_sw1 (l : Nat) (F : xp_F) : xp_F := if F 5 l = 0 then sp_swarm F l else F
theorem sw1_0 {l j : Nat} : sp_sw1 l F 0 j = F 0 j := by
  unfold sp_sw1
  split
  · exact swarm_0
  · rfl
def sp_rs1 (l : Nat) (F : xp_F) : xp_F := xm_u2 (xm_u2 (xm_u2 (xm_u2 (xm_u2 F 6 l 0) 7 l 0) 8 l 100) 12 l 0) 13 l 0
theorem rs1_0 {l j : Nat} : sp_rs1 l F 0 j = F 0 j := by
  unfold sp_rs1
  simp only [u2_ap, Nat.reduceEqDiff, false_and, ↓reduceIte]
theorem c103b (q : MS h M) {F0 : xp_F} (hn : rg (F0 0 6) 12) (k : Nat) (F : xp_F) (t : List (Option Value)) (hk : k < (F0 0 6).toNatClampNeg) (hi : ∀ j, F 0 j = F0 0 j) : ∃ t', xm_run (d + 3) 103 165 (some (.ref M) :: some (.int (Int32.ofNat k)) :: t) [] (xp_m h M F) = xm_run (d + 3) 103 165 (some (.ref M) :: some (.int (Int32.ofNat (k + 1))) :: t') [] (xp_m h M (sp_sw1 k F)) ∧ ∀ j, sp_sw1 k F 0 j = F0 0 j := by
  have hn' := hn
  rw [← hi 6] at hn'
  obtain ⟨i1, e1, c0, -, -⟩ := lp_k hn (by decide) hk
  rw [← hi 6] at c0
  have es := @c105 d h M F q hn' _ i1
  rw [e1] at es
  refine ⟨t, ?_, fun j => sw1_0.trans (hi j)⟩
  rw [r103_165]
  unfold sp_sw1
  by_cases c1 : F 5 k = 0
  · simp only [ite_not, ite_self, w8_nil, ok01, ite10, rf_rv, rf_ref, rf_cat, rf_lk2, rf_some, rf_none, w_add, w_cons, cr_int, cr_long, cr_ref, cr_null, is_ref, is_null, l2_int, l2_ref, l2_null, l2_none, ent_nil, ent_int, ent_ref, ent_null, ent_rf, ent_long, ok_0, ok_1, af_ret, af_void, List.tail_cons, List.tail_nil, Nat.reduceAdd, Nat.reduceLeDiff, not_false_eq_true, not_true_eq_false, and_self, and_true, true_and, ne_eq, or_true, true_or, or_false, false_or, eq_self, Nat.reduceEqDiff, ↓reduceIte, false_and, and_false, Nat.le_refl, Nat.zero_le, nz_1, nz_2, nz_3, nz_4, nz_5, nz_6, nz_8, nz_10, nz_12, nz_20, nz_30, nz_60, nz_100, mp_B, mp_Z, mp_S, mp_C, mp_K, mp_N, mp_L, mp_R, mp_I, mp_I0, mp_s, mp_s0, u2_ap, sp_isLedge, sp_isLadder, sp_isPerson, sp_isLiving, sp_isLot, sp_isThere, sp_isSpan, ms_K q, ms_B q, ms_f17 q, ms_f9 q, ms_f12 q, ms_f14 q, ms_f15 q, ms_f10 q, ms_f11 q, ms_f16 q, r103_166, r103_167, r103_173, r103_174, r103_177, r103_178, r103_182, r103_183, r103_184, r103_187, r103_190, r103_170, r103_179, c0, i1, e1, c1, es, nat_succ]
  · simp only [ite_not, ite_self, w8_nil, ok01, ite10, rf_rv, rf_ref, rf_cat, rf_lk2, rf_some, rf_none, w_add, w_cons, cr_int, cr_long, cr_ref, cr_null, is_ref, is_null, l2_int, l2_ref, l2_null, l2_none, ent_nil, ent_int, ent_ref, ent_null, ent_rf, ent_long, ok_0, ok_1, af_ret, af_void, List.tail_cons, List.tail_nil, Nat.reduceAdd, Nat.reduceLeDiff, not_false_eq_true, not_true_eq_false, and_self, and_true, true_and, ne_eq, or_true, true_or, or_false, false_or, eq_self, Nat.reduceEqDiff, ↓reduceIte, false_and, and_false, Nat.le_refl, Nat.zero_le, nz_1, nz_2, nz_3, nz_4, nz_5, nz_6, nz_8, nz_10, nz_12, nz_20, nz_30, nz_60, nz_100, mp_B, mp_Z, mp_S, mp_C, mp_K, mp_N, mp_L, mp_R, mp_I, mp_I0, mp_s, mp_s0, u2_ap, sp_isLedge, sp_isLadder, sp_isPerson, sp_isLiving, sp_isLot, sp_isThere, sp_isSpan, ms_K q, ms_B q, ms_f17 q, ms_f9 q, ms_f12 q, ms_f14 q, ms_f15 q, ms_f10 q, ms_f11 q, ms_f16 q, r103_166, r103_167, r103_173, r103_174, r103_177, r103_178, r103_182, r103_183, r103_184, r103_187, r103_190, r103_170, r103_179, c0, i1, e1, c1, nat_succ]
theorem c103c (q : MS h M) {F0 : xp_F} (hn : rg (F0 0 6) 12) (k : Nat) (F : xp_F) (t : List (Option Value)) (hk : k < (F0 0 6).toNatClampNeg) (hi : ∀ j, F 0 j = F0 0 j) : ∃ t', xm_run (d + 3) 103 195 (some (.ref M) :: some (.int (Int32.ofNat k)) :: t) [] (xp_m h M F) = xm_run (d + 3) 103 195 (some (.ref M) :: some (.int (Int32.ofNat (k + 1))) :: t') [] (xp_m h M (sp_rs1 k F)) ∧ ∀ j, sp_rs1 k F 0 j = F0 0 j := by
  obtain ⟨i1, e1, c0, -, -⟩ := lp_k hn (by decide) hk
  rw [← hi 6] at c0
  refine ⟨t, ?_, fun j => rs1_0.trans (hi j)⟩
  rw [r103_195]
  simp only [ite_not, ite_self, w8_nil, ok01, ite10, rf_rv, rf_ref, rf_cat, rf_lk2, rf_some, rf_none, w_add, w_cons, cr_int, cr_long, cr_ref, cr_null, is_ref, is_null, l2_int, l2_ref, l2_null, l2_none, ent_nil, ent_int, ent_ref, ent_null, ent_rf, ent_long, ok_0, ok_1, af_ret, af_void, List.tail_cons, List.tail_nil, Nat.reduceAdd, Nat.reduceLeDiff, not_false_eq_true, not_true_eq_false, and_self, and_true, true_and, ne_eq, or_true, true_or, or_false, false_or, eq_self, Nat.reduceEqDiff, ↓reduceIte, false_and, and_false, Nat.le_refl, Nat.zero_le, nz_1, nz_2, nz_3, nz_4, nz_5, nz_6, nz_8, nz_10, nz_12, nz_20, nz_30, nz_60, nz_100, mp_B, mp_Z, mp_S, mp_C, mp_K, mp_N, mp_L, mp_R, mp_I, mp_I0, mp_s, mp_s0, u2_ap, sp_isLedge, sp_isLadder, sp_isPerson, sp_isLiving, sp_isLot, sp_isThere, sp_isSpan, ms_K q, ms_B q, ms_f17 q, ms_f9 q, ms_f12 q, ms_f14 q, ms_f15 q, ms_f10 q, ms_f11 q, ms_f16 q, r103_196, r103_197, r103_203, r103_204, r103_207, r103_208, r103_209, r103_210, r103_211, r103_214, r103_215, r103_216, r103_217, r103_218, r103_221, r103_222, r103_224, r103_225, r103_226, r103_229, r103_230, r103_231, r103_231b, r103_232, r103_233, r103_236, r103_237, r103_238, r103_238b, r103_239, r103_242, r103_200, c0, i1, e1, nat_succ]
  rfl
def sp_ends (F : xp_F) : xp_F := xp_it sp_rs1 0 (F 0 6).toNatClampNeg (xp_it sp_sw1 0 (F 0 6).toNatClampNeg (xp_it sp_end1 0 (F 0 6).toNatClampNeg F))
theorem ends_0 {j : Nat} : sp_ends F 0 j = F 0 j := by
  refine it_inv (fun (G : xp_F) => G 0 j = F 0 j) (fun k s h => rs1_0.trans h) _ _ _ ?_
  refine it_inv (fun (G : xp_F) => G 0 j = F 0 j) (fun k s h => sw1_0.trans h) _ _ _ ?_
  exact it_inv (fun (G : xp_F) => G 0 j = F 0 j) (fun k s h => end1_0.trans h) _ _ _ rfl
theorem grow_0 {j : Nat} : sp_grow F 0 j = F 0 j := it_inv (fun (G : xp_F) => G 0 j = F 0 j) (fun _ _ h => grow1_0.trans h) _ _ _ rfl
theorem c103 (q : MS h M) (hn : rg (F 0 6) 12) : xm_met (d + 3) 103 [.ref M] (xp_m h M F) = some (.inl none, xp_m h M (sp_ends F)) := by
  have c0 := (lp_end hn (by decide)).1
  obtain ⟨t, e, i⟩ := xp_loop (P := fun k F t => xm_run (d + 3) 103 2 (some (.ref M) :: some (.int (Int32.ofNat k)) :: t) [] (xp_m h M F)) (fun _ G => ∀ j, G 0 j = F 0 j) (fun k G t hk hi => c103a q hn k G t hk hi) _ 0 F [] (Nat.zero_add _) (fun _ => rfl)
  unfold xm_met
  simp only [ite_not, ite_self, w8_nil, ok01, ite10, rf_rv, rf_ref, rf_cat, rf_lk2, rf_some, rf_none, w_add, w_cons, cr_int, cr_long, cr_ref, cr_null, is_ref, is_null, l2_int, l2_ref, l2_null, l2_none, ent_nil, ent_int, ent_ref, ent_null, ent_rf, ent_long, ok_0, ok_1, af_ret, af_void, List.tail_cons, List.tail_nil, Nat.reduceAdd, Nat.reduceLeDiff, not_false_eq_true, not_true_eq_false, and_self, and_true, true_and, ne_eq, or_true, true_or, or_false, false_or, eq_self, Nat.reduceEqDiff, ↓reduceIte, false_and, and_false, Nat.le_refl, Nat.zero_le, nz_1, nz_2, nz_3, nz_4, nz_5, nz_6, nz_8, nz_10, nz_12, nz_20, nz_30, nz_60, nz_100, r103_0, r103_1, nat_0]
  rw [e, r103_2]
  simp only [ite_not, ite_self, w8_nil, ok01, ite10, rf_rv, rf_ref, rf_cat, rf_lk2, rf_some, rf_none, w_add, w_cons, cr_int, cr_long, cr_ref, cr_null, is_ref, is_null, l2_int, l2_ref, l2_null, l2_none, ent_nil, ent_int, ent_ref, ent_null, ent_rf, ent_long, ok_0, ok_1, af_ret, af_void, List.tail_cons, List.tail_nil, Nat.reduceAdd, Nat.reduceLeDiff, not_false_eq_true, not_true_eq_false, and_self, and_true, true_and, ne_eq, or_true, true_or, or_false, false_or, eq_self, Nat.reduceEqDiff, ↓reduceIte, false_and, and_false, Nat.le_refl, Nat.zero_le, nz_1, nz_2, nz_3, nz_4, nz_5, nz_6, nz_8, nz_10, nz_12, nz_20, nz_30, nz_60, nz_100, mp_B, mp_Z, mp_S, mp_C, mp_K, mp_N, mp_L, mp_R, mp_I, mp_I0, mp_s, mp_s0, u2_ap, sp_isLedge, sp_isLadder, sp_isPerson, sp_isLiving, sp_isLot, sp_isThere, sp_isSpan, ms_K q, ms_B q, ms_f17 q, ms_f9 q, ms_f12 q, ms_f14 q, ms_f15 q, ms_f10 q, ms_f11 q, ms_f16 q, r103_3, r103_4, r103_7, i 6, c0]
  obtain ⟨t, e, i⟩ := xp_loop (P := fun k F t => xm_run (d + 3) 103 165 (some (.ref M) :: some (.int (Int32.ofNat k)) :: t) [] (xp_m h M F)) (fun _ G => ∀ j, G 0 j = F 0 j) (fun k G t hk hi => c103b q hn k G t hk hi) _ 0 (xp_it sp_end1 0 (F 0 6).toNatClampNeg F) t (Nat.zero_add _) i
  simp only [ite_not, ite_self, w8_nil, ok01, ite10, rf_rv, rf_ref, rf_cat, rf_lk2, rf_some, rf_none, w_add, w_cons, cr_int, cr_long, cr_ref, cr_null, is_ref, is_null, l2_int, l2_ref, l2_null, l2_none, ent_nil, ent_int, ent_ref, ent_null, ent_rf, ent_long, ok_0, ok_1, af_ret, af_void, List.tail_cons, List.tail_nil, Nat.reduceAdd, Nat.reduceLeDiff, not_false_eq_true, not_true_eq_false, and_self, and_true, true_and, ne_eq, or_true, true_or, or_false, false_or, eq_self, Nat.reduceEqDiff, ↓reduceIte, false_and, and_false, Nat.le_refl, Nat.zero_le, nz_1, nz_2, nz_3, nz_4, nz_5, nz_6, nz_8, nz_10, nz_12, nz_20, nz_30, nz_60, nz_100, r103_163, r103_164, nat_0]
  rw [e, r103_165]
  simp only [ite_not, ite_self, w8_nil, ok01, ite10, rf_rv, rf_ref, rf_cat, rf_lk2, rf_some, rf_none, w_add, w_cons, cr_int, cr_long, cr_ref, cr_null, is_ref, is_null, l2_int, l2_ref, l2_null, l2_none, ent_nil, ent_int, ent_ref, ent_null, ent_rf, ent_long, ok_0, ok_1, af_ret, af_void, List.tail_cons, List.tail_nil, Nat.reduceAdd, Nat.reduceLeDiff, not_false_eq_true, not_true_eq_false, and_self, and_true, true_and, ne_eq, or_true, true_or, or_false, false_or, eq_self, Nat.reduceEqDiff, ↓reduceIte, false_and, and_false, Nat.le_refl, Nat.zero_le, nz_1, nz_2, nz_3, nz_4, nz_5, nz_6, nz_8, nz_10, nz_12, nz_20, nz_30, nz_60, nz_100, mp_B, mp_Z, mp_S, mp_C, mp_K, mp_N, mp_L, mp_R, mp_I, mp_I0, mp_s, mp_s0, u2_ap, sp_isLedge, sp_isLadder, sp_isPerson, sp_isLiving, sp_isLot, sp_isThere, sp_isSpan, ms_K q, ms_B q, ms_f17 q, ms_f9 q, ms_f12 q, ms_f14 q, ms_f15 q, ms_f10 q, ms_f11 q, ms_f16 q, r103_166, r103_167, r103_170, i 6, c0]
  obtain ⟨t, e, i⟩ := xp_loop (P := fun k F t => xm_run (d + 3) 103 195 (some (.ref M) :: some (.int (Int32.ofNat k)) :: t) [] (xp_m h M F)) (fun _ G => ∀ j, G 0 j = F 0 j) (fun k G t hk hi => c103c q hn k G t hk hi) _ 0 (xp_it sp_sw1 0 (F 0 6).toNatClampNeg (xp_it sp_end1 0 (F 0 6).toNatClampNeg F)) t (Nat.zero_add _) i
  simp only [ite_not, ite_self, w8_nil, ok01, ite10, rf_rv, rf_ref, rf_cat, rf_lk2, rf_some, rf_none, w_add, w_cons, cr_int, cr_long, cr_ref, cr_null, is_ref, is_null, l2_int, l2_ref, l2_null, l2_none, ent_nil, ent_int, ent_ref, ent_null, ent_rf, ent_long, ok_0, ok_1, af_ret, af_void, List.tail_cons, List.tail_nil, Nat.reduceAdd, Nat.reduceLeDiff, not_false_eq_true, not_true_eq_false, and_self, and_true, true_and, ne_eq, or_true, true_or, or_false, false_or, eq_self, Nat.reduceEqDiff, ↓reduceIte, false_and, and_false, Nat.le_refl, Nat.zero_le, nz_1, nz_2, nz_3, nz_4, nz_5, nz_6, nz_8, nz_10, nz_12, nz_20, nz_30, nz_60, nz_100, r103_193, r103_194, nat_0]
  rw [e, r103_195]
  simp only [ite_not, ite_self, w8_nil, ok01, ite10, rf_rv, rf_ref, rf_cat, rf_lk2, rf_some, rf_none, w_add, w_cons, cr_int, cr_long, cr_ref, cr_null, is_ref, is_null, l2_int, l2_ref, l2_null, l2_none, ent_nil, ent_int, ent_ref, ent_null, ent_rf, ent_long, ok_0, ok_1, af_ret, af_void, List.tail_cons, List.tail_nil, Nat.reduceAdd, Nat.reduceLeDiff, not_false_eq_true, not_true_eq_false, and_self, and_true, true_and, ne_eq, or_true, true_or, or_false, false_or, eq_self, Nat.reduceEqDiff, ↓reduceIte, false_and, and_false, Nat.le_refl, Nat.zero_le, nz_1, nz_2, nz_3, nz_4, nz_5, nz_6, nz_8, nz_10, nz_12, nz_20, nz_30, nz_60, nz_100, mp_B, mp_Z, mp_S, mp_C, mp_K, mp_N, mp_L, mp_R, mp_I, mp_I0, mp_s, mp_s0, u2_ap, sp_isLedge, sp_isLadder, sp_isPerson, sp_isLiving, sp_isLot, sp_isThere, sp_isSpan, ms_K q, ms_B q, ms_f17 q, ms_f9 q, ms_f12 q, ms_f14 q, ms_f15 q, ms_f10 q, ms_f11 q, ms_f16 q, r103_196, r103_197, r103_200, r103_245, i 6, c0]
  rfl
def sp_day (x : Int32) : Int32 := x - x / 60 * 60
def sp_goes (F : xp_F) : xp_F := xm_u2 (if sp_day (F 0 0) = 59 then sp_ends (sp_grow F) else sp_grow F) 0 0 (F 0 0 + 1)
theorem c98 (q : MS h M) (hn : rg (F 0 6) 12) (hd : rg (F 0 0) 100000) : xm_met (d + 4) 98 [.ref M] (xp_m h M F) = some (.inl none, xp_m h M (sp_goes F)) := by
  have e1 := @c99 (d + 1) h M F q hn hd
  have e2 := @c102 (d + 3) h M (sp_grow F) q
  have e3 := @c103 d h M (sp_grow F) q (by rw [grow_0]; exact hn)
  simp only [grow_0] at e2
  unfold xm_met sp_goes sp_day
  by_cases c1 : F 0 0 - F 0 0 / 60 * 60 = 59
  · simp only [ite_not, ite_self, w8_nil, ok01, ite10, rf_rv, rf_ref, rf_cat, rf_lk2, rf_some, rf_none, w_add, w_cons, cr_int, cr_long, cr_ref, cr_null, is_ref, is_null, l2_int, l2_ref, l2_null, l2_none, ent_nil, ent_int, ent_ref, ent_null, ent_rf, ent_long, ok_0, ok_1, af_ret, af_void, List.tail_cons, List.tail_nil, Nat.reduceAdd, Nat.reduceLeDiff, not_false_eq_true, not_true_eq_false, and_self, and_true, true_and, ne_eq, or_true, true_or, or_false, false_or, eq_self, Nat.reduceEqDiff, ↓reduceIte, false_and, and_false, Nat.le_refl, Nat.zero_le, nz_1, nz_2, nz_3, nz_4, nz_5, nz_6, nz_8, nz_10, nz_12, nz_20, nz_30, nz_60, nz_100, mp_B, mp_Z, mp_S, mp_C, mp_K, mp_N, mp_L, mp_R, mp_I, mp_I0, mp_s, mp_s0, u2_ap, sp_isLedge, sp_isLadder, sp_isPerson, sp_isLiving, sp_isLot, sp_isThere, sp_isSpan, ms_K q, ms_B q, r98_0, r98_1, r98_4, r98_5, r98_8, r98_13, r98_14, r98_17, r98_18, r98_19, r98_22, r98_23, r98_24, r98_27, r98_10, e1, e2, e3, c1, ends_0, grow_0]
  · simp only [ite_not, ite_self, w8_nil, ok01, ite10, rf_rv, rf_ref, rf_cat, rf_lk2, rf_some, rf_none, w_add, w_cons, cr_int, cr_long, cr_ref, cr_null, is_ref, is_null, l2_int, l2_ref, l2_null, l2_none, ent_nil, ent_int, ent_ref, ent_null, ent_rf, ent_long, ok_0, ok_1, af_ret, af_void, List.tail_cons, List.tail_nil, Nat.reduceAdd, Nat.reduceLeDiff, not_false_eq_true, not_true_eq_false, and_self, and_true, true_and, ne_eq, or_true, true_or, or_false, false_or, eq_self, Nat.reduceEqDiff, ↓reduceIte, false_and, and_false, Nat.le_refl, Nat.zero_le, nz_1, nz_2, nz_3, nz_4, nz_5, nz_6, nz_8, nz_10, nz_12, nz_20, nz_30, nz_60, nz_100, mp_B, mp_Z, mp_S, mp_C, mp_K, mp_N, mp_L, mp_R, mp_I, mp_I0, mp_s, mp_s0, u2_ap, sp_isLedge, sp_isLadder, sp_isPerson, sp_isLiving, sp_isLot, sp_isThere, sp_isSpan, ms_K q, ms_B q, r98_0, r98_1, r98_4, r98_5, r98_8, r98_13, r98_14, r98_17, r98_18, r98_19, r98_22, r98_23, r98_24, r98_27, r98_10, e1, e2, e3, c1, ends_0, grow_0]
def sp_days (F : xp_F) (n : Int32) : Int32 × xp_F := if (1 ≤ n ∧ n ≤ 60) ∧ F 0 0 ≤ 2399 - n then (xp_it (fun _ => sp_goes) 0 n.toNatClampNeg F 0 0, xp_it (fun _ => sp_goes) 0 n.toNatClampNeg F) else (-1, F)
theorem goes_6 : sp_goes F 0 6 = F 0 6 := by
  unfold sp_goes
  split <;> simp only [u2_ap, Nat.reduceEqDiff, and_false, ↓reduceIte, ends_0, grow_0]
theorem goes_d : sp_goes F 0 0 = F 0 0 + 1 := by
  unfold sp_goes
  simp only [u2_ap, and_self, ↓reduceIte]
theorem c97s (q : MS h M) {F0 : xp_F} (hn : rg (F0 0 6) 12) (hd : rg (F0 0 0) 2400) {n : Int32} (hr : rg n 60) (k : Nat) (F : xp_F) (t : List (Option Value)) (hk : k < n.toNatClampNeg) (hi : F 0 6 = F0 0 6 ∧ (F 0 0).toInt = (F0 0 0).toInt + k) : ∃ t', xm_run (d + 5) 97 26 (some (.ref M) :: some (.int n) :: some (.int (Int32.ofNat k)) :: t) [] (xp_m h M F) = xm_run (d + 5) 97 26 (some (.ref M) :: some (.int n) :: some (.int (Int32.ofNat (k + 1))) :: t') [] (xp_m h M (sp_goes F)) ∧ sp_goes F 0 6 = F0 0 6 ∧ (sp_goes F 0 0).toInt = (F0 0 0).toInt + (k + 1 : Nat) := by
  obtain ⟨i1, e1, c0, -, kn⟩ := lp_k hr (by decide) hk
  have d1 := hd.1
  have d2 := hd.2
  have hd' : rg (F 0 0) 100000 := ⟨by omega, by omega⟩
  have es := @c98 d h M F q (by rw [hi.1]; exact hn) hd'
  refine ⟨t, ?_, goes_6.trans hi.1, ?_⟩
  · rw [r97_26]
    simp only [ite_not, ite_self, w8_nil, ok01, ite10, rf_rv, rf_ref, rf_cat, rf_lk2, rf_some, rf_none, w_add, w_cons, cr_int, cr_long, cr_ref, cr_null, is_ref, is_null, l2_int, l2_ref, l2_null, l2_none, ent_nil, ent_int, ent_ref, ent_null, ent_rf, ent_long, ok_0, ok_1, af_ret, af_void, List.tail_cons, List.tail_nil, Nat.reduceAdd, Nat.reduceLeDiff, not_false_eq_true, not_true_eq_false, and_self, and_true, true_and, ne_eq, or_true, true_or, or_false, false_or, eq_self, Nat.reduceEqDiff, ↓reduceIte, false_and, and_false, Nat.le_refl, Nat.zero_le, nz_1, nz_2, nz_3, nz_4, nz_5, nz_6, nz_8, nz_10, nz_12, nz_20, nz_30, nz_60, nz_100, mp_B, mp_Z, mp_S, mp_C, mp_K, mp_N, mp_L, mp_R, mp_I, mp_I0, mp_s, mp_s0, u2_ap, sp_isLedge, sp_isLadder, sp_isPerson, sp_isLiving, sp_isLot, sp_isThere, sp_isSpan, ms_K q, ms_B q, r97_27, r97_31, r97_32, r97_35, r97_38, r97_28, c0, es, nat_succ]
  · rw [goes_d, ti_add1 hd' (by decide)]
    omega
theorem c97 (q : MS h M) (hn : rg (F 0 6) 12) (hd : rg (F 0 0) 2400) {n : Int32} : xm_met (d + 5) 97 [.ref M, .int n] (xp_m h M F) = some (.inl (some (.int (sp_days F n).1)), xp_m h M (sp_days F n).2) := by
  unfold xm_met sp_days
  by_cases c1 : 1 ≤ n ∧ n ≤ 60
  case neg =>
    simp only [ite_not, ite_self, w8_nil, ok01, ite10, rf_rv, rf_ref, rf_cat, rf_lk2, rf_some, rf_none, w_add, w_cons, cr_int, cr_long, cr_ref, cr_null, is_ref, is_null, l2_int, l2_ref, l2_null, l2_none, ent_nil, ent_int, ent_ref, ent_null, ent_rf, ent_long, ok_0, ok_1, af_ret, af_void, List.tail_cons, List.tail_nil, Nat.reduceAdd, Nat.reduceLeDiff, not_false_eq_true, not_true_eq_false, and_self, and_true, true_and, ne_eq, or_true, true_or, or_false, false_or, eq_self, Nat.reduceEqDiff, ↓reduceIte, false_and, and_false, Nat.le_refl, Nat.zero_le, nz_1, nz_2, nz_3, nz_4, nz_5, nz_6, nz_8, nz_10, nz_12, nz_20, nz_30, nz_60, nz_100, mp_B, mp_Z, mp_S, mp_C, mp_K, mp_N, mp_L, mp_R, mp_I, mp_I0, mp_s, mp_s0, u2_ap, sp_isLedge, sp_isLadder, sp_isPerson, sp_isLiving, sp_isLot, sp_isThere, sp_isSpan, ms_K q, ms_B q, r97_0, r97_1, r97_2, r97_4, r97_10, r97_11, r97_14, r97_17, r97_18, r97_22, r97_23, r97_24, r97_25, r97_7, r97_19, c91, c1]
  by_cases c2 : F 0 0 ≤ 2399 - n
  case neg =>
    simp only [ite_not, ite_self, w8_nil, ok01, ite10, rf_rv, rf_ref, rf_cat, rf_lk2, rf_some, rf_none, w_add, w_cons, cr_int, cr_long, cr_ref, cr_null, is_ref, is_null, l2_int, l2_ref, l2_null, l2_none, ent_nil, ent_int, ent_ref, ent_null, ent_rf, ent_long, ok_0, ok_1, af_ret, af_void, List.tail_cons, List.tail_nil, Nat.reduceAdd, Nat.reduceLeDiff, not_false_eq_true, not_true_eq_false, and_self, and_true, true_and, ne_eq, or_true, true_or, or_false, false_or, eq_self, Nat.reduceEqDiff, ↓reduceIte, false_and, and_false, Nat.le_refl, Nat.zero_le, nz_1, nz_2, nz_3, nz_4, nz_5, nz_6, nz_8, nz_10, nz_12, nz_20, nz_30, nz_60, nz_100, mp_B, mp_Z, mp_S, mp_C, mp_K, mp_N, mp_L, mp_R, mp_I, mp_I0, mp_s, mp_s0, u2_ap, sp_isLedge, sp_isLadder, sp_isPerson, sp_isLiving, sp_isLot, sp_isThere, sp_isSpan, ms_K q, ms_B q, r97_0, r97_1, r97_2, r97_4, r97_10, r97_11, r97_14, r97_17, r97_18, r97_22, r97_23, r97_24, r97_25, r97_7, r97_19, c91, c1, c2]
  have a1 := Int32.le_iff_toInt_le.mp c1.1
  have a2 := Int32.le_iff_toInt_le.mp c1.2
  rw [show (1 : Int32).toInt = 1 from rfl] at a1
  rw [show (60 : Int32).toInt = 60 from rfl] at a2
  have hr : rg n 60 := ⟨by omega, by omega⟩
  simp only [ite_not, ite_self, w8_nil, ok01, ite10, rf_rv, rf_ref, rf_cat, rf_lk2, rf_some, rf_none, w_add, w_cons, cr_int, cr_long, cr_ref, cr_null, is_ref, is_null, l2_int, l2_ref, l2_null, l2_none, ent_nil, ent_int, ent_ref, ent_null, ent_rf, ent_long, ok_0, ok_1, af_ret, af_void, List.tail_cons, List.tail_nil, Nat.reduceAdd, Nat.reduceLeDiff, not_false_eq_true, not_true_eq_false, and_self, and_true, true_and, ne_eq, or_true, true_or, or_false, false_or, eq_self, Nat.reduceEqDiff, ↓reduceIte, false_and, and_false, Nat.le_refl, Nat.zero_le, nz_1, nz_2, nz_3, nz_4, nz_5, nz_6, nz_8, nz_10, nz_12, nz_20, nz_30, nz_60, nz_100, mp_B, mp_Z, mp_S, mp_C, mp_K, mp_N, mp_L, mp_R, mp_I, mp_I0, mp_s, mp_s0, u2_ap, sp_isLedge, sp_isLadder, sp_isPerson, sp_isLiving, sp_isLot, sp_isThere, sp_isSpan, ms_K q, ms_B q, r97_0, r97_1, r97_2, r97_4, r97_10, r97_11, r97_14, r97_17, r97_18, r97_22, r97_23, r97_24, r97_25, r97_7, r97_19, c91, c1, c2, nz_1]
  obtain ⟨t, e, i⟩ := xp_loop (P := fun k F t => xm_run (d + 5) 97 26 (some (.ref M) :: some (.int n) :: some (.int (Int32.ofNat k)) :: t) [] (xp_m h M F)) (fun k G => G 0 6 = F 0 6 ∧ (G 0 0).toInt = (F 0 0).toInt + k) (f := fun _ => sp_goes) (fun k G t hk hi => c97s q hn hd hr k G t hk hi) _ 0 F [] (Nat.zero_add _) ⟨rfl, by omega⟩
  rw [show Int32.ofNat 0 = (0 : Int32) from rfl] at e
  rw [e, r97_26]
  have c0 := (lp_end hr (by decide)).1
  simp only [ite_not, ite_self, w8_nil, ok01, ite10, rf_rv, rf_ref, rf_cat, rf_lk2, rf_some, rf_none, w_add, w_cons, cr_int, cr_long, cr_ref, cr_null, is_ref, is_null, l2_int, l2_ref, l2_null, l2_none, ent_nil, ent_int, ent_ref, ent_null, ent_rf, ent_long, ok_0, ok_1, af_ret, af_void, List.tail_cons, List.tail_nil, Nat.reduceAdd, Nat.reduceLeDiff, not_false_eq_true, not_true_eq_false, and_self, and_true, true_and, ne_eq, or_true, true_or, or_false, false_or, eq_self, Nat.reduceEqDiff, ↓reduceIte, false_and, and_false, Nat.le_refl, Nat.zero_le, nz_1, nz_2, nz_3, nz_4, nz_5, nz_6, nz_8, nz_10, nz_12, nz_20, nz_30, nz_60, nz_100, mp_B, mp_Z, mp_S, mp_C, mp_K, mp_N, mp_L, mp_R, mp_I, mp_I0, mp_s, mp_s0, u2_ap, sp_isLedge, sp_isLadder, sp_isPerson, sp_isLiving, sp_isLot, sp_isThere, sp_isSpan, ms_K q, ms_B q, r97_27, r97_28, r97_41, r97_42, r97_45, c0]
end M8
