/-! the model's contracts, 27: a lot's money -/
set_option maxRecDepth 100000
section M27
variable {d : Nat} {h : xm_H} {M : Nat} {F : xp_F}
/-- what pays leaves alone -/
def pp (F G : xp_F) : Prop := ∀ o k, ¬ o = 42 → ¬ o = 55 → G o k = F o k
theorem pp.rf : pp F F := fun _ _ _ _ => rfl
theorem pp.tr {G H : xp_F} (a : pp F G) (b : pp G H) : pp F H := fun o k h1 h2 => (b o k h1 h2).trans (a o k h1 h2)
theorem pp.m {k : Nat} {v : Int32} : pp F (xm_u2 F 42 k v) := fun o _ h1 _ => by rw [u2_ap, if_neg (fun z => h1 z.1)]
theorem pp.v {k : Nat} {v : Int32} : pp F (xm_u2 F 55 k v) := fun o _ _ h1 => by rw [u2_ap, if_neg (fun z => h1 z.1)]
abbrev sp_due (F : xp_F) (s : Int32) (w : Nat) (a : Int32) : Int32 := (s.toInt64 * (F 17 w).toInt64 / a.toInt64).toInt32
abbrev sp_part (F : xp_F) (i l : Nat) (v : Int32) : Int32 := (v.toInt64 * (F 52 (12 * i + l)).toInt64 / (F 44 i).toInt64).toInt32
def sp_find1 (F : xp_F) (i : Nat) (s a : Int32) (l : Nat) (st : Int32 × xp_F) : Int32 × xp_F := if F 9 l = -1 then st else (st.1 - sp_part F i l (sp_due F s 2 a), xm_u2 st.2 42 (F 9 l).toNatClampNeg (st.2 42 (F 9 l).toNatClampNeg + sp_part F i l (sp_due F s 2 a)))
def sp_own (F : xp_F) (i l : Nat) : Int32 := sp_whoseIs F (Int32.ofNat l) (F 49 i / 60) (F 49 i)
def sp_own1 (F : xp_F) (i : Nat) (s a : Int32) (l : Nat) (st : Int32 × xp_F) : Int32 × xp_F := if sp_own F i l = -1 then st else (st.1 - sp_part F i l (sp_due F s 3 a), xm_u2 st.2 55 (sp_own F i l).toNatClampNeg (st.2 55 (sp_own F i l).toNatClampNeg + sp_part F i l (sp_due F s 3 a)))
def sp_pay1 (F : xp_F) (i : Nat) (s a : Int32) (l : Nat) (st : Int32 × xp_F) : Int32 × xp_F := if F 52 (12 * i + l) = 0 then st else sp_own1 F i s a l (sp_find1 F i s a l st)
def sp_shares (F : xp_F) : Int32 := F 17 0 + F 17 1 + F 17 2 + F 17 3
def sp_pay0 (F : xp_F) (i : Nat) (s a : Int32) : Int32 × xp_F := (s - sp_due F s 0 a - sp_due F s 1 a, (fun G : xp_F => xm_u2 G 42 (F 48 i).toNatClampNeg (G 42 (F 48 i).toNatClampNeg + sp_due F s 1 a)) (xm_u2 F 42 (F 47 i).toNatClampNeg (F 42 (F 47 i).toNatClampNeg + sp_due F s 0 a)))
def sp_pay (F : xp_F) (i : Nat) (s : Int32) : Int32 × xp_F := if sp_shares F = 0 then (s, F) else xp_up (sp_pay1 F i s (sp_shares F)) (sp_pay0 F i s (sp_shares F)) (F 0 6).toNatClampNeg
def sp_pays : Nat → Nat → Int32 → xp_F → Int32 × xp_F
  | 0, _, s, F => (s, F)
  | n + 1, i, s, F => if F 50 i = -1 then sp_pay F i s else
      (fun (one : Int32) => (fun (p : Int32 × xp_F) => (fun (p2 : Int32 × xp_F) => (p.1 + p2.1, p2.2)) (sp_pays n (F 51 i).toNatClampNeg (s - one) p.2)) (sp_pays n (F 50 i).toNatClampNeg one F)) (s.toInt64 * (F 44 (F 50 i).toNatClampNeg).toInt64 / (F 44 i).toInt64).toInt32
theorem find1_pp {i : Nat} {s a : Int32} {l : Nat} {st : Int32 × xp_F} (h : pp F st.2) : pp F (sp_find1 F i s a l st).2 := by
  unfold sp_find1
  split
  · exact h
  · exact h.tr pp.m
theorem pay1_pp {i : Nat} {s a : Int32} {l : Nat} {st : Int32 × xp_F} (h : pp F st.2) : pp F (sp_pay1 F i s a l st).2 := by
  unfold sp_pay1
  split
  · exact h
  · unfold sp_own1
    split
    · exact find1_pp h
    · exact (find1_pp h).tr pp.v
theorem pay_pp {i : Nat} {s : Int32} : pp F (sp_pay F i s).2 := by
  unfold sp_pay
  split
  · exact pp.rf
  · exact up_inv (fun (st : Int32 × xp_F) => pp F st.2) (fun l st h => pay1_pp h) (pp.m.tr pp.m) _
theorem pays_pp : ∀ (n i : Nat) (s : Int32) (F : xp_F), pp F (sp_pays n i s F).2
  | 0, _, _, _ => pp.rf
  | n + 1, i, s, F => by
    unfold sp_pays
    split
    · exact pay_pp
    · exact (pays_pp n _ _ F).tr (pays_pp n _ _ _)
/-- persons, villages: no one or one of them -/
def nr (x : Int32) (n : Nat) : Prop := x = -1 ∨ xm_in x n = true
/-- lots that can be paid -/
def LW (F : xp_F) (i : Nat) : Prop := ¬ (F 44 i).toInt64 = 0 ∧ ((F 50 i = -1 ∧ xm_in (F 47 i) 16 = true ∧ xm_in (F 48 i) 16 = true) ∨ ∃ a b, F 50 i = Int32.ofNat a ∧ F 51 i = Int32.ofNat b ∧ a < i ∧ b < i)
def FW (F : xp_F) : Prop := rg (F 0 6) 12 ∧ rg (F 0 95) 100 ∧ (∀ l, nr (F 9 l) 16) ∧ (∀ k, nr (F 65 k) 2) ∧ ((F 17 0 + F 17 1 + F 17 2 + F 17 3).toInt64 = 0 → F 17 0 + F 17 1 + F 17 2 + F 17 3 = 0)
theorem FW.pp {G : xp_F} (a : FW F) (p : pp F G) : FW G := by
  unfold FW
  rw [p 0 _ (by decide) (by decide), p 0 _ (by decide) (by decide), p 17 _ (by decide) (by decide), p 17 _ (by decide) (by decide), p 17 _ (by decide) (by decide), p 17 _ (by decide) (by decide)]
  refine ⟨a.1, a.2.1, fun l => ?_, fun l => ?_, a.2.2.2.2⟩
  · rw [p 9 _ (by decide) (by decide)]
    exact a.2.2.1 l
  · rw [p 65 _ (by decide) (by decide)]
    exact a.2.2.2.1 l
theorem LW.pp {G : xp_F} {i : Nat} (a : LW F i) (p : pp F G) : LW G i := by
  unfold LW
  rw [p 44 _ (by decide) (by decide), p 50 _ (by decide) (by decide), p 51 _ (by decide) (by decide), p 47 _ (by decide) (by decide), p 48 _ (by decide) (by decide)]
  exact a
theorem pp.whose {G : xp_F} (p : pp F G) {l s w : Int32} : sp_whoseIs G l s w = sp_whoseIs F l s w := by
  have e : sp_whose1 G l s w = sp_whose1 F l s w := by
    funext k b
    unfold sp_whose1
    rw [p 64 _ (by decide) (by decide), p 66 _ (by decide) (by decide), p 66 _ (by decide) (by decide), p 67 _ (by decide) (by decide)]
  unfold sp_whoseIs sp_whoseB
  rw [e, p 0 _ (by decide) (by decide), p 65 _ (by decide) (by decide)]
theorem whoseIs_nr (hc : ∀ k, nr (F 65 k) 2) {l s w : Int32} : nr (sp_whoseIs F l s w) 2 := by
  unfold sp_whoseIs
  split
  · exact Or.inl rfl
  · exact hc _
theorem c173a {G : xp_F} (q : MS h M) (p : pp F G) {s a : Int32} {w : Nat} (hw : xm_in (Int32.ofNat w) 8 = true) (h8 : w < 8) (ha : ¬ a.toInt64 = 0) : xm_met d 173 [.ref M, .int s, .int (Int32.ofNat w), .int a] (xp_m h M G) = some (.inl (some (.int (sp_due F s w a))), xp_m h M G) := by
  have e := @c173 d h M G q s (Int32.ofNat w) a hw ha
  rw [tc_nat (by omega), p 17 _ (by decide) (by decide)] at e
  exact e
noncomputable def pyP (d : Nat) (h : xm_H) (M i : Nat) (s a : Int32) (l : Nat) (st : Int32 × Int32 × xp_F) (t : List (Option Value)) : xm_V := xm_run (d + 1) 172 169 (some (.ref M) :: some (.int (Int32.ofNat i)) :: some (.int s) :: some (.int a) :: some (.int st.2.1) :: some (.int st.1) :: some (.int (Int32.ofNat l)) :: t) [] (xp_m h M st.2.2)
theorem c172s (q : MS h M) (hF : FW F) {i : Nat} (hi : i < 40) (hw : LW F i) {s a : Int32} (ha : ¬ a.toInt64 = 0) (l : Nat) (st : Int32 × Int32 × xp_F) (t : List (Option Value)) (hl : l < (F 0 6).toNatClampNeg) {st0 : Int32 × xp_F} (hs : st.2 = xp_up (sp_pay1 F i s a) st0 l ∧ pp F st.2.2) : ∃ (st' : Int32 × Int32 × xp_F) (t' : List (Option Value)), pyP d h M i s a l st t = pyP d h M i s a (l + 1) st' t' ∧ st'.2 = xp_up (sp_pay1 F i s a) st0 (l + 1) ∧ pp F st'.2.2 := by
  obtain ⟨v, b, G⟩ := st
  obtain ⟨h1, h2⟩ := hs
  have h1 : (b, G) = xp_up (sp_pay1 F i s a) st0 l := h1
  have h2 : pp F G := h2
  have up : xp_up (sp_pay1 F i s a) st0 (l + 1) = sp_pay1 F i s a l (b, G) := by rw [h1]; rfl
  have hp' : pp F (sp_pay1 F i s a l (b, G)).2 := pay1_pp h2
  rw [up]
  obtain ⟨f1, f2, f3, f4, f5⟩ := hF
  obtain ⟨i1, e1, c0, -, hl12⟩ := lp_k f1 (by decide) hl
  obtain ⟨i2, e2⟩ := in_nat hi (by decide)
  obtain ⟨i3, e3⟩ := in_nat (show 12 * i + l < 480 by omega) (by decide)
  have x1 : (12 : Int32) * Int32.ofNat i = Int32.ofNat (12 * i) := nat_mul (a := 12)
  have x2 : Int32.ofNat (12 * i) + Int32.ofNat l = Int32.ofNat (12 * i + l) := nat_add
  have g0 := h2 0 6 (by decide) (by decide)
  have g1 := h2 52 (12 * i + l) (by decide) (by decide)
  have g2 := h2 9 l (by decide) (by decide)
  have g3 := h2 44 i (by decide) (by decide)
  have g4 := h2 49 i (by decide) (by decide)
  have nu := hw.1
  unfold sp_pay1 at hp' ⊢
  unfold pyP
  by_cases c1 : F 52 (12 * i + l) = 0
  · rw [if_pos c1]
    refine ⟨(v, b, G), t, ?_, rfl, h2⟩
    show xm_run _ _ _ _ _ _ = _
    rw [r172_169]
    simp only [ite_not, ite_self, w8_nil, ok01, ite10, rf_rv, rf_ref, rf_cat, rf_lk2, rf_some, rf_none, w_add, w_cons, cr_int, cr_long, cr_ref, cr_null, is_ref, is_null, l2_int, l2_ref, l2_null, l2_none, ent_nil, ent_int, ent_ref, ent_null, ent_rf, ent_long, ok_0, ok_1, af_ret, af_void, List.tail_cons, List.tail_nil, Nat.reduceAdd, Nat.reduceLeDiff, not_false_eq_true, not_true_eq_false, and_self, and_true, true_and, ne_eq, or_true, true_or, or_false, false_or, eq_self, Nat.reduceEqDiff, ↓reduceIte, false_and, and_false, Nat.le_refl, Nat.zero_le, nz_1, nz_2, nz_3, nz_4, nz_5, nz_6, nz_8, nz_10, nz_12, nz_20, nz_30, nz_60, nz_100, mp_B, mp_Z, mp_S, mp_C, mp_K, mp_N, mp_L, mp_R, mp_I, mp_I0, mp_s, mp_s0, u2_ap, sp_isLedge, sp_isLadder, sp_isPerson, sp_isLiving, sp_isLot, sp_isThere, sp_isSpan, ms_K q, ms_B q, ms_f77 q, ms_f78 q, ms_f71 q, ms_f21 q, ms_f66 q, ms_f74 q, ms_f75 q, ms_f79 q, ms_f13 q, ms_f76 q, ms_f82 q, r172_171, r172_172, r172_178, r172_179, r172_182, r172_184, r172_185, r172_186, r172_188, r172_189, r172_193, r172_175, r172_190, r172_345, r172_348, g0, c0, g1, c1, i3, e3, x1, x2, nat_succ]
  rw [if_neg c1] at hp' ⊢
  have s2 := @c173a d h M F G q h2 s a 2 (by decide) (by decide) ha
  rw [show Int32.ofNat 2 = (2 : Int32) from rfl] at s2
  by_cases c2 : F 9 l = -1
  · have e4 : sp_find1 F i s a l (b, G) = (b, G) := if_pos c2
    rw [e4] at hp' ⊢
    have s3 := @c173a d h M F G q h2 s a 3 (by decide) (by decide) ha
    rw [show Int32.ofNat 3 = (3 : Int32) from rfl] at s3
    have w1 := @c174 d h M G q (by rw [h2 0 _ (by decide) (by decide)]; exact f2) (Int32.ofNat l) (F 49 i / 60) (F 49 i)
    rw [h2.whose, show sp_whoseIs F (Int32.ofNat l) (F 49 i / 60) (F 49 i) = sp_own F i l from rfl] at w1
    unfold sp_own1 at hp' ⊢
    by_cases c3 : sp_own F i l = -1
    · rw [if_pos c3]
      refine ⟨(sp_part F i l (sp_due F s 3 a), b, G), some (.int (-1)) :: t.tail, ?_, rfl, h2⟩
      show xm_run _ _ _ _ _ _ = _
      rw [r172_169]
      rw [c3] at w1
      simp only [ite_not, ite_self, w8_nil, ok01, ite10, rf_rv, rf_ref, rf_cat, rf_lk2, rf_some, rf_none, w_add, w_cons, cr_int, cr_long, cr_ref, cr_null, is_ref, is_null, l2_int, l2_ref, l2_null, l2_none, ent_nil, ent_int, ent_ref, ent_null, ent_rf, ent_long, ok_0, ok_1, af_ret, af_void, List.tail_cons, List.tail_nil, Nat.reduceAdd, Nat.reduceLeDiff, not_false_eq_true, not_true_eq_false, and_self, and_true, true_and, ne_eq, or_true, true_or, or_false, false_or, eq_self, Nat.reduceEqDiff, ↓reduceIte, false_and, and_false, Nat.le_refl, Nat.zero_le, nz_1, nz_2, nz_3, nz_4, nz_5, nz_6, nz_8, nz_10, nz_12, nz_20, nz_30, nz_60, nz_100, mp_B, mp_Z, mp_S, mp_C, mp_K, mp_N, mp_L, mp_R, mp_I, mp_I0, mp_s, mp_s0, u2_ap, sp_isLedge, sp_isLadder, sp_isPerson, sp_isLiving, sp_isLot, sp_isThere, sp_isSpan, ms_K q, ms_B q, ms_f77 q, ms_f78 q, ms_f71 q, ms_f21 q, ms_f66 q, ms_f74 q, ms_f75 q, ms_f79 q, ms_f13 q, ms_f76 q, ms_f82 q, r172_171, r172_172, r172_178, r172_179, r172_182, r172_184, r172_185, r172_186, r172_188, r172_189, r172_193, r172_196, r172_197, r172_198, r172_199, r172_200, r172_203, r172_204, r172_205, r172_208, r172_210, r172_211, r172_212, r172_214, r172_215, r172_216, r172_217, r172_218, r172_219, r172_222, r172_223, r172_224, r172_225, r172_226, r172_227, r172_229, r172_230, r172_233, r172_235, r172_236, r172_240, r172_241, r172_244, r172_245, r172_248, r172_250, r172_251, r172_252, r172_253, r172_255, r172_256, r172_257, r172_259, r172_261, r172_262, r172_264, r172_265, r172_266, r172_267, r172_268, r172_271, r172_272, r172_273, r172_276, r172_278, r172_279, r172_280, r172_282, r172_283, r172_284, r172_285, r172_286, r172_287, r172_290, r172_291, r172_292, r172_293, r172_294, r172_295, r172_297, r172_298, r172_300, r172_301, r172_304, r172_305, r172_306, r172_308, r172_309, r172_310, r172_313, r172_314, r172_315, r172_318, r172_320, r172_322, r172_326, r172_327, r172_330, r172_332, r172_333, r172_334, r172_336, r172_337, r172_338, r172_340, r172_342, r172_343, r172_345, r172_348, r172_175, r172_190, r172_237, r172_323, g0, c0, g1, c1, g2, c2, g3, g4, i1, e1, i2, e2, i3, e3, x1, x2, s2, s3, w1, nu, nat_succ]
    · rw [if_neg c3] at hp' ⊢
      have iv : xm_in (sp_own F i l) 2 = true := (whoseIs_nr f4 : nr (sp_own F i l) 2).resolve_left c3
      refine ⟨(sp_part F i l (sp_due F s 3 a), _, _), some (.int (sp_own F i l)) :: t.tail, ?_, rfl, hp'⟩
      show xm_run _ _ _ _ _ _ = _
      rw [r172_169]
      simp only [ite_not, ite_self, w8_nil, ok01, ite10, rf_rv, rf_ref, rf_cat, rf_lk2, rf_some, rf_none, w_add, w_cons, cr_int, cr_long, cr_ref, cr_null, is_ref, is_null, l2_int, l2_ref, l2_null, l2_none, ent_nil, ent_int, ent_ref, ent_null, ent_rf, ent_long, ok_0, ok_1, af_ret, af_void, List.tail_cons, List.tail_nil, Nat.reduceAdd, Nat.reduceLeDiff, not_false_eq_true, not_true_eq_false, and_self, and_true, true_and, ne_eq, or_true, true_or, or_false, false_or, eq_self, Nat.reduceEqDiff, ↓reduceIte, false_and, and_false, Nat.le_refl, Nat.zero_le, nz_1, nz_2, nz_3, nz_4, nz_5, nz_6, nz_8, nz_10, nz_12, nz_20, nz_30, nz_60, nz_100, mp_B, mp_Z, mp_S, mp_C, mp_K, mp_N, mp_L, mp_R, mp_I, mp_I0, mp_s, mp_s0, u2_ap, sp_isLedge, sp_isLadder, sp_isPerson, sp_isLiving, sp_isLot, sp_isThere, sp_isSpan, ms_K q, ms_B q, ms_f77 q, ms_f78 q, ms_f71 q, ms_f21 q, ms_f66 q, ms_f74 q, ms_f75 q, ms_f79 q, ms_f13 q, ms_f76 q, ms_f82 q, r172_171, r172_172, r172_178, r172_179, r172_182, r172_184, r172_185, r172_186, r172_188, r172_189, r172_193, r172_196, r172_197, r172_198, r172_199, r172_200, r172_203, r172_204, r172_205, r172_208, r172_210, r172_211, r172_212, r172_214, r172_215, r172_216, r172_217, r172_218, r172_219, r172_222, r172_223, r172_224, r172_225, r172_226, r172_227, r172_229, r172_230, r172_233, r172_235, r172_236, r172_240, r172_241, r172_244, r172_245, r172_248, r172_250, r172_251, r172_252, r172_253, r172_255, r172_256, r172_257, r172_259, r172_261, r172_262, r172_264, r172_265, r172_266, r172_267, r172_268, r172_271, r172_272, r172_273, r172_276, r172_278, r172_279, r172_280, r172_282, r172_283, r172_284, r172_285, r172_286, r172_287, r172_290, r172_291, r172_292, r172_293, r172_294, r172_295, r172_297, r172_298, r172_300, r172_301, r172_304, r172_305, r172_306, r172_308, r172_309, r172_310, r172_313, r172_314, r172_315, r172_318, r172_320, r172_322, r172_326, r172_327, r172_330, r172_332, r172_333, r172_334, r172_336, r172_337, r172_338, r172_340, r172_342, r172_343, r172_345, r172_348, r172_175, r172_190, r172_237, r172_323, g0, c0, g1, c1, g2, c2, g3, g4, i1, e1, i2, e2, i3, e3, x1, x2, s2, s3, w1, c3, iv, nu, nat_succ]
  · have i4 := (f3 l).resolve_left c2
    have e4 : sp_find1 F i s a l (b, G) = (b - sp_part F i l (sp_due F s 2 a), xm_u2 G 42 (F 9 l).toNatClampNeg (G 42 (F 9 l).toNatClampNeg + sp_part F i l (sp_due F s 2 a))) := if_neg c2
    rw [e4] at hp' ⊢
    have h3 : pp F (xm_u2 G 42 (F 9 l).toNatClampNeg (G 42 (F 9 l).toNatClampNeg + sp_part F i l (sp_due F s 2 a))) := h2.tr pp.m
    have s3 := @c173a d h M F _ q h3 s a 3 (by decide) (by decide) ha
    rw [show Int32.ofNat 3 = (3 : Int32) from rfl] at s3
    have w1 := @c174 d h M (xm_u2 G 42 (F 9 l).toNatClampNeg (G 42 (F 9 l).toNatClampNeg + sp_part F i l (sp_due F s 2 a))) q (by rw [h3 0 _ (by decide) (by decide)]; exact f2) (Int32.ofNat l) (F 49 i / 60) (F 49 i)
    rw [h3.whose, show sp_whoseIs F (Int32.ofNat l) (F 49 i / 60) (F 49 i) = sp_own F i l from rfl] at w1
    unfold sp_own1 at hp' ⊢
    by_cases c3 : sp_own F i l = -1
    · rw [if_pos c3]
      refine ⟨(sp_part F i l (sp_due F s 3 a), _, _), some (.int (-1)) :: t.tail, ?_, rfl, h3⟩
      show xm_run _ _ _ _ _ _ = _
      rw [r172_169]
      rw [c3] at w1
      simp only [ite_not, ite_self, w8_nil, ok01, ite10, rf_rv, rf_ref, rf_cat, rf_lk2, rf_some, rf_none, w_add, w_cons, cr_int, cr_long, cr_ref, cr_null, is_ref, is_null, l2_int, l2_ref, l2_null, l2_none, ent_nil, ent_int, ent_ref, ent_null, ent_rf, ent_long, ok_0, ok_1, af_ret, af_void, List.tail_cons, List.tail_nil, Nat.reduceAdd, Nat.reduceLeDiff, not_false_eq_true, not_true_eq_false, and_self, and_true, true_and, ne_eq, or_true, true_or, or_false, false_or, eq_self, Nat.reduceEqDiff, ↓reduceIte, false_and, and_false, Nat.le_refl, Nat.zero_le, nz_1, nz_2, nz_3, nz_4, nz_5, nz_6, nz_8, nz_10, nz_12, nz_20, nz_30, nz_60, nz_100, mp_B, mp_Z, mp_S, mp_C, mp_K, mp_N, mp_L, mp_R, mp_I, mp_I0, mp_s, mp_s0, u2_ap, sp_isLedge, sp_isLadder, sp_isPerson, sp_isLiving, sp_isLot, sp_isThere, sp_isSpan, ms_K q, ms_B q, ms_f77 q, ms_f78 q, ms_f71 q, ms_f21 q, ms_f66 q, ms_f74 q, ms_f75 q, ms_f79 q, ms_f13 q, ms_f76 q, ms_f82 q, r172_171, r172_172, r172_178, r172_179, r172_182, r172_184, r172_185, r172_186, r172_188, r172_189, r172_193, r172_196, r172_197, r172_198, r172_199, r172_200, r172_203, r172_204, r172_205, r172_208, r172_210, r172_211, r172_212, r172_214, r172_215, r172_216, r172_217, r172_218, r172_219, r172_222, r172_223, r172_224, r172_225, r172_226, r172_227, r172_229, r172_230, r172_233, r172_235, r172_236, r172_240, r172_241, r172_244, r172_245, r172_248, r172_250, r172_251, r172_252, r172_253, r172_255, r172_256, r172_257, r172_259, r172_261, r172_262, r172_264, r172_265, r172_266, r172_267, r172_268, r172_271, r172_272, r172_273, r172_276, r172_278, r172_279, r172_280, r172_282, r172_283, r172_284, r172_285, r172_286, r172_287, r172_290, r172_291, r172_292, r172_293, r172_294, r172_295, r172_297, r172_298, r172_300, r172_301, r172_304, r172_305, r172_306, r172_308, r172_309, r172_310, r172_313, r172_314, r172_315, r172_318, r172_320, r172_322, r172_326, r172_327, r172_330, r172_332, r172_333, r172_334, r172_336, r172_337, r172_338, r172_340, r172_342, r172_343, r172_345, r172_348, r172_175, r172_190, r172_237, r172_323, g0, c0, g1, c1, g2, c2, g3, g4, i1, e1, i2, e2, i3, e3, i4, x1, x2, s2, s3, w1, nu, nat_succ]
    · rw [if_neg c3] at hp' ⊢
      have iv : xm_in (sp_own F i l) 2 = true := (whoseIs_nr f4 : nr (sp_own F i l) 2).resolve_left c3
      refine ⟨(sp_part F i l (sp_due F s 3 a), _, _), some (.int (sp_own F i l)) :: t.tail, ?_, rfl, hp'⟩
      show xm_run _ _ _ _ _ _ = _
      rw [r172_169]
      simp only [ite_not, ite_self, w8_nil, ok01, ite10, rf_rv, rf_ref, rf_cat, rf_lk2, rf_some, rf_none, w_add, w_cons, cr_int, cr_long, cr_ref, cr_null, is_ref, is_null, l2_int, l2_ref, l2_null, l2_none, ent_nil, ent_int, ent_ref, ent_null, ent_rf, ent_long, ok_0, ok_1, af_ret, af_void, List.tail_cons, List.tail_nil, Nat.reduceAdd, Nat.reduceLeDiff, not_false_eq_true, not_true_eq_false, and_self, and_true, true_and, ne_eq, or_true, true_or, or_false, false_or, eq_self, Nat.reduceEqDiff, ↓reduceIte, false_and, and_false, Nat.le_refl, Nat.zero_le, nz_1, nz_2, nz_3, nz_4, nz_5, nz_6, nz_8, nz_10, nz_12, nz_20, nz_30, nz_60, nz_100, mp_B, mp_Z, mp_S, mp_C, mp_K, mp_N, mp_L, mp_R, mp_I, mp_I0, mp_s, mp_s0, u2_ap, sp_isLedge, sp_isLadder, sp_isPerson, sp_isLiving, sp_isLot, sp_isThere, sp_isSpan, ms_K q, ms_B q, ms_f77 q, ms_f78 q, ms_f71 q, ms_f21 q, ms_f66 q, ms_f74 q, ms_f75 q, ms_f79 q, ms_f13 q, ms_f76 q, ms_f82 q, r172_171, r172_172, r172_178, r172_179, r172_182, r172_184, r172_185, r172_186, r172_188, r172_189, r172_193, r172_196, r172_197, r172_198, r172_199, r172_200, r172_203, r172_204, r172_205, r172_208, r172_210, r172_211, r172_212, r172_214, r172_215, r172_216, r172_217, r172_218, r172_219, r172_222, r172_223, r172_224, r172_225, r172_226, r172_227, r172_229, r172_230, r172_233, r172_235, r172_236, r172_240, r172_241, r172_244, r172_245, r172_248, r172_250, r172_251, r172_252, r172_253, r172_255, r172_256, r172_257, r172_259, r172_261, r172_262, r172_264, r172_265, r172_266, r172_267, r172_268, r172_271, r172_272, r172_273, r172_276, r172_278, r172_279, r172_280, r172_282, r172_283, r172_284, r172_285, r172_286, r172_287, r172_290, r172_291, r172_292, r172_293, r172_294, r172_295, r172_297, r172_298, r172_300, r172_301, r172_304, r172_305, r172_306, r172_308, r172_309, r172_310, r172_313, r172_314, r172_315, r172_318, r172_320, r172_322, r172_326, r172_327, r172_330, r172_332, r172_333, r172_334, r172_336, r172_337, r172_338, r172_340, r172_342, r172_343, r172_345, r172_348, r172_175, r172_190, r172_237, r172_323, g0, c0, g1, c1, g2, c2, g3, g4, i1, e1, i2, e2, i3, e3, i4, x1, x2, s2, s3, w1, c3, iv, nu, nat_succ]
theorem c172a (q : MS h M) (hF : FW F) {i : Nat} (hi : i < 40) (hw : LW F i) (h1 : F 50 i = -1) (hc : xm_in (F 47 i) 16 = true) (hr : xm_in (F 48 i) 16 = true) {s : Int32} : xm_met (d + 1) 172 [.ref M, .int (Int32.ofNat i), .int s] (xp_m h M F) = some (.inl (some (.int (sp_pay F i s).1)), xp_m h M (sp_pay F i s).2) := by
  obtain ⟨i2, e2⟩ := in_nat hi (by decide)
  have z0 : (0 : Int32).toNatClampNeg = 0 := rfl
  have z1 : (1 : Int32).toNatClampNeg = 1 := rfl
  have z2 : (2 : Int32).toNatClampNeg = 2 := rfl
  have z3 : (3 : Int32).toNatClampNeg = 3 := rfl
  have y0 : xm_in 0 8 = true := by decide
  have y1 : xm_in 1 8 = true := by decide
  have y2 : xm_in 2 8 = true := by decide
  have y3 : xm_in 3 8 = true := by decide
  have sh : F 17 0 + F 17 1 + F 17 2 + F 17 3 = sp_shares F := rfl
  unfold sp_pay
  by_cases c1 : sp_shares F = 0
  · unfold xm_met
    rw [if_pos c1]
    simp only [ite_not, ite_self, w8_nil, ok01, ite10, rf_rv, rf_ref, rf_cat, rf_lk2, rf_some, rf_none, w_add, w_cons, cr_int, cr_long, cr_ref, cr_null, is_ref, is_null, l2_int, l2_ref, l2_null, l2_none, ent_nil, ent_int, ent_ref, ent_null, ent_rf, ent_long, ok_0, ok_1, af_ret, af_void, List.tail_cons, List.tail_nil, Nat.reduceAdd, Nat.reduceLeDiff, not_false_eq_true, not_true_eq_false, and_self, and_true, true_and, ne_eq, or_true, true_or, or_false, false_or, eq_self, Nat.reduceEqDiff, ↓reduceIte, false_and, and_false, Nat.le_refl, Nat.zero_le, nz_1, nz_2, nz_3, nz_4, nz_5, nz_6, nz_8, nz_10, nz_12, nz_20, nz_30, nz_60, nz_100, mp_B, mp_Z, mp_S, mp_C, mp_K, mp_N, mp_L, mp_R, mp_I, mp_I0, mp_s, mp_s0, u2_ap, sp_isLedge, sp_isLadder, sp_isPerson, sp_isLiving, sp_isLot, sp_isThere, sp_isSpan, ms_K q, ms_B q, ms_f77 q, ms_f78 q, ms_f71 q, ms_f21 q, ms_f66 q, ms_f74 q, ms_f75 q, ms_f79 q, ms_f13 q, ms_f76 q, ms_f82 q, r172_0, r172_1, r172_4, r172_5, r172_6, r172_7, r172_65, r172_66, r172_69, r172_70, r172_71, r172_72, r172_75, r172_76, r172_77, r172_78, r172_79, r172_82, r172_83, r172_84, r172_85, r172_86, r172_89, r172_90, r172_91, r172_92, r172_93, r172_97, r172_98, r172_94, h1, i2, e2, z0, z1, z2, z3, y0, y1, y2, y3, sh, c1]
  have ha : ¬ (sp_shares F).toInt64 = 0 := fun z => c1 (hF.2.2.2.2 z)
  have s0 := @c173a d h M F F q pp.rf s (sp_shares F) 0 (by decide) (by decide) ha
  rw [show Int32.ofNat 0 = (0 : Int32) from rfl] at s0
  have s1 := @c173a d h M F _ q (pp.m (k := (F 47 i).toNatClampNeg) (v := F 42 (F 47 i).toNatClampNeg + sp_due F s 0 (sp_shares F))) s (sp_shares F) 1 (by decide) (by decide) ha
  rw [show Int32.ofNat 1 = (1 : Int32) from rfl] at s1
  obtain ⟨⟨v, b, G⟩, t, e, j1, j2⟩ := xp_loop2 (P := pyP d h M i s (sp_shares F)) (n := (F 0 6).toNatClampNeg) (fun l st => st.2 = xp_up (sp_pay1 F i s (sp_shares F)) (sp_pay0 F i s (sp_shares F)) l ∧ pp F st.2.2) (fun l st t hl hs => c172s q hF hi hw ha l st t hl hs) _ 0 (sp_due F s 1 (sp_shares F), sp_pay0 F i s (sp_shares F)) [] (Nat.zero_add _) ⟨rfl, pp.m.tr pp.m⟩
  have j1 : (b, G) = xp_up (sp_pay1 F i s (sp_shares F)) (sp_pay0 F i s (sp_shares F)) (F 0 6).toNatClampNeg := j1
  have j2 : pp F G := j2
  have g0 := j2 0 6 (by decide) (by decide)
  have c0 := (lp_end hF.1 (by decide)).1
  unfold pyP sp_pay0 at e
  rw [show Int32.ofNat 0 = (0 : Int32) from rfl] at e
  rw [if_neg c1, ← j1]
  unfold xm_met
  simp only [ite_not, ite_self, w8_nil, ok01, ite10, rf_rv, rf_ref, rf_cat, rf_lk2, rf_some, rf_none, w_add, w_cons, cr_int, cr_long, cr_ref, cr_null, is_ref, is_null, l2_int, l2_ref, l2_null, l2_none, ent_nil, ent_int, ent_ref, ent_null, ent_rf, ent_long, ok_0, ok_1, af_ret, af_void, List.tail_cons, List.tail_nil, Nat.reduceAdd, Nat.reduceLeDiff, not_false_eq_true, not_true_eq_false, and_self, and_true, true_and, ne_eq, or_true, true_or, or_false, false_or, eq_self, Nat.reduceEqDiff, ↓reduceIte, false_and, and_false, Nat.le_refl, Nat.zero_le, nz_1, nz_2, nz_3, nz_4, nz_5, nz_6, nz_8, nz_10, nz_12, nz_20, nz_30, nz_60, nz_100, mp_B, mp_Z, mp_S, mp_C, mp_K, mp_N, mp_L, mp_R, mp_I, mp_I0, mp_s, mp_s0, u2_ap, sp_isLedge, sp_isLadder, sp_isPerson, sp_isLiving, sp_isLot, sp_isThere, sp_isSpan, ms_K q, ms_B q, ms_f77 q, ms_f78 q, ms_f71 q, ms_f21 q, ms_f66 q, ms_f74 q, ms_f75 q, ms_f79 q, ms_f13 q, ms_f76 q, ms_f82 q, r172_0, r172_1, r172_4, r172_5, r172_6, r172_7, r172_65, r172_66, r172_69, r172_70, r172_71, r172_72, r172_75, r172_76, r172_77, r172_78, r172_79, r172_82, r172_83, r172_84, r172_85, r172_86, r172_89, r172_90, r172_91, r172_92, r172_93, r172_97, r172_98, r172_99, r172_100, r172_102, r172_103, r172_104, r172_105, r172_106, r172_109, r172_111, r172_112, r172_115, r172_116, r172_119, r172_120, r172_121, r172_122, r172_123, r172_125, r172_126, r172_127, r172_129, r172_131, r172_132, r172_134, r172_135, r172_136, r172_137, r172_138, r172_141, r172_143, r172_144, r172_147, r172_148, r172_151, r172_152, r172_153, r172_154, r172_155, r172_157, r172_158, r172_159, r172_161, r172_163, r172_164, r172_166, r172_167, r172_94, h1, i2, e2, z0, z1, z2, z3, y0, y1, y2, y3, sh, c1, s0, s1, hc, hr]
  simp only [u2_ap, eq_self, true_and] at e
  rw [e]
  show xm_run _ _ _ (some (.ref M) :: some (.int (Int32.ofNat i)) :: some (.int s) :: some (.int (sp_shares F)) :: some (.int b) :: some (.int v) :: some (.int (Int32.ofNat (F 0 6).toNatClampNeg)) :: t) _ (xp_m h M G) = _
  rw [r172_169]
  simp only [ite_not, ite_self, w8_nil, ok01, ite10, rf_rv, rf_ref, rf_cat, rf_lk2, rf_some, rf_none, w_add, w_cons, cr_int, cr_long, cr_ref, cr_null, is_ref, is_null, l2_int, l2_ref, l2_null, l2_none, ent_nil, ent_int, ent_ref, ent_null, ent_rf, ent_long, ok_0, ok_1, af_ret, af_void, List.tail_cons, List.tail_nil, Nat.reduceAdd, Nat.reduceLeDiff, not_false_eq_true, not_true_eq_false, and_self, and_true, true_and, ne_eq, or_true, true_or, or_false, false_or, eq_self, Nat.reduceEqDiff, ↓reduceIte, false_and, and_false, Nat.le_refl, Nat.zero_le, nz_1, nz_2, nz_3, nz_4, nz_5, nz_6, nz_8, nz_10, nz_12, nz_20, nz_30, nz_60, nz_100, mp_B, mp_Z, mp_S, mp_C, mp_K, mp_N, mp_L, mp_R, mp_I, mp_I0, mp_s, mp_s0, u2_ap, sp_isLedge, sp_isLadder, sp_isPerson, sp_isLiving, sp_isLot, sp_isThere, sp_isSpan, ms_K q, ms_B q, ms_f77 q, ms_f78 q, ms_f71 q, ms_f21 q, ms_f66 q, ms_f74 q, ms_f75 q, ms_f79 q, ms_f13 q, ms_f76 q, ms_f82 q, r172_171, r172_172, r172_175, r172_351, r172_353, g0, c0]
theorem c172 (q : MS h M) : ∀ (n i : Nat) (s : Int32) (F : xp_F), i < n → i < 40 → FW F → (∀ j, j ≤ i → LW F j) → xm_met (d + n) 172 [.ref M, .int (Int32.ofNat i), .int s] (xp_m h M F) = some (.inl (some (.int (sp_pays n i s F).1)), xp_m h M (sp_pays n i s F).2) := by
  intro n
  induction n with
  | zero => exact fun i s F hn => absurd hn (Nat.not_lt_zero _)
  | succ n ih =>
    intro i s F hn hi hF hL
    have hw := hL i (Nat.le_refl _)
    by_cases c1 : F 50 i = -1
    · rcases hw.2 with ⟨-, hc, hr⟩ | ⟨a, b, x1, -, x3, -⟩
      · have := @c172a (d + n) h M F q hF i hi hw c1 hc hr s
        rw [show d + (n + 1) = d + n + 1 from rfl, this]
        unfold sp_pays
        rw [if_pos c1]
      · exfalso
        rw [x1] at c1
        have := congrArg Int32.toInt c1
        rw [ti_nat (by omega), show (-1 : Int32).toInt = -1 from rfl] at this
        omega
    · obtain ⟨a, b, x1, x2, x3, x4⟩ := hw.2.resolve_left (fun z => c1 z.1)
      obtain ⟨i2, e2⟩ := in_nat hi (by decide)
      obtain ⟨i3, e3⟩ := in_nat (show a < 40 by omega) (by decide)
      obtain ⟨i4, e4⟩ := in_nat (show b < 40 by omega) (by decide)
      have m1 := ih a (s.toInt64 * (F 44 a).toInt64 / (F 44 i).toInt64).toInt32 F (by omega) (by omega) hF (fun j hj => hL j (by omega))
      have p1 := pays_pp n a (s.toInt64 * (F 44 a).toInt64 / (F 44 i).toInt64).toInt32 F
      have m2 := ih b (s - (s.toInt64 * (F 44 a).toInt64 / (F 44 i).toInt64).toInt32) (sp_pays n a (s.toInt64 * (F 44 a).toInt64 / (F 44 i).toInt64).toInt32 F).2 (by omega) (by omega) (hF.pp p1) (fun j hj => (hL j (by omega)).pp p1)
      have nu := hw.1
      rw [x1] at c1
      unfold sp_pays
      rw [x1, x2, if_neg c1, e3, e4]
      unfold xm_met
      rw [show d + (n + 1) = d + n + 1 from rfl]
      simp only [ite_not, ite_self, w8_nil, ok01, ite10, rf_rv, rf_ref, rf_cat, rf_lk2, rf_some, rf_none, w_add, w_cons, cr_int, cr_long, cr_ref, cr_null, is_ref, is_null, l2_int, l2_ref, l2_null, l2_none, ent_nil, ent_int, ent_ref, ent_null, ent_rf, ent_long, ok_0, ok_1, af_ret, af_void, List.tail_cons, List.tail_nil, Nat.reduceAdd, Nat.reduceLeDiff, not_false_eq_true, not_true_eq_false, and_self, and_true, true_and, ne_eq, or_true, true_or, or_false, false_or, eq_self, Nat.reduceEqDiff, ↓reduceIte, false_and, and_false, Nat.le_refl, Nat.zero_le, nz_1, nz_2, nz_3, nz_4, nz_5, nz_6, nz_8, nz_10, nz_12, nz_20, nz_30, nz_60, nz_100, mp_B, mp_Z, mp_S, mp_C, mp_K, mp_N, mp_L, mp_R, mp_I, mp_I0, mp_s, mp_s0, u2_ap, sp_isLedge, sp_isLadder, sp_isPerson, sp_isLiving, sp_isLot, sp_isThere, sp_isSpan, ms_K q, ms_B q, ms_f77 q, ms_f78 q, ms_f71 q, ms_f21 q, ms_f66 q, ms_f74 q, ms_f75 q, ms_f79 q, ms_f13 q, ms_f76 q, ms_f82 q, r172_0, r172_1, r172_4, r172_5, r172_6, r172_10, r172_11, r172_14, r172_15, r172_16, r172_17, r172_18, r172_21, r172_22, r172_23, r172_25, r172_26, r172_27, r172_28, r172_31, r172_32, r172_33, r172_34, r172_35, r172_36, r172_39, r172_40, r172_41, r172_42, r172_43, r172_44, r172_46, r172_47, r172_48, r172_50, r172_53, r172_54, r172_56, r172_57, r172_59, r172_60, r172_63, r172_64, r172_7, x1, x2, c1, i2, e2, i3, e3, nu, m1, m2]
end M27
