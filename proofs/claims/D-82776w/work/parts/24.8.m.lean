/-! the model's contracts, 34: rows of ledges, the walk -/
set_option maxRecDepth 100000
section M34
variable {d : Nat} {h : xm_H} {M : Nat} {F : xp_F}
noncomputable def rwP (d : Nat) (h : xm_H) (M : Nat) (k c w e : Int32) (n : Nat) (used : Int32) (t : List (Option Value)) (G : xp_F) : xm_V := xm_run (d + 8) 151 129 (some (.ref M) :: some (.int k) :: some (.int c) :: some (.int w) :: some (.int e) :: some (.int (Int32.ofNat n)) :: some (.int used) :: t) [] (xp_m h M G)
theorem nat_nn {n : Nat} (hn : n < 2147483648) : ¬ Int32.ofNat n < 0 := by
  rw [Int32.lt_iff_toInt_lt, ti_nat hn, show (0 : Int32).toInt = 0 from rfl]
  omega
theorem nat_ne0 {n : Nat} (hn : n + 1 < 2147483648) : ¬ Int32.ofNat (n + 1) = 0 := fun z => by
  have := congrArg Int32.toInt z
  rw [ti_nat hn, show (0 : Int32).toInt = 0 from rfl] at this
  omega
theorem RowI.hd {G : xp_F} {l : Nat} {p : List Nat} (a : RowI G (l :: p)) : G 33 p.length = Int32.ofNat l ∧ RowI G p := by
  refine ⟨?_, fun i hi => ?_⟩
  · rw [a p.length (by simp)]
    show Int32.ofNat (if p.length = p.length then l else _) = _
    rw [if_pos rfl]
  · rw [a i (by simp; omega)]
    show Int32.ofNat (if i = p.length then l else _) = _
    rw [if_neg (by omega)]
theorem RowI.low {G H : xp_F} {p : List Nat} (a : RowI G p) (b : low p.length G H) : RowI H p := fun i hi => (b 33 i (by decide) (by decide) hi).trans (a i hi)
theorem RowI.push {G : xp_F} {p : List Nat} (a : RowI G p) {l : Nat} : RowI (xm_u2 G 33 p.length (Int32.ofNat l)) (l :: p) := fun i hi => by
  have hi : i < p.length + 1 := hi
  show xm_u2 G 33 p.length _ 33 i = Int32.ofNat (if i = p.length then l else nthr p i)
  rw [u2_ap]
  by_cases e : i = p.length
  · rw [if_pos ⟨rfl, e⟩, if_pos e]
  · rw [if_neg (fun z => e z.2), if_neg e]
    exact a i (by omega)
theorem BR.ag {G H : xp_F} {B : Bst} (a : BR G B) (b : ∀ o j, (o = 38 ∨ (o = 0 ∧ 57 ≤ j)) → H o j = G o j) : BR H B := by
  obtain ⟨b1, b2, b3, b4, b5⟩ := a
  refine ⟨?_, ?_, ?_, ?_, fun i hi => ?_⟩
  · rw [b _ _ (Or.inr ⟨rfl, by decide⟩)]
    exact b1
  · rw [b _ _ (Or.inr ⟨rfl, by decide⟩)]
    exact b2
  · rw [b _ _ (Or.inr ⟨rfl, by decide⟩)]
    exact b3
  · rw [b _ _ (Or.inr ⟨rfl, by decide⟩)]
    exact b4
  · rw [b _ _ (Or.inl rfl)]
    exact b5 i hi
theorem SI.ag {G H : xp_F} {S : List Nat} (a : SI G S) (b : ∀ o j, (o = 32 ∨ (o = 0 ∧ j = 56)) → H o j = G o j) : SI H S := by
  refine ⟨?_, fun i hi => ?_⟩
  · rw [b _ _ (Or.inr ⟨rfl, rfl⟩)]
    exact a.1
  · rw [b _ _ (Or.inl rfl)]
    exact a.2 i hi
theorem nthr_lt : ∀ (p : List Nat), (∀ o ∈ p, o < 12) → ∀ {i : Nat}, i < p.length → nthr p i < 12
  | [], _, _, h => absurd h (Nat.not_lt_zero _)
  | l :: p, h12, i, hi => by
    have hi : i < p.length + 1 := hi
    show (if i = p.length then l else nthr p i) < 12
    split
    · exact h12 l (List.mem_cons_self)
    · exact nthr_lt p (fun o ho => h12 o (List.mem_cons_of_mem _ ho)) (by omega)
theorem smk_01 {l : Nat} : ∀ p : List Nat, sp_smk F l p = 0 ∨ sp_smk F l p = 1
  | [] => Or.inl rfl
  | o :: p => by
    unfold sp_smk
    split
    · exact Or.inr rfl
    · exact Or.inl rfl
/-- from where the last one stands -/
theorem c151h (q : MS h M) {G : xp_F} (hr : rw' F G) {k c w e : Int32} {p : List Nat} (hp : RowI G p) (h7 : p.length ≤ 7) (h12 : ∀ o ∈ p, o < 12) {ls : List (Option Value)} : xm_run (d + 8) 151 230 (some (.ref M) :: some (.int k) :: some (.int c) :: some (.int w) :: some (.int e) :: some (.int (Int32.ofNat p.length)) :: ls) [] (xp_m h M G) = xm_run (d + 8) 151 254 (some (.ref M) :: some (.int k) :: some (.int c) :: some (.int w) :: some (.int e) :: some (.int (Int32.ofNat p.length)) :: ls) [.int (sp_hr F p)] (xp_m h M G) := by
  cases p with
  | nil =>
    have z : Int32.ofNat ([] : List Nat).length = 0 := rfl
    rw [z]
    simp only [ite_not, ite_self, w8_nil, ok01, ite10, rf_rv, rf_ref, rf_cat, rf_lk2, rf_some, rf_none, w_add, w_cons, cr_int, cr_long, cr_ref, cr_null, is_ref, is_null, l2_int, l2_ref, l2_null, l2_none, ent_nil, ent_int, ent_ref, ent_null, ent_rf, ent_long, ok_0, ok_1, af_ret, af_void, List.tail_cons, List.tail_nil, Nat.reduceAdd, Nat.reduceLeDiff, not_false_eq_true, not_true_eq_false, and_self, and_true, true_and, ne_eq, or_true, true_or, or_false, false_or, eq_self, Nat.reduceEqDiff, ↓reduceIte, false_and, and_false, Nat.le_refl, Nat.zero_le, nz_1, nz_2, nz_3, nz_4, nz_5, nz_6, nz_8, nz_10, nz_12, nz_20, nz_30, nz_60, nz_100, mp_B, mp_Z, mp_S, mp_C, mp_K, mp_N, mp_L, mp_R, mp_I, mp_I0, mp_s, mp_s0, u2_ap, sp_isLedge, sp_isLadder, sp_isPerson, sp_isLiving, sp_isLot, sp_isThere, sp_isSpan, ms_K q, ms_B q, ms_f49 q, ms_f51 q, ms_f52 q, ms_f53 q, ms_f54 q, ms_f50 q, ms_f10 q, ms_f8 q, ms_f9 q, r151_230, r151_235, r151_237, r151_232, sp_hr]
  | cons l p =>
    obtain ⟨r1, -⟩ := hp.hd
    have l12 := h12 l (List.mem_cons_self)
    have h7' : p.length + 1 ≤ 7 := h7
    obtain ⟨i1, e1⟩ := in_nat (show p.length < 8 by omega) (by decide)
    obtain ⟨i2, e2⟩ := in_nat l12 (by decide)
    have x := hr 4 l (by omega) (by decide) (by omega)
    have ne := nat_ne0 (n := p.length) (by omega)
    rw [show (l :: p).length = p.length + 1 from rfl]
    simp only [ite_not, ite_self, w8_nil, ok01, ite10, rf_rv, rf_ref, rf_cat, rf_lk2, rf_some, rf_none, w_add, w_cons, cr_int, cr_long, cr_ref, cr_null, is_ref, is_null, l2_int, l2_ref, l2_null, l2_none, ent_nil, ent_int, ent_ref, ent_null, ent_rf, ent_long, ok_0, ok_1, af_ret, af_void, List.tail_cons, List.tail_nil, Nat.reduceAdd, Nat.reduceLeDiff, not_false_eq_true, not_true_eq_false, and_self, and_true, true_and, ne_eq, or_true, true_or, or_false, false_or, eq_self, Nat.reduceEqDiff, ↓reduceIte, false_and, and_false, Nat.le_refl, Nat.zero_le, nz_1, nz_2, nz_3, nz_4, nz_5, nz_6, nz_8, nz_10, nz_12, nz_20, nz_30, nz_60, nz_100, mp_B, mp_Z, mp_S, mp_C, mp_K, mp_N, mp_L, mp_R, mp_I, mp_I0, mp_s, mp_s0, u2_ap, sp_isLedge, sp_isLadder, sp_isPerson, sp_isLiving, sp_isLot, sp_isThere, sp_isSpan, ms_K q, ms_B q, ms_f49 q, ms_f51 q, ms_f52 q, ms_f53 q, ms_f54 q, ms_f50 q, ms_f10 q, ms_f8 q, ms_f9 q, r151_230, r151_235, r151_237, r151_240, r151_241, r151_244, r151_245, r151_248, r151_250, r151_251, r151_252, r151_253, r151_232, ne, nat_pred, i1, e1, r1, i2, e2, x, sp_hr]
def UB (used : Int32) (p : List Nat) : Prop := ∀ j, j < 32 → bit used j = decide (j ∈ p)
/-- one that is not taken -/
theorem c151n (q : MS h M) {k c w e : Int32} {p : List Nat} {S : List Nat} (hS : S.length ≤ 7) (h12 : ∀ l ∈ S, l < 12) (hp7 : p.length ≤ 7) {i : Nat} (hi : i < S.length) {used : Int32} {G : xp_F} (t : List (Option Value)) (hs : SI G S) (hx : G 34 p.length = Int32.ofNat i) (hu : bit used S[i] = true) :
    ∃ t', rwP d h M k c w e p.length used t G = rwP d h M k c w e p.length used t' (xm_u2 G 34 p.length (Int32.ofNat (i + 1))) := by
  have l12 := h12 _ (List.getElem_mem hi)
  obtain ⟨i1, e1⟩ := in_nat (show p.length < 8 by omega) (by decide)
  obtain ⟨i2, e2⟩ := in_nat (show i < 7 by omega) (by decide)
  have nn := nat_nn (n := p.length) (by omega)
  have c0 : Int32.ofNat i < Int32.ofNat S.length := by
    rw [Int32.lt_iff_toInt_lt, ti_nat (by omega), ti_nat (by omega)]
    omega
  have u1 := (bit_shr1 (s := used) (i := S[i]) (by omega)).mpr hu
  obtain ⟨s1, s2⟩ := hs
  have s2 := s2 i hi
  refine ⟨some (.int (Int32.ofNat i)) :: some (.int (Int32.ofNat S[i])) :: t.tail.tail, ?_⟩
  unfold rwP
  rw [r151_129]
  simp only [ite_not, ite_self, w8_nil, ok01, ite10, rf_rv, rf_ref, rf_cat, rf_lk2, rf_some, rf_none, w_add, w_cons, cr_int, cr_long, cr_ref, cr_null, is_ref, is_null, l2_int, l2_ref, l2_null, l2_none, ent_nil, ent_int, ent_ref, ent_null, ent_rf, ent_long, ok_0, ok_1, af_ret, af_void, List.tail_cons, List.tail_nil, Nat.reduceAdd, Nat.reduceLeDiff, not_false_eq_true, not_true_eq_false, and_self, and_true, true_and, ne_eq, or_true, true_or, or_false, false_or, eq_self, Nat.reduceEqDiff, ↓reduceIte, false_and, and_false, Nat.le_refl, Nat.zero_le, nz_1, nz_2, nz_3, nz_4, nz_5, nz_6, nz_8, nz_10, nz_12, nz_20, nz_30, nz_60, nz_100, mp_B, mp_Z, mp_S, mp_C, mp_K, mp_N, mp_L, mp_R, mp_I, mp_I0, mp_s, mp_s0, u2_ap, sp_isLedge, sp_isLadder, sp_isPerson, sp_isLiving, sp_isLot, sp_isThere, sp_isSpan, ms_K q, ms_B q, ms_f49 q, ms_f51 q, ms_f52 q, ms_f53 q, ms_f54 q, ms_f50 q, ms_f10 q, ms_f8 q, ms_f9 q, r151_134, r151_135, r151_138, r151_140, r151_141, r151_143, r151_144, r151_147, r151_149, r151_150, r151_151, r151_152, r151_153, r151_154, r151_156, r151_157, r151_163, r151_166, r151_171, r151_173, r151_174, r151_175, r151_178, r151_180, r151_181, r151_182, r151_183, r151_184, r151_185, r151_187, r151_190, r151_191, r151_194, r151_196, r151_197, r151_199, r151_201, r151_203, r151_204, r151_205, r151_206, r151_210, r151_213, r151_214, r151_217, r151_219, r151_220, r151_221, r151_222, r151_224, r151_227, r151_228, r151_131, r151_160, r151_168, r151_207, nn, i1, e1, i2, e2, hx, s1, c0, s2, u1, nat_succ]
/-- one that is weighed -/
theorem c151w (q : MS h M) {nL : Nat} {L : Nat → Ln} (hm : MR F 0 nL L) {k c w e : Int32} {p : List Nat} {S : List Nat} (hS : S.length ≤ 7) (h12 : ∀ l ∈ S, l < 12) (hp7 : p.length ≤ 7) (hp12 : ∀ o ∈ p, o < 12) {i : Nat} (hi : i < S.length) {used m u s : Int32} {G : xp_F} (t : List (Option Value)) (hs : SI G S) (hx : G 34 p.length = Int32.ofNat i) (hu : ¬ bit used S[i] = true) (hr : rw' F G) (hp : RowI G p) (g1 : G 36 p.length = m) (g2 : G 35 p.length = u) (g3 : G 37 p.length = s) :
    ∃ (G2 : xp_F) (t' : List (Option Value)), pq 0 (xm_u2 G 34 p.length (Int32.ofNat (i + 1))) G2 ∧ rwP d h M k c w e p.length used t G = xm_run (d + 8) 151 333 (some (.ref M) :: some (.int k) :: some (.int c) :: some (.int w) :: some (.int e) :: some (.int (Int32.ofNat p.length)) :: some (.int used) :: some (.int (Int32.ofNat i)) :: some (.int (Int32.ofNat S[i])) :: some (.int (F 6 S[i] - sp_stays F nL L S[i])) :: some (.int (sp_hr F p)) :: some (.int (sp_mins F p m (F 6 S[i] - sp_stays F nL L S[i]) S[i])) :: some (.int (sp_stg F p s S[i])) :: t') [] (xp_m h M G2) := by
  have l12 := h12 _ (List.getElem_mem hi)
  obtain ⟨i1, e1⟩ := in_nat (show p.length < 8 by omega) (by decide)
  obtain ⟨i2, e2⟩ := in_nat (show i < 7 by omega) (by decide)
  obtain ⟨i3, e3⟩ := in_nat l12 (by decide)
  have nn := nat_nn (n := p.length) (by omega)
  have c0 : Int32.ofNat i < Int32.ofNat S.length := by
    rw [Int32.lt_iff_toInt_lt, ti_nat (by omega), ti_nat (by omega)]
    omega
  have u1 : ¬ used >>> (Int32.ofNat S[i] &&& 31) &&& 1 = 1 := fun z => hu ((bit_shr1 (s := used) (i := S[i]) (by omega)).mp z)
  obtain ⟨s1, s2⟩ := hs
  have s2 := s2 i hi
  have hr1 : rw' F (xm_u2 G 34 p.length (Int32.ofNat (i + 1))) := hr.tr (rw'.u (by decide))
  have mG : MR (xm_u2 G 34 p.length (Int32.ofNat (i + 1))) 0 nL L := hm.gP (fun o j h1 h2 => hr1 o j (by omega) (by omega) (by omega))
  obtain ⟨G2, m1, p1⟩ := @c140 (d + 2) h M _ q 0 (Int32.ofNat S[i]) ⟨by decide, by decide⟩ i3 nL L mG
  have hr2 := hr1.tr (rw'.pq p1)
  have hh : sp_has (xm_u2 G 34 p.length (Int32.ofNat (i + 1))) S[i] = sp_has F S[i] := by
    funext z
    unfold sp_has
    rw [hr1 0 0 (by omega) (by decide) (by omega), hr1 0 1 (by omega) (by decide) (by omega), hr1 4 S[i] (by omega) (by decide) (by omega), hr1 5 S[i] (by omega) (by decide) (by omega), hr1 6 S[i] (by omega) (by decide) (by omega)]
  rw [e3, hh, hr1 6 S[i] (by omega) (by decide) (by omega), show sp_left (F 6 S[i]) (sp_leaves (sp_has F S[i]) L nL) = sp_stays F nL L S[i] from rfl] at m1
  have hp1 : RowI G2 p := fun j hj => by
    rw [p1.1 33 j (by decide), u2_ap, if_neg (by omega)]
    exact hp j hj
  have hd := @c151h d h M F q G2 hr2 k c w e p hp1 hp7 hp12
  have sm := @c152 (d + 6) h M G2 q p.length (by omega) (fun j hj => by
    rw [hp1 j hj]
    exact (in_nat (nthr_lt p hp12 hj) (by decide)).1) (Int32.ofNat S[i]) i3
  rw [e3, smk_eq hr2 p hp1 hp12] at sm
  have x1 : G2 6 S[i] = F 6 S[i] := hr2 _ _ (by omega) (by decide) (by omega)
  have x0 := hr1 6 S[i] (by omega) (by decide) (by omega)
  have x2 : G2 4 S[i] = F 4 S[i] := hr2 _ _ (by omega) (by decide) (by omega)
  have x3 : G2 5 S[i] = F 5 S[i] := hr2 _ _ (by omega) (by decide) (by omega)
  have x4 : G2 36 p.length = m := by
    rw [p1.1 36 _ (by decide), u2_ap, if_neg (by omega)]
    exact g1
  have x5 : G2 37 p.length = s := by
    rw [p1.1 37 _ (by decide), u2_ap, if_neg (by omega)]
    exact g3
  have x6 := hr 6 S[i] (by omega) (by decide) (by omega)
  refine ⟨G2, t.tail.tail.tail.tail.tail.tail, p1, ?_⟩
  unfold rwP sp_mins sp_stg
  rw [r151_129]
  simp only [ite_not, ite_self, w8_nil, ok01, ite10, rf_rv, rf_ref, rf_cat, rf_lk2, rf_some, rf_none, w_add, w_cons, cr_int, cr_long, cr_ref, cr_null, is_ref, is_null, l2_int, l2_ref, l2_null, l2_none, ent_nil, ent_int, ent_ref, ent_null, ent_rf, ent_long, ok_0, ok_1, af_ret, af_void, List.tail_cons, List.tail_nil, Nat.reduceAdd, Nat.reduceLeDiff, not_false_eq_true, not_true_eq_false, and_self, and_true, true_and, ne_eq, or_true, true_or, or_false, false_or, eq_self, Nat.reduceEqDiff, ↓reduceIte, false_and, and_false, Nat.le_refl, Nat.zero_le, nz_1, nz_2, nz_3, nz_4, nz_5, nz_6, nz_8, nz_10, nz_12, nz_20, nz_30, nz_60, nz_100, mp_B, mp_Z, mp_S, mp_C, mp_K, mp_N, mp_L, mp_R, mp_I, mp_I0, mp_s, mp_s0, u2_ap, sp_isLedge, sp_isLadder, sp_isPerson, sp_isLiving, sp_isLot, sp_isThere, sp_isSpan, ms_K q, ms_B q, ms_f49 q, ms_f51 q, ms_f52 q, ms_f53 q, ms_f54 q, ms_f50 q, ms_f10 q, ms_f8 q, ms_f9 q, r151_134, r151_135, r151_138, r151_140, r151_141, r151_143, r151_144, r151_147, r151_149, r151_150, r151_151, r151_152, r151_153, r151_154, r151_156, r151_157, r151_163, r151_166, r151_171, r151_173, r151_174, r151_175, r151_178, r151_180, r151_181, r151_182, r151_183, r151_184, r151_185, r151_187, r151_190, r151_191, r151_194, r151_196, r151_197, r151_199, r151_201, r151_203, r151_204, r151_205, r151_206, r151_210, r151_213, r151_214, r151_217, r151_219, r151_220, r151_221, r151_222, r151_224, r151_227, r151_228, r151_131, r151_160, r151_168, r151_207, nn, i1, e1, i2, e2, i3, e3, hx, s1, c0, s2, u1, m1, x1, x6, nat_succ]
  rw [hd]
  by_cases c1 : sp_smk F S[i] p = 0
  · rw [c1] at sm
    simp only [ite_not, ite_self, w8_nil, ok01, ite10, rf_rv, rf_ref, rf_cat, rf_lk2, rf_some, rf_none, w_add, w_cons, cr_int, cr_long, cr_ref, cr_null, is_ref, is_null, l2_int, l2_ref, l2_null, l2_none, ent_nil, ent_int, ent_ref, ent_null, ent_rf, ent_long, ok_0, ok_1, af_ret, af_void, List.tail_cons, List.tail_nil, Nat.reduceAdd, Nat.reduceLeDiff, not_false_eq_true, not_true_eq_false, and_self, and_true, true_and, ne_eq, or_true, true_or, or_false, false_or, eq_self, Nat.reduceEqDiff, ↓reduceIte, false_and, and_false, Nat.le_refl, Nat.zero_le, nz_1, nz_2, nz_3, nz_4, nz_5, nz_6, nz_8, nz_10, nz_12, nz_20, nz_30, nz_60, nz_100, mp_B, mp_Z, mp_S, mp_C, mp_K, mp_N, mp_L, mp_R, mp_I, mp_I0, mp_s, mp_s0, u2_ap, sp_isLedge, sp_isLadder, sp_isPerson, sp_isLiving, sp_isLot, sp_isThere, sp_isSpan, ms_K q, ms_B q, ms_f49 q, ms_f51 q, ms_f52 q, ms_f53 q, ms_f54 q, ms_f50 q, ms_f10 q, ms_f8 q, ms_f9 q, r151_254, r151_256, r151_257, r151_260, r151_262, r151_263, r151_264, r151_266, r151_267, r151_270, r151_272, r151_273, r151_274, r151_277, r151_278, r151_279, r151_281, r151_282, r151_284, r151_286, r151_287, r151_289, r151_290, r151_291, r151_293, r151_294, r151_297, r151_299, r151_300, r151_301, r151_303, r151_305, r151_311, r151_312, r151_315, r151_317, r151_318, r151_319, r151_320, r151_323, r151_324, r151_327, r151_329, r151_330, r151_331, r151_308, i1, e1, i3, e3, x2, x3, x4, x5, sm, c1, c107a]
  · have sm1 : sp_smk F S[i] p = 1 := (smk_01 p).resolve_left c1
    rw [sm1] at sm
    simp only [ite_not, ite_self, w8_nil, ok01, ite10, rf_rv, rf_ref, rf_cat, rf_lk2, rf_some, rf_none, w_add, w_cons, cr_int, cr_long, cr_ref, cr_null, is_ref, is_null, l2_int, l2_ref, l2_null, l2_none, ent_nil, ent_int, ent_ref, ent_null, ent_rf, ent_long, ok_0, ok_1, af_ret, af_void, List.tail_cons, List.tail_nil, Nat.reduceAdd, Nat.reduceLeDiff, not_false_eq_true, not_true_eq_false, and_self, and_true, true_and, ne_eq, or_true, true_or, or_false, false_or, eq_self, Nat.reduceEqDiff, ↓reduceIte, false_and, and_false, Nat.le_refl, Nat.zero_le, nz_1, nz_2, nz_3, nz_4, nz_5, nz_6, nz_8, nz_10, nz_12, nz_20, nz_30, nz_60, nz_100, mp_B, mp_Z, mp_S, mp_C, mp_K, mp_N, mp_L, mp_R, mp_I, mp_I0, mp_s, mp_s0, u2_ap, sp_isLedge, sp_isLadder, sp_isPerson, sp_isLiving, sp_isLot, sp_isThere, sp_isSpan, ms_K q, ms_B q, ms_f49 q, ms_f51 q, ms_f52 q, ms_f53 q, ms_f54 q, ms_f50 q, ms_f10 q, ms_f8 q, ms_f9 q, r151_254, r151_256, r151_257, r151_260, r151_262, r151_263, r151_264, r151_266, r151_267, r151_270, r151_272, r151_273, r151_274, r151_277, r151_278, r151_279, r151_281, r151_282, r151_284, r151_286, r151_287, r151_289, r151_290, r151_291, r151_293, r151_294, r151_297, r151_299, r151_300, r151_301, r151_303, r151_305, r151_311, r151_312, r151_315, r151_317, r151_318, r151_319, r151_320, r151_323, r151_324, r151_327, r151_329, r151_330, r151_331, r151_308, i1, e1, i3, e3, x2, x3, x4, x5, sm, sm1, c107a]
end M34
