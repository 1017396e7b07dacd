/-! the model's contracts, 35: rows of ledges, all of them -/
set_option maxRecDepth 100000
section M35
variable {d : Nat} {h : xm_H} {M : Nat} {F : xp_F}
/-- one that is put into the row -/
theorem c151p (q : MS h M) {k c w e : Int32} {p : List Nat} {S : List Nat} (h6 : p.length < 7) {l : Nat} (l12 : l < 12) {used iv hv ct m' s' : Int32} {G : xp_F} {B : Bst} (hb : BR G B) (hs : SI G S) (hr : rw' F G) (hp : RowI G p) {u : Int32} (g2 : G 35 p.length = u) (c1 : ¬ F 0 3 < s') (c2 : ¬ F 0 2 < m') (t : List (Option Value)) :
    ∃ (G2 : xp_F) (t' : List (Option Value)), xm_run (d + 8) 151 333 (some (.ref M) :: some (.int k) :: some (.int c) :: some (.int w) :: some (.int e) :: some (.int (Int32.ofNat p.length)) :: some (.int used) :: some (.int iv) :: some (.int (Int32.ofNat l)) :: some (.int ct) :: some (.int hv) :: some (.int m') :: some (.int s') :: t) [] (xp_m h M G) = rwP d h M k c w e (l :: p).length (used ||| 1 <<< (Int32.ofNat l &&& 31)) t' G2 ∧
      BR G2 (sp_tk (F 0 2) B (u + ct) (m' + 2 * (99 - F 4 l)) s' (l :: p)) ∧ SI G2 S ∧ rw' F G2 ∧ RowI G2 (l :: p) ∧ low p.length G G2 ∧ G2 36 (p.length + 1) = m' ∧ G2 35 (p.length + 1) = u + ct ∧ G2 37 (p.length + 1) = s' ∧ G2 34 (p.length + 1) = Int32.ofNat 0 ∧ (∀ o, (o = 34 ∨ o = 35 ∨ o = 36 ∨ o = 37) → G2 o p.length = G o p.length) := by
  obtain ⟨i1, e1⟩ := in_nat (show p.length < 8 by omega) (by decide)
  obtain ⟨i2, e2⟩ := in_nat (show p.length + 1 < 8 by omega) (by decide)
  obtain ⟨i3, e3⟩ := in_nat l12 (by decide)
  have x1 := hr 0 3 (by omega) (by decide) (by omega)
  have x2 := hr 0 2 (by omega) (by decide) (by omega)
  have x3 := hr 4 l (by omega) (by decide) (by omega)
  have c2' : m' ≤ F 0 2 := Int32.not_lt.mp c2
  generalize eG : xm_u2 (xm_u2 (xm_u2 (xm_u2 (xm_u2 G 33 p.length (Int32.ofNat l)) 35 (p.length + 1) (u + ct)) 36 (p.length + 1) m') 37 (p.length + 1) s') 34 (p.length + 1) 0 = G1
  have f : ∀ o j, (¬ (33 ≤ o ∧ o ≤ 37) ∨ (¬ o = 33 ∧ j = p.length) ∨ j < p.length) → G1 o j = G o j := fun o j ho => by
    rw [← eG, u2_ap, if_neg (by omega), u2_ap, if_neg (by omega), u2_ap, if_neg (by omega), u2_ap, if_neg (by omega), u2_ap, if_neg (by omega)]
  have y1 : G1 35 (p.length + 1) = u + ct := by
    rw [← eG]
    simp only [u2_ap, Nat.reduceEqDiff, false_and, and_self, ↓reduceIte]
  have y2 : G1 36 (p.length + 1) = m' := by
    rw [← eG]
    simp only [u2_ap, Nat.reduceEqDiff, false_and, and_self, ↓reduceIte]
  have y3 : G1 37 (p.length + 1) = s' := by
    rw [← eG]
    simp only [u2_ap, Nat.reduceEqDiff, false_and, and_self, ↓reduceIte]
  have y4 : G1 34 (p.length + 1) = 0 := by
    rw [← eG]
    simp only [u2_ap, and_self, ↓reduceIte]
  have hb1 : BR G1 B := hb.ag (fun o j ho => f o j (Or.inl (by omega)))
  have hs1 : SI G1 S := hs.ag (fun o j ho => f o j (Or.inl (by omega)))
  have hr1 : rw' F G1 := fun o j h1 h2 h3 => (f o j (Or.inl (by omega))).trans (hr o j h1 h2 h3)
  have hp1 : RowI G1 (l :: p) := fun i hi => by
    rw [← hp.push (l := l) i hi, ← eG, u2_ap, if_neg (by omega), u2_ap, if_neg (by omega), u2_ap, if_neg (by omega), u2_ap, if_neg (by omega)]
  have hl1 : low p.length G G1 := fun o j _ _ h3 => f o j (Or.inr (Or.inr h3))
  obtain ⟨t1, t2, t3, t4, t5, t6⟩ := take_BR (n := p.length + 1) (m := m' + 2 * (99 - F 4 l)) (hr1 0 2 (by omega) (by decide) (by omega)) hb1 hp1 rfl
  rw [y1, y3] at t1
  have x4 : G1 4 l = F 4 l := hr1 _ _ (by omega) (by decide) (by omega)
  have e5 := @c153 (d + 7) h M G1 q (p.length + 1) (by omega) (m' + 2 * (99 - F 4 l))
  refine ⟨sp_takesRow G1 (p.length + 1) (m' + 2 * (99 - F 4 l)), some (.int iv) :: some (.int (Int32.ofNat l)) :: some (.int ct) :: some (.int hv) :: some (.int m') :: some (.int s') :: t, ?_, t1, hs1.ag (fun o j ho => by rcases ho with e | ⟨e, e'⟩ <;> subst e; exact t4 j; subst e'; exact t5), hr1.tr t2, fun i hi => (t6 33 i (by decide) (by decide)).trans (hp1 i hi), hl1.tr (t3 _) (Nat.le_refl _), (t6 _ _ (by decide) (by decide)).trans y2, (t6 _ _ (by decide) (by decide)).trans y1, (t6 _ _ (by decide) (by decide)).trans y3, (t6 _ _ (by decide) (by decide)).trans y4, fun o ho => (t6 o _ (by omega) (by omega)).trans (f o _ (Or.inr (Or.inl ⟨by omega, rfl⟩)))⟩
  unfold rwP
  simp only [ite_not, ite_self, w8_nil, ok01, ite10, rf_rv, rf_ref, rf_cat, rf_lk2, rf_some, rf_none, w_add, w_cons, cr_int, cr_long, cr_ref, cr_null, is_ref, is_null, l2_int, l2_ref, l2_null, l2_none, ent_nil, ent_int, ent_ref, ent_null, ent_rf, ent_long, ok_0, ok_1, af_ret, af_void, List.tail_cons, List.tail_nil, Nat.reduceAdd, Nat.reduceLeDiff, not_false_eq_true, not_true_eq_false, and_self, and_true, true_and, ne_eq, or_true, true_or, or_false, false_or, eq_self, Nat.reduceEqDiff, ↓reduceIte, false_and, and_false, Nat.le_refl, Nat.zero_le, nz_1, nz_2, nz_3, nz_4, nz_5, nz_6, nz_8, nz_10, nz_12, nz_20, nz_30, nz_60, nz_100, mp_B, mp_Z, mp_S, mp_C, mp_K, mp_N, mp_L, mp_R, mp_I, mp_I0, mp_s, mp_s0, u2_ap, sp_isLedge, sp_isLadder, sp_isPerson, sp_isLiving, sp_isLot, sp_isThere, sp_isSpan, ms_K q, ms_B q, ms_f49 q, ms_f51 q, ms_f52 q, ms_f53 q, ms_f54 q, ms_f50 q, ms_f10 q, ms_f8 q, ms_f9 q, r151_333, r151_335, r151_336, r151_342, r151_344, r151_345, r151_351, r151_354, r151_355, r151_358, r151_360, r151_362, r151_363, r151_365, r151_366, r151_368, r151_369, r151_370, r151_372, r151_375, r151_376, r151_379, r151_381, r151_382, r151_385, r151_387, r151_388, r151_389, r151_390, r151_392, r151_393, r151_394, r151_395, r151_398, r151_400, r151_402, r151_403, r151_404, r151_407, r151_409, r151_411, r151_412, r151_413, r151_416, r151_418, r151_419, r151_420, r151_421, r151_423, r151_425, r151_426, r151_428, r151_429, r151_432, r151_434, r151_435, r151_436, r151_437, r151_438, r151_441, r151_339, r151_348, i1, e1, i2, e2, i3, e3, x1, x2, x3, x4, c1, c2', g2, nat_succ, nat_pred, eG, e5]
  rfl
/-- the row's last goes -/
theorem c151q (q : MS h M) {k c w e : Int32} {p : List Nat} {S : List Nat} (hp7 : p.length ≤ 7) (hp12 : ∀ o ∈ p, o < 12) {used : Int32} {G : xp_F} (t : List (Option Value)) (hs : SI G S) (hp : RowI G p) (hS : S.length ≤ 7) (hx : G 34 p.length = Int32.ofNat S.length) :
    ∃ t', rwP d h M k c w e p.length used t G = match p with
      | [] => some (.inl none, xp_m h M (xm_u2 G 34 p.length (Int32.ofNat (S.length + 1))))
      | l :: p' => rwP d h M k c w e p'.length (used &&& (1 <<< (Int32.ofNat l &&& 31) ^^^ -1)) t' (xm_u2 G 34 p.length (Int32.ofNat (S.length + 1))) := by
  obtain ⟨i1, e1⟩ := in_nat (show p.length < 8 by omega) (by decide)
  have nn := nat_nn (n := p.length) (by omega)
  obtain ⟨s1, -⟩ := hs
  have c0 : ¬ Int32.ofNat S.length < Int32.ofNat S.length := Int32.lt_irrefl
  refine ⟨some (.int (Int32.ofNat S.length)) :: t.tail, ?_⟩
  cases p with
  | nil =>
    have z : Int32.ofNat ([] : List Nat).length = 0 := rfl
    have c1 : ¬ (0 : Int32) < 0 := by decide
    have c2 : (0 : Int32) + (-1) < 0 := by decide
    rw [z] at nn i1 e1
    unfold rwP
    rw [z, r151_129]
    simp only [ite_not, ite_self, w8_nil, ok01, ite10, rf_rv, rf_ref, rf_cat, rf_lk2, rf_some, rf_none, w_add, w_cons, cr_int, cr_long, cr_ref, cr_null, is_ref, is_null, l2_int, l2_ref, l2_null, l2_none, ent_nil, ent_int, ent_ref, ent_null, ent_rf, ent_long, ok_0, ok_1, af_ret, af_void, List.tail_cons, List.tail_nil, Nat.reduceAdd, Nat.reduceLeDiff, not_false_eq_true, not_true_eq_false, and_self, and_true, true_and, ne_eq, or_true, true_or, or_false, false_or, eq_self, Nat.reduceEqDiff, ↓reduceIte, false_and, and_false, Nat.le_refl, Nat.zero_le, nz_1, nz_2, nz_3, nz_4, nz_5, nz_6, nz_8, nz_10, nz_12, nz_20, nz_30, nz_60, nz_100, mp_B, mp_Z, mp_S, mp_C, mp_K, mp_N, mp_L, mp_R, mp_I, mp_I0, mp_s, mp_s0, u2_ap, sp_isLedge, sp_isLadder, sp_isPerson, sp_isLiving, sp_isLot, sp_isThere, sp_isSpan, ms_K q, ms_B q, ms_f49 q, ms_f51 q, ms_f52 q, ms_f53 q, ms_f54 q, ms_f50 q, ms_f10 q, ms_f8 q, ms_f9 q, r151_134, r151_135, r151_138, r151_140, r151_141, r151_143, r151_144, r151_147, r151_149, r151_150, r151_151, r151_152, r151_153, r151_154, r151_156, r151_157, r151_163, r151_166, r151_171, r151_173, r151_174, r151_175, r151_178, r151_180, r151_181, r151_182, r151_183, r151_184, r151_185, r151_187, r151_131, r151_160, r151_168, c1, c2, i1, e1, hx, s1, c0, nat_succ]
    rw [r151_129]
    simp only [ite_not, ite_self, w8_nil, ok01, ite10, rf_rv, rf_ref, rf_cat, rf_lk2, rf_some, rf_none, w_add, w_cons, cr_int, cr_long, cr_ref, cr_null, is_ref, is_null, l2_int, l2_ref, l2_null, l2_none, ent_nil, ent_int, ent_ref, ent_null, ent_rf, ent_long, ok_0, ok_1, af_ret, af_void, List.tail_cons, List.tail_nil, Nat.reduceAdd, Nat.reduceLeDiff, not_false_eq_true, not_true_eq_false, and_self, and_true, true_and, ne_eq, or_true, true_or, or_false, false_or, eq_self, Nat.reduceEqDiff, ↓reduceIte, false_and, and_false, Nat.le_refl, Nat.zero_le, nz_1, nz_2, nz_3, nz_4, nz_5, nz_6, nz_8, nz_10, nz_12, nz_20, nz_30, nz_60, nz_100, ent_nil, r151_131, r151_444, c2]
  | cons l p =>
    obtain ⟨r1, -⟩ := hp.hd
    have hp7 : p.length + 1 ≤ 7 := hp7
    obtain ⟨i2, e2⟩ := in_nat (show p.length < 8 by omega) (by decide)
    have nn2 := nat_nn (n := p.length) (by omega)
    rw [show (l :: p).length = p.length + 1 from rfl] at nn i1 e1 hx ⊢
    unfold rwP
    rw [r151_129]
    simp only [ite_not, ite_self, w8_nil, ok01, ite10, rf_rv, rf_ref, rf_cat, rf_lk2, rf_some, rf_none, w_add, w_cons, cr_int, cr_long, cr_ref, cr_null, is_ref, is_null, l2_int, l2_ref, l2_null, l2_none, ent_nil, ent_int, ent_ref, ent_null, ent_rf, ent_long, ok_0, ok_1, af_ret, af_void, List.tail_cons, List.tail_nil, Nat.reduceAdd, Nat.reduceLeDiff, not_false_eq_true, not_true_eq_false, and_self, and_true, true_and, ne_eq, or_true, true_or, or_false, false_or, eq_self, Nat.reduceEqDiff, ↓reduceIte, false_and, and_false, Nat.le_refl, Nat.zero_le, nz_1, nz_2, nz_3, nz_4, nz_5, nz_6, nz_8, nz_10, nz_12, nz_20, nz_30, nz_60, nz_100, mp_B, mp_Z, mp_S, mp_C, mp_K, mp_N, mp_L, mp_R, mp_I, mp_I0, mp_s, mp_s0, u2_ap, sp_isLedge, sp_isLadder, sp_isPerson, sp_isLiving, sp_isLot, sp_isThere, sp_isSpan, ms_K q, ms_B q, ms_f49 q, ms_f51 q, ms_f52 q, ms_f53 q, ms_f54 q, ms_f50 q, ms_f10 q, ms_f8 q, ms_f9 q, r151_134, r151_135, r151_138, r151_140, r151_141, r151_143, r151_144, r151_147, r151_149, r151_150, r151_151, r151_152, r151_153, r151_154, r151_156, r151_157, r151_163, r151_166, r151_171, r151_173, r151_174, r151_175, r151_178, r151_180, r151_181, r151_182, r151_183, r151_184, r151_185, r151_187, r151_131, r151_160, r151_168, nn, nn2, i1, e1, i2, e2, hx, s1, c0, r1, nat_succ, nat_predi]
theorem getD_el {S : List Nat} {i : Nat} (hi : i < S.length) : S.getD i 0 = S[i] := by
  rw [List.getD_eq_getElem?_getD, List.getElem?_eq_getElem hi]
  rfl
noncomputable def rwO (d : Nat) (h : xm_H) (M : Nat) (k c w e : Int32) (p : List Nat) (used : Int32) (t : List (Option Value)) (G : xp_F) : xm_V := match p with
  | [] => some (.inl none, xp_m h M G)
  | _ :: p' => rwP d h M k c w e p'.length used t G
theorem ub_push {used : Int32} {p : List Nat} {l : Nat} (hl : l < 32) (a : UB used p) : UB (used ||| 1 <<< (Int32.ofNat l &&& 31)) (l :: p) := fun j hj => by
  rw [bit_set hl hj, a j hj]
  by_cases e : j = l
  · subst e
    simp
  · simp [e]
theorem ub_pop {used : Int32} {p : List Nat} {l : Nat} (hl : l < 32) (hn : ¬ l ∈ p) (a : UB used (l :: p)) : UB (used &&& (1 <<< (Int32.ofNat l &&& 31) ^^^ -1)) p := fun j hj => by
  rw [bit_clr hl hj, a j hj]
  by_cases e : j = l
  · subst e
    simp [hn]
  · simp [e]
theorem c151l (q : MS h M) {nL : Nat} {L : Nat → Ln} (hm : MR F 0 nL L) {k c w e : Int32} {S : List Nat} (hS : S.length ≤ 7) (h12 : ∀ l ∈ S, l < 12) : ∀ (r : Nat) (p : List Nat) (m u s : Int32), p.length + r = S.length → (∀ o ∈ p, o < 12) → (match p with | [] => True | l :: p' => ¬ l ∈ p') → fr (fun i => decide (S.getD i 0 ∈ p)) S.length ≤ r →
    ∀ (b i : Nat) (used : Int32) (G : xp_F) (B : Bst) (t : List (Option Value)), i + b = S.length → UB used p → SI G S → rw' F G → BR G B → RowI G p → G 36 p.length = m → G 35 p.length = u → G 37 p.length = s → G 34 p.length = Int32.ofNat i →
    ∃ (G' : xp_F) (t' : List (Option Value)) (used' : Int32), rwP d h M k c w e p.length used t G = rwO d h M k c w e p used' t' G' ∧ BR G' ((S.drop i).foldl (sp_trs F (fun l => F 6 l - sp_stays F nL L l) S r p m u s) B) ∧ SI G' S ∧ rw' F G' ∧ low p.length G G' ∧ UB used' p.tail := by
  intro r
  induction r with
  | zero =>
    intro p m u s hlen hp12 hnd hfr b
    induction b with
    | zero =>
      intro i used G B t hib hU hs hr hB hp g1 g2 g3 gx
      have e1 : i = S.length := by omega
      subst e1
      obtain ⟨t', ht⟩ := c151q (d := d) q (k := k) (c := c) (w := w) (e := e) (by omega) hp12 (used := used) t hs hp hS gx
      have hB' : BR (xm_u2 G 34 p.length (Int32.ofNat (S.length + 1))) B := hB.ag (fun o j ho => by rw [u2_ap, if_neg (by omega)])
      have hs' : SI (xm_u2 G 34 p.length (Int32.ofNat (S.length + 1))) S := hs.ag (fun o j ho => by rw [u2_ap, if_neg (by omega)])
      rw [List.drop_length]
      cases p with
      | nil => exact ⟨_, t', used, ht, hB', hs', hr.tr (rw'.u (by decide)), low.u (Nat.le_refl _), hU⟩
      | cons l p => exact ⟨_, t', _, ht, hB', hs', hr.tr (rw'.u (by decide)), low.u (Nat.le_refl _), ub_pop (by have := hp12 l (List.mem_cons_self); omega) hnd hU⟩
    | succ b ih =>
      intro i used G B t hib hU hs hr hB hp g1 g2 g3 gx
      have hi : i < S.length := by omega
      have hmem : S[i] ∈ p := by
        false_or_by_contra
        rename_i hn
        have := fr_lt (p := fun i => decide (S.getD i 0 ∈ p)) (p' := fun _ => true) (fun _ _ => rfl) (i := i) (by
          show decide (S.getD i 0 ∈ p) = false
          rw [getD_el hi]
          exact decide_eq_false hn) rfl S.length hi
        omega
      have hu : bit used S[i] = true := by
        rw [hU _ (by have := h12 _ (List.getElem_mem hi); omega)]
        exact decide_eq_true hmem
      obtain ⟨t', ht⟩ := c151n (d := d) q (k := k) (c := c) (w := w) (e := e) hS h12 (by omega) hi t hs gx hu
      obtain ⟨G', t2, used', a1, a2, a3, a4, a5, a6⟩ := ih (i + 1) used (xm_u2 G 34 p.length (Int32.ofNat (i + 1))) B t' (by omega) hU (hs.ag (fun o j ho => by rw [u2_ap, if_neg (by omega)])) (hr.tr (rw'.u (by decide))) (hB.ag (fun o j ho => by rw [u2_ap, if_neg (by omega)])) (fun j hj => by rw [u2_ap, if_neg (by omega)]; exact hp j hj) (by rw [u2_ap, if_neg (by omega)]; exact g1) (by rw [u2_ap, if_neg (by omega)]; exact g2) (by rw [u2_ap, if_neg (by omega)]; exact g3) (by rw [u2_ap, if_pos ⟨rfl, rfl⟩])
      refine ⟨G', t2, used', ht.trans a1, ?_, a3, a4, (low.u (Nat.le_refl _)).tr a5 (Nat.le_refl _), a6⟩
      rw [List.drop_eq_getElem_cons hi]
      exact a2
  | succ r ihr =>
    intro p m u s hlen hp12 hnd hfr b
    induction b with
    | zero =>
      intro i used G B t hib hU hs hr hB hp g1 g2 g3 gx
      have e1 : i = S.length := by omega
      subst e1
      obtain ⟨t', ht⟩ := c151q (d := d) q (k := k) (c := c) (w := w) (e := e) (by omega) hp12 (used := used) t hs hp hS gx
      have hB' : BR (xm_u2 G 34 p.length (Int32.ofNat (S.length + 1))) B := hB.ag (fun o j ho => by rw [u2_ap, if_neg (by omega)])
      have hs' : SI (xm_u2 G 34 p.length (Int32.ofNat (S.length + 1))) S := hs.ag (fun o j ho => by rw [u2_ap, if_neg (by omega)])
      rw [List.drop_length]
      cases p with
      | nil => exact ⟨_, t', used, ht, hB', hs', hr.tr (rw'.u (by decide)), low.u (Nat.le_refl _), hU⟩
      | cons l p => exact ⟨_, t', _, ht, hB', hs', hr.tr (rw'.u (by decide)), low.u (Nat.le_refl _), ub_pop (by have := hp12 l (List.mem_cons_self); omega) hnd hU⟩
    | succ b ih =>
      intro i used G B t hib hU hs hr hB hp g1 g2 g3 gx
      have hi : i < S.length := by omega
      have l12 := h12 _ (List.getElem_mem hi)
      rw [List.drop_eq_getElem_cons hi]
      have cont : ∀ (G1 : xp_F) (B1 : Bst) (used1 : Int32) (t1 : List (Option Value)), UB used1 p → SI G1 S → rw' F G1 → BR G1 B1 → RowI G1 p → G1 36 p.length = m → G1 35 p.length = u → G1 37 p.length = s → G1 34 p.length = Int32.ofNat (i + 1) → low p.length G G1 → rwP d h M k c w e p.length used t G = rwP d h M k c w e p.length used1 t1 G1 → sp_trs F (fun l => F 6 l - sp_stays F nL L l) S (r + 1) p m u s B S[i] = B1 →
          ∃ (G' : xp_F) (t' : List (Option Value)) (used' : Int32), rwP d h M k c w e p.length used t G = rwO d h M k c w e p used' t' G' ∧ BR G' ((S[i] :: S.drop (i + 1)).foldl (sp_trs F (fun l => F 6 l - sp_stays F nL L l) S (r + 1) p m u s) B) ∧ SI G' S ∧ rw' F G' ∧ low p.length G G' ∧ UB used' p.tail := by
        intro G1 B1 used1 t1 b1 b2 b3 b4 b5 b6 b7 b8 b9 b10 b11 b12
        obtain ⟨G', t2, used', a1, a2, a3, a4, a5, a6⟩ := ih (i + 1) used1 G1 B1 t1 (by omega) b1 b2 b3 b4 b5 b6 b7 b8 b9
        refine ⟨G', t2, used', b11.trans a1, ?_, a3, a4, b10.tr a5 (Nat.le_refl _), a6⟩
        rw [List.foldl_cons, b12]
        exact a2
      by_cases hmem : S[i] ∈ p
      · have hu : bit used S[i] = true := by
          rw [hU _ (by omega)]
          exact decide_eq_true hmem
        obtain ⟨t', ht⟩ := c151n (d := d) q (k := k) (c := c) (w := w) (e := e) hS h12 (by omega) hi t hs gx hu
        exact cont _ B used t' hU (hs.ag (fun o j ho => by rw [u2_ap, if_neg (by omega)])) (hr.tr (rw'.u (by decide))) (hB.ag (fun o j ho => by rw [u2_ap, if_neg (by omega)])) (fun j hj => by rw [u2_ap, if_neg (by omega)]; exact hp j hj) (by rw [u2_ap, if_neg (by omega)]; exact g1) (by rw [u2_ap, if_neg (by omega)]; exact g2) (by rw [u2_ap, if_neg (by omega)]; exact g3) (by rw [u2_ap, if_pos ⟨rfl, rfl⟩]) (low.u (Nat.le_refl _)) ht (by
          unfold sp_trs
          rw [if_pos (Or.inl hmem)])
      have hu : ¬ bit used S[i] = true := by
        rw [hU _ (by omega)]
        exact fun z => hmem (of_decide_eq_true z)
      obtain ⟨G2, t', p1, ht⟩ := c151w (d := d) q hm (k := k) (c := c) (w := w) (e := e) hS h12 (by omega) hp12 hi t hs gx hu hr hp g1 g2 g3
      have f2 : ∀ o j, ¬ o = 29 → ¬ (o = 34 ∧ j = p.length) → G2 o j = G o j := fun o j h1 h2 => by
        rw [p1.1 o j h1, u2_ap, if_neg h2]
      have fx : G2 34 p.length = Int32.ofNat (i + 1) := by
        rw [p1.1 _ _ (by decide), u2_ap, if_pos ⟨rfl, rfl⟩]
      have hs2 : SI G2 S := hs.ag (fun o j ho => f2 o j (by omega) (by omega))
      have hr2 : rw' F G2 := (hr.tr (rw'.u (by decide))).tr (rw'.pq p1)
      have hB2 : BR G2 B := hB.ag (fun o j ho => f2 o j (by omega) (by omega))
      have hp2 : RowI G2 p := fun j hj => (f2 33 j (by decide) (by omega)).trans (hp j hj)
      have hl2 : low p.length G G2 := fun o j h1 h2 h3 => f2 o j (by omega) (by omega)
      by_cases c1 : F 0 3 < sp_stg F p s S[i]
      · refine cont G2 B used (some (.int (Int32.ofNat i)) :: some (.int (Int32.ofNat S[i])) :: some (.int (F 6 S[i] - sp_stays F nL L S[i])) :: some (.int (sp_hr F p)) :: some (.int (sp_mins F p m (F 6 S[i] - sp_stays F nL L S[i]) S[i])) :: some (.int (sp_stg F p s S[i])) :: t') hU hs2 hr2 hB2 hp2 ((f2 _ _ (by decide) (by omega)).trans g1) ((f2 _ _ (by decide) (by omega)).trans g2) ((f2 _ _ (by decide) (by omega)).trans g3) fx hl2 (ht.trans ?_) ?_
        · have x1 := hr2 0 3 (by omega) (by decide) (by omega)
          simp only [ite_not, ite_self, w8_nil, ok01, ite10, rf_rv, rf_ref, rf_cat, rf_lk2, rf_some, rf_none, w_add, w_cons, cr_int, cr_long, cr_ref, cr_null, is_ref, is_null, l2_int, l2_ref, l2_null, l2_none, ent_nil, ent_int, ent_ref, ent_null, ent_rf, ent_long, ok_0, ok_1, af_ret, af_void, List.tail_cons, List.tail_nil, Nat.reduceAdd, Nat.reduceLeDiff, not_false_eq_true, not_true_eq_false, and_self, and_true, true_and, ne_eq, or_true, true_or, or_false, false_or, eq_self, Nat.reduceEqDiff, ↓reduceIte, false_and, and_false, Nat.le_refl, Nat.zero_le, nz_1, nz_2, nz_3, nz_4, nz_5, nz_6, nz_8, nz_10, nz_12, nz_20, nz_30, nz_60, nz_100, mp_B, mp_Z, mp_S, mp_C, mp_K, mp_N, mp_L, mp_R, mp_I, mp_I0, mp_s, mp_s0, u2_ap, sp_isLedge, sp_isLadder, sp_isPerson, sp_isLiving, sp_isLot, sp_isThere, sp_isSpan, ms_K q, ms_B q, ms_f49 q, ms_f51 q, ms_f52 q, ms_f53 q, ms_f54 q, ms_f50 q, ms_f10 q, ms_f8 q, ms_f9 q, r151_333, r151_335, r151_336, r151_342, r151_344, r151_345, r151_351, r151_339, r151_348, x1, c1]
          rfl
        · unfold sp_trs
          rw [if_pos (Or.inr (Or.inl c1))]
      by_cases c2 : F 0 2 < sp_mins F p m (F 6 S[i] - sp_stays F nL L S[i]) S[i]
      · refine cont G2 B used (some (.int (Int32.ofNat i)) :: some (.int (Int32.ofNat S[i])) :: some (.int (F 6 S[i] - sp_stays F nL L S[i])) :: some (.int (sp_hr F p)) :: some (.int (sp_mins F p m (F 6 S[i] - sp_stays F nL L S[i]) S[i])) :: some (.int (sp_stg F p s S[i])) :: t') hU hs2 hr2 hB2 hp2 ((f2 _ _ (by decide) (by omega)).trans g1) ((f2 _ _ (by decide) (by omega)).trans g2) ((f2 _ _ (by decide) (by omega)).trans g3) fx hl2 (ht.trans ?_) ?_
        · have x1 := hr2 0 3 (by omega) (by decide) (by omega)
          have x2 := hr2 0 2 (by omega) (by decide) (by omega)
          have c2' : ¬ sp_mins F p m (F 6 S[i] - sp_stays F nL L S[i]) S[i] ≤ F 0 2 := Int32.not_le.mpr c2
          simp only [ite_not, ite_self, w8_nil, ok01, ite10, rf_rv, rf_ref, rf_cat, rf_lk2, rf_some, rf_none, w_add, w_cons, cr_int, cr_long, cr_ref, cr_null, is_ref, is_null, l2_int, l2_ref, l2_null, l2_none, ent_nil, ent_int, ent_ref, ent_null, ent_rf, ent_long, ok_0, ok_1, af_ret, af_void, List.tail_cons, List.tail_nil, Nat.reduceAdd, Nat.reduceLeDiff, not_false_eq_true, not_true_eq_false, and_self, and_true, true_and, ne_eq, or_true, true_or, or_false, false_or, eq_self, Nat.reduceEqDiff, ↓reduceIte, false_and, and_false, Nat.le_refl, Nat.zero_le, nz_1, nz_2, nz_3, nz_4, nz_5, nz_6, nz_8, nz_10, nz_12, nz_20, nz_30, nz_60, nz_100, mp_B, mp_Z, mp_S, mp_C, mp_K, mp_N, mp_L, mp_R, mp_I, mp_I0, mp_s, mp_s0, u2_ap, sp_isLedge, sp_isLadder, sp_isPerson, sp_isLiving, sp_isLot, sp_isThere, sp_isSpan, ms_K q, ms_B q, ms_f49 q, ms_f51 q, ms_f52 q, ms_f53 q, ms_f54 q, ms_f50 q, ms_f10 q, ms_f8 q, ms_f9 q, r151_333, r151_335, r151_336, r151_342, r151_344, r151_345, r151_351, r151_339, r151_348, x1, x2, c1, c2']
          rfl
        · unfold sp_trs
          rw [if_pos (Or.inr (Or.inr c2))]
      obtain ⟨G3, t3, ht3, hB3, hs3, hr3, hp3, hl3, y1, y2, y3, y4, y5⟩ := c151p (d := d) q (k := k) (c := c) (w := w) (e := e) (S := S) (show p.length < 7 by omega) l12 (used := used) (iv := Int32.ofNat i) (hv := sp_hr F p) (ct := F 6 S[i] - sp_stays F nL L S[i]) hB2 hs2 hr2 hp2 ((f2 _ _ (by decide) (by omega)).trans g2) c1 c2 t'
      have hfr' : fr (fun j => decide (S.getD j 0 ∈ S[i] :: p)) S.length ≤ r := by
        have := fr_lt (p := fun j => decide (S.getD j 0 ∈ p)) (p' := fun j => decide (S.getD j 0 ∈ S[i] :: p)) (fun j hj => decide_eq_true (List.mem_cons_of_mem _ (of_decide_eq_true hj))) (i := i) (by
          show decide (S.getD i 0 ∈ p) = false
          rw [getD_el hi]
          exact decide_eq_false hmem) (by
          show decide (S.getD i 0 ∈ S[i] :: p) = true
          rw [getD_el hi]
          exact decide_eq_true List.mem_cons_self) S.length hi
        omega
      obtain ⟨G4, t4, used4, a1, a2, a3, a4, a5, a6⟩ := ihr (S[i] :: p) _ _ _ (by rw [List.length_cons]; omega) (fun o ho => by rcases List.mem_cons.mp ho with e | e; rw [e]; exact l12; exact hp12 o e) hmem hfr' S.length 0 _ G3 _ t3 (Nat.zero_add _) (ub_push (by omega) hU) hs3 hr3 hB3 hp3 y1 y2 y3 y4
      have f4 : ∀ o, 33 ≤ o → o ≤ 37 → G4 o p.length = G3 o p.length := fun o h1 h2 => a5 o _ h1 h2 (by simp)
      refine cont G4 _ used4 t4 a6 a3 a4 a2 (hp3.hd.2.low (fun o j h1 h2 h3 => a5 o j h1 h2 (by simp; omega))) ?_ ?_ ?_ ?_ ?_ (ht.trans (ht3.trans a1)) ?_
      · exact (f4 _ (by decide) (by decide)).trans ((y5 _ (by decide)).trans ((f2 _ _ (by decide) (by omega)).trans g1))
      · exact (f4 _ (by decide) (by decide)).trans ((y5 _ (by decide)).trans ((f2 _ _ (by decide) (by omega)).trans g2))
      · exact (f4 _ (by decide) (by decide)).trans ((y5 _ (by decide)).trans ((f2 _ _ (by decide) (by omega)).trans g3))
      · exact (f4 _ (by decide) (by decide)).trans ((y5 _ (by decide)).trans fx)
      · exact (hl2.tr hl3 (Nat.le_refl _)).tr (fun o j h1 h2 h3 => a5 o j h1 h2 (by simp; omega)) (Nat.le_refl _)
      · conv => lhs; unfold sp_trs
        rw [if_neg (fun z => z.elim hmem (fun y => y.elim c1 c2)), List.drop_zero]
end M35
