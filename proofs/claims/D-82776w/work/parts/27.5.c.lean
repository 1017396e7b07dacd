/-! the component's contracts, 15: rows tried, all of them -/
set_option maxRecDepth 100000
section C15
variable {d : Nat} {h : xm_H} {D : xp_D} {F : xp_F}
noncomputable def trP (d : Nat) (h : xm_H) (D : xp_D) (p : List Nat) (set m u s : Int32) (F : xp_F) (l : Nat) (x : Bst × xp_F) (t : List (Option Value)) : xm_V := xm_run d 39 109 (some (.ref (xd_X D)) :: some (.int (Int32.ofNat p.length)) :: some (.int set) :: some (.int (sp_hr F p)) :: some (.int m) :: some (.int u) :: some (.int s) :: some (.int (sq_al F p m)) :: some (.int (Int32.ofNat l)) :: t) [] (xp_c h D x.2)
/-- what stays while rows are tried from p on -/
def trI (F : xp_F) (c : Nat → Int32) (S p : List Nat) (G : xp_F) : Prop := cq F G ∧ TryI G p ∧ ∀ l ∈ S, G 83 l = c l
theorem tr_body (q : CS h D) (hn : CN D F) {c : Nat → Int32} {S p : List Nat} (h6 : p.length < 7) (hp0 : ∀ o ∈ p, o < xd_n D 0) {set m u s : Int32} {l : Nat} (hl : l < xd_n D 0) (hb : bit set l = true) (hS : l ∈ S) {G : xp_F} (hI : trI F c S p G) (t : List (Option Value)) {G2 : xp_F}
    (ih : xm_met (d + 1) 39 [.ref (xd_X D), .int (Int32.ofNat (l :: p).length), .int (set &&& (1 <<< (Int32.ofNat l &&& 31) ^^^ -1)), .int (F 4 l), .int (sp_mins F p m (c l) l), .int (u + c l), .int (sp_stg F p s l)] (xp_c h D (xm_u2 G 84 p.length (Int32.ofNat l))) = some (.inl none, xp_c h D G2)) :
    xm_run (d + 2) 39 109 (some (.ref (xd_X D)) :: some (.int (Int32.ofNat p.length)) :: some (.int set) :: some (.int (sp_hr F p)) :: some (.int m) :: some (.int u) :: some (.int s) :: some (.int (sq_al F p m)) :: some (.int (Int32.ofNat l)) :: t) [] (xp_c h D G) = xm_run (d + 2) 39 109 (some (.ref (xd_X D)) :: some (.int (Int32.ofNat p.length)) :: some (.int set) :: some (.int (sp_hr F p)) :: some (.int m) :: some (.int u) :: some (.int s) :: some (.int (sq_al F p m)) :: some (.int (Int32.ofNat (l + 1))) :: some (.ref (xd_A D 1 l)) :: some (.int (if sp_smk F l p = 0 then F 5 l else F 5 l / 3)) :: t.tail.tail) [] (xp_c h D G2) := by
  obtain ⟨hG, hp, hc⟩ := hI
  have n12 := (cs_n q).1
  have g0 := hG 0 6 (by decide)
  rw [hn.1] at g0
  have c0 := lt_nat hl (by omega)
  obtain ⟨i1, e1⟩ := in_nat (show l < 12 by omega) (by decide)
  obtain ⟨i2, e2⟩ := in_nat (show p.length < 7 by omega) (by decide)
  have o1 := cs_L q hl
  have b1 : ¬ set >>> (Int32.ofNat l &&& 31) &&& 1 = 0 := fun z => by
    rw [bit_shr (by omega), hb] at z
    exact absurd z (by decide)
  have sm := @c40 d h D F q G hG p hp (by omega) hp0 l hl
  have g1 := hG 5 l (by decide)
  have g2 := hG 4 l (by decide)
  have g3 := hc l hS
  have em : m + 2 * ab (sp_hr F p - F 4 l) + 15 + (c l + 9) / 10 = sp_mins F p m (c l) l := rfl
  have es : s + (if sp_smk F l p = 0 then F 5 l else F 5 l / 3) = sp_stg F p s l := rfl
  rw [show Int32.ofNat (l :: p).length = Int32.ofNat (p.length + 1) from rfl] at ih
  rw [r39_109]
  simp only [ite_not, ite_self, w8_nil, ok01, ite10, rf_rv, rf_ref, rf_cat, rf_lk2, rf_some, rf_none, w_add, w_cons, cr_int, cr_long, cr_ref, cr_null, is_ref, is_null, l2_int, l2_ref, l2_null, l2_none, ent_nil, ent_int, ent_ref, ent_null, ent_rf, ent_long, ok_0, ok_1, af_ret, af_void, List.tail_cons, List.tail_nil, Nat.reduceAdd, Nat.reduceLeDiff, not_false_eq_true, not_true_eq_false, and_self, and_true, true_and, ne_eq, or_true, true_or, or_false, false_or, eq_self, Nat.reduceEqDiff, ↓reduceIte, false_and, and_false, Nat.le_refl, Nat.zero_le, nz_1, nz_2, nz_3, nz_4, nz_5, nz_6, nz_8, nz_10, nz_12, nz_20, nz_30, nz_60, nz_100, mc_B, mc_Z, mc_S, mc_C, mc_K, mc_N, mc_R, mc_I, mc_L, va_Is, va_Ls, va_us, va_iss, u2_ap, sp_isLedge, sp_isLadder, sp_isPerson, sp_isLiving, sp_isLot, sp_isThere, sp_isSpan, cs_K q, cs_B q, mc_s (cs_inj q), cs_f4 q, cs_f0 q, r39_111, r39_112, r39_118, r39_119, r39_121, r39_122, r39_123, r39_127, r39_130, r39_131, r39_134, r39_136, r39_137, r39_139, r39_140, r39_141, r39_143, r39_149, r39_151, r39_154, r39_155, r39_156, r39_159, r39_161, r39_115, r39_124, r39_146, g0, c0, b1, i1, e1, o1, sm, g1]
  simp only [jn]
  simp only [ite_not, ite_self, w8_nil, ok01, ite10, rf_rv, rf_ref, rf_cat, rf_lk2, rf_some, rf_none, w_add, w_cons, cr_int, cr_long, cr_ref, cr_null, is_ref, is_null, l2_int, l2_ref, l2_null, l2_none, ent_nil, ent_int, ent_ref, ent_null, ent_rf, ent_long, ok_0, ok_1, af_ret, af_void, List.tail_cons, List.tail_nil, Nat.reduceAdd, Nat.reduceLeDiff, not_false_eq_true, not_true_eq_false, and_self, and_true, true_and, ne_eq, or_true, true_or, or_false, false_or, eq_self, Nat.reduceEqDiff, ↓reduceIte, false_and, and_false, Nat.le_refl, Nat.zero_le, nz_1, nz_2, nz_3, nz_4, nz_5, nz_6, nz_8, nz_10, nz_12, nz_20, nz_30, nz_60, nz_100, mc_B, mc_Z, mc_S, mc_C, mc_K, mc_N, mc_R, mc_I, mc_L, va_Is, va_Ls, va_us, va_iss, u2_ap, sp_isLedge, sp_isLadder, sp_isPerson, sp_isLiving, sp_isLot, sp_isThere, sp_isSpan, cs_K q, cs_B q, mc_s (cs_inj q), cs_f24 q, cs_f23 q, r39_164, r39_166, r39_167, r39_170, r39_171, r39_173, r39_174, r39_175, r39_176, r39_177, r39_178, r39_179, r39_180, r39_182, r39_183, r39_184, r39_185, r39_186, r39_188, r39_191, r39_193, r39_194, r39_195, r39_197, r39_200, r39_201, r39_204, r39_205, r39_206, r39_208, r39_209, r39_210, r39_213, r39_215, r39_216, r39_218, r39_219, r39_221, r39_222, r39_223, r39_225, r39_226, r39_229, r39_231, r39_232, r39_233, r39_235, r39_237, r39_238, r39_241, r39_244, ent_nil, i1, e1, i2, e2, o1, g2, g3, ab_def, em, es, ih, nat_succ]
theorem c39 (q : CS h D) (hn : CN D F) {c : Nat → Int32} {S : List Nat} (hS7 : S.length ≤ 7) (hS : ∀ l ∈ S, l < xd_n D 0) : ∀ (r : Nat) (p : List Nat) (m u s set : Int32) (G : xp_F) (B : Bst), p.length + r = S.length → fr (fun i => decide (S.getD i 0 ∈ p)) S.length ≤ r → (∀ o ∈ p, o < xd_n D 0) → (∀ j, j < 32 → bit set j = decide (j ∈ S ∧ ¬ j ∈ p)) → trI F c S p G → BRc G B →
    ∃ G', xm_met (d + r + 2) 39 [.ref (xd_X D), .int (Int32.ofNat p.length), .int set, .int (sp_hr F p), .int m, .int u, .int s] (xp_c h D G) = some (.inl none, xp_c h D G') ∧ BRc G' (sq_trc F c S (xd_n D 0) r p m u s B) ∧ trI F c S p G' := by
  have n12 := (cs_n q).1
  -- the ledges gone through, all of them left out
  have skip : ∀ (D' : Nat) (p : List Nat) (m u s set : Int32) (G : xp_F) (l : Nat) (t : List (Option Value)), l < xd_n D 0 → bit set l = false → cq F G → xm_run (D' + 1) 39 109 (some (.ref (xd_X D)) :: some (.int (Int32.ofNat p.length)) :: some (.int set) :: some (.int (sp_hr F p)) :: some (.int m) :: some (.int u) :: some (.int s) :: some (.int (sq_al F p m)) :: some (.int (Int32.ofNat l)) :: t) [] (xp_c h D G) = xm_run (D' + 1) 39 109 (some (.ref (xd_X D)) :: some (.int (Int32.ofNat p.length)) :: some (.int set) :: some (.int (sp_hr F p)) :: some (.int m) :: some (.int u) :: some (.int s) :: some (.int (sq_al F p m)) :: some (.int (Int32.ofNat (l + 1))) :: t) [] (xp_c h D G) := by
    intro D' p m u s set G l t hl hb hG
    have g0 := hG 0 6 (by decide)
    rw [hn.1] at g0
    have c0 := lt_nat hl (by omega)
    have b1 : set >>> (Int32.ofNat l &&& 31) &&& 1 = 0 := by rw [bit_shr (by omega), hb]
    rw [r39_109]
    simp only [ite_not, ite_self, w8_nil, ok01, ite10, rf_rv, rf_ref, rf_cat, rf_lk2, rf_some, rf_none, w_add, w_cons, cr_int, cr_long, cr_ref, cr_null, is_ref, is_null, l2_int, l2_ref, l2_null, l2_none, ent_nil, ent_int, ent_ref, ent_null, ent_rf, ent_long, ok_0, ok_1, af_ret, af_void, List.tail_cons, List.tail_nil, Nat.reduceAdd, Nat.reduceLeDiff, not_false_eq_true, not_true_eq_false, and_self, and_true, true_and, ne_eq, or_true, true_or, or_false, false_or, eq_self, Nat.reduceEqDiff, ↓reduceIte, false_and, and_false, Nat.le_refl, Nat.zero_le, nz_1, nz_2, nz_3, nz_4, nz_5, nz_6, nz_8, nz_10, nz_12, nz_20, nz_30, nz_60, nz_100, mc_B, mc_Z, mc_S, mc_C, mc_K, mc_N, mc_R, mc_I, mc_L, va_Is, va_Ls, va_us, va_iss, u2_ap, sp_isLedge, sp_isLadder, sp_isPerson, sp_isLiving, sp_isLot, sp_isThere, sp_isSpan, cs_K q, cs_B q, mc_s (cs_inj q), cs_f4 q, r39_111, r39_112, r39_118, r39_119, r39_121, r39_122, r39_123, r39_127, r39_115, r39_124, r39_241, r39_244, g0, c0, b1, nat_succ]
  have fin : ∀ (D' : Nat) (p : List Nat) (m u s set : Int32) (G : xp_F) (t : List (Option Value)), cq F G → xm_run (D' + 1) 39 109 (some (.ref (xd_X D)) :: some (.int (Int32.ofNat p.length)) :: some (.int set) :: some (.int (sp_hr F p)) :: some (.int m) :: some (.int u) :: some (.int s) :: some (.int (sq_al F p m)) :: some (.int (Int32.ofNat (xd_n D 0))) :: t) [] (xp_c h D G) = some (.inl none, xp_c h D G) := by
    intro D' p m u s set G t hG
    have g0 := hG 0 6 (by decide)
    rw [hn.1] at g0
    have c0 : Int32.ofNat (xd_n D 0) ≤ Int32.ofNat (xd_n D 0) := Int32.le_refl _
    rw [r39_109]
    simp only [ite_not, ite_self, w8_nil, ok01, ite10, rf_rv, rf_ref, rf_cat, rf_lk2, rf_some, rf_none, w_add, w_cons, cr_int, cr_long, cr_ref, cr_null, is_ref, is_null, l2_int, l2_ref, l2_null, l2_none, ent_nil, ent_int, ent_ref, ent_null, ent_rf, ent_long, ok_0, ok_1, af_ret, af_void, List.tail_cons, List.tail_nil, Nat.reduceAdd, Nat.reduceLeDiff, not_false_eq_true, not_true_eq_false, and_self, and_true, true_and, ne_eq, or_true, true_or, or_false, false_or, eq_self, Nat.reduceEqDiff, ↓reduceIte, false_and, and_false, Nat.le_refl, Nat.zero_le, nz_1, nz_2, nz_3, nz_4, nz_5, nz_6, nz_8, nz_10, nz_12, nz_20, nz_30, nz_60, nz_100, mc_B, mc_Z, mc_S, mc_C, mc_K, mc_N, mc_R, mc_I, mc_L, va_Is, va_Ls, va_us, va_iss, u2_ap, sp_isLedge, sp_isLadder, sp_isPerson, sp_isLiving, sp_isLot, sp_isThere, sp_isSpan, cs_K q, cs_B q, mc_s (cs_inj q), cs_f4 q, r39_111, r39_112, r39_115, r39_247, g0, c0]
  intro r
  induction r with
  | zero =>
    intro p m u s set G B hlen hfr hp0 hset hI hB
    obtain ⟨a1, a2⟩ := @c39a (d + 1) h D F q p (by omega) m u s set G B hI.1 hI.2.1 hB
    unfold sq_trc
    by_cases c1 : F 0 2 < sq_al F p m ∨ F 0 3 < s
    · rw [if_pos c1]
      exact ⟨G, a1 c1, hB, hI⟩
    rw [if_neg c1]
    obtain ⟨G1, e1, b1, f1⟩ := a2 c1
    have hI1 : trI F c S p G1 := ⟨fun o k ho => (f1 o k (by omega) (by omega)).trans (hI.1 o k ho), fun i hi => (f1 84 i (by decide) (by omega)).trans (hI.2.1 i hi), fun l hl => (f1 83 l (by decide) (by omega)).trans (hI.2.2 l hl)⟩
    refine ⟨G1, ?_, b1, hI1⟩
    rw [show d + 0 + 2 = d + 1 + 1 from rfl, e1]
    have none : ∀ l, l < 32 → bit set l = false := fun l hl => by
      rw [hset l hl]
      refine decide_eq_false (fun z => ?_)
      obtain ⟨i, hi, ei⟩ := List.getElem_of_mem z.1
      have := fr_lt (p := fun i => decide (S.getD i 0 ∈ p)) (p' := fun _ => true) (fun _ _ => rfl) (i := i) (by
        show decide (S.getD i 0 ∈ p) = false
        rw [getD_el hi, ei]
        exact decide_eq_false z.2) rfl S.length hi
      omega
    obtain ⟨x, t, e, i1, i2⟩ := xp_loop2 (P := fun l (x : xp_F) t => xm_run (d + 1 + 1) 39 109 (some (.ref (xd_X D)) :: some (.int (Int32.ofNat p.length)) :: some (.int set) :: some (.int (sp_hr F p)) :: some (.int m) :: some (.int u) :: some (.int s) :: some (.int (sq_al F p m)) :: some (.int (Int32.ofNat l)) :: t) [] (xp_c h D x)) (n := xd_n D 0) (fun _ (x : xp_F) => x = G1 ∧ True) (fun l x t hl hx => ⟨x, t, skip (d + 1) p m u s set x l t hl (none l (by omega)) (by rw [hx.1]; exact hI1.1), hx⟩) _ 0 G1 [] (Nat.zero_add _) ⟨rfl, trivial⟩
    rw [show Int32.ofNat 0 = (0 : Int32) from rfl] at e
    rw [e, i1]
    exact fin (d + 1) p m u s set G1 t hI1.1
  | succ r ihr =>
    intro p m u s set G B hlen hfr hp0 hset hI hB
    obtain ⟨a1, a2⟩ := @c39a (d + (r + 1) + 1) h D F q p (by omega) m u s set G B hI.1 hI.2.1 hB
    unfold sq_trc
    by_cases c1 : F 0 2 < sq_al F p m ∨ F 0 3 < s
    · rw [if_pos c1]
      exact ⟨G, a1 c1, hB, hI⟩
    rw [if_neg c1]
    obtain ⟨G1, e1, b1, f1⟩ := a2 c1
    have hI1 : trI F c S p G1 := ⟨fun o k ho => (f1 o k (by omega) (by omega)).trans (hI.1 o k ho), fun i hi => (f1 84 i (by decide) (by omega)).trans (hI.2.1 i hi), fun l hl => (f1 83 l (by decide) (by omega)).trans (hI.2.2 l hl)⟩
    obtain ⟨⟨B2, G2⟩, t, e, i1, i2, i3⟩ := xp_loop2 (P := trP (d + r + 1 + 2) h D p set m u s F) (n := xd_n D 0) (fun l (x : Bst × xp_F) => x.1 = xp_up (fun l B => if l ∈ S ∧ ¬ l ∈ p then sq_trc F c S (xd_n D 0) r (l :: p) (sp_mins F p m (c l) l) (u + c l) (sp_stg F p s l) B else B) (sq_rec p u (sq_al F p m) s B) l ∧ BRc x.2 x.1 ∧ trI F c S p x.2) (fun l x t hl hx => by
      obtain ⟨X, Y⟩ := x
      have x1 : X = xp_up (fun l B => if l ∈ S ∧ ¬ l ∈ p then sq_trc F c S (xd_n D 0) r (l :: p) (sp_mins F p m (c l) l) (u + c l) (sp_stg F p s l) B else B) (sq_rec p u (sq_al F p m) s B) l := hx.1
      have x2 : BRc Y X := hx.2.1
      have x3 : trI F c S p Y := hx.2.2
      have up : xp_up (fun l B => if l ∈ S ∧ ¬ l ∈ p then sq_trc F c S (xd_n D 0) r (l :: p) (sp_mins F p m (c l) l) (u + c l) (sp_stg F p s l) B else B) (sq_rec p u (sq_al F p m) s B) (l + 1) = if l ∈ S ∧ ¬ l ∈ p then sq_trc F c S (xd_n D 0) r (l :: p) (sp_mins F p m (c l) l) (u + c l) (sp_stg F p s l) X else X := by rw [x1]; rfl
      rw [up]
      by_cases hm : l ∈ S ∧ ¬ l ∈ p
      case neg =>
        rw [if_neg hm]
        have hb : bit set l = false := by
          rw [hset l (by omega)]
          exact decide_eq_false hm
        exact ⟨(X, Y), t, skip (d + r + 2) p m u s set Y l t hl hb x3.1, rfl, x2, x3⟩
      rw [if_pos hm]
      have hb : bit set l = true := by
        rw [hset l (by omega)]
        exact decide_eq_true hm
      obtain ⟨i, hi, ei⟩ := List.getElem_of_mem hm.1
      have hfr' := fr_lt (p := fun i => decide (S.getD i 0 ∈ p)) (p' := fun i => decide (S.getD i 0 ∈ l :: p)) (fun j hj => decide_eq_true (List.mem_cons_of_mem _ (of_decide_eq_true hj))) (i := i) (by
        show decide (S.getD i 0 ∈ p) = false
        rw [getD_el hi, ei]
        exact decide_eq_false hm.2) (by
        show decide (S.getD i 0 ∈ l :: p) = true
        rw [getD_el hi, ei]
        exact decide_eq_true List.mem_cons_self) S.length hi
      have hI2 : trI F c S (l :: p) (xm_u2 Y 84 p.length (Int32.ofNat l)) := by
        refine ⟨x3.1.tr (cq.u (by decide)), fun i hi => ?_, fun j hj => by rw [u2_ap, if_neg (by omega)]; exact x3.2.2 j hj⟩
        have hi : i < p.length + 1 := hi
        show xm_u2 Y 84 p.length (Int32.ofNat l) 84 i = Int32.ofNat (if i = p.length then l else nthr p i)
        rw [u2_ap]
        by_cases e : i = p.length
        · rw [if_pos ⟨rfl, e⟩, if_pos e]
        · rw [if_neg (fun z => e z.2), if_neg e]
          exact x3.2.1 i (by omega)
      obtain ⟨G3, m3, b3, i3⟩ := ihr (l :: p) (sp_mins F p m (c l) l) (u + c l) (sp_stg F p s l) (set &&& (1 <<< (Int32.ofNat l &&& 31) ^^^ -1)) (xm_u2 Y 84 p.length (Int32.ofNat l)) X (by rw [List.length_cons]; omega) (by omega) (fun o ho => by
        rcases List.mem_cons.mp ho with e | e
        · rw [e]
          exact hl
        · exact hp0 o e) (fun j hj => by
        rw [bit_clr (by omega) hj, hset j hj]
        by_cases e : j = l
        · subst e
          simp
        · simp [e]) hI2 (x2.ag (fun o j ho => by rw [u2_ap, if_neg (by omega)]))
      have body := @tr_body (d + r + 1) h D F q hn c S p (by omega) hp0 set m u s l hl hb hm.1 Y x3 t G3 m3
      refine ⟨(_, G3), _, body, rfl, b3, i3.1, fun i hi => ?_, i3.2.2⟩
      refine (i3.2.1 i (by rw [List.length_cons]; omega)).trans ?_
      show Int32.ofNat (if i = p.length then l else nthr p i) = _
      rw [if_neg (by omega)]) _ 0 (sq_rec p u (sq_al F p m) s B, G1) [] (Nat.zero_add _) ⟨rfl, b1, hI1⟩
    have i1 : B2 = xp_up (fun l B => if l ∈ S ∧ ¬ l ∈ p then sq_trc F c S (xd_n D 0) r (l :: p) (sp_mins F p m (c l) l) (u + c l) (sp_stg F p s l) B else B) (sq_rec p u (sq_al F p m) s B) (xd_n D 0) := i1
    refine ⟨G2, ?_, by rw [← i1]; exact i2, i3⟩
    unfold trP at e
    rw [show Int32.ofNat 0 = (0 : Int32) from rfl] at e
    rw [show d + (r + 1) + 2 = d + (r + 1) + 1 + 1 from rfl, e1]
    rw [show d + r + 1 + 2 = d + (r + 1) + 1 + 1 from rfl] at e
    rw [e]
    exact fin (d + (r + 1) + 1) p m u s set G2 t i3.1
end C15
