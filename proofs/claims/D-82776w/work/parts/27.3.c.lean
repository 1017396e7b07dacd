/-! the component's contracts, 13: copies, smoke -/
set_option maxRecDepth 100000
def sq_cp (F : xp_F) (o n : Nat) (f : Nat → Int32) : xp_F := fun x y => if x = o ∧ y < n then f y else F x y
section C13
variable {d : Nat} {h : xm_H} {D : xp_D} {F : xp_F}
theorem mc_cp {a o n : Nat} {f : Nat → Int32} (q : xd_inj D) (he : ∀ k, xd_E D a k = some (o, k)) : xm_cp (xp_c h D F) a 0 n f = xp_c h D (sq_cp F o n f) := by
  have e1 : (fun a' k' => if a' = a ∧ 0 ≤ k' ∧ k' < 0 + n then f (k' - 0) else va_I (xd_E D a' k') F (h.2.2.2.1 a' k')) = fun b j => va_I (xd_E D b j) (sq_cp F o n f) (h.2.2.2.1 b j) := by
    funext b j
    by_cases e : b = a ∧ 0 ≤ j ∧ j < 0 + n
    · rw [if_pos e, e.1, he]
      show f j = if o = o ∧ j < n then f j else _
      rw [if_pos ⟨rfl, by omega⟩]
    · rw [if_neg e]
      cases hb : xd_E D b j with
      | none => rfl
      | some y =>
        obtain ⟨o', k'⟩ := y
        show F o' k' = if o' = o ∧ k' < n then f k' else F o' k'
        rw [if_neg]
        intro z
        rw [z.1] at hb
        have := q.1 _ _ _ _ _ hb (he k')
        exact e ⟨this.1, by omega, by omega⟩
  have e2 : (fun a k => va_L (xd_L D a k) F (h.2.2.2.2.1 a k)) = fun b j => va_L (xd_L D b j) (sq_cp F o n f) (h.2.2.2.2.1 b j) := by
    funext b j
    cases hb : xd_L D b j with
    | none => rfl
    | some y =>
      obtain ⟨o', k'⟩ := y
      show (F o' k').toInt64 = (if o' = o ∧ k' < n then f k' else F o' k').toInt64
      rw [if_neg]
      intro z
      rw [z.1] at hb
      exact q.2.2 _ _ _ _ _ (he k') hb
  exact congr (congrArg (fun x y => ((h.1, h.2.1, h.2.2.1, x, y, h.2.2.2.2.2) : xm_H)) e1) e2
/-- the row tried -/
def TryI (G : xp_F) (p : List Nat) : Prop := ∀ i, i < p.length → G 84 i = Int32.ofNat (nthr p i)
theorem nthr_mem : ∀ (p : List Nat) {i : Nat}, i < p.length → nthr p i ∈ p
  | [], _, h => absurd h (Nat.not_lt_zero _)
  | l :: p, i, hi => by
    have hi : i < p.length + 1 := hi
    show (if i = p.length then l else nthr p i) ∈ _
    split
    · exact List.mem_cons_self
    · exact List.mem_cons_of_mem _ (nthr_mem p (by omega))
theorem mem_nthr : ∀ (p : List Nat) {o : Nat}, o ∈ p → ∃ i, i < p.length ∧ nthr p i = o
  | [], _, h => by cases h
  | l :: p, o, h => by
    rcases List.mem_cons.mp h with e | e
    · refine ⟨p.length, by simp, ?_⟩
      show (if p.length = p.length then l else nthr p p.length) = o
      rw [if_pos rfl, e]
    · obtain ⟨i, hi, ei⟩ := mem_nthr p e
      refine ⟨i, by simp; omega, ?_⟩
      show (if i = p.length then l else nthr p i) = o
      rw [if_neg (by omega), ei]
theorem smk_mem {l : Nat} : ∀ (p : List Nat), sp_smk F l p = if ∃ o ∈ p, sp_smokes F o l then 1 else 0
  | [] => by
    rw [if_neg (fun z => by obtain ⟨o, h, -⟩ := z; cases h)]
    rfl
  | a :: p => by
    show (if ¬ sp_smk F l p = 0 ∨ sp_smokes F a l then (1 : Int32) else 0) = _
    rw [smk_mem p]
    by_cases c : ∃ o ∈ p, sp_smokes F o l
    · obtain ⟨o, ho, hs⟩ := c
      rw [if_pos (Or.inl (by rw [if_pos ⟨o, ho, hs⟩]; decide)), if_pos ⟨o, List.mem_cons_of_mem _ ho, hs⟩]
    · rw [if_neg c]
      by_cases c2 : sp_smokes F a l
      · rw [if_pos (Or.inr c2), if_pos ⟨a, List.mem_cons_self, c2⟩]
      · rw [if_neg (fun z => z.elim (fun y => y rfl) c2), if_neg]
        intro z
        obtain ⟨o, ho, hs⟩ := z
        rcases List.mem_cons.mp ho with e | e
        · rw [e] at hs
          exact c2 hs
        · exact c ⟨o, e, hs⟩
def sp_sk (F : xp_F) (p : List Nat) (l : Nat) : Nat → Nat → Int32
  | _, 0 => 0
  | k, c + 1 => if sp_smokes F (nthr p k) l then 1 else sp_sk F p l (k + 1) c
theorem sk_iff {p : List Nat} {l : Nat} : ∀ (c k : Nat), (sp_sk F p l k c = 1 ∧ ∃ j, k ≤ j ∧ j < k + c ∧ sp_smokes F (nthr p j) l) ∨ (sp_sk F p l k c = 0 ∧ ∀ j, k ≤ j → j < k + c → ¬ sp_smokes F (nthr p j) l)
  | 0, k => Or.inr ⟨rfl, fun j h1 h2 => by omega⟩
  | c + 1, k => by
    show ((if sp_smokes F (nthr p k) l then (1 : Int32) else sp_sk F p l (k + 1) c) = 1 ∧ _) ∨ ((if sp_smokes F (nthr p k) l then (1 : Int32) else sp_sk F p l (k + 1) c) = 0 ∧ _)
    by_cases e : sp_smokes F (nthr p k) l
    · rw [if_pos e]
      exact Or.inl ⟨rfl, k, Nat.le_refl _, by omega, e⟩
    · rw [if_neg e]
      rcases sk_iff (p := p) (l := l) c (k + 1) with ⟨a, j, h1, h2, h3⟩ | ⟨a, hn⟩
      · exact Or.inl ⟨a, j, by omega, by omega, h3⟩
      · refine Or.inr ⟨a, fun j h1 h2 => ?_⟩
        by_cases ej : j = k
        · rw [ej]
          exact e
        · exact hn j (by omega) (by omega)
theorem sk_smk {p : List Nat} {l : Nat} : sp_sk F p l 0 p.length = sp_smk F l p := by
  rw [smk_mem]
  rcases sk_iff (F := F) (p := p) (l := l) p.length 0 with ⟨a, j, h1, h2, h3⟩ | ⟨a, hn⟩
  · rw [a, if_pos ⟨nthr p j, nthr_mem p (by omega), h3⟩]
  · rw [a, if_neg]
    intro ⟨o, ho, hs⟩
    obtain ⟨i, hi, ei⟩ := mem_nthr p ho
    exact hn i (Nat.zero_le _) (by omega) (by rw [ei]; exact hs)
theorem c40 (q : CS h D) {G : xp_F} (hG : cq F G) {p : List Nat} (hp : TryI G p) (h7 : p.length ≤ 7) (hl0 : ∀ o ∈ p, o < xd_n D 0) {l : Nat} (hl : l < xd_n D 0) : xm_met (d + 1) 40 [.ref (xd_X D), .int (Int32.ofNat p.length), .ref (xd_A D 1 l)] (xp_c h D G) = some (.inl (some (.int (sp_smk F l p))), xp_c h D G) := by
  have n12 := (cs_n q).1
  have o1 := cs_L q hl
  have g1 := hG 4 l (by decide)
  have g2 := hG 3 l (by decide)
  have gw := hG 0 1 (by decide)
  have go : ∀ c k (t : List (Option Value)), k + c = p.length → xm_run (d + 1) 40 2 (some (.ref (xd_X D)) :: some (.int (Int32.ofNat p.length)) :: some (.ref (xd_A D 1 l)) :: some (.int (Int32.ofNat k)) :: t) [] (xp_c h D G) = some (.inl (some (.int (sp_sk F p l k c))), xp_c h D G) := by
    intro c
    induction c with
    | zero =>
      intro k t e
      have : k = p.length := by omega
      subst this
      have c0 : Int32.ofNat p.length ≤ Int32.ofNat p.length := Int32.le_refl _
      rw [r40_2]
      simp only [ite_not, ite_self, w8_nil, ok01, ite10, rf_rv, rf_ref, rf_cat, rf_lk2, rf_some, rf_none, w_add, w_cons, cr_int, cr_long, cr_ref, cr_null, is_ref, is_null, l2_int, l2_ref, l2_null, l2_none, ent_nil, ent_int, ent_ref, ent_null, ent_rf, ent_long, ok_0, ok_1, af_ret, af_void, List.tail_cons, List.tail_nil, Nat.reduceAdd, Nat.reduceLeDiff, not_false_eq_true, not_true_eq_false, and_self, and_true, true_and, ne_eq, or_true, true_or, or_false, false_or, eq_self, Nat.reduceEqDiff, ↓reduceIte, false_and, and_false, Nat.le_refl, Nat.zero_le, nz_1, nz_2, nz_3, nz_4, nz_5, nz_6, nz_8, nz_10, nz_12, nz_20, nz_30, nz_60, nz_100, mc_B, mc_Z, mc_S, mc_C, mc_K, mc_N, mc_R, mc_I, mc_L, va_Is, va_Ls, va_us, va_iss, u2_ap, sp_isLedge, sp_isLadder, sp_isPerson, sp_isLiving, sp_isLot, sp_isThere, sp_isSpan, cs_K q, cs_B q, mc_s (cs_inj q), cs_f0 q, cs_f24 q, cs_f6 q, r40_3, r40_4, r40_62, r40_63, c0]
      rfl
    | succ c ih =>
      intro k t e
      have c0 := lt_nat (show k < p.length by omega) (by omega)
      obtain ⟨i1, e1⟩ := in_nat (show k < 7 by omega) (by decide)
      have m := nthr_mem p (show k < p.length by omega)
      have lo := hl0 _ m
      obtain ⟨i2, e2⟩ := in_nat (show nthr p k < 12 by omega) (by decide)
      have tk := hp k (by omega)
      have o2 := cs_L q lo
      have g3 := hG 4 (nthr p k) (by decide)
      have g4 := hG 3 (nthr p k) (by decide)
      show _ = some (Sum.inl (some (Value.int (if sp_smokes F (nthr p k) l then (1 : Int32) else sp_sk F p l (k + 1) c))), xp_c h D G)
      rw [r40_2]
      by_cases c1 : F 4 (nthr p k) < F 4 l
      case neg =>
        have c1' : F 4 l ≤ F 4 (nthr p k) := Int32.not_lt.mp c1
        rw [if_neg (fun z => c1 z.1), ← ih (k + 1) (some (.ref (xd_A D 1 (nthr p k))) :: t.tail) (by omega)]
        simp only [ite_not, ite_self, w8_nil, ok01, ite10, rf_rv, rf_ref, rf_cat, rf_lk2, rf_some, rf_none, w_add, w_cons, cr_int, cr_long, cr_ref, cr_null, is_ref, is_null, l2_int, l2_ref, l2_null, l2_none, ent_nil, ent_int, ent_ref, ent_null, ent_rf, ent_long, ok_0, ok_1, af_ret, af_void, List.tail_cons, List.tail_nil, Nat.reduceAdd, Nat.reduceLeDiff, not_false_eq_true, not_true_eq_false, and_self, and_true, true_and, ne_eq, or_true, true_or, or_false, false_or, eq_self, Nat.reduceEqDiff, ↓reduceIte, false_and, and_false, Nat.le_refl, Nat.zero_le, nz_1, nz_2, nz_3, nz_4, nz_5, nz_6, nz_8, nz_10, nz_12, nz_20, nz_30, nz_60, nz_100, mc_B, mc_Z, mc_S, mc_C, mc_K, mc_N, mc_R, mc_I, mc_L, va_Is, va_Ls, va_us, va_iss, u2_ap, sp_isLedge, sp_isLadder, sp_isPerson, sp_isLiving, sp_isLot, sp_isThere, sp_isSpan, cs_K q, cs_B q, mc_s (cs_inj q), cs_f0 q, cs_f24 q, cs_f6 q, r40_3, r40_7, r40_8, r40_11, r40_12, r40_15, r40_16, r40_17, r40_18, r40_20, r40_22, r40_25, r40_26, r40_32, r40_34, r40_37, r40_38, r40_41, r40_42, r40_45, r40_46, r40_47, r40_50, r40_54, r40_55, r40_56, r40_59, r40_4, r40_29, r40_51, c0, i1, e1, tk, i2, e2, o1, o2, g1, g2, g3, g4, gw, c1', nat_succ]
      have c1' : ¬ F 4 l ≤ F 4 (nthr p k) := Int32.not_le.mpr c1
      by_cases c2 : 1 < ab (F 3 (nthr p k) - (F 3 l - F 0 1))
      · rw [if_neg (fun z => z.2 c2), ← ih (k + 1) (some (.ref (xd_A D 1 (nthr p k))) :: t.tail) (by omega)]
        simp only [ite_not, ite_self, w8_nil, ok01, ite10, rf_rv, rf_ref, rf_cat, rf_lk2, rf_some, rf_none, w_add, w_cons, cr_int, cr_long, cr_ref, cr_null, is_ref, is_null, l2_int, l2_ref, l2_null, l2_none, ent_nil, ent_int, ent_ref, ent_null, ent_rf, ent_long, ok_0, ok_1, af_ret, af_void, List.tail_cons, List.tail_nil, Nat.reduceAdd, Nat.reduceLeDiff, not_false_eq_true, not_true_eq_false, and_self, and_true, true_and, ne_eq, or_true, true_or, or_false, false_or, eq_self, Nat.reduceEqDiff, ↓reduceIte, false_and, and_false, Nat.le_refl, Nat.zero_le, nz_1, nz_2, nz_3, nz_4, nz_5, nz_6, nz_8, nz_10, nz_12, nz_20, nz_30, nz_60, nz_100, mc_B, mc_Z, mc_S, mc_C, mc_K, mc_N, mc_R, mc_I, mc_L, va_Is, va_Ls, va_us, va_iss, u2_ap, sp_isLedge, sp_isLadder, sp_isPerson, sp_isLiving, sp_isLot, sp_isThere, sp_isSpan, cs_K q, cs_B q, mc_s (cs_inj q), cs_f0 q, cs_f24 q, cs_f6 q, r40_3, r40_7, r40_8, r40_11, r40_12, r40_15, r40_16, r40_17, r40_18, r40_20, r40_22, r40_25, r40_26, r40_32, r40_34, r40_37, r40_38, r40_41, r40_42, r40_45, r40_46, r40_47, r40_50, r40_54, r40_55, r40_56, r40_59, r40_4, r40_29, r40_51, c0, i1, e1, tk, i2, e2, o1, o2, g1, g2, g3, g4, gw, c1', ab_def, c2, nat_succ]
      · rw [if_pos ⟨c1, c2⟩]
        simp only [ite_not, ite_self, w8_nil, ok01, ite10, rf_rv, rf_ref, rf_cat, rf_lk2, rf_some, rf_none, w_add, w_cons, cr_int, cr_long, cr_ref, cr_null, is_ref, is_null, l2_int, l2_ref, l2_null, l2_none, ent_nil, ent_int, ent_ref, ent_null, ent_rf, ent_long, ok_0, ok_1, af_ret, af_void, List.tail_cons, List.tail_nil, Nat.reduceAdd, Nat.reduceLeDiff, not_false_eq_true, not_true_eq_false, and_self, and_true, true_and, ne_eq, or_true, true_or, or_false, false_or, eq_self, Nat.reduceEqDiff, ↓reduceIte, false_and, and_false, Nat.le_refl, Nat.zero_le, nz_1, nz_2, nz_3, nz_4, nz_5, nz_6, nz_8, nz_10, nz_12, nz_20, nz_30, nz_60, nz_100, mc_B, mc_Z, mc_S, mc_C, mc_K, mc_N, mc_R, mc_I, mc_L, va_Is, va_Ls, va_us, va_iss, u2_ap, sp_isLedge, sp_isLadder, sp_isPerson, sp_isLiving, sp_isLot, sp_isThere, sp_isSpan, cs_K q, cs_B q, mc_s (cs_inj q), cs_f0 q, cs_f24 q, cs_f6 q, r40_3, r40_7, r40_8, r40_11, r40_12, r40_15, r40_16, r40_17, r40_18, r40_20, r40_22, r40_25, r40_26, r40_32, r40_34, r40_37, r40_38, r40_41, r40_42, r40_45, r40_46, r40_47, r40_50, r40_54, r40_55, r40_56, r40_59, r40_4, r40_29, r40_51, c0, i1, e1, tk, i2, e2, o1, o2, g1, g2, g3, g4, gw, c1', ab_def, c2]
  have fin := go p.length 0 [] (Nat.zero_add _)
  rw [show Int32.ofNat 0 = (0 : Int32) from rfl] at fin
  unfold xm_met
  simp only [ite_not, ite_self, w8_nil, ok01, ite10, rf_rv, rf_ref, rf_cat, rf_lk2, rf_some, rf_none, w_add, w_cons, cr_int, cr_long, cr_ref, cr_null, is_ref, is_null, l2_int, l2_ref, l2_null, l2_none, ent_nil, ent_int, ent_ref, ent_null, ent_rf, ent_long, ok_0, ok_1, af_ret, af_void, List.tail_cons, List.tail_nil, Nat.reduceAdd, Nat.reduceLeDiff, not_false_eq_true, not_true_eq_false, and_self, and_true, true_and, ne_eq, or_true, true_or, or_false, false_or, eq_self, Nat.reduceEqDiff, ↓reduceIte, false_and, and_false, Nat.le_refl, Nat.zero_le, nz_1, nz_2, nz_3, nz_4, nz_5, nz_6, nz_8, nz_10, nz_12, nz_20, nz_30, nz_60, nz_100, r40_0, r40_1]
  rw [fin, sk_smk]
end C13
