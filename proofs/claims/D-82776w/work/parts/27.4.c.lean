/-! the component's contracts, 14: rows tried -/
set_option maxRecDepth 100000
theorem cp_ap {F : xp_F} {o n x y : Nat} {f : Nat → Int32} : sq_cp F o n f x y = if x = o ∧ y < n then f y else F x y := rfl
section C14
variable {d : Nat} {h : xm_H} {D : xp_D} {F : xp_F}
def sq_al (F : xp_F) (p : List Nat) (m : Int32) : Int32 := match p with
  | [] => 0
  | _ :: _ => m + 2 * (99 - sp_hr F p)
def sq_rec (p : List Nat) (u a s : Int32) (B : Bst) : Bst := if p = [] ∨ B.1 < u ∨ (u = B.1 ∧ a < B.2.1) then (u, a, s, p) else B
def sq_trc (F : xp_F) (c : Nat → Int32) (S : List Nat) (N : Nat) : Nat → List Nat → Int32 → Int32 → Int32 → Bst → Bst
  | 0, p, m, u, s, B => if F 0 2 < sq_al F p m ∨ F 0 3 < s then B else sq_rec p u (sq_al F p m) s B
  | r + 1, p, m, u, s, B => if F 0 2 < sq_al F p m ∨ F 0 3 < s then B else
      xp_up (fun l B => if l ∈ S ∧ ¬ l ∈ p then sq_trc F c S N r (l :: p) (sp_mins F p m (c l) l) (u + c l) (sp_stg F p s l) B else B) (sq_rec p u (sq_al F p m) s B) N
def BRc (G : xp_F) (B : Bst) : Prop := G 80 27 = B.1 ∧ G 80 28 = B.2.1 ∧ G 80 29 = B.2.2.1 ∧ G 80 26 = Int32.ofNat B.2.2.2.length ∧ ∀ i, i < B.2.2.2.length → G 85 i = Int32.ofNat (nthr B.2.2.2 i)
theorem BRc.ag {G H : xp_F} {B : Bst} (a : BRc G B) (b : ∀ o j, (o = 85 ∨ (o = 80 ∧ 26 ≤ j ∧ j ≤ 29)) → H o j = G o j) : BRc H B := by
  obtain ⟨b1, b2, b3, b4, b5⟩ := a
  refine ⟨?_, ?_, ?_, ?_, fun i hi => ?_⟩
  · rw [b _ _ (by omega)]
    exact b1
  · rw [b _ _ (by omega)]
    exact b2
  · rw [b _ _ (by omega)]
    exact b3
  · rw [b _ _ (by omega)]
    exact b4
  · rw [b _ _ (Or.inl rfl)]
    exact b5 i hi
theorem copy_ne (q : CS h D) : ¬ xd_A D 0 24 = xd_A D 0 25 := fun z => by
  have a := (cs_f24 q).2.2.2.2 0
  have b := (cs_f25 q).2.2.2.2 0
  rw [z, b] at a
  cases a
def sq_put (G : xp_F) (p : List Nat) (u a s : Int32) : xp_F := sq_cp (xm_u2 (xm_u2 (xm_u2 (xm_u2 G 80 26 (Int32.ofNat p.length)) 80 27 u) 80 28 a) 80 29 s) 85 p.length (fun j => G 84 j)
theorem put_o {G : xp_F} {p : List Nat} {u a s : Int32} {o k : Nat} (h1 : ¬ o = 85) (h2 : ¬ (o = 80 ∧ 26 ≤ k ∧ k ≤ 29)) : sq_put G p u a s o k = G o k := by
  unfold sq_put
  rw [cp_ap, if_neg (by omega), u2_ap, if_neg (by omega), u2_ap, if_neg (by omega), u2_ap, if_neg (by omega), u2_ap, if_neg (by omega)]
theorem put_B {G : xp_F} {p : List Nat} {u a s : Int32} (hp : TryI G p) : BRc (sq_put G p u a s) (u, a, s, p) := by
  unfold sq_put
  refine ⟨?_, ?_, ?_, ?_, fun i hi => ?_⟩
  · rw [cp_ap, if_neg (by omega), u2_ap, if_neg (by omega), u2_ap, if_neg (by omega), u2_ap, if_pos ⟨rfl, rfl⟩]
  · rw [cp_ap, if_neg (by omega), u2_ap, if_neg (by omega), u2_ap, if_pos ⟨rfl, rfl⟩]
  · rw [cp_ap, if_neg (by omega), u2_ap, if_pos ⟨rfl, rfl⟩]
  · rw [cp_ap, if_neg (by omega), u2_ap, if_neg (by omega), u2_ap, if_neg (by omega), u2_ap, if_neg (by omega), u2_ap, if_pos ⟨rfl, rfl⟩]
  · have hi : i < p.length := hi
    rw [cp_ap, if_pos ⟨rfl, hi⟩]
    exact hp i hi
/-- from the start to the ledges -/
theorem c39a (q : CS h D) {p : List Nat} (h7 : p.length ≤ 7) {m u s set : Int32} {G : xp_F} {B : Bst} (hG : cq F G) (hp : TryI G p) (hB : BRc G B) :
    (F 0 2 < sq_al F p m ∨ F 0 3 < s → xm_met (d + 1) 39 [.ref (xd_X D), .int (Int32.ofNat p.length), .int set, .int (sp_hr F p), .int m, .int u, .int s] (xp_c h D G) = some (.inl none, xp_c h D G)) ∧
    (¬ (F 0 2 < sq_al F p m ∨ F 0 3 < s) → ∃ G', xm_met (d + 1) 39 [.ref (xd_X D), .int (Int32.ofNat p.length), .int set, .int (sp_hr F p), .int m, .int u, .int s] (xp_c h D G) = xm_run (d + 1) 39 109 [some (.ref (xd_X D)), some (.int (Int32.ofNat p.length)), some (.int set), some (.int (sp_hr F p)), some (.int m), some (.int u), some (.int s), some (.int (sq_al F p m)), some (.int 0)] [] (xp_c h D G') ∧ BRc G' (sq_rec p u (sq_al F p m) s B) ∧ ∀ o k, ¬ o = 85 → ¬ (o = 80 ∧ 26 ≤ k ∧ k ≤ 29) → G' o k = G o k) := by
  have gs := hG 0 2 (by decide)
  have gt := hG 0 3 (by decide)
  obtain ⟨b1, b2, b3, b4, b5⟩ := hB
  have z0 : (0 : Int32).toNatClampNeg = 0 := rfl
  have nn := nat_nn (n := p.length) (by omega)
  have tn : (Int32.ofNat p.length).toNatClampNeg = p.length := tc_nat (by omega)
  have c00 : ¬ (0 : Int32) < 0 := by decide
  have ecp := fun (F : xp_F) (n : Nat) (f : Nat → Int32) => mc_cp (h := h) (F := F) (n := n) (f := f) (cs_inj q) (cs_f25 q).2.2.2.2
  have ne := copy_ne q
  -- what is common
  have start : xm_met (d + 1) 39 [.ref (xd_X D), .int (Int32.ofNat p.length), .int set, .int (sp_hr F p), .int m, .int u, .int s] (xp_c h D G) = xm_run (d + 1) 39 19 [some (.ref (xd_X D)), some (.int (Int32.ofNat p.length)), some (.int set), some (.int (sp_hr F p)), some (.int m), some (.int u), some (.int s), some (.int (sq_al F p m))] [] (xp_c h D G) := by
    unfold xm_met
    cases p with
    | nil =>
      have e : Int32.ofNat ([] : List Nat).length = 0 := rfl
      rw [e]
      simp only [ite_not, ite_self, w8_nil, ok01, ite10, rf_rv, rf_ref, rf_cat, rf_lk2, rf_some, rf_none, w_add, w_cons, cr_int, cr_long, cr_ref, cr_null, is_ref, is_null, l2_int, l2_ref, l2_null, l2_none, ent_nil, ent_int, ent_ref, ent_null, ent_rf, ent_long, ok_0, ok_1, af_ret, af_void, List.tail_cons, List.tail_nil, Nat.reduceAdd, Nat.reduceLeDiff, not_false_eq_true, not_true_eq_false, and_self, and_true, true_and, ne_eq, or_true, true_or, or_false, false_or, eq_self, Nat.reduceEqDiff, ↓reduceIte, false_and, and_false, Nat.le_refl, Nat.zero_le, nz_1, nz_2, nz_3, nz_4, nz_5, nz_6, nz_8, nz_10, nz_12, nz_20, nz_30, nz_60, nz_100, mc_B, mc_Z, mc_S, mc_C, mc_K, mc_N, mc_R, mc_I, mc_L, va_Is, va_Ls, va_us, va_iss, u2_ap, sp_isLedge, sp_isLadder, sp_isPerson, sp_isLiving, sp_isLot, sp_isThere, sp_isSpan, cs_K q, cs_B q, mc_s (cs_inj q), r39_0, r39_4, r39_5, r39_8, r39_10, r39_11, r39_13, r39_14, r39_15, r39_16, r39_17, r39_1, sq_al]
    | cons l p =>
      have e := nat_ne0 (n := p.length) (by have : p.length + 1 ≤ 7 := h7; omega)
      rw [show (l :: p).length = p.length + 1 from rfl]
      simp only [ite_not, ite_self, w8_nil, ok01, ite10, rf_rv, rf_ref, rf_cat, rf_lk2, rf_some, rf_none, w_add, w_cons, cr_int, cr_long, cr_ref, cr_null, is_ref, is_null, l2_int, l2_ref, l2_null, l2_none, ent_nil, ent_int, ent_ref, ent_null, ent_rf, ent_long, ok_0, ok_1, af_ret, af_void, List.tail_cons, List.tail_nil, Nat.reduceAdd, Nat.reduceLeDiff, not_false_eq_true, not_true_eq_false, and_self, and_true, true_and, ne_eq, or_true, true_or, or_false, false_or, eq_self, Nat.reduceEqDiff, ↓reduceIte, false_and, and_false, Nat.le_refl, Nat.zero_le, nz_1, nz_2, nz_3, nz_4, nz_5, nz_6, nz_8, nz_10, nz_12, nz_20, nz_30, nz_60, nz_100, mc_B, mc_Z, mc_S, mc_C, mc_K, mc_N, mc_R, mc_I, mc_L, va_Is, va_Ls, va_us, va_iss, u2_ap, sp_isLedge, sp_isLadder, sp_isPerson, sp_isLiving, sp_isLot, sp_isThere, sp_isSpan, cs_K q, cs_B q, mc_s (cs_inj q), r39_0, r39_4, r39_5, r39_8, r39_10, r39_11, r39_13, r39_14, r39_15, r39_16, r39_17, r39_1, sq_al, e]
  have put : xm_run (d + 1) 39 69 [some (.ref (xd_X D)), some (.int (Int32.ofNat p.length)), some (.int set), some (.int (sp_hr F p)), some (.int m), some (.int u), some (.int s), some (.int (sq_al F p m))] [] (xp_c h D G) = xm_run (d + 1) 39 106 [some (.ref (xd_X D)), some (.int (Int32.ofNat p.length)), some (.int set), some (.int (sp_hr F p)), some (.int m), some (.int u), some (.int s), some (.int (sq_al F p m))] [] (xp_c h D (sq_put G p u (sq_al F p m) s)) := by
    simp only [ite_not, ite_self, w8_nil, ok01, ite10, rf_rv, rf_ref, rf_cat, rf_lk2, rf_some, rf_none, w_add, w_cons, cr_int, cr_long, cr_ref, cr_null, is_ref, is_null, l2_int, l2_ref, l2_null, l2_none, ent_nil, ent_int, ent_ref, ent_null, ent_rf, ent_long, ok_0, ok_1, af_ret, af_void, List.tail_cons, List.tail_nil, Nat.reduceAdd, Nat.reduceLeDiff, not_false_eq_true, not_true_eq_false, and_self, and_true, true_and, ne_eq, or_true, true_or, or_false, false_or, eq_self, Nat.reduceEqDiff, ↓reduceIte, false_and, and_false, Nat.le_refl, Nat.zero_le, nz_1, nz_2, nz_3, nz_4, nz_5, nz_6, nz_8, nz_10, nz_12, nz_20, nz_30, nz_60, nz_100, mc_B, mc_Z, mc_S, mc_C, mc_K, mc_N, mc_R, mc_I, mc_L, va_Is, va_Ls, va_us, va_iss, u2_ap, sp_isLedge, sp_isLadder, sp_isPerson, sp_isLiving, sp_isLot, sp_isThere, sp_isSpan, cs_K q, cs_B q, mc_s (cs_inj q), cs_f26 q, cs_f27 q, cs_f28 q, cs_f29 q, cs_f24 q, cs_f25 q, r39_69, r39_70, r39_71, r39_74, r39_75, r39_77, r39_80, r39_81, r39_83, r39_86, r39_87, r39_89, r39_92, r39_93, r39_96, r39_97, r39_98, r39_101, r39_102, r39_103, ent_nil, z0, tn, nn, c00, ne, h7, ecp, Nat.zero_add]
    rfl
  have fin : ∀ G' : xp_F, xm_run (d + 1) 39 106 [some (.ref (xd_X D)), some (.int (Int32.ofNat p.length)), some (.int set), some (.int (sp_hr F p)), some (.int m), some (.int u), some (.int s), some (.int (sq_al F p m))] [] (xp_c h D G') = xm_run (d + 1) 39 109 [some (.ref (xd_X D)), some (.int (Int32.ofNat p.length)), some (.int set), some (.int (sp_hr F p)), some (.int m), some (.int u), some (.int s), some (.int (sq_al F p m)), some (.int 0)] [] (xp_c h D G') := fun G' => by
    simp only [ite_not, ite_self, w8_nil, ok01, ite10, rf_rv, rf_ref, rf_cat, rf_lk2, rf_some, rf_none, w_add, w_cons, cr_int, cr_long, cr_ref, cr_null, is_ref, is_null, l2_int, l2_ref, l2_null, l2_none, ent_nil, ent_int, ent_ref, ent_null, ent_rf, ent_long, ok_0, ok_1, af_ret, af_void, List.tail_cons, List.tail_nil, Nat.reduceAdd, Nat.reduceLeDiff, not_false_eq_true, not_true_eq_false, and_self, and_true, true_and, ne_eq, or_true, true_or, or_false, false_or, eq_self, Nat.reduceEqDiff, ↓reduceIte, false_and, and_false, Nat.le_refl, Nat.zero_le, nz_1, nz_2, nz_3, nz_4, nz_5, nz_6, nz_8, nz_10, nz_12, nz_20, nz_30, nz_60, nz_100, r39_106, r39_107]
  rw [start]
  by_cases c1 : F 0 2 < sq_al F p m
  · refine ⟨fun _ => ?_, fun z => absurd (Or.inl c1) z⟩
    simp only [ite_not, ite_self, w8_nil, ok01, ite10, rf_rv, rf_ref, rf_cat, rf_lk2, rf_some, rf_none, w_add, w_cons, cr_int, cr_long, cr_ref, cr_null, is_ref, is_null, l2_int, l2_ref, l2_null, l2_none, ent_nil, ent_int, ent_ref, ent_null, ent_rf, ent_long, ok_0, ok_1, af_ret, af_void, List.tail_cons, List.tail_nil, Nat.reduceAdd, Nat.reduceLeDiff, not_false_eq_true, not_true_eq_false, and_self, and_true, true_and, ne_eq, or_true, true_or, or_false, false_or, eq_self, Nat.reduceEqDiff, ↓reduceIte, false_and, and_false, Nat.le_refl, Nat.zero_le, nz_1, nz_2, nz_3, nz_4, nz_5, nz_6, nz_8, nz_10, nz_12, nz_20, nz_30, nz_60, nz_100, mc_B, mc_Z, mc_S, mc_C, mc_K, mc_N, mc_R, mc_I, mc_L, va_Is, va_Ls, va_us, va_iss, u2_ap, sp_isLedge, sp_isLadder, sp_isPerson, sp_isLiving, sp_isLot, sp_isThere, sp_isSpan, cs_K q, cs_B q, mc_s (cs_inj q), cs_f7 q, cs_f8 q, r39_19, r39_21, r39_22, r39_28, r39_30, r39_31, r39_37, r39_25, r39_34, gs, gt, c1]
  by_cases c2 : F 0 3 < s
  · refine ⟨fun _ => ?_, fun z => absurd (Or.inr c2) z⟩
    have c2' : ¬ s ≤ F 0 3 := Int32.not_le.mpr c2
    simp only [ite_not, ite_self, w8_nil, ok01, ite10, rf_rv, rf_ref, rf_cat, rf_lk2, rf_some, rf_none, w_add, w_cons, cr_int, cr_long, cr_ref, cr_null, is_ref, is_null, l2_int, l2_ref, l2_null, l2_none, ent_nil, ent_int, ent_ref, ent_null, ent_rf, ent_long, ok_0, ok_1, af_ret, af_void, List.tail_cons, List.tail_nil, Nat.reduceAdd, Nat.reduceLeDiff, not_false_eq_true, not_true_eq_false, and_self, and_true, true_and, ne_eq, or_true, true_or, or_false, false_or, eq_self, Nat.reduceEqDiff, ↓reduceIte, false_and, and_false, Nat.le_refl, Nat.zero_le, nz_1, nz_2, nz_3, nz_4, nz_5, nz_6, nz_8, nz_10, nz_12, nz_20, nz_30, nz_60, nz_100, mc_B, mc_Z, mc_S, mc_C, mc_K, mc_N, mc_R, mc_I, mc_L, va_Is, va_Ls, va_us, va_iss, u2_ap, sp_isLedge, sp_isLadder, sp_isPerson, sp_isLiving, sp_isLot, sp_isThere, sp_isSpan, cs_K q, cs_B q, mc_s (cs_inj q), cs_f7 q, cs_f8 q, r39_19, r39_21, r39_22, r39_28, r39_30, r39_31, r39_37, r39_25, r39_34, gs, gt, c1, c2']
  have c2' : s ≤ F 0 3 := Int32.not_lt.mp c2
  refine ⟨fun z => absurd z (fun y => y.elim c1 c2), fun _ => ?_⟩
  unfold sq_rec
  by_cases c3 : p = []
  · rw [if_pos (Or.inl c3)]
    refine ⟨sq_put G p u (sq_al F p m) s, ?_, put_B hp, fun o k h1 h2 => put_o h1 h2⟩
    have e : Int32.ofNat p.length = 0 := by rw [c3]; rfl
    rw [← fin, ← put]
    simp only [ite_not, ite_self, w8_nil, ok01, ite10, rf_rv, rf_ref, rf_cat, rf_lk2, rf_some, rf_none, w_add, w_cons, cr_int, cr_long, cr_ref, cr_null, is_ref, is_null, l2_int, l2_ref, l2_null, l2_none, ent_nil, ent_int, ent_ref, ent_null, ent_rf, ent_long, ok_0, ok_1, af_ret, af_void, List.tail_cons, List.tail_nil, Nat.reduceAdd, Nat.reduceLeDiff, not_false_eq_true, not_true_eq_false, and_self, and_true, true_and, ne_eq, or_true, true_or, or_false, false_or, eq_self, Nat.reduceEqDiff, ↓reduceIte, false_and, and_false, Nat.le_refl, Nat.zero_le, nz_1, nz_2, nz_3, nz_4, nz_5, nz_6, nz_8, nz_10, nz_12, nz_20, nz_30, nz_60, nz_100, mc_B, mc_Z, mc_S, mc_C, mc_K, mc_N, mc_R, mc_I, mc_L, va_Is, va_Ls, va_us, va_iss, u2_ap, sp_isLedge, sp_isLadder, sp_isPerson, sp_isLiving, sp_isLot, sp_isThere, sp_isSpan, cs_K q, cs_B q, mc_s (cs_inj q), cs_f7 q, cs_f8 q, cs_f27 q, cs_f28 q, r39_19, r39_21, r39_22, r39_28, r39_30, r39_31, r39_37, r39_38, r39_42, r39_44, r39_45, r39_51, r39_53, r39_54, r39_60, r39_62, r39_63, r39_25, r39_34, r39_39, r39_48, r39_57, r39_66, gs, gt, c1, c2', e]
  have e : ¬ Int32.ofNat p.length = 0 := by
    cases p with
    | nil => exact absurd rfl c3
    | cons l p => exact nat_ne0 (n := p.length) (by have : p.length + 1 ≤ 7 := h7; omega)
  by_cases c4 : B.1 < u
  · rw [if_pos (Or.inr (Or.inl c4))]
    refine ⟨sq_put G p u (sq_al F p m) s, ?_, put_B hp, fun o k h1 h2 => put_o h1 h2⟩
    rw [← fin, ← put]
    simp only [ite_not, ite_self, w8_nil, ok01, ite10, rf_rv, rf_ref, rf_cat, rf_lk2, rf_some, rf_none, w_add, w_cons, cr_int, cr_long, cr_ref, cr_null, is_ref, is_null, l2_int, l2_ref, l2_null, l2_none, ent_nil, ent_int, ent_ref, ent_null, ent_rf, ent_long, ok_0, ok_1, af_ret, af_void, List.tail_cons, List.tail_nil, Nat.reduceAdd, Nat.reduceLeDiff, not_false_eq_true, not_true_eq_false, and_self, and_true, true_and, ne_eq, or_true, true_or, or_false, false_or, eq_self, Nat.reduceEqDiff, ↓reduceIte, false_and, and_false, Nat.le_refl, Nat.zero_le, nz_1, nz_2, nz_3, nz_4, nz_5, nz_6, nz_8, nz_10, nz_12, nz_20, nz_30, nz_60, nz_100, mc_B, mc_Z, mc_S, mc_C, mc_K, mc_N, mc_R, mc_I, mc_L, va_Is, va_Ls, va_us, va_iss, u2_ap, sp_isLedge, sp_isLadder, sp_isPerson, sp_isLiving, sp_isLot, sp_isThere, sp_isSpan, cs_K q, cs_B q, mc_s (cs_inj q), cs_f7 q, cs_f8 q, cs_f27 q, cs_f28 q, r39_19, r39_21, r39_22, r39_28, r39_30, r39_31, r39_37, r39_38, r39_42, r39_44, r39_45, r39_51, r39_53, r39_54, r39_60, r39_62, r39_63, r39_25, r39_34, r39_39, r39_48, r39_57, r39_66, gs, gt, c1, c2', e, b1, c4]
  by_cases c5 : u = B.1
  · by_cases c6 : sq_al F p m < B.2.1
    · rw [if_pos (Or.inr (Or.inr ⟨c5, c6⟩))]
      refine ⟨sq_put G p u (sq_al F p m) s, ?_, put_B hp, fun o k h1 h2 => put_o h1 h2⟩
      have c6' : ¬ B.2.1 ≤ sq_al F p m := Int32.not_le.mpr c6
      rw [← fin, ← put]
      have c4' : ¬ B.1 < B.1 := fun z => c4 (by rw [c5]; exact z)
      simp only [ite_not, ite_self, w8_nil, ok01, ite10, rf_rv, rf_ref, rf_cat, rf_lk2, rf_some, rf_none, w_add, w_cons, cr_int, cr_long, cr_ref, cr_null, is_ref, is_null, l2_int, l2_ref, l2_null, l2_none, ent_nil, ent_int, ent_ref, ent_null, ent_rf, ent_long, ok_0, ok_1, af_ret, af_void, List.tail_cons, List.tail_nil, Nat.reduceAdd, Nat.reduceLeDiff, not_false_eq_true, not_true_eq_false, and_self, and_true, true_and, ne_eq, or_true, true_or, or_false, false_or, eq_self, Nat.reduceEqDiff, ↓reduceIte, false_and, and_false, Nat.le_refl, Nat.zero_le, nz_1, nz_2, nz_3, nz_4, nz_5, nz_6, nz_8, nz_10, nz_12, nz_20, nz_30, nz_60, nz_100, mc_B, mc_Z, mc_S, mc_C, mc_K, mc_N, mc_R, mc_I, mc_L, va_Is, va_Ls, va_us, va_iss, u2_ap, sp_isLedge, sp_isLadder, sp_isPerson, sp_isLiving, sp_isLot, sp_isThere, sp_isSpan, cs_K q, cs_B q, mc_s (cs_inj q), cs_f7 q, cs_f8 q, cs_f27 q, cs_f28 q, r39_19, r39_21, r39_22, r39_28, r39_30, r39_31, r39_37, r39_38, r39_42, r39_44, r39_45, r39_51, r39_53, r39_54, r39_60, r39_62, r39_63, r39_25, r39_34, r39_39, r39_48, r39_57, r39_66, gs, gt, c1, c2', e, b1, b2, c4, c4', c5, c6']
    · rw [if_neg (fun z => z.elim c3 (fun y => y.elim c4 (fun x => c6 x.2)))]
      refine ⟨G, ?_, ⟨b1, b2, b3, b4, b5⟩, fun _ _ _ _ => rfl⟩
      have c6' : B.2.1 ≤ sq_al F p m := Int32.not_lt.mp c6
      have c4' : ¬ B.1 < B.1 := fun z => c4 (by rw [c5]; exact z)
      rw [← fin]
      simp only [ite_not, ite_self, w8_nil, ok01, ite10, rf_rv, rf_ref, rf_cat, rf_lk2, rf_some, rf_none, w_add, w_cons, cr_int, cr_long, cr_ref, cr_null, is_ref, is_null, l2_int, l2_ref, l2_null, l2_none, ent_nil, ent_int, ent_ref, ent_null, ent_rf, ent_long, ok_0, ok_1, af_ret, af_void, List.tail_cons, List.tail_nil, Nat.reduceAdd, Nat.reduceLeDiff, not_false_eq_true, not_true_eq_false, and_self, and_true, true_and, ne_eq, or_true, true_or, or_false, false_or, eq_self, Nat.reduceEqDiff, ↓reduceIte, false_and, and_false, Nat.le_refl, Nat.zero_le, nz_1, nz_2, nz_3, nz_4, nz_5, nz_6, nz_8, nz_10, nz_12, nz_20, nz_30, nz_60, nz_100, mc_B, mc_Z, mc_S, mc_C, mc_K, mc_N, mc_R, mc_I, mc_L, va_Is, va_Ls, va_us, va_iss, u2_ap, sp_isLedge, sp_isLadder, sp_isPerson, sp_isLiving, sp_isLot, sp_isThere, sp_isSpan, cs_K q, cs_B q, mc_s (cs_inj q), cs_f7 q, cs_f8 q, cs_f27 q, cs_f28 q, r39_19, r39_21, r39_22, r39_28, r39_30, r39_31, r39_37, r39_38, r39_42, r39_44, r39_45, r39_51, r39_53, r39_54, r39_60, r39_62, r39_63, r39_25, r39_34, r39_39, r39_48, r39_57, r39_66, gs, gt, c1, c2', e, b1, b2, c4, c4', c5, c6']
  · rw [if_neg (fun z => z.elim c3 (fun y => y.elim c4 (fun x => c5 x.1)))]
    refine ⟨G, ?_, ⟨b1, b2, b3, b4, b5⟩, fun _ _ _ _ => rfl⟩
    rw [← fin]
    simp only [ite_not, ite_self, w8_nil, ok01, ite10, rf_rv, rf_ref, rf_cat, rf_lk2, rf_some, rf_none, w_add, w_cons, cr_int, cr_long, cr_ref, cr_null, is_ref, is_null, l2_int, l2_ref, l2_null, l2_none, ent_nil, ent_int, ent_ref, ent_null, ent_rf, ent_long, ok_0, ok_1, af_ret, af_void, List.tail_cons, List.tail_nil, Nat.reduceAdd, Nat.reduceLeDiff, not_false_eq_true, not_true_eq_false, and_self, and_true, true_and, ne_eq, or_true, true_or, or_false, false_or, eq_self, Nat.reduceEqDiff, ↓reduceIte, false_and, and_false, Nat.le_refl, Nat.zero_le, nz_1, nz_2, nz_3, nz_4, nz_5, nz_6, nz_8, nz_10, nz_12, nz_20, nz_30, nz_60, nz_100, mc_B, mc_Z, mc_S, mc_C, mc_K, mc_N, mc_R, mc_I, mc_L, va_Is, va_Ls, va_us, va_iss, u2_ap, sp_isLedge, sp_isLadder, sp_isPerson, sp_isLiving, sp_isLot, sp_isThere, sp_isSpan, cs_K q, cs_B q, mc_s (cs_inj q), cs_f7 q, cs_f8 q, cs_f27 q, cs_f28 q, r39_19, r39_21, r39_22, r39_28, r39_30, r39_31, r39_37, r39_38, r39_42, r39_44, r39_45, r39_51, r39_53, r39_54, r39_60, r39_62, r39_63, r39_25, r39_34, r39_39, r39_48, r39_57, r39_66, gs, gt, c1, c2', e, b1, b2, c4, c5]
end C14
