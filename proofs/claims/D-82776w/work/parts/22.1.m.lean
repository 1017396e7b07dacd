/-! the model's contracts, 11: terms as steps over a pile -/
set_option maxRecDepth 100000
/-- a rule's terms, in a type of core's: num v a number, var k what is asked, neg a not, mulR a v a part, mulL o (add a b) two with the model's code o: 9 + 10 - 11 * 13 < 14 = 15 > 17 and 18 or -/
abbrev Tm : Type := Int.Internal.Linear.Expr
def sp_two (o x y : Int32) : Int32 := if o = 9 then x + y else if o = 10 then x - y else if o = 11 then x * y else if o = 13 then (if x < y then 1 else 0) else if o = 14 then (if x = y then 1 else 0) else if o = 15 then (if y < x then 1 else 0) else if o = 17 then (if ¬ x = 0 ∧ ¬ y = 0 then 1 else 0) else (if ¬ x = 0 ∨ ¬ y = 0 then 1 else 0)
def ev (s : Nat → Int32) : Tm → Int32
  | .num v => Int32.ofInt v
  | .var k => s k
  | .neg a => if ev s a = 0 then 1 else 0
  | .mulR a v => ev s a / Int32.ofInt v
  | .mulL o (.add a b) => sp_two (Int32.ofInt o) (ev s a) (ev s b)
  | _ => 0
/-- c false: a number; c true: a condition -/
def wf : Bool → Tm → Prop
  | false, .num _ => True
  | false, .var k => k < 8
  | false, .mulR a v => wf false a ∧ ¬ Int32.ofInt v = 0
  | false, .mulL o (.add a b) => (o = 9 ∨ o = 10 ∨ o = 11) ∧ wf false a ∧ wf false b
  | true, .neg a => wf true a
  | true, .mulL o (.add a b) => ((o = 13 ∨ o = 14 ∨ o = 15) ∧ wf false a ∧ wf false b) ∨ ((o = 17 ∨ o = 18) ∧ wf true a ∧ wf true b)
  | _, _ => False
theorem wf_ind {P : Bool → Tm → Prop} (hnum : ∀ v, P false (.num v)) (hask : ∀ k, k < 8 → P false (.var k)) (hpart : ∀ a v, ¬ Int32.ofInt v = 0 → wf false a → P false a → P false (.mulR a v))
    (hari : ∀ o a b, (o = 9 ∨ o = 10 ∨ o = 11) → wf false a → wf false b → P false a → P false b → P false (.mulL o (.add a b)))
    (hno : ∀ a, wf true a → P true a → P true (.neg a))
    (hcmp : ∀ o a b, (o = 13 ∨ o = 14 ∨ o = 15) → wf false a → wf false b → P false a → P false b → P true (.mulL o (.add a b)))
    (hlog : ∀ o a b, (o = 17 ∨ o = 18) → wf true a → wf true b → P true a → P true b → P true (.mulL o (.add a b))) : ∀ (t : Tm) (c : Bool), wf c t → P c t
  | .num v, false, _ => hnum v
  | .num _, true, h => False.elim (by simp only [wf] at h)
  | .var k, false, h => hask k (by simpa only [wf] using h)
  | .var _, true, h => False.elim (by simp only [wf] at h)
  | .neg a, true, h => by
    have h1 : wf true a := by simpa only [wf] using h
    exact hno a h1 (wf_ind hnum hask hpart hari hno hcmp hlog a true h1)
  | .neg _, false, h => False.elim (by simp only [wf] at h)
  | .mulR a v, false, h => by
    have h1 : wf false a ∧ ¬ Int32.ofInt v = 0 := by simpa only [wf] using h
    exact hpart a v h1.2 h1.1 (wf_ind hnum hask hpart hari hno hcmp hlog a false h1.1)
  | .mulR _ _, true, h => False.elim (by simp only [wf] at h)
  | .mulL o (.add a b), false, h => by
    have h1 : (o = 9 ∨ o = 10 ∨ o = 11) ∧ wf false a ∧ wf false b := by simpa only [wf] using h
    exact hari o a b h1.1 h1.2.1 h1.2.2 (wf_ind hnum hask hpart hari hno hcmp hlog a false h1.2.1) (wf_ind hnum hask hpart hari hno hcmp hlog b false h1.2.2)
  | .mulL o (.add a b), true, h => by
    have h1 : ((o = 13 ∨ o = 14 ∨ o = 15) ∧ wf false a ∧ wf false b) ∨ ((o = 17 ∨ o = 18) ∧ wf true a ∧ wf true b) := by simpa only [wf] using h
    rcases h1 with h1 | h1
    · exact hcmp o a b h1.1 h1.2.1 h1.2.2 (wf_ind hnum hask hpart hari hno hcmp hlog a false h1.2.1) (wf_ind hnum hask hpart hari hno hcmp hlog b false h1.2.2)
    · exact hlog o a b h1.1 h1.2.1 h1.2.2 (wf_ind hnum hask hpart hari hno hcmp hlog a true h1.2.1) (wf_ind hnum hask hpart hari hno hcmp hlog b true h1.2.2)
  | .mulL _ (.num _), c, h => False.elim (by cases c <;> simp only [wf] at h)
  | .mulL _ (.var _), c, h => False.elim (by cases c <;> simp only [wf] at h)
  | .mulL _ (.neg _), c, h => False.elim (by cases c <;> simp only [wf] at h)
  | .mulL _ (.sub _ _), c, h => False.elim (by cases c <;> simp only [wf] at h)
  | .mulL _ (.mulL _ _), c, h => False.elim (by cases c <;> simp only [wf] at h)
  | .mulL _ (.mulR _ _), c, h => False.elim (by cases c <;> simp only [wf] at h)
  | .add _ _, c, h => False.elim (by cases c <;> simp only [wf] at h)
  | .sub _ _, c, h => False.elim (by cases c <;> simp only [wf] at h)
theorem if01 {c : Prop} [Decidable c] : (if c then (1 : Int32) else 0) = 0 ∨ (if c then (1 : Int32) else 0) = 1 := by
  split
  · exact Or.inr rfl
  · exact Or.inl rfl
theorem ev01 {s : Nat → Int32} {t : Tm} (h : wf true t) : ev s t = 0 ∨ ev s t = 1 := by
  refine wf_ind (P := fun c t => c = true → ev s t = 0 ∨ ev s t = 1) (fun _ z => nomatch z) (fun _ _ z => nomatch z) (fun _ _ _ _ _ z => nomatch z) (fun _ _ _ _ _ _ _ _ z => nomatch z) (fun a _ _ _ => if01) (fun o a b ho _ _ _ _ _ => ?_) (fun o a b ho _ _ _ _ _ => ?_) t true h rfl
  · rcases ho with e | e | e <;> subst e <;> exact if01
  · rcases ho with e | e <;> subst e <;> exact if01
/-- the steps from b to e are those of a term -/
def sg (c : Nat → Int32 × Int32) : Tm → Nat → Nat → Prop
  | .num v, b, e => e = b + 1 ∧ (c b).1 = 0 ∧ (c b).2 = Int32.ofInt v
  | .var k, b, e => e = b + 1 ∧ (c b).1 = Int32.ofNat (k + 1)
  | .neg a, b, e => ∃ m, sg c a b m ∧ e = m + 1 ∧ (c m).1 = 16
  | .mulR a v, b, e => ∃ m, sg c a b m ∧ e = m + 1 ∧ (c m).1 = 12 ∧ (c m).2 = Int32.ofInt v
  | .mulL o (.add a b'), b, e => ∃ m n, sg c a b m ∧ sg c b' m n ∧ e = n + 1 ∧ (c n).1 = Int32.ofInt o
  | _, _, _ => False
section M11
variable {d : Nat} {h : xm_H} {M : Nat} {F : xp_F}
/-- what rules may ask of a ledge -/
def sp_has (F : xp_F) (l : Nat) (k : Nat) : Int32 := if k = 0 then sp_day (F 0 0) else if k = 1 then sp_mon (F 0 0) else if k = 2 then F 0 0 - F 0 0 / 30 * 30 else if k = 3 then F 0 1 else if k = 4 then F 4 l else if k = 5 then F 5 l else if k = 6 then F 6 l else F 0 0 / 60
def sp_known (F : xp_F) (l : Nat) (s v : Int32) : Int32 := if s = 0 then v else if s = 1 then sp_day (F 0 0) else if s = 2 then sp_mon (F 0 0) else if s = 3 then F 0 0 - F 0 0 / 30 * 30 else if s = 4 then F 0 1 else if s = 5 then F 4 l else if s = 6 then F 5 l else if s = 7 then F 6 l else F 0 0 / 60
theorem c137 (q : MS h M) {l s v : Int32} (hl : xm_in l 12 = true) : xm_met (d + 2) 137 [.ref M, .int l, .int s, .int v] (xp_m h M F) = some (.inl (some (.int (sp_known F l.toNatClampNeg s v))), xp_m h M F) := by
  unfold xm_met sp_known
  simp only [ite_not, ite_self, w8_nil, ok01, ite10, rf_rv, rf_ref, rf_cat, rf_lk2, rf_some, rf_none, w_add, w_cons, cr_int, cr_long, cr_ref, cr_null, is_ref, is_null, l2_int, l2_ref, l2_null, l2_none, ent_nil, ent_int, ent_ref, ent_null, ent_rf, ent_long, ok_0, ok_1, af_ret, af_void, List.tail_cons, List.tail_nil, Nat.reduceAdd, Nat.reduceLeDiff, not_false_eq_true, not_true_eq_false, and_self, and_true, true_and, ne_eq, or_true, true_or, or_false, false_or, eq_self, Nat.reduceEqDiff, ↓reduceIte, false_and, and_false, Nat.le_refl, Nat.zero_le, nz_1, nz_2, nz_3, nz_4, nz_5, nz_6, nz_8, nz_10, nz_12, nz_20, nz_30, nz_60, nz_100, mp_B, mp_Z, mp_S, mp_C, mp_K, mp_N, mp_L, mp_R, mp_I, mp_I0, mp_s, mp_s0, u2_ap, sp_isLedge, sp_isLadder, sp_isPerson, sp_isLiving, sp_isLot, sp_isThere, sp_isSpan, ms_K q, ms_B q, ms_f8 q, ms_f9 q, ms_f10 q, r137_0, r137_48, r137_49, r137_50, r137_51, r137_54, r137_55, r137_56, r137_59, r137_60, r137_61, r137_64, r137_66, r137_67, r137_68, r137_69, r137_72, r137_73, r137_74, r137_77, r137_78, r137_79, r137_80, r137_81, r137_84, r137_85, r137_86, r137_87, r137_88, r137_91, r137_92, r137_93, r137_94, r137_95, r137_98, r137_1, c100 q, c101 q, c102 q, hl, xm_sw]
  repeat' split
  all_goals first | rfl | contradiction
theorem known_has {l k : Nat} {v : Int32} (hk : k < 8) : sp_known F l (Int32.ofNat (k + 1)) v = sp_has F l k := by
  have : k = 0 ∨ k = 1 ∨ k = 2 ∨ k = 3 ∨ k = 4 ∨ k = 5 ∨ k = 6 ∨ k = 7 := by omega
  rcases this with e | e | e | e | e | e | e | e <;> subst e <;> rfl
theorem c138 {o x y : Int32} (ho : o = 9 ∨ o = 10 ∨ o = 11 ∨ o = 13 ∨ o = 14 ∨ o = 15) : xm_met d 138 [.int o, .int x, .int y] h = some (.inl (some (.int (sp_two o x y))), h) := by
  unfold xm_met sp_two
  rcases ho with e | e | e | e | e | e <;> subst e
  · simp only [ite_not, ite_self, w8_nil, ok01, ite10, rf_rv, rf_ref, rf_cat, rf_lk2, rf_some, rf_none, w_add, w_cons, cr_int, cr_long, cr_ref, cr_null, is_ref, is_null, l2_int, l2_ref, l2_null, l2_none, ent_nil, ent_int, ent_ref, ent_null, ent_rf, ent_long, ok_0, ok_1, af_ret, af_void, List.tail_cons, List.tail_nil, Nat.reduceAdd, Nat.reduceLeDiff, not_false_eq_true, not_true_eq_false, and_self, and_true, true_and, ne_eq, or_true, true_or, or_false, false_or, eq_self, Nat.reduceEqDiff, ↓reduceIte, false_and, and_false, Nat.le_refl, Nat.zero_le, nz_1, nz_2, nz_3, nz_4, nz_5, nz_6, nz_8, nz_10, nz_12, nz_20, nz_30, nz_60, nz_100, r138_0, r138_52, r138_53, r138_54, r138_55, r138_56, r138_57, r138_58, r138_59, r138_60, r138_61, r138_62, r138_63, r138_64, r138_65, r138_69, r138_70, r138_73, r138_74, r138_75, r138_76, r138_80, r138_81, r138_84, r138_85, r138_86, r138_87, r138_91, r138_92, r138_95, r138_96, r138_97, r138_98, r138_99, r138_100, r138_101, r138_102, r138_103, r138_104, r138_1, r138_66, r138_77, r138_88, xm_sw]
  · simp only [ite_not, ite_self, w8_nil, ok01, ite10, rf_rv, rf_ref, rf_cat, rf_lk2, rf_some, rf_none, w_add, w_cons, cr_int, cr_long, cr_ref, cr_null, is_ref, is_null, l2_int, l2_ref, l2_null, l2_none, ent_nil, ent_int, ent_ref, ent_null, ent_rf, ent_long, ok_0, ok_1, af_ret, af_void, List.tail_cons, List.tail_nil, Nat.reduceAdd, Nat.reduceLeDiff, not_false_eq_true, not_true_eq_false, and_self, and_true, true_and, ne_eq, or_true, true_or, or_false, false_or, eq_self, Nat.reduceEqDiff, ↓reduceIte, false_and, and_false, Nat.le_refl, Nat.zero_le, nz_1, nz_2, nz_3, nz_4, nz_5, nz_6, nz_8, nz_10, nz_12, nz_20, nz_30, nz_60, nz_100, r138_0, r138_52, r138_53, r138_54, r138_55, r138_56, r138_57, r138_58, r138_59, r138_60, r138_61, r138_62, r138_63, r138_64, r138_65, r138_69, r138_70, r138_73, r138_74, r138_75, r138_76, r138_80, r138_81, r138_84, r138_85, r138_86, r138_87, r138_91, r138_92, r138_95, r138_96, r138_97, r138_98, r138_99, r138_100, r138_101, r138_102, r138_103, r138_104, r138_1, r138_66, r138_77, r138_88, xm_sw, (by decide : ¬ (10 : Int32) = 9)]
  · simp only [ite_not, ite_self, w8_nil, ok01, ite10, rf_rv, rf_ref, rf_cat, rf_lk2, rf_some, rf_none, w_add, w_cons, cr_int, cr_long, cr_ref, cr_null, is_ref, is_null, l2_int, l2_ref, l2_null, l2_none, ent_nil, ent_int, ent_ref, ent_null, ent_rf, ent_long, ok_0, ok_1, af_ret, af_void, List.tail_cons, List.tail_nil, Nat.reduceAdd, Nat.reduceLeDiff, not_false_eq_true, not_true_eq_false, and_self, and_true, true_and, ne_eq, or_true, true_or, or_false, false_or, eq_self, Nat.reduceEqDiff, ↓reduceIte, false_and, and_false, Nat.le_refl, Nat.zero_le, nz_1, nz_2, nz_3, nz_4, nz_5, nz_6, nz_8, nz_10, nz_12, nz_20, nz_30, nz_60, nz_100, r138_0, r138_52, r138_53, r138_54, r138_55, r138_56, r138_57, r138_58, r138_59, r138_60, r138_61, r138_62, r138_63, r138_64, r138_65, r138_69, r138_70, r138_73, r138_74, r138_75, r138_76, r138_80, r138_81, r138_84, r138_85, r138_86, r138_87, r138_91, r138_92, r138_95, r138_96, r138_97, r138_98, r138_99, r138_100, r138_101, r138_102, r138_103, r138_104, r138_1, r138_66, r138_77, r138_88, xm_sw, (by decide : ¬ (11 : Int32) = 9), (by decide : ¬ (11 : Int32) = 10)]
  · by_cases c : x < y
    · have c2 : ¬ y ≤ x := Int32.not_le.mpr c
      simp only [ite_not, ite_self, w8_nil, ok01, ite10, rf_rv, rf_ref, rf_cat, rf_lk2, rf_some, rf_none, w_add, w_cons, cr_int, cr_long, cr_ref, cr_null, is_ref, is_null, l2_int, l2_ref, l2_null, l2_none, ent_nil, ent_int, ent_ref, ent_null, ent_rf, ent_long, ok_0, ok_1, af_ret, af_void, List.tail_cons, List.tail_nil, Nat.reduceAdd, Nat.reduceLeDiff, not_false_eq_true, not_true_eq_false, and_self, and_true, true_and, ne_eq, or_true, true_or, or_false, false_or, eq_self, Nat.reduceEqDiff, ↓reduceIte, false_and, and_false, Nat.le_refl, Nat.zero_le, nz_1, nz_2, nz_3, nz_4, nz_5, nz_6, nz_8, nz_10, nz_12, nz_20, nz_30, nz_60, nz_100, r138_0, r138_52, r138_53, r138_54, r138_55, r138_56, r138_57, r138_58, r138_59, r138_60, r138_61, r138_62, r138_63, r138_64, r138_65, r138_69, r138_70, r138_73, r138_74, r138_75, r138_76, r138_80, r138_81, r138_84, r138_85, r138_86, r138_87, r138_91, r138_92, r138_95, r138_96, r138_97, r138_98, r138_99, r138_100, r138_101, r138_102, r138_103, r138_104, r138_1, r138_66, r138_77, r138_88, xm_sw, (by decide : ¬ (13 : Int32) = 9), (by decide : ¬ (13 : Int32) = 10), (by decide : ¬ (13 : Int32) = 11), c, c2]
    · have c2 : y ≤ x := Int32.not_lt.mp c
      simp only [ite_not, ite_self, w8_nil, ok01, ite10, rf_rv, rf_ref, rf_cat, rf_lk2, rf_some, rf_none, w_add, w_cons, cr_int, cr_long, cr_ref, cr_null, is_ref, is_null, l2_int, l2_ref, l2_null, l2_none, ent_nil, ent_int, ent_ref, ent_null, ent_rf, ent_long, ok_0, ok_1, af_ret, af_void, List.tail_cons, List.tail_nil, Nat.reduceAdd, Nat.reduceLeDiff, not_false_eq_true, not_true_eq_false, and_self, and_true, true_and, ne_eq, or_true, true_or, or_false, false_or, eq_self, Nat.reduceEqDiff, ↓reduceIte, false_and, and_false, Nat.le_refl, Nat.zero_le, nz_1, nz_2, nz_3, nz_4, nz_5, nz_6, nz_8, nz_10, nz_12, nz_20, nz_30, nz_60, nz_100, r138_0, r138_52, r138_53, r138_54, r138_55, r138_56, r138_57, r138_58, r138_59, r138_60, r138_61, r138_62, r138_63, r138_64, r138_65, r138_69, r138_70, r138_73, r138_74, r138_75, r138_76, r138_80, r138_81, r138_84, r138_85, r138_86, r138_87, r138_91, r138_92, r138_95, r138_96, r138_97, r138_98, r138_99, r138_100, r138_101, r138_102, r138_103, r138_104, r138_1, r138_66, r138_77, r138_88, xm_sw, (by decide : ¬ (13 : Int32) = 9), (by decide : ¬ (13 : Int32) = 10), (by decide : ¬ (13 : Int32) = 11), c, c2]
  · by_cases c : x = y
    · simp only [ite_not, ite_self, w8_nil, ok01, ite10, rf_rv, rf_ref, rf_cat, rf_lk2, rf_some, rf_none, w_add, w_cons, cr_int, cr_long, cr_ref, cr_null, is_ref, is_null, l2_int, l2_ref, l2_null, l2_none, ent_nil, ent_int, ent_ref, ent_null, ent_rf, ent_long, ok_0, ok_1, af_ret, af_void, List.tail_cons, List.tail_nil, Nat.reduceAdd, Nat.reduceLeDiff, not_false_eq_true, not_true_eq_false, and_self, and_true, true_and, ne_eq, or_true, true_or, or_false, false_or, eq_self, Nat.reduceEqDiff, ↓reduceIte, false_and, and_false, Nat.le_refl, Nat.zero_le, nz_1, nz_2, nz_3, nz_4, nz_5, nz_6, nz_8, nz_10, nz_12, nz_20, nz_30, nz_60, nz_100, r138_0, r138_52, r138_53, r138_54, r138_55, r138_56, r138_57, r138_58, r138_59, r138_60, r138_61, r138_62, r138_63, r138_64, r138_65, r138_69, r138_70, r138_73, r138_74, r138_75, r138_76, r138_80, r138_81, r138_84, r138_85, r138_86, r138_87, r138_91, r138_92, r138_95, r138_96, r138_97, r138_98, r138_99, r138_100, r138_101, r138_102, r138_103, r138_104, r138_1, r138_66, r138_77, r138_88, xm_sw, (by decide : ¬ (14 : Int32) = 9), (by decide : ¬ (14 : Int32) = 10), (by decide : ¬ (14 : Int32) = 11), (by decide : ¬ (14 : Int32) = 13), c]
    · simp only [ite_not, ite_self, w8_nil, ok01, ite10, rf_rv, rf_ref, rf_cat, rf_lk2, rf_some, rf_none, w_add, w_cons, cr_int, cr_long, cr_ref, cr_null, is_ref, is_null, l2_int, l2_ref, l2_null, l2_none, ent_nil, ent_int, ent_ref, ent_null, ent_rf, ent_long, ok_0, ok_1, af_ret, af_void, List.tail_cons, List.tail_nil, Nat.reduceAdd, Nat.reduceLeDiff, not_false_eq_true, not_true_eq_false, and_self, and_true, true_and, ne_eq, or_true, true_or, or_false, false_or, eq_self, Nat.reduceEqDiff, ↓reduceIte, false_and, and_false, Nat.le_refl, Nat.zero_le, nz_1, nz_2, nz_3, nz_4, nz_5, nz_6, nz_8, nz_10, nz_12, nz_20, nz_30, nz_60, nz_100, r138_0, r138_52, r138_53, r138_54, r138_55, r138_56, r138_57, r138_58, r138_59, r138_60, r138_61, r138_62, r138_63, r138_64, r138_65, r138_69, r138_70, r138_73, r138_74, r138_75, r138_76, r138_80, r138_81, r138_84, r138_85, r138_86, r138_87, r138_91, r138_92, r138_95, r138_96, r138_97, r138_98, r138_99, r138_100, r138_101, r138_102, r138_103, r138_104, r138_1, r138_66, r138_77, r138_88, xm_sw, (by decide : ¬ (14 : Int32) = 9), (by decide : ¬ (14 : Int32) = 10), (by decide : ¬ (14 : Int32) = 11), (by decide : ¬ (14 : Int32) = 13), c]
  · by_cases c : y < x
    · have c2 : ¬ x ≤ y := Int32.not_le.mpr c
      simp only [ite_not, ite_self, w8_nil, ok01, ite10, rf_rv, rf_ref, rf_cat, rf_lk2, rf_some, rf_none, w_add, w_cons, cr_int, cr_long, cr_ref, cr_null, is_ref, is_null, l2_int, l2_ref, l2_null, l2_none, ent_nil, ent_int, ent_ref, ent_null, ent_rf, ent_long, ok_0, ok_1, af_ret, af_void, List.tail_cons, List.tail_nil, Nat.reduceAdd, Nat.reduceLeDiff, not_false_eq_true, not_true_eq_false, and_self, and_true, true_and, ne_eq, or_true, true_or, or_false, false_or, eq_self, Nat.reduceEqDiff, ↓reduceIte, false_and, and_false, Nat.le_refl, Nat.zero_le, nz_1, nz_2, nz_3, nz_4, nz_5, nz_6, nz_8, nz_10, nz_12, nz_20, nz_30, nz_60, nz_100, r138_0, r138_52, r138_53, r138_54, r138_55, r138_56, r138_57, r138_58, r138_59, r138_60, r138_61, r138_62, r138_63, r138_64, r138_65, r138_69, r138_70, r138_73, r138_74, r138_75, r138_76, r138_80, r138_81, r138_84, r138_85, r138_86, r138_87, r138_91, r138_92, r138_95, r138_96, r138_97, r138_98, r138_99, r138_100, r138_101, r138_102, r138_103, r138_104, r138_1, r138_66, r138_77, r138_88, xm_sw, (by decide : ¬ (15 : Int32) = 9), (by decide : ¬ (15 : Int32) = 10), (by decide : ¬ (15 : Int32) = 11), (by decide : ¬ (15 : Int32) = 13), (by decide : ¬ (15 : Int32) = 14), c, c2]
    · have c2 : x ≤ y := Int32.not_lt.mp c
      simp only [ite_not, ite_self, w8_nil, ok01, ite10, rf_rv, rf_ref, rf_cat, rf_lk2, rf_some, rf_none, w_add, w_cons, cr_int, cr_long, cr_ref, cr_null, is_ref, is_null, l2_int, l2_ref, l2_null, l2_none, ent_nil, ent_int, ent_ref, ent_null, ent_rf, ent_long, ok_0, ok_1, af_ret, af_void, List.tail_cons, List.tail_nil, Nat.reduceAdd, Nat.reduceLeDiff, not_false_eq_true, not_true_eq_false, and_self, and_true, true_and, ne_eq, or_true, true_or, or_false, false_or, eq_self, Nat.reduceEqDiff, ↓reduceIte, false_and, and_false, Nat.le_refl, Nat.zero_le, nz_1, nz_2, nz_3, nz_4, nz_5, nz_6, nz_8, nz_10, nz_12, nz_20, nz_30, nz_60, nz_100, r138_0, r138_52, r138_53, r138_54, r138_55, r138_56, r138_57, r138_58, r138_59, r138_60, r138_61, r138_62, r138_63, r138_64, r138_65, r138_69, r138_70, r138_73, r138_74, r138_75, r138_76, r138_80, r138_81, r138_84, r138_85, r138_86, r138_87, r138_91, r138_92, r138_95, r138_96, r138_97, r138_98, r138_99, r138_100, r138_101, r138_102, r138_103, r138_104, r138_1, r138_66, r138_77, r138_88, xm_sw, (by decide : ¬ (15 : Int32) = 9), (by decide : ¬ (15 : Int32) = 10), (by decide : ¬ (15 : Int32) = 11), (by decide : ¬ (15 : Int32) = 13), (by decide : ¬ (15 : Int32) = 14), c, c2]
end M11
