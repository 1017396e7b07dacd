/-! the model's contracts, 36: rows, row -/
set_option maxRecDepth 100000
theorem it_eq_up {α : Type} {f : Nat → α → α} {s : α} : ∀ c k, xp_it f k c (xp_up f s k) = xp_up f s (k + c)
  | 0, _ => rfl
  | c + 1, k => by
    show xp_it f (k + 1) c (xp_up f s (k + 1)) = _
    rw [it_eq_up c (k + 1)]
    rw [show k + 1 + c = k + (c + 1) by omega]
section M36
variable {d : Nat} {h : xm_H} {M : Nat} {F : xp_F}
def sp_cutOf (F : xp_F) (n : Nat) (L : Nat → Ln) (l : Nat) : Int32 := F 6 l - sp_stays F n L l
def sp_rows (F : xp_F) (n : Nat) (L : Nat → Ln) (k c w : Int32) : Bst := sp_found F (sp_cutOf F n L) (sp_lows (sp_reached F n L k c w) (F 0 6).toNatClampNeg)
def sp_some1 (set : Int32) (l : Nat) (s : List Nat × xp_F) : List Nat × xp_F := if s.1.length < 7 ∧ bit set l = true then (s.1 ++ [l], xm_u2 (xm_u2 s.2 32 s.1.length (Int32.ofNat l)) 0 56 (Int32.ofNat (s.1.length + 1))) else s
theorem some1_up {set : Int32} {G : xp_F} : ∀ N, (xp_up (sp_some1 set) ([], G) N).1 = sp_lows set N
  | 0 => rfl
  | N + 1 => by
    show (sp_some1 set N (xp_up (sp_some1 set) ([], G) N)).1 = if (sp_lows set N).length < 7 ∧ bit set N = true then sp_lows set N ++ [N] else sp_lows set N
    have ih := some1_up (set := set) (G := G) N
    generalize xp_up (sp_some1 set) ([], G) N = s at ih ⊢
    rw [← ih]
    unfold sp_some1
    split <;> rfl
def smI (F : xp_F) (k : Nat) (s : List Nat × xp_F) : Prop := s.1.length ≤ 7 ∧ (∀ x ∈ s.1, x < k) ∧ SI s.2 s.1 ∧ rw' F s.2
theorem smI.step {set : Int32} {k : Nat} {s : List Nat × xp_F} (a : smI F k s) : smI F (k + 1) (sp_some1 set k s) := by
  obtain ⟨S, G⟩ := s
  obtain ⟨a1, a2, a3, a4⟩ := a
  have a1 : S.length ≤ 7 := a1
  unfold sp_some1
  by_cases c : S.length < 7 ∧ bit set k = true
  · rw [if_pos c]
    refine ⟨?_, ?_, ⟨?_, fun i hi => ?_⟩, a4.tr ((rw'.u (by decide)).tr (rw'.u0 (by decide)))⟩
    · show (S ++ [k]).length ≤ 7
      rw [List.length_append]
      have := c.1
      show S.length + 1 ≤ 7
      omega
    · intro x hx
      rcases List.mem_append.mp hx with hx | hx
      · have := a2 x hx
        omega
      · have : x = k := by simpa using hx
        omega
    · show xm_u2 (xm_u2 G 32 S.length (Int32.ofNat k)) 0 56 (Int32.ofNat (S.length + 1)) 0 56 = Int32.ofNat (S ++ [k]).length
      rw [u2_ap, if_pos ⟨rfl, rfl⟩, List.length_append]
      rfl
    · show xm_u2 (xm_u2 G 32 S.length (Int32.ofNat k)) 0 56 (Int32.ofNat (S.length + 1)) 32 i = Int32.ofNat (S ++ [k])[i]
      rw [u2_ap, if_neg (by omega), u2_ap]
      have hi' : i < (S ++ [k]).length := hi
      rw [List.length_append] at hi'
      have hi' : i < S.length + 1 := hi'
      by_cases e : i = S.length
      · subst e
        rw [if_pos ⟨rfl, rfl⟩]
        simp
      · rw [if_neg (fun z => e z.2), List.getElem_append_left (show i < S.length by omega)]
        exact a3.2 i (show i < S.length by omega)
  · rw [if_neg c]
    exact ⟨a1, fun x hx => by have := a2 x hx; omega, a3, a4⟩
theorem c151 (q : MS h M) (hn : rg (F 0 6) 12) {n : Nat} {L : Nat → Ln} (hm : MR F 0 n L) {k c w : Int32} (ik : xm_in k 4 = true) (iw : xm_in w 16 = true) : ∃ G, xm_met (d + 8) 151 [.ref M, .int k, .int c, .int w] (xp_m h M F) = some (.inl none, xp_m h M G) ∧ rw' F G ∧ BR G (sp_rows F n L k c w) := by
  obtain ⟨G1, m1, p1⟩ := @c148 d h M F q hn n L hm k c w ik iw
  generalize eset : sp_reached F n L k c w = set at m1
  have st0 : smI F 0 ([], xm_u2 G1 0 56 0) := ⟨Nat.zero_le _, fun x hx => (by cases hx), ⟨by show xm_u2 G1 0 56 0 0 56 = _; rw [u2_ap, if_pos ⟨rfl, rfl⟩]; rfl, fun i hi => absurd hi (Nat.not_lt_zero _)⟩, (rw'.pq p1).tr (rw'.u0 (by decide))⟩
  obtain ⟨t, e1, k', i1⟩ := xp_loopx (P := fun l (s : List Nat × xp_F) t => xm_run (d + 8) 151 17 (some (.ref M) :: some (.int k) :: some (.int c) :: some (.int w) :: some (.int set) :: some (.int (Int32.ofNat l)) :: t) [] (xp_m h M s.2)) (Q := fun (s : List Nat × xp_F) t => xm_run (d + 8) 151 75 (some (.ref M) :: some (.int k) :: some (.int c) :: some (.int w) :: some (.int set) :: t) [] (xp_m h M s.2)) (n := (F 0 6).toNatClampNeg) (fun l s => smI F l s) (f := sp_some1 set) (fun l s t hl hs => by
    have hs' := hs.step (set := set)
    obtain ⟨S, G⟩ := s
    obtain ⟨a1, a2, ⟨a3, -⟩, a4⟩ := hs
    have a1 : S.length ≤ 7 := a1
    have a3 : G 0 56 = Int32.ofNat S.length := a3
    have a4 : rw' F G := a4
    obtain ⟨i1, e1, c0, -, l12⟩ := lp_k hn (by decide) hl
    have g0 := a4 0 6 (by omega) (by decide) (by omega)
    by_cases c1 : S.length < 7
    case neg =>
      refine Or.inr ⟨⟨some (.int (Int32.ofNat l)) :: t, ?_⟩, fun j => if_neg (fun z => c1 z.1)⟩
      show xm_run _ _ _ _ _ _ = xm_run _ _ _ _ _ _
      have c1' : (7 : Int32) ≤ Int32.ofNat S.length := by
        rw [Int32.le_iff_toInt_le, ti_nat (by omega), show (7 : Int32).toInt = 7 from rfl]
        omega
      rw [r151_17]
      simp only [ite_not, ite_self, w8_nil, ok01, ite10, rf_rv, rf_ref, rf_cat, rf_lk2, rf_some, rf_none, w_add, w_cons, cr_int, cr_long, cr_ref, cr_null, is_ref, is_null, l2_int, l2_ref, l2_null, l2_none, ent_nil, ent_int, ent_ref, ent_null, ent_rf, ent_long, ok_0, ok_1, af_ret, af_void, List.tail_cons, List.tail_nil, Nat.reduceAdd, Nat.reduceLeDiff, not_false_eq_true, not_true_eq_false, and_self, and_true, true_and, ne_eq, or_true, true_or, or_false, false_or, eq_self, Nat.reduceEqDiff, ↓reduceIte, false_and, and_false, Nat.le_refl, Nat.zero_le, nz_1, nz_2, nz_3, nz_4, nz_5, nz_6, nz_8, nz_10, nz_12, nz_20, nz_30, nz_60, nz_100, mp_B, mp_Z, mp_S, mp_C, mp_K, mp_N, mp_L, mp_R, mp_I, mp_I0, mp_s, mp_s0, u2_ap, sp_isLedge, sp_isLadder, sp_isPerson, sp_isLiving, sp_isLot, sp_isThere, sp_isSpan, ms_K q, ms_B q, ms_f49 q, ms_f51 q, ms_f52 q, ms_f53 q, ms_f54 q, ms_f50 q, ms_f10 q, ms_f8 q, ms_f9 q, r151_19, r151_20, r151_26, r151_27, r151_30, r151_23, r151_32, g0, c0, a3, c1']
    refine Or.inl ⟨t, ?_, hs'⟩
    show xm_run _ _ _ _ _ _ = _
    have c1' : ¬ (7 : Int32) ≤ Int32.ofNat S.length := by
      rw [Int32.le_iff_toInt_le, ti_nat (by omega), show (7 : Int32).toInt = 7 from rfl]
      omega
    obtain ⟨i2, e2⟩ := in_nat c1 (by decide)
    unfold sp_some1
    rw [r151_17]
    by_cases c2 : bit set l = true
    · have c2' : ¬ set >>> (Int32.ofNat l &&& 31) &&& 1 = 0 := fun z => by
        rw [bit_shr (by omega), c2] at z
        exact absurd z (by decide)
      simp only [ite_not, ite_self, w8_nil, ok01, ite10, rf_rv, rf_ref, rf_cat, rf_lk2, rf_some, rf_none, w_add, w_cons, cr_int, cr_long, cr_ref, cr_null, is_ref, is_null, l2_int, l2_ref, l2_null, l2_none, ent_nil, ent_int, ent_ref, ent_null, ent_rf, ent_long, ok_0, ok_1, af_ret, af_void, List.tail_cons, List.tail_nil, Nat.reduceAdd, Nat.reduceLeDiff, not_false_eq_true, not_true_eq_false, and_self, and_true, true_and, ne_eq, or_true, true_or, or_false, false_or, eq_self, Nat.reduceEqDiff, ↓reduceIte, false_and, and_false, Nat.le_refl, Nat.zero_le, nz_1, nz_2, nz_3, nz_4, nz_5, nz_6, nz_8, nz_10, nz_12, nz_20, nz_30, nz_60, nz_100, mp_B, mp_Z, mp_S, mp_C, mp_K, mp_N, mp_L, mp_R, mp_I, mp_I0, mp_s, mp_s0, u2_ap, sp_isLedge, sp_isLadder, sp_isPerson, sp_isLiving, sp_isLot, sp_isThere, sp_isSpan, ms_K q, ms_B q, ms_f49 q, ms_f51 q, ms_f52 q, ms_f53 q, ms_f54 q, ms_f50 q, ms_f10 q, ms_f8 q, ms_f9 q, r151_19, r151_20, r151_26, r151_27, r151_30, r151_35, r151_37, r151_39, r151_40, r151_41, r151_45, r151_48, r151_49, r151_52, r151_53, r151_56, r151_58, r151_59, r151_60, r151_61, r151_64, r151_65, r151_66, r151_69, r151_72, r151_23, r151_32, r151_42, g0, c0, a3, c1', c1, c2, c2', i2, e2, nat_succ]
    · have c2' : set >>> (Int32.ofNat l &&& 31) &&& 1 = 0 := by
        rw [bit_shr (by omega)]
        exact Bool.eq_false_iff.mpr c2
      simp only [ite_not, ite_self, w8_nil, ok01, ite10, rf_rv, rf_ref, rf_cat, rf_lk2, rf_some, rf_none, w_add, w_cons, cr_int, cr_long, cr_ref, cr_null, is_ref, is_null, l2_int, l2_ref, l2_null, l2_none, ent_nil, ent_int, ent_ref, ent_null, ent_rf, ent_long, ok_0, ok_1, af_ret, af_void, List.tail_cons, List.tail_nil, Nat.reduceAdd, Nat.reduceLeDiff, not_false_eq_true, not_true_eq_false, and_self, and_true, true_and, ne_eq, or_true, true_or, or_false, false_or, eq_self, Nat.reduceEqDiff, ↓reduceIte, false_and, and_false, Nat.le_refl, Nat.zero_le, nz_1, nz_2, nz_3, nz_4, nz_5, nz_6, nz_8, nz_10, nz_12, nz_20, nz_30, nz_60, nz_100, mp_B, mp_Z, mp_S, mp_C, mp_K, mp_N, mp_L, mp_R, mp_I, mp_I0, mp_s, mp_s0, u2_ap, sp_isLedge, sp_isLadder, sp_isPerson, sp_isLiving, sp_isLot, sp_isThere, sp_isSpan, ms_K q, ms_B q, ms_f49 q, ms_f51 q, ms_f52 q, ms_f53 q, ms_f54 q, ms_f50 q, ms_f10 q, ms_f8 q, ms_f9 q, r151_19, r151_20, r151_26, r151_27, r151_30, r151_35, r151_37, r151_39, r151_40, r151_41, r151_45, r151_48, r151_49, r151_52, r151_53, r151_56, r151_58, r151_59, r151_60, r151_61, r151_64, r151_65, r151_66, r151_69, r151_72, r151_23, r151_32, r151_42, g0, c0, a3, c1', c1, c2, c2', nat_succ, Bool.false_eq_true]) (fun s t hs => by
    obtain ⟨S, G⟩ := s
    have g0 := hs.2.2.2 0 6 (by omega) (by decide) (by omega)
    have g0 : G 0 6 = F 0 6 := g0
    have c0 := (lp_end hn (by decide)).1
    refine ⟨some (.int (Int32.ofNat (F 0 6).toNatClampNeg)) :: t, ?_⟩
    show xm_run _ _ _ _ _ _ = xm_run _ _ _ _ _ _
    rw [r151_17]
    simp only [ite_not, ite_self, w8_nil, ok01, ite10, rf_rv, rf_ref, rf_cat, rf_lk2, rf_some, rf_none, w_add, w_cons, cr_int, cr_long, cr_ref, cr_null, is_ref, is_null, l2_int, l2_ref, l2_null, l2_none, ent_nil, ent_int, ent_ref, ent_null, ent_rf, ent_long, ok_0, ok_1, af_ret, af_void, List.tail_cons, List.tail_nil, Nat.reduceAdd, Nat.reduceLeDiff, not_false_eq_true, not_true_eq_false, and_self, and_true, true_and, ne_eq, or_true, true_or, or_false, false_or, eq_self, Nat.reduceEqDiff, ↓reduceIte, false_and, and_false, Nat.le_refl, Nat.zero_le, nz_1, nz_2, nz_3, nz_4, nz_5, nz_6, nz_8, nz_10, nz_12, nz_20, nz_30, nz_60, nz_100, mp_B, mp_Z, mp_S, mp_C, mp_K, mp_N, mp_L, mp_R, mp_I, mp_I0, mp_s, mp_s0, u2_ap, sp_isLedge, sp_isLadder, sp_isPerson, sp_isLiving, sp_isLot, sp_isThere, sp_isSpan, ms_K q, ms_B q, ms_f49 q, ms_f51 q, ms_f52 q, ms_f53 q, ms_f54 q, ms_f50 q, ms_f10 q, ms_f8 q, ms_f9 q, r151_19, r151_20, r151_23, g0, c0]) _ 0 ([], xm_u2 G1 0 56 0) [] (Nat.zero_add _) st0
  have es : (xp_it (sp_some1 set) 0 (F 0 6).toNatClampNeg ([], xm_u2 G1 0 56 0)).1 = sp_lows set (F 0 6).toNatClampNeg := by
    have := it_eq_up (f := sp_some1 set) (s := ([], xm_u2 G1 0 56 0)) (F 0 6).toNatClampNeg 0
    rw [Nat.zero_add] at this
    rw [← some1_up (G := xm_u2 G1 0 56 0), ← this]
    rfl
  generalize xp_it (sp_some1 set) 0 (F 0 6).toNatClampNeg ([], xm_u2 G1 0 56 0) = sG at e1 i1 es
  obtain ⟨S, G⟩ := sG
  have es : S = sp_lows set (F 0 6).toNatClampNeg := es
  obtain ⟨j1, j2, j3, j4⟩ := i1
  have j1 : S.length ≤ 7 := j1
  have j3 : SI G S := j3
  have j4 : rw' F G := j4
  have h12 : ∀ l ∈ S, l < 12 := fun l hl => by
    rw [es] at hl
    have := lows_lt _ l hl
    have h2 := hn.2
    have e := rg_tc hn
    omega
  generalize eG : xm_u2 (xm_u2 (xm_u2 (xm_u2 (xm_u2 (xm_u2 (xm_u2 (xm_u2 G 0 57 0) 0 58 0) 0 59 0) 0 60 0) 34 0 0) 35 0 0) 36 0 0) 37 0 0 = G2
  have f : ∀ o j, ¬ (o = 0 ∧ 57 ≤ j ∧ j ≤ 60) → ¬ (34 ≤ o ∧ o ≤ 37) → G2 o j = G o j := fun o j h1 h2 => by
    rw [← eG, u2_ap, if_neg (by omega), u2_ap, if_neg (by omega), u2_ap, if_neg (by omega), u2_ap, if_neg (by omega), u2_ap, if_neg (by omega), u2_ap, if_neg (by omega), u2_ap, if_neg (by omega), u2_ap, if_neg (by omega)]
  have hB : BR G2 (0, 0, 0, []) := by
    rw [← eG]
    refine ⟨?_, ?_, ?_, ?_, fun i hi => absurd hi (Nat.not_lt_zero _)⟩ <;> simp only [u2_ap, Nat.reduceEqDiff, and_false, false_and, and_self, ↓reduceIte]
    rfl
  obtain ⟨G3, t3, used3, a1, a2, a3, a4, a5, a6⟩ := c151l (d := d) q hm (k := k) (c := c) (w := w) (e := set) j1 h12 S.length [] 0 0 0 (Nat.zero_add _) (fun o ho => (by cases ho)) trivial (fr_max _) S.length 0 0 G2 (0, 0, 0, []) t.tail.tail (Nat.zero_add _) (fun j _ => by rw [bit_0]; rfl) (j3.ag (fun o j ho => f o j (by omega) (by omega))) (fun o j h1 h2 h3 => (f o j (by omega) (by omega)).trans (j4 o j h1 h2 h3)) hB (fun i hi => absurd hi (Nat.not_lt_zero _)) (by rw [← eG]; simp only [u2_ap, Nat.reduceEqDiff, and_false, false_and, and_self, ↓reduceIte, List.length_nil]) (by rw [← eG]; simp only [u2_ap, Nat.reduceEqDiff, and_false, false_and, and_self, ↓reduceIte, List.length_nil]) (by rw [← eG]; simp only [u2_ap, Nat.reduceEqDiff, and_false, false_and, and_self, ↓reduceIte, List.length_nil]) (by rw [← eG]; simp only [u2_ap, Nat.reduceEqDiff, and_false, false_and, and_self, ↓reduceIte, List.length_nil]; rfl)
  refine ⟨G3, ?_, a4, ?_⟩
  · have y0 : xm_in 0 8 = true := by decide
    have z0 : (0 : Int32).toNatClampNeg = 0 := rfl
    unfold xm_met
    simp only [ite_not, ite_self, w8_nil, ok01, ite10, rf_rv, rf_ref, rf_cat, rf_lk2, rf_some, rf_none, w_add, w_cons, cr_int, cr_long, cr_ref, cr_null, is_ref, is_null, l2_int, l2_ref, l2_null, l2_none, ent_nil, ent_int, ent_ref, ent_null, ent_rf, ent_long, ok_0, ok_1, af_ret, af_void, List.tail_cons, List.tail_nil, Nat.reduceAdd, Nat.reduceLeDiff, not_false_eq_true, not_true_eq_false, and_self, and_true, true_and, ne_eq, or_true, true_or, or_false, false_or, eq_self, Nat.reduceEqDiff, ↓reduceIte, false_and, and_false, Nat.le_refl, Nat.zero_le, nz_1, nz_2, nz_3, nz_4, nz_5, nz_6, nz_8, nz_10, nz_12, nz_20, nz_30, nz_60, nz_100, mp_B, mp_Z, mp_S, mp_C, mp_K, mp_N, mp_L, mp_R, mp_I, mp_I0, mp_s, mp_s0, u2_ap, sp_isLedge, sp_isLadder, sp_isPerson, sp_isLiving, sp_isLot, sp_isThere, sp_isSpan, ms_K q, ms_B q, ms_f49 q, ms_f51 q, ms_f52 q, ms_f53 q, ms_f54 q, ms_f50 q, ms_f10 q, ms_f8 q, ms_f9 q, r151_0, r151_1, r151_2, r151_3, r151_4, r151_7, r151_9, r151_10, r151_11, r151_14, r151_15, m1]
    rw [show Int32.ofNat 0 = (0 : Int32) from rfl] at e1
    rw [e1]
    simp only [ite_not, ite_self, w8_nil, ok01, ite10, rf_rv, rf_ref, rf_cat, rf_lk2, rf_some, rf_none, w_add, w_cons, cr_int, cr_long, cr_ref, cr_null, is_ref, is_null, l2_int, l2_ref, l2_null, l2_none, ent_nil, ent_int, ent_ref, ent_null, ent_rf, ent_long, ok_0, ok_1, af_ret, af_void, List.tail_cons, List.tail_nil, Nat.reduceAdd, Nat.reduceLeDiff, not_false_eq_true, not_true_eq_false, and_self, and_true, true_and, ne_eq, or_true, true_or, or_false, false_or, eq_self, Nat.reduceEqDiff, ↓reduceIte, false_and, and_false, Nat.le_refl, Nat.zero_le, nz_1, nz_2, nz_3, nz_4, nz_5, nz_6, nz_8, nz_10, nz_12, nz_20, nz_30, nz_60, nz_100, mp_B, mp_Z, mp_S, mp_C, mp_K, mp_N, mp_L, mp_R, mp_I, mp_I0, mp_s, mp_s0, u2_ap, sp_isLedge, sp_isLadder, sp_isPerson, sp_isLiving, sp_isLot, sp_isThere, sp_isSpan, ms_K q, ms_B q, ms_f49 q, ms_f51 q, ms_f52 q, ms_f53 q, ms_f54 q, ms_f50 q, ms_f10 q, ms_f8 q, ms_f9 q, r151_75, r151_76, r151_77, r151_80, r151_81, r151_82, r151_85, r151_86, r151_87, r151_90, r151_91, r151_92, r151_95, r151_96, r151_98, r151_99, r151_101, r151_102, r151_105, r151_106, r151_107, r151_108, r151_109, r151_112, r151_113, r151_114, r151_115, r151_116, r151_119, r151_120, r151_121, r151_122, r151_123, r151_126, r151_127, r151_128, y0, z0, eG]
    unfold rwP at a1
    exact a1
  · unfold sp_rows sp_found
    rw [eset, ← es]
    rw [List.drop_zero] at a2
    exact a2
def sp_row (F : xp_F) (n : Nat) (L : Nat → Ln) (k c w x : Int32) : Int32 := if sp_isLadder F k ∧ (0 ≤ c ∧ c ≤ 15) ∧ sp_isPerson F w then
    (if x = 0 then Int32.ofNat (sp_rows F n L k c w).2.2.2.length else if x = 1 then (sp_rows F n L k c w).1 else if x = 2 then (sp_rows F n L k c w).2.1 else if x = 3 then (sp_rows F n L k c w).2.2.1 else if 10 ≤ x ∧ x ≤ 9 + Int32.ofNat (sp_rows F n L k c w).2.2.2.length then Int32.ofNat (nthr (sp_rows F n L k c w).2.2.2 (x - 10).toNatClampNeg) else -1) else -1
theorem trs_len {c : Nat → Int32} {S : List Nat} : ∀ (r : Nat) (p : List Nat) (m u s : Int32) (B : Bst) (l : Nat), p.length + r ≤ 7 → B.2.2.2.length ≤ 7 → (sp_trs F c S r p m u s B l).2.2.2.length ≤ 7
  | 0, _, _, _, _, _, _, _, hB => hB
  | r + 1, p, m, u, s, B, l, hp, hB => by
    unfold sp_trs
    split
    · exact hB
    · have go : ∀ (T : List Nat) (B : Bst), B.2.2.2.length ≤ 7 → (T.foldl (sp_trs F c S r (l :: p) (sp_mins F p m (c l) l) (u + c l) (sp_stg F p s l)) B).2.2.2.length ≤ 7 := by
        intro T
        induction T with
        | nil => exact fun _ h => h
        | cons a T ih =>
          intro B h
          rw [List.foldl_cons]
          exact ih _ (trs_len r _ _ _ _ _ _ (by rw [List.length_cons]; omega) h)
      refine go S _ ?_
      unfold sp_tk
      split
      · exact hB
      · show (l :: p).length ≤ 7
        rw [List.length_cons]
        omega
theorem rows_len {n : Nat} {L : Nat → Ln} {k c w : Int32} : (sp_rows F n L k c w).2.2.2.length ≤ 7 := by
  have h7 := lows_len (set := sp_reached F n L k c w) (F 0 6).toNatClampNeg
  unfold sp_rows sp_found
  generalize sp_lows (sp_reached F n L k c w) (F 0 6).toNatClampNeg = S at h7 ⊢
  have go : ∀ (T : List Nat) (B : Bst), B.2.2.2.length ≤ 7 → (T.foldl (sp_trs F (sp_cutOf F n L) S S.length [] 0 0 0) B).2.2.2.length ≤ 7 := by
    intro T
    induction T with
    | nil => exact fun _ h => h
    | cons a T ih =>
      intro B h
      rw [List.foldl_cons]
      exact ih _ (trs_len _ _ _ _ _ _ _ (by show 0 + S.length ≤ 7; omega) h)
  exact go S _ (by decide)
theorem c150 (q : MS h M) (hn : rg (F 0 6) 12) (hl : rg (F 0 46) 4) (hp : rg (F 0 61) 16) {n : Nat} {L : Nat → Ln} (hm : MR F 0 n L) {k c w x : Int32} : ∃ G, xm_met (d + 9) 150 [.ref M, .int k, .int c, .int w, .int x] (xp_m h M F) = some (.inl (some (.int (sp_row F n L k c w x))), xp_m h M G) ∧ rw' F G := by
  have e := @c147 (d + 6) h M F q k c w
  unfold xm_met sp_row
  by_cases c1 : sp_isLadder F k ∧ (0 ≤ c ∧ c ≤ 15) ∧ sp_isPerson F w
  case neg =>
    rw [if_neg c1] at e
    refine ⟨F, ?_, rw'.rf⟩
    rw [if_neg c1]
    simp only [ite_not, ite_self, w8_nil, ok01, ite10, rf_rv, rf_ref, rf_cat, rf_lk2, rf_some, rf_none, w_add, w_cons, cr_int, cr_long, cr_ref, cr_null, is_ref, is_null, l2_int, l2_ref, l2_null, l2_none, ent_nil, ent_int, ent_ref, ent_null, ent_rf, ent_long, ok_0, ok_1, af_ret, af_void, List.tail_cons, List.tail_nil, Nat.reduceAdd, Nat.reduceLeDiff, not_false_eq_true, not_true_eq_false, and_self, and_true, true_and, ne_eq, or_true, true_or, or_false, false_or, eq_self, Nat.reduceEqDiff, ↓reduceIte, false_and, and_false, Nat.le_refl, Nat.zero_le, nz_1, nz_2, nz_3, nz_4, nz_5, nz_6, nz_8, nz_10, nz_12, nz_20, nz_30, nz_60, nz_100, mp_B, mp_Z, mp_S, mp_C, mp_K, mp_N, mp_L, mp_R, ms_K q, ms_B q, ms_f55 q, r150_0, r150_1, r150_2, r150_3, r150_4, r150_10, r150_11, r150_7, e]
  rw [if_pos c1] at e
  obtain ⟨G, m1, m2, b1, b2, b3, b4, b5⟩ := @c151 d h M F q hn n L hm k c w (in_cnt hl c1.1) (in_cnt hp c1.2.2)
  have h7 := @rows_len F n L k c w
  refine ⟨G, ?_, m2⟩
  rw [if_pos c1]
  generalize sp_rows F n L k c w = B at *
  have nn : (Int32.ofNat B.2.2.2.length).toInt = B.2.2.2.length := ti_nat (by omega)
  by_cases c2 : 10 ≤ x ∧ x ≤ 9 + Int32.ofNat B.2.2.2.length
  · have a1 := Int32.le_iff_toInt_le.mp c2.1
    have a2 := Int32.le_iff_toInt_le.mp c2.2
    rw [show (10 : Int32).toInt = 10 from rfl] at a1
    rw [ti_add (by rw [nn, show (9 : Int32).toInt = 9 from rfl]; omega), nn, show (9 : Int32).toInt = 9 from rfl] at a2
    have a3 := ti_sub (a := x) (b := 10) (by rw [show (10 : Int32).toInt = 10 from rfl]; omega)
    rw [show (10 : Int32).toInt = 10 from rfl] at a3
    have i1 : xm_in (x - 10) 7 = true := in_iff.mpr (by omega)
    have v := b5 (x - 10).toNatClampNeg (by show (x - 10).toInt.toNat < _; omega)
    have n0 : ¬ x = 0 := fun z => by rw [z] at a1; exact absurd a1 (by decide)
    have n1 : ¬ x = 1 := fun z => by rw [z] at a1; exact absurd a1 (by decide)
    have n2 : ¬ x = 2 := fun z => by rw [z] at a1; exact absurd a1 (by decide)
    have n3 : ¬ x = 3 := fun z => by rw [z] at a1; exact absurd a1 (by decide)
    simp only [ite_not, ite_self, w8_nil, ok01, ite10, rf_rv, rf_ref, rf_cat, rf_lk2, rf_some, rf_none, w_add, w_cons, cr_int, cr_long, cr_ref, cr_null, is_ref, is_null, l2_int, l2_ref, l2_null, l2_none, ent_nil, ent_int, ent_ref, ent_null, ent_rf, ent_long, ok_0, ok_1, af_ret, af_void, List.tail_cons, List.tail_nil, Nat.reduceAdd, Nat.reduceLeDiff, not_false_eq_true, not_true_eq_false, and_self, and_true, true_and, ne_eq, or_true, true_or, or_false, false_or, eq_self, Nat.reduceEqDiff, ↓reduceIte, false_and, and_false, Nat.le_refl, Nat.zero_le, nz_1, nz_2, nz_3, nz_4, nz_5, nz_6, nz_8, nz_10, nz_12, nz_20, nz_30, nz_60, nz_100, mp_B, mp_Z, mp_S, mp_C, mp_K, mp_N, mp_L, mp_R, mp_I, mp_I0, mp_s, mp_s0, u2_ap, sp_isLedge, sp_isLadder, sp_isPerson, sp_isLiving, sp_isLot, sp_isThere, sp_isSpan, ms_K q, ms_B q, ms_f55 q, r150_0, r150_1, r150_2, r150_3, r150_4, r150_10, r150_11, r150_12, r150_13, r150_14, r150_15, r150_16, r150_19, r150_52, r150_53, r150_56, r150_57, r150_58, r150_61, r150_62, r150_63, r150_66, r150_67, r150_68, r150_71, r150_72, r150_74, r150_76, r150_78, r150_79, r150_82, r150_83, r150_89, r150_90, r150_93, r150_95, r150_97, r150_98, r150_99, r150_102, r150_103, r150_7, r150_21, r150_86, e, m1, xm_sw, b1, b2, b3, b4, c91, c2, i1, v, n0, n1, n2, n3]
    repeat' split
    all_goals first | rfl | contradiction
  · simp only [ite_not, ite_self, w8_nil, ok01, ite10, rf_rv, rf_ref, rf_cat, rf_lk2, rf_some, rf_none, w_add, w_cons, cr_int, cr_long, cr_ref, cr_null, is_ref, is_null, l2_int, l2_ref, l2_null, l2_none, ent_nil, ent_int, ent_ref, ent_null, ent_rf, ent_long, ok_0, ok_1, af_ret, af_void, List.tail_cons, List.tail_nil, Nat.reduceAdd, Nat.reduceLeDiff, not_false_eq_true, not_true_eq_false, and_self, and_true, true_and, ne_eq, or_true, true_or, or_false, false_or, eq_self, Nat.reduceEqDiff, ↓reduceIte, false_and, and_false, Nat.le_refl, Nat.zero_le, nz_1, nz_2, nz_3, nz_4, nz_5, nz_6, nz_8, nz_10, nz_12, nz_20, nz_30, nz_60, nz_100, mp_B, mp_Z, mp_S, mp_C, mp_K, mp_N, mp_L, mp_R, mp_I, mp_I0, mp_s, mp_s0, u2_ap, sp_isLedge, sp_isLadder, sp_isPerson, sp_isLiving, sp_isLot, sp_isThere, sp_isSpan, ms_K q, ms_B q, ms_f55 q, r150_0, r150_1, r150_2, r150_3, r150_4, r150_10, r150_11, r150_12, r150_13, r150_14, r150_15, r150_16, r150_19, r150_52, r150_53, r150_56, r150_57, r150_58, r150_61, r150_62, r150_63, r150_66, r150_67, r150_68, r150_71, r150_72, r150_74, r150_76, r150_78, r150_79, r150_82, r150_83, r150_89, r150_90, r150_93, r150_95, r150_97, r150_98, r150_99, r150_102, r150_103, r150_7, r150_21, r150_86, e, m1, xm_sw, b1, b2, b3, b4, c91, c2]
    repeat' split
    all_goals first | rfl | contradiction
end M36
