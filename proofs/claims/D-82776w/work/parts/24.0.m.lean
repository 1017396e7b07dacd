/-! the model's contracts, 26: sales -/
set_option maxRecDepth 100000
theorem xp_loopx {α β γ V : Type} {P : Nat → α → β → V} {Q : α → γ → V} {f : Nat → α → α} {n : Nat} (I : Nat → α → Prop) (hs : ∀ k s t, k < n → I k s → (∃ t', P k s t = P (k + 1) (f k s) t' ∧ I (k + 1) (f k s)) ∨ ((∃ t', P k s t = Q s t') ∧ ∀ j, f j s = s)) (he : ∀ s t, I n s → ∃ t', P n s t = Q s t') : ∀ c k s t, k + c = n → I k s → ∃ t', P k s t = Q (xp_it f k c s) t' ∧ ∃ k', I k' (xp_it f k c s) := by
  intro c
  induction c with
  | zero =>
    intro k s t e hi
    have : k = n := by omega
    subst this
    obtain ⟨t', e1⟩ := he s t hi
    exact ⟨t', e1, k, hi⟩
  | succ c ih =>
    intro k s t e hi
    rcases hs k s t (by omega) hi with ⟨t1, h1, i1⟩ | ⟨⟨t1, h1⟩, hf⟩
    · obtain ⟨t2, h2, i2⟩ := ih (k + 1) (f k s) t1 (by omega) i1
      exact ⟨t2, h1.trans h2, i2⟩
    · have all : ∀ c k, xp_it f k c s = s := by
        intro c
        induction c with
        | zero => intro _; rfl
        | succ c ic =>
          intro k
          show xp_it f (k + 1) c (f k s) = s
          rw [hf k]
          exact ic _
      rw [all]
      exact ⟨t1, h1, k, hi⟩
section M26
variable {d : Nat} {h : xm_H} {M : Nat} {F : xp_F}
def sp_list1 (i : Nat) (G : xp_F) : xp_F := if G 0 92 < 8 ∧ ¬ G 54 i = 0 then xm_u2 (xm_u2 G 60 (G 0 92).toNatClampNeg (Int32.ofNat i)) 0 92 (G 0 92 + 1) else G
def sp_listed (F : xp_F) : xp_F := xp_it sp_list1 0 (F 0 68).toNatClampNeg (xm_u2 F 0 92 0)
def ls (F G : xp_F) (k : Nat) : Prop := ∃ m, G 0 92 = Int32.ofNat m ∧ m ≤ 8 ∧ m ≤ k ∧ (∀ j, j < m → xm_in (G 60 j) 40 = true ∧ G 60 j < F 0 68) ∧ ∀ o k, ¬ o = 60 → ¬ (o = 0 ∧ k = 92) → G o k = F o k
theorem ls.step {G : xp_F} {i : Nat} (hl : rg (F 0 68) 40) (hi : i < (F 0 68).toNatClampNeg) (a : ls F G i) : ls F (sp_list1 i G) (i + 1) := by
  obtain ⟨m, a1, a2, a3, a4, a5⟩ := a
  unfold sp_list1
  by_cases c : G 0 92 < 8 ∧ ¬ G 54 i = 0
  · rw [if_pos c]
    have c1 := Int32.lt_iff_toInt_lt.mp c.1
    rw [a1, ti_nat (by omega), show (8 : Int32).toInt = 8 from rfl] at c1
    obtain ⟨i1, e1, -, x1, -⟩ := lp_k hl (by decide) hi
    refine ⟨m + 1, ?_, by omega, by omega, fun j hj => ?_, fun o k h1 h2 => ?_⟩
    · simp only [u2_ap, and_self, ↓reduceIte, a1, nat_succ]
    · by_cases e : j = m
      · have x : xm_u2 (xm_u2 G 60 (G 0 92).toNatClampNeg (Int32.ofNat i)) 0 92 (G 0 92 + 1) 60 j = Int32.ofNat i := by
          simp only [u2_ap, Nat.reduceEqDiff, false_and, ↓reduceIte, a1, tc_nat (show m < 2147483648 by omega), e, and_self]
        rw [x]
        exact ⟨i1, x1⟩
      · have x : xm_u2 (xm_u2 G 60 (G 0 92).toNatClampNeg (Int32.ofNat i)) 0 92 (G 0 92 + 1) 60 j = G 60 j := by
          simp only [u2_ap, Nat.reduceEqDiff, false_and, ↓reduceIte, a1, tc_nat (show m < 2147483648 by omega), e, and_false]
        rw [x]
        exact a4 j (by omega)
    · rw [u2_ap, if_neg h2, u2_ap, if_neg (fun z => h1 z.1)]
      exact a5 o k h1 h2
  · rw [if_neg c]
    exact ⟨m, a1, a2, by omega, a4, a5⟩
theorem ls.init : ls F (xm_u2 F 0 92 0) 0 := by
  refine ⟨0, ?_, by decide, Nat.le_refl _, fun j hj => absurd hj (Nat.not_lt_zero _), fun o k _ h2 => ?_⟩
  · simp only [u2_ap, and_self, ↓reduceIte]
    rfl
  · rw [u2_ap, if_neg h2]
theorem listed_ls (hl : rg (F 0 68) 40) : ∃ k, ls F (sp_listed F) k := by
  have go : ∀ c k G, k + c = (F 0 68).toNatClampNeg → ls F G k → ls F (xp_it sp_list1 k c G) (k + c) := by
    intro c
    induction c with
    | zero => exact fun k G _ h => h
    | succ c ih =>
      intro k G e h
      have := ih (k + 1) (sp_list1 k G) (by omega) (h.step hl (by omega))
      rw [show k + (c + 1) = k + 1 + c by omega]
      exact this
  exact ⟨_, go _ 0 _ (Nat.zero_add _) ls.init⟩
def sp_sales0 (F : xp_F) : xp_F := xp_it (fun b G => xm_u2 G 63 b 0) 0 4 (xm_u2 (sp_listed F) 0 93 (-1))
def sp_salesN (F : xp_F) : Nat := (sp_listed F 0 92).toNatClampNeg
def sp_sales (F : xp_F) : xp_F := sp_offers (sp_salesN F) (sp_salesN F) 0 0 0 (sp_sales0 F)
/-- what sales leaves alone -/
def sq2 (F G : xp_F) : Prop := ∀ o k, ¬ o = 60 → ¬ o = 61 → ¬ o = 62 → ¬ o = 63 → ¬ (o = 0 ∧ (k = 92 ∨ k = 93 ∨ k = 94)) → G o k = F o k
theorem sales0_of : sp_sales0 F 0 92 = sp_listed F 0 92 ∧ (∀ j, sp_sales0 F 60 j = sp_listed F 60 j) ∧ ∀ o k, ¬ o = 63 → ¬ (o = 0 ∧ k = 93) → sp_sales0 F o k = sp_listed F o k := by
  have x : ∀ o k, ¬ o = 63 → ¬ (o = 0 ∧ k = 93) → sp_sales0 F o k = sp_listed F o k := by
    intro o k h1 h2
    unfold sp_sales0
    refine it_inv (fun (G : xp_F) => G o k = sp_listed F o k) (fun b G hG => ?_) _ _ _ ?_
    · show xm_u2 G 63 b 0 o k = _
      rw [u2_ap, if_neg (fun z => h1 z.1)]
      exact hG
    · show xm_u2 (sp_listed F) 0 93 (-1) o k = _
      rw [u2_ap, if_neg h2]
  exact ⟨x _ _ (by decide) (by decide), fun j => x _ _ (by decide) (fun z => absurd z.1 (by decide)), x⟩
theorem sales_sq (hl : rg (F 0 68) 40) : sq2 F (sp_sales F) := by
  intro o k h1 h2 h3 h4 h5
  obtain ⟨k', m, a1, a2, a3, a4, a5⟩ := @listed_ls F hl
  unfold sp_sales
  rw [offers_sq _ _ _ _ _ o k h2 h3 h4 (fun z => h5 ⟨z.1, Or.inr z.2⟩), sales0_of.2.2 o k h4 (fun z => h5 ⟨z.1, Or.inr (Or.inl z.2)⟩)]
  exact a5 o k h1 (fun z => h5 ⟨z.1, Or.inl z.2⟩)
theorem sales_n (hl : rg (F 0 68) 40) : sp_salesN F ≤ 8 ∧ sp_sales F 0 92 = Int32.ofNat (sp_salesN F) ∧ ∀ j, j < sp_salesN F → xm_in (sp_sales F 60 j) 40 = true ∧ sp_sales F 60 j < F 0 68 := by
  obtain ⟨k', m, a1, a2, a3, a4, a5⟩ := @listed_ls F hl
  have e : sp_salesN F = m := by
    unfold sp_salesN
    rw [a1, tc_nat (by omega)]
  rw [e]
  unfold sp_sales
  refine ⟨a2, ?_, fun j hj => ?_⟩
  · rw [offers_sq _ _ _ _ _ 0 92 (by decide) (by decide) (by decide) (by decide), sales0_of.1, a1]
  · rw [offers_sq _ _ _ _ _ 60 j (by decide) (by decide) (by decide) (fun z => absurd z.1 (by decide)), sales0_of.2.1]
    exact a4 j hj
theorem c169 (q : MS h M) (hl : rg (F 0 68) 40) (hb : rg (F 0 83) 4) : xm_met (d + 9) 169 [.ref M] (xp_m h M F) = some (.inl none, xp_m h M (sp_sales F)) := by
  obtain ⟨t, e, k', m, a1, a2, a3, a4, a5⟩ := xp_loopx (P := fun k G t => xm_run (d + 9) 169 7 (some (.ref M) :: some (.int (Int32.ofNat k)) :: t) [] (xp_m h M G)) (Q := fun G t => xm_run (d + 9) 169 62 (some (.ref M) :: t) [] (xp_m h M G)) (n := (F 0 68).toNatClampNeg) (fun k G => ls F G k) (f := sp_list1) (fun k G t hk hG => by
    obtain ⟨i1, e1, c0, -, -⟩ := lp_k hl (by decide) hk
    have hs := hG.step hl hk
    obtain ⟨m, a1, a2, a3, a4, a5⟩ := hG
    have g0 := a5 0 68 (by decide) (by decide)
    by_cases c1 : G 0 92 < 8
    case neg =>
      refine Or.inr ⟨⟨some (.int (Int32.ofNat k)) :: t, ?_⟩, fun j => if_neg (fun z => c1 z.1)⟩
      show xm_run _ _ _ _ _ _ = _
      have c1' : 8 ≤ G 0 92 := Int32.not_lt.mp c1
      rw [r169_7]
      simp only [ite_not, ite_self, w8_nil, ok01, ite10, rf_rv, rf_ref, rf_cat, rf_lk2, rf_some, rf_none, w_add, w_cons, cr_int, cr_long, cr_ref, cr_null, is_ref, is_null, l2_int, l2_ref, l2_null, l2_none, ent_nil, ent_int, ent_ref, ent_null, ent_rf, ent_long, ok_0, ok_1, af_ret, af_void, List.tail_cons, List.tail_nil, Nat.reduceAdd, Nat.reduceLeDiff, not_false_eq_true, not_true_eq_false, and_self, and_true, true_and, ne_eq, or_true, true_or, or_false, false_or, eq_self, Nat.reduceEqDiff, ↓reduceIte, false_and, and_false, Nat.le_refl, Nat.zero_le, nz_1, nz_2, nz_3, nz_4, nz_5, nz_6, nz_8, nz_10, nz_12, nz_20, nz_30, nz_60, nz_100, mp_B, mp_Z, mp_S, mp_C, mp_K, mp_N, mp_L, mp_R, mp_I, mp_I0, mp_s, mp_s0, u2_ap, sp_isLedge, sp_isLadder, sp_isPerson, sp_isLiving, sp_isLot, sp_isThere, sp_isSpan, ms_K q, ms_B q, ms_f81 q, ms_f88 q, ms_f91 q, r169_8, r169_9, r169_15, r169_16, r169_19, r169_12, r169_21, g0, c0, c1']
    refine Or.inl ⟨t, ?_, hs⟩
    show xm_run _ _ _ _ _ _ = _
    unfold sp_list1
    have c1' : ¬ 8 ≤ G 0 92 := Int32.not_le.mpr c1
    rw [r169_7]
    by_cases c2 : G 54 k = 0
    · simp only [ite_not, ite_self, w8_nil, ok01, ite10, rf_rv, rf_ref, rf_cat, rf_lk2, rf_some, rf_none, w_add, w_cons, cr_int, cr_long, cr_ref, cr_null, is_ref, is_null, l2_int, l2_ref, l2_null, l2_none, ent_nil, ent_int, ent_ref, ent_null, ent_rf, ent_long, ok_0, ok_1, af_ret, af_void, List.tail_cons, List.tail_nil, Nat.reduceAdd, Nat.reduceLeDiff, not_false_eq_true, not_true_eq_false, and_self, and_true, true_and, ne_eq, or_true, true_or, or_false, false_or, eq_self, Nat.reduceEqDiff, ↓reduceIte, false_and, and_false, Nat.le_refl, Nat.zero_le, nz_1, nz_2, nz_3, nz_4, nz_5, nz_6, nz_8, nz_10, nz_12, nz_20, nz_30, nz_60, nz_100, mp_B, mp_Z, mp_S, mp_C, mp_K, mp_N, mp_L, mp_R, mp_I, mp_I0, mp_s, mp_s0, u2_ap, sp_isLedge, sp_isLadder, sp_isPerson, sp_isLiving, sp_isLot, sp_isThere, sp_isSpan, ms_K q, ms_B q, ms_f81 q, ms_f88 q, ms_f91 q, r169_8, r169_9, r169_15, r169_16, r169_19, r169_24, r169_25, r169_28, r169_29, r169_33, r169_36, r169_37, r169_40, r169_41, r169_44, r169_45, r169_46, r169_47, r169_48, r169_51, r169_52, r169_53, r169_56, r169_59, r169_12, r169_21, r169_30, g0, c0, c1, c1', c2, i1, e1, nat_succ]
    · have c1'' := Int32.lt_iff_toInt_lt.mp c1
      rw [a1, ti_nat (by omega), show (8 : Int32).toInt = 8 from rfl] at c1''
      obtain ⟨i2, e2⟩ := in_nat (show m < 8 by omega) (by decide)
      rw [← a1] at i2 e2
      simp only [ite_not, ite_self, w8_nil, ok01, ite10, rf_rv, rf_ref, rf_cat, rf_lk2, rf_some, rf_none, w_add, w_cons, cr_int, cr_long, cr_ref, cr_null, is_ref, is_null, l2_int, l2_ref, l2_null, l2_none, ent_nil, ent_int, ent_ref, ent_null, ent_rf, ent_long, ok_0, ok_1, af_ret, af_void, List.tail_cons, List.tail_nil, Nat.reduceAdd, Nat.reduceLeDiff, not_false_eq_true, not_true_eq_false, and_self, and_true, true_and, ne_eq, or_true, true_or, or_false, false_or, eq_self, Nat.reduceEqDiff, ↓reduceIte, false_and, and_false, Nat.le_refl, Nat.zero_le, nz_1, nz_2, nz_3, nz_4, nz_5, nz_6, nz_8, nz_10, nz_12, nz_20, nz_30, nz_60, nz_100, mp_B, mp_Z, mp_S, mp_C, mp_K, mp_N, mp_L, mp_R, mp_I, mp_I0, mp_s, mp_s0, u2_ap, sp_isLedge, sp_isLadder, sp_isPerson, sp_isLiving, sp_isLot, sp_isThere, sp_isSpan, ms_K q, ms_B q, ms_f81 q, ms_f88 q, ms_f91 q, r169_8, r169_9, r169_15, r169_16, r169_19, r169_24, r169_25, r169_28, r169_29, r169_33, r169_36, r169_37, r169_40, r169_41, r169_44, r169_45, r169_46, r169_47, r169_48, r169_51, r169_52, r169_53, r169_56, r169_59, r169_12, r169_21, r169_30, g0, c0, c1, c1', c2, i1, e1, i2, e2, nat_succ]) (fun G t hG => by
    obtain ⟨m, a1, a2, a3, a4, a5⟩ := hG
    have g0 := a5 0 68 (by decide) (by decide)
    have c0 := (lp_end hl (by decide)).1
    refine ⟨some (.int (Int32.ofNat (F 0 68).toNatClampNeg)) :: t, ?_⟩
    show xm_run _ _ _ _ _ _ = _
    rw [r169_7]
    simp only [ite_not, ite_self, w8_nil, ok01, ite10, rf_rv, rf_ref, rf_cat, rf_lk2, rf_some, rf_none, w_add, w_cons, cr_int, cr_long, cr_ref, cr_null, is_ref, is_null, l2_int, l2_ref, l2_null, l2_none, ent_nil, ent_int, ent_ref, ent_null, ent_rf, ent_long, ok_0, ok_1, af_ret, af_void, List.tail_cons, List.tail_nil, Nat.reduceAdd, Nat.reduceLeDiff, not_false_eq_true, not_true_eq_false, and_self, and_true, true_and, ne_eq, or_true, true_or, or_false, false_or, eq_self, Nat.reduceEqDiff, ↓reduceIte, false_and, and_false, Nat.le_refl, Nat.zero_le, nz_1, nz_2, nz_3, nz_4, nz_5, nz_6, nz_8, nz_10, nz_12, nz_20, nz_30, nz_60, nz_100, mp_B, mp_Z, mp_S, mp_C, mp_K, mp_N, mp_L, mp_R, mp_I, mp_I0, mp_s, mp_s0, u2_ap, sp_isLedge, sp_isLadder, sp_isPerson, sp_isLiving, sp_isLot, sp_isThere, sp_isSpan, ms_K q, ms_B q, ms_f81 q, ms_f88 q, ms_f91 q, r169_8, r169_9, r169_12, g0, c0]) _ 0 (xm_u2 F 0 92 0) [] (Nat.zero_add _) ls.init
  rw [show Int32.ofNat 0 = (0 : Int32) from rfl, show xp_it sp_list1 0 (F 0 68).toNatClampNeg (xm_u2 F 0 92 0) = sp_listed F from rfl] at e
  rw [show xp_it sp_list1 0 (F 0 68).toNatClampNeg (xm_u2 F 0 92 0) = sp_listed F from rfl] at a1 a4 a5
  obtain ⟨t2, e2, -⟩ := xp_loop (P := fun k G t => xm_run (d + 9) 169 69 (some (.ref M) :: some (.int (Int32.ofNat k)) :: t) [] (xp_m h M G)) (n := 4) (fun _ _ => True) (f := fun b G => xm_u2 G 63 b 0) (fun k G t hk _ => by
    obtain ⟨i1, e1⟩ := in_nat hk (by decide)
    have c0 : ¬ (4 : Int32) ≤ Int32.ofNat k := (lp_k (x := 4) (N := 4) ⟨by decide, by decide⟩ (by decide) hk).2.2.1
    refine ⟨t, ?_, trivial⟩
    show xm_run _ _ _ _ _ _ = _
    rw [r169_69]
    simp only [ite_not, ite_self, w8_nil, ok01, ite10, rf_rv, rf_ref, rf_cat, rf_lk2, rf_some, rf_none, w_add, w_cons, cr_int, cr_long, cr_ref, cr_null, is_ref, is_null, l2_int, l2_ref, l2_null, l2_none, ent_nil, ent_int, ent_ref, ent_null, ent_rf, ent_long, ok_0, ok_1, af_ret, af_void, List.tail_cons, List.tail_nil, Nat.reduceAdd, Nat.reduceLeDiff, not_false_eq_true, not_true_eq_false, and_self, and_true, true_and, ne_eq, or_true, true_or, or_false, false_or, eq_self, Nat.reduceEqDiff, ↓reduceIte, false_and, and_false, Nat.le_refl, Nat.zero_le, nz_1, nz_2, nz_3, nz_4, nz_5, nz_6, nz_8, nz_10, nz_12, nz_20, nz_30, nz_60, nz_100, mp_B, mp_Z, mp_S, mp_C, mp_K, mp_N, mp_L, mp_R, mp_I, mp_I0, mp_s, mp_s0, u2_ap, sp_isLedge, sp_isLadder, sp_isPerson, sp_isLiving, sp_isLot, sp_isThere, sp_isSpan, ms_K q, ms_B q, ms_f81 q, ms_f88 q, ms_f91 q, r169_70, r169_74, r169_75, r169_78, r169_79, r169_80, r169_81, r169_84, r169_71, c0, i1, e1, nat_succ]) 4 0 (xm_u2 (sp_listed F) 0 93 (-1)) t.tail (Nat.zero_add _) trivial
  rw [show Int32.ofNat 0 = (0 : Int32) from rfl, show xp_it (fun b G => xm_u2 G 63 b 0) 0 4 (xm_u2 (sp_listed F) 0 93 (-1)) = sp_sales0 F from rfl] at e2
  have en : sp_salesN F = m := by
    unfold sp_salesN
    rw [a1, tc_nat (by omega)]
  have e3 := @c170 (d + (8 - m)) h M q m a2 m 0 0 0 (sp_sales0 F) (Nat.zero_add _) (by rw [sales0_of.1]; exact a1) (by rw [sales0_of.2.2 _ _ (by decide) (by decide), a5 _ _ (by decide) (by decide)]; exact hb) (fun j hj => by rw [sales0_of.2.1]; exact (a4 j hj).1)
  rw [show d + (8 - m) + m = d + 8 by omega, show Int32.ofNat 0 = (0 : Int32) from rfl] at e3
  have c0 : (4 : Int32) ≤ Int32.ofNat 4 := by decide
  unfold xm_met
  simp only [ite_not, ite_self, w8_nil, ok01, ite10, rf_rv, rf_ref, rf_cat, rf_lk2, rf_some, rf_none, w_add, w_cons, cr_int, cr_long, cr_ref, cr_null, is_ref, is_null, l2_int, l2_ref, l2_null, l2_none, ent_nil, ent_int, ent_ref, ent_null, ent_rf, ent_long, ok_0, ok_1, af_ret, af_void, List.tail_cons, List.tail_nil, Nat.reduceAdd, Nat.reduceLeDiff, not_false_eq_true, not_true_eq_false, and_self, and_true, true_and, ne_eq, or_true, true_or, or_false, false_or, eq_self, Nat.reduceEqDiff, ↓reduceIte, false_and, and_false, Nat.le_refl, Nat.zero_le, nz_1, nz_2, nz_3, nz_4, nz_5, nz_6, nz_8, nz_10, nz_12, nz_20, nz_30, nz_60, nz_100, mp_B, mp_Z, mp_S, mp_C, mp_K, mp_N, mp_L, mp_R, mp_I, mp_I0, mp_s, mp_s0, u2_ap, sp_isLedge, sp_isLadder, sp_isPerson, sp_isLiving, sp_isLot, sp_isThere, sp_isSpan, ms_K q, ms_B q, ms_f81 q, ms_f88 q, ms_f91 q, r169_0, r169_1, r169_2, r169_5, r169_6]
  rw [e]
  simp only [ite_not, ite_self, w8_nil, ok01, ite10, rf_rv, rf_ref, rf_cat, rf_lk2, rf_some, rf_none, w_add, w_cons, cr_int, cr_long, cr_ref, cr_null, is_ref, is_null, l2_int, l2_ref, l2_null, l2_none, ent_nil, ent_int, ent_ref, ent_null, ent_rf, ent_long, ok_0, ok_1, af_ret, af_void, List.tail_cons, List.tail_nil, Nat.reduceAdd, Nat.reduceLeDiff, not_false_eq_true, not_true_eq_false, and_self, and_true, true_and, ne_eq, or_true, true_or, or_false, false_or, eq_self, Nat.reduceEqDiff, ↓reduceIte, false_and, and_false, Nat.le_refl, Nat.zero_le, nz_1, nz_2, nz_3, nz_4, nz_5, nz_6, nz_8, nz_10, nz_12, nz_20, nz_30, nz_60, nz_100, mp_B, mp_Z, mp_S, mp_C, mp_K, mp_N, mp_L, mp_R, mp_I, mp_I0, mp_s, mp_s0, u2_ap, sp_isLedge, sp_isLadder, sp_isPerson, sp_isLiving, sp_isLot, sp_isThere, sp_isSpan, ms_K q, ms_B q, ms_f81 q, ms_f88 q, ms_f91 q, r169_62, r169_63, r169_64, r169_67, r169_68]
  rw [e2, r169_69]
  simp only [ite_not, ite_self, w8_nil, ok01, ite10, rf_rv, rf_ref, rf_cat, rf_lk2, rf_some, rf_none, w_add, w_cons, cr_int, cr_long, cr_ref, cr_null, is_ref, is_null, l2_int, l2_ref, l2_null, l2_none, ent_nil, ent_int, ent_ref, ent_null, ent_rf, ent_long, ok_0, ok_1, af_ret, af_void, List.tail_cons, List.tail_nil, Nat.reduceAdd, Nat.reduceLeDiff, not_false_eq_true, not_true_eq_false, and_self, and_true, true_and, ne_eq, or_true, true_or, or_false, false_or, eq_self, Nat.reduceEqDiff, ↓reduceIte, false_and, and_false, Nat.le_refl, Nat.zero_le, nz_1, nz_2, nz_3, nz_4, nz_5, nz_6, nz_8, nz_10, nz_12, nz_20, nz_30, nz_60, nz_100, mp_B, mp_Z, mp_S, mp_C, mp_K, mp_N, mp_L, mp_R, mp_I, mp_I0, mp_s, mp_s0, u2_ap, sp_isLedge, sp_isLadder, sp_isPerson, sp_isLiving, sp_isLot, sp_isThere, sp_isSpan, ms_K q, ms_B q, ms_f81 q, ms_f88 q, ms_f91 q, r169_70, r169_71, r169_87, r169_88, r169_89, r169_90, r169_91, r169_94, c0, e3]
  unfold sp_sales
  rw [en]
def sp_to (G : xp_F) (w : Int32) : Nat → Nat → Int32
  | _, 0 => -1
  | k, c + 1 => if G 60 k = w - 10 then G 62 k else sp_to G w (k + 1) c
def sp_sale (F : xp_F) (w : Int32) : Int32 := if w < 2 then (if w = 0 then sp_sales F 0 93 else if w = 1 then sp_sales F 0 94 else -1) else sp_to (sp_sales F) w 0 (sp_salesN F)
theorem c168f (q : MS h M) {w : Int32} {n : Nat} (hn : n ≤ 8) (ho : F 0 92 = Int32.ofNat n) : ∀ c k, k + c = n → xm_run d 168 36 [some (.ref M), some (.int w), some (.int (Int32.ofNat k))] [] (xp_m h M F) = some (.inl (some (.int (sp_to F w k c))), xp_m h M F) := by
  intro c
  induction c with
  | zero =>
    intro k e
    have : k = n := by omega
    subst this
    have c0 : Int32.ofNat k ≤ Int32.ofNat k := Int32.le_refl _
    unfold sp_to
    rw [r168_36]
    simp only [ite_not, ite_self, w8_nil, ok01, ite10, rf_rv, rf_ref, rf_cat, rf_lk2, rf_some, rf_none, w_add, w_cons, cr_int, cr_long, cr_ref, cr_null, is_ref, is_null, l2_int, l2_ref, l2_null, l2_none, ent_nil, ent_int, ent_ref, ent_null, ent_rf, ent_long, ok_0, ok_1, af_ret, af_void, List.tail_cons, List.tail_nil, Nat.reduceAdd, Nat.reduceLeDiff, not_false_eq_true, not_true_eq_false, and_self, and_true, true_and, ne_eq, or_true, true_or, or_false, false_or, eq_self, Nat.reduceEqDiff, ↓reduceIte, false_and, and_false, Nat.le_refl, Nat.zero_le, nz_1, nz_2, nz_3, nz_4, nz_5, nz_6, nz_8, nz_10, nz_12, nz_20, nz_30, nz_60, nz_100, mp_B, mp_Z, mp_S, mp_C, mp_K, mp_N, mp_L, mp_R, mp_I, mp_I0, mp_s, mp_s0, u2_ap, sp_isLedge, sp_isLadder, sp_isPerson, sp_isLiving, sp_isLot, sp_isThere, sp_isSpan, ms_K q, ms_B q, ms_f88 q, ms_f90 q, r168_37, r168_38, r168_44, r168_45, r168_48, r168_49, r168_50, r168_51, r168_53, r168_57, r168_58, r168_61, r168_62, r168_63, r168_64, r168_67, r168_70, r168_71, r168_41, r168_54, ho, c0]
  | succ c ih =>
    intro k e
    have c0 := lt_nat (show k < n by omega) (by omega)
    obtain ⟨i1, e1⟩ := in_nat (show k < 8 by omega) (by decide)
    have := ih (k + 1) (by omega)
    unfold sp_to
    rw [r168_36]
    by_cases c1 : F 60 k = w - 10
    · simp only [ite_not, ite_self, w8_nil, ok01, ite10, rf_rv, rf_ref, rf_cat, rf_lk2, rf_some, rf_none, w_add, w_cons, cr_int, cr_long, cr_ref, cr_null, is_ref, is_null, l2_int, l2_ref, l2_null, l2_none, ent_nil, ent_int, ent_ref, ent_null, ent_rf, ent_long, ok_0, ok_1, af_ret, af_void, List.tail_cons, List.tail_nil, Nat.reduceAdd, Nat.reduceLeDiff, not_false_eq_true, not_true_eq_false, and_self, and_true, true_and, ne_eq, or_true, true_or, or_false, false_or, eq_self, Nat.reduceEqDiff, ↓reduceIte, false_and, and_false, Nat.le_refl, Nat.zero_le, nz_1, nz_2, nz_3, nz_4, nz_5, nz_6, nz_8, nz_10, nz_12, nz_20, nz_30, nz_60, nz_100, mp_B, mp_Z, mp_S, mp_C, mp_K, mp_N, mp_L, mp_R, mp_I, mp_I0, mp_s, mp_s0, u2_ap, sp_isLedge, sp_isLadder, sp_isPerson, sp_isLiving, sp_isLot, sp_isThere, sp_isSpan, ms_K q, ms_B q, ms_f88 q, ms_f90 q, r168_37, r168_38, r168_44, r168_45, r168_48, r168_49, r168_50, r168_51, r168_53, r168_57, r168_58, r168_61, r168_62, r168_63, r168_64, r168_67, r168_70, r168_71, r168_41, r168_54, ho, c0, i1, e1, c1]
    · simp only [ite_not, ite_self, w8_nil, ok01, ite10, rf_rv, rf_ref, rf_cat, rf_lk2, rf_some, rf_none, w_add, w_cons, cr_int, cr_long, cr_ref, cr_null, is_ref, is_null, l2_int, l2_ref, l2_null, l2_none, ent_nil, ent_int, ent_ref, ent_null, ent_rf, ent_long, ok_0, ok_1, af_ret, af_void, List.tail_cons, List.tail_nil, Nat.reduceAdd, Nat.reduceLeDiff, not_false_eq_true, not_true_eq_false, and_self, and_true, true_and, ne_eq, or_true, true_or, or_false, false_or, eq_self, Nat.reduceEqDiff, ↓reduceIte, false_and, and_false, Nat.le_refl, Nat.zero_le, nz_1, nz_2, nz_3, nz_4, nz_5, nz_6, nz_8, nz_10, nz_12, nz_20, nz_30, nz_60, nz_100, mp_B, mp_Z, mp_S, mp_C, mp_K, mp_N, mp_L, mp_R, mp_I, mp_I0, mp_s, mp_s0, u2_ap, sp_isLedge, sp_isLadder, sp_isPerson, sp_isLiving, sp_isLot, sp_isThere, sp_isSpan, ms_K q, ms_B q, ms_f88 q, ms_f90 q, r168_37, r168_38, r168_44, r168_45, r168_48, r168_49, r168_50, r168_51, r168_53, r168_57, r168_58, r168_61, r168_62, r168_63, r168_64, r168_67, r168_70, r168_71, r168_41, r168_54, ho, c0, i1, e1, c1, nat_succ]
      exact this
theorem c168 (q : MS h M) (hl : rg (F 0 68) 40) (hb : rg (F 0 83) 4) {w : Int32} : xm_met (d + 10) 168 [.ref M, .int w] (xp_m h M F) = some (.inl (some (.int (sp_sale F w))), xp_m h M (sp_sales F)) := by
  have e := @c169 d h M F q hl hb
  obtain ⟨n1, n2, n3⟩ := @sales_n F hl
  have f := @c168f (d + 10) h M (sp_sales F) q w _ n1 n2 (sp_salesN F) 0 (Nat.zero_add _)
  rw [show Int32.ofNat 0 = (0 : Int32) from rfl] at f
  unfold xm_met sp_sale
  by_cases c1 : w < 2
  · have c1' : ¬ 2 ≤ w := Int32.not_le.mpr c1
    by_cases c2 : w = 0
    · simp only [ite_not, ite_self, w8_nil, ok01, ite10, rf_rv, rf_ref, rf_cat, rf_lk2, rf_some, rf_none, w_add, w_cons, cr_int, cr_long, cr_ref, cr_null, is_ref, is_null, l2_int, l2_ref, l2_null, l2_none, ent_nil, ent_int, ent_ref, ent_null, ent_rf, ent_long, ok_0, ok_1, af_ret, af_void, List.tail_cons, List.tail_nil, Nat.reduceAdd, Nat.reduceLeDiff, not_false_eq_true, not_true_eq_false, and_self, and_true, true_and, ne_eq, or_true, true_or, or_false, false_or, eq_self, Nat.reduceEqDiff, ↓reduceIte, false_and, and_false, Nat.le_refl, Nat.zero_le, nz_1, nz_2, nz_3, nz_4, nz_5, nz_6, nz_8, nz_10, nz_12, nz_20, nz_30, nz_60, nz_100, mp_B, mp_Z, mp_S, mp_C, mp_K, mp_N, mp_L, mp_R, mp_I, mp_I0, mp_s, mp_s0, u2_ap, sp_isLedge, sp_isLadder, sp_isPerson, sp_isLiving, sp_isLot, sp_isThere, sp_isSpan, ms_K q, ms_B q, ms_f88 q, ms_f90 q, r168_0, r168_1, r168_4, r168_5, r168_9, r168_13, r168_14, r168_17, r168_20, r168_21, r168_25, r168_26, r168_29, r168_32, r168_33, r168_34, r168_35, r168_6, r168_10, r168_22, e, c1', c1, c2]
      rfl
    by_cases c3 : w = 1
    · simp only [ite_not, ite_self, w8_nil, ok01, ite10, rf_rv, rf_ref, rf_cat, rf_lk2, rf_some, rf_none, w_add, w_cons, cr_int, cr_long, cr_ref, cr_null, is_ref, is_null, l2_int, l2_ref, l2_null, l2_none, ent_nil, ent_int, ent_ref, ent_null, ent_rf, ent_long, ok_0, ok_1, af_ret, af_void, List.tail_cons, List.tail_nil, Nat.reduceAdd, Nat.reduceLeDiff, not_false_eq_true, not_true_eq_false, and_self, and_true, true_and, ne_eq, or_true, true_or, or_false, false_or, eq_self, Nat.reduceEqDiff, ↓reduceIte, false_and, and_false, Nat.le_refl, Nat.zero_le, nz_1, nz_2, nz_3, nz_4, nz_5, nz_6, nz_8, nz_10, nz_12, nz_20, nz_30, nz_60, nz_100, mp_B, mp_Z, mp_S, mp_C, mp_K, mp_N, mp_L, mp_R, mp_I, mp_I0, mp_s, mp_s0, u2_ap, sp_isLedge, sp_isLadder, sp_isPerson, sp_isLiving, sp_isLot, sp_isThere, sp_isSpan, ms_K q, ms_B q, ms_f88 q, ms_f90 q, r168_0, r168_1, r168_4, r168_5, r168_9, r168_13, r168_14, r168_17, r168_20, r168_21, r168_25, r168_26, r168_29, r168_32, r168_33, r168_34, r168_35, r168_6, r168_10, r168_22, e, c1', c1, c3]
      rfl
    · simp only [ite_not, ite_self, w8_nil, ok01, ite10, rf_rv, rf_ref, rf_cat, rf_lk2, rf_some, rf_none, w_add, w_cons, cr_int, cr_long, cr_ref, cr_null, is_ref, is_null, l2_int, l2_ref, l2_null, l2_none, ent_nil, ent_int, ent_ref, ent_null, ent_rf, ent_long, ok_0, ok_1, af_ret, af_void, List.tail_cons, List.tail_nil, Nat.reduceAdd, Nat.reduceLeDiff, not_false_eq_true, not_true_eq_false, and_self, and_true, true_and, ne_eq, or_true, true_or, or_false, false_or, eq_self, Nat.reduceEqDiff, ↓reduceIte, false_and, and_false, Nat.le_refl, Nat.zero_le, nz_1, nz_2, nz_3, nz_4, nz_5, nz_6, nz_8, nz_10, nz_12, nz_20, nz_30, nz_60, nz_100, mp_B, mp_Z, mp_S, mp_C, mp_K, mp_N, mp_L, mp_R, mp_I, mp_I0, mp_s, mp_s0, u2_ap, sp_isLedge, sp_isLadder, sp_isPerson, sp_isLiving, sp_isLot, sp_isThere, sp_isSpan, ms_K q, ms_B q, ms_f88 q, ms_f90 q, r168_0, r168_1, r168_4, r168_5, r168_9, r168_13, r168_14, r168_17, r168_20, r168_21, r168_25, r168_26, r168_29, r168_32, r168_33, r168_34, r168_35, r168_6, r168_10, r168_22, e, c1', c1, c2, c3]
  · have c1' : 2 ≤ w := Int32.not_lt.mp c1
    simp only [ite_not, ite_self, w8_nil, ok01, ite10, rf_rv, rf_ref, rf_cat, rf_lk2, rf_some, rf_none, w_add, w_cons, cr_int, cr_long, cr_ref, cr_null, is_ref, is_null, l2_int, l2_ref, l2_null, l2_none, ent_nil, ent_int, ent_ref, ent_null, ent_rf, ent_long, ok_0, ok_1, af_ret, af_void, List.tail_cons, List.tail_nil, Nat.reduceAdd, Nat.reduceLeDiff, not_false_eq_true, not_true_eq_false, and_self, and_true, true_and, ne_eq, or_true, true_or, or_false, false_or, eq_self, Nat.reduceEqDiff, ↓reduceIte, false_and, and_false, Nat.le_refl, Nat.zero_le, nz_1, nz_2, nz_3, nz_4, nz_5, nz_6, nz_8, nz_10, nz_12, nz_20, nz_30, nz_60, nz_100, mp_B, mp_Z, mp_S, mp_C, mp_K, mp_N, mp_L, mp_R, mp_I, mp_I0, mp_s, mp_s0, u2_ap, sp_isLedge, sp_isLadder, sp_isPerson, sp_isLiving, sp_isLot, sp_isThere, sp_isSpan, ms_K q, ms_B q, ms_f88 q, ms_f90 q, r168_0, r168_1, r168_4, r168_5, r168_9, r168_13, r168_14, r168_17, r168_20, r168_21, r168_25, r168_26, r168_29, r168_32, r168_33, r168_34, r168_35, r168_6, r168_10, r168_22, e, c1', c1]
    exact f
end M26
