/-! the component's contracts, 20: offers, all of them -/
set_option maxRecDepth 100000
section C20
variable {d : Nat} {h : xm_H} {D : xp_D} {F : xp_F}
theorem cp_it {F : xp_F} : ∀ (c k : Nat), (∀ x y, xp_it (fun i G => xm_u2 G 62 i (G 61 i)) k c F x y = if x = 62 ∧ k ≤ y ∧ y < k + c then F 61 y else F x y)
  | 0, k, x, y => by
    rw [if_neg (by omega)]
    rfl
  | c + 1, k, x, y => by
    show xp_it _ (k + 1) c (xm_u2 F 62 k (F 61 k)) x y = _
    rw [cp_it c (k + 1) x y, u2_ap, u2_ap]
    by_cases e : x = 62 ∧ k + 1 ≤ y ∧ y < k + 1 + c
    · rw [if_pos e, if_neg (by omega), if_pos (by omega)]
    · rw [if_neg e]
      by_cases e2 : x = 62 ∧ y = k
      · rw [if_pos e2, if_pos (by omega), e2.2]
      · rw [if_neg e2, if_neg (by omega)]
theorem sold_cp {n : Nat} {s c : Int32} : adj (sp_sold F n s c) = if s < F 0 93 ∨ (s = F 0 93 ∧ ¬ c < F 0 94) then adj F else sq_cp (xm_u2 (xm_u2 (adj F) 0 93 s) 0 94 c) 62 n (fun j => adj F 61 j) := by
  unfold sp_sold
  by_cases e : s < F 0 93 ∨ (s = F 0 93 ∧ ¬ c < F 0 94)
  · rw [if_pos e, if_pos e]
  · rw [if_neg e, if_neg e, adj_u (by decide) (by decide), adj_u (by decide) (by decide)]
    funext x y
    rw [cp_ap]
    unfold adj
    simp only [cp_it, u2_ap]
    by_cases e1 : x = 62 ∧ y < n
    · rw [if_neg (by omega), if_neg (by omega), if_pos (by omega), if_pos e1]
      simp only [Nat.reduceEqDiff, false_and, ↓reduceIte]
    · rw [if_neg e1]
      simp only [Nat.reduceEqDiff, false_and, ↓reduceIte]
      by_cases e2 : x = 59 ∧ y < 4
      · rw [if_pos e2, if_pos e2]
      · rw [if_neg e2, if_neg e2]
        by_cases e3 : x = 63
        · rw [if_pos e3, if_pos e3]
        · rw [if_neg e3, if_neg e3, if_neg (by omega)]
/-- what buyers take, what is offered, as they may be -/
def OB (D : xp_D) (n : Nat) (G : xp_F) : Prop := G 0 92 = Int32.ofNat n ∧ n ≤ 8 ∧ G 0 83 = Int32.ofNat (xd_n D 3) ∧ (∀ b, b < xd_n D 3 → 0 ≤ (G 63 b).toInt ∧ (G 63 b).toInt ≤ (G 59 b).toInt ∧ (G 59 b).toInt ≤ 99999) ∧ ∀ j, j < n → ∃ i, i < xd_n D 2 ∧ G 60 j = Int32.ofNat i ∧ 0 ≤ (G 44 i).toInt ∧ (G 44 i).toInt ≤ 10000000
theorem OB.ag {n : Nat} {G H : xp_F} (a : OB D n G) (c : sq G H) (p : ∀ b, H 63 b = G 63 b) : OB D n H := by
  have c0 : ∀ o k, ¬ o = 61 → ¬ o = 62 → ¬ o = 63 → ¬ (o = 0 ∧ (k = 93 ∨ k = 94)) → H o k = G o k := c
  unfold OB
  rw [c0 0 92 (by decide) (by decide) (by decide) (by decide), c0 0 83 (by decide) (by decide) (by decide) (by decide)]
  refine ⟨a.1, a.2.1, a.2.2.1, fun b hb => ?_, fun j hj => ?_⟩
  · rw [p b, c0 59 b (by decide) (by decide) (by decide) (by omega)]
    exact a.2.2.2.1 b hb
  · obtain ⟨i, h1, h2, h3⟩ := a.2.2.2.2 j hj
    exact ⟨i, h1, by rw [c0 60 j (by decide) (by decide) (by decide) (by omega)]; exact h2, by rw [c0 44 i (by decide) (by decide) (by decide) (by omega)]; exact h3⟩
theorem offers_p {n : Nat} : ∀ (r k : Nat) (s c : Int32) (F : xp_F) (b : Nat), sp_offers n r k s c F 63 b = F 63 b
  | 0, k, s, c, F, b => by
    show sp_sold F n s c 63 b = _
    unfold sp_sold
    split
    · rfl
    · rw [cp_it, if_neg (by omega), u2_ap, if_neg (by omega), u2_ap, if_neg (by omega)]
  | r + 1, k, s, c, F, b => by
    rw [offers_up, offers_p r, u2_ap, if_neg (by omega)]
    refine up_inv (fun (G : xp_F) => G 63 b = F 63 b) (fun b' G hG => ?_) rfl _
    show sp_offer1 n r k s c _ b' G 63 b = _
    unfold sp_offer1
    split
    · show xm_u2 _ 63 b' _ 63 b = _
      rw [u2_ap]
      by_cases e : b = b'
      · rw [if_pos ⟨rfl, e⟩, offers_p r, u2_ap, if_neg (by omega), u2_ap, if_pos ⟨rfl, rfl⟩, offers_sq r _ _ _ _ 44 _ (by decide) (by decide) (by decide) (by omega), u2_ap, if_neg (by omega), u2_ap, if_neg (by omega), ← hG, e]
        exact Int32.add_sub_cancel _ _
      · rw [if_neg (fun z => e z.2), offers_p r, u2_ap, if_neg (by omega), u2_ap, if_neg (fun z => e z.2)]
        exact hG
    · exact hG
theorem copy2_ne (q : CS h D) : ¬ xd_A D 0 40 = xd_A D 0 41 := fun z => by
  have a := (cs_f40 q).2.2.2.2 0
  have b := (cs_f41 q).2.2.2.2 0
  rw [z, b] at a
  cases a
theorem c57e (q : CS h D) {n : Nat} {G : xp_F} (hO : OB D n G) {s c : Int32} : xm_met (d + 1) 57 [.ref (xd_X D), .int (Int32.ofNat n), .int s, .int c] (xp_c h D (adj G)) = some (.inl none, xp_c h D (adj (sp_sold G n s c))) := by
  have ho := hO.1
  have hn := hO.2.1
  have a1 : adj G 0 92 = G 0 92 := adj_o (by decide) (by decide)
  have a2 : adj G 0 93 = G 0 93 := adj_o (by decide) (by decide)
  have a3 : adj G 0 94 = G 0 94 := adj_o (by decide) (by decide)
  have z0 : (0 : Int32).toNatClampNeg = 0 := rfl
  have nn := nat_nn (n := n) (by omega)
  have tn : (Int32.ofNat n).toNatClampNeg = n := tc_nat (by omega)
  have c00 : ¬ (0 : Int32) < 0 := by decide
  have ecp := fun (F : xp_F) (n : Nat) (f : Nat → Int32) => mc_cp (h := h) (F := F) (n := n) (f := f) (cs_inj q) (cs_f41 q).2.2.2.2
  have ne := copy2_ne q
  have fin : xm_run (d + 1) 57 33 [some (.ref (xd_X D)), some (.int (Int32.ofNat n)), some (.int s), some (.int c)] [] (xp_c h D (adj G)) = some (.inl none, xp_c h D (sq_cp (xm_u2 (xm_u2 (adj G) 0 93 s) 0 94 c) 62 n (fun j => adj G 61 j))) := by
    simp only [ite_not, ite_self, w8_nil, ok01, ite10, rf_rv, rf_ref, rf_cat, rf_lk2, rf_some, rf_none, w_add, w_cons, cr_int, cr_long, cr_ref, cr_null, is_ref, is_null, l2_int, l2_ref, l2_null, l2_none, ent_nil, ent_int, ent_ref, ent_null, ent_rf, ent_long, ok_0, ok_1, af_ret, af_void, List.tail_cons, List.tail_nil, Nat.reduceAdd, Nat.reduceLeDiff, not_false_eq_true, not_true_eq_false, and_self, and_true, true_and, ne_eq, or_true, true_or, or_false, false_or, eq_self, Nat.reduceEqDiff, ↓reduceIte, false_and, and_false, Nat.le_refl, Nat.zero_le, nz_1, nz_2, nz_3, nz_4, nz_5, nz_6, nz_8, nz_10, nz_12, nz_20, nz_30, nz_60, nz_100, mc_B, mc_Z, mc_S, mc_C, mc_K, mc_N, mc_R, mc_I, mc_L, va_Is, va_Ls, va_us, va_iss, u2_ap, sp_isLedge, sp_isLadder, sp_isPerson, sp_isLiving, sp_isLot, sp_isThere, sp_isSpan, cs_K q, cs_B q, mc_s (cs_inj q), cs_f44 q, cs_f45 q, cs_f40 q, cs_f41 q, r57_33, r57_34, r57_35, r57_38, r57_39, r57_40, r57_43, r57_44, r57_47, r57_48, r57_49, r57_52, r57_53, r57_54, r57_57, ent_nil, z0, tn, nn, c00, ne, hn, ecp, Nat.zero_add]
  rw [sold_cp]
  unfold xm_met
  by_cases c1 : s < G 0 93
  · rw [if_pos (Or.inl c1)]
    simp only [ite_not, ite_self, w8_nil, ok01, ite10, rf_rv, rf_ref, rf_cat, rf_lk2, rf_some, rf_none, w_add, w_cons, cr_int, cr_long, cr_ref, cr_null, is_ref, is_null, l2_int, l2_ref, l2_null, l2_none, ent_nil, ent_int, ent_ref, ent_null, ent_rf, ent_long, ok_0, ok_1, af_ret, af_void, List.tail_cons, List.tail_nil, Nat.reduceAdd, Nat.reduceLeDiff, not_false_eq_true, not_true_eq_false, and_self, and_true, true_and, ne_eq, or_true, true_or, or_false, false_or, eq_self, Nat.reduceEqDiff, ↓reduceIte, false_and, and_false, Nat.le_refl, Nat.zero_le, nz_1, nz_2, nz_3, nz_4, nz_5, nz_6, nz_8, nz_10, nz_12, nz_20, nz_30, nz_60, nz_100, mc_B, mc_Z, mc_S, mc_C, mc_K, mc_N, mc_R, mc_I, mc_L, va_Is, va_Ls, va_us, va_iss, u2_ap, sp_isLedge, sp_isLadder, sp_isPerson, sp_isLiving, sp_isLot, sp_isThere, sp_isSpan, cs_K q, cs_B q, mc_s (cs_inj q), cs_f43 q, cs_f44 q, cs_f45 q, r57_0, r57_1, r57_2, r57_8, r57_9, r57_10, r57_16, r57_17, r57_18, r57_24, r57_25, r57_26, r57_32, r57_5, r57_13, r57_21, r57_29, a1, a2, a3, ho, c1]
  by_cases c3 : s = G 0 93
  · by_cases c4 : c < G 0 94
    · rw [if_neg (fun z => z.elim c1 (fun y => y.2 c4)), ← fin]
      have c1' : ¬ G 0 93 < G 0 93 := Int32.lt_irrefl
      simp only [ite_not, ite_self, w8_nil, ok01, ite10, rf_rv, rf_ref, rf_cat, rf_lk2, rf_some, rf_none, w_add, w_cons, cr_int, cr_long, cr_ref, cr_null, is_ref, is_null, l2_int, l2_ref, l2_null, l2_none, ent_nil, ent_int, ent_ref, ent_null, ent_rf, ent_long, ok_0, ok_1, af_ret, af_void, List.tail_cons, List.tail_nil, Nat.reduceAdd, Nat.reduceLeDiff, not_false_eq_true, not_true_eq_false, and_self, and_true, true_and, ne_eq, or_true, true_or, or_false, false_or, eq_self, Nat.reduceEqDiff, ↓reduceIte, false_and, and_false, Nat.le_refl, Nat.zero_le, nz_1, nz_2, nz_3, nz_4, nz_5, nz_6, nz_8, nz_10, nz_12, nz_20, nz_30, nz_60, nz_100, mc_B, mc_Z, mc_S, mc_C, mc_K, mc_N, mc_R, mc_I, mc_L, va_Is, va_Ls, va_us, va_iss, u2_ap, sp_isLedge, sp_isLadder, sp_isPerson, sp_isLiving, sp_isLot, sp_isThere, sp_isSpan, cs_K q, cs_B q, mc_s (cs_inj q), cs_f43 q, cs_f44 q, cs_f45 q, r57_0, r57_1, r57_2, r57_8, r57_9, r57_10, r57_16, r57_17, r57_18, r57_24, r57_25, r57_26, r57_32, r57_5, r57_13, r57_21, r57_29, a1, a2, a3, ho, c1', c3, c4]
    · rw [if_pos (Or.inr ⟨c3, c4⟩)]
      have c1' : ¬ G 0 93 < G 0 93 := Int32.lt_irrefl
      simp only [ite_not, ite_self, w8_nil, ok01, ite10, rf_rv, rf_ref, rf_cat, rf_lk2, rf_some, rf_none, w_add, w_cons, cr_int, cr_long, cr_ref, cr_null, is_ref, is_null, l2_int, l2_ref, l2_null, l2_none, ent_nil, ent_int, ent_ref, ent_null, ent_rf, ent_long, ok_0, ok_1, af_ret, af_void, List.tail_cons, List.tail_nil, Nat.reduceAdd, Nat.reduceLeDiff, not_false_eq_true, not_true_eq_false, and_self, and_true, true_and, ne_eq, or_true, true_or, or_false, false_or, eq_self, Nat.reduceEqDiff, ↓reduceIte, false_and, and_false, Nat.le_refl, Nat.zero_le, nz_1, nz_2, nz_3, nz_4, nz_5, nz_6, nz_8, nz_10, nz_12, nz_20, nz_30, nz_60, nz_100, mc_B, mc_Z, mc_S, mc_C, mc_K, mc_N, mc_R, mc_I, mc_L, va_Is, va_Ls, va_us, va_iss, u2_ap, sp_isLedge, sp_isLadder, sp_isPerson, sp_isLiving, sp_isLot, sp_isThere, sp_isSpan, cs_K q, cs_B q, mc_s (cs_inj q), cs_f43 q, cs_f44 q, cs_f45 q, r57_0, r57_1, r57_2, r57_8, r57_9, r57_10, r57_16, r57_17, r57_18, r57_24, r57_25, r57_26, r57_32, r57_5, r57_13, r57_21, r57_29, a1, a2, a3, ho, c1', c3, c4]
  · rw [if_neg (fun z => z.elim c1 (fun y => c3 y.1)), ← fin]
    simp only [ite_not, ite_self, w8_nil, ok01, ite10, rf_rv, rf_ref, rf_cat, rf_lk2, rf_some, rf_none, w_add, w_cons, cr_int, cr_long, cr_ref, cr_null, is_ref, is_null, l2_int, l2_ref, l2_null, l2_none, ent_nil, ent_int, ent_ref, ent_null, ent_rf, ent_long, ok_0, ok_1, af_ret, af_void, List.tail_cons, List.tail_nil, Nat.reduceAdd, Nat.reduceLeDiff, not_false_eq_true, not_true_eq_false, and_self, and_true, true_and, ne_eq, or_true, true_or, or_false, false_or, eq_self, Nat.reduceEqDiff, ↓reduceIte, false_and, and_false, Nat.le_refl, Nat.zero_le, nz_1, nz_2, nz_3, nz_4, nz_5, nz_6, nz_8, nz_10, nz_12, nz_20, nz_30, nz_60, nz_100, mc_B, mc_Z, mc_S, mc_C, mc_K, mc_N, mc_R, mc_I, mc_L, va_Is, va_Ls, va_us, va_iss, u2_ap, sp_isLedge, sp_isLadder, sp_isPerson, sp_isLiving, sp_isLot, sp_isThere, sp_isSpan, cs_K q, cs_B q, mc_s (cs_inj q), cs_f43 q, cs_f44 q, cs_f45 q, r57_0, r57_1, r57_2, r57_8, r57_9, r57_10, r57_16, r57_17, r57_18, r57_24, r57_25, r57_26, r57_32, r57_5, r57_13, r57_21, r57_29, a1, a2, a3, ho, c1, c3]
theorem c228 (q : CS h D) {b i : Nat} (hb : b < xd_n D 3) (hi : i < xd_n D 2) {G : xp_F} (h1 : 0 ≤ (G 63 b).toInt ∧ (G 63 b).toInt ≤ (G 59 b).toInt ∧ (G 59 b).toInt ≤ 99999) (h2 : 0 ≤ (G 44 i).toInt ∧ (G 44 i).toInt ≤ 10000000) : xm_met d 228 [.ref (xd_A D 6 b), .ref (xd_A D 4 i)] (xp_c h D (adj G)) = some (.inl (some (.int (if sp_fits G b i then 1 else 0))), xp_c h D (adj G)) := by
  have b4 := (cs_n q).2.2.2
  have o1 := cs_Y q hb
  have o2 := cs_I q hi
  have o3 := cs_is q hi
  have a1 : adj G 45 i = G 45 i := adj_o (by decide) (by decide)
  have a2 : adj G 46 i = G 46 i := adj_o (by decide) (by decide)
  have a3 : adj G 44 i = G 44 i := adj_o (by decide) (by decide)
  have a4 : adj G 56 b = G 56 b := adj_o (by decide) (by decide)
  have a5 : adj G 57 b = G 57 b := adj_o (by decide) (by decide)
  have a6 : adj G 59 b = G 59 b - G 63 b := adj_t (by omega)
  have e6 : (G 44 i ≤ G 59 b - G 63 b) = (G 63 b + G 44 i ≤ G 59 b) := by
    apply propext
    rw [Int32.le_iff_toInt_le, Int32.le_iff_toInt_le, ti_sub (by omega), ti_add (by omega)]
    omega
  unfold xm_met
  by_cases c1 : G 45 i < G 56 b
  · rw [if_neg (fun z => z.1 c1)]
    simp only [ite_not, ite_self, w8_nil, ok01, ite10, rf_rv, rf_ref, rf_cat, rf_lk2, rf_some, rf_none, w_add, w_cons, cr_int, cr_long, cr_ref, cr_null, is_ref, is_null, l2_int, l2_ref, l2_null, l2_none, ent_nil, ent_int, ent_ref, ent_null, ent_rf, ent_long, ok_0, ok_1, af_ret, af_void, List.tail_cons, List.tail_nil, Nat.reduceAdd, Nat.reduceLeDiff, not_false_eq_true, not_true_eq_false, and_self, and_true, true_and, ne_eq, or_true, true_or, or_false, false_or, eq_self, Nat.reduceEqDiff, ↓reduceIte, false_and, and_false, Nat.le_refl, Nat.zero_le, nz_1, nz_2, nz_3, nz_4, nz_5, nz_6, nz_8, nz_10, nz_12, nz_20, nz_30, nz_60, nz_100, mc_B, mc_Z, mc_S, mc_C, mc_K, mc_N, mc_R, mc_I, mc_L, va_Is, va_Ls, va_us, va_iss, u2_ap, sp_isLedge, sp_isLadder, sp_isPerson, sp_isLiving, sp_isLot, sp_isThere, sp_isSpan, r228_0, r228_1, r228_4, r228_5, r228_11, r228_12, r228_15, r228_16, r228_22, r228_23, r228_26, r228_27, r228_33, r228_34, r228_37, r228_38, r228_8, r228_19, r228_30, o1, o2, o3, a1, a2, a3, a4, a5, a6, c1]
  by_cases c3 : G 57 b < G 46 i
  · rw [if_neg (fun z => z.2.1 c3)]
    simp only [ite_not, ite_self, w8_nil, ok01, ite10, rf_rv, rf_ref, rf_cat, rf_lk2, rf_some, rf_none, w_add, w_cons, cr_int, cr_long, cr_ref, cr_null, is_ref, is_null, l2_int, l2_ref, l2_null, l2_none, ent_nil, ent_int, ent_ref, ent_null, ent_rf, ent_long, ok_0, ok_1, af_ret, af_void, List.tail_cons, List.tail_nil, Nat.reduceAdd, Nat.reduceLeDiff, not_false_eq_true, not_true_eq_false, and_self, and_true, true_and, ne_eq, or_true, true_or, or_false, false_or, eq_self, Nat.reduceEqDiff, ↓reduceIte, false_and, and_false, Nat.le_refl, Nat.zero_le, nz_1, nz_2, nz_3, nz_4, nz_5, nz_6, nz_8, nz_10, nz_12, nz_20, nz_30, nz_60, nz_100, mc_B, mc_Z, mc_S, mc_C, mc_K, mc_N, mc_R, mc_I, mc_L, va_Is, va_Ls, va_us, va_iss, u2_ap, sp_isLedge, sp_isLadder, sp_isPerson, sp_isLiving, sp_isLot, sp_isThere, sp_isSpan, r228_0, r228_1, r228_4, r228_5, r228_11, r228_12, r228_15, r228_16, r228_22, r228_23, r228_26, r228_27, r228_33, r228_34, r228_37, r228_38, r228_8, r228_19, r228_30, o1, o2, o3, a1, a2, a3, a4, a5, a6, c1, c3]
  by_cases c4 : G 63 b + G 44 i ≤ G 59 b
  · have c4' : ¬ G 59 b - G 63 b < G 44 i := Int32.not_lt.mpr (by rw [e6]; exact c4)
    rw [if_pos ⟨c1, c3, c4⟩]
    simp only [ite_not, ite_self, w8_nil, ok01, ite10, rf_rv, rf_ref, rf_cat, rf_lk2, rf_some, rf_none, w_add, w_cons, cr_int, cr_long, cr_ref, cr_null, is_ref, is_null, l2_int, l2_ref, l2_null, l2_none, ent_nil, ent_int, ent_ref, ent_null, ent_rf, ent_long, ok_0, ok_1, af_ret, af_void, List.tail_cons, List.tail_nil, Nat.reduceAdd, Nat.reduceLeDiff, not_false_eq_true, not_true_eq_false, and_self, and_true, true_and, ne_eq, or_true, true_or, or_false, false_or, eq_self, Nat.reduceEqDiff, ↓reduceIte, false_and, and_false, Nat.le_refl, Nat.zero_le, nz_1, nz_2, nz_3, nz_4, nz_5, nz_6, nz_8, nz_10, nz_12, nz_20, nz_30, nz_60, nz_100, mc_B, mc_Z, mc_S, mc_C, mc_K, mc_N, mc_R, mc_I, mc_L, va_Is, va_Ls, va_us, va_iss, u2_ap, sp_isLedge, sp_isLadder, sp_isPerson, sp_isLiving, sp_isLot, sp_isThere, sp_isSpan, r228_0, r228_1, r228_4, r228_5, r228_11, r228_12, r228_15, r228_16, r228_22, r228_23, r228_26, r228_27, r228_33, r228_34, r228_37, r228_38, r228_8, r228_19, r228_30, o1, o2, o3, a1, a2, a3, a4, a5, a6, c1, c3, c4']
  · have c4' : G 59 b - G 63 b < G 44 i := Int32.not_le.mp (by rw [e6]; exact c4)
    rw [if_neg (fun z => c4 z.2.2)]
    simp only [ite_not, ite_self, w8_nil, ok01, ite10, rf_rv, rf_ref, rf_cat, rf_lk2, rf_some, rf_none, w_add, w_cons, cr_int, cr_long, cr_ref, cr_null, is_ref, is_null, l2_int, l2_ref, l2_null, l2_none, ent_nil, ent_int, ent_ref, ent_null, ent_rf, ent_long, ok_0, ok_1, af_ret, af_void, List.tail_cons, List.tail_nil, Nat.reduceAdd, Nat.reduceLeDiff, not_false_eq_true, not_true_eq_false, and_self, and_true, true_and, ne_eq, or_true, true_or, or_false, false_or, eq_self, Nat.reduceEqDiff, ↓reduceIte, false_and, and_false, Nat.le_refl, Nat.zero_le, nz_1, nz_2, nz_3, nz_4, nz_5, nz_6, nz_8, nz_10, nz_12, nz_20, nz_30, nz_60, nz_100, mc_B, mc_Z, mc_S, mc_C, mc_K, mc_N, mc_R, mc_I, mc_L, va_Is, va_Ls, va_us, va_iss, u2_ap, sp_isLedge, sp_isLadder, sp_isPerson, sp_isLiving, sp_isLot, sp_isThere, sp_isSpan, r228_0, r228_1, r228_4, r228_5, r228_11, r228_12, r228_15, r228_16, r228_22, r228_23, r228_26, r228_27, r228_33, r228_34, r228_37, r228_38, r228_8, r228_19, r228_30, o1, o2, o3, a1, a2, a3, a4, a5, a6, c1, c3, c4']
end C20
