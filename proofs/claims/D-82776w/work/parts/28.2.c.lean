/-! the component's contracts, 21: sales -/
set_option maxRecDepth 100000
section C21
variable {d : Nat} {h : xm_H} {D : xp_D} {F : xp_F}
theorem adj_m {G : xp_F} {b : Nat} {v : Int32} (hb : b < 4) : xm_u2 (adj G) 59 b (G 59 b - G 63 b + v) = adj (xm_u2 G 63 b (G 63 b - v)) := by
  have e := adj_p (G := G) (b := b) (v := -v) hb
  rw [← Int32.sub_eq_add_neg] at e
  rw [← e]
  congr 1
  rw [Int32.sub_eq_add_neg (G 59 b - G 63 b) (-v), Int32.neg_neg]
theorem OB.push {n b i k : Nat} {v : Int32} {G : xp_F} (a : OB D n G) (hb : b < xd_n D 3) (hf : sp_fits G b i) (h2 : 0 ≤ (G 44 i).toInt ∧ (G 44 i).toInt ≤ 10000000) : OB D n (xm_u2 (xm_u2 G 63 b (G 63 b + G 44 i)) 61 k v) := by
  have u : ∀ o j, ¬ o = 61 → ¬ o = 63 → xm_u2 (xm_u2 G 63 b (G 63 b + G 44 i)) 61 k v o j = G o j := fun o j h1 h2 => by
    rw [u2_ap, if_neg (by omega), u2_ap, if_neg (by omega)]
  unfold OB
  rw [u 0 92 (by decide) (by decide), u 0 83 (by decide) (by decide)]
  refine ⟨a.1, a.2.1, a.2.2.1, fun b' hb' => ?_, fun j hj => ?_⟩
  · rw [u 59 b' (by decide) (by decide), u2_ap, if_neg (by omega), u2_ap]
    have := a.2.2.2.1 b' hb'
    by_cases e : b' = b
    · rw [if_pos ⟨rfl, e⟩, ← e]
      have f := Int32.le_iff_toInt_le.mp hf.2.2
      rw [← e, ti_add (by omega)] at f
      rw [ti_add (by omega)]
      omega
    · rw [if_neg (fun z => e z.2)]
      exact this
  · obtain ⟨i', h1, h2, h3⟩ := a.2.2.2.2 j hj
    exact ⟨i', h1, by rw [u 60 j (by decide) (by decide)]; exact h2, by rw [u 44 i' (by decide) (by decide)]; exact h3⟩
theorem offer1_p {n r k : Nat} {s c : Int32} {i b b' : Nat} {G : xp_F} : sp_offer1 n r k s c i b G 63 b' = G 63 b' := by
  unfold sp_offer1
  split
  · show xm_u2 _ 63 b _ 63 b' = _
    rw [u2_ap]
    by_cases e : b' = b
    · rw [if_pos ⟨rfl, e⟩, offers_p r, u2_ap, if_neg (by omega), u2_ap, if_pos ⟨rfl, rfl⟩, offers_sq r _ _ _ _ 44 _ (by decide) (by decide) (by decide) (by omega), u2_ap, if_neg (by omega), u2_ap, if_neg (by omega), e]
      exact Int32.add_sub_cancel _ _
    · rw [if_neg (fun z => e z.2), offers_p r, u2_ap, if_neg (by omega), u2_ap, if_neg (fun z => e z.2)]
  · rfl
theorem c57s (q : CS h D) {n r k i b : Nat} (hk : k < 8) {s c : Int32} (hb : b < xd_n D 3) (hi : i < xd_n D 2) {G : xp_F} (hO : OB D n G) (hu : 0 ≤ (G 44 i).toInt ∧ (G 44 i).toInt ≤ 10000000)
    (ih : ∀ (s c : Int32) (H : xp_F), OB D n H → xm_met (d + r + 1) 57 [.ref (xd_X D), .int (Int32.ofNat (k + 1)), .int s, .int c] (xp_c h D (adj H)) = some (.inl none, xp_c h D (adj (sp_offers n r (k + 1) s c H)))) (t : List (Option Value)) :
    xm_run (d + r + 2) 57 74 (some (.ref (xd_X D)) :: some (.int (Int32.ofNat k)) :: some (.int s) :: some (.int c) :: some (.ref (xd_A D 4 i)) :: some (.int (Int32.ofNat b)) :: t) [] (xp_c h D (adj G)) = xm_run (d + r + 2) 57 74 (some (.ref (xd_X D)) :: some (.int (Int32.ofNat k)) :: some (.int s) :: some (.int c) :: some (.ref (xd_A D 4 i)) :: some (.int (Int32.ofNat (b + 1))) :: t) [] (xp_c h D (adj (sp_offer1 n r k s c i b G))) := by
  have b4 := (cs_n q).2.2.2
  have b4' : b < 4 := by omega
  have o1 := cs_Y q hb
  have o2 := cs_I q hi
  have o3 := cs_is q hi
  have gb := hO.2.2.1
  have c0 := lt_nat hb (by omega)
  obtain ⟨i1, e1⟩ := in_nat b4' (by decide)
  obtain ⟨k1, k2⟩ := in_nat hk (by decide)
  have w := @c228 (d + r + 1) h D q b i hb hi G (hO.2.2.2.1 b hb) hu
  rw [r57_74]
  unfold sp_offer1
  by_cases c1 : sp_fits G b i
  · rw [if_pos c1] at w ⊢
    have e2 := ih (s + G 58 b * G 44 i) (c + 1) _ (hO.push (k := k) (v := Int32.ofNat b) hb c1 hu)
    have mc : G 44 i * G 58 b = G 58 b * G 44 i := Int32.mul_comm _ _
    simp only [ite_not, ite_self, w8_nil, ok01, ite10, rf_rv, rf_ref, rf_cat, rf_lk2, rf_some, rf_none, w_add, w_cons, cr_int, cr_long, cr_ref, cr_null, is_ref, is_null, l2_int, l2_ref, l2_null, l2_none, ent_nil, ent_int, ent_ref, ent_null, ent_rf, ent_long, ok_0, ok_1, af_ret, af_void, List.tail_cons, List.tail_nil, Nat.reduceAdd, Nat.reduceLeDiff, not_false_eq_true, not_true_eq_false, and_self, and_true, true_and, ne_eq, or_true, true_or, or_false, false_or, eq_self, Nat.reduceEqDiff, ↓reduceIte, false_and, and_false, Nat.le_refl, Nat.zero_le, nz_1, nz_2, nz_3, nz_4, nz_5, nz_6, nz_8, nz_10, nz_12, nz_20, nz_30, nz_60, nz_100, mc_B, mc_Z, mc_S, mc_C, mc_K, mc_N, mc_R, mc_I, mc_L, va_Is, va_Ls, va_us, va_iss, u2_ap, sp_isLedge, sp_isLadder, sp_isPerson, sp_isLiving, sp_isLot, sp_isThere, sp_isSpan, cs_K q, cs_B q, mc_s (cs_inj q), cs_f42 q, cs_f38 q, r57_76, r57_77, r57_83, r57_84, r57_87, r57_89, r57_90, r57_92, r57_98, r57_80, r57_95, adj_o, gb, c0, i1, e1, o1, o2, w, Nat.reduceEqDiff]
    simp only [ite_not, ite_self, w8_nil, ok01, ite10, rf_rv, rf_ref, rf_cat, rf_lk2, rf_some, rf_none, w_add, w_cons, cr_int, cr_long, cr_ref, cr_null, is_ref, is_null, l2_int, l2_ref, l2_null, l2_none, ent_nil, ent_int, ent_ref, ent_null, ent_rf, ent_long, ok_0, ok_1, af_ret, af_void, List.tail_cons, List.tail_nil, Nat.reduceAdd, Nat.reduceLeDiff, not_false_eq_true, not_true_eq_false, and_self, and_true, true_and, ne_eq, or_true, true_or, or_false, false_or, eq_self, Nat.reduceEqDiff, ↓reduceIte, false_and, and_false, Nat.le_refl, Nat.zero_le, nz_1, nz_2, nz_3, nz_4, nz_5, nz_6, nz_8, nz_10, nz_12, nz_20, nz_30, nz_60, nz_100, mc_B, mc_Z, mc_S, mc_C, mc_K, mc_N, mc_R, mc_I, mc_L, va_Is, va_Ls, va_us, va_iss, u2_ap, sp_isLedge, sp_isLadder, sp_isPerson, sp_isLiving, sp_isLot, sp_isThere, sp_isSpan, cs_K q, cs_B q, mc_s (cs_inj q), cs_f38 q, cs_f40 q, r57_101, r57_102, r57_105, r57_107, r57_108, r57_109, r57_112, r57_114, r57_117, r57_118, r57_121, r57_122, r57_125, r57_126, r57_128, r57_129, r57_130, r57_131, r57_132, r57_133, r57_134, r57_136, r57_139, r57_140, r57_143, r57_145, r57_146, r57_149, r57_150, r57_151, r57_152, r57_153, r57_154, r57_157, r57_158, r57_161, r57_163, r57_164, r57_165, r57_168, r57_170, r57_173, r57_174, r57_177, r57_180, ent_nil, adj_o, adj_t, adj_u, adj_p, adj_m, b4', Nat.reduceEqDiff, false_and, i1, e1, k1, k2, o1, o2, o3, mc, e2, nat_succ]
  · rw [if_neg c1] at w ⊢
    simp only [ite_not, ite_self, w8_nil, ok01, ite10, rf_rv, rf_ref, rf_cat, rf_lk2, rf_some, rf_none, w_add, w_cons, cr_int, cr_long, cr_ref, cr_null, is_ref, is_null, l2_int, l2_ref, l2_null, l2_none, ent_nil, ent_int, ent_ref, ent_null, ent_rf, ent_long, ok_0, ok_1, af_ret, af_void, List.tail_cons, List.tail_nil, Nat.reduceAdd, Nat.reduceLeDiff, not_false_eq_true, not_true_eq_false, and_self, and_true, true_and, ne_eq, or_true, true_or, or_false, false_or, eq_self, Nat.reduceEqDiff, ↓reduceIte, false_and, and_false, Nat.le_refl, Nat.zero_le, nz_1, nz_2, nz_3, nz_4, nz_5, nz_6, nz_8, nz_10, nz_12, nz_20, nz_30, nz_60, nz_100, mc_B, mc_Z, mc_S, mc_C, mc_K, mc_N, mc_R, mc_I, mc_L, va_Is, va_Ls, va_us, va_iss, u2_ap, sp_isLedge, sp_isLadder, sp_isPerson, sp_isLiving, sp_isLot, sp_isThere, sp_isSpan, cs_K q, cs_B q, mc_s (cs_inj q), cs_f42 q, cs_f38 q, r57_76, r57_77, r57_83, r57_84, r57_87, r57_89, r57_90, r57_92, r57_98, r57_80, r57_95, adj_o, gb, c0, i1, e1, o1, o2, w, Nat.reduceEqDiff, r57_177, r57_180, nat_succ]
theorem c57 (q : CS h D) {n : Nat} : ∀ (r k : Nat) (s c : Int32) (F : xp_F), k + r = n → OB D n F → xm_met (d + r + 1) 57 [.ref (xd_X D), .int (Int32.ofNat k), .int s, .int c] (xp_c h D (adj F)) = some (.inl none, xp_c h D (adj (sp_offers n r k s c F))) := by
  intro r
  induction r with
  | zero =>
    intro k s c F e hO
    have : k = n := by omega
    subst this
    exact c57e q hO
  | succ r ih =>
    intro k s c F e hO
    have n8 := hO.2.1
    have b4 := (cs_n q).2.2.2
    have i40 := (cs_n q).2.2.1
    have hk : k < 8 := by omega
    obtain ⟨k1, k2⟩ := in_nat hk (by decide)
    obtain ⟨i, hi, eo, hu⟩ := hO.2.2.2.2 k (by omega)
    obtain ⟨j1, j2⟩ := in_nat (show i < 40 by omega) (by decide)
    have o2 := cs_I q hi
    have tb : (F 0 83).toNatClampNeg = xd_n D 3 := by rw [hO.2.2.1, tc_nat (by omega)]
    have ti : (F 60 k).toNatClampNeg = i := by rw [eo, tc_nat (by omega)]
    have ih' := fun (s c : Int32) (H : xp_F) (hH : OB D n H) => ih (k + 1) s c H (by omega) hH
    obtain ⟨t, e1, i1, i2, i3⟩ := xp_loop (P := fun b (G : xp_F) t => xm_run (d + r + 2) 57 74 (some (.ref (xd_X D)) :: some (.int (Int32.ofNat k)) :: some (.int s) :: some (.int c) :: some (.ref (xd_A D 4 i)) :: some (.int (Int32.ofNat b)) :: t) [] (xp_c h D (adj G))) (n := xd_n D 3) (fun _ (G : xp_F) => OB D n G ∧ sq F G ∧ ∀ b, G 63 b = F 63 b) (f := fun b G => sp_offer1 n r k s c i b G) (fun b G t hb hG => by
      obtain ⟨g1, g2, g3⟩ := hG
      have gu : 0 ≤ (G 44 i).toInt ∧ (G 44 i).toInt ≤ 10000000 := by
        rw [g2 44 i (by decide) (by decide) (by decide) (by omega)]
        exact hu
      have sqx := offer1_sq (n := n) (r := r) (k := k) (s := s) (c := c) (i := i) (b := b) g2
      have pp : ∀ b', sp_offer1 n r k s c i b G 63 b' = F 63 b' := fun b' => offer1_p.trans (g3 b')
      exact ⟨t, c57s q hk hb hi g1 gu ih' t, hO.ag sqx pp, sqx, pp⟩) _ 0 F [] (Nat.zero_add _) ⟨hO, sq.rf, fun _ => rfl⟩
    have eu := it_eq_up (f := fun b G => sp_offer1 n r k s c i b G) (s := F) (xd_n D 3) 0
    rw [Nat.zero_add] at eu
    have eu' : xp_it (fun b G => sp_offer1 n r k s c i b G) 0 (xd_n D 3) F = xp_up (fun b G => sp_offer1 n r k s c i b G) F (xd_n D 3) := eu
    rw [eu'] at e1 i1 i2 i3
    generalize eG : xp_up (fun b G => sp_offer1 n r k s c i b G) F (xd_n D 3) = G at e1 i1 i2 i3
    have hO2 : OB D n (xm_u2 G 61 k (-1)) := i1.ag sq.g (fun b => by rw [u2_ap, if_neg (by omega)])
    have last := ih' s c _ hO2
    have ne : ¬ Int32.ofNat k = Int32.ofNat n := fun z => by
      have := congrArg Int32.toInt z
      rw [ti_nat (by omega), ti_nat (by omega)] at this
      omega
    have gb := i1.2.2.1
    have go := hO.1
    have cz : Int32.ofNat (xd_n D 3) ≤ Int32.ofNat (xd_n D 3) := Int32.le_refl _
    rw [show Int32.ofNat 0 = (0 : Int32) from rfl] at e1
    rw [offers_up, tb, ti]
    show _ = some (Sum.inl none, xp_c h D (adj (sp_offers n r (k + 1) s c (xm_u2 (xp_up (fun b G => sp_offer1 n r k s c i b G) F (xd_n D 3)) 61 k (-1)))))
    rw [eG]
    unfold xm_met
    rw [show d + (r + 1) + 1 = d + r + 2 from rfl]
    simp only [ite_not, ite_self, w8_nil, ok01, ite10, rf_rv, rf_ref, rf_cat, rf_lk2, rf_some, rf_none, w_add, w_cons, cr_int, cr_long, cr_ref, cr_null, is_ref, is_null, l2_int, l2_ref, l2_null, l2_none, ent_nil, ent_int, ent_ref, ent_null, ent_rf, ent_long, ok_0, ok_1, af_ret, af_void, List.tail_cons, List.tail_nil, Nat.reduceAdd, Nat.reduceLeDiff, not_false_eq_true, not_true_eq_false, and_self, and_true, true_and, ne_eq, or_true, true_or, or_false, false_or, eq_self, Nat.reduceEqDiff, ↓reduceIte, false_and, and_false, Nat.le_refl, Nat.zero_le, nz_1, nz_2, nz_3, nz_4, nz_5, nz_6, nz_8, nz_10, nz_12, nz_20, nz_30, nz_60, nz_100, mc_B, mc_Z, mc_S, mc_C, mc_K, mc_N, mc_R, mc_I, mc_L, va_Is, va_Ls, va_us, va_iss, u2_ap, sp_isLedge, sp_isLadder, sp_isPerson, sp_isLiving, sp_isLot, sp_isThere, sp_isSpan, cs_K q, cs_B q, mc_s (cs_inj q), cs_f43 q, r57_0, r57_1, r57_2, r57_5, cs_K q, cs_B q, mc_s (cs_inj q), cs_f36 q, cs_f39 q, r57_58, r57_59, r57_62, r57_63, r57_66, r57_67, r57_68, r57_69, r57_71, r57_72, adj_o, go, ne, k1, k2, eo, j1, j2, o2, Nat.reduceEqDiff]
    rw [e1, r57_74]
    simp only [ite_not, ite_self, w8_nil, ok01, ite10, rf_rv, rf_ref, rf_cat, rf_lk2, rf_some, rf_none, w_add, w_cons, cr_int, cr_long, cr_ref, cr_null, is_ref, is_null, l2_int, l2_ref, l2_null, l2_none, ent_nil, ent_int, ent_ref, ent_null, ent_rf, ent_long, ok_0, ok_1, af_ret, af_void, List.tail_cons, List.tail_nil, Nat.reduceAdd, Nat.reduceLeDiff, not_false_eq_true, not_true_eq_false, and_self, and_true, true_and, ne_eq, or_true, true_or, or_false, false_or, eq_self, Nat.reduceEqDiff, ↓reduceIte, false_and, and_false, Nat.le_refl, Nat.zero_le, nz_1, nz_2, nz_3, nz_4, nz_5, nz_6, nz_8, nz_10, nz_12, nz_20, nz_30, nz_60, nz_100, mc_B, mc_Z, mc_S, mc_C, mc_K, mc_N, mc_R, mc_I, mc_L, va_Is, va_Ls, va_us, va_iss, u2_ap, sp_isLedge, sp_isLadder, sp_isPerson, sp_isLiving, sp_isLot, sp_isThere, sp_isSpan, cs_K q, cs_B q, mc_s (cs_inj q), cs_f42 q, r57_76, r57_77, r57_80, cs_K q, cs_B q, mc_s (cs_inj q), cs_f40 q, r57_183, r57_184, r57_187, r57_188, r57_189, r57_190, r57_191, r57_192, r57_193, r57_194, r57_195, r57_196, r57_199, adj_o, adj_u, gb, cz, k1, k2, nat_succ, last, Nat.reduceEqDiff]
end C21
