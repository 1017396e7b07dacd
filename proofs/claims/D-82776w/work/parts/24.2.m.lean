/-! the model's contracts, 28: a sale that is made -/
set_option maxRecDepth 100000
section M28
variable {d : Nat} {h : xm_H} {M : Nat} {F : xp_F}
def sp_sell1 (k : Nat) (G : xp_F) : xp_F := if G 62 k = -1 then G else
    (fun (p : Int32 × xp_F) => xm_u2 p.2 0 70 (G 0 70 + p.1)) (sp_pays 40 (G 60 k).toNatClampNeg (G 58 (G 62 k).toNatClampNeg * G 44 (G 60 k).toNatClampNeg)
      (xm_u2 (xm_u2 G 54 (G 60 k).toNatClampNeg 0) 59 (G 62 k).toNatClampNeg (G 59 (G 62 k).toNatClampNeg - G 44 (G 60 k).toNatClampNeg)))
def sp_sell (F : xp_F) : xp_F := xp_it sp_sell1 0 (sp_salesN F) (sp_sales F)
/-- what a sale leaves alone -/
def se (F G : xp_F) : Prop := ∀ o k, ¬ o = 54 → ¬ o = 59 → ¬ o = 42 → ¬ o = 55 → ¬ (o = 0 ∧ k = 70) → G o k = F o k
theorem se.rf : se F F := fun _ _ _ _ _ _ _ => rfl
theorem se.tr {G H : xp_F} (a : se F G) (b : se G H) : se F H := fun o k h1 h2 h3 h4 h5 => (b o k h1 h2 h3 h4 h5).trans (a o k h1 h2 h3 h4 h5)
theorem se.pp {G : xp_F} (a : pp F G) : se F G := fun o k _ _ h3 h4 _ => a o k h3 h4
theorem se.i {k : Nat} {v : Int32} : se F (xm_u2 F 54 k v) := fun o _ h1 _ _ _ _ => by rw [u2_ap, if_neg (fun z => h1 z.1)]
theorem se.t {k : Nat} {v : Int32} : se F (xm_u2 F 59 k v) := fun o _ _ h1 _ _ _ => by rw [u2_ap, if_neg (fun z => h1 z.1)]
theorem se.m {v : Int32} : se F (xm_u2 F 0 70 v) := fun o _ _ _ _ _ h1 => by rw [u2_ap, if_neg h1]
theorem sell1_se {k : Nat} {G : xp_F} (a : se F G) : se F (sp_sell1 k G) := by
  unfold sp_sell1
  split
  · exact a
  · exact a.tr ((se.i.tr se.t).tr ((se.pp (pays_pp _ _ _ _)).tr se.m))
abbrev fwP (o k : Nat) : Prop := (o = 0 ∧ (k = 6 ∨ k = 95)) ∨ o = 9 ∨ o = 17 ∨ o = 65 ∨ o = 44 ∨ o = 50 ∨ o = 51 ∨ o = 47 ∨ o = 48
theorem FW.ag {G : xp_F} (a : FW F) (p : ∀ o k, fwP o k → G o k = F o k) : FW G := by
  unfold FW
  rw [p 0 6 (by decide), p 0 95 (by decide), p 17 0 (by decide), p 17 1 (by decide), p 17 2 (by decide), p 17 3 (by decide)]
  refine ⟨a.1, a.2.1, fun l => ?_, fun l => ?_, a.2.2.2.2⟩
  · rw [p 9 l (by simp [fwP])]
    exact a.2.2.1 l
  · rw [p 65 l (by simp [fwP])]
    exact a.2.2.2.1 l
theorem LW.ag {G : xp_F} {i : Nat} (a : LW F i) (p : ∀ o k, fwP o k → G o k = F o k) : LW G i := by
  unfold LW
  rw [p 44 i (by simp [fwP]), p 50 i (by simp [fwP]), p 51 i (by simp [fwP]), p 47 i (by simp [fwP]), p 48 i (by simp [fwP])]
  exact a
theorem sq2.fw {G : xp_F} (a : sq2 F G) {o k : Nat} (p : fwP o k) : G o k = F o k := by
  refine a o k ?_ ?_ ?_ ?_ ?_ <;> intro e <;> simp [fwP] at p <;> omega
theorem se.fw {G : xp_F} (a : se F G) {o k : Nat} (p : fwP o k) : G o k = F o k := by
  refine a o k ?_ ?_ ?_ ?_ ?_ <;> intro e <;> simp [fwP] at p <;> omega
theorem c171s (q : MS h M) (hl : rg (F 0 68) 40) (hF : FW F) (hL : ∀ i, i < (F 0 68).toNatClampNeg → LW F i) (hs : ∀ k, k < sp_salesN F → nr (sp_sales F 62 k) 4) {s : Int32} (k : Nat) (G : xp_F) (t : List (Option Value)) (hk : k < sp_salesN F) (hG : se (sp_sales F) G) : ∃ t', xm_run (d + 41) 171 11 (some (.ref M) :: some (.int s) :: some (.int (Int32.ofNat k)) :: t) [] (xp_m h M G) = xm_run (d + 41) 171 11 (some (.ref M) :: some (.int s) :: some (.int (Int32.ofNat (k + 1))) :: t') [] (xp_m h M (sp_sell1 k G)) ∧ se (sp_sales F) (sp_sell1 k G) := by
  obtain ⟨n1, n2, n3⟩ := @sales_n F hl
  have c0 := lt_nat hk (by omega)
  obtain ⟨i1, e1⟩ := in_nat (show k < 8 by omega) (by decide)
  have g0 := hG 0 92 (by decide) (by decide) (by decide) (by decide) (by decide)
  rw [n2] at g0
  have g1 := hG 62 k (by decide) (by decide) (by decide) (by decide) (fun z => absurd z.1 (by decide))
  have g2 := hG 60 k (by decide) (by decide) (by decide) (by decide) (fun z => absurd z.1 (by decide))
  have n4 := n3 k hk
  rw [← g2] at n4
  have hv := hs k hk
  rw [← g1] at hv
  by_cases c1 : G 62 k = -1
  · refine ⟨t, ?_, sell1_se hG⟩
    rw [r171_11]
    unfold sp_sell1
    rw [if_pos c1]
    simp only [ite_not, ite_self, w8_nil, ok01, ite10, rf_rv, rf_ref, rf_cat, rf_lk2, rf_some, rf_none, w_add, w_cons, cr_int, cr_long, cr_ref, cr_null, is_ref, is_null, l2_int, l2_ref, l2_null, l2_none, ent_nil, ent_int, ent_ref, ent_null, ent_rf, ent_long, ok_0, ok_1, af_ret, af_void, List.tail_cons, List.tail_nil, Nat.reduceAdd, Nat.reduceLeDiff, not_false_eq_true, not_true_eq_false, and_self, and_true, true_and, ne_eq, or_true, true_or, or_false, false_or, eq_self, Nat.reduceEqDiff, ↓reduceIte, false_and, and_false, Nat.le_refl, Nat.zero_le, nz_1, nz_2, nz_3, nz_4, nz_5, nz_6, nz_8, nz_10, nz_12, nz_20, nz_30, nz_60, nz_100, mp_B, mp_Z, mp_S, mp_C, mp_K, mp_N, mp_L, mp_R, mp_I, mp_I0, mp_s, mp_s0, u2_ap, sp_isLedge, sp_isLadder, sp_isPerson, sp_isLiving, sp_isLot, sp_isThere, sp_isSpan, ms_K q, ms_B q, ms_f90 q, ms_f88 q, ms_f81 q, ms_f87 q, ms_f71 q, ms_f86 q, r171_12, r171_13, r171_19, r171_20, r171_23, r171_24, r171_25, r171_29, r171_16, r171_26, r171_98, r171_101, g0, c0, i1, e1, c1, nat_succ]
  have iv := hv.resolve_left c1
  obtain ⟨n5, n6⟩ := n4
  have n7 := in_iff.mp n5
  have n8 := Int32.lt_iff_toInt_lt.mp n6
  have n9 : (G 60 k).toNatClampNeg < (F 0 68).toNatClampNeg := by
    show (G 60 k).toInt.toNat < (F 0 68).toInt.toNat
    omega
  have n10 : (G 60 k).toNatClampNeg < 40 := by
    show (G 60 k).toInt.toNat < 40
    omega
  have eo : G 60 k = Int32.ofNat (G 60 k).toNatClampNeg := rg_nat (N := 40) ⟨n7.1, by omega⟩
  have ag : ∀ o k', fwP o k' → (xm_u2 (xm_u2 G 54 (G 60 k).toNatClampNeg 0) 59 (G 62 k).toNatClampNeg (G 59 (G 62 k).toNatClampNeg - G 44 (G 60 k).toNatClampNeg)) o k' = F o k' := fun o k' p => by
    rw [(hG.tr (se.i.tr se.t)).fw p, (sales_sq hl).fw p]
  have m1 := c172 (d := d) q 40 (G 60 k).toNatClampNeg (G 58 (G 62 k).toNatClampNeg * G 44 (G 60 k).toNatClampNeg) _ n10 n10 (hF.ag ag) (fun j hj => (hL j (by omega)).ag ag)
  rw [← eo] at m1
  refine ⟨some (.int (G 60 k)) :: t.tail, ?_, sell1_se hG⟩
  rw [r171_11]
  unfold sp_sell1
  rw [if_neg c1]
  simp only [ite_not, ite_self, w8_nil, ok01, ite10, rf_rv, rf_ref, rf_cat, rf_lk2, rf_some, rf_none, w_add, w_cons, cr_int, cr_long, cr_ref, cr_null, is_ref, is_null, l2_int, l2_ref, l2_null, l2_none, ent_nil, ent_int, ent_ref, ent_null, ent_rf, ent_long, ok_0, ok_1, af_ret, af_void, List.tail_cons, List.tail_nil, Nat.reduceAdd, Nat.reduceLeDiff, not_false_eq_true, not_true_eq_false, and_self, and_true, true_and, ne_eq, or_true, true_or, or_false, false_or, eq_self, Nat.reduceEqDiff, ↓reduceIte, false_and, and_false, Nat.le_refl, Nat.zero_le, nz_1, nz_2, nz_3, nz_4, nz_5, nz_6, nz_8, nz_10, nz_12, nz_20, nz_30, nz_60, nz_100, mp_B, mp_Z, mp_S, mp_C, mp_K, mp_N, mp_L, mp_R, mp_I, mp_I0, mp_s, mp_s0, u2_ap, sp_isLedge, sp_isLadder, sp_isPerson, sp_isLiving, sp_isLot, sp_isThere, sp_isSpan, ms_K q, ms_B q, ms_f90 q, ms_f88 q, ms_f81 q, ms_f87 q, ms_f71 q, ms_f86 q, r171_12, r171_13, r171_19, r171_20, r171_23, r171_24, r171_25, r171_29, r171_32, r171_33, r171_36, r171_37, r171_38, r171_39, r171_40, r171_43, r171_44, r171_45, r171_45b, r171_46, r171_47, r171_50, r171_51, r171_54, r171_55, r171_56, r171_57, r171_58, r171_59, r171_62, r171_63, r171_64, r171_65, r171_66, r171_67, r171_68, r171_71, r171_72, r171_73, r171_74, r171_77, r171_78, r171_81, r171_82, r171_83, r171_84, r171_85, r171_88, r171_89, r171_90, r171_91, r171_94, r171_95, r171_98, r171_101, r171_16, r171_26, g0, c0, i1, e1, c1, iv, n5, m1, nat_succ]
theorem c171 (q : MS h M) (hl : rg (F 0 68) 40) (hb : rg (F 0 83) 4) (hF : FW F) (hL : ∀ i, i < (F 0 68).toNatClampNeg → LW F i) (hs : ∀ k, k < sp_salesN F → nr (sp_sales F 62 k) 4) : xm_met (d + 41) 171 [.ref M] (xp_m h M F) = some (.inl (some (.int (sp_sales F 0 93))), xp_m h M (sp_sell F)) := by
  have e1 := @c169 (d + 31) h M F q hl hb
  rw [show d + 31 + 9 = d + 40 from rfl] at e1
  obtain ⟨n1, n2, n3⟩ := @sales_n F hl
  obtain ⟨t, e2, i2⟩ := xp_loop (P := fun k G t => xm_run (d + 41) 171 11 (some (.ref M) :: some (.int (sp_sales F 0 93)) :: some (.int (Int32.ofNat k)) :: t) [] (xp_m h M G)) (n := sp_salesN F) (fun _ G => se (sp_sales F) G) (f := sp_sell1) (fun k G t hk hG => c171s q hl hF hL hs k G t hk hG) _ 0 (sp_sales F) [] (Nat.zero_add _) se.rf
  rw [show Int32.ofNat 0 = (0 : Int32) from rfl, show xp_it sp_sell1 0 (sp_salesN F) (sp_sales F) = sp_sell F from rfl] at e2
  rw [show xp_it sp_sell1 0 (sp_salesN F) (sp_sales F) = sp_sell F from rfl] at i2
  have g0 := i2 0 92 (by decide) (by decide) (by decide) (by decide) (by decide)
  rw [n2] at g0
  have c0 : Int32.ofNat (sp_salesN F) ≤ Int32.ofNat (sp_salesN F) := Int32.le_refl _
  unfold xm_met
  simp only [ite_not, ite_self, w8_nil, ok01, ite10, rf_rv, rf_ref, rf_cat, rf_lk2, rf_some, rf_none, w_add, w_cons, cr_int, cr_long, cr_ref, cr_null, is_ref, is_null, l2_int, l2_ref, l2_null, l2_none, ent_nil, ent_int, ent_ref, ent_null, ent_rf, ent_long, ok_0, ok_1, af_ret, af_void, List.tail_cons, List.tail_nil, Nat.reduceAdd, Nat.reduceLeDiff, not_false_eq_true, not_true_eq_false, and_self, and_true, true_and, ne_eq, or_true, true_or, or_false, false_or, eq_self, Nat.reduceEqDiff, ↓reduceIte, false_and, and_false, Nat.le_refl, Nat.zero_le, nz_1, nz_2, nz_3, nz_4, nz_5, nz_6, nz_8, nz_10, nz_12, nz_20, nz_30, nz_60, nz_100, mp_B, mp_Z, mp_S, mp_C, mp_K, mp_N, mp_L, mp_R, mp_I, mp_I0, mp_s, mp_s0, u2_ap, sp_isLedge, sp_isLadder, sp_isPerson, sp_isLiving, sp_isLot, sp_isThere, sp_isSpan, ms_K q, ms_B q, ms_f90 q, ms_f88 q, ms_f81 q, ms_f87 q, ms_f71 q, ms_f86 q, r171_0, r171_1, r171_4, r171_5, r171_8, r171_9, r171_10, e1]
  rw [e2, r171_11]
  simp only [ite_not, ite_self, w8_nil, ok01, ite10, rf_rv, rf_ref, rf_cat, rf_lk2, rf_some, rf_none, w_add, w_cons, cr_int, cr_long, cr_ref, cr_null, is_ref, is_null, l2_int, l2_ref, l2_null, l2_none, ent_nil, ent_int, ent_ref, ent_null, ent_rf, ent_long, ok_0, ok_1, af_ret, af_void, List.tail_cons, List.tail_nil, Nat.reduceAdd, Nat.reduceLeDiff, not_false_eq_true, not_true_eq_false, and_self, and_true, true_and, ne_eq, or_true, true_or, or_false, false_or, eq_self, Nat.reduceEqDiff, ↓reduceIte, false_and, and_false, Nat.le_refl, Nat.zero_le, nz_1, nz_2, nz_3, nz_4, nz_5, nz_6, nz_8, nz_10, nz_12, nz_20, nz_30, nz_60, nz_100, mp_B, mp_Z, mp_S, mp_C, mp_K, mp_N, mp_L, mp_R, mp_I, mp_I0, mp_s, mp_s0, u2_ap, sp_isLedge, sp_isLadder, sp_isPerson, sp_isLiving, sp_isLot, sp_isThere, sp_isSpan, ms_K q, ms_B q, ms_f90 q, ms_f88 q, ms_f81 q, ms_f87 q, ms_f71 q, ms_f86 q, r171_12, r171_13, r171_16, r171_104, r171_105, g0, c0]
end M28
