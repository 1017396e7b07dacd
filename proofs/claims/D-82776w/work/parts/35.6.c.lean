/-! new customs come -/
set_option maxRecDepth 100000
section CUN
variable {d : Nat} {h h' h2 : xm_H} {D D' D2 : xp_D} {F G : xp_F} {z s : Nat}
theorem same_put {H : xm_H} (hI : ∀ a p x, xd_E D a p = some x → G x.1 x.2 = xm_I H a p) (hL : ∀ a p x, xd_L D a p = some x → (G x.1 x.2).toInt64 = xm_L H a p) : H = xp_c H D G := by
  have e1 : H.2.2.2.1 = fun a k => va_I (xd_E D a k) G (H.2.2.2.1 a k) := by
    funext a p
    cases e : xd_E D a p with
    | none => rfl
    | some x => exact (hI a p x e).symm
  have e2 : H.2.2.2.2.1 = fun a k => va_L (xd_L D a k) G (H.2.2.2.2.1 a k) := by
    funext a p
    cases e : xd_L D a p with
    | none => rfl
    | some x => exact (hL a p x e).symm
  exact congr (congrArg (fun x y => ((H.1, H.2.1, H.2.2.1, x, y, H.2.2.2.2.2) : xm_H)) e1) e2
theorem c87 {a : Nat} (hk : xm_K h a = 4) (hB : xm_B h ≤ a) (ha : ¬ a = xm_Z h) : xm_met (d + 1) 87 [.ref a] h = some (.inl none, xm_sI (xm_sR (xm_nw h 100 4 4) a 0 (some (xm_Z h))) a 2 20) := by
  have n4 : ¬ (4 : Int32) < 0 ∧ (4 : Int32).toNatClampNeg ≤ 100000 := by decide
  have e4 : (4 : Int32).toNatClampNeg = 4 := by decide
  unfold xm_met
  simp only [ite_not, ite_self, w8_nil, ok01, ite10, rf_rv, rf_ref, rf_cat, rf_lk2, rf_some, rf_none, w_add, w_cons, cr_int, cr_long, cr_ref, cr_null, is_ref, is_null, l2_int, l2_ref, l2_null, l2_none, ent_nil, ent_int, ent_ref, ent_null, ent_rf, ent_long, ok_0, ok_1, af_ret, af_void, List.tail_cons, List.tail_nil, Nat.reduceAdd, Nat.reduceLeDiff, not_false_eq_true, not_true_eq_false, and_self, and_true, true_and, ne_eq, or_true, true_or, or_false, false_or, eq_self, Nat.reduceEqDiff, ↓reduceIte, false_and, and_false, Nat.le_refl, Nat.zero_le, nz_1, nz_2, nz_3, nz_4, nz_5, nz_6, nz_8, nz_10, nz_12, nz_20, nz_30, nz_60, nz_100, g_K_sI, g_N_sI, g_B_sI, g_Z_sI, g_K_sL, g_N_sL, g_B_sL, g_Z_sL, g_K_sR, g_N_sR, g_B_sR, g_Z_sR, g_L_sI, g_R_sI, g_I_sL, g_R_sL, g_I_sR, g_L_sR, g_R_sRv, g_K_nw, g_N_nw, g_B_nw, g_Z_nw, h_R_nw, h_I_nw, h_L_nw, hk, hB, ha, n4, e4, r87_0, r87_1, r87_4, r87_5, r87_6, r87_8, r87_8n, r87_8v, r87_11, r87_12, r87_14, r87_17, ent_nil]
/-- customs r anew, and what of them is not told -/
def sp_cu2 (F : xp_F) (r : Nat) : xp_F := xm_u2 (xm_u2 (sp_cus F r) 101 r 0) 102 r 0
def nE18 (D : xp_D) (r zc : Nat) (a p : Nat) : Option (Nat × Nat) := if a = zc then enm cs_custom r p else if a = zc + 1 then (if p < 4 then some (17, 4 * r + p) else none) else if a = xd_A D 7 r ∨ a = xd_A D 8 r then none else xd_E D a p
def nD18 (D : xp_D) (r zc row : Nat) : xp_D := (D.1, nE18 D r zc, D.2.2.1, (fun k i => if k = 7 ∧ i = r then zc else if k = 8 ∧ i = r then zc + 1 else if k = 9 ∧ i = r then row else D.2.2.2.1 k i), D.2.2.2.2)
theorem cus_ap {r o k : Nat} (n1 : ¬ ((o = 15 ∨ o = 16) ∧ k = r)) (n2 : ¬ (o = 17 ∧ 4 * r ≤ k ∧ k < 4 * r + 4)) : sp_cus F r o k = F o k := by
  show xm_u2 (xm_u2 (xm_u2 (xm_u2 (xm_u2 (xm_u2 F 15 r 0) 16 r 20) 17 (4 * r + 0) 0) 17 (4 * r + 1) 0) 17 (4 * r + 2) 0) 17 (4 * r + 3) 0 o k = _
  rw [u2_ap, if_neg (by omega), u2_ap, if_neg (by omega), u2_ap, if_neg (by omega), u2_ap, if_neg (by omega), u2_ap, if_neg (by omega), u2_ap, if_neg (by omega)]
theorem cu2_ap {r o k : Nat} (n1 : ¬ ((o = 15 ∨ o = 16 ∨ o = 101 ∨ o = 102) ∧ k = r)) (n2 : ¬ (o = 17 ∧ 4 * r ≤ k ∧ k < 4 * r + 4)) : sp_cu2 F r o k = F o k := by
  unfold sp_cu2
  rw [u2_ap, if_neg (by omega), u2_ap, if_neg (by omega), cus_ap (by omega) n2]
theorem cu2_new {r : Nat} : sp_cu2 F r 15 r = 0 ∧ sp_cu2 F r 16 r = 20 ∧ sp_cu2 F r 101 r = 0 ∧ sp_cu2 F r 102 r = 0 ∧ ∀ k, k < 4 → sp_cu2 F r 17 (4 * r + k) = 0 := by
  have e : ∀ o k, sp_cu2 F r o k = xm_u2 (xm_u2 (xm_u2 (xm_u2 (xm_u2 (xm_u2 (xm_u2 (xm_u2 F 15 r 0) 16 r 20) 17 (4 * r + 0) 0) 17 (4 * r + 1) 0) 17 (4 * r + 2) 0) 17 (4 * r + 3) 0) 101 r 0) 102 r 0 o k := fun _ _ => rfl
  refine ⟨?_, ?_, ?_, ?_, fun k hk => ?_⟩
  · rw [e, u2_ap, if_neg (by omega), u2_ap, if_neg (by omega), u2_ap, if_neg (by omega), u2_ap, if_neg (by omega), u2_ap, if_neg (by omega), u2_ap, if_neg (by omega), u2_ap, if_neg (by omega), u2_ap, if_pos ⟨rfl, rfl⟩]
  · rw [e, u2_ap, if_neg (by omega), u2_ap, if_neg (by omega), u2_ap, if_neg (by omega), u2_ap, if_neg (by omega), u2_ap, if_neg (by omega), u2_ap, if_neg (by omega), u2_ap, if_pos ⟨rfl, rfl⟩]
  · rw [e, u2_ap, if_neg (by omega), u2_ap, if_pos ⟨rfl, rfl⟩]
  · rw [e, u2_ap, if_pos ⟨rfl, rfl⟩]
  · rw [e]
    simp only [u2_ap, Nat.reduceEqDiff, false_and, true_and, ↓reduceIte]
    by_cases k3 : k = 3
    · rw [if_pos (by omega)]
    rw [if_neg (by omega)]
    by_cases k2 : k = 2
    · rw [if_pos (by omega)]
    rw [if_neg (by omega)]
    by_cases k1 : k = 1
    · rw [if_pos (by omega)]
    rw [if_neg (by omega), if_pos (by omega)]
theorem nE_old {r zc a p : Nat} {x : Nat × Nat} (q : CS h D) (hr : r < 2) (h1 : ¬ a = zc) (h2 : ¬ a = zc + 1) (e : nE18 D r zc a p = some x) : xd_E D a p = some x ∧ ¬ a = xd_A D 7 r ∧ ¬ a = xd_A D 8 r ∧ ¬ ((x.1 = 15 ∨ x.1 = 16 ∨ x.1 = 101 ∨ x.1 = 102) ∧ x.2 = r) ∧ ¬ (x.1 = 17 ∧ 4 * r ≤ x.2 ∧ x.2 < 4 * r + 4) := by
  have qu := cs_U q hr
  have qu8 := cs_U8 q hr
  have qi := (cs_inj q).1
  unfold nE18 at e
  rw [if_neg h1, if_neg h2] at e
  by_cases c : a = xd_A D 7 r ∨ a = xd_A D 8 r
  · rw [if_pos c] at e
    cases e
  · rw [if_neg c] at e
    refine ⟨e, fun y => c (Or.inl y), fun y => c (Or.inr y), fun y => ?_, fun y => ?_⟩
    · obtain ⟨y1, y2⟩ := y
      rcases y1 with y1 | y1 | y1 | y1
      · have e2 : x = (15, r) := Prod.ext y1 y2
        rw [e2] at e
        exact c (Or.inl (qi _ _ _ _ _ e qu.2.2.2.1).1)
      · have e2 : x = (16, r) := Prod.ext y1 y2
        rw [e2] at e
        exact c (Or.inl (qi _ _ _ _ _ e qu.2.2.2.2.1).1)
      · have e2 : x = (101, r) := Prod.ext y1 y2
        rw [e2] at e
        exact c (Or.inl (qi _ _ _ _ _ e qu.2.2.2.2.2.1).1)
      · have e2 : x = (102, r) := Prod.ext y1 y2
        rw [e2] at e
        exact c (Or.inl (qi _ _ _ _ _ e qu.2.2.2.2.2.2.1).1)
    · obtain ⟨y1, y2, y3⟩ := y
      have e2 : x = (17, 4 * r + (x.2 - 4 * r)) := Prod.ext y1 (by show x.2 = _; omega)
      rw [e2] at e
      exact c (Or.inr (qi _ _ _ _ _ e (qu8 _ (by omega))).1)
theorem cu_mem : ∀ y ∈ cs_custom, y.2 = 15 ∨ y.2 = 16 ∨ y.2 = 101 ∨ y.2 = 102 := by decide
theorem nE_inj {r zc : Nat} (q : CS h D) (w : HW h D) (hr : r < 2) (hz : xm_Z h ≤ zc) {row : Nat} : xd_inj (nD18 D r zc row) := by
  have qi := cs_inj q
  have qu := cs_U q hr
  have qu8 := cs_U8 q hr
  have old : ∀ {a p : Nat} {x : Nat × Nat}, ¬ a = zc → ¬ a = zc + 1 → nE18 D r zc a p = some x → xd_E D a p = some x ∧ ¬ a = xd_A D 7 r ∧ ¬ a = xd_A D 8 r ∧ ¬ ((x.1 = 15 ∨ x.1 = 16 ∨ x.1 = 101 ∨ x.1 = 102) ∧ x.2 = r) ∧ ¬ (x.1 = 17 ∧ 4 * r ≤ x.2 ∧ x.2 < 4 * r + 4) := fun h1 h2 e => nE_old q hr h1 h2 e
  have at0 : ∀ {p : Nat} {x : Nat × Nat}, nE18 D r zc zc p = some x → enm cs_custom r p = some x := fun {p x} e => by
    unfold nE18 at e
    rw [if_pos rfl] at e
    exact e
  have at1 : ∀ {p : Nat} {x : Nat × Nat}, nE18 D r zc (zc + 1) p = some x → p < 4 ∧ x = (17, 4 * r + p) := fun {p x} e => by
    unfold nE18 at e
    rw [if_neg (by omega), if_pos rfl] at e
    by_cases c : p < 4
    · rw [if_pos c] at e
      exact ⟨c, (Option.some.inj e).symm⟩
    · rw [if_neg c] at e
      cases e
  have nm0 : ∀ {p : Nat} {x : Nat × Nat}, enm cs_custom r p = some x → (x.1 = 15 ∨ x.1 = 16 ∨ x.1 = 101 ∨ x.1 = 102) ∧ x.2 = r := fun e => ⟨cu_mem _ (enm_mem e).2, (enm_mem e).1⟩
  refine ⟨fun a p b t x e1 e2 => ?_, fun a p b t x e1 e2 => qi.2.1 a p b t x e1 e2, fun a p b t x e1 e2 => ?_⟩
  · have e1 : nE18 D r zc a p = some x := e1
    have e2 : nE18 D r zc b t = some x := e2
    by_cases a0 : a = zc
    · rw [a0] at e1 ⊢
      have m1 := at0 e1
      have n1 := nm0 m1
      by_cases b0 : b = zc
      · rw [b0] at e2 ⊢
        exact ⟨rfl, enm_inj (by decide) m1 (at0 e2)⟩
      · by_cases b1 : b = zc + 1
        · rw [b1] at e2
          have m2 := (at1 e2).2
          rw [m2] at n1
          exact absurd n1.1 (show ¬ (17 = 15 ∨ 17 = 16 ∨ 17 = 101 ∨ 17 = 102) by decide)
        · exact absurd n1 (old b0 b1 e2).2.2.2.1
    · by_cases a1 : a = zc + 1
      · rw [a1] at e1 ⊢
        obtain ⟨p4, m1⟩ := at1 e1
        by_cases b0 : b = zc
        · rw [b0] at e2
          have n2 := nm0 (at0 e2)
          rw [m1] at n2
          exact absurd n2.1 (show ¬ (17 = 15 ∨ 17 = 16 ∨ 17 = 101 ∨ 17 = 102) by decide)
        · by_cases b1 : b = zc + 1
          · rw [b1] at e2 ⊢
            obtain ⟨t4, m2⟩ := at1 e2
            have := congrArg Prod.snd (m1.symm.trans m2)
            have : 4 * r + p = 4 * r + t := this
            exact ⟨rfl, by omega⟩
          · have o := (old b0 b1 e2).2.2.2.2
            rw [m1] at o
            exact absurd ⟨rfl, by show 4 * r ≤ 4 * r + p; omega, by show 4 * r + p < 4 * r + 4; omega⟩ o
      · have o1 := old a0 a1 e1
        by_cases b0 : b = zc
        · rw [b0] at e2
          exact absurd (nm0 (at0 e2)) o1.2.2.2.1
        · by_cases b1 : b = zc + 1
          · rw [b1] at e2
            obtain ⟨t4, m2⟩ := at1 e2
            have o := o1.2.2.2.2
            rw [m2] at o
            exact absurd ⟨rfl, by show 4 * r ≤ 4 * r + t; omega, by show 4 * r + t < 4 * r + 4; omega⟩ o
          · exact qi.1 a p b t x o1.1 (old b0 b1 e2).1
  · have e1 : nE18 D r zc a p = some x := e1
    have e2 : xd_L D b t = some x := e2
    by_cases a0 : a = zc
    · rw [a0] at e1
      have m1 := at0 e1
      obtain ⟨n1, n2⟩ := nm0 m1
      rcases n1 with n1 | n1 | n1 | n1
      · rw [show x = (15, r) from Prod.ext n1 n2] at e2
        exact qi.2.2 _ _ _ _ _ qu.2.2.2.1 e2
      · rw [show x = (16, r) from Prod.ext n1 n2] at e2
        exact qi.2.2 _ _ _ _ _ qu.2.2.2.2.1 e2
      · rw [show x = (101, r) from Prod.ext n1 n2] at e2
        exact qi.2.2 _ _ _ _ _ qu.2.2.2.2.2.1 e2
      · rw [show x = (102, r) from Prod.ext n1 n2] at e2
        exact qi.2.2 _ _ _ _ _ qu.2.2.2.2.2.2.1 e2
    · by_cases a1 : a = zc + 1
      · rw [a1] at e1
        obtain ⟨p4, m1⟩ := at1 e1
        rw [m1] at e2
        exact qi.2.2 _ _ _ _ _ (qu8 p p4) e2
      · exact qi.2.2 _ _ _ _ _ (old a0 a1 e1).1 e2
end CUN
