/-! the component's contracts, 7: days -/
set_option maxRecDepth 100000
section C7
variable {d : Nat} {h : xm_H} {D : xp_D} {F : xp_F} {b : Bool}
theorem GI.ag {n : Nat} {G : xp_F} (a : GI b n F) (h : ∀ l, l < n → G (nu b 3) l = F (nu b 3) l ∧ G (nu b 4) l = F (nu b 4) l ∧ G (nu b 8) l = F (nu b 8) l) : GI b n G := fun l hl => by
  obtain ⟨h1, h2, h3⟩ := h l hl
  rw [h1, h2, h3]
  exact a l hl
theorem grow_gi {n : Nat} {x : Int32} (hx : rg x 100000) (hg : GB F) (hi : GI b n F) : GB (sq_grow b n x F) ∧ GI b n (sq_grow b n x F) :=
  it_up (f := sq_grow1 b x) (n := n) (fun _ (G : xp_F) => GB G ∧ GI b n G) (fun k G hk hG => ⟨hG.1.grow1, hG.2.grows hk (hG.1 _ (bloom_lt hx)).1 (hG.1 _ (bloom_lt hx)).2⟩) n 0 F (Nat.zero_add _) ⟨hg, hi⟩
theorem chg_rg {l : Nat} {v y : Int32} : rg (sq_chg b F l v y) 9 := by
  have z : (0 : Int32).toInt = 0 := rfl
  have n : (9 : Int32).toInt = 9 := rfl
  unfold sq_chg
  split
  · exact ⟨by decide, by decide⟩
  · unfold rg
    rw [mx_ti, mn_ti]
    omega
/-- behind a season's end -/
def GZ (b : Bool) (n : Nat) (F : xp_F) : Prop := ∀ l, l < n → rg (F (nu b 3) l) 9 ∧ F (nu b 4) l = 0 ∧ F (nu b 8) l = 0
theorem GZ.gi {n : Nat} (a : GZ b n F) : GI b n F := fun l hl => by
  obtain ⟨h1, h2, h3⟩ := a l hl
  have z : (0 : Int32).toInt = 0 := rfl
  rw [h2, h3]
  have := h1.1
  exact ⟨h1, by omega, by omega, by omega, by omega⟩
theorem se1_at {l : Nat} : sq_se1 b l F (nu b 3) l = sq_chg b F l (F (nu b 3) l) (sq_by F b l) ∧ sq_se1 b l F (nu b 4) l = 0 ∧ sq_se1 b l F (nu b 8) l = 0 := by
  unfold sq_se1
  simp only [u2_ap, nn_1_3, nn_1_4, nn_1_5, nn_1_6, nn_1_7, nn_1_8, nn_1_9, nn_1_10, nn_3_1, nn_3_4, nn_3_5, nn_3_6, nn_3_7, nn_3_8, nn_3_9, nn_3_10, nn_4_1, nn_4_3, nn_4_5, nn_4_6, nn_4_7, nn_4_8, nn_4_9, nn_4_10, nn_5_1, nn_5_3, nn_5_4, nn_5_6, nn_5_7, nn_5_8, nn_5_9, nn_5_10, nn_6_1, nn_6_3, nn_6_4, nn_6_5, nn_6_7, nn_6_8, nn_6_9, nn_6_10, nn_7_1, nn_7_3, nn_7_4, nn_7_5, nn_7_6, nn_7_8, nn_7_9, nn_7_10, nn_8_1, nn_8_3, nn_8_4, nn_8_5, nn_8_6, nn_8_7, nn_8_9, nn_8_10, nn_9_1, nn_9_3, nn_9_4, nn_9_5, nn_9_6, nn_9_7, nn_9_8, nn_9_10, nn_10_1, nn_10_3, nn_10_4, nn_10_5, nn_10_6, nn_10_7, nn_10_8, nn_10_9, nz_1_0, nz_1_1, nz_1_2, nz_3_0, nz_3_1, nz_3_2, nz_4_0, nz_4_1, nz_4_2, nz_5_0, nz_5_1, nz_5_2, nz_6_0, nz_6_1, nz_6_2, nz_7_0, nz_7_1, nz_7_2, nz_8_0, nz_8_1, nz_8_2, nz_9_0, nz_9_1, nz_9_2, nz_10_0, nz_10_1, nz_10_2, and_self, false_and, ↓reduceIte]
theorem se1_ne {l o k : Nat} (h : ¬ k = l) : sq_se1 b l F o k = F o k := by
  unfold sq_se1
  simp only [u2_ap, h, and_false, ↓reduceIte]
theorem se_gz {n : Nat} : GZ b n (xp_it (sq_se1 b) 0 n F) := by
  have := it_up (f := sq_se1 b) (n := n) (fun k (G : xp_F) => GZ b k G) (fun k G hk hG l hl => by
    by_cases e : l = k
    · subst e
      obtain ⟨a1, a2, a3⟩ := @se1_at G b l
      rw [a1, a2, a3]
      exact ⟨chg_rg, rfl, rfl⟩
    · rw [se1_ne e, se1_ne e, se1_ne e]
      exact hG l (by omega)) n 0 F (Nat.zero_add _) (fun l hl => absurd hl (Nat.not_lt_zero _))
  exact this
theorem nearest_6 {n l : Nat} : sq_nearest b n F l = -1 ∨ ∃ j, j < n ∧ sq_nearest b n F l = Int32.ofNat j ∧ 6 ≤ F (nu b 3) j := by
  unfold sq_nearest
  refine it_up (f := sq_near b F l) (n := n) (fun _ x => x = -1 ∨ ∃ j, j < n ∧ x = Int32.ofNat j ∧ 6 ≤ F (nu b 3) j) (fun k x hk hx => ?_) n 0 (-1) (Nat.zero_add _) (Or.inl rfl)
  unfold sq_near
  split
  · rename_i c
    exact Or.inr ⟨k, hk, rfl, c.1⟩
  · exact hx
theorem sw_gz {n l : Nat} (hn : n ≤ 12) (hl : l < n) (a : GZ b n F) : GZ b n (sq_sw1 b n l F) := by
  unfold sq_sw1
  by_cases c : F (nu b 3) l = 0 ∧ ¬ sq_nearest b n F l = -1
  case neg =>
    rw [if_neg c]
    exact a
  rw [if_pos c]
  obtain ⟨j, hj, ej, h6⟩ := (@nearest_6 F b n l).resolve_left c.2
  have tj : (sq_nearest b n F l).toNatClampNeg = j := by rw [ej, tc_nat (by omega)]
  rw [tj]
  obtain ⟨⟨s1, s2⟩, -, -⟩ := a j hj
  have h6' := Int32.le_iff_toInt_le.mp h6
  rw [show (6 : Int32).toInt = 6 from rfl] at h6'
  have e2 : (F (nu b 3) j - 2).toInt = (F (nu b 3) j).toInt - 2 := by
    rw [ti_sub (by rw [show (2 : Int32).toInt = 2 from rfl]; omega)]
    rfl
  intro k hk
  obtain ⟨a1, a2, a3⟩ := a k hk
  simp only [u2_ap, nn_1_3, nn_1_4, nn_1_5, nn_1_6, nn_1_7, nn_1_8, nn_1_9, nn_1_10, nn_3_1, nn_3_4, nn_3_5, nn_3_6, nn_3_7, nn_3_8, nn_3_9, nn_3_10, nn_4_1, nn_4_3, nn_4_5, nn_4_6, nn_4_7, nn_4_8, nn_4_9, nn_4_10, nn_5_1, nn_5_3, nn_5_4, nn_5_6, nn_5_7, nn_5_8, nn_5_9, nn_5_10, nn_6_1, nn_6_3, nn_6_4, nn_6_5, nn_6_7, nn_6_8, nn_6_9, nn_6_10, nn_7_1, nn_7_3, nn_7_4, nn_7_5, nn_7_6, nn_7_8, nn_7_9, nn_7_10, nn_8_1, nn_8_3, nn_8_4, nn_8_5, nn_8_6, nn_8_7, nn_8_9, nn_8_10, nn_9_1, nn_9_3, nn_9_4, nn_9_5, nn_9_6, nn_9_7, nn_9_8, nn_9_10, nn_10_1, nn_10_3, nn_10_4, nn_10_5, nn_10_6, nn_10_7, nn_10_8, nn_10_9, nz_1_0, nz_1_1, nz_1_2, nz_3_0, nz_3_1, nz_3_2, nz_4_0, nz_4_1, nz_4_2, nz_5_0, nz_5_1, nz_5_2, nz_6_0, nz_6_1, nz_6_2, nz_7_0, nz_7_1, nz_7_2, nz_8_0, nz_8_1, nz_8_2, nz_9_0, nz_9_1, nz_9_2, nz_10_0, nz_10_1, nz_10_2, false_and, true_and, ↓reduceIte]
  by_cases e : k = l
  · rw [if_pos e]
    exact ⟨⟨by decide, by decide⟩, a2, a3⟩
  · rw [if_neg e]
    by_cases e3 : k = j
    · rw [if_pos e3]
      exact ⟨⟨by omega, by omega⟩, a2, a3⟩
    · rw [if_neg e3]
      exact ⟨a1, a2, a3⟩
theorem ends_gz {n : Nat} (hn : n ≤ 12) : GZ b n (sq_ends b n F) :=
  it_up (f := sq_sw1 b n) (n := n) (fun _ (G : xp_F) => GZ b n G) (fun k G hk hG => sw_gz hn hk hG) n 0 _ (Nat.zero_add _) se_gz
theorem no12 {o j : Nat} (ho : o = 1 ∨ o = 2) (hj : j ≤ 10) : ¬ o = nu b j := by
  have := @nu_ge b j hj
  omega
theorem ends_o {n o k : Nat} (h : ∀ j, 3 ≤ j → j ≤ 10 → ¬ o = nu b j) : sq_ends b n F o k = F o k := by
  unfold sq_ends
  refine it_inv (fun (G : xp_F) => G o k = F o k) (fun l G hG => (sqw_o (h 3 (by decide) (by decide))).trans hG) _ _ _ ?_
  exact it_inv (fun (G : xp_F) => G o k = F o k) (fun l G hG => (se1_o h).trans hG) _ _ _ rfl
theorem grow_o {n o k : Nat} {x : Int32} (h1 : ¬ o = nu b 4) (h2 : ¬ o = nu b 8) : sq_grow b n x F o k = F o k :=
  it_inv (fun (G : xp_F) => G o k = F o k) (fun l G hG => (grows_o h1 h2).trans hG) _ _ _ rfl
theorem GG.ends {n : Nat} (hn : n ≤ 12) : GG n (sq_ends true n F) := fun l hl => by
  have z := (@ends_gz F true n hn l hl).1.1
  have lo : ∀ o, (o = 10 ∨ o = 11) → ∀ (G : xp_F) c k, xp_it (sq_sw1 true n) k c G o l = G o l := fun o ho G c k => it_inv (fun (H : xp_F) => H o l = G o l) (fun k H hH => (sqw_o (show ¬ o = 5 by omega)).trans hH) _ _ _ rfl
  have se := it_up (f := sq_se1 true) (n := n) (fun k (G : xp_F) => ∀ l, l < k → 0 ≤ (G 10 l).toInt ∧ 0 ≤ (G 11 l).toInt) (fun k G hk hG l hl => by
    by_cases e : l = k
    · subst e
      have a1 : sq_se1 true l G 10 l = sq_chg true G l (G 10 l) (-2) := by
        unfold sq_se1
        simp only [u2_ap, nu, Nat.reduceEqDiff, false_and, and_self, ↓reduceIte]
      have a2 : sq_se1 true l G 11 l = mx 2 (sq_chg true G l (G 11 l) 1) := by
        unfold sq_se1
        simp only [u2_ap, nu, Nat.reduceEqDiff, false_and, and_self, ↓reduceIte]
      rw [a1, a2, mx_ti]
      have z2 : (2 : Int32).toInt = 2 := rfl
      exact ⟨chg_rg.1, by omega⟩
    · rw [se1_ne e, se1_ne e]
      exact hG l (by omega)) n 0 F (Nat.zero_add _) (fun l hl => absurd hl (Nat.not_lt_zero _)) l hl
  refine ⟨z, ?_, ?_⟩
  · show 0 ≤ (xp_it (sq_sw1 true n) 0 n _ 10 l).toInt
    rw [lo 10 (Or.inl rfl)]
    exact se.1
  · show 0 ≤ (xp_it (sq_sw1 true n) 0 n _ 11 l).toInt
    rw [lo 11 (Or.inr rfl)]
    exact se.2
/-! the date is left alone -/
theorem u2_sw0 {o k : Nat} {v w : Int32} (h : ¬ o = 0) : xm_u2 (xm_u2 F 0 0 v) o k w = xm_u2 (xm_u2 F o k w) 0 0 v := by
  funext a i
  simp only [u2_ap]
  by_cases e : a = o ∧ i = k
  · rw [if_pos e, if_neg (by omega), if_pos e]
  · rw [if_neg e, if_neg e]
theorem end1_d {l : Nat} {v : Int32} : sp_end1 l (xm_u2 F 0 0 v) = xm_u2 (sp_end1 l F) 0 0 v := by
  unfold sp_end1 sp_less
  simp only [u2_ap, u2_sw0, Nat.reduceEqDiff, false_and, not_false_eq_true, ↓reduceIte]
theorem rs1_d {l : Nat} {v : Int32} : sp_rs1 l (xm_u2 F 0 0 v) = xm_u2 (sp_rs1 l F) 0 0 v := by
  unfold sp_rs1
  simp only [u2_sw0, Nat.reduceEqDiff, not_false_eq_true]
theorem sw1_d {l : Nat} {v : Int32} : sp_sw1 l (xm_u2 F 0 0 v) = xm_u2 (sp_sw1 l F) 0 0 v := by
  have e1 : sp_near (xm_u2 F 0 0 v) l = sp_near F l := by
    funext o x
    unfold sp_near sp_apart
    simp only [u2_ap, Nat.reduceEqDiff, false_and, ↓reduceIte]
  have e2 : sp_nearest (xm_u2 F 0 0 v) l = sp_nearest F l := by
    unfold sp_nearest
    rw [e1]
    simp only [u2_ap, Nat.reduceEqDiff, and_false, ↓reduceIte]
  unfold sp_sw1 sp_swarm
  rw [e2]
  simp only [u2_ap, Nat.reduceEqDiff, false_and, ↓reduceIte]
  by_cases c1 : F 5 l = 0
  · rw [if_pos c1, if_pos c1]
    by_cases c2 : sp_nearest F l = -1
    · rw [if_pos c2, if_pos c2]
    · rw [if_neg c2, if_neg c2]
      simp only [u2_sw0, Nat.reduceEqDiff, not_false_eq_true]
  · rw [if_neg c1, if_neg c1]
theorem it_d {f : Nat → xp_F → xp_F} {v : Int32} (hf : ∀ l F, f l (xm_u2 F 0 0 v) = xm_u2 (f l F) 0 0 v) : ∀ c k F, xp_it f k c (xm_u2 F 0 0 v) = xm_u2 (xp_it f k c F) 0 0 v := by
  intro c
  induction c with
  | zero => intro _ _; rfl
  | succ c ih =>
    intro k F
    show xp_it f (k + 1) c (f k (xm_u2 F 0 0 v)) = xm_u2 (xp_it f (k + 1) c (f k F)) 0 0 v
    rw [hf, ih]
theorem ends_d {v : Int32} : sp_ends (xm_u2 F 0 0 v) = xm_u2 (sp_ends F) 0 0 v := by
  unfold sp_ends
  have e : xm_u2 F 0 0 v 0 6 = F 0 6 := by rw [u2_ap, if_neg (by decide)]
  rw [e, it_d (fun l F => end1_d), it_d (fun l F => sw1_d), it_d (fun l F => rs1_d)]
theorem day_59 {x : Int32} (h : rg x 100000) : (sp_day (x + 1) = 0) = (sp_day x = 59) := by
  have e1 := ti_add1 h (by decide)
  have e2 := day_ti (x := x) h.1
  have e3 := day_ti (x := x + 1) (by rw [e1]; have := h.1; omega)
  have h1 := h.1
  rw [e1] at e3
  apply propext
  constructor
  · intro z
    have := congrArg Int32.toInt z
    rw [e3, show (0 : Int32).toInt = 0 from rfl] at this
    apply i_eq
    rw [e2, show (59 : Int32).toInt = 59 from rfl]
    omega
  · intro z
    have := congrArg Int32.toInt z
    rw [e2, show (59 : Int32).toInt = 59 from rfl] at this
    apply i_eq
    rw [e3, show (0 : Int32).toInt = 0 from rfl]
    omega
/-- ledges, flowers, guesses, the date as they may be -/
def GD (n : Nat) (F : xp_F) : Prop := F 0 6 = Int32.ofNat n ∧ GB F ∧ GI true n F ∧ GG n F
theorem GD.goes {n : Nat} (hn : n ≤ 12) (hd : rg (F 0 0) 100000) (a : GD n F) : GD n (sp_goes F) := by
  obtain ⟨a1, a2, a3, a4⟩ := a
  obtain ⟨g2, g3⟩ := grow_gi hd a2 a3
  rw [grow_eq a1 hn] at g2 g3
  have g4 : GG n (sp_grow F) := fun l hl => by
    have o : ∀ o, (o = 5 ∨ o = 10 ∨ o = 11) → sp_grow F o l = F o l := fun o ho => by
      rw [← grow_eq a1 hn]
      exact grow_o (show ¬ o = 6 by omega) (show ¬ o = 7 by omega)
    rw [o 5 (by omega), o 10 (by omega), o 11 (by omega)]
    exact a4 l hl
  have g1 : sp_grow F 0 6 = Int32.ofNat n := grow_0.trans a1
  have dt : ∀ (G : xp_F) (v : Int32), GB G → GI true n G → GG n G → GB (xm_u2 G 0 0 v) ∧ GI true n (xm_u2 G 0 0 v) ∧ GG n (xm_u2 G 0 0 v) := fun G v h1 h2 h3 => by
    have u : ∀ o k, ¬ o = 0 → xm_u2 G 0 0 v o k = G o k := fun o k ho => by rw [u2_ap, if_neg (by omega)]
    refine ⟨h1.ag (fun o k ho => u o k (by omega)), h2.ag (fun l _ => ⟨u _ _ (by decide), u _ _ (by decide), u _ _ (by decide)⟩), fun l hl => ?_⟩
    rw [u _ _ (by decide), u _ _ (by decide), u _ _ (by decide)]
    exact h3 l hl
  refine ⟨goes_6.trans a1, ?_⟩
  unfold sp_goes
  split
  · rw [← ends_eq g1 hn g4]
    exact dt _ _ (g2.ag (fun o k ho => ends_o (fun j h1 h2 => no12 ho h2))) (ends_gz hn).gi (GG.ends hn)
  · exact dt _ _ g2 g3 g4
theorem c7s (q : CS h D) {n : Int32} (hr : rg n 60) (k : Nat) (G : xp_F) (t : List (Option Value)) (hk : k < n.toNatClampNeg) (hG : GD (xd_n D 0) G) (hd : rg (G 0 0) 10000) : xm_run (d + 5) 7 26 (some (.ref (xd_X D)) :: some (.int n) :: some (.int (Int32.ofNat k)) :: t) [] (xp_c h D G) = xm_run (d + 5) 7 26 (some (.ref (xd_X D)) :: some (.int n) :: some (.int (Int32.ofNat (k + 1))) :: t) [] (xp_c h D (sp_goes G)) := by
  have n12 := (cs_n q).1
  have hd' : rg (G 0 0) 100000 := ⟨hd.1, by have := hd.2; omega⟩
  obtain ⟨g1, g2, g3, g4⟩ := hG
  obtain ⟨i1, e1, c0, -, -⟩ := lp_k hr (by decide) hk
  have e2 := @c8 (d + 2) h D G true q g1 (G 0 0) hd' g2 g3
  rw [grow_eq g1 n12] at e2
  have g5 : GG (xd_n D 0) (sp_grow G) := fun l hl => by
    have o : ∀ o, (o = 5 ∨ o = 10 ∨ o = 11) → sp_grow G o l = G o l := fun o ho => by
      rw [← grow_eq g1 n12]
      exact grow_o (show ¬ o = 6 by omega) (show ¬ o = 7 by omega)
    rw [o 5 (by omega), o 10 (by omega), o 11 (by omega)]
    exact g4 l hl
  have g6 : sp_grow G 0 0 = G 0 0 := grow_0
  have e3 := @c11 d h D (xm_u2 (sp_grow G) 0 0 (G 0 0 + 1)) true q (by rw [u2_ap, if_neg (by decide)]; exact grow_0.trans g1)
  rw [ends_eq (by rw [u2_ap, if_neg (by decide)]; exact grow_0.trans g1) n12 (fun l hl => by rw [u2_ap, if_neg (by omega), u2_ap, if_neg (by omega), u2_ap, if_neg (by omega)]; exact g5 l hl), ends_d] at e3
  rw [show ra true = 0 from rfl] at e2 e3
  have j1 := day_59 hd'
  unfold sp_day at j1
  rw [r7_26]
  unfold sp_goes sp_day
  by_cases c1 : G 0 0 - G 0 0 / 60 * 60 = 59
  · simp only [ite_not, ite_self, w8_nil, ok01, ite10, rf_rv, rf_ref, rf_cat, rf_lk2, rf_some, rf_none, w_add, w_cons, cr_int, cr_long, cr_ref, cr_null, is_ref, is_null, l2_int, l2_ref, l2_null, l2_none, ent_nil, ent_int, ent_ref, ent_null, ent_rf, ent_long, ok_0, ok_1, af_ret, af_void, List.tail_cons, List.tail_nil, Nat.reduceAdd, Nat.reduceLeDiff, not_false_eq_true, not_true_eq_false, and_self, and_true, true_and, ne_eq, or_true, true_or, or_false, false_or, eq_self, Nat.reduceEqDiff, ↓reduceIte, false_and, and_false, Nat.le_refl, Nat.zero_le, nz_1, nz_2, nz_3, nz_4, nz_5, nz_6, nz_8, nz_10, nz_12, nz_20, nz_30, nz_60, nz_100, mc_B, mc_Z, mc_S, mc_C, mc_K, mc_N, mc_R, mc_I, mc_L, va_Is, va_Ls, va_us, va_iss, u2_ap, sp_isLedge, sp_isLadder, sp_isPerson, sp_isLiving, sp_isLot, sp_isThere, sp_isSpan, cs_K q, cs_B q, mc_s (cs_inj q), cs_f5 q, cs_f0 q, r7_27, r7_31, r7_32, r7_33, r7_36, r7_37, r7_40, r7_43, r7_44, r7_45, r7_48, r7_49, r7_50, r7_53, r7_54, r7_57, r7_59, r7_63, r7_64, r7_65, r7_68, r7_71, r7_74, r7_28, r7_60, c0, e2, g6, j1, c1, e3, nat_succ]
  · simp only [ite_not, ite_self, w8_nil, ok01, ite10, rf_rv, rf_ref, rf_cat, rf_lk2, rf_some, rf_none, w_add, w_cons, cr_int, cr_long, cr_ref, cr_null, is_ref, is_null, l2_int, l2_ref, l2_null, l2_none, ent_nil, ent_int, ent_ref, ent_null, ent_rf, ent_long, ok_0, ok_1, af_ret, af_void, List.tail_cons, List.tail_nil, Nat.reduceAdd, Nat.reduceLeDiff, not_false_eq_true, not_true_eq_false, and_self, and_true, true_and, ne_eq, or_true, true_or, or_false, false_or, eq_self, Nat.reduceEqDiff, ↓reduceIte, false_and, and_false, Nat.le_refl, Nat.zero_le, nz_1, nz_2, nz_3, nz_4, nz_5, nz_6, nz_8, nz_10, nz_12, nz_20, nz_30, nz_60, nz_100, mc_B, mc_Z, mc_S, mc_C, mc_K, mc_N, mc_R, mc_I, mc_L, va_Is, va_Ls, va_us, va_iss, u2_ap, sp_isLedge, sp_isLadder, sp_isPerson, sp_isLiving, sp_isLot, sp_isThere, sp_isSpan, cs_K q, cs_B q, mc_s (cs_inj q), cs_f5 q, cs_f0 q, r7_27, r7_31, r7_32, r7_33, r7_36, r7_37, r7_40, r7_43, r7_44, r7_45, r7_48, r7_49, r7_50, r7_53, r7_54, r7_57, r7_59, r7_63, r7_64, r7_65, r7_68, r7_71, r7_74, r7_28, r7_60, c0, e2, g6, j1, c1, nat_succ]
theorem c7 (q : CS h D) (hG : GD (xd_n D 0) F) (hd : rg (F 0 0) 2400) {n : Int32} : xm_met (d + 5) 7 [.ref (xd_X D), .int n] (xp_c h D F) = some (.inl (some (.int (sp_days F n).1)), xp_c h D (sp_days F n).2) := by
  have n12 := (cs_n q).1
  unfold xm_met sp_days
  by_cases c1 : 1 ≤ n ∧ n ≤ 60
  case neg =>
    simp only [ite_not, ite_self, w8_nil, ok01, ite10, rf_rv, rf_ref, rf_cat, rf_lk2, rf_some, rf_none, w_add, w_cons, cr_int, cr_long, cr_ref, cr_null, is_ref, is_null, l2_int, l2_ref, l2_null, l2_none, ent_nil, ent_int, ent_ref, ent_null, ent_rf, ent_long, ok_0, ok_1, af_ret, af_void, List.tail_cons, List.tail_nil, Nat.reduceAdd, Nat.reduceLeDiff, not_false_eq_true, not_true_eq_false, and_self, and_true, true_and, ne_eq, or_true, true_or, or_false, false_or, eq_self, Nat.reduceEqDiff, ↓reduceIte, false_and, and_false, Nat.le_refl, Nat.zero_le, nz_1, nz_2, nz_3, nz_4, nz_5, nz_6, nz_8, nz_10, nz_12, nz_20, nz_30, nz_60, nz_100, mc_B, mc_Z, mc_S, mc_C, mc_K, mc_N, mc_R, mc_I, mc_L, va_Is, va_Ls, va_us, va_iss, u2_ap, sp_isLedge, sp_isLadder, sp_isPerson, sp_isLiving, sp_isLot, sp_isThere, sp_isSpan, cs_K q, cs_B q, mc_s (cs_inj q), cs_f5 q, cs_f0 q, r7_0, r7_1, r7_2, r7_4, r7_10, r7_11, r7_14, r7_15, r7_16, r7_22, r7_23, r7_24, r7_25, r7_7, r7_19, c2, c1]
  have a1 := Int32.le_iff_toInt_le.mp c1.1
  have a2 := Int32.le_iff_toInt_le.mp c1.2
  rw [show (1 : Int32).toInt = 1 from rfl] at a1
  rw [show (60 : Int32).toInt = 60 from rfl] at a2
  have hr : rg n 60 := ⟨by omega, by omega⟩
  have d1 := hd.1
  have d2 := hd.2
  have ec : (F 0 0 + n < 2400) = (F 0 0 ≤ 2399 - n) := by
    apply propext
    rw [Int32.lt_iff_toInt_lt, Int32.le_iff_toInt_le, ti_add (by omega), ti_sub (by rw [show (2399 : Int32).toInt = 2399 from rfl]; omega), show (2400 : Int32).toInt = 2400 from rfl, show (2399 : Int32).toInt = 2399 from rfl]
    omega
  by_cases c3 : F 0 0 ≤ 2399 - n
  case neg =>
    simp only [ite_not, ite_self, w8_nil, ok01, ite10, rf_rv, rf_ref, rf_cat, rf_lk2, rf_some, rf_none, w_add, w_cons, cr_int, cr_long, cr_ref, cr_null, is_ref, is_null, l2_int, l2_ref, l2_null, l2_none, ent_nil, ent_int, ent_ref, ent_null, ent_rf, ent_long, ok_0, ok_1, af_ret, af_void, List.tail_cons, List.tail_nil, Nat.reduceAdd, Nat.reduceLeDiff, not_false_eq_true, not_true_eq_false, and_self, and_true, true_and, ne_eq, or_true, true_or, or_false, false_or, eq_self, Nat.reduceEqDiff, ↓reduceIte, false_and, and_false, Nat.le_refl, Nat.zero_le, nz_1, nz_2, nz_3, nz_4, nz_5, nz_6, nz_8, nz_10, nz_12, nz_20, nz_30, nz_60, nz_100, mc_B, mc_Z, mc_S, mc_C, mc_K, mc_N, mc_R, mc_I, mc_L, va_Is, va_Ls, va_us, va_iss, u2_ap, sp_isLedge, sp_isLadder, sp_isPerson, sp_isLiving, sp_isLot, sp_isThere, sp_isSpan, cs_K q, cs_B q, mc_s (cs_inj q), cs_f5 q, cs_f0 q, r7_0, r7_1, r7_2, r7_4, r7_10, r7_11, r7_14, r7_15, r7_16, r7_22, r7_23, r7_24, r7_25, r7_7, r7_19, c2, c1, ec, c3]
  obtain ⟨t, e, i1, i2⟩ := xp_loop (P := fun k G t => xm_run (d + 5) 7 26 (some (.ref (xd_X D)) :: some (.int n) :: some (.int (Int32.ofNat k)) :: t) [] (xp_c h D G)) (n := n.toNatClampNeg) (fun k (G : xp_F) => GD (xd_n D 0) G ∧ (G 0 0).toInt = (F 0 0).toInt + k) (f := fun _ => sp_goes) (fun k G t hk hi => by
    obtain ⟨-, -, -, -, kn⟩ := lp_k hr (by decide) hk
    have hd' : rg (G 0 0) 10000 := ⟨by omega, by omega⟩
    have hd2 : rg (G 0 0) 100000 := ⟨by omega, by omega⟩
    refine ⟨t, c7s q hr k G t hk hi.1 hd', hi.1.goes n12 hd2, ?_⟩
    rw [goes_d, ti_add1 hd2 (by decide)]
    omega) _ 0 F [] (Nat.zero_add _) ⟨hG, by omega⟩
  have c0 := (lp_end hr (by decide)).1
  rw [show Int32.ofNat 0 = (0 : Int32) from rfl] at e
  simp only [ite_not, ite_self, w8_nil, ok01, ite10, rf_rv, rf_ref, rf_cat, rf_lk2, rf_some, rf_none, w_add, w_cons, cr_int, cr_long, cr_ref, cr_null, is_ref, is_null, l2_int, l2_ref, l2_null, l2_none, ent_nil, ent_int, ent_ref, ent_null, ent_rf, ent_long, ok_0, ok_1, af_ret, af_void, List.tail_cons, List.tail_nil, Nat.reduceAdd, Nat.reduceLeDiff, not_false_eq_true, not_true_eq_false, and_self, and_true, true_and, ne_eq, or_true, true_or, or_false, false_or, eq_self, Nat.reduceEqDiff, ↓reduceIte, false_and, and_false, Nat.le_refl, Nat.zero_le, nz_1, nz_2, nz_3, nz_4, nz_5, nz_6, nz_8, nz_10, nz_12, nz_20, nz_30, nz_60, nz_100, mc_B, mc_Z, mc_S, mc_C, mc_K, mc_N, mc_R, mc_I, mc_L, va_Is, va_Ls, va_us, va_iss, u2_ap, sp_isLedge, sp_isLadder, sp_isPerson, sp_isLiving, sp_isLot, sp_isThere, sp_isSpan, cs_K q, cs_B q, mc_s (cs_inj q), cs_f5 q, cs_f0 q, r7_0, r7_1, r7_2, r7_4, r7_10, r7_11, r7_14, r7_15, r7_16, r7_22, r7_23, r7_24, r7_25, r7_7, r7_19, c2, c1, ec, c3, nz_1]
  rw [e, r7_26]
  simp only [ite_not, ite_self, w8_nil, ok01, ite10, rf_rv, rf_ref, rf_cat, rf_lk2, rf_some, rf_none, w_add, w_cons, cr_int, cr_long, cr_ref, cr_null, is_ref, is_null, l2_int, l2_ref, l2_null, l2_none, ent_nil, ent_int, ent_ref, ent_null, ent_rf, ent_long, ok_0, ok_1, af_ret, af_void, List.tail_cons, List.tail_nil, Nat.reduceAdd, Nat.reduceLeDiff, not_false_eq_true, not_true_eq_false, and_self, and_true, true_and, ne_eq, or_true, true_or, or_false, false_or, eq_self, Nat.reduceEqDiff, ↓reduceIte, false_and, and_false, Nat.le_refl, Nat.zero_le, nz_1, nz_2, nz_3, nz_4, nz_5, nz_6, nz_8, nz_10, nz_12, nz_20, nz_30, nz_60, nz_100, mc_B, mc_Z, mc_S, mc_C, mc_K, mc_N, mc_R, mc_I, mc_L, va_Is, va_Ls, va_us, va_iss, u2_ap, sp_isLedge, sp_isLadder, sp_isPerson, sp_isLiving, sp_isLot, sp_isThere, sp_isSpan, cs_K q, cs_B q, mc_s (cs_inj q), cs_f5 q, cs_f0 q, r7_27, r7_28, r7_77, r7_78, r7_81, c0]
end C7
