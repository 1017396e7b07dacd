/-! the model's contracts, 37: a cut -/
set_option maxRecDepth 100000
section M37
variable {d : Nat} {h : xm_H} {M : Nat} {F : xp_F}
theorem rw'.u2c {G : xp_F} (a : rw' F G) {o k : Nat} {v : Int32} : rw' (xm_u2 F o k v) (xm_u2 G o k v) := fun x y h1 h2 h3 => by
  rw [u2_ap, u2_ap, a x y h1 h2 h3]
theorem rw'.it {f g : Nat → xp_F → xp_F} (hf : ∀ k F G, rw' F G → rw' (f k F) (g k G)) : ∀ c k F G, rw' F G → rw' (xp_it f k c F) (xp_it g k c G)
  | 0, _, _, _, a => a
  | c + 1, k, F, G, a => rw'.it hf c (k + 1) _ _ (hf k F G a)
theorem rw'.comes {G : xp_F} (a : rw' F G) {n lo hi : Int32} : rw' (sp_comes F n lo hi) (sp_comes G n lo hi) := by
  unfold sp_comes sp_comes0
  rw [a 0 68 (by omega) (by decide) (by omega), a 0 0 (by omega) (by decide) (by omega)]
  exact rw'.it (f := fun l G => xm_u2 G 52 (12 * (F 0 68).toNatClampNeg + l) 0) (g := fun l G => xm_u2 G 52 (12 * (F 0 68).toNatClampNeg + l) 0) (fun k F G h => h.u2c) _ _ _ _ a.u2c.u2c.u2c.u2c.u2c.u2c
def sp_mad1 (F : xp_F) (c : Nat → Int32) (l : Nat) : Int32 := F 7 l * c l / F 6 l
def sp_cut1 (F : xp_F) (st c : Nat → Int32) (i l : Nat) (s : Int32 × xp_F) : Int32 × xp_F := (s.1 + sp_mad1 F c l,
    xm_u2 (xm_u2 (xm_u2 (xm_u2 (xm_u2 (xm_u2 s.2 7 l (F 7 l - sp_mad1 F c l)) 8 l (100 * st l / F 6 l)) 6 l (st l)) 12 l 1) 52 (12 * i + l) (c l)) 53 i (s.2 53 i ||| 1 <<< (Int32.ofNat l &&& 31)))
def sp_cuts (F : xp_F) (st c : Nat → Int32) (i : Nat) (p : List Nat) (C : xp_F) (k : Nat) : Int32 × xp_F := xp_up (fun q s => sp_cut1 F st c i (nthr p q) s) (0, C) k
def sp_cutC (F : xp_F) (u : Int32) : xp_F := xm_u2 (sp_comes F u 0 0) 53 (F 0 68).toNatClampNeg 0
def sp_lo (m u : Int32) : Int32 := if 0 ≤ 10 * m / u - 5 then (if 10 * m / u - 5 ≤ 90 then 10 * m / u - 5 else 90) else 0
def sp_hi (m u : Int32) : Int32 := if (10 * m + u - 1) / u + 5 ≤ 90 then (10 * m + u - 1) / u + 5 else 90
def sp_cutE (i : Nat) (u a b : Int32) (s : Int32 × xp_F) : xp_F := (fun G : xp_F => xm_u2 G 41 b.toNatClampNeg (G 41 b.toNatClampNeg + 1)) ((fun G : xp_F => xm_u2 G 0 69 (G 0 69 + u)) (xm_u2 (xm_u2 (xm_u2 (xm_u2 (xm_u2 (xm_u2 s.2 45 i (sp_lo s.1 u)) 46 i (sp_hi s.1 u)) 47 i a) 48 i b) 50 i (-1)) 51 i (-1)))
abbrev sp_canCut (F : xp_F) (k c a b : Int32) : Prop := (sp_isLadder F k ∧ (0 ≤ c ∧ c ≤ 15) ∧ sp_isPerson F a) ∧ sp_isLiving F a ∧ sp_isLiving F b ∧ ¬ a = b ∧ F 0 62 = a ∧ ¬ F 41 a.toNatClampNeg < F 15 0 ∧ ¬ F 0 68 = 40
def sp_cut (F : xp_F) (n : Nat) (L : Nat → Ln) (k c a b : Int32) : Int32 × xp_F := if sp_canCut F k c a b ∧ ¬ (sp_rows F n L k c a).2.2.2.length = 0 then
    (F 0 68, sp_cutE (F 0 68).toNatClampNeg (sp_rows F n L k c a).1 a b (sp_cuts F (sp_stays F n L) (sp_cutOf F n L) (F 0 68).toNatClampNeg (sp_rows F n L k c a).2.2.2 (sp_cutC F (sp_rows F n L k c a).1) (sp_rows F n L k c a).2.2.2.length)) else (-1, F)
/-- a row that can be cut -/
def CW (F : xp_F) (u : Int32) (p : List Nat) : Prop := (¬ p.length = 0 → ¬ u = 0) ∧ (∀ i, i < p.length → nthr p i < 12 ∧ ¬ F 6 (nthr p i) = 0) ∧ ∀ i j, i < j → j < p.length → ¬ nthr p i = nthr p j
/-- a cut under way: what is not yet cut is as it was -/
def cutI (F : xp_F) (p : List Nat) (i k : Nat) (G : xp_F) : Prop := (∀ j, k ≤ j → j < p.length → ∀ o, (o = 6 ∨ o = 7 ∨ o = 5) → G o (nthr p j) = F o (nthr p j)) ∧ ∀ o j, ¬ o = 7 → ¬ o = 8 → ¬ o = 6 → ¬ o = 12 → ¬ (44 ≤ o ∧ o ≤ 54) → ¬ (o = 0 ∧ j = 68) → G o j = F o j
theorem cuts_cw {st c : Nat → Int32} {i : Nat} {p : List Nat} {u : Int32} (hn : ∀ i j, i < j → j < p.length → ¬ nthr p i = nthr p j) : ∀ k, k ≤ p.length → cutI F p i k (sp_cuts F st c i p (sp_cutC F u) k).2
  | 0, _ => by
    have f : ∀ o j, ¬ (44 ≤ o ∧ o ≤ 54) → ¬ (o = 0 ∧ j = 68) → sp_cutC F u o j = F o j := by
      intro o j h1 h2
      unfold sp_cutC sp_comes sp_comes0
      rw [u2_ap, if_neg (by omega)]
      refine it_inv (fun (G : xp_F) => G o j = F o j) (fun k G h => ?_) _ _ _ ?_
      · show xm_u2 G 52 _ _ o j = _
        rw [u2_ap, if_neg (by omega)]
        exact h
      · rw [u2_ap, if_neg (by omega), u2_ap, if_neg (by omega), u2_ap, if_neg (by omega), u2_ap, if_neg (by omega), u2_ap, if_neg (by omega), u2_ap, if_neg (by omega)]
    exact ⟨fun j _ _ o ho => f o _ (by omega) (by omega), fun o j _ _ _ _ h1 h2 => f o j h1 h2⟩
  | k + 1, hk => by
    have ih := cuts_cw (st := st) (c := c) (i := i) (u := u) hn k (by omega)
    show cutI F p i (k + 1) (sp_cut1 F st c i (nthr p k) (sp_cuts F st c i p (sp_cutC F u) k)).2
    generalize sp_cuts F st c i p (sp_cutC F u) k = s at ih ⊢
    unfold sp_cut1
    refine ⟨fun j h1 h2 o ho => ?_, fun o j h1 h2 h3 h4 h5 h6 => ?_⟩
    · have ne := hn k j (by omega) h2
      show xm_u2 _ _ _ _ o (nthr p j) = _
      rw [u2_ap, if_neg (by omega), u2_ap, if_neg (by omega), u2_ap, if_neg (by omega), u2_ap, if_neg (by omega), u2_ap, if_neg (by omega), u2_ap, if_neg (by omega)]
      exact ih.1 j (by omega) h2 o ho
    · show xm_u2 _ _ _ _ o j = _
      rw [u2_ap, if_neg (by omega), u2_ap, if_neg (by omega), u2_ap, if_neg (by omega), u2_ap, if_neg (by omega), u2_ap, if_neg (by omega), u2_ap, if_neg (by omega)]
      exact ih.2 o j h1 h2 h3 h4 h5 h6
noncomputable def cuP (d : Nat) (h : xm_H) (M : Nat) (k c a b i : Int32) (q : Nat) (s : Int32 × xp_F) (t : List (Option Value)) : xm_V := xm_run (d + 9) 160 109 (some (.ref M) :: some (.int k) :: some (.int c) :: some (.int a) :: some (.int b) :: some (.int i) :: some (.int s.1) :: some (.int (Int32.ofNat q)) :: t) [] (xp_m h M s.2)
theorem c160s (q : MS h M) {n : Nat} {L : Nat → Ln} (hm : MR F 0 n L) {i : Nat} (i40 : i < 40) {p : List Nat} {u : Int32} (h7 : p.length ≤ 7) (hw : CW F u p) {k c a b : Int32} (j : Nat) (s : Int32 × xp_F) (t : List (Option Value)) (hj : j < p.length)
    (hs : s.1 = (sp_cuts F (sp_stays F n L) (sp_cutOf F n L) i p (sp_cutC F u) j).1 ∧ rw' (sp_cuts F (sp_stays F n L) (sp_cutOf F n L) i p (sp_cutC F u) j).2 s.2 ∧ s.2 0 57 = Int32.ofNat p.length ∧ s.2 0 58 = u ∧ ∀ x, x < p.length → s.2 38 x = Int32.ofNat (nthr p x)) :
    ∃ (s' : Int32 × xp_F) (t' : List (Option Value)), cuP d h M k c a b (Int32.ofNat i) j s t = cuP d h M k c a b (Int32.ofNat i) (j + 1) s' t' ∧
      s'.1 = (sp_cuts F (sp_stays F n L) (sp_cutOf F n L) i p (sp_cutC F u) (j + 1)).1 ∧ rw' (sp_cuts F (sp_stays F n L) (sp_cutOf F n L) i p (sp_cutC F u) (j + 1)).2 s'.2 ∧ s'.2 0 57 = Int32.ofNat p.length ∧ s'.2 0 58 = u ∧ ∀ x, x < p.length → s'.2 38 x = Int32.ofNat (nthr p x) := by
  obtain ⟨w1, w2, w3⟩ := hw
  have cw := cuts_cw (F := F) (st := sp_stays F n L) (c := sp_cutOf F n L) (i := i) (u := u) w3 j (by omega)
  have up : sp_cuts F (sp_stays F n L) (sp_cutOf F n L) i p (sp_cutC F u) (j + 1) = sp_cut1 F (sp_stays F n L) (sp_cutOf F n L) i (nthr p j) (sp_cuts F (sp_stays F n L) (sp_cutOf F n L) i p (sp_cutC F u) j) := rfl
  rw [up]
  generalize sp_cuts F (sp_stays F n L) (sp_cutOf F n L) i p (sp_cutC F u) j = S at hs cw ⊢
  obtain ⟨B, A⟩ := S
  obtain ⟨b', G⟩ := s
  have h1 : b' = B := hs.1
  subst h1
  have h2 : rw' A G := hs.2.1
  have h3 : G 0 57 = Int32.ofNat p.length := hs.2.2.1
  have h4 : G 0 58 = u := hs.2.2.2.1
  have h5 : ∀ x, x < p.length → G 38 x = Int32.ofNat (nthr p x) := hs.2.2.2.2
  have cw2 : ∀ o j, ¬ o = 7 → ¬ o = 8 → ¬ o = 6 → ¬ o = 12 → ¬ (44 ≤ o ∧ o ≤ 54) → ¬ (o = 0 ∧ j = 68) → A o j = F o j := cw.2
  have cw1 : ∀ o, (o = 6 ∨ o = 7 ∨ o = 5) → A o (nthr p j) = F o (nthr p j) := fun o ho => cw.1 j (Nat.le_refl _) hj o ho
  clear hs cw
  obtain ⟨l12, nz⟩ := w2 j hj
  have bj := h5 j hj
  generalize el : nthr p j = l at *
  have c0 := lt_nat hj (by omega)
  obtain ⟨i1, e1⟩ := in_nat (show j < 7 by omega) (by decide)
  obtain ⟨i2, e2⟩ := in_nat l12 (by decide)
  obtain ⟨i3, e3⟩ := in_nat i40 (by decide)
  obtain ⟨i4, e4⟩ := in_nat (show 12 * i + l < 480 by omega) (by decide)
  have x1 : (12 : Int32) * Int32.ofNat i = Int32.ofNat (12 * i) := nat_mul (a := 12)
  have x2 : Int32.ofNat (12 * i) + Int32.ofNat l = Int32.ofNat (12 * i + l) := nat_add
  have mA : MR A 0 n L := hm.gP (fun o j h1 h2 => cw2 o j (by omega) (by omega) (by omega) (by omega) (by omega) (by omega))
  have mG : MR G 0 n L := mA.gP (fun o j h1' h2' => h2 o j (by omega) (by omega) (by omega))
  obtain ⟨G2, m1, p1⟩ := @c140 (d + 3) h M G q 0 (Int32.ofNat l) ⟨by decide, by decide⟩ i2 n L mG
  have gA : ∀ o k, ¬ (32 ≤ o ∧ o ≤ 38) → ¬ o = 29 → ¬ (o = 0 ∧ 56 ≤ k ∧ k ≤ 60) → G o k = A o k := h2
  have hh : sp_has G l = sp_has F l := by
    funext z
    unfold sp_has
    rw [gA 0 0 (by omega) (by decide) (by omega), gA 0 1 (by omega) (by decide) (by omega), gA 4 l (by omega) (by decide) (by omega), gA 5 l (by omega) (by decide) (by omega), gA 6 l (by omega) (by decide) (by omega), cw2 0 0 (by decide) (by decide) (by decide) (by decide) (by omega) (by omega), cw2 0 1 (by decide) (by decide) (by decide) (by decide) (by omega) (by omega), cw2 4 l (by decide) (by decide) (by decide) (by decide) (by omega) (by omega), cw1 5 (by omega), cw1 6 (by omega)]
  have gc : G 6 l = F 6 l := (gA 6 l (by omega) (by decide) (by omega)).trans (cw1 6 (by omega))
  rw [e2, hh, gc, show sp_left (F 6 l) (sp_leaves (sp_has F l) L n) = sp_stays F n L l from rfl] at m1
  have y1 : G2 6 l = F 6 l := (p1.1 6 l (by decide)).trans gc
  have y2 : G2 7 l = F 7 l := (p1.1 7 l (by decide)).trans ((gA 7 l (by omega) (by decide) (by omega)).trans (cw1 7 (by omega)))
  have hr2 : rw' A G2 := h2.tr (rw'.pq p1)
  have y3 : G2 53 i = A 53 i := hr2 53 i (by omega) (by decide) (by omega)
  have ec : F 6 l - sp_stays F n L l = sp_cutOf F n L l := rfl
  have em : F 7 l * sp_cutOf F n L l / F 6 l = sp_mad1 F (sp_cutOf F n L) l := rfl
  have fin : ∀ (v1 v2 v3 v4 v5 v6 : Int32) (o' k' : Nat), (o' = 0 ∨ o' = 38) → xm_u2 (xm_u2 (xm_u2 (xm_u2 (xm_u2 (xm_u2 G2 7 l v1) 8 l v2) 6 l v3) 12 l v4) 52 (12 * i + l) v5) 53 i v6 o' k' = G2 o' k' := by
    intro v1 v2 v3 v4 v5 v6 o' k' ho
    rw [u2_ap, if_neg (by omega), u2_ap, if_neg (by omega), u2_ap, if_neg (by omega), u2_ap, if_neg (by omega), u2_ap, if_neg (by omega), u2_ap, if_neg (by omega)]
  refine ⟨(b' + sp_mad1 F (sp_cutOf F n L) l, xm_u2 (xm_u2 (xm_u2 (xm_u2 (xm_u2 (xm_u2 G2 7 l (F 7 l - sp_mad1 F (sp_cutOf F n L) l)) 8 l (100 * sp_stays F n L l / F 6 l)) 6 l (sp_stays F n L l)) 12 l 1) 52 (12 * i + l) (sp_cutOf F n L l)) 53 i (A 53 i ||| 1 <<< (Int32.ofNat l &&& 31))), some (.int (Int32.ofNat l)) :: some (.int (sp_stays F n L l)) :: some (.int (sp_cutOf F n L l)) :: some (.int (sp_mad1 F (sp_cutOf F n L) l)) :: t.tail.tail.tail.tail, ?_, rfl, hr2.u2c.u2c.u2c.u2c.u2c.u2c, ?_, ?_, fun x hx => ?_⟩
  · unfold cuP
    show xm_run (d + 9) 160 109 (some (.ref M) :: some (.int k) :: some (.int c) :: some (.int a) :: some (.int b) :: some (.int (Int32.ofNat i)) :: some (.int b') :: some (.int (Int32.ofNat j)) :: t) [] (xp_m h M G) = _
    rw [r160_109]
    simp only [ite_not, ite_self, w8_nil, ok01, ite10, rf_rv, rf_ref, rf_cat, rf_lk2, rf_some, rf_none, w_add, w_cons, cr_int, cr_long, cr_ref, cr_null, is_ref, is_null, l2_int, l2_ref, l2_null, l2_none, ent_nil, ent_int, ent_ref, ent_null, ent_rf, ent_long, ok_0, ok_1, af_ret, af_void, List.tail_cons, List.tail_nil, Nat.reduceAdd, Nat.reduceLeDiff, not_false_eq_true, not_true_eq_false, and_self, and_true, true_and, ne_eq, or_true, true_or, or_false, false_or, eq_self, Nat.reduceEqDiff, ↓reduceIte, false_and, and_false, Nat.le_refl, Nat.zero_le, nz_1, nz_2, nz_3, nz_4, nz_5, nz_6, nz_8, nz_10, nz_12, nz_20, nz_30, nz_60, nz_100, mp_B, mp_Z, mp_S, mp_C, mp_K, mp_N, mp_L, mp_R, mp_I, mp_I0, mp_s, mp_s0, u2_ap, sp_isLedge, sp_isLadder, sp_isPerson, sp_isLiving, sp_isLot, sp_isThere, sp_isSpan, ms_K q, ms_B q, ms_f65 q, ms_f19 q, ms_f80 q, ms_f55 q, ms_f10 q, ms_f11 q, ms_f12 q, ms_f16 q, ms_f79 q, ms_f72 q, ms_f73 q, ms_f74 q, ms_f75 q, ms_f77 q, ms_f78 q, r160_111, r160_112, r160_118, r160_119, r160_122, r160_124, r160_125, r160_127, r160_128, r160_129, r160_131, r160_134, r160_136, r160_137, r160_140, r160_142, r160_143, r160_145, r160_146, r160_148, r160_149, r160_152, r160_154, r160_155, r160_157, r160_158, r160_159, r160_162, r160_164, r160_165, r160_166, r160_168, r160_170, r160_172, r160_173, r160_175, r160_176, r160_179, r160_181, r160_182, r160_183, r160_185, r160_186, r160_187, r160_188, r160_191, r160_193, r160_195, r160_197, r160_198, r160_199, r160_202, r160_204, r160_205, r160_206, r160_207, r160_208, r160_211, r160_213, r160_215, r160_216, r160_217, r160_220, r160_222, r160_223, r160_223b, r160_224, r160_225, r160_228, r160_230, r160_232, r160_233, r160_235, r160_236, r160_238, r160_239, r160_240, r160_243, r160_245, r160_246, r160_247, r160_248, r160_250, r160_251, r160_252, r160_253, r160_256, r160_115, h3, c0, bj, i1, e1, i2, e2, i3, e3, i4, e4, x1, x2, m1, y1, y2, y3, nz, ec, em, nat_succ]
  · exact (fin (F 7 l - sp_mad1 F (sp_cutOf F n L) l) (100 * sp_stays F n L l / F 6 l) (sp_stays F n L l) 1 (sp_cutOf F n L l) (A 53 i ||| 1 <<< (Int32.ofNat l &&& 31)) _ _ (by omega)).trans ((p1.1 _ _ (by decide)).trans h3)
  · exact (fin (F 7 l - sp_mad1 F (sp_cutOf F n L) l) (100 * sp_stays F n L l / F 6 l) (sp_stays F n L l) 1 (sp_cutOf F n L l) (A 53 i ||| 1 <<< (Int32.ofNat l &&& 31)) _ _ (by omega)).trans ((p1.1 _ _ (by decide)).trans h4)
  · exact (fin (F 7 l - sp_mad1 F (sp_cutOf F n L) l) (100 * sp_stays F n L l / F 6 l) (sp_stays F n L l) 1 (sp_cutOf F n L l) (A 53 i ||| 1 <<< (Int32.ofNat l &&& 31)) _ _ (by omega)).trans ((p1.1 _ _ (by decide)).trans (h5 x hx))
end M37
