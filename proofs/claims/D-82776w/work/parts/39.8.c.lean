/-! a cut -/
set_option maxRecDepth 100000
section ST9
variable {d : Nat} {h : xm_H} {D : xp_D} {F G : xp_F} {M : Nat}
theorem cutE_5 {i o k : Nat} {u a b : Int32} {S : Int32 × xp_F} (ho : o = 50 ∨ o = 51) : sp_cutE i u a b S o k = if k = i then -1 else S.2 o k := by
  unfold sp_cutE
  show xm_u2 (xm_u2 (xm_u2 (xm_u2 (xm_u2 (xm_u2 (xm_u2 (xm_u2 S.2 45 i _) 46 i _) 47 i a) 48 i b) 50 i (-1)) 51 i (-1)) 0 69 _) 41 _ _ o k = _
  rw [u2_ap, if_neg (by omega), u2_ap, if_neg (by omega)]
  rcases ho with e | e
  · subst e
    by_cases q : k = i
    · rw [if_pos q, u2_ap, if_neg (by omega), u2_ap, if_pos ⟨rfl, q⟩]
    · rw [if_neg q, u2_ap, if_neg (by omega), u2_ap, if_neg (by omega), u2_ap, if_neg (by omega), u2_ap, if_neg (by omega), u2_ap, if_neg (by omega), u2_ap, if_neg (by omega)]
  · subst e
    by_cases q : k = i
    · rw [if_pos q, u2_ap, if_pos ⟨rfl, q⟩]
    · rw [if_neg q, u2_ap, if_neg (by omega), u2_ap, if_neg (by omega), u2_ap, if_neg (by omega), u2_ap, if_neg (by omega), u2_ap, if_neg (by omega), u2_ap, if_neg (by omega)]
theorem setC_bit {i j : Nat} (hj : j < 32) : bit (sq_setC G i) j = true ↔ j < 12 ∧ ¬ G 52 (12 * i + j) ≤ 0 := by
  have g : ∀ (c k : Nat) (s : Int32), k + c = 12 → (bit s j = true ↔ j < k ∧ ¬ G 52 (12 * i + j) ≤ 0) → (bit (xp_it (sq_set1 G i) k c s) j = true ↔ j < 12 ∧ ¬ G 52 (12 * i + j) ≤ 0) := by
    intro c
    induction c with
    | zero =>
      intro k s hk hs
      have e : k = 12 := by omega
      rw [e] at hs
      exact hs
    | succ c ih =>
      intro k s hk hs
      show bit (xp_it (sq_set1 G i) (k + 1) c (sq_set1 G i k s)) j = true ↔ _
      refine ih (k + 1) _ (by omega) ?_
      unfold sq_set1
      by_cases q : G 52 (12 * i + k) ≤ 0
      · rw [if_pos q, Int32.or_zero, hs]
        refine Iff.intro (fun z => ⟨by omega, z.2⟩) (fun z => ⟨?_, z.2⟩)
        by_cases e : j = k
        · rw [e] at z
          exact absurd q z.2
        · omega
      · rw [if_neg q, bit_set (by omega) hj, Bool.or_eq_true, decide_eq_true_iff, hs]
        refine Iff.intro (fun z => ?_) (fun z => ?_)
        · rcases z with z | z
          · exact ⟨by omega, z.2⟩
          · rw [z]
            exact ⟨Nat.lt_succ_self _, q⟩
        · by_cases e : j = k
          · exact Or.inr e
          · exact Or.inl ⟨by omega, z.2⟩
  have g := g 12 0 0 (Nat.zero_add _) (by
    rw [bit_0]
    exact Iff.intro (fun z => by cases z) (fun z => absurd z.1 (Nat.not_lt_zero _)))
  exact g
theorem lo_rg {m u : Int32} : rg (sp_lo m u) 90 := by
  unfold sp_lo
  split
  · rename_i c
    split
    · rename_i c2
      exact rg_le c c2 rfl
    · exact ⟨by decide, by decide⟩
  · exact ⟨by decide, by decide⟩
theorem hi_rg {m u : Int32} (hm : 0 ≤ m.toInt ∧ m.toInt ≤ 300000) (hu : 0 < u.toInt ∧ u.toInt ≤ 30000) : rg (sp_hi m u) 90 := by
  unfold sp_hi
  have e1 : (10 * m).toInt = 10 * m.toInt := (ti_mul (a := 10) (by rw [show (10 : Int32).toInt = 10 from rfl]; omega)).trans (by rw [show (10 : Int32).toInt = 10 from rfl])
  have e2 : (10 * m + u).toInt = 10 * m.toInt + u.toInt := by rw [ti_add (by rw [e1]; omega), e1]
  have e3 : (10 * m + u - 1).toInt = 10 * m.toInt + u.toInt - 1 := by rw [ti_sub (b := 1) (by rw [e2, show (1 : Int32).toInt = 1 from rfl]; omega), e2, show (1 : Int32).toInt = 1 from rfl]
  have q0 : 0 ≤ (10 * m.toInt + u.toInt - 1) / u.toInt := Int.ediv_nonneg (by omega) (by omega)
  have q1 : (10 * m.toInt + u.toInt - 1) / u.toInt ≤ 10 * m.toInt + u.toInt - 1 := Int.ediv_le_self _ (by omega)
  have e4 : ((10 * m + u - 1) / u).toInt = (10 * m.toInt + u.toInt - 1) / u.toInt := by
    rw [Int32.toInt_div, e3, Int.tdiv_eq_ediv_of_nonneg (by omega)]
    exact Int.bmod_eq_of_le (by omega) (by omega)
  have e5 : ((10 * m + u - 1) / u + 5).toInt = (10 * m.toInt + u.toInt - 1) / u.toInt + 5 := by rw [ti_add (b := 5) (by rw [e4, show (5 : Int32).toInt = 5 from rfl]; omega), e4, show (5 : Int32).toInt = 5 from rfl]
  split
  · rename_i c
    have c2 := Int32.le_iff_toInt_le.mp c
    rw [show (90 : Int32).toInt = 90 from rfl] at c2
    exact ⟨by omega, c2⟩
  · exact ⟨by decide, by decide⟩
theorem mad_left {m c s : Int} (hm : 0 ≤ m) (h9 : m ≤ 9 * c) (hs : 0 ≤ s) (hc : 0 < c) : m - m * (c - s) / c ≤ 9 * s := by
  have h : m - 9 * s ≤ m * (c - s) / c := by
    refine (Int.le_ediv_iff_mul_le hc).mpr ?_
    have e : m * s ≤ 9 * c * s := Int.mul_le_mul_of_nonneg_right h9 hs
    have e1 : (m - 9 * s) * c = m * c - 9 * c * s := by rw [Int.sub_mul, Int.mul_assoc 9 s c, Int.mul_comm s c, ← Int.mul_assoc]
    have e2 : m * (c - s) = m * c - m * s := Int.mul_sub _ _ _
    omega
  omega
theorem if_cut (i : IF D F) (n12 : xd_n D 0 ≤ 12) (n16 : xd_n D 1 ≤ 16) (n40 : xd_n D 2 ≤ 40) (hm : ∀ i x y, i < xd_n D 2 → xd_m D i = some (x, y) → x < i ∧ y < i) {n : Nat} {L : Nat → Ln} {k c a b : Int32} (cc : sp_canCut F k c a b ∧ ¬ (sp_rows F n L k c a).2.2.2.length = 0) :
    IF (IDn (nxt D 2) (mxd D none)) (sp_cut F n L k c a b).2 ∧ ∀ o j, 14 ≤ o → o < 29 → (sp_cut F n L k c a b).2 o j = F o j := by
  have g := (@if_row D F i n12 n L k c a).1
  have gw := g.cw n12
  obtain ⟨cn, ⟨a1, a2, a3, a4⟩, hz, hf, ⟨hp1, hp2⟩, ht, hw, hh, hb, hr, ⟨l1, l2, l3⟩, ⟨lv, u1, u2, u3⟩, hy, pw, hs, hn, ti, hd⟩ := i
  have e1 := cn.2.2.1
  have et : (F 0 68).toNatClampNeg = xd_n D 2 := by rw [e1, tc_nat (by omega)]
  have nc : ¬ xd_n D 2 = 40 := fun z => cc.1.2.2.2.2.2.2 (by rw [e1, z]; rfl)
  have lb : b.toNatClampNeg < xd_n D 1 := cnt_lt cn.2.1 (by omega) cc.1.2.2.1.1
  have la : a.toNatClampNeg < xd_n D 1 := cnt_lt cn.2.1 (by omega) cc.1.2.1.1
  have inp : ∀ {x : Int32}, 0 ≤ x ∧ x ≤ F 0 61 - 1 → x.toNatClampNeg < xd_n D 1 → xm_in x (xd_n D 1) = true := fun {x} k1 k2 => by
    have z := Int32.le_iff_toInt_le.mp k1.1
    rw [show (0 : Int32).toInt = 0 from rfl] at z
    have k2 : x.toInt.toNat < xd_n D 1 := k2
    exact in_iff.mpr ⟨z, by omega⟩
  have ina := inp cc.1.2.1.1 la
  have inb := inp cc.1.2.2.1.1 lb
  have J := cuts_J n12 et g a3 _ (Nat.le_refl _)
  have hp12 : ∀ j, j < (sp_rows F n L k c a).2.2.2.length → nthr (sp_rows F n L k c a).2.2.2 j < 12 := fun j hj => by have := (g.1 j hj).1; omega
  have fr := fun {o x : Nat} (h1 : ¬ ctN o) (h2 : ¬ (o = 52 ∧ 12 * xd_n D 2 ≤ x ∧ x < 12 * xd_n D 2 + 12)) (h3 : ¬ o = 53) => cuts_fr (F := F) (st := sp_stays F n L) (c := sp_cutOf F n L) (i := xd_n D 2) (u := (sp_rows F n L k c a).1) hp12 h1 h2 h3 _ (Nat.le_refl _)
  unfold sp_cut
  rw [if_pos cc, et]
  have pos := cc.2
  generalize sp_rows F n L k c a = B at *
  obtain ⟨u, bm, bs, p⟩ := B
  have g : rowG D F (sp_stays F n L) (sp_cutOf F n L) u p := g
  have hp12 : ∀ j, j < p.length → nthr p j < 12 := hp12
  have pos : ¬ p.length = 0 := pos
  have J : cutJ D F (sp_stays F n L) (sp_cutOf F n L) p p.length (sp_cuts F (sp_stays F n L) (sp_cutOf F n L) (xd_n D 2) p (sp_cutC F u) p.length) := J
  have fr : ∀ {o x : Nat}, ¬ ctN o → ¬ (o = 52 ∧ 12 * xd_n D 2 ≤ x ∧ x < 12 * xd_n D 2 + 12) → ¬ o = 53 → (sp_cuts F (sp_stays F n L) (sp_cutOf F n L) (xd_n D 2) p (sp_cutC F u) p.length).2 o x = sp_cutC F u o x := fr
  show IF (IDn (nxt D 2) (mxd D none)) (sp_cutE (xd_n D 2) u a b (sp_cuts F (sp_stays F n L) (sp_cutOf F n L) (xd_n D 2) p (sp_cutC F u) p.length)) ∧ ∀ o j, 14 ≤ o → o < 29 → sp_cutE (xd_n D 2) u a b (sp_cuts F (sp_stays F n L) (sp_cutOf F n L) (xd_n D 2) p (sp_cutC F u) p.length) o j = F o j
  generalize sp_cuts F (sp_stays F n L) (sp_cutOf F n L) (xd_n D 2) p (sp_cutC F u) p.length = S at J fr ⊢
  obtain ⟨⟨j1, j2⟩, j3, j4, j5, j6, j7⟩ := J
  obtain ⟨g1, g2, g3, g4, g5⟩ := g
  have u0 : 0 < u.toInt ∧ u.toInt ≤ 25200 := by omega
  have hir : rg (sp_hi S.1 u) 90 := hi_rg ⟨j1, by omega⟩ ⟨u0.1, by omega⟩
  -- what stands
  have sU : ∀ o x, ¬ ctN o → ¬ (44 ≤ o ∧ o ≤ 54) → ¬ (o = 0 ∧ x = 68) → S.2 o x = F o x := fun o x h1 h2 h3 => by
    rw [fr h1 (by omega) (by omega), cutC_ap (by omega) (by omega) (by omega), if_neg (by omega), if_neg (by omega), if_neg (by omega), if_neg (by omega), if_neg (by omega)]
  have kU : ∀ o x, ¬ ctN o → ¬ o = 41 → ¬ (44 ≤ o ∧ o ≤ 54) → ¬ (o = 0 ∧ (x = 68 ∨ x = 69)) → sp_cutE (xd_n D 2) u a b S o x = F o x := fun o x h1 h2 h3 h4 => by
    rw [cutE_ap (by omega), if_neg (by omega), if_neg (by omega), if_neg (by omega), if_neg (by omega), if_neg (by omega), if_neg (by omega)]
    exact sU o x h1 h3 (by omega)
  have kc : ∀ o x, ctN o ∨ o = 52 ∨ o = 53 → sp_cutE (xd_n D 2) u a b S o x = S.2 o x := fun o x h1 => by
    rw [cutE_ap (by omega), if_neg (by omega), if_neg (by omega), if_neg (by omega), if_neg (by omega), if_neg (by omega), if_neg (by omega)]
  have k41 : ∀ x, ¬ x = b.toNatClampNeg → sp_cutE (xd_n D 2) u a b S 41 x = F 41 x := fun x hx => by
    rw [cutE_ap (by omega), if_neg (by omega), if_neg (by omega), if_neg (by omega), if_neg (by omega), if_neg (by omega), if_neg (by omega)]
    exact sU 41 x (by decide) (by decide) (by omega)
  have k68 : sp_cutE (xd_n D 2) u a b S 0 68 = F 0 68 + 1 := by
    rw [cutE_ap (by omega), if_neg (by omega), if_neg (by omega), if_neg (by omega), if_neg (by omega), if_neg (by omega), if_neg (by omega), fr (by decide) (by omega) (by decide), cutC_ap (by omega) (by omega) (by omega), if_neg (by omega), if_neg (by omega), if_neg (by omega), if_neg (by omega), if_pos ⟨rfl, rfl⟩]
  have k44 : ∀ x, sp_cutE (xd_n D 2) u a b S 44 x = if x = xd_n D 2 then u else F 44 x := fun x => by
    rw [cutE_ap (by omega), if_neg (by omega), if_neg (by omega), if_neg (by omega), if_neg (by omega), if_neg (by omega), if_neg (by omega), fr (by decide) (by omega) (by decide), cutC_ap (by omega) (by omega) (by omega), et, if_neg (by omega), if_neg (by omega), if_neg (by omega)]
    by_cases q : x = xd_n D 2
    · rw [if_pos q, if_pos ⟨q, rfl⟩]
    · rw [if_neg q, if_neg (fun z => q z.1), if_neg (by omega)]
  have k54 : ∀ x, sp_cutE (xd_n D 2) u a b S 54 x = if x = xd_n D 2 then 1 else F 54 x := fun x => by
    rw [cutE_ap (by omega), if_neg (by omega), if_neg (by omega), if_neg (by omega), if_neg (by omega), if_neg (by omega), if_neg (by omega), fr (by decide) (by omega) (by decide), cutC_ap (by omega) (by omega) (by omega), et, if_neg (by omega)]
    by_cases q : x = xd_n D 2
    · rw [if_pos q, if_pos ⟨q, rfl⟩]
    · rw [if_neg q, if_neg (fun z => q z.1), if_neg (by omega), if_neg (by omega), if_neg (by omega)]
  have kN : sp_cutE (xd_n D 2) u a b S 45 (xd_n D 2) = sp_lo S.1 u ∧ sp_cutE (xd_n D 2) u a b S 46 (xd_n D 2) = sp_hi S.1 u ∧ sp_cutE (xd_n D 2) u a b S 47 (xd_n D 2) = a ∧ sp_cutE (xd_n D 2) u a b S 48 (xd_n D 2) = b := by
    refine ⟨?_, ?_, ?_, ?_⟩
    · rw [cutE_ap (by omega)]
      simp only [Nat.reduceEqDiff, false_and, and_self, ↓reduceIte]
    · rw [cutE_ap (by omega)]
      simp only [Nat.reduceEqDiff, false_and, and_self, ↓reduceIte]
    · rw [cutE_ap (by omega)]
      simp only [Nat.reduceEqDiff, false_and, and_self, ↓reduceIte]
    · rw [cutE_ap (by omega)]
      simp only [Nat.reduceEqDiff, false_and, and_self, ↓reduceIte]
  have kO : ∀ o x, ¬ x = xd_n D 2 → 45 ≤ o ∧ o ≤ 49 → sp_cutE (xd_n D 2) u a b S o x = F o x := fun o x h1 h2 => by
    rw [cutE_ap (by omega), if_neg (by omega), if_neg (by omega), if_neg (by omega), if_neg (by omega), if_neg (by omega), if_neg (by omega), fr (by omega) (by omega) (by omega), cutC_ap (by omega) (by omega) (by omega), et, if_neg (by omega), if_neg (by omega), if_neg (by omega), if_neg (by omega), if_neg (by omega)]
  have k5 : ∀ o x, o = 50 ∨ o = 51 → sp_cutE (xd_n D 2) u a b S o x = if x = xd_n D 2 then -1 else F o x := fun o x ho => by
    rw [cutE_5 ho]
    by_cases q : x = xd_n D 2
    · rw [if_pos q, if_pos q]
    · rw [if_neg q, if_neg q, fr (by omega) (by omega) (by omega), cutC_ap (by omega) (by omega) (by omega), et, if_neg (by omega), if_neg (by omega), if_neg (by omega), if_neg (by omega), if_neg (by omega)]
  obtain ⟨kN1, kN2, kN3, kN4⟩ := kN
  generalize sp_cutE (xd_n D 2) u a b S = K at kU kc k41 k68 k44 k54 kN1 kN2 kN3 kN4 kO k5 ⊢
  refine ⟨?_, fun o j h1 h2 => kU o j (by omega) (by omega) (by omega) (by omega)⟩
  have e : K = fun o x => if ctN o ∨ o = 41 ∨ (44 ≤ o ∧ o ≤ 54) ∨ (o = 0 ∧ (x = 68 ∨ x = 69)) then K o x else F o x := by
    funext o x
    by_cases q : ctN o ∨ o = 41 ∨ (44 ≤ o ∧ o ≤ 54) ∨ (o = 0 ∧ (x = 68 ∨ x = 69))
    · rw [if_pos q]
    · rw [if_neg q]
      exact kU o x (by omega) (by omega) (by omega) (by omega)
  have nin : ∀ l, xd_n D 0 ≤ l → ¬ ∃ j, j < p.length ∧ nthr p j = l := fun l hl z => by
    obtain ⟨j, hj, e⟩ := z
    have := (g1 j hj).1
    omega
  have b1 : CN (IDn (nxt D 2) (mxd D none)) K := by
    refine ⟨(kU 0 6 (by decide) (by decide) (by decide) (by decide)).trans cn.1, (kU 0 61 (by decide) (by decide) (by decide) (by decide)).trans cn.2.1, ?_, (kU 0 83 (by decide) (by decide) (by decide) (by decide)).trans cn.2.2.2⟩
    show K 0 68 = Int32.ofNat (xd_n D 2 + 1)
    rw [k68, e1, nat_succ]
  have b2 : GI true (xd_n D 0) K := fun l hl => by
    show rg (K 5 l) 9 ∧ 0 ≤ (K 6 l).toInt ∧ (K 6 l).toInt ≤ 400 * (K 5 l).toInt ∧ 0 ≤ (K 7 l).toInt ∧ (K 7 l).toInt ≤ 9 * (K 6 l).toInt
    obtain ⟨f1, f2, f3, f4, f5⟩ := a3 l hl
    have f1 : rg (F 5 l) 9 := f1
    have f2 : 0 ≤ (F 6 l).toInt := f2
    have f3 : (F 6 l).toInt ≤ 400 * (F 5 l).toInt := f3
    have f4 : 0 ≤ (F 7 l).toInt := f4
    have f5 : (F 7 l).toInt ≤ 9 * (F 6 l).toInt := f5
    rw [kU 5 l (by decide) (by decide) (by decide) (by omega), kc 6 l (by decide), kc 7 l (by decide)]
    by_cases q : ∃ j, j < p.length ∧ nthr p j = l
    · obtain ⟨v1, v2, -, -⟩ := j3 l q
      obtain ⟨j, hj, ej⟩ := q
      obtain ⟨lt, ec, c1, c2⟩ := g1 j hj
      rw [ej] at ec c1 c2
      have s9 := f1.2
      obtain ⟨-, d2, d3, d4⟩ := l_md (m := F 7 l) (y := sp_cutOf F n L l) (c := F 6 l) ⟨f4, by omega⟩ (by omega) (by omega) (by omega) (by omega)
      have d2 : (sp_mad1 F (sp_cutOf F n L) l).toInt = (F 7 l).toInt * (sp_cutOf F n L l).toInt / (F 6 l).toInt := d2
      have d3 : 0 ≤ (sp_mad1 F (sp_cutOf F n L) l).toInt := d3
      have d4 : (sp_mad1 F (sp_cutOf F n L) l).toInt ≤ (F 7 l).toInt := d4
      have d5 : (F 7 l - sp_mad1 F (sp_cutOf F n L) l).toInt = (F 7 l).toInt - (sp_mad1 F (sp_cutOf F n L) l).toInt := ti_sub (by omega)
      have d6 := mad_left (m := (F 7 l).toInt) (c := (F 6 l).toInt) (s := (sp_stays F n L l).toInt) f4 f5 c2 (by omega)
      rw [← ec, ← d2] at d6
      rw [v1, v2, d5]
      exact ⟨f1, c2, by omega, by omega, d6⟩
    · obtain ⟨v1, v2, -, -⟩ := j4 l q
      rw [v1, v2]
      exact ⟨f1, f2, f3, f4, f5⟩
  have b3 : ivZ (IDn (nxt D 2) (mxd D none)) K := fun l h1 h2 => by
    have h1 : xd_n D 0 ≤ l := h1
    obtain ⟨v1, v2, v3, -⟩ := j4 l (nin l h1)
    rw [kc 6 l (by decide), kc 7 l (by decide), kc 12 l (by decide), kU 10 l (by decide) (by decide) (by decide) (by omega), kU 13 l (by decide) (by decide) (by decide) (by omega), v1, v2, v3]
    exact hz l h1 h2
  have b4 : ivP (IDn (nxt D 2) (mxd D none)) K := by
    refine ⟨fun l h1 => ?_, fun l h1 => ?_⟩
    · have h1 : xd_n D 1 ≤ l := h1
      rw [kU 40 l (by decide) (by decide) (by decide) (by omega), kU 42 l (by decide) (by decide) (by decide) (by omega), k41 l (by omega)]
      exact hp1 l h1
    · have h1 : l < xd_n D 1 := h1
      rw [kU 40 l (by decide) (by decide) (by decide) (by omega)]
      exact hp2 l h1
  have b5 : ivN K := fun l h2 => by
    rw [kc 12 l (by decide), kU 13 l (by decide) (by decide) (by decide) (by omega)]
    refine ⟨?_, (hn l h2).2⟩
    by_cases q : ∃ j, j < p.length ∧ nthr p j = l
    · rw [(j3 l q).2.2.1]
      exact Eq.refl true
    · rw [(j4 l q).2.2.1]
      exact (hn l h2).1
  have b6 : ivL (IDn (nxt D 2) (mxd D none)) K := by
    refine ⟨fun i hi => ?_, fun i hi => ?_, fun i hi => ?_⟩
    · have hi : i < xd_n D 2 + 1 := hi
      by_cases q : i = xd_n D 2
      · rw [q, kN1, kN2]
        exact ⟨lo_rg, hir⟩
      · rw [kO 45 i q (by decide), kO 46 i q (by decide)]
        exact l1 i (by omega)
    · have hi : i < xd_n D 2 + 1 := hi
      show match mxd D none i with
        | none => K 53 i = sq_setC K i
        | some (a, b) => K 53 i = K 53 a ||| K 53 b ∧ K 47 i = -1 ∧ K 48 i = -1
      unfold mxd
      by_cases q : i = xd_n D 2
      · rw [if_pos q, q]
        show K 53 (xd_n D 2) = sq_setC K (xd_n D 2)
        refine bit_ext fun j hj => Bool.eq_iff_iff.mpr ?_
        rw [setC_bit hj, kc 53 _ (by decide), kc 52 _ (by decide), j5 j hj]
        refine Iff.intro (fun z => ?_) (fun z => ?_)
        · have v := (j3 j z).2.2.2
          obtain ⟨x, hx, ex⟩ := z
          obtain ⟨lt, ec, c1, c2⟩ := g1 x hx
          rw [ex] at lt c1
          refine ⟨by omega, fun w => ?_⟩
          rw [v] at w
          have w := Int32.le_iff_toInt_le.mp w
          rw [show (0 : Int32).toInt = 0 from rfl] at w
          omega
        · false_or_by_contra
          rename_i q
          obtain ⟨-, -, -, v⟩ := j4 j q
          exact z.2 (by rw [v z.1]; exact Int32.le_refl _)
      · rw [if_neg q]
        have := l2 i (by omega)
        cases em : xd_m D i with
        | none =>
          rw [em] at this
          show K 53 i = sq_setC K i
          rw [kc 53 i (by decide), j6 i q, setC_cg (F := F) (fun l hl => ?_)]
          · exact this
          · rw [kc 52 _ (by decide), j7 _ (by omega)]
        | some y =>
          obtain ⟨x, y⟩ := y
          rw [em] at this
          obtain ⟨hx, hy'⟩ := hm i x y (by omega) em
          show K 53 i = K 53 x ||| K 53 y ∧ K 47 i = -1 ∧ K 48 i = -1
          rw [kc 53 i (by decide), kc 53 x (by decide), kc 53 y (by decide), j6 i q, j6 x (by omega), j6 y (by omega), kO 47 i q (by decide), kO 48 i q (by decide)]
          exact this
    · have hi : i < xd_n D 2 + 1 := hi
      show match mxd D none i with
        | none => K 50 i = -1 ∧ xm_in (K 47 i) (xd_n D 1) = true ∧ xm_in (K 48 i) (xd_n D 1) = true
        | some (a, b) => K 50 i = Int32.ofNat a ∧ K 51 i = Int32.ofNat b
      unfold mxd
      by_cases q : i = xd_n D 2
      · rw [if_pos q, q]
        refine ⟨?_, ?_, ?_⟩
        · rw [k5 50 _ (by decide), if_pos rfl]
        · rw [kN3]
          exact ina
        · rw [kN4]
          exact inb
      · rw [if_neg q]
        have := l3 i (by omega)
        rw [k5 50 i (by decide), k5 51 i (by decide), if_neg q, if_neg q, kO 47 i q (by decide), kO 48 i q (by decide)]
        exact this
  have b7 : ivU (IDn (nxt D 2) (mxd D none)) K := by
    refine ⟨fun i => if i = xd_n D 2 then 1 else lv i, fun i hi => ?_, fun i hi => ?_, ?_⟩
    · have hi : i < xd_n D 2 + 1 := hi
      show 1 ≤ (if i = xd_n D 2 then 1 else lv i) ∧ ∀ x y, mxd D none i = some (x, y) → (if x = xd_n D 2 then 1 else lv x) + (if y = xd_n D 2 then 1 else lv y) ≤ (if i = xd_n D 2 then 1 else lv i)
      unfold mxd
      by_cases q : i = xd_n D 2
      · rw [if_pos q, if_pos q]
        exact ⟨Nat.le_refl _, fun x y hxy => by cases hxy⟩
      · rw [if_neg q, if_neg q]
        refine ⟨(u1 i (by omega)).1, fun x y hxy => ?_⟩
        obtain ⟨hx, hy'⟩ := hm i x y (by omega) hxy
        rw [if_neg (by omega), if_neg (by omega)]
        exact (u1 i (by omega)).2 x y hxy
    · have hi : i < xd_n D 2 + 1 := hi
      show (if i = xd_n D 2 then 1 else lv i) ≤ 40 ∧ 0 < (K 44 i).toInt ∧ (K 44 i).toInt ≤ 25200 * ((if i = xd_n D 2 then 1 else lv i : Nat) : Int)
      rw [k44]
      by_cases q : i = xd_n D 2
      · rw [if_pos q, if_pos q]
        exact ⟨by omega, u0.1, by omega⟩
      · rw [if_neg q, if_neg q]
        exact u2 i (by omega)
    · show sumf (fun i => if K 54 i = 0 then 0 else if i = xd_n D 2 then 1 else lv i) (xd_n D 2) + (if K 54 (xd_n D 2) = 0 then 0 else if xd_n D 2 = xd_n D 2 then 1 else lv (xd_n D 2)) ≤ xd_n D 2 + 1
      have h1 : (if K 54 (xd_n D 2) = 0 then 0 else if xd_n D 2 = xd_n D 2 then 1 else lv (xd_n D 2)) ≤ 1 := by
        split
        · exact Nat.zero_le _
        · rw [if_pos rfl]
          exact Nat.le_refl _
      have h2 : sumf (fun i => if K 54 i = 0 then 0 else if i = xd_n D 2 then 1 else lv i) (xd_n D 2) = sumf (fun i => if F 54 i = 0 then 0 else lv i) (xd_n D 2) := sum_cg _ fun i hi => by
        have q : ¬ i = xd_n D 2 := by omega
        rw [k54, if_neg q, if_neg q]
      omega
  rw [e] at b1 b2 b3 b4 b5 b6 b7 ⊢
  exact ⟨b1, ⟨a1, a2, b2, a4⟩, b3, hf, b4, ht, hw, hh, hb, hr, b6, b7, hy, pw, hs, b5, ti, hd⟩
end ST9
