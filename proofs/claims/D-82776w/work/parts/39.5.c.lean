/-! sale, days, a ledge comes -/
set_option maxRecDepth 100000
section ST6
variable {d : Nat} {h : xm_H} {D : xp_D} {F G : xp_F} {M : Nat}
theorem if_s2 (i : IF D F) (fr : sq2 F G) : IF D G := by
  have e : G = fun o k => if o = 60 ∨ o = 61 ∨ o = 62 ∨ o = 63 ∨ (o = 0 ∧ (k = 92 ∨ k = 93 ∨ k = 94)) then G o k else F o k := by
    funext o k
    by_cases c : o = 60 ∨ o = 61 ∨ o = 62 ∨ o = 63 ∨ (o = 0 ∧ (k = 92 ∨ k = 93 ∨ k = 94))
    · rw [if_pos c]
    · rw [if_neg c]
      exact fr o k (by omega) (by omega) (by omega) (by omega) (by omega)
  obtain ⟨cn, ha, hz, hf, hp, ht, hw, hh, hb, hr, hl, hu, hy, pw, hs, hn, ti, hd⟩ := i
  rw [e]
  exact ⟨cn, ha, hz, hf, hp, ht, hw, hh, hb, hr, hl, hu, hy, pw, hs, hn, ti, hd⟩
theorem if_ws (i : IF D F) : WS D F := by
  obtain ⟨cn, ha, hz, hf, hp, ht, hw, hh, hb, hr, hl, ⟨lv, u1, u2, u3⟩, hy, pw, hs, hn, ti, hd⟩ := i
  refine ⟨fun i hi => ?_, fun b hb => ?_⟩
  · obtain ⟨a1, a2, a3⟩ := u2 i hi
    omega
  · exact (hy b hb).1
theorem t_27 (iv : IV M h D F) {w : Int32} : RG M (d + 1000) h D F 55 168 [.int w] := st_same iv (fun _ q v => c55 (d := d + 989) q v.vis iv.n (if_ws iv.2.2)) (fun _ ms => c168 (d := d + 990) ms (iv.n.i iv.q) (iv.n.b iv.q)) (fun _ _ _ m => m.gP fun o k h1 h2 => sales_sq (iv.n.i iv.q) o k (by omega) (by omega) (by omega) (by omega) (by omega)) (if_s2 iv.2.2 (sales_sq (iv.n.i iv.q)))
/-- what days change -/
def dyF (n : Nat) (F G : xp_F) : Prop := (∀ o k, ¬ (o = 0 ∧ k = 0) → ¬ o = 5 → ¬ (((6 ≤ o ∧ o ≤ 8) ∨ (10 ≤ o ∧ o ≤ 13)) ∧ k < n) → G o k = F o k) ∧ (ivN F → ivN G)
theorem dyF.rf {n : Nat} : dyF n F F := ⟨fun _ _ _ _ _ => rfl, id⟩
theorem dyF.tr {n : Nat} {H : xp_F} (a : dyF n F G) (b : dyF n G H) : dyF n F H := ⟨fun o k h1 h2 h3 => (b.1 o k h1 h2 h3).trans (a.1 o k h1 h2 h3), b.2 ∘ a.2⟩
theorem dyF.u {n o k : Nat} {v : Int32} (h : o = 5 ∨ (((6 ≤ o ∧ o ≤ 8) ∨ (10 ≤ o ∧ o ≤ 11)) ∧ k < n)) : dyF n F (xm_u2 F o k v) := by
  refine ⟨fun x y h1 h2 h3 => by rw [u2_ap, if_neg (fun z => by omega)], fun i l hl => ?_⟩
  rw [u2_ap, if_neg (by omega), u2_ap, if_neg (by omega)]
  exact i l hl
theorem dyF.z {n o k : Nat} (h : (12 ≤ o ∧ o ≤ 13) ∧ k < n) : dyF n F (xm_u2 F o k 0) := by
  refine ⟨fun x y h1 h2 h3 => by rw [u2_ap, if_neg (fun z => by omega)], fun i l hl => ?_⟩
  have b0 : bl 0 := Eq.refl true
  rw [u2_ap, u2_ap]
  constructor
  · split
    · exact b0
    · exact (i l hl).1
  · split
    · exact b0
    · exact (i l hl).2
theorem dyF.it {n : Nat} {f : Nat → xp_F → xp_F} (hf : ∀ k G, k < n → dyF n G (f k G)) : dyF n F (xp_it f 0 n F) :=
  it_up (f := f) (n := n) (fun _ G => dyF n F G) (fun k G hk a => a.tr (hf k G hk)) n 0 F (Nat.zero_add _) dyF.rf
theorem dy_goes {n : Nat} (hn : n ≤ 12) (e6 : F 0 6 = Int32.ofNat n) : dyF n F (sp_goes F) := by
  have tn : ∀ {G : xp_F}, G 0 6 = F 0 6 → (G 0 6).toNatClampNeg = n := fun {G} e => by rw [e, e6, tc_nat (by omega)]
  have g1 : dyF n F (sp_grow F) := by
    unfold sp_grow
    rw [tn rfl]
    refine dyF.it fun k G hk => ?_
    unfold sp_grow1
    split
    · exact (dyF.u (by omega)).tr (dyF.u (by omega))
    · exact dyF.rf
  have g2 : dyF n (sp_grow F) (sp_ends (sp_grow F)) := by
    unfold sp_ends
    rw [tn grow_0]
    refine dyF.tr (dyF.it fun k G hk => ?_) (dyF.tr (dyF.it fun k G hk => ?_) (dyF.it fun k G hk => ?_))
    · unfold sp_end1
      exact (dyF.u (by omega)).tr ((dyF.u (by omega)).tr ((dyF.u (by omega)).tr (dyF.u (by omega))))
    · unfold sp_sw1
      split
      · unfold sp_swarm
        split
        · exact dyF.rf
        · exact (dyF.u (by omega)).tr (dyF.u (by omega))
      · exact dyF.rf
    · unfold sp_rs1
      exact (dyF.u (by omega)).tr ((dyF.u (by omega)).tr ((dyF.u (by omega)).tr ((dyF.z (by omega)).tr (dyF.z (by omega)))))
  have dt : ∀ {G : xp_F} {v : Int32}, dyF n G (xm_u2 G 0 0 v) := fun {G v} => ⟨fun x y h1 h2 h3 => by rw [u2_ap, if_neg h1], fun i => i⟩
  unfold sp_goes
  split
  · exact (g1.tr g2).tr dt
  · exact g1.tr dt
theorem if_dy (i : IF D F) (n12 : xd_n D 0 ≤ 12) (f : dyF (xd_n D 0) F G) (g : GD (xd_n D 0) G) (dt : rg (G 0 0) 2400) : IF D G := by
  have e : G = fun o k => if (o = 0 ∧ k = 0) ∨ o = 5 ∨ (((6 ≤ o ∧ o ≤ 8) ∨ (10 ≤ o ∧ o ≤ 13)) ∧ k < xd_n D 0) then G o k else F o k := by
    funext o k
    by_cases c : (o = 0 ∧ k = 0) ∨ o = 5 ∨ (((6 ≤ o ∧ o ≤ 8) ∨ (10 ≤ o ∧ o ≤ 13)) ∧ k < xd_n D 0)
    · rw [if_pos c]
    · rw [if_neg c]
      exact f.1 o k (by omega) (by omega) (by omega)
  obtain ⟨cn, ha, hz, hf, hp, ht, hw, hh, hb, hr, hl, hu, hy, pw, hs, hn, ti, hd⟩ := i
  have b1 : ivA D G := ⟨dt, g.2⟩
  have bz : ivZ D G := fun l h1 h2 => by
    rw [f.1 6 l (by omega) (by omega) (by omega), f.1 7 l (by omega) (by omega) (by omega), f.1 10 l (by omega) (by omega) (by omega), f.1 12 l (by omega) (by omega) (by omega), f.1 13 l (by omega) (by omega) (by omega)]
    exact hz l h1 h2
  have bn : ivN G := f.2 hn
  rw [e] at b1 bz bn ⊢
  exact ⟨cn, b1, bz, hf, hp, ht, hw, hh, hb, hr, hl, hu, hy, pw, hs, bn, ti, hd⟩
theorem days_I (n12 : xd_n D 0 ≤ 12) (g : GD (xd_n D 0) F) (hd : rg (F 0 0) 2400) {c : Nat} (hc : (F 0 0).toInt + c ≤ 2400) : dyF (xd_n D 0) F (xp_it (fun _ => sp_goes) 0 c F) ∧ GD (xd_n D 0) (xp_it (fun _ => sp_goes) 0 c F) ∧ (xp_it (fun _ => sp_goes) 0 c F 0 0).toInt = (F 0 0).toInt + c := by
  obtain ⟨h0, h1⟩ := hd
  refine it_up (f := fun _ => sp_goes) (n := c) (fun k G => dyF (xd_n D 0) F G ∧ GD (xd_n D 0) G ∧ (G 0 0).toInt = (F 0 0).toInt + k) (fun k G hk a => ?_) c 0 F (Nat.zero_add _) ⟨dyF.rf, g, (Int.add_zero _).symm⟩
  obtain ⟨a1, a2, a3⟩ := a
  have r : rg (G 0 0) 100000 := ⟨by omega, by omega⟩
  refine ⟨a1.tr (dy_goes n12 a2.1), a2.goes n12 r, ?_⟩
  rw [goes_d, ti_add1 r (by decide), a3]
  omega
theorem if_days (i : IF D F) (n12 : xd_n D 0 ≤ 12) {n : Int32} : IF D (sp_days F n).2 ∧ ∀ r m L, MR F r m L → MR (sp_days F n).2 r m L := by
  unfold sp_days
  split
  case isFalse => exact ⟨i, fun _ _ _ m => m⟩
  case isTrue c =>
  have ha := i.2.1
  have n60 : rg n 60 := rg_le (Int32.le_trans (by decide) c.1.1) c.1.2 rfl
  have t := rg_tc n60
  have le := Int32.le_iff_toInt_le.mp c.2
  have hn2 := n60.2
  have hn1 := n60.1
  rw [ti_sub (by rw [show (2399 : Int32).toInt = 2399 from rfl]; omega), show (2399 : Int32).toInt = 2399 from rfl] at le
  have d0 := ha.1.1
  obtain ⟨a1, a2, a3⟩ := days_I (F := F) n12 ⟨i.1.1, ha.2⟩ ha.1 (c := n.toNatClampNeg) (by omega)
  have dt : rg (xp_it (fun _ => sp_goes) 0 n.toNatClampNeg F 0 0) 2400 := ⟨by omega, by omega⟩
  exact ⟨if_dy i n12 a1 a2 dt, fun r m L k => k.gP fun o j h1 h2 => a1.1 o j (by omega) (by omega) (by omega)⟩
theorem t_4 (iv : IV M h D F) {n : Int32} : RG M (d + 1000) h D F 7 97 [.int n] := st_same iv (fun _ q _ => c7 (d := d + 995) q ⟨iv.n.1, iv.2.2.2.1.2⟩ iv.2.2.2.1.1) (fun _ ms => c97 (d := d + 995) ms (iv.n.l iv.q) iv.2.2.2.1.1) (if_days iv.2.2 (cs_n iv.q).1).2 (if_days iv.2.2 (cs_n iv.q).1).1
/-- a ledge more -/
theorem if_ledge (i : IF D F) (n12 : xd_n D 0 ≤ 12) (n16 : xd_n D 1 ≤ 16) {c y s f : Int32} (k : okL F c y s f) : IF (IDn (nxt D 0) (xd_m D)) (mrg (sp_ledC F c y s f) (sp_ledge F c y s f).2) := by
  obtain ⟨cn, ⟨a1, a2, a3, a4⟩, hz, hf, hp, ⟨tc, T, tp, td⟩, hw, hh, ⟨B, hb⟩, hr, hl, hu, hy, pw, hs, hn, ti, hd⟩ := i
  have e1 := cn.1
  have et : (F 0 6).toNatClampNeg = xd_n D 0 := by rw [e1, tc_nat (by omega)]
  have eq1 : F 0 6 + 1 = Int32.ofNat (xd_n D 0 + 1) := by rw [e1, nat_succ]
  have nc : ¬ xd_n D 0 = 12 := fun z => k.2.2.2.2.1 (by rw [e1, z]; rfl)
  obtain ⟨z1, z2, z3, z4, z5⟩ := hz (xd_n D 0) (Nat.le_refl _) (by omega)
  have hiO : ∀ o j, ¬ o ≤ 70 → (o < 90 ∨ 100 < o ∨ ¬ j = xd_n D 0) → mrg (sp_ledC F c y s f) (sp_ledge F c y s f).2 o j = F o j := fun o j h1 h2 => by
    rw [mrg_hi h1]
    unfold sp_ledC sp_trl sp_ledge
    rw [if_pos k, if_pos k, if_neg (by rw [et]; omega)]
    show xm_u2 (xm_u2 (xm_u2 (xm_u2 (xm_u2 (xm_u2 (xm_u2 F 3 _ c) 4 _ y) 5 _ s) 9 _ f) 8 _ 100) 11 _ 9) 0 6 _ o j = _
    rw [u2_ap, if_neg (by omega), u2_ap, if_neg (by omega), u2_ap, if_neg (by omega), u2_ap, if_neg (by omega), u2_ap, if_neg (by omega), u2_ap, if_neg (by omega), u2_ap, if_neg (by omega)]
  have h9 : ∀ o, 90 ≤ o → o ≤ 100 → mrg (sp_ledC F c y s f) (sp_ledge F c y s f).2 o (xd_n D 0) = if o = 90 then c else if o = 91 then y else if o = 92 then f else if o = 93 then s else if o = 95 then 100 else if o = 97 then 9 else 0 := fun o h1 h2 => by
    rw [mrg_hi (by omega)]
    unfold sp_ledC sp_trl
    rw [if_pos k, if_pos ⟨et.symm, h1, h2⟩]
  have eL : (sp_ledge F c y s f).2 = xm_u2 (xm_u2 (xm_u2 (xm_u2 (xm_u2 (xm_u2 (xm_u2 F 3 (xd_n D 0) c) 4 (xd_n D 0) y) 5 (xd_n D 0) s) 9 (xd_n D 0) f) 8 (xd_n D 0) 100) 11 (xd_n D 0) 9) 0 6 (F 0 6 + 1) := by
    unfold sp_ledge
    rw [if_pos k, et]
  rw [eL] at hiO h9 ⊢
  generalize sp_ledC F c y s f = A at hiO h9 ⊢
  generalize eG : xm_u2 (xm_u2 (xm_u2 (xm_u2 (xm_u2 (xm_u2 (xm_u2 F 3 (xd_n D 0) c) 4 (xd_n D 0) y) 5 (xd_n D 0) s) 9 (xd_n D 0) f) 8 (xd_n D 0) 100) 11 (xd_n D 0) 9) 0 6 (F 0 6 + 1) = G at hiO h9 ⊢
  have lo : ∀ o j, ¬ o = 0 → G o j = if j = xd_n D 0 ∧ (o = 3 ∨ o = 4 ∨ o = 5 ∨ o = 9 ∨ o = 8 ∨ o = 11) then (if o = 3 then c else if o = 4 then y else if o = 5 then s else if o = 9 then f else if o = 8 then 100 else 9) else F o j := fun o j ho => by
    rw [← eG]
    by_cases q : j = xd_n D 0
    · by_cases p : o = 3 ∨ o = 4 ∨ o = 5 ∨ o = 9 ∨ o = 8 ∨ o = 11
      · rw [if_pos ⟨q, p⟩]
        rcases p with p | p | p | p | p | p <;> subst p <;> simp only [u2_ap, q, Nat.reduceEqDiff, false_and, true_and, and_self, ↓reduceIte, reduceCtorEq]
      · rw [if_neg (fun z => p z.2), u2_ap, if_neg (by omega), u2_ap, if_neg (by omega), u2_ap, if_neg (by omega), u2_ap, if_neg (by omega), u2_ap, if_neg (by omega), u2_ap, if_neg (by omega), u2_ap, if_neg (by omega)]
    · rw [if_neg (fun z => q z.1), u2_ap, if_neg (by omega), u2_ap, if_neg (by omega), u2_ap, if_neg (by omega), u2_ap, if_neg (by omega), u2_ap, if_neg (by omega), u2_ap, if_neg (by omega), u2_ap, if_neg (by omega)]
  have l0 : ∀ j, G 0 j = if j = 6 then Int32.ofNat (xd_n D 0 + 1) else F 0 j := fun j => by
    rw [← eG, u2_ap, ← eq1]
    by_cases q : j = 6
    · rw [if_pos ⟨rfl, q⟩, if_pos q]
    · rw [if_neg (fun z => q z.2), if_neg q]
      simp only [u2_ap, Nat.reduceEqDiff, false_and, ↓reduceIte, reduceCtorEq]
  have e : mrg A G = fun o j => if ((o = 3 ∨ o = 4 ∨ o = 5 ∨ o = 9 ∨ o = 8 ∨ o = 11) ∧ j = xd_n D 0) ∨ (o = 0 ∧ j = 6) ∨ (90 ≤ o ∧ o ≤ 100) then mrg A G o j else F o j := by
    funext o j
    by_cases q : ((o = 3 ∨ o = 4 ∨ o = 5 ∨ o = 9 ∨ o = 8 ∨ o = 11) ∧ j = xd_n D 0) ∨ (o = 0 ∧ j = 6) ∨ (90 ≤ o ∧ o ≤ 100)
    · rw [if_pos q]
    · rw [if_neg q]
      by_cases p : o ≤ 70
      · rw [mrg_lo p]
        by_cases r : o = 0
        · subst r
          rw [l0, if_neg (by omega)]
        · rw [lo o j r, if_neg (by omega)]
      · exact hiO o j p (by omega)
  have lm : ∀ o j, ¬ o = 0 → o ≤ 70 → mrg A G o j = if j = xd_n D 0 ∧ (o = 3 ∨ o = 4 ∨ o = 5 ∨ o = 9 ∨ o = 8 ∨ o = 11) then (if o = 3 then c else if o = 4 then y else if o = 5 then s else if o = 9 then f else if o = 8 then 100 else 9) else F o j := fun o j ho h7 => by
    rw [mrg_lo h7]
    exact lo o j ho
  have p5 : mrg A G 5 (xd_n D 0) = s := (lm 5 _ (by decide) (by decide)).trans (if_pos ⟨rfl, by decide⟩)
  have p3 : mrg A G 3 (xd_n D 0) = c := (lm 3 _ (by decide) (by decide)).trans (if_pos ⟨rfl, by decide⟩)
  have p4 : mrg A G 4 (xd_n D 0) = y := (lm 4 _ (by decide) (by decide)).trans (if_pos ⟨rfl, by decide⟩)
  have p11 : mrg A G 11 (xd_n D 0) = 9 := (lm 11 _ (by decide) (by decide)).trans (if_pos ⟨rfl, by decide⟩)
  have b1 : CN (IDn (nxt D 0) (xd_m D)) (mrg A G) := by
    refine ⟨?_, ?_, ?_, ?_⟩
    · rw [mrg_lo (by decide), l0]
      rfl
    · rw [mrg_lo (by decide), l0]
      exact cn.2.1
    · rw [mrg_lo (by decide), l0]
      exact cn.2.2.1
    · rw [mrg_lo (by decide), l0]
      exact cn.2.2.2
  have b2 : GI true (xd_n D 0 + 1) (mrg A G) := fun l hl' => by
    show rg (mrg A G 5 l) 9 ∧ 0 ≤ (mrg A G 6 l).toInt ∧ (mrg A G 6 l).toInt ≤ 400 * (mrg A G 5 l).toInt ∧ 0 ≤ (mrg A G 7 l).toInt ∧ (mrg A G 7 l).toInt ≤ 9 * (mrg A G 6 l).toInt
    rw [lm 5 l (by decide) (by decide), lm 6 l (by decide) (by decide), lm 7 l (by decide) (by decide), if_neg (show ¬ (l = xd_n D 0 ∧ ((6 : Nat) = 3 ∨ _)) by omega), if_neg (show ¬ (l = xd_n D 0 ∧ ((7 : Nat) = 3 ∨ _)) by omega)]
    by_cases q : l = xd_n D 0
    · rw [if_pos ⟨q, by decide⟩, q, z1, z2]
      have s9 : rg s 9 := rg_le k.2.2.1.1 k.2.2.1.2 rfl
      have s1 := s9.1
      refine ⟨s9, by decide, ?_, by decide, by decide⟩
      show (0 : Int) ≤ 400 * s.toInt
      omega
    · rw [if_neg (fun z => q z.1)]
      exact a3 l (by omega)
  have b3 : GG (xd_n D 0 + 1) (mrg A G) := fun l hl' => by
    by_cases q : l = xd_n D 0
    · rw [q, p5, p11, lm 10 _ (by decide) (by decide), if_neg (by omega), z3]
      exact ⟨(rg_le (n := 9) k.2.2.1.1 k.2.2.1.2 rfl).1, by decide, by decide⟩
    · rw [lm 5 l (by decide) (by decide), lm 10 l (by decide) (by decide), lm 11 l (by decide) (by decide), if_neg (fun z => q z.1), if_neg (fun z => q z.1), if_neg (fun z => q z.1)]
      exact a4 l (by omega)
  have b4 : ivZ (IDn (nxt D 0) (xd_m D)) (mrg A G) := fun l h1 h2 => by
    have h1 : xd_n D 0 + 1 ≤ l := h1
    rw [lm 6 l (by decide) (by decide), lm 7 l (by decide) (by decide), lm 10 l (by decide) (by decide), lm 12 l (by decide) (by decide), lm 13 l (by decide) (by decide), if_neg (by omega), if_neg (by omega), if_neg (by omega), if_neg (by omega), if_neg (by omega)]
    exact hz l (by omega) h2
  have b5 : ivF (IDn (nxt D 0) (xd_m D)) (mrg A G) := fun l h1 => by
    have h1 : xd_n D 0 + 1 ≤ l := h1
    rw [lm 9 l (by decide) (by decide), if_neg (by omega)]
    exact hf l (by omega)
  have b6 : ivT (mrg A G) := by
    refine ⟨tc, T, ⟨tp.1, ?_, fun i hi => ?_⟩, td.1, ?_, fun i hi => ?_⟩
    · rw [mrg_lo (by decide), l0]
      exact tp.2.1
    · rw [lm 28 i (by decide) (by decide), if_neg (by omega)]
      exact tp.2.2 i hi
    · rw [mrg_lo (by decide), l0]
      exact tp.2.1
    · rw [hiO 81 i (by decide) (by omega)]
      exact td.2.2 i hi
  have b7 : ivH (IDn (nxt D 0) (xd_m D)) (mrg A G) := fun l h1 => by
    have h1 : l < xd_n D 0 + 1 := h1
    rw [lm 4 l (by decide) (by decide)]
    by_cases q : l = xd_n D 0
    · rw [if_pos ⟨q, by decide⟩]
      exact rg_le k.2.1.1 k.2.1.2 rfl
    · rw [if_neg (fun z => q z.1)]
      exact hh l (by omega)
  have b8 : ivB (mrg A G) := ⟨B, hb.ag fun o j ho => hiO o j (by omega) (by omega)⟩
  have b9 : PWy (IDn (nxt D 0) (xd_m D)) (mrg A G) := by
    refine ⟨?_, fun l h1 => ?_, fun j => ?_⟩
    · rw [mrg_lo (by decide), l0]
      exact pw.1
    · have h1 : l < xd_n D 0 + 1 := h1
      rw [lm 9 l (by decide) (by decide)]
      by_cases q : l = xd_n D 0
      · rw [if_pos ⟨q, by decide⟩]
        rcases k.2.2.2.1 with e | e
        · exact Or.inl e
        · have pr := cnt_lt cn.2.1 (by omega) e
          have p0 := Int32.le_iff_toInt_le.mp e.1
          rw [show (0 : Int32).toInt = 0 from rfl] at p0
          exact Or.inr (in_iff.mpr ⟨p0, by show f.toInt < (xd_n D 1 : Nat); have : f.toInt.toNat < xd_n D 1 := pr; omega⟩)
      · rw [if_neg (fun z => q z.1)]
        exact pw.2.1 l (by omega)
    · rw [lm 65 j (by decide) (by decide), if_neg (by omega)]
      exact pw.2.2 j
  have b10 : TI (xd_n D 0 + 1) (mrg A G) := fun l h1 => by
    by_cases q : l = xd_n D 0
    · rw [q, p3, p4, h9 90 (by decide) (by decide), h9 91 (by decide) (by decide), h9 98 (by decide) (by decide)]
      exact ⟨rfl, rfl, rfl⟩
    · rw [lm 3 l (by decide) (by decide), lm 4 l (by decide) (by decide), if_neg (fun z => q z.1), if_neg (fun z => q z.1), hiO 90 l (by decide) (by omega), hiO 91 l (by decide) (by omega), hiO 98 l (by decide) (by omega)]
      exact ti l (by omega)
  rw [e] at b1 b2 b3 b4 b5 b6 b7 b8 b9 b10 ⊢
  exact ⟨b1, ⟨a1, a2, b2, b3⟩, b4, b5, hp, b6, hw, b7, b8, hr, hl, hu, hy, b9, hs, hn, b10, hd⟩
theorem mr_ledge {c y s f : Int32} {r n : Nat} {L : Nat → Ln} (a : MR F r n L) : MR (sp_ledge F c y s f).2 r n L := by
  unfold sp_ledge
  split <;> exact a
theorem t_1 (iv : IV M h D F) {c y s f : Int32} : RG M (d + 1000) h D F 3 92 [.int c, .int y, .int s, .int f] :=
  st_gx (P := fun F1 D' => F1 = sp_ledC F c y s f ∧ IF D' (mrg (sp_ledC F c y s f) (sp_ledge F c y s f).2)) (Q := fun F2 => F2 = (sp_ledge F c y s f).2) iv (fun hh q w v ru => by
    obtain ⟨h', D', m1, g, -, k⟩ := c3 (d := d + 998) q w v iv.1.2.2.2.2.2.2 iv.n (fun n h1 h2 => iv.2.2.2.2.1 n h1 h2) (c := c) (y := y) (s := s) (f := f)
    refine ⟨h', D', _, m1, g.mono (by decide) (by decide), rfl, ?_⟩
    rcases k with ⟨e1, e2, e3⟩ | ⟨c, k1, k2, k3⟩
    · rw [e1, e2, e3, show mrg F ((-1, F) : Int32 × xp_F).2 = F from mrg_s]
      exact iv.2.2
    · refine IF_D (n := nxt D 0) (m := xd_m D) (fun j => ?_) k3 (if_ledge iv.2.2 (cs_n iv.q).1 (cs_n iv.q).2.1 c)
      unfold nxt
      split
      · rename_i e
        rw [e]
        exact k1
      · rename_i e
        exact k2 j e) (fun hb ms => ⟨_, c92 (d := d + 998) ms (iv.n.l iv.q), rfl⟩) (fun D' F1 F2 a b o j nk ho => by
    rw [a.1, b]
    unfold sp_ledC
    split
    · unfold sp_trl
      rw [if_neg (by omega)]
    · rename_i z
      unfold sp_ledge
      rw [if_neg z]) fun D2 F1 F2 _ a b => by
    rw [a.1, b]
    refine ⟨fun r n L m => (mr_ledge (c := c) (y := y) (s := s) (f := f) m).gP fun o j h1 h2 => mrg_lo (by omega), a.2⟩
end ST6
