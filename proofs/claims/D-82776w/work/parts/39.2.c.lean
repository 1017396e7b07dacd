/-! persons, tastes, claims, counts -/
set_option maxRecDepth 100000
section ST3
variable {d : Nat} {h : xm_H} {D : xp_D} {F G : xp_F} {M : Nat}
theorem tn_ne {a b : Int32} {n : Nat} (ha : rg a n) (hb : rg b n) (e : ¬ a = b) : ¬ a.toNatClampNeg = b.toNatClampNeg := fun z => e (by rw [rg_nat ha, rg_nat hb, z])
theorem per_rg {p n : Int32} (hn : rg n 16) (c : 0 ≤ p ∧ p ≤ n - 1) : rg p 16 := by
  have := in_iff.mp (in_cnt hn c)
  exact ⟨this.1, by omega⟩
theorem if_heir (i : IF D F) (q : CS h D) {p r : Int32} : IF D (sp_heir F p r).2 := by
  unfold sp_heir
  split
  case isFalse => exact i
  case isTrue c =>
  obtain ⟨cn, ha, hz, hf, ⟨p1, p2⟩, ht, hw, hh, hb, hr, hl, hu, hy, pw, hs, hn, ti, hd⟩ := i
  have lp := cn.pp q c.1
  show IF D (xm_u2 F 40 p.toNatClampNeg r)
  refine ⟨cn, ha, hz, hf, ⟨fun n hn' => ?_, fun n hn' => ?_⟩, ht, hw, hh, hb, hr, hl, hu, hy, pw, hs, hn, ti, hd⟩
  · obtain ⟨a1, a2, a3⟩ := p1 n hn'
    refine ⟨?_, a2, a3⟩
    rw [u2_ap, if_neg (by omega)]
    exact a1
  · rw [u2_ap]
    split
    · rcases c.2.1 with e | e
      · exact Or.inl e
      · exact Or.inr ⟨r.toNatClampNeg, cn.pp q e, rg_nat (per_rg (cn.p q) e)⟩
    · exact p2 n hn'
theorem mr_heir {p r' : Int32} {r n : Nat} {L : Nat → Ln} (a : MR F r n L) : MR (sp_heir F p r').2 r n L := by
  unfold sp_heir
  split <;> exact a
theorem t_18 (iv : IV M h D F) {p r : Int32} : RG M (d + 1000) h D F 42 155 [.int p, .int r] := st_same iv (fun _ q _ => c42 (d := d + 999) q iv.n) (fun _ ms => c155 (d := d + 998) ms (iv.n.p iv.q)) (fun _ _ _ => mr_heir) (if_heir iv.2.2 iv.q)
theorem if_gives (i : IF D F) {p : Int32} : IF D (sp_gives F p).2 := by
  unfold sp_gives
  split
  case isFalse => exact i
  case isTrue c =>
  obtain ⟨cn, ha, hz, hf, hp, ht, hw, hh, hb, hr, hl, hu, hy, pw, hs, hn, ti, hd⟩ := i
  exact ⟨cn, ha, hz, hf, hp, ht, hw, hh, hb, fun _ => c.1.2, hl, hu, hy, pw, hs, hn, ti, hd⟩
theorem mr_gives {p : Int32} {r n : Nat} {L : Nat → Ln} (a : MR F r n L) : MR (sp_gives F p).2 r n L := by
  unfold sp_gives
  split <;> exact a
theorem t_20 (iv : IV M h D F) {p : Int32} : RG M (d + 1000) h D F 46 158 [.int p] := st_same iv (fun _ q _ => c46 (d := d + 998) q iv.n) (fun _ ms => c158 (d := d + 997) ms (iv.n.p iv.q)) (fun _ _ _ => mr_gives) (if_gives iv.2.2)
theorem first_al (c : Nat) : ∀ k, ¬ F 43 (sp_first F c k) = 0 ∧ sp_first F c k < k + c ∨ sp_first F c k = k + c := by
  induction c with
  | zero => exact fun k => Or.inr rfl
  | succ c ih =>
    intro k
    unfold sp_first
    split
    · rcases ih (k + 1) with ⟨a, b⟩ | a
      · exact Or.inl ⟨a, by omega⟩
      · exact Or.inr (by omega)
    · exact Or.inl ⟨by assumption, by omega⟩
theorem next_al (hn : rg (F 0 61) 16) {p : Int32} : sp_next F p = F 0 61 ∨ ¬ F 43 (sp_next F p).toNatClampNeg = 0 := by
  unfold sp_next
  split
  · have t := rg_tc hn
    have h2 := hn.2
    rcases @first_al F (F 0 61).toNatClampNeg 0 with ⟨a, b⟩ | a
    · refine Or.inr ?_
      rw [tc_nat (by omega)]
      exact a
    · refine Or.inl ?_
      rw [a, Nat.zero_add]
      exact (rg_nat hn).symm
  · rename_i c
    exact Or.inr fun z => c (Or.inr z)
theorem if_dies (i : IF D F) (q : CS h D) {p : Int32} : IF D (sp_dies F p).2 := by
  unfold sp_dies
  split
  case isFalse => exact i
  case isTrue c =>
  obtain ⟨cn, ha, hz, hf, hp, ht, hw, hh, hb, hr, hl, hu, hy, pw, hs, hn, ti, hd⟩ := i
  show IF D (sp_dies1 (xm_u2 F 43 p.toNatClampNeg 0) p)
  unfold sp_dies1
  split
  · refine ⟨cn, ha, hz, hf, hp, ht, hw, hh, hb, fun z => ?_, hl, hu, hy, pw, hs, hn, ti, hd⟩
    have np := @next_al (xm_u2 F 43 p.toNatClampNeg 0) (cn.p q) p
    generalize sp_next (xm_u2 F 43 p.toNatClampNeg 0) p = x at np z ⊢
    have z : 0 ≤ (if x = F 0 61 then -1 else x) ∧ (if x = F 0 61 then -1 else x) ≤ F 0 61 - 1 := z
    show ¬ xm_u2 F 43 p.toNatClampNeg 0 43 (if x = F 0 61 then (-1 : Int32) else x).toNatClampNeg = 0
    by_cases e : x = F 0 61
    · rw [if_pos e] at z
      exact absurd z.1 (by decide)
    · rw [if_neg e]
      exact np.resolve_left e
  · rename_i e
    refine ⟨cn, ha, hz, hf, hp, ht, hw, hh, hb, fun z => ?_, hl, hu, hy, pw, hs, hn, ti, hd⟩
    show ¬ xm_u2 F 43 p.toNatClampNeg 0 43 (F 0 62).toNatClampNeg = 0
    have nn := tn_ne (per_rg (cn.p q) z) (per_rg (cn.p q) c.1) e
    rw [u2_ap, if_neg (fun w => nn w.2)]
    exact hr z
theorem mr_dies {p : Int32} {r n : Nat} {L : Nat → Ln} (a : MR F r n L) : MR (sp_dies F p).2 r n L := by
  unfold sp_dies sp_dies1
  split
  · show MR (if _ then _ else _) r n L
    split <;> exact a
  · exact a
theorem ivP.pr (i : ivP D F) (n16 : xd_n D 1 ≤ 16) (p : Nat) : pr (F 40 p) := by
  by_cases c : p < xd_n D 1
  · rcases i.2 p c with e | ⟨j, hj, e⟩
    · exact Or.inl e
    · exact Or.inr ⟨j, by omega, e⟩
  · exact Or.inr ⟨0, by decide, (i.1 p (by omega)).1⟩
theorem t_19 (iv : IV M h D F) {p : Int32} : RG M (d + 1000) h D F 43 156 [.int p] := st_same iv (fun _ q _ => c43 (d := d + 998) q iv.n iv.2.2.2.2.2.2.1.2) (fun _ ms => c156 (d := d + 997) ms (iv.n.p iv.q) (iv.2.2.2.2.2.2.1.pr (cs_n iv.q).2.1)) (fun _ _ _ => mr_dies) (if_dies iv.2.2 iv.q)
theorem if_taste (i : IF D F) (q : CS h D) {l a b : Int32} : IF D (sp_taste F l a b).2 := by
  unfold sp_taste
  split
  case isFalse => exact i
  case isTrue c =>
  split
  · exact i
  obtain ⟨cn, ha, hz, hf, hp, ht, hw, hh, hb, hr, ⟨l1, l2, l3⟩, hu, hy, pw, hs, hn, ti, hd⟩ := i
  show IF D (xm_u2 (xm_u2 F 45 l.toNatClampNeg (mx (F 45 l.toNatClampNeg) a)) 46 l.toNatClampNeg (mn (F 46 l.toNatClampNeg) b))
  refine ⟨cn, ha, hz, hf, hp, ht, hw, hh, hb, hr, ⟨fun j hj => ?_, l2, l3⟩, hu, hy, pw, hs, hn, ti, hd⟩
  have a9 : rg a 90 := rg_le c.2.1.1 c.2.1.2 rfl
  have b9 : rg b 90 := rg_le (Int32.le_trans c.2.1.1 c.2.2.1) c.2.2.2 rfl
  have lt := cn.ii q c.1.1
  obtain ⟨j1, j2⟩ := l1 _ lt
  obtain ⟨k1, k2⟩ := l1 j hj
  simp only [u2_ap, Nat.reduceEqDiff, false_and, true_and, ↓reduceIte]
  refine ⟨?_, ?_⟩
  · split
    · exact rg_mx j1 a9
    · exact k1
  · split
    · exact rg_mn j2 b9
    · exact k2
theorem mr_taste {l a' b : Int32} {r n : Nat} {L : Nat → Ln} (a : MR F r n L) : MR (sp_taste F l a' b).2 r n L := by
  unfold sp_taste
  split
  · split <;> exact a
  · exact a
theorem t_24 (iv : IV M h D F) {l a b : Int32} : RG M (d + 1000) h D F 51 163 [.int l, .int a, .int b] := st_same iv (fun _ q _ => c51 (d := d + 999) q iv.n) (fun _ ms => c163 (d := d + 998) ms (iv.n.i iv.q)) (fun _ _ _ => mr_taste) (if_taste iv.2.2 iv.q)
theorem if_claim (i : IF D F) {l v s : Int32} : IF D (sp_claim F l v s).2 := by
  unfold sp_claim
  split
  case isFalse => exact i
  case isTrue c =>
  obtain ⟨cn, ha, hz, hf, hp, ht, hw, hh, hb, hr, hl, hu, hy, ⟨p1, p2, p3⟩, hs, hn, ti, hd⟩ := i
  refine ⟨cn, ha, hz, hf, hp, ht, hw, hh, hb, hr, hl, hu, hy, ⟨?_, p2, fun k => ?_⟩, hs, hn, ti, hd⟩
  · have ne : ¬ (F 0 95).toInt = 100 := fun e => c.2.2.2 (Int32.toInt_inj.mp (e.trans rfl))
    have e : (F 0 95 + 1).toInt = (F 0 95).toInt + 1 := ti_add1 p1 (by decide)
    obtain ⟨d1, d2⟩ := p1
    exact ⟨by show 0 ≤ (F 0 95 + 1).toInt; omega, by show (F 0 95 + 1).toInt ≤ 100; omega⟩
  · show nr (xm_u2 F 65 (F 0 95).toNatClampNeg v 65 k) 2
    rw [u2_ap]
    split
    · have c1 := Int32.le_iff_toInt_le.mp c.2.1.1
      have c2 := Int32.le_iff_toInt_le.mp c.2.1.2
      rw [show (-1 : Int32).toInt = -1 from rfl] at c1
      rw [show (1 : Int32).toInt = 1 from rfl] at c2
      by_cases z : v.toInt = -1
      · exact Or.inl (Int32.toInt_inj.mp (z.trans rfl))
      · exact Or.inr (in_iff.mpr ⟨by omega, by omega⟩)
    · exact p3 k
theorem mr_claim {l v s : Int32} {r n : Nat} {L : Nat → Ln} (a : MR F r n L) : MR (sp_claim F l v s).2 r n L := by
  unfold sp_claim
  split <;> exact a
theorem t_30 (iv : IV M h D F) {l v s : Int32} : RG M (d + 1000) h D F 61 176 [.int l, .int v, .int s] := st_same iv (fun _ q _ => c61 (d := d + 999) q iv.n iv.gc) (fun _ ms => c176 (d := d + 998) ms iv.gc) (fun _ _ _ => mr_claim) (if_claim iv.2.2)
theorem mx_ge {a b : Int32} (ha : 0 ≤ a.toInt) (hb : 0 ≤ b.toInt) : 0 ≤ (mx a b).toInt := by
  unfold mx
  split
  · exact hb
  · exact ha
theorem mn_ge {a b : Int32} (ha : 0 ≤ a.toInt) (hb : 0 ≤ b.toInt) : 0 ≤ (mn a b).toInt := by
  unfold mn
  split
  · exact hb
  · exact ha
theorem if_gu (i : IF D F) {l : Nat} {x y : Int32} (lt : l < xd_n D 0) (hx : 0 ≤ x.toInt) (hy' : 0 ≤ y.toInt) : IF D (xm_u2 (xm_u2 F 10 l x) 11 l y) := by
  obtain ⟨cn, ⟨a1, a2, a3, a4⟩, hz, hf, hp, ht, hw, hh, hb, hr, hl, hu, hy, pw, hs, hn, ti, hd⟩ := i
  refine ⟨cn, ⟨a1, a2, a3, fun k hk => ?_⟩, fun k hk h12 => ?_, hf, hp, ht, hw, hh, hb, hr, hl, hu, hy, pw, hs, hn, ti, hd⟩
  · obtain ⟨g1, g2, g3⟩ := a4 k hk
    simp only [u2_ap, Nat.reduceEqDiff, false_and, true_and, ↓reduceIte]
    refine ⟨g1, ?_, ?_⟩
    · split
      · exact hx
      · exact g2
    · split
      · exact hy'
      · exact g3
  · obtain ⟨z1, z2, z3, z4, z5⟩ := hz k hk h12
    simp only [u2_ap, Nat.reduceEqDiff, false_and, true_and, ↓reduceIte]
    rw [if_neg (by omega)]
    exact ⟨z1, z2, z3, z4, z5⟩
theorem if_count (i : IF D F) (q : CS h D) {l a b : Int32} : IF D (sp_count F l a b).2 := by
  unfold sp_count
  split
  case isFalse => exact i
  case isTrue c =>
  have lt := i.1.ll q c.1
  obtain ⟨-, g2, g3⟩ := i.2.1.2.2.2 _ lt
  have a0 : 0 ≤ a.toInt := Int32.le_iff_toInt_le.mp c.2.1.1
  have b0 : 0 ≤ b.toInt := Int32.le_iff_toInt_le.mp (Int32.le_trans c.2.1.1 c.2.2.1)
  split
  · exact if_gu i lt (mx_ge g2 a0) (mn_ge g3 b0)
  · exact if_gu i lt a0 b0
theorem mr_count {l a' b : Int32} {r n : Nat} {L : Nat → Ln} (a : MR F r n L) : MR (sp_count F l a' b).2 r n L := by
  unfold sp_count
  split
  · split <;> exact a
  · exact a
theorem t_32 (iv : IV M h D F) {l a b : Int32} : RG M (d + 1000) h D F 63 178 [.int l, .int a, .int b] := st_same iv (fun _ q _ => c63 (d := d + 999) q iv.n) (fun _ ms => c178 (d := d + 998) ms (iv.n.l iv.q)) (fun _ _ _ => mr_count) (if_count iv.2.2 iv.q)
end ST3
