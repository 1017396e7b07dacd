/-! what a sale gives is what buyers take -/
set_option maxRecDepth 100000
section OFF
variable {S F G H : xp_F}
def smz (f : Nat → Int) : Nat → Int
  | 0 => 0
  | n + 1 => smz f n + f n
theorem smz_cg {f g : Nat → Int} : ∀ n, (∀ i, i < n → f i = g i) → smz f n = smz g n
  | 0, _ => rfl
  | n + 1, h => by
    show smz f n + f n = smz g n + g n
    rw [smz_cg n (fun i hi => h i (by omega)), h n (Nat.lt_succ_self _)]
theorem smz_mono {f : Nat → Int} {n : Nat} (h : ∀ i, i < n → 0 ≤ f i) : ∀ k, k ≤ n → smz f k ≤ smz f n := by
  intro k hk
  induction n with
  | zero =>
    have e : k = 0 := by omega
    rw [e]
    exact Int.le_refl _
  | succ n ih =>
    have hn := h n (Nat.lt_succ_self _)
    show smz f k ≤ smz f n + f n
    by_cases e : k = n + 1
    · rw [e]
      exact Int.le_refl _
    · have := ih (fun i hi => h i (by omega)) (by omega)
      omega
theorem smz_nn {f : Nat → Int} {n : Nat} (h : ∀ i, i < n → 0 ≤ f i) : 0 ≤ smz f n := smz_mono h 0 (Nat.zero_le _)
theorem on_inj {a b : Nat} (ha : a < 2147483648) (hb : b < 2147483648) (e : Int32.ofNat a = Int32.ofNat b) : a = b := by
  have := congrArg Int32.toInt e
  rw [ti_nat ha, ti_nat hb] at this
  omega
theorem on_ne {b : Nat} (hb : b < 2147483648) : ¬ (-1 : Int32) = Int32.ofNat b := fun e => by
  have := congrArg Int32.toInt e
  rw [ti_nat hb, show (-1 : Int32).toInt = -1 from rfl] at this
  omega
/-- the units of the j-th that is offered -/
def ofW (S : xp_F) (j : Nat) : Int := (S 44 (S 60 j).toNatClampNeg).toInt
/-- all that is needed of the start -/
def ofB (S : xp_F) (n nb : Nat) : Prop := n ≤ 8 ∧ nb ≤ 4 ∧ (S 0 83).toNatClampNeg = nb ∧ (∀ j, j < n → 0 ≤ ofW S j ∧ ofW S j ≤ 1008000) ∧ ∀ b, b < nb → (0 ≤ (S 59 b).toInt ∧ (S 59 b).toInt ≤ 99999) ∧ 0 ≤ (S 58 b).toInt ∧ (S 58 b).toInt ≤ 99
def ofP (S : xp_F) (nb k : Nat) (G : xp_F) : Prop := (∀ b, b < nb → (G 63 b).toInt = smz (fun j => if G 61 j = Int32.ofNat b then ofW S j else 0) k ∧ (G 63 b).toInt ≤ (S 59 b).toInt) ∧ ∀ j, j < k → G 61 j = -1 ∨ ∃ b, b < nb ∧ G 61 j = Int32.ofNat b
def ofK (S : xp_F) (n nb : Nat) (G : xp_F) : Prop := (∀ j, j < n → G 62 j = -1 ∨ ∃ b, b < nb ∧ G 62 j = Int32.ofNat b) ∧ ∀ b, b < nb → smz (fun j => if G 62 j = Int32.ofNat b then ofW S j else 0) n ≤ (S 59 b).toInt
theorem ofK.ag {n nb : Nat} (a : ofK S n nb G) (e : ∀ j, H 62 j = G 62 j) : ofK S n nb H := by
  refine ⟨fun j hj => ?_, fun b hb => ?_⟩
  · rw [e]
    exact a.1 j hj
  · rw [smz_cg (g := fun j => if G 62 j = Int32.ofNat b then ofW S j else 0) n (fun i _ => by rw [e])]
    exact a.2 b hb
theorem ofP.ag {nb k : Nat} (a : ofP S nb k G) (e : ∀ j, j < k → H 61 j = G 61 j) (p : ∀ b, H 63 b = G 63 b) : ofP S nb k H := by
  refine ⟨fun b hb => ?_, fun j hj => ?_⟩
  · rw [p, smz_cg (g := fun j => if G 61 j = Int32.ofNat b then ofW S j else 0) k (fun i hi => by rw [e i hi])]
    exact a.1 b hb
  · rw [e j hj]
    exact a.2 j hj
theorem offers_g {n : Nat} : ∀ (r k : Nat) (s c : Int32) (F : xp_F) (j : Nat), j < k → sp_offers n r k s c F 61 j = F 61 j
  | 0, k, s, c, F, j, _ => by
    show sp_sold F n s c 61 j = _
    unfold sp_sold
    split
    · rfl
    · rw [cp_it, if_neg (by omega), u2_ap, if_neg (by omega), u2_ap, if_neg (by omega)]
  | r + 1, k, s, c, F, j, hj => by
    rw [offers_up, offers_g r _ _ _ _ j (by omega), u2_ap, if_neg (by omega)]
    refine up_inv (fun (G : xp_F) => G 61 j = F 61 j) (fun b' G hG => ?_) rfl _
    show sp_offer1 n r k s c _ b' G 61 j = _
    unfold sp_offer1
    split
    · show xm_u2 _ 63 b' _ 61 j = _
      rw [u2_ap, if_neg (by omega), offers_g r _ _ _ _ j (by omega), u2_ap, if_neg (by omega), u2_ap, if_neg (by omega)]
      exact hG
    · exact hG
theorem up_lt {α : Type} {f : Nat → α → α} {s : α} {n : Nat} (I : α → Prop) (h0 : I s) (hs : ∀ k x, k < n → I x → I (f k x)) : ∀ m, m ≤ n → I (xp_up f s m)
  | 0, _ => h0
  | m + 1, hm => hs m _ (by omega) (up_lt I h0 hs m (by omega))
theorem sold_ok {n nb : Nat} {s c : Int32} (b : ofB S n nb) (p : ofP S nb n G) (k : G 0 93 = -1 ∨ ofK S n nb G) (hs : 0 ≤ s.toInt) : ofK S n nb (sp_sold G n s c) := by
  unfold sp_sold
  split
  · rename_i cnd
    rcases k with e | e
    · exfalso
      rw [e] at cnd
      rcases cnd with z | z
      · have := Int32.lt_iff_toInt_lt.mp z
        rw [show (-1 : Int32).toInt = -1 from rfl] at this
        omega
      · have := congrArg Int32.toInt z.1
        rw [show (-1 : Int32).toInt = -1 from rfl] at this
        omega
    · exact e
  · have r : ∀ j, j < n → xp_it (fun i G => xm_u2 G 62 i (G 61 i)) 0 n (xm_u2 (xm_u2 G 0 93 s) 0 94 c) 62 j = G 61 j := fun j hj => by
      rw [cp_it, if_pos ⟨rfl, by omega, by omega⟩, u2_ap, if_neg (by omega), u2_ap, if_neg (by omega)]
    refine ⟨fun j hj => ?_, fun b' hb => ?_⟩
    · rw [r j hj]
      exact p.2 j hj
    · rw [smz_cg (g := fun j => if G 61 j = Int32.ofNat b' then ofW S j else 0) n (fun i hi => by rw [r i hi])]
      obtain ⟨p1, p2⟩ := p.1 b' hb
      omega
theorem offers_ok {n nb : Nat} (b : ofB S n nb) : ∀ (r k : Nat) (s c : Int32) (G : xp_F), k + r = n → sq S G → ofP S nb k G → (G 0 93 = -1 ∨ ofK S n nb G) → 0 ≤ s.toInt → s.toInt ≤ 99792000 * (k : Int) → ofK S n nb (sp_offers n r k s c G)
  | 0, k, s, c, G, e, q, p, o, h0, h1 => by
    have e : k = n := e
    rw [e] at p
    exact sold_ok b p o h0
  | r + 1, k, s, c, G, e, q, p, o, h0, h1 => by
    obtain ⟨n8, n4, b1, b2, b3⟩ := b
    have kn : k < n := by omega
    obtain ⟨w0, w1⟩ := b2 k kn
    have eb : (G 0 83).toNatClampNeg = nb := by
      rw [q 0 83 (by decide) (by decide) (by decide) (by decide)]
      exact b1
    have eo : (G 60 k).toNatClampNeg = (S 60 k).toNatClampNeg := by rw [q 60 k (by decide) (by decide) (by decide) (by omega)]
    rw [offers_up, eb, eo]
    have lp := up_lt (f := sp_offer1 n r k s c (S 60 k).toNatClampNeg) (s := G) (n := nb) (fun H => sq S H ∧ ofP S nb k H ∧ (H 0 93 = -1 ∨ ofK S n nb H)) ⟨q, p, o⟩ (fun x H hx hH => by
      obtain ⟨q1, p1, o1⟩ := hH
      refine ⟨offer1_sq q1, ?_⟩
      unfold sp_offer1
      by_cases ft : sp_fits H x (S 60 k).toNatClampNeg
      case neg =>
        rw [if_neg ft]
        exact ⟨p1, o1⟩
      rw [if_pos ft]
      have u44 : (H 44 (S 60 k).toNatClampNeg).toInt = ofW S k := by
        rw [q1 44 _ (by decide) (by decide) (by decide) (by omega)]
        rfl
      have u59 : H 59 x = S 59 x := q1 59 _ (by decide) (by decide) (by decide) (by omega)
      have u58 : H 58 x = S 58 x := q1 58 _ (by decide) (by decide) (by decide) (by omega)
      obtain ⟨⟨t0, t1⟩, c0, c1⟩ := b3 x hx
      obtain ⟨p2, p3⟩ := p1.1 x hx
      have pn : 0 ≤ (H 63 x).toInt := by
        rw [p2]
        exact smz_nn fun i hi => by
          show 0 ≤ (if H 61 i = Int32.ofNat x then ofW S i else 0)
          split
          · exact (b2 i (by omega)).1
          · exact Int.le_refl _
      have es : (H 63 x + H 44 (S 60 k).toNatClampNeg).toInt = (H 63 x).toInt + ofW S k := by rw [ti_add (by rw [u44]; omega), u44]
      have le := Int32.le_iff_toInt_le.mp ft.2.2
      rw [es, u59] at le
      have em : (H 58 x * H 44 (S 60 k).toNatClampNeg).toInt = (S 58 x).toInt * ofW S k := by
        have : (H 58 x).toInt * (H 44 (S 60 k).toNatClampNeg).toInt = (S 58 x).toInt * ofW S k := by rw [u58, u44]
        have m0 : 0 ≤ (S 58 x).toInt * ofW S k := Int.mul_nonneg c0 w0
        have m1 : (S 58 x).toInt * ofW S k ≤ 99 * 1008000 := Int.mul_le_mul c1 w1 w0 (by decide)
        rw [ti_mul (by rw [this]; omega), this]
      have m0 : 0 ≤ (S 58 x).toInt * ofW S k := Int.mul_nonneg c0 w0
      have m1 : (S 58 x).toInt * ofW S k ≤ 99 * 1008000 := Int.mul_le_mul c1 w1 w0 (by decide)
      have ea : (s + H 58 x * H 44 (S 60 k).toNatClampNeg).toInt = s.toInt + (S 58 x).toInt * ofW S k := by rw [ti_add (by rw [em]; omega), em]
      have q2 : sq S (xm_u2 (xm_u2 H 63 x (H 63 x + H 44 (S 60 k).toNatClampNeg)) 61 k (Int32.ofNat x)) := q1.tr (sq.p.tr sq.g)
      have g61 : ∀ j, xm_u2 (xm_u2 H 63 x (H 63 x + H 44 (S 60 k).toNatClampNeg)) 61 k (Int32.ofNat x) 61 j = if j = k then Int32.ofNat x else H 61 j := fun j => by
        rw [u2_ap]
        by_cases z : j = k
        · rw [if_pos ⟨rfl, z⟩, if_pos z]
        · rw [if_neg (fun y => z y.2), if_neg z, u2_ap, if_neg (by omega)]
      have g63 : ∀ j, xm_u2 (xm_u2 H 63 x (H 63 x + H 44 (S 60 k).toNatClampNeg)) 61 k (Int32.ofNat x) 63 j = if j = x then H 63 x + H 44 (S 60 k).toNatClampNeg else H 63 j := fun j => by
        rw [u2_ap, if_neg (by omega), u2_ap]
        by_cases z : j = x
        · rw [if_pos ⟨rfl, z⟩, if_pos z]
        · rw [if_neg (fun y => z y.2), if_neg z]
      have g62 : ∀ j, xm_u2 (xm_u2 H 63 x (H 63 x + H 44 (S 60 k).toNatClampNeg)) 61 k (Int32.ofNat x) 62 j = H 62 j := fun j => by
        rw [u2_ap, if_neg (by omega), u2_ap, if_neg (by omega)]
      have g93 : xm_u2 (xm_u2 H 63 x (H 63 x + H 44 (S 60 k).toNatClampNeg)) 61 k (Int32.ofNat x) 0 93 = H 0 93 := by
        rw [u2_ap, if_neg (by omega), u2_ap, if_neg (by omega)]
      generalize xm_u2 (xm_u2 H 63 x (H 63 x + H 44 (S 60 k).toNatClampNeg)) 61 k (Int32.ofNat x) = H1 at q2 g61 g63 g62 g93 ⊢
      have sg : ∀ y, y < nb → smz (fun j => if H1 61 j = Int32.ofNat y then ofW S j else 0) k = smz (fun j => if H 61 j = Int32.ofNat y then ofW S j else 0) k := fun y hy => smz_cg k fun i hi => by
        have z : H1 61 i = H 61 i := (g61 i).trans (if_neg (by omega))
        show (if H1 61 i = Int32.ofNat y then ofW S i else 0) = _
        rw [z]
      have P1 : ofP S nb (k + 1) H1 := by
        refine ⟨fun y hy => ?_, fun j hj => ?_⟩
        · show (H1 63 y).toInt = smz (fun j => if H1 61 j = Int32.ofNat y then ofW S j else 0) k + (if H1 61 k = Int32.ofNat y then ofW S k else 0) ∧ _
          rw [sg y hy, g63, g61, if_pos rfl]
          by_cases z : y = x
          · rw [if_pos z, if_pos (by rw [z]), es, z, p2]
            exact ⟨rfl, by omega⟩
          · rw [if_neg z, if_neg (fun w => z (on_inj (by omega) (by omega) w).symm), Int.add_zero]
            exact p1.1 y hy
        · rw [g61]
          by_cases z : j = k
          · rw [if_pos z]
            exact Or.inr ⟨x, hx, rfl⟩
          · rw [if_neg z]
            exact p1.2 j (by omega)
      have O1 : H1 0 93 = -1 ∨ ofK S n nb H1 := by
        rcases o1 with z | z
        · exact Or.inl (g93.trans z)
        · exact Or.inr (z.ag g62)
      have ok := offers_ok ⟨n8, n4, b1, b2, b3⟩ r (k + 1) (s + H 58 x * H 44 (S 60 k).toNatClampNeg) (c + 1) H1 (by omega) q2 P1 O1 (by rw [ea]; omega) (by rw [ea, Int.natCast_add]; omega)
      have tp := fun y => offers_p (n := n) r (k + 1) (s + H 58 x * H 44 (S 60 k).toNatClampNeg) (c + 1) H1 y
      have tg := fun j hj => offers_g (n := n) r (k + 1) (s + H 58 x * H 44 (S 60 k).toNatClampNeg) (c + 1) H1 j hj
      have ts := offers_sq (n := n) r (k + 1) (s + H 58 x * H 44 (S 60 k).toNatClampNeg) (c + 1) H1
      show ofP S nb k (xm_u2 (sp_offers n r (k + 1) (s + H 58 x * H 44 (S 60 k).toNatClampNeg) (c + 1) H1) 63 x (sp_offers n r (k + 1) (s + H 58 x * H 44 (S 60 k).toNatClampNeg) (c + 1) H1 63 x - sp_offers n r (k + 1) (s + H 58 x * H 44 (S 60 k).toNatClampNeg) (c + 1) H1 44 (S 60 k).toNatClampNeg)) ∧ (xm_u2 (sp_offers n r (k + 1) (s + H 58 x * H 44 (S 60 k).toNatClampNeg) (c + 1) H1) 63 x (sp_offers n r (k + 1) (s + H 58 x * H 44 (S 60 k).toNatClampNeg) (c + 1) H1 63 x - sp_offers n r (k + 1) (s + H 58 x * H 44 (S 60 k).toNatClampNeg) (c + 1) H1 44 (S 60 k).toNatClampNeg) 0 93 = -1 ∨ ofK S n nb (xm_u2 (sp_offers n r (k + 1) (s + H 58 x * H 44 (S 60 k).toNatClampNeg) (c + 1) H1) 63 x (sp_offers n r (k + 1) (s + H 58 x * H 44 (S 60 k).toNatClampNeg) (c + 1) H1 63 x - sp_offers n r (k + 1) (s + H 58 x * H 44 (S 60 k).toNatClampNeg) (c + 1) H1 44 (S 60 k).toNatClampNeg)))
      have t44 : sp_offers n r (k + 1) (s + H 58 x * H 44 (S 60 k).toNatClampNeg) (c + 1) H1 44 (S 60 k).toNatClampNeg = H 44 (S 60 k).toNatClampNeg := by
        rw [ts 44 _ (by decide) (by decide) (by decide) (by omega), q2 44 _ (by decide) (by decide) (by decide) (by omega), q1 44 _ (by decide) (by decide) (by decide) (by omega)]
      have t63 : ∀ y, sp_offers n r (k + 1) (s + H 58 x * H 44 (S 60 k).toNatClampNeg) (c + 1) H1 63 y = if y = x then H 63 x + H 44 (S 60 k).toNatClampNeg else H 63 y := fun y => (tp y).trans (g63 y)
      have t61 : ∀ j, j < k → sp_offers n r (k + 1) (s + H 58 x * H 44 (S 60 k).toNatClampNeg) (c + 1) H1 61 j = H 61 j := fun j hj => (tg j (by omega)).trans ((g61 j).trans (if_neg (by omega)))
      generalize sp_offers n r (k + 1) (s + H 58 x * H 44 (S 60 k).toNatClampNeg) (c + 1) H1 = T at ok t44 t63 t61 ⊢
      refine ⟨p1.ag (fun j hj => ?_) fun y => ?_, Or.inr (ok.ag fun j => ?_)⟩
      · rw [u2_ap, if_neg (by omega)]
        exact t61 j hj
      · rw [u2_ap]
        by_cases z : y = x
        · rw [if_pos ⟨rfl, z⟩, t63, if_pos rfl, t44, z]
          exact Int32.add_sub_cancel _ _
        · rw [if_neg (fun w => z w.2), t63, if_neg z]
      · rw [u2_ap, if_neg (by omega)]) nb (Nat.le_refl _)
    generalize xp_up (sp_offer1 n r k s c (S 60 k).toNatClampNeg) G nb = H at lp ⊢
    obtain ⟨q1, p1, o1⟩ := lp
    have g61 : ∀ j, xm_u2 H 61 k (-1) 61 j = if j = k then -1 else H 61 j := fun j => by
      rw [u2_ap]
      by_cases z : j = k
      · rw [if_pos ⟨rfl, z⟩, if_pos z]
      · rw [if_neg (fun y => z y.2), if_neg z]
    refine offers_ok ⟨n8, n4, b1, b2, b3⟩ r (k + 1) s c _ (by omega) (q1.tr sq.g) ⟨fun y hy => ?_, fun j hj => ?_⟩ ?_ h0 (by rw [Int.natCast_add]; omega)
    · show (xm_u2 H 61 k (-1) 63 y).toInt = smz (fun j => if xm_u2 H 61 k (-1) 61 j = Int32.ofNat y then ofW S j else 0) k + (if xm_u2 H 61 k (-1) 61 k = Int32.ofNat y then ofW S k else 0) ∧ (xm_u2 H 61 k (-1) 63 y).toInt ≤ _
      rw [smz_cg (g := fun j => if H 61 j = Int32.ofNat y then ofW S j else 0) k (fun i hi => by rw [(g61 i).trans (if_neg (show ¬ i = k by omega))]), g61, if_pos rfl, if_neg (on_ne (by omega)), Int.add_zero, u2_ap, if_neg (by omega)]
      exact p1.1 y hy
    · rw [g61]
      by_cases z : j = k
      · rw [if_pos z]
        exact Or.inl rfl
      · rw [if_neg z]
        exact p1.2 j (by omega)
    · rcases o1 with z | z
      · exact Or.inl (by rw [u2_ap, if_neg (by omega)]; exact z)
      · exact Or.inr (z.ag fun j => by rw [u2_ap, if_neg (by omega)])
end OFF
