/-! a mix comes -/
set_option maxRecDepth 100000
section ST7
variable {d : Nat} {h : xm_H} {D : xp_D} {F G : xp_F} {M : Nat}
theorem sum_cg {f g : Nat → Nat} : ∀ n, (∀ i, i < n → f i = g i) → sumf f n = sumf g n
  | 0, _ => rfl
  | n + 1, h => by
    show sumf f n + f n = sumf g n + g n
    rw [sum_cg n (fun i hi => h i (by omega)), h n (Nat.lt_succ_self _)]
theorem sum_1 {f : Nat → Nat} {a : Nat} : ∀ n, a < n → sumf f n = sumf (fun i => if i = a then 0 else f i) n + f a
  | 0, h => by omega
  | n + 1, h => by
    show sumf f n + f n = sumf (fun i => if i = a then 0 else f i) n + (if n = a then 0 else f n) + f a
    by_cases e : n = a
    · rw [if_pos e, ← e, sum_cg (f := f) (g := fun i => if i = n then 0 else f i) n (fun i hi => (if_neg (by omega)).symm)]
      rfl
    · have h' : a < n := by omega
      rw [if_neg e, sum_1 n h']
      omega
theorem sum_2 {f : Nat → Nat} {a b n : Nat} (ha : a < n) (hb : b < n) (e : ¬ a = b) : sumf f n = sumf (fun i => if i = b then 0 else if i = a then 0 else f i) n + f a + f b := by
  rw [sum_1 n ha, sum_1 (f := fun i => if i = a then 0 else f i) n hb, if_neg (fun z => e z.symm)]
  omega
theorem bit_ext {s t : Int32} (h : ∀ j, j < 32 → bit s j = bit t j) : s = t := Int32.toBitVec_inj.mp (BitVec.eq_of_getLsbD_eq h)
theorem mixC_ap {C : xp_F} {n A B o k : Nat} {a b s : Int32} : xm_u2 (xm_u2 (xm_u2 (xm_u2 (xm_u2 (xm_u2 (xm_u2 C 47 n (-1)) 48 n (-1)) 50 n a) 51 n b) 53 n s) 54 A 0) 54 B 0 o k = if o = 54 ∧ k = B then 0 else if o = 54 ∧ k = A then 0 else if o = 53 ∧ k = n then s else if o = 51 ∧ k = n then b else if o = 50 ∧ k = n then a else if o = 48 ∧ k = n then -1 else if o = 47 ∧ k = n then -1 else C o k := by
  rw [u2_ap, u2_ap, u2_ap, u2_ap, u2_ap, u2_ap, u2_ap]
theorem comesC {n o k : Nat} {u lo hi : Int32} (hn : (F 0 68).toNatClampNeg = n) : sp_comes F u lo hi o k = if o = 52 ∧ 12 * n ≤ k ∧ k < 12 * n + 12 then 0 else if o = 54 ∧ k = n then 1 else if o = 49 ∧ k = n then F 0 0 else if o = 46 ∧ k = n then (if hi ≤ 90 then hi else 90) else if o = 45 ∧ k = n then (if 0 ≤ lo then lo else 0) else if o = 44 ∧ k = n then u else if o = 0 ∧ k = 68 then F 0 68 + 1 else F o k := by
  rw [comes_ap, hn]
  unfold sp_comes0
  rw [u2_ap, u2_ap, u2_ap, u2_ap, u2_ap, u2_ap, hn]
theorem mix_eq {a b : Int32} (c : sp_isThere F a ∧ sp_isThere F b ∧ ¬ a = b ∧ ¬ F 0 68 = 40) {n : Nat} (hn : (F 0 68).toNatClampNeg = n) : ∃ C, (∀ o k, C o k = sp_comes F (F 44 a.toNatClampNeg + F 44 b.toNatClampNeg) (mn (F 45 a.toNatClampNeg) (F 45 b.toNatClampNeg)) (mx (F 46 a.toNatClampNeg) (F 46 b.toNatClampNeg)) o k) ∧ (sp_mix F a b).2 = xm_u2 (xm_u2 (xm_u2 (xm_u2 (xm_u2 (xm_u2 (xm_u2 C 47 n (-1)) 48 n (-1)) 50 n a) 51 n b) 53 n (C 53 a.toNatClampNeg ||| C 53 b.toNatClampNeg)) 54 a.toNatClampNeg 0) 54 b.toNatClampNeg 0 := by
  refine ⟨_, fun o k => rfl, ?_⟩
  unfold sp_mix
  rw [if_pos c, hn]
theorem mix_all {a b : Int32} (c : sp_isThere F a ∧ sp_isThere F b ∧ ¬ a = b ∧ ¬ F 0 68 = 40) {n : Nat} (hn : (F 0 68).toNatClampNeg = n) (ha : a.toNatClampNeg < n) (hb : b.toNatClampNeg < n) {o k : Nat} : (sp_mix F a b).2 o k =
    if o = 54 ∧ k = b.toNatClampNeg then 0 else if o = 54 ∧ k = a.toNatClampNeg then 0 else if o = 53 ∧ k = n then F 53 a.toNatClampNeg ||| F 53 b.toNatClampNeg else if o = 51 ∧ k = n then b else if o = 50 ∧ k = n then a else if o = 48 ∧ k = n then -1 else if o = 47 ∧ k = n then -1 else
    if o = 52 ∧ 12 * n ≤ k ∧ k < 12 * n + 12 then 0 else if o = 54 ∧ k = n then 1 else if o = 49 ∧ k = n then F 0 0 else if o = 46 ∧ k = n then (if mx (F 46 a.toNatClampNeg) (F 46 b.toNatClampNeg) ≤ 90 then mx (F 46 a.toNatClampNeg) (F 46 b.toNatClampNeg) else 90) else if o = 45 ∧ k = n then (if 0 ≤ mn (F 45 a.toNatClampNeg) (F 45 b.toNatClampNeg) then mn (F 45 a.toNatClampNeg) (F 45 b.toNatClampNeg) else 0) else if o = 44 ∧ k = n then F 44 a.toNatClampNeg + F 44 b.toNatClampNeg else if o = 0 ∧ k = 68 then F 0 68 + 1 else F o k := by
  obtain ⟨C, e1, e2⟩ := mix_eq c hn
  have e53 : ∀ x, C 53 x = F 53 x := fun x => by
    rw [e1, comesC hn, if_neg (by omega), if_neg (by omega), if_neg (by omega), if_neg (by omega), if_neg (by omega), if_neg (by omega), if_neg (by omega)]
  have z := (e1 o k).trans (comesC hn)
  rw [e2, mixC_ap, e53, e53]
  generalize C o k = Z at z
  rw [z]
theorem setC_cg {i : Nat} (e : ∀ l, l < 12 → G 52 (12 * i + l) = F 52 (12 * i + l)) : sq_setC G i = sq_setC F i := by
  unfold sq_setC
  have g : ∀ (c k : Nat) (s : Int32), k + c = 12 → xp_it (sq_set1 G i) k c s = xp_it (sq_set1 F i) k c s := by
    intro c
    induction c with
    | zero => intro k s _; exact Eq.refl s
    | succ c ih =>
      intro k s hk
      show xp_it (sq_set1 G i) (k + 1) c (sq_set1 G i k s) = xp_it (sq_set1 F i) (k + 1) c (sq_set1 F i k s)
      have : sq_set1 G i k s = sq_set1 F i k s := by
        unfold sq_set1
        rw [e k (by omega)]
      rw [this]
      exact ih (k + 1) _ (by omega)
  exact g 12 0 0 (Nat.zero_add _)
/-- of what is mixed -/
def mxd (D : xp_D) (y : Option (Nat × Nat)) (i : Nat) : Option (Nat × Nat) := if i = xd_n D 2 then y else xd_m D i
theorem if_mix (i : IF D F) (n40 : xd_n D 2 ≤ 40) (n16 : xd_n D 1 ≤ 16) (hm : ∀ i x y, i < xd_n D 2 → xd_m D i = some (x, y) → x < i ∧ y < i) {a b : Int32} (c : sp_isThere F a ∧ sp_isThere F b ∧ ¬ a = b ∧ ¬ F 0 68 = 40) : IF (IDn (nxt D 2) (mxd D (some (a.toNatClampNeg, b.toNatClampNeg)))) (sp_mix F a b).2 := by
  obtain ⟨cn, ha, hz, hf, hp, ht, hw, hh, hb, hr, ⟨l1, l2, l3⟩, ⟨lv, u1, u2, u3⟩, hy, pw, hs, hn, ti, hd⟩ := i
  have e1 := cn.2.2.1
  have et : (F 0 68).toNatClampNeg = xd_n D 2 := by rw [e1, tc_nat (by omega)]
  have nc : ¬ xd_n D 2 = 40 := fun z => c.2.2.2 (by rw [e1, z]; rfl)
  have la : a.toNatClampNeg < xd_n D 2 := cnt_lt e1 (by omega) c.1.1
  have lb : b.toNatClampNeg < xd_n D 2 := cnt_lt e1 (by omega) c.2.1.1
  have r40 : rg (F 0 68) 40 := by rw [e1]; exact ⟨by rw [ti_nat (by omega)]; omega, by rw [ti_nat (by omega)]; omega⟩
  have rl : ∀ {x : Int32}, 0 ≤ x ∧ x ≤ F 0 68 - 1 → rg x 40 := fun {x} k => by
    have := in_iff.mp (in_cnt r40 k)
    exact ⟨this.1, by omega⟩
  have ne : ¬ a.toNatClampNeg = b.toNatClampNeg := tn_ne (rl c.1.1) (rl c.2.1.1) c.2.2.1
  have ap := fun {o k : Nat} => mix_all (o := o) (k := k) c et la lb
  generalize (sp_mix F a b).2 = G at ap ⊢
  generalize eA : a.toNatClampNeg = A at *
  generalize eB : b.toNatClampNeg = B at *
  have e : G = fun o j => if (44 ≤ o ∧ o ≤ 54) ∨ (o = 0 ∧ j = 68) then G o j else F o j := by
    funext o j
    by_cases q : (44 ≤ o ∧ o ≤ 54) ∨ (o = 0 ∧ j = 68)
    · rw [if_pos q]
    · rw [if_neg q, ap, if_neg (by omega), if_neg (by omega), if_neg (by omega), if_neg (by omega), if_neg (by omega), if_neg (by omega), if_neg (by omega), if_neg (by omega), if_neg (by omega), if_neg (by omega), if_neg (by omega), if_neg (by omega), if_neg (by omega), if_neg (by omega)]
  have old : ∀ o k, ¬ k = xd_n D 2 → (44 ≤ o ∧ o ≤ 51) ∨ o = 53 → G o k = F o k := fun o k h1 h2 => by
    rw [ap, if_neg (by omega), if_neg (by omega), if_neg (by omega), if_neg (by omega), if_neg (by omega), if_neg (by omega), if_neg (by omega), if_neg (by omega), if_neg (by omega), if_neg (by omega), if_neg (by omega), if_neg (by omega), if_neg (by omega), if_neg (by omega)]
  have g44 : G 44 (xd_n D 2) = F 44 A + F 44 B := by
    rw [ap]
    simp only [Nat.reduceEqDiff, false_and, and_self, ↓reduceIte]
  have g45 : G 45 (xd_n D 2) = if 0 ≤ mn (F 45 A) (F 45 B) then mn (F 45 A) (F 45 B) else 0 := by
    rw [ap]
    simp only [Nat.reduceEqDiff, false_and, and_self, ↓reduceIte]
  have g46 : G 46 (xd_n D 2) = if mx (F 46 A) (F 46 B) ≤ 90 then mx (F 46 A) (F 46 B) else 90 := by
    rw [ap]
    simp only [Nat.reduceEqDiff, false_and, and_self, ↓reduceIte]
  have g47 : G 47 (xd_n D 2) = -1 := by
    rw [ap]
    simp only [Nat.reduceEqDiff, false_and, and_self, ↓reduceIte]
  have g48 : G 48 (xd_n D 2) = -1 := by
    rw [ap]
    simp only [Nat.reduceEqDiff, false_and, and_self, ↓reduceIte]
  have g50 : G 50 (xd_n D 2) = a := by
    rw [ap]
    simp only [Nat.reduceEqDiff, false_and, and_self, ↓reduceIte]
  have g51 : G 51 (xd_n D 2) = b := by
    rw [ap]
    simp only [Nat.reduceEqDiff, false_and, and_self, ↓reduceIte]
  have g53 : G 53 (xd_n D 2) = F 53 A ||| F 53 B := by
    rw [ap]
    simp only [Nat.reduceEqDiff, false_and, and_self, ↓reduceIte]
  have gB : G 54 B = 0 := by
    rw [ap]
    exact if_pos ⟨rfl, rfl⟩
  have gA : G 54 A = 0 := by
    rw [ap, if_neg (fun z => ne z.2)]
    exact if_pos ⟨rfl, rfl⟩
  have g54 : ∀ i, ¬ i = B → ¬ i = A → ¬ i = xd_n D 2 → G 54 i = F 54 i := fun i h1 h2 h3 => by
    rw [ap, if_neg (by omega), if_neg (by omega), if_neg (by omega), if_neg (by omega), if_neg (by omega), if_neg (by omega), if_neg (by omega), if_neg (by omega), if_neg (by omega), if_neg (by omega), if_neg (by omega), if_neg (by omega), if_neg (by omega), if_neg (by omega)]
  have nA : ¬ A = xd_n D 2 := by omega
  have nB : ¬ B = xd_n D 2 := by omega
  have b1 : CN (IDn (nxt D 2) (mxd D (some (A, B)))) G := by
    have z : ∀ j, ¬ j = 68 → G 0 j = F 0 j := fun j hj => by rw [e]; exact if_neg (by omega)
    refine ⟨(z 6 (by decide)).trans cn.1, (z 61 (by decide)).trans cn.2.1, ?_, (z 83 (by decide)).trans cn.2.2.2⟩
    show G 0 68 = Int32.ofNat (xd_n D 2 + 1)
    rw [ap]
    simp only [Nat.reduceEqDiff, false_and, and_self, ↓reduceIte, reduceCtorEq, e1, nat_succ]
  have b2 : ivL (IDn (nxt D 2) (mxd D (some (A, B)))) G := by
    refine ⟨fun i hi => ?_, fun i hi => ?_, fun i hi => ?_⟩
    · have hi : i < xd_n D 2 + 1 := hi
      by_cases q : i = xd_n D 2
      · rw [q, g45, g46]
        obtain ⟨j1, j2⟩ := l1 A la
        obtain ⟨k1, k2⟩ := l1 B lb
        refine ⟨?_, ?_⟩
        · split
          · exact rg_mn j1 k1
          · exact ⟨by decide, by decide⟩
        · split
          · exact rg_mx j2 k2
          · exact ⟨by decide, by decide⟩
      · rw [old 45 i q (by omega), old 46 i q (by omega)]
        exact l1 i (by omega)
    · have hi : i < xd_n D 2 + 1 := hi
      show match mxd D (some (A, B)) i with
        | none => G 53 i = sq_setC G i
        | some (a, b) => G 53 i = G 53 a ||| G 53 b ∧ G 47 i = -1 ∧ G 48 i = -1
      unfold mxd
      by_cases q : i = xd_n D 2
      · rw [if_pos q, q]
        exact ⟨by rw [g53, old 53 A nA (by omega), old 53 B nB (by omega)], g47, g48⟩
      · rw [if_neg q]
        have := l2 i (by omega)
        cases em : xd_m D i with
        | none =>
          rw [em] at this
          show G 53 i = sq_setC G i
          rw [old 53 i q (by omega), setC_cg (F := F) (fun l hl => ?_)]
          · exact this
          · rw [ap, if_neg (by omega), if_neg (by omega), if_neg (by omega), if_neg (by omega), if_neg (by omega), if_neg (by omega), if_neg (by omega), if_neg (by omega), if_neg (by omega), if_neg (by omega), if_neg (by omega), if_neg (by omega), if_neg (by omega), if_neg (by omega)]
        | some y =>
          obtain ⟨x, y⟩ := y
          rw [em] at this
          obtain ⟨hx, hy'⟩ := hm i x y (by omega) em
          show G 53 i = G 53 x ||| G 53 y ∧ G 47 i = -1 ∧ G 48 i = -1
          rw [old 53 i q (by omega), old 53 x (by omega) (by omega), old 53 y (by omega) (by omega), old 47 i q (by omega), old 48 i q (by omega)]
          exact this
    · have hi : i < xd_n D 2 + 1 := hi
      show match mxd D (some (A, B)) i with
        | none => G 50 i = -1 ∧ xm_in (G 47 i) (xd_n D 1) = true ∧ xm_in (G 48 i) (xd_n D 1) = true
        | some (a, b) => G 50 i = Int32.ofNat a ∧ G 51 i = Int32.ofNat b
      unfold mxd
      by_cases q : i = xd_n D 2
      · rw [if_pos q, q]
        refine ⟨?_, ?_⟩
        · rw [g50, ← eA]
          exact rg_nat (rl c.1.1)
        · rw [g51, ← eB]
          exact rg_nat (rl c.2.1.1)
      · rw [if_neg q]
        have := l3 i (by omega)
        rw [old 50 i q (by omega), old 51 i q (by omega), old 47 i q (by omega), old 48 i q (by omega)]
        exact this
  have th : ∀ {x : Int32} {X : Nat}, x.toNatClampNeg = X → sp_isThere F x → ¬ F 54 X = 0 := fun {x X} e k => by
    rw [← e]
    exact k.2
  have tA := th eA c.1
  have tB := th eB c.2.1
  have s2 := sum_2 (f := fun i => if F 54 i = 0 then 0 else lv i) la lb ne
  have s2 : sumf (fun i => if F 54 i = 0 then 0 else lv i) (xd_n D 2) = sumf (fun i => if i = B then 0 else if i = A then 0 else if F 54 i = 0 then 0 else lv i) (xd_n D 2) + (if F 54 A = 0 then 0 else lv A) + (if F 54 B = 0 then 0 else lv B) := s2
  rw [if_neg tA, if_neg tB] at s2
  obtain ⟨va1, va2, va3⟩ := u2 A la
  obtain ⟨vb1, vb2, vb3⟩ := u2 B lb
  have p1 := (u1 A la).1
  have p2 := (u1 B lb).1
  have b3 : ivU (IDn (nxt D 2) (mxd D (some (A, B)))) G := by
    refine ⟨fun i => if i = xd_n D 2 then lv A + lv B else lv i, fun i hi => ?_, fun i hi => ?_, ?_⟩
    · have hi : i < xd_n D 2 + 1 := hi
      show 1 ≤ (if i = xd_n D 2 then lv A + lv B else lv i) ∧ ∀ x y, mxd D (some (A, B)) i = some (x, y) → (if x = xd_n D 2 then lv A + lv B else lv x) + (if y = xd_n D 2 then lv A + lv B else lv y) ≤ (if i = xd_n D 2 then lv A + lv B else lv i)
      unfold mxd
      by_cases q : i = xd_n D 2
      · rw [if_pos q, if_pos q]
        refine ⟨by omega, fun x y hxy => ?_⟩
        cases hxy
        rw [if_neg nA, if_neg nB]
        exact Nat.le_refl _
      · rw [if_neg q, if_neg q]
        refine ⟨(u1 i (by omega)).1, fun x y hxy => ?_⟩
        obtain ⟨hx, hy'⟩ := hm i x y (by omega) hxy
        rw [if_neg (by omega), if_neg (by omega)]
        exact (u1 i (by omega)).2 x y hxy
    · have hi : i < xd_n D 2 + 1 := hi
      show (if i = xd_n D 2 then lv A + lv B else lv i) ≤ 40 ∧ 0 < (G 44 i).toInt ∧ (G 44 i).toInt ≤ 25200 * ((if i = xd_n D 2 then lv A + lv B else lv i : Nat) : Int)
      by_cases q : i = xd_n D 2
      · rw [if_pos q, q, g44, ti_add (by omega)]
        refine ⟨by omega, by omega, by omega⟩
      · rw [if_neg q, old 44 i q (by omega)]
        exact u2 i (by omega)
    · show sumf (fun i => if G 54 i = 0 then 0 else if i = xd_n D 2 then lv A + lv B else lv i) (xd_n D 2) + (if G 54 (xd_n D 2) = 0 then 0 else if xd_n D 2 = xd_n D 2 then lv A + lv B else lv (xd_n D 2)) ≤ xd_n D 2 + 1
      have h1 : (if G 54 (xd_n D 2) = 0 then 0 else if xd_n D 2 = xd_n D 2 then lv A + lv B else lv (xd_n D 2)) ≤ lv A + lv B := by
        split
        · exact Nat.zero_le _
        · rw [if_pos rfl]
          exact Nat.le_refl _
      have h2 : sumf (fun i => if G 54 i = 0 then 0 else if i = xd_n D 2 then lv A + lv B else lv i) (xd_n D 2) = sumf (fun i => if i = B then 0 else if i = A then 0 else if F 54 i = 0 then 0 else lv i) (xd_n D 2) := sum_cg _ fun i hi => by
        rw [if_neg (show ¬ i = xd_n D 2 by omega)]
        by_cases q1 : i = B
        · rw [if_pos q1, q1, gB, if_pos rfl]
        · rw [if_neg q1]
          by_cases q2 : i = A
          · rw [if_pos q2, q2, gA, if_pos rfl]
          · rw [if_neg q2, g54 i q1 q2 (by omega)]
      omega
  rw [e] at b1 b2 b3 ⊢
  exact ⟨b1, ha, hz, hf, hp, ht, hw, hh, hb, hr, b2, b3, hy, pw, hs, hn, ti, hd⟩
theorem mr_mix {a b : Int32} {r n : Nat} {L : Nat → Ln} (k : MR F r n L) : MR (sp_mix F a b).2 r n L := by
  refine k.gP fun o j h1 h2 => ?_
  unfold sp_mix
  split
  · show xm_u2 (xm_u2 (xm_u2 (xm_u2 (xm_u2 (xm_u2 (xm_u2 (sp_comes F _ _ _) 47 _ _) 48 _ _) 50 _ _) 51 _ _) 53 _ _) 54 _ _) 54 _ _ o j = _
    rw [u2_ap, if_neg (by omega), u2_ap, if_neg (by omega), u2_ap, if_neg (by omega), u2_ap, if_neg (by omega), u2_ap, if_neg (by omega), u2_ap, if_neg (by omega), u2_ap, if_neg (by omega), comes_ap, if_neg (by omega)]
    unfold sp_comes0
    rw [u2_ap, if_neg (by omega), u2_ap, if_neg (by omega), u2_ap, if_neg (by omega), u2_ap, if_neg (by omega), u2_ap, if_neg (by omega), u2_ap, if_neg (by omega)]
  · rfl
theorem cs_ml (q : CS h D) : ∀ i x y, i < xd_n D 2 → xd_m D i = some (x, y) → x < i ∧ y < i := fun i x y hi e => by
  obtain ⟨-, a, b, -⟩ := cs_M q hi e
  exact ⟨a, b⟩
theorem t_25 (iv : IV M h D F) {a b : Int32} : RG M (d + 1000) h D F 53 166 [.int a, .int b] :=
  st_gx (P := fun F1 D' => F1 = (sp_mix F a b).2 ∧ IF D' (sp_mix F a b).2) (Q := fun F2 => F2 = (sp_mix F a b).2) iv (fun hh q w v ru => by
    obtain ⟨h', D', m1, g, -, k⟩ := c53 (d := d + 996) q w v iv.n iv.2.2.2.2.2.2.2.2.2.2.2.2.1.1 (a := a) (b := b)
    refine ⟨h', D', _, m1, g.mono (by decide) (by decide), rfl, ?_⟩
    rcases k with ⟨e1, e2⟩ | ⟨c, k1, k2, k3⟩
    · rw [e1, e2]
      exact iv.2.2
    · refine IF_D (n := nxt D 2) (m := mxd D (some (a.toNatClampNeg, b.toNatClampNeg))) (fun j => ?_) k3 (if_mix iv.2.2 (cs_n iv.q).2.2.1 (cs_n iv.q).2.1 (cs_ml iv.q) c)
      unfold nxt
      split
      · rename_i e
        rw [e]
        exact k1
      · rename_i e
        exact k2 j e) (fun hb ms => ⟨_, c166 (d := d + 998) ms (iv.n.i iv.q), rfl⟩) (fun D' F1 F2 a b _ _ _ _ => by rw [a.1, b]) fun D2 F1 F2 _ a b => by
    rw [a.1, b, mrg_s]
    exact ⟨fun _ _ _ => mr_mix, a.2⟩
end ST7
