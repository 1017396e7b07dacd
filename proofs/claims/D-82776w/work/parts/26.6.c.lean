/-! the component's contracts, 6: days are the model's -/
set_option maxRecDepth 100000
theorem it_congr {α : Type} {f g : Nat → α → α} {n : Nat} (I : Nat → α → Prop) (hs : ∀ k s, k < n → I k s → f k s = g k s ∧ I (k + 1) (g k s)) : ∀ c k s, k + c = n → I k s → xp_it f k c s = xp_it g k c s := by
  intro c
  induction c with
  | zero => intro _ _ _ _; rfl
  | succ c ih =>
    intro k s e h
    obtain ⟨a, b⟩ := hs k s (by omega) h
    show xp_it f (k + 1) c (f k s) = xp_it g (k + 1) c (g k s)
    rw [a]
    exact ih (k + 1) _ (by omega) b
theorem it_comm {α : Type} {r : α → α} {e : Nat → α → α} (n : Nat) (h : ∀ k s, n < k → r (e k s) = e k (r s)) : ∀ c k s, n < k → r (xp_it e k c s) = xp_it e k c (r s) := by
  intro c
  induction c with
  | zero => intro _ _ _; rfl
  | succ c ih =>
    intro k s hk
    show r (xp_it e (k + 1) c (e k s)) = xp_it e (k + 1) c (e k (r s))
    rw [ih (k + 1) _ (by omega), h k s hk]
theorem it_fuse {α : Type} {r e : Nat → α → α} (h : ∀ j k s, j < k → r j (e k s) = e k (r j s)) : ∀ c k s, xp_it (fun l s => r l (e l s)) k c s = xp_it r k c (xp_it e k c s) := by
  intro c
  induction c with
  | zero => intro _ _; rfl
  | succ c ih =>
    intro k s
    show xp_it (fun l s => r l (e l s)) (k + 1) c (r k (e k s)) = xp_it r (k + 1) c (r k (xp_it e (k + 1) c (e k s)))
    rw [ih, it_comm k (fun j s hj => h k j s hj) c (k + 1) _ (Nat.lt_succ_self _)]
section C6
variable {d : Nat} {h : xm_H} {D : xp_D} {F : xp_F}
theorem i_eq {a b : Int32} (h : a.toInt = b.toInt) : a = b := Int32.toInt_inj.mp h
theorem wi_mx {v : Int32} : mx 0 (mn 9 v) = wi v := by
  apply i_eq
  rw [mx_ti, mn_ti]
  have z : (0 : Int32).toInt = 0 := rfl
  have n : (9 : Int32).toInt = 9 := rfl
  unfold wi
  by_cases h1 : v < 0
  · have := Int32.lt_iff_toInt_lt.mp h1
    rw [if_pos h1]
    omega
  · have h1' : ¬ v.toInt < (0 : Int32).toInt := fun z => h1 (Int32.lt_iff_toInt_lt.mpr z)
    rw [if_neg h1]
    by_cases h2 : 9 < v
    · have := Int32.lt_iff_toInt_lt.mp h2
      rw [if_pos h2]
      omega
    · have h2' : ¬ (9 : Int32).toInt < v.toInt := fun z => h2 (Int32.lt_iff_toInt_lt.mpr z)
      rw [if_neg h2]
      omega
theorem le0 {v : Int32} (hv : 0 ≤ v.toInt) : (v ≤ 0) = (v = 0) := by
  apply propext
  constructor
  · intro h
    have := Int32.le_iff_toInt_le.mp h
    have z : (0 : Int32).toInt = 0 := rfl
    exact i_eq (by omega)
  · intro h
    rw [h]
    exact Int32.le_refl _
theorem lt_suc {v a b : Int32} (h : b.toInt = a.toInt + 1) : (v < b) = (v ≤ a) := by
  apply propext
  rw [Int32.lt_iff_toInt_lt, Int32.le_iff_toInt_le]
  omega
theorem le_suc {v a b : Int32} (h : b.toInt = a.toInt + 1) : (b ≤ v) = (a < v) := by
  apply propext
  rw [Int32.lt_iff_toInt_lt, Int32.le_iff_toInt_le]
  omega
theorem mx2 {v : Int32} : mx 2 v = if 2 ≤ v then v else 2 := by
  unfold mx
  by_cases h : 2 < v
  · rw [if_pos h, if_pos (Int32.le_of_lt h)]
  · by_cases h2 : 2 ≤ v
    · rw [if_neg h, if_pos h2]
      exact (le_asym h2 h)
    · rw [if_neg h, if_neg h2]
theorem se1_end1 {l : Nat} (h1 : 0 ≤ (F 5 l).toInt) (h2 : 0 ≤ (F 10 l).toInt) (h3 : 0 ≤ (F 11 l).toInt) : sq_se1 true l F = sp_rs1 l (sp_end1 l F) := by
  have b1 : sq_by F true l = (if F 8 l ≤ 49 then (if F 8 l ≤ 24 then -2 else 0) else 1) := by
    unfold sq_by
    show (if F 8 l < 50 then (if F 8 l < 25 then (-2 : Int32) else 0) else 1) = _
    simp only [lt_suc (v := F 8 l) (a := 49) (b := 50) (by decide), lt_suc (v := F 8 l) (a := 24) (b := 25) (by decide)]
  have ch : ∀ (v y : Int32), 0 ≤ v.toInt → sq_chg true F l v y = if v ≤ 0 then v else wi (v + y - sp_less F l) := by
    intro v y hv
    unfold sq_chg sp_less
    simp only [le0 hv, wi_mx]
    by_cases c : v = 0
    · rw [if_pos c, if_pos c, c]
    · rw [if_neg c, if_neg c]
      rfl
  have m2 : F 10 l + (-2) = F 10 l - 2 := (Int32.sub_eq_add_neg _ _).symm
  unfold sq_se1 sp_rs1 sp_end1
  show xm_u2 (xm_u2 (xm_u2 (xm_u2 (xm_u2 (xm_u2 (xm_u2 (xm_u2 F 5 l (sq_chg true F l (F 5 l) (sq_by F true l))) 10 l (sq_chg true F l (F 10 l) (-2))) 11 l (mx 2 (sq_chg true F l (F 11 l) 1))) 6 l 0) 7 l 0) 8 l 100) 12 l 0) 13 l 0 = _
  rw [ch _ _ h1, ch _ _ h2, ch _ _ h3, mx2, b1, m2]
  funext o k
  simp only [u2_ap]
  by_cases e : k = l
  · simp only [e, and_true]
    by_cases e1 : o = 13
    · simp only [e1, ↓reduceIte]
    by_cases e2 : o = 12
    · simp only [e2, ↓reduceIte, Nat.reduceEqDiff]
    by_cases e3 : o = 8
    · simp only [e3, ↓reduceIte, Nat.reduceEqDiff]
    by_cases e4 : o = 7
    · simp only [e4, ↓reduceIte, Nat.reduceEqDiff]
    by_cases e5 : o = 6
    · simp only [e5, ↓reduceIte, Nat.reduceEqDiff]
    simp only [e1, e2, e3, e4, e5, ↓reduceIte]
    by_cases e6 : o = 11
    · simp only [e6, ↓reduceIte, Nat.reduceEqDiff]
    · simp only [e6, ↓reduceIte]
  · simp only [e, and_false, ↓reduceIte]
theorem rs_end {j k : Nat} (hj : j < k) : sp_rs1 j (sp_end1 k F) = sp_end1 k (sp_rs1 j F) := by
  have ne : ¬ k = j := by omega
  have a : ∀ o, sp_rs1 j F o k = F o k := fun o => by
    unfold sp_rs1
    rw [u2_ap, if_neg (by omega), u2_ap, if_neg (by omega), u2_ap, if_neg (by omega), u2_ap, if_neg (by omega), u2_ap, if_neg (by omega)]
  have e1 : sp_less (sp_rs1 j F) k = sp_less F k := by
    unfold sp_less
    rw [a]
  conv => rhs; unfold sp_end1
  rw [e1, a, a, a, a]
  unfold sp_end1 sp_rs1
  funext o i
  simp only [u2_ap]
  by_cases e : i = k
  · subst e
    simp only [ne, and_false, ↓reduceIte]
  · simp only [e, and_false, ↓reduceIte]
theorem near_eq {l : Nat} : sq_near true F l = sp_near F l := by
  funext o x
  unfold sq_near sp_near
  show (if 6 ≤ F 5 o ∧ _ then _ else _) = _
  simp only [le_suc (v := F 5 o) (a := 5) (b := 6) (by decide)]
  rfl
theorem sw1_eq {n l : Nat} (hn : F 0 6 = Int32.ofNat n) (h12 : n ≤ 12) : sq_sw1 true n l F = sp_sw1 l F := by
  have e : sq_nearest true n F l = sp_nearest F l := by
    unfold sq_nearest sp_nearest
    rw [near_eq, hn, tc_nat (by omega)]
  have n3 : nu true 3 = 5 := rfl
  unfold sq_sw1 sp_sw1 sp_swarm
  rw [e]
  simp only [n3]
  by_cases c1 : F 5 l = 0
  · by_cases c2 : sp_nearest F l = -1
    · rw [if_neg (fun z => z.2 c2), if_pos c1, if_pos c2]
    · rw [if_pos ⟨c1, c2⟩, if_pos c1, if_neg c2]
  · rw [if_neg (fun z => c1 z.1), if_neg c1]
/-- what a swarm has nothing to do with -/
abbrev sP (o : Nat) : Prop := o = 6 ∨ o = 7 ∨ o = 8 ∨ o = 12 ∨ o = 13
def mgs (F E : xp_F) : xp_F := fun o k => if sP o then E o k else F o k
theorem sw1_mgs {l : Nat} {E : xp_F} : sp_sw1 l (mgs F E) = mgs (sp_sw1 l F) E := by
  have a : ∀ o k, ¬ sP o → mgs F E o k = F o k := fun o k h => if_neg h
  have e1 : sp_near (mgs F E) l = sp_near F l := by
    funext o x
    unfold sp_near sp_apart
    rw [a 5 o (by decide), a 3 l (by decide), a 3 o (by decide), a 4 l (by decide), a 4 o (by decide), a 3 _ (by decide), a 4 _ (by decide)]
  have e2 : sp_nearest (mgs F E) l = sp_nearest F l := by
    unfold sp_nearest
    rw [e1, a 0 6 (by decide)]
  unfold sp_sw1 sp_swarm
  rw [e2, a 5 l (by decide), a 5 _ (by decide)]
  by_cases c1 : F 5 l = 0
  · rw [if_pos c1, if_pos c1]
    by_cases c2 : sp_nearest F l = -1
    · rw [if_pos c2, if_pos c2]
    · rw [if_neg c2, if_neg c2]
      funext o k
      unfold mgs
      simp only [u2_ap]
      by_cases p : sP o
      · rw [if_pos p, if_neg (by omega), if_neg (by omega), if_pos p]
      · rw [if_neg p, if_neg p]
  · rw [if_neg c1, if_neg c1]
theorem sw_rs {l k : Nat} : sp_sw1 l (sp_rs1 k F) = sp_rs1 k (sp_sw1 l F) := by
  have e1 : sp_rs1 k F = mgs F (sp_rs1 k F) := by
    funext o j
    unfold mgs
    by_cases p : sP o
    · rw [if_pos p]
    · rw [if_neg p]
      unfold sp_rs1
      rw [u2_ap, if_neg (by omega), u2_ap, if_neg (by omega), u2_ap, if_neg (by omega), u2_ap, if_neg (by omega), u2_ap, if_neg (by omega)]
  have s : ∀ o j, sP o → sp_sw1 l F o j = F o j := fun o j p => by
    have := @sw1_mgs F l F
    have e0 : mgs F F = F := by
      funext o j
      unfold mgs
      split <;> rfl
    rw [e0] at this
    rw [this]
    exact if_pos p
  rw [e1, sw1_mgs]
  funext o j
  unfold mgs
  by_cases p : sP o
  · rw [if_pos p]
    unfold sp_rs1
    simp only [u2_ap, s o j p]
  · rw [if_neg p]
    unfold sp_rs1
    rw [u2_ap, if_neg (by omega), u2_ap, if_neg (by omega), u2_ap, if_neg (by omega), u2_ap, if_neg (by omega), u2_ap, if_neg (by omega)]
theorem it_comm2 {α : Type} {r e : Nat → α → α} (h : ∀ j k s, r j (e k s) = e k (r j s)) {c2 k2 : Nat} : ∀ c k s, xp_it r k c (xp_it e k2 c2 s) = xp_it e k2 c2 (xp_it r k c s) := by
  intro c
  induction c with
  | zero => intro _ _; rfl
  | succ c ih =>
    intro k s
    have one : ∀ c2 k2 s, r k (xp_it e k2 c2 s) = xp_it e k2 c2 (r k s) := by
      intro c2
      induction c2 with
      | zero => intro _ _; rfl
      | succ c2 ih2 =>
        intro k2 s
        show r k (xp_it e (k2 + 1) c2 (e k2 s)) = xp_it e (k2 + 1) c2 (e k2 (r k s))
        rw [ih2, h]
    show xp_it r (k + 1) c (r k (xp_it e k2 c2 s)) = xp_it e k2 c2 (xp_it r (k + 1) c (r k s))
    rw [one, ih]
/-- guesses as they may be -/
def GG (n : Nat) (F : xp_F) : Prop := ∀ l, l < n → 0 ≤ (F 5 l).toInt ∧ 0 ≤ (F 10 l).toInt ∧ 0 ≤ (F 11 l).toInt
theorem rsend_o {l o k : Nat} (h : ¬ k = l) : sp_rs1 l (sp_end1 l F) o k = F o k := by
  unfold sp_rs1 sp_end1
  simp only [u2_ap, h, and_false, ↓reduceIte]
theorem ends_eq {n : Nat} (hn : F 0 6 = Int32.ofNat n) (h12 : n ≤ 12) (hg : GG n F) : sq_ends true n F = sp_ends F := by
  have tn : (F 0 6).toNatClampNeg = n := by rw [hn, tc_nat (by omega)]
  have e1 : xp_it (sq_se1 true) 0 n F = xp_it sp_rs1 0 n (xp_it sp_end1 0 n F) := by
    rw [← it_fuse (r := sp_rs1) (e := sp_end1) (fun j k s hj => rs_end hj)]
    refine it_congr (fun k G => ∀ l, k ≤ l → l < n → ∀ o, G o l = F o l) (fun k G hk hG => ?_) n 0 F (Nat.zero_add _) (fun _ _ _ _ => rfl)
    have g := hG k (Nat.le_refl _) hk
    obtain ⟨a1, a2, a3⟩ := hg k hk
    refine ⟨se1_end1 (by rw [g]; exact a1) (by rw [g]; exact a2) (by rw [g]; exact a3), fun l h1 h2 o => ?_⟩
    rw [rsend_o (by omega)]
    exact hG l (by omega) h2 o
  have e0 : ∀ c k, (xp_it sp_rs1 k c (xp_it sp_end1 0 n F)) 0 6 = Int32.ofNat n := fun c k =>
    it_inv (fun (G : xp_F) => G 0 6 = Int32.ofNat n) (fun _ _ h => rs1_0.trans h) _ _ _ (it_inv (fun (G : xp_F) => G 0 6 = Int32.ofNat n) (fun _ _ h => end1_0.trans h) _ _ _ hn)
  unfold sq_ends sp_ends
  rw [tn, e1, it_comm2 (r := sp_rs1) (e := sp_sw1) (fun j k s => (sw_rs).symm)]
  exact it_congr (fun _ G => G 0 6 = Int32.ofNat n) (fun k G hk hG => ⟨sw1_eq hG h12, sw1_0.trans hG⟩) n 0 _ (Nat.zero_add _) (e0 _ _)
theorem grow_eq {n : Nat} (hn : F 0 6 = Int32.ofNat n) (h12 : n ≤ 12) : sq_grow true n (F 0 0) F = sp_grow F := by
  unfold sq_grow sp_grow
  rw [hn, tc_nat (by omega)]
  refine it_congr (fun _ (G : xp_F) => G 0 0 = F 0 0) (fun k G hk hG => ⟨?_, grow1_0.trans hG⟩) n 0 F (Nat.zero_add _) rfl
  unfold sq_grow1 sq_grows sp_grow1 sp_some sq_some
  rw [hG]
  rfl
end C6
