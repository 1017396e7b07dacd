/-! texts: terms, what they are -/
set_option maxRecDepth 100000
/-- what reading comes to: a fault's kind and place, or a term and where the next token is sought -/
abbrev PR : Type := (Int32 × Nat) ⊕ (Tm × Nat)
def pb (r : PR) (f : Tm → Nat → PR) : PR := match r with
  | .inl e => .inl e
  | .inr x => f x.1 x.2
def cmpc (k : Int32) : Int := if k = 60 then 13 else if k = 61 then 14 else 15
/-- 0 a unit, 1 a product, 2 behind a factor, 3 a sum, 4 behind a part of a sum, 5 one condition, 6 all, 7 behind one of all, 8 any, 9 behind one of any -/
def pz (c : Nat → Int32) (T : Nat) : Nat → Nat → Nat → Tm → Nat → PR
  | 0, _, _, _, _ => .inl (0, 0)
  | n + 1, g, dp, t, q => match g with
    | 0 => if lK c T q = 40 then (if dp = 8 then .inl (3, lS c T q) else pb (pz c T n 3 (dp + 1) t (lE c T q)) fun t1 q1 => if lK c T q1 = 41 then .inr (t1, lE c T q1) else .inl (1, lS c T q1))
      else if lK c T q = 2 then .inr (.num (lV c T q).toInt, lE c T q)
      else if 201 ≤ lK c T q then .inr (.var (lK c T q - 201).toNatClampNeg, lE c T q) else .inl (1, lS c T q)
    | 1 => pb (pz c T n 0 dp t q) fun t1 q1 => pz c T n 2 dp t1 q1
    | 2 => if lK c T q = 42 then pb (pz c T n 0 dp t (lE c T q)) fun t1 q1 => pz c T n 2 dp (.mulL 11 (.add t t1)) q1
      else if lK c T q = 47 then (if ¬ lK c T (lE c T q) = 2 then .inl (1, lS c T (lE c T q)) else if lV c T (lE c T q) = 0 then .inl (2, lS c T (lE c T q)) else pz c T n 2 dp (.mulR t (lV c T (lE c T q)).toInt) (lE c T (lE c T q)))
      else .inr (t, q)
    | 3 => pb (pz c T n 1 dp t q) fun t1 q1 => pz c T n 4 dp t1 q1
    | 4 => if lK c T q = 43 ∨ lK c T q = 45 then pb (pz c T n 1 dp t (lE c T q)) fun t1 q1 => pz c T n 4 dp (.mulL (if lK c T q = 43 then 9 else 10) (.add t t1)) q1 else .inr (t, q)
    | 5 => if lK c T q = 11 then (if dp = 8 then .inl (3, lS c T q) else pb (pz c T n 5 (dp + 1) t (lE c T q)) fun t1 q1 => .inr (.neg t1, q1))
      else pb (pz c T n 3 dp t q) fun t1 q1 => if lK c T q1 = 60 ∨ lK c T q1 = 61 ∨ lK c T q1 = 62 then pb (pz c T n 3 dp t1 (lE c T q1)) fun t2 q2 => .inr (.mulL (cmpc (lK c T q1)) (.add t1 t2), q2) else .inl (1, lS c T q1)
    | 6 => pb (pz c T n 5 dp t q) fun t1 q1 => pz c T n 7 dp t1 q1
    | 7 => if lK c T q = 10 then pb (pz c T n 5 dp t (lE c T q)) fun t1 q1 => pz c T n 7 dp (.mulL 17 (.add t t1)) q1 else .inr (t, q)
    | 8 => pb (pz c T n 6 dp t q) fun t1 q1 => pz c T n 9 dp t1 q1
    | _ => if lK c T q = 9 then pb (pz c T n 6 dp t (lE c T q)) fun t1 q1 => pz c T n 9 dp (.mulL 18 (.add t t1)) q1 else .inr (t, q)
/-- where a term must end, at the least -/
def lo : Nat → Nat → Nat
  | 0, q => q + 1
  | 1, q => q + 1
  | 3, q => q + 1
  | 5, q => q + 1
  | 6, q => q + 1
  | 8, q => q + 1
  | _, q => q
def cnd (g : Nat) : Bool := decide (5 ≤ g)
/-- a term that was read is well made; and it was read on -/
def pok (b : Bool) (T m : Nat) (r : PR) : Prop := match r with
  | .inl _ => True
  | .inr x => wf b x.1 ∧ m ≤ x.2 ∧ x.2 ≤ T
def wds : List Int32 := [3, 4, 5, 6, 7, 8, 9, 10, 11, 150, 151, 152, 153, 201, 202, 203, 204, 205, 206, 207, 208, 1]
theorem word_all {P : Int32 → Prop} (h : ∀ k ∈ wds, P k) {w : Int64} : P (sp_word w) := by
  unfold sp_word
  by_cases w0 : w = 465557354085
  · rw [if_pos w0]
    exact h 3 (by decide)
  rw [if_neg w0]
  by_cases w1 : w = 6447474
  · rw [if_pos w1]
    exact h 4 (by decide)
  rw [if_neg w1]
  by_cases w2 : w = 495672455781
  · rw [if_pos w2]
    exact h 5 (by decide)
  rw [if_neg w2]
  by_cases w3 : w = 465557353070
  · rw [if_pos w3]
    exact h 6 (by decide)
  rw [if_neg w3]
  by_cases w4 : w = 7302244
  · rw [if_pos w4]
    exact h 7 (by decide)
  rw [if_neg w4]
  by_cases w5 : w = 2003330414
  · rw [if_pos w5]
    exact h 8 (by decide)
  rw [if_neg w5]
  by_cases w6 : w = 28530
  · rw [if_pos w6]
    exact h 9 (by decide)
  rw [if_neg w6]
  by_cases w7 : w = 6385252
  · rw [if_pos w7]
    exact h 10 (by decide)
  rw [if_neg w7]
  by_cases w8 : w = 7237492
  · rw [if_pos w8]
    exact h 11 (by decide)
  rw [if_neg w8]
  by_cases w9 : w = 109356116108658
  · rw [if_pos w9]
    exact h 150 (by decide)
  rw [if_neg w9]
  by_cases w10 : w = 1919905893
  · rw [if_pos w10]
    exact h 151 (by decide)
  rw [if_neg w10]
  by_cases w11 : w = 112603009672562
  · rw [if_pos w11]
    exact h 152 (by decide)
  rw [if_neg w11]
  by_cases w12 : w = 1818324580
  · rw [if_pos w12]
    exact h 153 (by decide)
  rw [if_neg w12]
  by_cases w13 : w = 6578553
  · rw [if_pos w13]
    exact h 201 (by decide)
  rw [if_neg w13]
  by_cases w14 : w = 470020945000
  · rw [if_pos w14]
    exact h 202 (by decide)
  rw [if_neg w14]
  by_cases w15 : w = 1836019566
  · rw [if_pos w15]
    exact h 203 (by decide)
  rw [if_neg w15]
  by_cases w16 : w = 2003398244
  · rw [if_pos w16]
    exact h 204 (by decide)
  rw [if_neg w16]
  by_cases w17 : w = 114784769370228
  · rw [if_pos w17]
    exact h 205 (by decide)
  rw [if_neg w17]
  by_cases w18 : w = 8319400191629685864
  · rw [if_pos w18]
    exact h 206 (by decide)
  rw [if_neg w18]
  by_cases w19 : w = 1668246882
  · rw [if_pos w19]
    exact h 207 (by decide)
  rw [if_neg w19]
  by_cases w20 : w = 126879263846254
  · rw [if_pos w20]
    exact h 208 (by decide)
  rw [if_neg w20]
  exact h 1 (by decide)
section PZ
variable {c : Nat → Int32} {T : Nat}
/-- what a token may be -/
theorem lK_all {P : Int32 → Prop} (h : ∀ k ∈ wds, P k) (h0 : P 0) (h2 : P 2) (hg : ∀ k, tG k → P k) {q : Nat} : P (lK c T q) := by
  unfold lK
  split
  · exact h0
  · split
    · split
      · exact word_all h
      · exact h 1 (by decide)
    · split
      · split
        · exact h2
        · exact h 1 (by decide)
      · split
        · rename_i g
          exact hg _ g
        · exact h 1 (by decide)
theorem tG_all {P : Int32 → Prop} (h : ∀ k ∈ ([59, 43, 45, 42, 47, 40, 41, 60, 61, 62] : List Int32), P k) (k : Int32) (g : tG k) : P k := by
  apply h
  simp only [List.mem_cons, List.not_mem_nil, or_false]
  exact g
theorem lK_var {q : Nat} (h : 201 ≤ lK c T q) : (lK c T q - 201).toNatClampNeg < 8 ∧ (lK c T q).toInt ≤ 208 := by
  have : 201 ≤ lK c T q → (lK c T q - 201).toNatClampNeg < 8 ∧ (lK c T q).toInt ≤ 208 := lK_all (P := fun k => 201 ≤ k → (k - 201).toNatClampNeg < 8 ∧ k.toInt ≤ 208) (by decide) (by decide) (by decide) (tG_all (by decide))
  exact this h
theorem lE_lt (a : TA c T) {q : Nat} (hq : q ≤ T) (h : ¬ lK c T q = 0) : q < lE c T q ∧ lE c T q ≤ T := by
  have h1 := lS_le a hq
  have h2 := lE_le a hq
  have := h2.2.2 h
  omega
theorem lV_ne {q : Nat} (h : ¬ lV c T q = 0) : ¬ Int32.ofInt (lV c T q).toInt = 0 := by
  rw [Int32.ofInt_toInt]
  exact h
theorem pz_e0 {n dp q : Nat} {t : Tm} : pz c T (n + 1) 0 dp t q = if lK c T q = 40 then (if dp = 8 then .inl (3, lS c T q) else pb (pz c T n 3 (dp + 1) t (lE c T q)) fun t1 q1 => if lK c T q1 = 41 then .inr (t1, lE c T q1) else .inl (1, lS c T q1)) else if lK c T q = 2 then .inr (.num (lV c T q).toInt, lE c T q) else if 201 ≤ lK c T q then .inr (.var (lK c T q - 201).toNatClampNeg, lE c T q) else .inl (1, lS c T q) := rfl
theorem pz_e1 {n dp q : Nat} {t : Tm} : pz c T (n + 1) 1 dp t q = pb (pz c T n 0 dp t q) fun t1 q1 => pz c T n 2 dp t1 q1 := rfl
theorem pz_e2 {n dp q : Nat} {t : Tm} : pz c T (n + 1) 2 dp t q = if lK c T q = 42 then pb (pz c T n 0 dp t (lE c T q)) fun t1 q1 => pz c T n 2 dp (.mulL 11 (.add t t1)) q1 else if lK c T q = 47 then (if ¬ lK c T (lE c T q) = 2 then .inl (1, lS c T (lE c T q)) else if lV c T (lE c T q) = 0 then .inl (2, lS c T (lE c T q)) else pz c T n 2 dp (.mulR t (lV c T (lE c T q)).toInt) (lE c T (lE c T q))) else .inr (t, q) := rfl
theorem pz_e3 {n dp q : Nat} {t : Tm} : pz c T (n + 1) 3 dp t q = pb (pz c T n 1 dp t q) fun t1 q1 => pz c T n 4 dp t1 q1 := rfl
theorem pz_e4 {n dp q : Nat} {t : Tm} : pz c T (n + 1) 4 dp t q = if lK c T q = 43 ∨ lK c T q = 45 then pb (pz c T n 1 dp t (lE c T q)) fun t1 q1 => pz c T n 4 dp (.mulL (if lK c T q = 43 then 9 else 10) (.add t t1)) q1 else .inr (t, q) := rfl
theorem pz_e5 {n dp q : Nat} {t : Tm} : pz c T (n + 1) 5 dp t q = if lK c T q = 11 then (if dp = 8 then .inl (3, lS c T q) else pb (pz c T n 5 (dp + 1) t (lE c T q)) fun t1 q1 => .inr (.neg t1, q1)) else pb (pz c T n 3 dp t q) fun t1 q1 => if lK c T q1 = 60 ∨ lK c T q1 = 61 ∨ lK c T q1 = 62 then pb (pz c T n 3 dp t1 (lE c T q1)) fun t2 q2 => .inr (.mulL (cmpc (lK c T q1)) (.add t1 t2), q2) else .inl (1, lS c T q1) := rfl
theorem pz_e6 {n dp q : Nat} {t : Tm} : pz c T (n + 1) 6 dp t q = pb (pz c T n 5 dp t q) fun t1 q1 => pz c T n 7 dp t1 q1 := rfl
theorem pz_e7 {n dp q : Nat} {t : Tm} : pz c T (n + 1) 7 dp t q = if lK c T q = 10 then pb (pz c T n 5 dp t (lE c T q)) fun t1 q1 => pz c T n 7 dp (.mulL 17 (.add t t1)) q1 else .inr (t, q) := rfl
theorem pz_e8 {n dp q : Nat} {t : Tm} : pz c T (n + 1) 8 dp t q = pb (pz c T n 6 dp t q) fun t1 q1 => pz c T n 9 dp t1 q1 := rfl
theorem pz_e9 {n g dp q : Nat} {t : Tm} : pz c T (n + 1) (g + 9) dp t q = if lK c T q = 9 then pb (pz c T n 6 dp t (lE c T q)) fun t1 q1 => pz c T n 9 dp (.mulL 18 (.add t t1)) q1 else .inr (t, q) := rfl
theorem pok_pb {b b1 : Bool} {m m1 : Nat} {r : PR} {f : Tm → Nat → PR} (h : pok b1 T m1 r) (k : ∀ t x, wf b1 t → m1 ≤ x → x ≤ T → pok b T m (f t x)) : pok b T m (pb r f) := by
  cases r with
  | inl x => trivial
  | inr x => exact k x.1 x.2 h.1 h.2.1 h.2.2
theorem pok_mono {b : Bool} {m m1 : Nat} {r : PR} (h : pok b T m1 r) (k : m ≤ m1) : pok b T m r := by
  cases r with
  | inl x => trivial
  | inr x => exact ⟨h.1, Nat.le_trans k h.2.1, h.2.2⟩
theorem pz_ok (a : TA c T) : ∀ n g dp t q, q ≤ T → (lo g 0 = 0 → wf (cnd g) t) → pok (cnd g) T (lo g q) (pz c T n g dp t q)
  | 0, _, _, _, _, _, _ => trivial
  | n + 1, g, dp, t, q, hq, ht => by
    have ih := pz_ok a n
    have lt := fun {k : Int32} (h : lK c T q = k) (hk : ¬ k = 0) => lE_lt a hq (by rw [h]; exact hk)
    match g with
    | 0 =>
      rw [pz_e0]
      by_cases c1 : lK c T q = 40
      · have l1 := lt c1 (by decide)
        rw [if_pos c1]
        by_cases c3 : dp = 8
        · rw [if_pos c3]
          trivial
        · rw [if_neg c3]
          refine pok_pb (ih 3 (dp + 1) t _ l1.2 (fun z => nomatch z)) (fun t1 q1 w1 b1 b2 => ?_)
          by_cases c4 : lK c T q1 = 41
          · have l2 := lE_lt a b2 (by rw [c4]; decide)
            rw [if_pos c4]
            exact ⟨w1, by show q + 1 ≤ lE c T q1; have : lE c T q + 1 ≤ q1 := b1; omega, l2.2⟩
          · rw [if_neg c4]
            trivial
      · rw [if_neg c1]
        by_cases c22 : lK c T q = 2
        · have l1 := lt c22 (by decide)
          rw [if_pos c22]
          exact ⟨trivial, l1.1, l1.2⟩
        · rw [if_neg c22]
          by_cases c3 : 201 ≤ lK c T q
          · have l1 := lE_lt a hq (fun z => by rw [z] at c3; exact absurd c3 (by decide))
            rw [if_pos c3]
            exact ⟨(lK_var c3).1, l1.1, l1.2⟩
          · rw [if_neg c3]
            trivial
    | 1 =>
      rw [pz_e1]
      exact pok_pb (ih 0 dp t q hq (fun z => nomatch z)) (fun t1 q1 w1 b1 b2 => pok_mono (ih 2 dp t1 q1 b2 (fun _ => w1)) b1)
    | 2 =>
      have w0 : wf false t := ht rfl
      rw [pz_e2]
      by_cases c1 : lK c T q = 42
      · have l1 := lt c1 (by decide)
        rw [if_pos c1]
        exact pok_pb (ih 0 dp t _ l1.2 (fun z => nomatch z)) (fun t1 q1 w1 b1 b2 => pok_mono (ih 2 dp _ q1 b2 (fun _ => ⟨by decide, w0, w1⟩)) (by show q ≤ q1; have : lE c T q + 1 ≤ q1 := b1; omega))
      · rw [if_neg c1]
        by_cases c22 : lK c T q = 47
        · have l1 := lt c22 (by decide)
          rw [if_pos c22]
          by_cases c3 : lK c T (lE c T q) = 2
          · have l2 := lE_lt a l1.2 (by rw [c3]; decide)
            rw [if_neg (fun z => z c3)]
            by_cases c4 : lV c T (lE c T q) = 0
            · rw [if_pos c4]
              trivial
            · rw [if_neg c4]
              exact pok_mono (ih 2 dp _ _ l2.2 (fun _ => ⟨w0, lV_ne c4⟩)) (by show q ≤ lE c T (lE c T q); omega)
          · rw [if_pos c3]
            trivial
        · rw [if_neg c22]
          exact ⟨w0, Nat.le_refl _, hq⟩
    | 3 =>
      rw [pz_e3]
      exact pok_pb (ih 1 dp t q hq (fun z => nomatch z)) (fun t1 q1 w1 b1 b2 => pok_mono (ih 4 dp t1 q1 b2 (fun _ => w1)) b1)
    | 4 =>
      have w0 : wf false t := ht rfl
      rw [pz_e4]
      by_cases c1 : lK c T q = 43 ∨ lK c T q = 45
      · have l1 := lE_lt a hq (fun z => by rw [z] at c1; exact absurd c1 (by decide))
        rw [if_pos c1]
        refine pok_pb (ih 1 dp t _ l1.2 (fun z => nomatch z)) (fun t1 q1 w1 b1 b2 => pok_mono (ih 4 dp _ q1 b2 (fun _ => ⟨?_, w0, w1⟩)) (by show q ≤ q1; have : lE c T q + 1 ≤ q1 := b1; omega))
        split <;> decide
      · rw [if_neg c1]
        exact ⟨w0, Nat.le_refl _, hq⟩
    | 5 =>
      rw [pz_e5]
      by_cases c1 : lK c T q = 11
      · have l1 := lt c1 (by decide)
        rw [if_pos c1]
        by_cases c3 : dp = 8
        · rw [if_pos c3]
          trivial
        · rw [if_neg c3]
          exact pok_pb (ih 5 (dp + 1) t _ l1.2 (fun z => nomatch z)) (fun t1 q1 w1 b1 b2 => ⟨w1, by show q + 1 ≤ q1; have : lE c T q + 1 ≤ q1 := b1; omega, b2⟩)
      · rw [if_neg c1]
        refine pok_pb (ih 3 dp t q hq (fun z => nomatch z)) (fun t1 q1 w1 b1 b2 => ?_)
        by_cases c4 : lK c T q1 = 60 ∨ lK c T q1 = 61 ∨ lK c T q1 = 62
        · have l2 := lE_lt a b2 (fun z => by rw [z] at c4; exact absurd c4 (by decide))
          rw [if_pos c4]
          refine pok_pb (ih 3 dp t1 _ l2.2 (fun z => nomatch z)) (fun t2 q2 w2 b3 b4 => ⟨Or.inl ⟨?_, w1, w2⟩, by show q + 1 ≤ q2; have : lE c T q1 + 1 ≤ q2 := b3; have : q + 1 ≤ q1 := b1; omega, b4⟩)
          unfold cmpc
          split
          · decide
          · split <;> decide
        · rw [if_neg c4]
          trivial
    | 6 =>
      rw [pz_e6]
      exact pok_pb (ih 5 dp t q hq (fun z => nomatch z)) (fun t1 q1 w1 b1 b2 => pok_mono (ih 7 dp t1 q1 b2 (fun _ => w1)) b1)
    | 7 =>
      have w0 : wf true t := ht rfl
      rw [pz_e7]
      by_cases c1 : lK c T q = 10
      · have l1 := lt c1 (by decide)
        rw [if_pos c1]
        exact pok_pb (ih 5 dp t _ l1.2 (fun z => nomatch z)) (fun t1 q1 w1 b1 b2 => pok_mono (ih 7 dp _ q1 b2 (fun _ => Or.inr ⟨by decide, w0, w1⟩)) (by show q ≤ q1; have : lE c T q + 1 ≤ q1 := b1; omega))
      · rw [if_neg c1]
        exact ⟨w0, Nat.le_refl _, hq⟩
    | 8 =>
      rw [pz_e8]
      exact pok_pb (ih 6 dp t q hq (fun z => nomatch z)) (fun t1 q1 w1 b1 b2 => pok_mono (ih 9 dp t1 q1 b2 (fun _ => w1)) b1)
    | g + 9 =>
      have e1 : cnd (g + 9) = true := decide_eq_true (by omega)
      have e2 : ∀ x, lo (g + 9) x = x := fun x => rfl
      rw [e1, e2] at ht ⊢
      have w0 : wf true t := ht rfl
      rw [pz_e9]
      by_cases c1 : lK c T q = 9
      · have l1 := lt c1 (by decide)
        rw [if_pos c1]
        exact pok_pb (ih 6 dp t _ l1.2 (fun z => nomatch z)) (fun t1 q1 w1 b1 b2 => pok_mono (ih 9 dp _ q1 b2 (fun _ => Or.inr ⟨by decide, w0, w1⟩)) (by show q ≤ q1; have : lE c T q + 1 ≤ q1 := b1; omega))
      · rw [if_neg c1]
        exact ⟨w0, Nat.le_refl _, hq⟩
/-- a fault has a kind -/
def flt (r : PR) : Prop := match r with
  | .inl x => ¬ x.1 = 0
  | .inr _ => True
def rk2 : Nat → Nat
  | 0 => 0
  | 1 => 1
  | 3 => 2
  | 5 => 3
  | 6 => 4
  | 8 => 5
  | _ => 0
theorem flt_pb {b : Bool} {m : Nat} {r : PR} {f : Tm → Nat → PR} (h : flt r) (o : pok b T m r) (k : ∀ t x, wf b t → m ≤ x → x ≤ T → flt (f t x)) : flt (pb r f) := by
  cases r with
  | inl x => exact h
  | inr x => exact k x.1 x.2 o.1 o.2.1 o.2.2
/-- steps enough: no want of them -/
theorem pz_fl (a : TA c T) : ∀ n g dp t q, q ≤ T → (lo g 0 = 0 → wf (cnd g) t) → 8 * (T - q) + rk2 g + 1 ≤ n → flt (pz c T n g dp t q)
  | 0, _, _, _, _, _, _, h => absurd h (by omega)
  | n + 1, g, dp, t, q, hq, ht, hn => by
    have ih := pz_fl a n
    have ok := pz_ok a n
    have lt := fun {k : Int32} (h : lK c T q = k) (hk : ¬ k = 0) => lE_lt a hq (by rw [h]; exact hk)
    have f1 : ∀ x : Nat, flt (.inl (1, x)) := fun _ => by show ¬ (1 : Int32) = 0; decide
    have f2 : ∀ x : Nat, flt (.inl (2, x)) := fun _ => by show ¬ (2 : Int32) = 0; decide
    have f3 : ∀ x : Nat, flt (.inl (3, x)) := fun _ => by show ¬ (3 : Int32) = 0; decide
    match g with
    | 0 =>
      have hn : 8 * (T - q) + 0 + 1 ≤ n + 1 := hn
      rw [pz_e0]
      by_cases c1 : lK c T q = 40
      · have l1 := lt c1 (by decide)
        rw [if_pos c1]
        by_cases c3 : dp = 8
        · rw [if_pos c3]
          exact f3 _
        · rw [if_neg c3]
          refine flt_pb (ih 3 (dp + 1) t _ l1.2 (fun z => nomatch z) (by show 8 * (T - lE c T q) + 2 + 1 ≤ n; omega)) (ok 3 (dp + 1) t _ l1.2 (fun z => nomatch z)) (fun t1 q1 w1 b1 b2 => ?_)
          split
          · trivial
          · exact f1 _
      · rw [if_neg c1]
        split
        · trivial
        · split
          · trivial
          · exact f1 _
    | 1 =>
      have hn : 8 * (T - q) + 1 + 1 ≤ n + 1 := hn
      rw [pz_e1]
      exact flt_pb (ih 0 dp t q hq (fun z => nomatch z) (by show 8 * (T - q) + 0 + 1 ≤ n; omega)) (ok 0 dp t q hq (fun z => nomatch z)) (fun t1 q1 w1 b1 b2 => ih 2 dp t1 q1 b2 (fun _ => w1) (by have : q + 1 ≤ q1 := b1; show 8 * (T - q1) + 0 + 1 ≤ n; omega))
    | 2 =>
      have hn : 8 * (T - q) + 0 + 1 ≤ n + 1 := hn
      have w0 : wf false t := ht rfl
      rw [pz_e2]
      by_cases c1 : lK c T q = 42
      · have l1 := lt c1 (by decide)
        rw [if_pos c1]
        exact flt_pb (ih 0 dp t _ l1.2 (fun z => nomatch z) (by show 8 * (T - lE c T q) + 0 + 1 ≤ n; omega)) (ok 0 dp t _ l1.2 (fun z => nomatch z)) (fun t1 q1 w1 b1 b2 => ih 2 dp _ q1 b2 (fun _ => ⟨by decide, w0, w1⟩) (by have : lE c T q + 1 ≤ q1 := b1; show 8 * (T - q1) + 0 + 1 ≤ n; omega))
      · rw [if_neg c1]
        by_cases c22 : lK c T q = 47
        · have l1 := lt c22 (by decide)
          rw [if_pos c22]
          by_cases c3 : lK c T (lE c T q) = 2
          · have l2 := lE_lt a l1.2 (by rw [c3]; decide)
            rw [if_neg (fun z => z c3)]
            by_cases c4 : lV c T (lE c T q) = 0
            · rw [if_pos c4]
              exact f2 _
            · rw [if_neg c4]
              exact ih 2 dp _ _ l2.2 (fun _ => ⟨w0, lV_ne c4⟩) (by show 8 * (T - lE c T (lE c T q)) + 0 + 1 ≤ n; omega)
          · rw [if_pos c3]
            exact f1 _
        · rw [if_neg c22]
          trivial
    | 3 =>
      have hn : 8 * (T - q) + 2 + 1 ≤ n + 1 := hn
      rw [pz_e3]
      exact flt_pb (ih 1 dp t q hq (fun z => nomatch z) (by show 8 * (T - q) + 1 + 1 ≤ n; omega)) (ok 1 dp t q hq (fun z => nomatch z)) (fun t1 q1 w1 b1 b2 => ih 4 dp t1 q1 b2 (fun _ => w1) (by have : q + 1 ≤ q1 := b1; show 8 * (T - q1) + 0 + 1 ≤ n; omega))
    | 4 =>
      have hn : 8 * (T - q) + 0 + 1 ≤ n + 1 := hn
      have w0 : wf false t := ht rfl
      rw [pz_e4]
      by_cases c1 : lK c T q = 43 ∨ lK c T q = 45
      · have l1 := lE_lt a hq (fun z => by rw [z] at c1; exact absurd c1 (by decide))
        rw [if_pos c1]
        refine flt_pb (ih 1 dp t _ l1.2 (fun z => nomatch z) (by show 8 * (T - lE c T q) + 1 + 1 ≤ n; omega)) (ok 1 dp t _ l1.2 (fun z => nomatch z)) (fun t1 q1 w1 b1 b2 => ih 4 dp _ q1 b2 (fun _ => ⟨?_, w0, w1⟩) (by have : lE c T q + 1 ≤ q1 := b1; show 8 * (T - q1) + 0 + 1 ≤ n; omega))
        split <;> decide
      · rw [if_neg c1]
        trivial
    | 5 =>
      have hn : 8 * (T - q) + 3 + 1 ≤ n + 1 := hn
      rw [pz_e5]
      by_cases c1 : lK c T q = 11
      · have l1 := lt c1 (by decide)
        rw [if_pos c1]
        by_cases c3 : dp = 8
        · rw [if_pos c3]
          exact f3 _
        · rw [if_neg c3]
          exact flt_pb (ih 5 (dp + 1) t _ l1.2 (fun z => nomatch z) (by show 8 * (T - lE c T q) + 3 + 1 ≤ n; omega)) (ok 5 (dp + 1) t _ l1.2 (fun z => nomatch z)) (fun t1 q1 w1 b1 b2 => trivial)
      · rw [if_neg c1]
        refine flt_pb (ih 3 dp t q hq (fun z => nomatch z) (by show 8 * (T - q) + 2 + 1 ≤ n; omega)) (ok 3 dp t q hq (fun z => nomatch z)) (fun t1 q1 w1 b1 b2 => ?_)
        by_cases c4 : lK c T q1 = 60 ∨ lK c T q1 = 61 ∨ lK c T q1 = 62
        · have l2 := lE_lt a b2 (fun z => by rw [z] at c4; exact absurd c4 (by decide))
          rw [if_pos c4]
          exact flt_pb (ih 3 dp t1 _ l2.2 (fun z => nomatch z) (by have : q + 1 ≤ q1 := b1; show 8 * (T - lE c T q1) + 2 + 1 ≤ n; omega)) (ok 3 dp t1 _ l2.2 (fun z => nomatch z)) (fun t2 q2 w2 b3 b4 => trivial)
        · rw [if_neg c4]
          exact f1 _
    | 6 =>
      have hn : 8 * (T - q) + 4 + 1 ≤ n + 1 := hn
      rw [pz_e6]
      exact flt_pb (ih 5 dp t q hq (fun z => nomatch z) (by show 8 * (T - q) + 3 + 1 ≤ n; omega)) (ok 5 dp t q hq (fun z => nomatch z)) (fun t1 q1 w1 b1 b2 => ih 7 dp t1 q1 b2 (fun _ => w1) (by have : q + 1 ≤ q1 := b1; show 8 * (T - q1) + 0 + 1 ≤ n; omega))
    | 7 =>
      have hn : 8 * (T - q) + 0 + 1 ≤ n + 1 := hn
      have w0 : wf true t := ht rfl
      rw [pz_e7]
      by_cases c1 : lK c T q = 10
      · have l1 := lt c1 (by decide)
        rw [if_pos c1]
        exact flt_pb (ih 5 dp t _ l1.2 (fun z => nomatch z) (by show 8 * (T - lE c T q) + 3 + 1 ≤ n; omega)) (ok 5 dp t _ l1.2 (fun z => nomatch z)) (fun t1 q1 w1 b1 b2 => ih 7 dp _ q1 b2 (fun _ => Or.inr ⟨by decide, w0, w1⟩) (by have : lE c T q + 1 ≤ q1 := b1; show 8 * (T - q1) + 0 + 1 ≤ n; omega))
      · rw [if_neg c1]
        trivial
    | 8 =>
      have hn : 8 * (T - q) + 5 + 1 ≤ n + 1 := hn
      rw [pz_e8]
      exact flt_pb (ih 6 dp t q hq (fun z => nomatch z) (by show 8 * (T - q) + 4 + 1 ≤ n; omega)) (ok 6 dp t q hq (fun z => nomatch z)) (fun t1 q1 w1 b1 b2 => ih 9 dp t1 q1 b2 (fun _ => w1) (by have : q + 1 ≤ q1 := b1; show 8 * (T - q1) + 0 + 1 ≤ n; omega))
    | g + 9 =>
      have e1 : cnd (g + 9) = true := decide_eq_true (by omega)
      have e2 : lo (g + 9) 0 = 0 := rfl
      have e3 : rk2 (g + 9) = 0 := rfl
      rw [e1, e2] at ht
      rw [e3] at hn
      have w0 : wf true t := ht rfl
      rw [pz_e9]
      by_cases c1 : lK c T q = 9
      · have l1 := lt c1 (by decide)
        rw [if_pos c1]
        exact flt_pb (ih 6 dp t _ l1.2 (fun z => nomatch z) (by show 8 * (T - lE c T q) + 4 + 1 ≤ n; omega)) (ok 6 dp t _ l1.2 (fun z => nomatch z)) (fun t1 q1 w1 b1 b2 => ih 9 dp _ q1 b2 (fun _ => Or.inr ⟨by decide, w0, w1⟩) (by have : lE c T q + 1 ≤ q1 := b1; show 8 * (T - q1) + 0 + 1 ≤ n; omega))
      · rw [if_neg c1]
        trivial
end PZ
