/-! loops: counts, steps -/
set_option maxRecDepth 100000
def xp_it {α : Type} (f : Nat → α → α) : Nat → Nat → α → α
  | _, 0, s => s
  | k, c + 1, s => xp_it f (k + 1) c (f k s)
theorem xp_loop {α β V : Type} {P : Nat → α → β → V} {f : Nat → α → α} {n : Nat} (I : Nat → α → Prop) (hs : ∀ k s t, k < n → I k s → ∃ t', P k s t = P (k + 1) (f k s) t' ∧ I (k + 1) (f k s)) : ∀ c k s t, k + c = n → I k s → ∃ t', P k s t = P n (xp_it f k c s) t' ∧ I n (xp_it f k c s) := by
  intro c
  induction c with
  | zero =>
    intro k s t e hi
    have : k = n := by omega
    subst this
    exact ⟨t, rfl, hi⟩
  | succ c ih =>
    intro k s t e hi
    obtain ⟨t1, h1, i1⟩ := hs k s t (by omega) hi
    obtain ⟨t2, h2, i2⟩ := ih (k + 1) (f k s) t1 (by omega) i1
    exact ⟨t2, h1.trans h2, i2⟩
theorem ti_nat {k : Nat} (h : k < 2147483648) : (Int32.ofNat k).toInt = k := by
  rw [Int32.toInt_ofNat']
  have e : Int32.size = 4294967296 := rfl
  exact Int.bmod_eq_of_le (by omega) (by omega)
theorem tc_nat {k : Nat} (h : k < 2147483648) : (Int32.ofNat k).toNatClampNeg = k := by
  show (Int32.ofNat k).toInt.toNat = k
  rw [ti_nat h]
  rfl
theorem rg_tc {x : Int32} {N : Nat} (hx : rg x N) : (x.toNatClampNeg : Int) = x.toInt := by
  show (x.toInt.toNat : Int) = _
  have := hx.1
  omega
theorem lp_k {x : Int32} {N k : Nat} (hx : rg x N) (hN : N < 2147483647) (hk : k < x.toNatClampNeg) : xm_in (Int32.ofNat k) N = true ∧ (Int32.ofNat k).toNatClampNeg = k ∧ ¬ x ≤ Int32.ofNat k ∧ Int32.ofNat k < x ∧ k < N := by
  have e := rg_tc hx
  have h2 := hx.2
  have hb : k < 2147483648 := by omega
  refine ⟨in_iff.mpr ?_, tc_nat hb, ?_, ?_, ?_⟩
  · rw [ti_nat hb]
    omega
  · rw [Int32.le_iff_toInt_le, ti_nat hb]
    omega
  · rw [Int32.lt_iff_toInt_lt, ti_nat hb]
    omega
  · omega
theorem lp_end {x : Int32} {N : Nat} (hx : rg x N) (hN : N < 2147483647) : x ≤ Int32.ofNat x.toNatClampNeg ∧ ¬ Int32.ofNat x.toNatClampNeg < x := by
  have e := rg_tc hx
  have h2 := hx.2
  have hb : x.toNatClampNeg < 2147483648 := by omega
  refine ⟨?_, ?_⟩
  · rw [Int32.le_iff_toInt_le, ti_nat hb]
    omega
  · rw [Int32.lt_iff_toInt_lt, ti_nat hb]
    omega
theorem nat_succ {k : Nat} : Int32.ofNat k + 1 = Int32.ofNat (k + 1) := (Int32.ofNat_add k 1).symm
theorem nat_0 : (0 : Int32) = Int32.ofNat 0 := rfl
/-! arithmetic by integers -/
theorem ti_div {a b : Int32} (ha : 0 ≤ a.toInt) (hb : 0 < b.toInt) : (a / b).toInt = a.toInt / b.toInt := by
  have h1 : (a / b).toInt = (a.toInt.tdiv b.toInt).bmod (2 ^ 32) := Int32.toInt_div a b
  rw [h1, Int.tdiv_eq_ediv_of_nonneg ha]
  have h2 := Int32.toInt_lt a
  have h3 : 0 ≤ a.toInt / b.toInt := Int.ediv_nonneg ha (by omega)
  have h4 : a.toInt / b.toInt ≤ a.toInt := Int.ediv_le_self _ ha
  exact Int.bmod_eq_of_le (by omega) (by omega)
theorem ti_add {a b : Int32} (h : -2147483648 ≤ a.toInt + b.toInt ∧ a.toInt + b.toInt < 2147483648) : (a + b).toInt = a.toInt + b.toInt := by
  rw [Int32.toInt_add]
  exact Int.bmod_eq_of_le (by omega) (by omega)
theorem ti_sub {a b : Int32} (h : -2147483648 ≤ a.toInt - b.toInt ∧ a.toInt - b.toInt < 2147483648) : (a - b).toInt = a.toInt - b.toInt := by
  rw [Int32.toInt_sub]
  exact Int.bmod_eq_of_le (by omega) (by omega)
theorem ti_mul {a b : Int32} (h : -2147483648 ≤ a.toInt * b.toInt ∧ a.toInt * b.toInt < 2147483648) : (a * b).toInt = a.toInt * b.toInt := by
  rw [Int32.toInt_mul]
  exact Int.bmod_eq_of_le (by omega) (by omega)
/-- the remainder as the machine counts it -/
theorem ti_rem {a b : Int32} (ha : 0 ≤ a.toInt) (hb : 0 < b.toInt) : (a - a / b * b).toInt = a.toInt % b.toInt := by
  have h2 := Int32.toInt_lt a
  have e := ti_div ha hb
  have h5 := Int.emod_add_mul_ediv a.toInt b.toInt
  have h6 := Int.emod_nonneg a.toInt (show b.toInt ≠ 0 by omega)
  have h7 := Int.emod_lt_of_pos a.toInt hb
  have h8 : 0 ≤ a.toInt / b.toInt := Int.ediv_nonneg ha (by omega)
  have h9 : 0 ≤ a.toInt / b.toInt * b.toInt := Int.mul_nonneg h8 (by omega)
  have h10 : a.toInt / b.toInt * b.toInt = b.toInt * (a.toInt / b.toInt) := Int.mul_comm _ _
  have e2 : (a / b * b).toInt = a.toInt / b.toInt * b.toInt := by
    rw [ti_mul (by rw [e]; omega), e]
  rw [ti_sub (by rw [e2]; omega), e2]
  omega
/-! joins of states that differ at one place -/
theorem u2_self {F : Nat → Nat → Int32} {o l : Nat} : xm_u2 F o l (F o l) = F := by
  funext a k
  unfold xm_u2
  by_cases e : a = o ∧ k = l
  · rw [if_pos e, e.1, e.2]
  · rw [if_neg e]
theorem jFa {d mi pc : Nat} {ls : List (Option Value)} {st : List Value} {h : xm_H} {M o l : Nat} {F : xp_F} {v : Int32} {c : Prop} [Decidable c] : (if c then xm_run d mi pc ls st (xp_m h M F) else xm_run d mi pc ls st (xp_m h M (xm_u2 F o l v))) = xm_run d mi pc ls st (xp_m h M (xm_u2 F o l (if c then F o l else v))) := by
  by_cases q : c
  · rw [if_pos q, if_pos q, u2_self]
  · rw [if_neg q, if_neg q]
theorem jFb {d mi pc : Nat} {ls : List (Option Value)} {st : List Value} {h : xm_H} {M o l : Nat} {F : xp_F} {v : Int32} {c : Prop} [Decidable c] : (if c then xm_run d mi pc ls st (xp_m h M (xm_u2 F o l v)) else xm_run d mi pc ls st (xp_m h M F)) = xm_run d mi pc ls st (xp_m h M (xm_u2 F o l (if c then v else F o l))) := by
  by_cases q : c
  · rw [if_pos q, if_pos q]
  · rw [if_neg q, if_neg q, u2_self]
theorem xp_find {β V : Type} {P : Nat → β → V} {r : V} {n : Nat} (Q : Nat → Prop) (hno : ∀ k t, k < n → ¬ Q k → ∃ t', P k t = P (k + 1) t') (hyes : ∀ k t, k < n → Q k → P k t = r) {m : Nat} (hm : m < n) (hq : Q m) : ∀ c k t, k + c = m → P k t = r := by
  intro c
  induction c with
  | zero =>
    intro k t e
    have : k = m := by omega
    subst this
    exact hyes k t hm hq
  | succ c ih =>
    intro k t e
    by_cases q : Q k
    · exact hyes k t (by omega) q
    · obtain ⟨t', h⟩ := hno k t (by omega) q
      rw [h]
      exact ih (k + 1) t' (by omega)
theorem it_inv {α : Type} {f : Nat → α → α} (I : α → Prop) (hs : ∀ k s, I s → I (f k s)) : ∀ c k s, I s → I (xp_it f k c s) := by
  intro c
  induction c with
  | zero => exact fun _ _ h => h
  | succ c ih => exact fun k s h => ih (k + 1) _ (hs k s h)
/-! places in rows of rows -/
theorem nat_mul {a b : Nat} : Int32.ofNat a * Int32.ofNat b = Int32.ofNat (a * b) := (Int32.ofNat_mul a b).symm
theorem nat_add {a b : Nat} : Int32.ofNat a + Int32.ofNat b = Int32.ofNat (a + b) := (Int32.ofNat_add a b).symm
theorem rg_nat {x : Int32} {N : Nat} (hx : rg x N) : x = Int32.ofNat x.toNatClampNeg := by
  have e := rg_tc hx
  have := Int32.toInt_lt x
  refine Int32.toInt_inj.mp ?_
  rw [ti_nat (by omega), e]
theorem in_nat {k n : Nat} (h : k < n) (hn : n ≤ 1000000) : xm_in (Int32.ofNat k) n = true ∧ (Int32.ofNat k).toNatClampNeg = k := by
  refine ⟨in_iff.mpr ?_, tc_nat (by omega)⟩
  rw [ti_nat (by omega)]
  omega
theorem ix2 {c i : Int32} {C l T : Nat} (hi : 0 ≤ i.toInt) (hc : c = Int32.ofNat C) (h : C * i.toNatClampNeg + l < T) (hT : T ≤ 1000000) : xm_in (c * i + Int32.ofNat l) T = true ∧ (c * i + Int32.ofNat l).toNatClampNeg = C * i.toNatClampNeg + l := by
  have e : i = Int32.ofNat i.toNatClampNeg := rg_nat (N := 2147483648) ⟨hi, by have := Int32.toInt_lt i; omega⟩
  have e2 : c * i + Int32.ofNat l = Int32.ofNat (C * i.toNatClampNeg + l) := by
    rw [← nat_add, ← nat_mul, ← hc, ← e]
  rw [e2]
  exact in_nat h hT
theorem nat_pred {n : Nat} : Int32.ofNat (n + 1) - 1 = Int32.ofNat n := by
  rw [← nat_succ]
  exact Int32.add_sub_cancel _ _
theorem nat_predi {n : Nat} : Int32.ofNat (n + 1) + (-1) = Int32.ofNat n := by
  rw [← Int32.sub_eq_add_neg]
  exact nat_pred
def xp_up {α : Type} (f : Nat → α → α) (s : α) : Nat → α
  | 0 => s
  | k + 1 => f k (xp_up f s k)
theorem xp_loop2 {α β V : Type} {P : Nat → α → β → V} {n : Nat} (I : Nat → α → Prop) (hs : ∀ k s t, k < n → I k s → ∃ s' t', P k s t = P (k + 1) s' t' ∧ I (k + 1) s') : ∀ c k s t, k + c = n → I k s → ∃ s' t', P k s t = P n s' t' ∧ I n s' := by
  intro c
  induction c with
  | zero =>
    intro k s t e hi
    have : k = n := by omega
    subst this
    exact ⟨s, t, rfl, hi⟩
  | succ c ih =>
    intro k s t e hi
    obtain ⟨s1, t1, h1, i1⟩ := hs k s t (by omega) hi
    obtain ⟨s2, t2, h2, i2⟩ := ih (k + 1) s1 t1 (by omega) i1
    exact ⟨s2, t2, h1.trans h2, i2⟩
