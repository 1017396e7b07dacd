/-! ints: ranges, counts as naturals -/
set_option maxRecDepth 100000
theorem ok01 {c : Prop} [Decidable c] : xm_ok .boolean (if c then 1 else 0) = true := ok_if ok_1 ok_0
theorem ite10 {c : Prop} [Decidable c] : ((if c then (1 : Int32) else 0) = 0) = ¬ c := by
  by_cases h : c
  · rw [if_pos h]
    exact eq_false (by decide) |>.trans (eq_false (fun z => z h)).symm
  · rw [if_neg h]
    exact eq_true rfl |>.trans (eq_true h).symm
theorem in_iff {i : Int32} {n : Nat} : xm_in i n = true ↔ 0 ≤ i.toInt ∧ i.toInt < n := by
  unfold xm_in
  rw [decide_eq_true_iff]
  have e : i.toNatClampNeg = i.toInt.toNat := rfl
  rw [e, Int32.lt_iff_toInt_lt, show (0 : Int32).toInt = 0 from rfl]
  omega
/-- a count or a place: from 0 to n -/
def rg (x : Int32) (n : Nat) : Prop := 0 ≤ x.toInt ∧ x.toInt ≤ n
theorem ti_sub1 {n : Int32} (h : 0 ≤ n.toInt) : (n - 1).toInt = n.toInt - 1 := by
  rw [Int32.toInt_sub, show (1 : Int32).toInt = 1 from rfl]
  have := Int32.toInt_lt n
  exact Int.bmod_eq_of_le (by omega) (by omega)
theorem ti_add1 {n : Int32} {k : Nat} (h : rg n k) (hk : k < 2147483647) : (n + 1).toInt = n.toInt + 1 := by
  rw [Int32.toInt_add, show (1 : Int32).toInt = 1 from rfl]
  have := h.1
  have := h.2
  exact Int.bmod_eq_of_le (by omega) (by omega)
theorem in_cnt {l n : Int32} {N : Nat} (hn : rg n N) (h : 0 ≤ l ∧ l ≤ n - 1) : xm_in l N = true := by
  have h1 := Int32.le_iff_toInt_le.mp h.1
  have h2 := Int32.le_iff_toInt_le.mp h.2
  rw [ti_sub1 hn.1] at h2
  rw [show (0 : Int32).toInt = 0 from rfl] at h1
  have := hn.2
  exact in_iff.mpr ⟨h1, by omega⟩
theorem in_lit {l b : Int32} {N : Nat} (h : 0 ≤ l ∧ l ≤ b) (hb : b.toInt < N) : xm_in l N = true := by
  have h1 := Int32.le_iff_toInt_le.mp h.1
  have h2 := Int32.le_iff_toInt_le.mp h.2
  rw [show (0 : Int32).toInt = 0 from rfl] at h1
  exact in_iff.mpr ⟨h1, by omega⟩
/-- room for one more -/
theorem in_new {n b : Int32} {N : Nat} (hn : rg n N) (h : ¬ n = b) (hb : b.toInt = N) : xm_in n N = true := by
  refine in_iff.mpr ⟨hn.1, ?_⟩
  have h2 := hn.2
  have : ¬ n.toInt = N := fun z => h (Int32.toInt_inj.mp (z.trans hb.symm))
  omega
/-! joins -/
theorem jn {d mi pc : Nat} {ls : List (Option Value)} {st : List Value} {h : xm_H} {c : Prop} [Decidable c] {x y : Int32} : (if c then xm_run d mi pc ls (.int x :: st) h else xm_run d mi pc ls (.int y :: st) h) = xm_run d mi pc ls (.int (if c then x else y) :: st) h := by
  by_cases q : c
  · rw [if_pos q, if_pos q]
  · rw [if_neg q, if_neg q]
def mx (a b : Int32) : Int32 := if a < b then b else a
def mn (a b : Int32) : Int32 := if b < a then b else a
theorem le_asym {a b : Int32} (h1 : a ≤ b) (h2 : ¬ a < b) : a = b := by
  have := Int32.le_iff_toInt_le.mp h1
  have h3 : ¬ a.toInt < b.toInt := fun z => h2 (Int32.lt_iff_toInt_lt.mpr z)
  exact Int32.toInt_inj.mp (by omega)
theorem mx_le {a b : Int32} : (if a ≤ b then b else a) = mx a b := by
  unfold mx
  by_cases h : a < b
  · rw [if_pos h, if_pos (Int32.le_of_lt h)]
  · by_cases h2 : a ≤ b
    · rw [if_neg h, if_pos h2, le_asym h2 h]
    · rw [if_neg h, if_neg h2]
theorem mn_le {a b : Int32} : (if b ≤ a then b else a) = mn a b := by
  unfold mn
  by_cases h : b < a
  · rw [if_pos h, if_pos (Int32.le_of_lt h)]
  · by_cases h2 : b ≤ a
    · rw [if_neg h, if_pos h2, le_asym h2 h]
    · rw [if_neg h, if_neg h2]
/-! not by rfl alone: a simp that clears a row's premise does not take rfl's rows under it -/
theorem cr_int {x : Int32} : (Value.int x).category = 1 := Eq.trans (b := 1) rfl rfl
theorem cr_long {x : Int64} : (Value.long x).category = 2 := Eq.trans (b := 2) rfl rfl
theorem cr_ref {x : Nat} : (Value.ref x).category = 1 := Eq.trans (b := 1) rfl rfl
theorem cr_null : (Value.null).category = 1 := Eq.trans (b := 1) rfl rfl
theorem l2_int {x : Int32} : xm_lk2 (some (.int x)) = false := Eq.trans (b := false) rfl rfl
theorem l2_ref {x : Nat} : xm_lk2 (some (.ref x)) = false := Eq.trans (b := false) rfl rfl
theorem l2_null : xm_lk2 (some .null) = false := Eq.trans (b := false) rfl rfl
theorem l2_none : xm_lk2 none = false := Eq.trans (b := false) rfl rfl
theorem is_ref {x : Nat} : xm_isref (.ref x) = true := Eq.trans (b := true) rfl rfl
theorem is_null : xm_isref .null = true := Eq.trans (b := true) rfl rfl
