/-! words: how they are packed, and which they are -/
set_option maxRecDepth 100000
def wdl : List (List Int32) := [[100, 97, 121], [109, 111, 110, 116, 104], [109, 111, 111, 110], [119, 105, 110, 100], [104, 101, 105, 103, 104, 116], [115, 116, 114, 101, 110, 103, 116, 104], [99, 111, 109, 98], [115, 101, 97, 115, 111, 110], [99, 117, 116, 116, 101, 114], [114, 111, 112, 101], [102, 105, 110, 100, 101, 114], [108, 97, 110, 100], [108, 101, 97, 118, 101], [98, 97, 114], [115, 104, 97, 114, 101], [108, 101, 97, 114, 110], [111, 108, 100], [119, 104, 101, 110], [111, 114], [97, 110, 100], [110, 111, 116]]
def wdf (k j : Nat) : Int32 := (wdl.getD k []).getD j 0
def wln (k : Nat) : Nat := (wdl.getD k []).length
/-- the model's code of word k -/
def cod (k : Nat) : Int32 := Int32.ofNat (if k < 8 then 201 + k else if k < 12 then 142 + k else k - 9)
theorem wd_code : ∀ k, k < 21 → sp_word (pkv (wdf k) 0 (wln k)) = cod k := by decide +kernel
theorem wd_ltr : ∀ k, k < 21 → wln k ≤ 8 ∧ ∀ j, j < wln k → (1 ≤ (wdf k j).toInt ∧ (wdf k j).toInt ≤ 127) := by decide +kernel
theorem cod_inj : ∀ j, j < 21 → ∀ k, k < 21 → cod j = cod k → j = k := by decide +kernel
theorem cod_ne : ∀ k, k < 21 → ¬ cod k = 1 ∧ ¬ cod k = 0 ∧ ¬ cod k = 2 ∧ ¬ tG (cod k) := by decide +kernel
theorem word_no {w : Int64} (h : ∀ k, k < 21 → ¬ w = pkv (wdf k) 0 (wln k)) : sp_word w = 1 := by
  unfold sp_word
  rw [if_neg (fun e => h 12 (by decide) (e.trans (by decide +kernel)))]
  rw [if_neg (fun e => h 13 (by decide) (e.trans (by decide +kernel)))]
  rw [if_neg (fun e => h 14 (by decide) (e.trans (by decide +kernel)))]
  rw [if_neg (fun e => h 15 (by decide) (e.trans (by decide +kernel)))]
  rw [if_neg (fun e => h 16 (by decide) (e.trans (by decide +kernel)))]
  rw [if_neg (fun e => h 17 (by decide) (e.trans (by decide +kernel)))]
  rw [if_neg (fun e => h 18 (by decide) (e.trans (by decide +kernel)))]
  rw [if_neg (fun e => h 19 (by decide) (e.trans (by decide +kernel)))]
  rw [if_neg (fun e => h 20 (by decide) (e.trans (by decide +kernel)))]
  rw [if_neg (fun e => h 8 (by decide) (e.trans (by decide +kernel)))]
  rw [if_neg (fun e => h 9 (by decide) (e.trans (by decide +kernel)))]
  rw [if_neg (fun e => h 10 (by decide) (e.trans (by decide +kernel)))]
  rw [if_neg (fun e => h 11 (by decide) (e.trans (by decide +kernel)))]
  rw [if_neg (fun e => h 0 (by decide) (e.trans (by decide +kernel)))]
  rw [if_neg (fun e => h 1 (by decide) (e.trans (by decide +kernel)))]
  rw [if_neg (fun e => h 2 (by decide) (e.trans (by decide +kernel)))]
  rw [if_neg (fun e => h 3 (by decide) (e.trans (by decide +kernel)))]
  rw [if_neg (fun e => h 4 (by decide) (e.trans (by decide +kernel)))]
  rw [if_neg (fun e => h 5 (by decide) (e.trans (by decide +kernel)))]
  rw [if_neg (fun e => h 6 (by decide) (e.trans (by decide +kernel)))]
  rw [if_neg (fun e => h 7 (by decide) (e.trans (by decide +kernel)))]
/-- signs packed, as a number -/
def pn (c : Nat → Int32) (s : Nat) : Nat → Nat
  | 0 => 0
  | n + 1 => 256 * pn c s n + (c (s + n)).toInt.toNat
theorem pn_lt {c : Nat → Int32} {s : Nat} : ∀ n, (∀ j, j < n → (c (s + j)).toInt ≤ 127) → pn c s n < 256 ^ n
  | 0, _ => by show 0 < 1; decide
  | n + 1, h => by
    have a := pn_lt n (fun j hj => h j (by omega))
    have b := h n (by omega)
    rw [Nat.pow_succ]
    show 256 * pn c s n + (c (s + n)).toInt.toNat < _
    omega
theorem tn_64 {x : Int32} (h : 0 ≤ x.toInt) : x.toInt64.toBitVec.toNat = x.toInt.toNat := by
  have e : x.toInt64.toInt = x.toInt := Int32.toInt_toInt64 x
  have e2 : x.toInt64.toBitVec.toInt = x.toInt := e
  have l := Int32.toInt_lt x
  rw [BitVec.toInt_eq_toNat_cond] at e2
  have := x.toInt64.toBitVec.isLt
  split at e2 <;> omega
theorem pkv_pn {c : Nat → Int32} {s : Nat} : ∀ n, n ≤ 8 → (∀ j, j < n → (0 ≤ (c (s + j)).toInt ∧ (c (s + j)).toInt ≤ 127)) → (pkv c s n).toBitVec.toNat = pn c s n
  | 0, _, _ => rfl
  | n + 1, h8, h => by
    have a := pkv_pn n (by omega) (fun j hj => h j (by omega))
    have l := pn_lt (c := c) (s := s) n (fun j hj => (h j (by omega)).2)
    have l7 : 256 ^ n ≤ 256 ^ 7 := Nat.pow_le_pow_right (by decide) (by omega)
    obtain ⟨b1, b2⟩ := h n (by omega)
    have t := tn_64 b1
    show ((pkv c s n) <<< (8 : Int64) ||| (c (s + n)).toInt64).toBitVec.toNat = 256 * pn c s n + (c (s + n)).toInt.toNat
    rw [Int64.toBitVec_or, BitVec.toNat_or, t]
    have e : ((pkv c s n) <<< (8 : Int64)).toBitVec.toNat = pn c s n * 2 ^ 8 := by
      rw [Int64.toBitVec_shiftLeft]
      have e8 : ((8 : Int64).toBitVec.smod 64) = 8#64 := by decide
      rw [e8, BitVec.shiftLeft_eq', BitVec.toNat_shiftLeft, a]
      show (pn c s n) <<< 8 % 2 ^ 64 = _
      rw [Nat.shiftLeft_eq, Nat.mod_eq_of_lt]
      have : 256 ^ 7 = 72057594037927936 := by decide
      omega
    rw [e, Nat.mul_comm (pn c s n), ← Nat.two_pow_add_eq_or_of_lt (by show _ < 2 ^ 8; omega)]
theorem pn_inj {c g : Nat → Int32} {s t : Nat} : ∀ n m, (∀ j, j < n → (1 ≤ (c (s + j)).toInt ∧ (c (s + j)).toInt ≤ 127)) → (∀ j, j < m → (1 ≤ (g (t + j)).toInt ∧ (g (t + j)).toInt ≤ 127)) → pn c s n = pn g t m → n = m ∧ ∀ j, j < n → c (s + j) = g (t + j)
  | 0, 0, _, _, _ => ⟨rfl, fun j hj => absurd hj (by omega)⟩
  | 0, m + 1, _, h, e => by
    have := h m (by omega)
    have e : 0 = 256 * pn g t m + (g (t + m)).toInt.toNat := e
    omega
  | n + 1, 0, h, _, e => by
    have := h n (by omega)
    have e : 256 * pn c s n + (c (s + n)).toInt.toNat = 0 := e
    omega
  | n + 1, m + 1, h, k, e => by
    have h1 := h n (by omega)
    have k1 := k m (by omega)
    have e : 256 * pn c s n + (c (s + n)).toInt.toNat = 256 * pn g t m + (g (t + m)).toInt.toNat := e
    obtain ⟨e1, e2⟩ := pn_inj n m (fun j hj => h j (by omega)) (fun j hj => k j (by omega)) (by omega)
    subst e1
    refine ⟨rfl, fun j hj => ?_⟩
    by_cases c1 : j = n
    · rw [c1]
      apply i_eq
      omega
    · exact e2 j (by omega)
/-- a word stands there: n letters from s on -/
def mtc (c : Nat → Int32) (s n k : Nat) : Prop := n = wln k ∧ ∀ j, j < n → c (s + j) = wdf k j
theorem mtc_pk {c : Nat → Int32} {s n k : Nat} (h : mtc c s n k) : pkv c s n = pkv (wdf k) 0 (wln k) := by
  obtain ⟨h1, h2⟩ := h
  rw [← h1]
  have e : ∀ m, m ≤ n → pkv c s m = pkv (wdf k) 0 m := by
    intro m
    induction m with
    | zero => exact fun _ => rfl
    | succ m ih =>
      intro hm
      show (pkv c s m) <<< 8 ||| (c (s + m)).toInt64 = (pkv (wdf k) 0 m) <<< 8 ||| (wdf k (0 + m)).toInt64
      rw [ih (by omega), h2 m (by omega), Nat.zero_add]
  exact e n (Nat.le_refl _)
theorem pk_mtc {c : Nat → Int32} {s n k : Nat} (hk : k < 21) (h8 : n ≤ 8) (hc : ∀ j, j < n → (1 ≤ (c (s + j)).toInt ∧ (c (s + j)).toInt ≤ 127)) (e : pkv c s n = pkv (wdf k) 0 (wln k)) : mtc c s n k := by
  obtain ⟨w1, w2⟩ := wd_ltr k hk
  have a := pkv_pn n h8 (fun j hj => ⟨by have := (hc j hj).1; omega, (hc j hj).2⟩)
  have b := pkv_pn (c := wdf k) (s := 0) (wln k) w1 (fun j hj => by rw [Nat.zero_add]; have := w2 j hj; omega)
  obtain ⟨e1, e2⟩ := pn_inj (c := c) (g := wdf k) (s := s) (t := 0) n (wln k) hc (fun j hj => by rw [Nat.zero_add]; exact w2 j hj) (by rw [← a, ← b, e])
  exact ⟨e1, fun j hj => by rw [e2 j hj, Nat.zero_add]⟩
/-- which word stands there -/
theorem mtc_one {c : Nat → Int32} {s n : Nat} (hc : ∀ j, j < n → (1 ≤ (c (s + j)).toInt ∧ (c (s + j)).toInt ≤ 127)) : (∃ k, k < 21 ∧ (∀ j, j < 21 → (mtc c s (min n 9) j ↔ j = k)) ∧ (if n < 9 then sp_word (pkv c s n) else 1) = cod k) ∨ ((∀ j, j < 21 → ¬ mtc c s (min n 9) j) ∧ (if n < 9 then sp_word (pkv c s n) else 1) = 1) := by
  by_cases h9 : n < 9
  · rw [if_pos h9, show min n 9 = n by omega]
    by_cases ex : ∃ k, k < 21 ∧ mtc c s n k
    · obtain ⟨k, hk, m⟩ := ex
      refine Or.inl ⟨k, hk, fun j hj => ⟨fun mj => ?_, fun e => e ▸ m⟩, by rw [mtc_pk m]; exact wd_code k hk⟩
      have e := (mtc_pk mj).symm.trans (mtc_pk m)
      exact cod_inj j hj k hk (by rw [← wd_code j hj, ← wd_code k hk, e])
    · refine Or.inr ⟨fun j hj m => ex ⟨j, hj, m⟩, word_no (fun k hk e => ex ⟨k, hk, pk_mtc hk (by omega) hc e⟩)⟩
  · rw [if_neg h9, show min n 9 = 9 by omega]
    refine Or.inr ⟨fun j hj m => ?_, rfl⟩
    have := (wd_ltr j hj).1
    have := m.1
    omega
