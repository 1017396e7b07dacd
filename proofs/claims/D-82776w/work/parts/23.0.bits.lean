/-! bits of sets -/
set_option maxRecDepth 100000
def bit (s : Int32) (i : Nat) : Bool := s.toBitVec.getLsbD i
theorem sh_amt : ∀ i : Fin 32, ((Int32.ofNat i.val &&& 31).toBitVec.smod 32) = BitVec.ofNat 32 i.val := by decide
theorem sh_nat : ∀ i : Fin 32, (BitVec.ofNat 32 i.val).toNat = i.val := by decide
theorem and1 {x : BitVec 32} : x &&& 1#32 = 0#32 ↔ x.getLsbD 0 = false := by
  constructor
  · intro h
    have := congrArg (fun z => z.getLsbD 0) h
    simpa using this
  · intro h
    apply BitVec.eq_of_getLsbD_eq
    intro i hi
    by_cases e : i = 0
    · subst e
      simp only [BitVec.getLsbD_and, h, Bool.false_and, BitVec.getLsbD_zero]
    · simp [BitVec.getLsbD_one, e]
theorem bit_shr {s : Int32} {i : Nat} (hi : i < 32) : s >>> (Int32.ofNat i &&& 31) &&& 1 = 0 ↔ bit s i = false := by
  rw [← Int32.toBitVec_inj, Int32.toBitVec_and, Int32.toBitVec_shiftRight, sh_amt ⟨i, hi⟩]
  show _ &&& 1#32 = 0#32 ↔ _
  rw [and1]
  unfold bit
  rw [BitVec.sshiftRight', BitVec.getLsbD_sshiftRight, sh_nat ⟨i, hi⟩]
  simp [hi]
theorem bit_set {s : Int32} {i j : Nat} (hi : i < 32) (hj : j < 32) : bit (s ||| 1 <<< (Int32.ofNat i &&& 31)) j = (bit s j || decide (j = i)) := by
  unfold bit
  rw [Int32.toBitVec_or, Int32.toBitVec_shiftLeft, sh_amt ⟨i, hi⟩]
  show BitVec.getLsbD (_ ||| 1#32 <<< _) j = _
  rw [BitVec.getLsbD_or]
  congr 1
  rw [BitVec.shiftLeft_eq', sh_nat ⟨i, hi⟩, BitVec.getLsbD_shiftLeft]
  simp only [BitVec.getLsbD_one]
  by_cases e : j = i
  · subst e
    simp [hj]
  · simp [hj, e]
    omega
/-- how many bits are free below n -/
def fr (p : Nat → Bool) : Nat → Nat
  | 0 => 0
  | n + 1 => fr p n + (if p n = true then 0 else 1)
theorem fr_le {p p' : Nat → Bool} (h : ∀ j, p j = true → p' j = true) : ∀ n, fr p' n ≤ fr p n
  | 0 => Nat.le_refl _
  | n + 1 => by
    have := fr_le h n
    unfold fr
    by_cases a : p n = true
    · rw [if_pos a, if_pos (h n a)]
      omega
    · rw [if_neg a]
      split <;> omega
theorem fr_lt {p p' : Nat → Bool} (h : ∀ j, p j = true → p' j = true) {i : Nat} (h1 : p i = false) (h2 : p' i = true) : ∀ n, i < n → fr p' n < fr p n
  | 0, hi => by omega
  | n + 1, hi => by
    unfold fr
    by_cases e : i = n
    · subst e
      have := fr_le h i
      rw [if_pos h2, if_neg (by rw [h1]; decide)]
      omega
    · have := fr_lt h h1 h2 n (by omega)
      by_cases a : p n = true
      · rw [if_pos a, if_pos (h n a)]
        omega
      · rw [if_neg a]
        split <;> omega
theorem fr_max {p : Nat → Bool} : ∀ n, fr p n ≤ n
  | 0 => Nat.le_refl _
  | n + 1 => by
    have := fr_max (p := p) n
    unfold fr
    split <;> omega
