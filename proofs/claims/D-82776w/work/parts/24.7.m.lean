/-! the model's contracts, 33: rows of ledges, what is looked for -/
set_option maxRecDepth 100000
theorem and11 {x : BitVec 32} : x &&& 1#32 = 1#32 ↔ x.getLsbD 0 = true := by
  constructor
  · intro h
    have := congrArg (fun z => z.getLsbD 0) h
    simpa using this
  · intro h
    apply BitVec.eq_of_getLsbD_eq
    intro i hi
    by_cases e : i = 0
    · subst e
      simp [h]
    · simp [BitVec.getLsbD_one, e]
theorem bit_shr1 {s : Int32} {i : Nat} (hi : i < 32) : s >>> (Int32.ofNat i &&& 31) &&& 1 = 1 ↔ bit s i = true := by
  rw [← Int32.toBitVec_inj, Int32.toBitVec_and, Int32.toBitVec_shiftRight, sh_amt ⟨i, hi⟩]
  show _ &&& 1#32 = 1#32 ↔ _
  rw [and11]
  unfold bit
  rw [BitVec.sshiftRight', BitVec.getLsbD_sshiftRight, sh_nat ⟨i, hi⟩]
  simp [hi]
theorem bit_clr {s : Int32} {i j : Nat} (hi : i < 32) (hj : j < 32) : bit (s &&& (1 <<< (Int32.ofNat i &&& 31) ^^^ -1)) j = (bit s j && !decide (j = i)) := by
  unfold bit
  rw [Int32.toBitVec_and, Int32.toBitVec_xor, Int32.toBitVec_shiftLeft, sh_amt ⟨i, hi⟩]
  show BitVec.getLsbD (_ &&& (1#32 <<< _ ^^^ BitVec.allOnes 32)) j = _
  rw [BitVec.getLsbD_and, BitVec.getLsbD_xor, BitVec.getLsbD_allOnes]
  congr 1
  rw [BitVec.shiftLeft_eq', sh_nat ⟨i, hi⟩, BitVec.getLsbD_shiftLeft]
  simp only [BitVec.getLsbD_one]
  by_cases e : j = i
  · subst e
    simp [hj]
  · have e2 : ¬ (¬ j < i ∧ j - i = 0) := by omega
    simp [hj, e]
    omega
theorem bit_0 {j : Nat} : bit 0 j = false := by
  unfold bit
  show BitVec.getLsbD 0#32 j = false
  simp
section M33
variable {F : xp_F}
/-- the best row: units, minutes, stings, its ledges, the last ahead -/
abbrev Bst : Type := Int32 × Int32 × Int32 × List Nat
def sp_tk (sun : Int32) (B : Bst) (u m s : Int32) (p : List Nat) : Bst := if sun < m ∨ u < B.1 ∨ (u = B.1 ∧ ¬ m < B.2.1) then B else (u, m, s, p)
def sp_smk (F : xp_F) (l : Nat) : List Nat → Int32
  | [] => 0
  | o :: p => if ¬ sp_smk F l p = 0 ∨ sp_smokes F o l then 1 else 0
def sp_hr (F : xp_F) : List Nat → Int32
  | [] => 99
  | o :: _ => F 4 o
def sp_mins (F : xp_F) (p : List Nat) (m c : Int32) (l : Nat) : Int32 := m + 2 * ab (sp_hr F p - F 4 l) + 15 + (c + 9) / 10
def sp_stg (F : xp_F) (p : List Nat) (s : Int32) (l : Nat) : Int32 := s + (if sp_smk F l p = 0 then F 5 l else F 5 l / 3)
/-- rows that go on from a row -/
def sp_trs (F : xp_F) (c : Nat → Int32) (S : List Nat) : Nat → List Nat → Int32 → Int32 → Int32 → Bst → Nat → Bst
  | 0, _, _, _, _, B, _ => B
  | r + 1, p, m, u, s, B, l => if l ∈ p ∨ F 0 3 < sp_stg F p s l ∨ F 0 2 < sp_mins F p m (c l) l then B else
      S.foldl (sp_trs F c S r (l :: p) (sp_mins F p m (c l) l) (u + c l) (sp_stg F p s l)) (sp_tk (F 0 2) B (u + c l) (sp_mins F p m (c l) l + 2 * (99 - F 4 l)) (sp_stg F p s l) (l :: p))
/-- the least seven of a set -/
def sp_lows (set : Int32) (N : Nat) : List Nat := xp_up (fun l (S : List Nat) => if S.length < 7 ∧ bit set l = true then S ++ [l] else S) [] N
def sp_found (F : xp_F) (c : Nat → Int32) (S : List Nat) : Bst := S.foldl (sp_trs F c S S.length [] 0 0 0) (0, 0, 0, [])
theorem lows_len {set : Int32} (N : Nat) : (sp_lows set N).length ≤ 7 := by
  refine up_inv (fun (S : List Nat) => S.length ≤ 7) (fun l S h => ?_) (by decide) N
  show (if _ then _ else _ : List Nat).length ≤ 7
  split
  · rename_i c
    rw [List.length_append]
    have := c.1
    show S.length + 1 ≤ 7
    omega
  · exact h
theorem lows_lt {set : Int32} : ∀ (N : Nat) (l : Nat), l ∈ sp_lows set N → l < N
  | 0, _, h => by cases h
  | N + 1, l, h => by
    have e : sp_lows set (N + 1) = if (sp_lows set N).length < 7 ∧ bit set N = true then sp_lows set N ++ [N] else sp_lows set N := rfl
    rw [e] at h
    split at h
    · rcases List.mem_append.mp h with h | h
      · have := lows_lt N l h
        omega
      · have : l = N := by simpa using h
        omega
    · have := lows_lt N l h
      omega
/-- the i-th of a row whose last is ahead -/
def nthr : List Nat → Nat → Nat
  | [], _ => 0
  | l :: p, i => if i = p.length then l else nthr p i
def RowI (G : xp_F) (p : List Nat) : Prop := ∀ i, i < p.length → G 33 i = Int32.ofNat (nthr p i)
def BR (G : xp_F) (B : Bst) : Prop := G 0 58 = B.1 ∧ G 0 59 = B.2.1 ∧ G 0 60 = B.2.2.1 ∧ G 0 57 = Int32.ofNat B.2.2.2.length ∧ ∀ i, i < B.2.2.2.length → G 38 i = Int32.ofNat (nthr B.2.2.2 i)
/-- what the search leaves alone -/
def rw' (F G : xp_F) : Prop := ∀ o k, ¬ (32 ≤ o ∧ o ≤ 38) → ¬ o = 29 → ¬ (o = 0 ∧ 56 ≤ k ∧ k ≤ 60) → G o k = F o k
theorem rw'.rf : rw' F F := fun _ _ _ _ _ => rfl
theorem rw'.tr {G H : xp_F} (a : rw' F G) (b : rw' G H) : rw' F H := fun o k h1 h2 h3 => (b o k h1 h2 h3).trans (a o k h1 h2 h3)
theorem rw'.pq {n : Nat} {G : xp_F} (a : pq n F G) : rw' F G := fun o k _ h2 _ => a.1 o k h2
theorem rw'.u {o k : Nat} {v : Int32} (ho : 32 ≤ o ∧ o ≤ 38) : rw' F (xm_u2 F o k v) := fun a b h1 _ _ => by rw [u2_ap, if_neg (fun z => h1 (by rw [z.1]; exact ho))]
theorem rw'.u0 {k : Nat} {v : Int32} (hk : 56 ≤ k ∧ k ≤ 60) : rw' F (xm_u2 F 0 k v) := fun a b _ _ h3 => by rw [u2_ap, if_neg (fun z => h3 ⟨z.1, by rw [z.2]; exact hk⟩)]
def SI (G : xp_F) (S : List Nat) : Prop := G 0 56 = Int32.ofNat S.length ∧ ∀ i (hi : i < S.length), G 32 i = Int32.ofNat S[i]
/-- below n the same -/
def low (n : Nat) (G H : xp_F) : Prop := ∀ o j, 33 ≤ o → o ≤ 37 → j < n → H o j = G o j
theorem low.rf {n : Nat} {G : xp_F} : low n G G := fun _ _ _ _ _ => rfl
theorem low.tr {n m : Nat} {G H I : xp_F} (a : low n G H) (b : low m H I) (hm : n ≤ m) : low n G I := fun o j h1 h2 h3 => (b o j h1 h2 (by omega)).trans (a o j h1 h2 h3)
theorem low.pq {n : Nat} {G H : xp_F} (a : pq 0 G H) : low n G H := fun o j h1 _ _ => a.1 o j (by omega)
theorem low.u {n o k : Nat} {v : Int32} {G : xp_F} (hk : n ≤ k) : low n G (xm_u2 G o k v) := fun a j _ _ h3 => by rw [u2_ap, if_neg (fun z => by have := z.2; omega)]
theorem low.u0 {n o k : Nat} {v : Int32} {G : xp_F} (ho : ¬ (33 ≤ o ∧ o ≤ 37)) : low n G (xm_u2 G o k v) := fun a j h1 h2 _ => by rw [u2_ap, if_neg (fun z => ho (by rw [← z.1]; exact ⟨h1, h2⟩))]
/-- takesRow: what it does -/
theorem take_BR {G : xp_F} {B : Bst} {n : Nat} {m : Int32} {p : List Nat} {sun : Int32} (hs : G 0 2 = sun) (hb : BR G B) (hp : RowI G p) (hn : n = p.length) : BR (sp_takesRow G n m) (sp_tk sun B (G 35 n) m (G 37 n) p) ∧ rw' G (sp_takesRow G n m) ∧ (∀ n', low n' G (sp_takesRow G n m)) ∧ (∀ j, sp_takesRow G n m 32 j = G 32 j) ∧ sp_takesRow G n m 0 56 = G 0 56 ∧ ∀ o j, 33 ≤ o → o ≤ 37 → sp_takesRow G n m o j = G o j := by
  have fr : ∀ o j, ¬ o = 38 → ¬ (o = 0 ∧ 57 ≤ j ∧ j ≤ 60) → sp_takesRow G n m o j = G o j := by
    intro o j h1 h2
    unfold sp_takesRow
    split
    · rfl
    · refine it_inv (fun (H : xp_F) => H o j = G o j) (fun k H h => ?_) _ _ _ ?_
      · show xm_u2 H 38 k _ o j = _
        rw [u2_ap, if_neg (fun z => h1 z.1)]
        exact h
      · rw [u2_ap, if_neg (by omega), u2_ap, if_neg (by omega), u2_ap, if_neg (by omega), u2_ap, if_neg (by omega)]
  refine ⟨?_, fun o j h1 _ h3 => fr o j (by omega) (by omega), fun n' o j h1 h2 _ => fr o j (by omega) (by omega), fun j => fr _ _ (by decide) (by omega), fr _ _ (by decide) (by decide), fun o j h1 h2 => fr o j (by omega) (by omega)⟩
  obtain ⟨b1, b2, b3, b4, b5⟩ := hb
  unfold sp_takesRow sp_tk
  rw [hs, b1, b2]
  by_cases c : sun < m ∨ G 35 n < B.1 ∨ (G 35 n = B.1 ∧ ¬ m < B.2.1)
  · rw [if_pos c, if_pos c]
    exact ⟨b1, b2, b3, b4, b5⟩
  · rw [if_neg c, if_neg c]
    have go := it_up (f := fun i (H : xp_F) => xm_u2 H 38 i (H 33 i)) (n := n) (fun k (H : xp_F) => (∀ o j, ¬ o = 38 → H o j = xm_u2 (xm_u2 (xm_u2 (xm_u2 G 0 57 (Int32.ofNat n)) 0 58 (G 35 n)) 0 59 m) 0 60 (G 37 n) o j) ∧ ∀ j, j < k → H 38 j = G 33 j) (fun k H hk hH => by
      refine ⟨fun o j ho => ?_, fun j hj => ?_⟩
      · show xm_u2 H 38 k _ o j = _
        rw [u2_ap, if_neg (fun z => ho z.1)]
        exact hH.1 o j ho
      · show xm_u2 H 38 k (H 33 k) 38 j = _
        rw [u2_ap]
        by_cases e : j = k
        · rw [if_pos ⟨rfl, e⟩, hH.1 33 k (by decide), u2_ap, if_neg (by omega), u2_ap, if_neg (by omega), u2_ap, if_neg (by omega), u2_ap, if_neg (by omega), e]
        · rw [if_neg (fun z => e z.2)]
          exact hH.2 j (by omega)) n 0 (xm_u2 (xm_u2 (xm_u2 (xm_u2 G 0 57 (Int32.ofNat n)) 0 58 (G 35 n)) 0 59 m) 0 60 (G 37 n)) (Nat.zero_add _) ⟨fun _ _ _ => rfl, fun j hj => absurd hj (Nat.not_lt_zero _)⟩
    obtain ⟨g1, g2⟩ := go
    refine ⟨?_, ?_, ?_, ?_, fun i hi => ?_⟩
    · rw [g1 _ _ (by decide)]
      simp only [u2_ap, Nat.reduceEqDiff, and_false, and_self, ↓reduceIte]
    · rw [g1 _ _ (by decide)]
      simp only [u2_ap, Nat.reduceEqDiff, and_false, and_self, ↓reduceIte]
    · rw [g1 _ _ (by decide)]
      simp only [u2_ap, Nat.reduceEqDiff, and_false, and_self, ↓reduceIte]
    · rw [g1 _ _ (by decide)]
      simp only [u2_ap, Nat.reduceEqDiff, and_false, and_self, ↓reduceIte, hn]
    · have hi : i < p.length := hi
      rw [g2 i (by omega)]
      exact hp i hi
theorem smk_eq {G : xp_F} {l : Nat} (h : rw' F G) : ∀ (p : List Nat), RowI G p → (∀ o ∈ p, o < 12) → sp_smoked G p.length l = sp_smk F l p
  | [], _, _ => rfl
  | o :: p, hp, h12 => by
    have e1 : G 33 p.length = Int32.ofNat o := by
      have := hp p.length (by simp)
      rw [this]
      show Int32.ofNat (if p.length = p.length then o else _) = _
      rw [if_pos rfl]
    have hp' : RowI G p := fun i hi => by
      have := hp i (by simp; omega)
      rw [this]
      show Int32.ofNat (if i = p.length then o else _) = _
      rw [if_neg (by omega)]
    have ih := smk_eq (l := l) h p hp' (fun x hx => h12 x (List.mem_cons_of_mem _ hx))
    have o12 := h12 o (List.mem_cons_self)
    show sp_smoked1 G l p.length (sp_smoked G p.length l) = _
    rw [ih]
    show _ = if ¬ sp_smk F l p = 0 ∨ sp_smokes F o l then 1 else 0
    unfold sp_smoked1
    rw [e1, tc_nat (by omega)]
    have s : sp_smokes G o l ↔ sp_smokes F o l := by
      unfold sp_smokes
      rw [h 4 o (by omega) (by decide) (by omega), h 4 l (by omega) (by decide) (by omega), h 3 o (by omega) (by decide) (by omega), h 3 l (by omega) (by decide) (by omega), h 0 1 (by omega) (by decide) (by omega)]
    simp only [s]
end M33
