/-! the component's contracts, 16: rows tried are the model's -/
set_option maxRecDepth 100000
theorem foldl_lows {α : Type} {set : Int32} {g : α → Nat → α} {B : α} : ∀ (N : Nat) (P : Nat → Prop) [DecidablePred P], (∀ l, l < N → (P l ↔ l ∈ sp_lows set N)) → (sp_lows set N).foldl g B = xp_up (fun l B => if P l then g B l else B) B N
  | 0, _, _, _ => rfl
  | N + 1, P, _, h => by
    have e : sp_lows set (N + 1) = if (sp_lows set N).length < 7 ∧ bit set N = true then sp_lows set N ++ [N] else sp_lows set N := rfl
    have up : xp_up (fun l B => if P l then g B l else B) B (N + 1) = if P N then g (xp_up (fun l B => if P l then g B l else B) B N) N else xp_up (fun l B => if P l then g B l else B) B N := rfl
    have hN := h N (Nat.lt_succ_self _)
    by_cases c : (sp_lows set N).length < 7 ∧ bit set N = true
    · rw [if_pos c] at e
      have ih := foldl_lows (set := set) (g := g) (B := B) N P (fun l hl => by
        rw [h l (by omega), e, List.mem_append]
        constructor
        · intro z
          rcases z with z | z
          · exact z
          · have : l = N := by simpa using z
            omega
        · exact Or.inl)
      rw [up, if_pos (hN.mpr (by rw [e]; exact List.mem_append.mpr (Or.inr (by simp)))), ← ih, e, List.foldl_append]
      rfl
    · rw [if_neg c] at e
      have ih := foldl_lows (set := set) (g := g) (B := B) N P (fun l hl => by rw [h l (by omega), e])
      rw [up, if_neg (fun z => by
        have := hN.mp z
        rw [e] at this
        have := lows_lt N N this
        omega), ← ih, e]
theorem up_congr {α : Type} {f g : Nat → α → α} {s : α} : ∀ (n : Nat), (∀ k s, k < n → f k s = g k s) → xp_up f s n = xp_up g s n
  | 0, _ => rfl
  | n + 1, h => by
    show f n (xp_up f s n) = g n (xp_up g s n)
    rw [up_congr n (fun k s hk => h k s (by omega)), h n _ (Nat.lt_succ_self _)]
theorem i_lt {a b : Int32} (h1 : ¬ a = b) (h2 : ¬ b < a) : a < b := by
  rw [Int32.lt_iff_toInt_lt] at *
  have : ¬ a.toInt = b.toInt := fun z => h1 (i_eq z)
  omega
section C16
variable {F : xp_F}
/-- heights, cuts, the sun as they may be -/
def HB (F : xp_F) (c : Nat → Int32) (S : List Nat) : Prop := (∀ l ∈ S, rg (F 4 l) 98 ∧ 0 < (c l).toInt ∧ (c l).toInt ≤ 3600) ∧ rg (F 0 2) 600 ∧ 0 ≤ (F 0 3).toInt
theorem ab_ti {x : Int32} (h : -1000000 ≤ x.toInt) : (ab x).toInt = if x.toInt < 0 then -x.toInt else x.toInt := by
  unfold ab
  by_cases c : x < 0
  · have c' := Int32.lt_iff_toInt_lt.mp c
    rw [show (0 : Int32).toInt = 0 from rfl] at c'
    rw [if_pos c, if_pos c', Int32.toInt_neg]
    exact Int.bmod_eq_of_le (by omega) (by omega)
  · have c' : ¬ x.toInt < 0 := fun z => c (Int32.lt_iff_toInt_lt.mpr z)
    rw [if_neg c, if_neg c']
theorem hr_rg {c : Nat → Int32} {S p : List Nat} (hb : HB F c S) (hp : ∀ o ∈ p, o ∈ S) : rg (sp_hr F p) 99 := by
  cases p with
  | nil => exact (show rg (99 : Int32) 99 from ⟨by decide, by decide⟩)
  | cons o p =>
    have := (hb.1 o (hp o List.mem_cons_self)).1
    exact ⟨this.1, by have := this.2; show (F 4 o).toInt ≤ 99; omega⟩
/-- minutes with a ledge more, and those on the way back -/
theorem mins_ti {c : Nat → Int32} {S p : List Nat} (hb : HB F c S) (hp : ∀ o ∈ p, o ∈ S) {m : Int32} (hm : rg m 600) {l : Nat} (hl : l ∈ S) :
    0 ≤ (sp_mins F p m (c l) l).toInt ∧ (sp_mins F p m (c l) l).toInt ≤ 1400 ∧ m.toInt + 15 + 2 * ((F 4 l).toInt - (sp_hr F p).toInt) ≤ (sp_mins F p m (c l) l).toInt ∧ (m + 2 * (99 - sp_hr F p)).toInt = m.toInt + 2 * (99 - (sp_hr F p).toInt) := by
  obtain ⟨⟨h1, h2⟩, c1, c2⟩ := hb.1 l hl
  obtain ⟨r1, r2⟩ := hr_rg hb hp
  obtain ⟨m1, m2⟩ := hm
  have e1 : (sp_hr F p - F 4 l).toInt = (sp_hr F p).toInt - (F 4 l).toInt := ti_sub (by omega)
  have e2 := ab_ti (x := sp_hr F p - F 4 l) (by omega)
  rw [e1] at e2
  have a0 : 0 ≤ (ab (sp_hr F p - F 4 l)).toInt ∧ (ab (sp_hr F p - F 4 l)).toInt ≤ 99 ∧ (F 4 l).toInt - (sp_hr F p).toInt ≤ (ab (sp_hr F p - F 4 l)).toInt := by
    rw [e2]
    split <;> omega
  have t2 : (2 : Int32).toInt = 2 := rfl
  have t9 : (9 : Int32).toInt = 9 := rfl
  have t10 : (10 : Int32).toInt = 10 := rfl
  have t15 : (15 : Int32).toInt = 15 := rfl
  have t99 : (99 : Int32).toInt = 99 := rfl
  have e3 : (2 * ab (sp_hr F p - F 4 l)).toInt = 2 * (ab (sp_hr F p - F 4 l)).toInt := by rw [ti_mul (by rw [t2]; omega), t2]
  have e4 : (m + 2 * ab (sp_hr F p - F 4 l)).toInt = m.toInt + 2 * (ab (sp_hr F p - F 4 l)).toInt := by rw [ti_add (by rw [e3]; omega), e3]
  have e5 : (m + 2 * ab (sp_hr F p - F 4 l) + 15).toInt = m.toInt + 2 * (ab (sp_hr F p - F 4 l)).toInt + 15 := by rw [ti_add (by rw [e4, t15]; omega), e4, t15]
  have e6 : (c l + 9).toInt = (c l).toInt + 9 := by rw [ti_add (by rw [t9]; omega), t9]
  have e7 : ((c l + 9) / 10).toInt = ((c l).toInt + 9) / 10 := by rw [ti_div (by rw [e6]; omega) (by decide), e6, t10]
  have e8 : (sp_mins F p m (c l) l).toInt = m.toInt + 2 * (ab (sp_hr F p - F 4 l)).toInt + 15 + ((c l).toInt + 9) / 10 := by
    unfold sp_mins
    rw [ti_add (by rw [e5, e7]; omega), e5, e7]
  have e9 : (99 - sp_hr F p).toInt = 99 - (sp_hr F p).toInt := by rw [ti_sub (by rw [t99]; omega), t99]
  have e10 : (2 * (99 - sp_hr F p)).toInt = 2 * (99 - (sp_hr F p).toInt) := by rw [ti_mul (by rw [t2, e9]; omega), t2, e9]
  have e11 : (m + 2 * (99 - sp_hr F p)).toInt = m.toInt + 2 * (99 - (sp_hr F p).toInt) := by rw [ti_add (by rw [e10]; omega), e10]
  rw [e8, e11]
  omega
theorem back_ti {c : Nat → Int32} {S p : List Nat} (hb : HB F c S) {l : Nat} (hl : l ∈ S) {m : Int32} (hm : 0 ≤ m.toInt ∧ m.toInt ≤ 1400) : (m + 2 * (99 - F 4 l)).toInt = m.toInt + 2 * (99 - (F 4 l).toInt) := by
  obtain ⟨⟨h1, h2⟩, -⟩ := hb.1 l hl
  have t2 : (2 : Int32).toInt = 2 := rfl
  have t99 : (99 : Int32).toInt = 99 := rfl
  have e9 : (99 - F 4 l).toInt = 99 - (F 4 l).toInt := by rw [ti_sub (by rw [t99]; omega), t99]
  have e10 : (2 * (99 - F 4 l)).toInt = 2 * (99 - (F 4 l).toInt) := by rw [ti_mul (by rw [t2, e9]; omega), t2, e9]
  rw [ti_add (by rw [e10]; omega), e10]
theorem foldl_id {α : Type} {g : α → Nat → α} : ∀ (S : List Nat) (B : α), (∀ l ∈ S, ∀ B, g B l = B) → S.foldl g B = B
  | [], _, _ => rfl
  | a :: S, B, h => by
    rw [List.foldl_cons, h a List.mem_cons_self]
    exact foldl_id S B (fun l hl => h l (List.mem_cons_of_mem _ hl))
/-- too late: nothing is found any more -/
theorem trs_dead {c : Nat → Int32} {S : List Nat} (hb : HB F c S) : ∀ (r : Nat) (p : List Nat) (m u s : Int32) (B : Bst) (l : Nat), (∀ o ∈ p, o ∈ S) → rg m 600 → (F 0 2).toInt < m.toInt + 2 * (99 - (sp_hr F p).toInt) → l ∈ S → sp_trs F c S r p m u s B l = B
  | 0, _, _, _, _, _, _, _, _, _, _ => rfl
  | r + 1, p, m, u, s, B, l, hp, hm, hd, hl => by
    unfold sp_trs
    split
    · rfl
    · rename_i hc
      have c3 : ¬ F 0 2 < sp_mins F p m (c l) l := fun z => hc (Or.inr (Or.inr z))
      have c3' : ¬ (F 0 2).toInt < (sp_mins F p m (c l) l).toInt := fun z => c3 (Int32.lt_iff_toInt_lt.mpr z)
      obtain ⟨a1, a2, a3, a4⟩ := mins_ti hb hp hm hl
      obtain ⟨s1, s2⟩ := hb.2.1
      have e := back_ti (p := p) hb hl (m := sp_mins F p m (c l) l) ⟨a1, a2⟩
      have hd' : (F 0 2).toInt < (sp_mins F p m (c l) l).toInt + 2 * (99 - (F 4 l).toInt) := by omega
      have tk : sp_tk (F 0 2) B (u + c l) (sp_mins F p m (c l) l + 2 * (99 - F 4 l)) (sp_stg F p s l) (l :: p) = B := if_pos (Or.inl (Int32.lt_iff_toInt_lt.mpr (by rw [e]; exact hd')))
      rw [tk]
      exact foldl_id S B (fun x hx B => trs_dead hb r (l :: p) _ _ _ B x (fun o ho => by
        rcases List.mem_cons.mp ho with e | e
        · rw [e]
          exact hl
        · exact hp o e) ⟨a1, by omega⟩ hd' hx)
/-- the component's search from a row on is the model's -/
theorem trc_trs {c : Nat → Int32} {set : Int32} {N : Nat} (hb : HB F c (sp_lows set N)) : ∀ (r : Nat) (l : Nat) (p : List Nat) (m u s : Int32) (B : Bst), (∀ o ∈ l :: p, o ∈ sp_lows set N) → 0 ≤ m.toInt → ¬ F 0 2 < m → ¬ F 0 3 < s →
    sq_trc F c (sp_lows set N) N r (l :: p) m u s B = (sp_lows set N).foldl (sp_trs F c (sp_lows set N) r (l :: p) m u s) (sp_tk (F 0 2) B u (m + 2 * (99 - F 4 l)) s (l :: p)) := by
  intro r
  induction r with
  | zero =>
    intro l p m u s B hp h0 hs ht
    have hs' : ¬ (F 0 2).toInt < m.toInt := fun z => hs (Int32.lt_iff_toInt_lt.mpr z)
    obtain ⟨s1, s2⟩ := hb.2.1
    rw [foldl_id (g := sp_trs F c (sp_lows set N) 0 (l :: p) m u s) _ _ (fun x _ B => rfl)]
    unfold sq_trc sq_rec sp_tk
    show (if F 0 2 < m + 2 * (99 - F 4 l) ∨ F 0 3 < s then B else if l :: p = [] ∨ B.1 < u ∨ (u = B.1 ∧ m + 2 * (99 - F 4 l) < B.2.1) then _ else _) = _
    by_cases c1 : F 0 2 < m + 2 * (99 - F 4 l)
    · rw [if_pos (Or.inl c1), if_pos (Or.inl c1)]
    rw [if_neg (fun z => z.elim c1 ht)]
    by_cases c2 : B.1 < u
    · have n1 : ¬ u < B.1 := Int32.lt_asymm c2
      have n2 : ¬ u = B.1 := fun z => Int32.lt_irrefl (z ▸ c2)
      rw [if_pos (Or.inr (Or.inl c2)), if_neg (fun z => z.elim c1 (fun y => y.elim n1 (fun x => n2 x.1)))]
      rfl
    by_cases c3 : u = B.1
    · have n1 : ¬ u < B.1 := fun z => Int32.lt_irrefl (c3 ▸ z)
      by_cases c4 : m + 2 * (99 - F 4 l) < B.2.1
      · rw [if_pos (Or.inr (Or.inr ⟨c3, c4⟩)), if_neg (fun z => z.elim c1 (fun y => y.elim n1 (fun x => x.2 c4)))]
        rfl
      · rw [if_neg (fun z => z.elim (fun y => by cases y) (fun y => y.elim c2 (fun x => c4 x.2))), if_pos (Or.inr (Or.inr ⟨c3, c4⟩))]
    · have lt : u < B.1 := i_lt c3 c2
      rw [if_neg (fun z => z.elim (fun y => by cases y) (fun y => y.elim c2 (fun x => c3 x.1))), if_pos (Or.inr (Or.inl lt))]
  | succ r ih =>
    intro l p m u s B hp h0 hs ht
    have hs' : ¬ (F 0 2).toInt < m.toInt := fun z => hs (Int32.lt_iff_toInt_lt.mpr z)
    obtain ⟨s1, s2⟩ := hb.2.1
    have hm : rg m 600 := ⟨h0, by omega⟩
    have eb := back_ti (p := p) hb (hp l List.mem_cons_self) (m := m) ⟨h0, by omega⟩
    unfold sq_trc
    show (if F 0 2 < m + 2 * (99 - F 4 l) ∨ F 0 3 < s then B else _) = _
    by_cases c1 : F 0 2 < m + 2 * (99 - F 4 l)
    · have c1' := Int32.lt_iff_toInt_lt.mp c1
      rw [eb] at c1'
      have tk : sp_tk (F 0 2) B u (m + 2 * (99 - F 4 l)) s (l :: p) = B := if_pos (Or.inl c1)
      rw [if_pos (Or.inl c1), tk]
      exact (foldl_id _ B (fun x hx B => trs_dead hb (r + 1) (l :: p) m u s B x hp hm c1' hx)).symm
    rw [if_neg (fun z => z.elim c1 ht)]
    have rec_tk : sq_rec (l :: p) u (m + 2 * (99 - F 4 l)) s B = sp_tk (F 0 2) B u (m + 2 * (99 - F 4 l)) s (l :: p) := by
      unfold sq_rec sp_tk
      by_cases c2 : B.1 < u
      · have n1 : ¬ u < B.1 := Int32.lt_asymm c2
        have n2 : ¬ u = B.1 := fun z => Int32.lt_irrefl (z ▸ c2)
        rw [if_pos (Or.inr (Or.inl c2)), if_neg (fun z => z.elim c1 (fun y => y.elim n1 (fun x => n2 x.1)))]
      by_cases c3 : u = B.1
      · have n1 : ¬ u < B.1 := fun z => Int32.lt_irrefl (c3 ▸ z)
        by_cases c4 : m + 2 * (99 - F 4 l) < B.2.1
        · rw [if_pos (Or.inr (Or.inr ⟨c3, c4⟩)), if_neg (fun z => z.elim c1 (fun y => y.elim n1 (fun x => x.2 c4)))]
        · rw [if_neg (fun z => z.elim (fun y => by cases y) (fun y => y.elim c2 (fun x => c4 x.2))), if_pos (Or.inr (Or.inr ⟨c3, c4⟩))]
      · have lt : u < B.1 := i_lt c3 c2
        rw [if_neg (fun z => z.elim (fun y => by cases y) (fun y => y.elim c2 (fun x => c3 x.1))), if_pos (Or.inr (Or.inl lt))]
    show xp_up _ (sq_rec (l :: p) u (m + 2 * (99 - F 4 l)) s B) N = _
    rw [rec_tk, foldl_lows N (fun x => x ∈ sp_lows set N) (fun x _ => Iff.rfl)]
    refine up_congr N (fun x B hx => ?_)
    by_cases e1 : x ∈ sp_lows set N
    case neg => rw [if_neg (fun z => e1 z.1), if_neg e1]
    rw [if_pos e1]
    unfold sp_trs
    by_cases e2 : x ∈ l :: p
    · rw [if_neg (fun z => z.2 e2), if_pos (Or.inl e2)]
    rw [if_pos ⟨e1, e2⟩]
    obtain ⟨a1, a2, a3, a4⟩ := mins_ti hb hp hm e1
    by_cases e3 : F 0 3 < sp_stg F (l :: p) s x
    · rw [if_pos (Or.inr (Or.inl e3))]
      cases r with
      | zero => exact if_pos (Or.inr e3)
      | succ r => exact if_pos (Or.inr e3)
    by_cases e4 : F 0 2 < sp_mins F (l :: p) m (c x) x
    · rw [if_pos (Or.inr (Or.inr e4))]
      have e5 := back_ti (p := p) hb e1 (m := sp_mins F (l :: p) m (c x) x) ⟨a1, a2⟩
      obtain ⟨⟨-, x2⟩, -⟩ := hb.1 x e1
      have e4' := Int32.lt_iff_toInt_lt.mp e4
      have e6 : F 0 2 < sp_mins F (l :: p) m (c x) x + 2 * (99 - F 4 x) := Int32.lt_iff_toInt_lt.mpr (by rw [e5]; omega)
      cases r with
      | zero => exact if_pos (Or.inl e6)
      | succ r => exact if_pos (Or.inl e6)
    rw [if_neg (fun z => z.elim e2 (fun y => y.elim e3 e4))]
    exact ih x (l :: p) _ _ _ B (fun o ho => by
      rcases List.mem_cons.mp ho with e | e
      · rw [e]
        exact e1
      · exact hp o e) a1 e4 e3
theorem trc_found {c : Nat → Int32} {set : Int32} {N : Nat} (hb : HB F c (sp_lows set N)) (B : Bst) : sq_trc F c (sp_lows set N) N (sp_lows set N).length [] 0 0 0 B = sp_found F c (sp_lows set N) := by
  have n1 : ¬ F 0 2 < 0 := fun z => by
    have := Int32.lt_iff_toInt_lt.mp z
    have := hb.2.1.1
    rw [show (0 : Int32).toInt = 0 from rfl] at *
    omega
  have n2 : ¬ F 0 3 < 0 := fun z => by
    have := Int32.lt_iff_toInt_lt.mp z
    have := hb.2.2
    rw [show (0 : Int32).toInt = 0 from rfl] at *
    omega
  unfold sp_found
  generalize er : (sp_lows set N).length = r
  cases r with
  | zero =>
    have e : sp_lows set N = [] := List.eq_nil_of_length_eq_zero er
    unfold sq_trc
    show (if F 0 2 < 0 ∨ F 0 3 < 0 then B else sq_rec [] 0 0 0 B) = _
    rw [if_neg (fun z => z.elim n1 n2), e]
    exact if_pos (Or.inl rfl)
  | succ r =>
    unfold sq_trc
    show (if F 0 2 < 0 ∨ F 0 3 < 0 then B else xp_up _ (sq_rec [] 0 0 0 B) N) = _
    have e0 : sq_rec [] 0 0 0 B = (0, 0, 0, []) := if_pos (Or.inl rfl)
    rw [if_neg (fun z => z.elim n1 n2), e0, foldl_lows N (fun x => x ∈ sp_lows set N) (fun x _ => Iff.rfl)]
    refine up_congr N (fun x B hx => ?_)
    by_cases e1 : x ∈ sp_lows set N
    case neg => rw [if_neg (fun z => e1 z.1), if_neg e1]
    have e2 : ¬ x ∈ ([] : List Nat) := fun z => by cases z
    rw [if_pos e1, if_pos ⟨e1, e2⟩]
    unfold sp_trs
    obtain ⟨a1, a2, a3, a4⟩ := mins_ti hb (p := []) (fun o ho => by cases ho) (m := 0) ⟨by decide, by decide⟩ e1
    obtain ⟨s1, s2⟩ := hb.2.1
    by_cases e3 : F 0 3 < sp_stg F [] 0 x
    · rw [if_pos (Or.inr (Or.inl e3))]
      cases r with
      | zero => exact if_pos (Or.inr e3)
      | succ r => exact if_pos (Or.inr e3)
    by_cases e4 : F 0 2 < sp_mins F [] 0 (c x) x
    · rw [if_pos (Or.inr (Or.inr e4))]
      have e5 := back_ti (p := []) hb e1 (m := sp_mins F [] 0 (c x) x) ⟨a1, a2⟩
      obtain ⟨⟨-, x2⟩, -⟩ := hb.1 x e1
      have e4' := Int32.lt_iff_toInt_lt.mp e4
      have e6 : F 0 2 < sp_mins F [] 0 (c x) x + 2 * (99 - F 4 x) := Int32.lt_iff_toInt_lt.mpr (by rw [e5]; omega)
      cases r with
      | zero => exact if_pos (Or.inl e6)
      | succ r => exact if_pos (Or.inl e6)
    rw [if_neg (fun z => z.elim e2 (fun y => y.elim e3 e4))]
    exact trc_trs hb r x [] _ _ _ B (fun o ho => by
      rcases List.mem_cons.mp ho with e | e
      · rw [e]
        exact e1
      · cases e) a1 e4 e3
end C16
