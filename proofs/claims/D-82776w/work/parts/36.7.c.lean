/-! the component's first shape -/
set_option maxRecDepth 100000
theorem lkp_mem {α : Type} {p : Nat} {x : α} : ∀ {l : List (Nat × α)}, l.lookup p = some x → (p, x) ∈ l
  | [], h => nomatch h
  | (k, v) :: l, h => by
    unfold List.lookup at h
    by_cases c : p = k
    · rw [c] at h ⊢
      simp only [beq_self_eq_true] at h
      rw [← Option.some.inj h]
      exact List.mem_cons_self
    · have e : (p == k) = false := beq_eq_false_iff_ne.mpr c
      rw [e] at h
      exact List.mem_cons_of_mem _ (lkp_mem h)
/-- names by place -/
def eT (off p : Nat) : Option (Nat × Nat) := match off with
  | 0 => cs_sc.lookup p
  | 3 => some (1, p)
  | 4 => some (2, p)
  | 5 => some (81, p)
  | 12 => some (14, p)
  | 13 => some (82, p)
  | 19 => some (30, p)
  | 20 => some (31, p)
  | 21 => some (83, p)
  | 22 => some (84, p)
  | 23 => some (85, p)
  | 25 => some (55, p)
  | 28 => some (60, p)
  | 29 => some (61, p)
  | 30 => some (62, p)
  | 31 => some (64, p)
  | 32 => some (65, p)
  | 33 => some (66, p)
  | 34 => some (67, p)
  | 6 => if p = 6 then some (87, 0) else if p = 7 then some (87, 1) else none
  | 8 => if p < 6 then some (86, p) else none
  | 15 => enm cs_custom 0 p
  | 17 => enm cs_custom 1 p
  | 16 => if p < 4 then some (17, p) else none
  | 18 => if p < 4 then some (17, 4 + p) else none
  | _ => none
def sc0 (k : Nat) : Nat := ((cs_sc.filter fun e => e.2.1 == 0 && e.2.2 == k).map (·.1)).headD 0
/-- places by name -/
def iT (x : Nat × Nat) : Nat × Nat := match x.1 with
  | 0 => (0, sc0 x.2)
  | 80 => (0, x.2)
  | 1 => (3, x.2)
  | 2 => (4, x.2)
  | 14 => (12, x.2)
  | 30 => (19, x.2)
  | 31 => (20, x.2)
  | 55 => (25, x.2)
  | 60 => (28, x.2)
  | 61 => (29, x.2)
  | 62 => (30, x.2)
  | 64 => (31, x.2)
  | 65 => (32, x.2)
  | 66 => (33, x.2)
  | 67 => (34, x.2)
  | 81 => (5, x.2)
  | 82 => (13, x.2)
  | 83 => (21, x.2)
  | 84 => (22, x.2)
  | 85 => (23, x.2)
  | 87 => (6, 6 + x.2)
  | 86 => (8, x.2)
  | 15 => (15 + 2 * x.2, 1)
  | 16 => (15 + 2 * x.2, 2)
  | 101 => (15 + 2 * x.2, 3)
  | 102 => (15 + 2 * x.2, 4)
  | 17 => (16 + 2 * (x.2 / 4), x.2 % 4)
  | _ => (0, 0)
theorem cu_iT : ∀ y ∈ cs_custom, iT (y.2, 0) = (15, y.1) ∧ iT (y.2, 1) = (17, y.1) := by decide
theorem eT_inv : ∀ off p x, eT off p = some x → iT x = (off, p)
  | 0, p, x, h => by
    have m : ∀ e ∈ cs_sc, iT e.2 = (0, e.1) := by decide +kernel
    exact m (p, x) (lkp_mem h)
  | 1, p, x, h => nomatch h
  | 2, p, x, h => nomatch h
  | 3, p, x, h => by
    cases h
    rfl
  | 4, p, x, h => by
    cases h
    rfl
  | 5, p, x, h => by
    cases h
    rfl
  | 6, p, x, h => by
    have h : (if p = 6 then some (87, 0) else if p = 7 then some (87, 1) else none) = some x := h
    by_cases c : p = 6
    · rw [if_pos c] at h
      cases h
      rw [c]
      rfl
    rw [if_neg c] at h
    by_cases c1 : p = 7
    · rw [if_pos c1] at h
      cases h
      rw [c1]
      rfl
    rw [if_neg c1] at h
    cases h
  | 7, p, x, h => nomatch h
  | 8, p, x, h => by
    have h : (if p < 6 then some (86, p) else none) = some x := h
    by_cases c : p < 6
    · rw [if_pos c] at h
      cases h
      rfl
    rw [if_neg c] at h
    cases h
  | 9, p, x, h => nomatch h
  | 10, p, x, h => nomatch h
  | 11, p, x, h => nomatch h
  | 12, p, x, h => by
    cases h
    rfl
  | 13, p, x, h => by
    cases h
    rfl
  | 14, p, x, h => nomatch h
  | 15, p, x, h => by
    have m := enm_mem (show enm cs_custom 0 p = some x from h)
    have t := (cu_iT _ m.2).1
    rw [show x = (x.1, 0) from Prod.ext rfl m.1]
    exact t
  | 16, p, x, h => by
    have h : (if p < 4 then some (17, p) else none) = some x := h
    by_cases c : p < 4
    · rw [if_pos c] at h
      cases h
      show (16 + 2 * (p / 4), p % 4) = (16, p)
      exact Prod.ext (by show 16 + 2 * (p / 4) = 16; omega) (by show p % 4 = p; omega)
    rw [if_neg c] at h
    cases h
  | 17, p, x, h => by
    have m := enm_mem (show enm cs_custom 1 p = some x from h)
    have t := (cu_iT _ m.2).2
    rw [show x = (x.1, 1) from Prod.ext rfl m.1]
    exact t
  | 18, p, x, h => by
    have h : (if p < 4 then some (17, 4 + p) else none) = some x := h
    by_cases c : p < 4
    · rw [if_pos c] at h
      cases h
      show (16 + 2 * ((4 + p) / 4), (4 + p) % 4) = (18, p)
      exact Prod.ext (by show 16 + 2 * ((4 + p) / 4) = 18; omega) (by show (4 + p) % 4 = p; omega)
    rw [if_neg c] at h
    cases h
  | 19, p, x, h => by
    cases h
    rfl
  | 20, p, x, h => by
    cases h
    rfl
  | 21, p, x, h => by
    cases h
    rfl
  | 22, p, x, h => by
    cases h
    rfl
  | 23, p, x, h => by
    cases h
    rfl
  | 24, p, x, h => nomatch h
  | 25, p, x, h => by
    cases h
    rfl
  | 26, p, x, h => nomatch h
  | 27, p, x, h => nomatch h
  | 28, p, x, h => by
    cases h
    rfl
  | 29, p, x, h => by
    cases h
    rfl
  | 30, p, x, h => by
    cases h
    rfl
  | 31, p, x, h => by
    cases h
    rfl
  | 32, p, x, h => by
    cases h
    rfl
  | 33, p, x, h => by
    cases h
    rfl
  | 34, p, x, h => by
    cases h
    rfl
  | n + 35, p, x, h => nomatch h
theorem cu_nok : ∀ y ∈ cs_custom, ∀ r, nok 0 0 0 0 y.2 r := fun y hy r => by
  rcases cu_mem y hy with e | e | e | e
  · rw [e]
    exact ⟨by unfold mnm; omega, by omega, by omega, by omega, by omega, by omega⟩
  · rw [e]
    exact ⟨by unfold mnm; omega, by omega, by omega, by omega, by omega, by omega⟩
  · rw [e]
    exact ⟨by unfold mnm; omega, by omega, by omega, by omega, by omega, by omega⟩
  · rw [e]
    exact ⟨by unfold mnm; omega, by omega, by omega, by omega, by omega, by omega⟩
theorem eT_nok : ∀ off p x, eT off p = some x → nok 0 0 0 0 x.1 x.2
  | 0, p, x, h => by
    have m : ∀ e ∈ cs_sc, nok 0 0 0 0 e.2.1 e.2.2 := by decide +kernel
    exact m (p, x) (lkp_mem h)
  | 1, p, x, h => nomatch h
  | 2, p, x, h => nomatch h
  | 3, p, x, h => by
    cases h
    show nok 0 0 0 0 1 p
    exact ⟨by unfold mnm; omega, by omega, by omega, by omega, by omega, by omega⟩
  | 4, p, x, h => by
    cases h
    show nok 0 0 0 0 2 p
    exact ⟨by unfold mnm; omega, by omega, by omega, by omega, by omega, by omega⟩
  | 5, p, x, h => by
    cases h
    show nok 0 0 0 0 81 p
    exact ⟨by unfold mnm; omega, by omega, by omega, by omega, by omega, by omega⟩
  | 6, p, x, h => by
    have h : (if p = 6 then some (87, 0) else if p = 7 then some (87, 1) else none) = some x := h
    by_cases c : p = 6
    · rw [if_pos c] at h
      cases h
      exact ⟨by show ¬ mnm 87 0; unfold mnm; omega, fun z => by have z : (3 ≤ 87 ∧ 87 ≤ 13) ∨ (90 ≤ 87 ∧ 87 ≤ 100) := z; omega, fun z => by have z : 39 ≤ 87 ∧ 87 ≤ 43 := z; omega, fun z => by have z : (44 ≤ 87 ∧ 87 ≤ 49) ∨ 87 = 54 := z; omega, fun z => by have z : 87 = 52 := z; omega, fun z => by have z : 56 ≤ 87 ∧ 87 ≤ 59 := z; omega⟩
    rw [if_neg c] at h
    by_cases c1 : p = 7
    · rw [if_pos c1] at h
      cases h
      exact ⟨by show ¬ mnm 87 1; unfold mnm; omega, fun z => by have z : (3 ≤ 87 ∧ 87 ≤ 13) ∨ (90 ≤ 87 ∧ 87 ≤ 100) := z; omega, fun z => by have z : 39 ≤ 87 ∧ 87 ≤ 43 := z; omega, fun z => by have z : (44 ≤ 87 ∧ 87 ≤ 49) ∨ 87 = 54 := z; omega, fun z => by have z : 87 = 52 := z; omega, fun z => by have z : 56 ≤ 87 ∧ 87 ≤ 59 := z; omega⟩
    rw [if_neg c1] at h
    cases h
  | 7, p, x, h => nomatch h
  | 8, p, x, h => by
    have h : (if p < 6 then some (86, p) else none) = some x := h
    by_cases c : p < 6
    · rw [if_pos c] at h
      cases h
      show nok 0 0 0 0 86 p
      exact ⟨by unfold mnm; omega, by omega, by omega, by omega, by omega, by omega⟩
    rw [if_neg c] at h
    cases h
  | 9, p, x, h => nomatch h
  | 10, p, x, h => nomatch h
  | 11, p, x, h => nomatch h
  | 12, p, x, h => by
    cases h
    show nok 0 0 0 0 14 p
    exact ⟨by unfold mnm; omega, by omega, by omega, by omega, by omega, by omega⟩
  | 13, p, x, h => by
    cases h
    show nok 0 0 0 0 82 p
    exact ⟨by unfold mnm; omega, by omega, by omega, by omega, by omega, by omega⟩
  | 14, p, x, h => nomatch h
  | 15, p, x, h => by
    have m := enm_mem (show enm cs_custom 0 p = some x from h)
    rw [show x = (x.1, 0) from Prod.ext rfl m.1]
    exact cu_nok _ m.2 _
  | 16, p, x, h => by
    have h : (if p < 4 then some (17, p) else none) = some x := h
    by_cases c : p < 4
    · rw [if_pos c] at h
      cases h
      show nok 0 0 0 0 17 _
      exact ⟨by unfold mnm; omega, by omega, by omega, by omega, by omega, by omega⟩
    rw [if_neg c] at h
    cases h
  | 17, p, x, h => by
    have m := enm_mem (show enm cs_custom 1 p = some x from h)
    rw [show x = (x.1, 1) from Prod.ext rfl m.1]
    exact cu_nok _ m.2 _
  | 18, p, x, h => by
    have h : (if p < 4 then some (17, 4 + p) else none) = some x := h
    by_cases c : p < 4
    · rw [if_pos c] at h
      cases h
      show nok 0 0 0 0 17 _
      exact ⟨by unfold mnm; omega, by omega, by omega, by omega, by omega, by omega⟩
    rw [if_neg c] at h
    cases h
  | 19, p, x, h => by
    cases h
    show nok 0 0 0 0 30 p
    exact ⟨by unfold mnm; omega, by omega, by omega, by omega, by omega, by omega⟩
  | 20, p, x, h => by
    cases h
    show nok 0 0 0 0 31 p
    exact ⟨by unfold mnm; omega, by omega, by omega, by omega, by omega, by omega⟩
  | 21, p, x, h => by
    cases h
    show nok 0 0 0 0 83 p
    exact ⟨by unfold mnm; omega, by omega, by omega, by omega, by omega, by omega⟩
  | 22, p, x, h => by
    cases h
    show nok 0 0 0 0 84 p
    exact ⟨by unfold mnm; omega, by omega, by omega, by omega, by omega, by omega⟩
  | 23, p, x, h => by
    cases h
    show nok 0 0 0 0 85 p
    exact ⟨by unfold mnm; omega, by omega, by omega, by omega, by omega, by omega⟩
  | 24, p, x, h => nomatch h
  | 25, p, x, h => by
    cases h
    show nok 0 0 0 0 55 p
    exact ⟨by unfold mnm; omega, by omega, by omega, by omega, by omega, by omega⟩
  | 26, p, x, h => nomatch h
  | 27, p, x, h => nomatch h
  | 28, p, x, h => by
    cases h
    show nok 0 0 0 0 60 p
    exact ⟨by unfold mnm; omega, by omega, by omega, by omega, by omega, by omega⟩
  | 29, p, x, h => by
    cases h
    show nok 0 0 0 0 61 p
    exact ⟨by unfold mnm; omega, by omega, by omega, by omega, by omega, by omega⟩
  | 30, p, x, h => by
    cases h
    show nok 0 0 0 0 62 p
    exact ⟨by unfold mnm; omega, by omega, by omega, by omega, by omega, by omega⟩
  | 31, p, x, h => by
    cases h
    show nok 0 0 0 0 64 p
    exact ⟨by unfold mnm; omega, by omega, by omega, by omega, by omega, by omega⟩
  | 32, p, x, h => by
    cases h
    show nok 0 0 0 0 65 p
    exact ⟨by unfold mnm; omega, by omega, by omega, by omega, by omega, by omega⟩
  | 33, p, x, h => by
    cases h
    show nok 0 0 0 0 66 p
    exact ⟨by unfold mnm; omega, by omega, by omega, by omega, by omega, by omega⟩
  | 34, p, x, h => by
    cases h
    show nok 0 0 0 0 67 p
    exact ⟨by unfold mnm; omega, by omega, by omega, by omega, by omega, by omega⟩
  | n + 35, p, x, h => nomatch h
theorem F0m_z {o k : Nat} (h0 : ¬ o = 0) (h1 : ¬ o = 1) (h16 : ¬ o = 16) : F0m o k = 0 := by
  show xm_u2 (xm_u2 (xm_u2 (xm_u2 (xm_u2 (xm_u2 (xm_u2 (xm_u2 F0a 1 0 5) 1 1 5) 1 2 5) 1 3 5) 1 4 5) 1 5 5) 16 0 20) 16 1 20 o k = 0
  rw [u2_ap, if_neg (by omega), u2_ap, if_neg (by omega), u2_ap, if_neg (by omega), u2_ap, if_neg (by omega), u2_ap, if_neg (by omega), u2_ap, if_neg (by omega), u2_ap, if_neg (by omega), u2_ap, if_neg (by omega)]
  exact if_neg h0
theorem F0m_1 {k : Nat} : F0m 1 k = if k < 6 then 5 else 0 := by
  show xm_u2 (xm_u2 (xm_u2 (xm_u2 (xm_u2 (xm_u2 (xm_u2 (xm_u2 F0a 1 0 5) 1 1 5) 1 2 5) 1 3 5) 1 4 5) 1 5 5) 16 0 20) 16 1 20 1 k = _
  rw [u2_ap, if_neg (by omega), u2_ap, if_neg (by omega)]
  by_cases c : k < 6
  · rw [if_pos c]
    have : k = 0 ∨ k = 1 ∨ k = 2 ∨ k = 3 ∨ k = 4 ∨ k = 5 := by omega
    rcases this with rfl | rfl | rfl | rfl | rfl | rfl <;> decide +kernel
  · rw [if_neg c, u2_ap, if_neg (by omega), u2_ap, if_neg (by omega), u2_ap, if_neg (by omega), u2_ap, if_neg (by omega), u2_ap, if_neg (by omega), u2_ap, if_neg (by omega)]
    exact if_neg (by decide)
theorem cu_F0 : ∀ y ∈ cs_custom, (F0m y.2 0 = if y.1 = 2 then 20 else 0) ∧ F0m y.2 1 = if y.1 = 2 then 20 else 0 := by decide +kernel
def fol : List (Nat × Nat) := [(0, 1), (1, 2), (2, 3), (3, 4), (9, 5), (13, 6), (14, 7), (15, 8), (16, 9), (17, 12), (18, 13), (19, 14), (20, 19), (21, 20), (23, 21), (24, 22), (25, 23), (30, 24), (33, 25), (36, 26), (38, 27), (39, 28), (40, 29), (41, 30), (46, 31), (47, 32), (48, 33), (49, 34)]
def fo (k : Nat) : Nat := (fol.lookup k).getD 0
/-- the component's first names and addresses -/
def D0 (a : Nat) : xp_D := (a, (fun x p => if x < a then none else eT (x - a) p), (fun _ _ => none), (fun k i => if k = 0 then a + fo i else if k = 7 then a + (15 + 2 * i) else if k = 8 then a + (16 + 2 * i) else if k = 9 then a + (10 + i) else 0), (fun _ => 0), (fun _ => none))
section M0E
variable {a : Nat} {h hE : xm_H} {q : Nat → Nat}
theorem D0_E {off p : Nat} : xd_E (D0 a) (a + off) p = eT off p := by
  show (if a + off < a then none else eT (a + off - a) p) = _
  rw [if_neg (by omega), show a + off - a = off by omega]
theorem D0_Es {x p : Nat} {y : Nat × Nat} (e : xd_E (D0 a) x p = some y) : a ≤ x ∧ eT (x - a) p = some y := by
  have e : (if x < a then none else eT (x - a) p) = some y := e
  by_cases c : x < a
  · rw [if_pos c] at e
    cases e
  · rw [if_neg c] at e
    exact ⟨by omega, e⟩
theorem D0_A {k : Nat} : xd_A (D0 a) 0 k = a + fo k := rfl
theorem CS0 (f : FE h a q hE) : CS hE (D0 a) := by
  obtain ⟨o, f1, f2, f3, f4, f5, pl, g2, g13, g14, g15, g16, g19, sc⟩ := f
  have B := o.2.1
  have B2 : ∀ n, xm_B hE ≤ a + n := fun n => by omega
  have inj : xd_inj (D0 a) := by
    have nL : ∀ x p z, ¬ xd_L (D0 a) x p = some z := fun x p z e => by
      have e : (none : Option (Nat × Nat)) = some z := e
      cases e
    unfold xd_inj
    refine ⟨?_, fun x p y r z h1 _ => absurd h1 (nL _ _ _), fun x p y r z _ h2 => absurd h2 (nL _ _ _)⟩
    intro x p y r z h1 h2
    obtain ⟨l1, e1⟩ := D0_Es h1
    obtain ⟨l2, e2⟩ := D0_Es h2
    have i1 := eT_inv _ _ _ e1
    have i2 := eT_inv _ _ _ e2
    have i3 := i1.symm.trans i2
    have j1 : x - a = y - a := congrArg Prod.fst i3
    have j2 : p = r := congrArg Prod.snd i3
    exact ⟨by omega, j2⟩
  have E0 : ∀ p, xd_E (D0 a) a p = cs_sc.lookup p := fun p => (D0_E (a := a) (off := 0) (p := p))
  refine ⟨inj, o.1, B, fun e he => ?_, fun e he => ?_, fun e he => ?_, fun e he => ?_, fun l hl => absurd hl (Nat.not_lt_zero _), fun l hl => absurd hl (Nat.not_lt_zero _), fun l hl => absurd hl (Nat.not_lt_zero _), fun l hl => absurd hl (Nat.not_lt_zero _), fun l hl => absurd hl (Nat.not_lt_zero _), fun r hr => ?_, fun r hr => ?_, fun k hk => ?_, ?_, fun k hk => ?_, Nat.zero_le _, Nat.zero_le _, Nat.zero_le _, Nat.zero_le _⟩
  · show xd_E (D0 a) a e.1 = some (e.2.1, e.2.2)
    rw [E0]
    have m : ∀ e ∈ cs_sc, cs_sc.lookup e.1 = some (e.2.1, e.2.2) := by decide +kernel
    exact m e he
  · have m : ∀ e ∈ cs_ar, e.1 = 2 ∧ e.2.1 = 100 ∧ e.2.2.1 = 6 ∨ (e.1, fo e.1, e.2.1, e.2.2.1) ∈ plr := by decide +kernel
    have ee : ∀ e ∈ cs_ar, fo e.1 = 3 ∧ e.2.2.2 = 1
      ∨ fo e.1 = 4 ∧ e.2.2.2 = 2
      ∨ fo e.1 = 5 ∧ e.2.2.2 = 81
      ∨ fo e.1 = 12 ∧ e.2.2.2 = 14
      ∨ fo e.1 = 13 ∧ e.2.2.2 = 82
      ∨ fo e.1 = 19 ∧ e.2.2.2 = 30
      ∨ fo e.1 = 20 ∧ e.2.2.2 = 31
      ∨ fo e.1 = 21 ∧ e.2.2.2 = 83
      ∨ fo e.1 = 22 ∧ e.2.2.2 = 84
      ∨ fo e.1 = 23 ∧ e.2.2.2 = 85
      ∨ fo e.1 = 25 ∧ e.2.2.2 = 55
      ∨ fo e.1 = 28 ∧ e.2.2.2 = 60
      ∨ fo e.1 = 29 ∧ e.2.2.2 = 61
      ∨ fo e.1 = 30 ∧ e.2.2.2 = 62
      ∨ fo e.1 = 31 ∧ e.2.2.2 = 64
      ∨ fo e.1 = 32 ∧ e.2.2.2 = 65
      ∨ fo e.1 = 33 ∧ e.2.2.2 = 66
      ∨ fo e.1 = 34 ∧ e.2.2.2 = 67 := by decide +kernel
    have nm : ∀ k, xd_E (D0 a) (a + fo e.1) k = some (e.2.2.2, k) := fun k => by
      rw [D0_E]
      rcases ee e he with ⟨x1, x2⟩ | ⟨x1, x2⟩ | ⟨x1, x2⟩ | ⟨x1, x2⟩ | ⟨x1, x2⟩ | ⟨x1, x2⟩ | ⟨x1, x2⟩ | ⟨x1, x2⟩ | ⟨x1, x2⟩ | ⟨x1, x2⟩ | ⟨x1, x2⟩ | ⟨x1, x2⟩ | ⟨x1, x2⟩ | ⟨x1, x2⟩ | ⟨x1, x2⟩ | ⟨x1, x2⟩ | ⟨x1, x2⟩ | ⟨x1, x2⟩ <;> (rw [x1, x2]; rfl)
    show xm_R hE a e.1 = some (a + fo e.1) ∧ xm_K hE (a + fo e.1) = e.2.1 ∧ xm_N hE (a + fo e.1) = e.2.2.1 ∧ xm_B hE ≤ a + fo e.1 ∧ ∀ k, xd_E (D0 a) (a + fo e.1) k = some (e.2.2.2, k)
    rcases m e he with ⟨y1, y2, y3⟩ | y
    · have f3 : fo e.1 = 3 := by rw [y1]; decide +kernel
      rw [f3, y1, y2, y3]
      rw [f3] at nm
      exact ⟨g2.1, g2.2.1, g2.2.2.1, B2 _, nm⟩
    · obtain ⟨j1, j2, j3, -⟩ := pl _ y
      exact ⟨j1, j2, j3, B2 _, nm⟩
  · have m : ∀ e ∈ cs_oa, e = (14, 111, 21) ∨ e = (16, 112, 2) ∨ e = (19, 114, 2) ∨ (e.1, fo e.1, e.2.1, e.2.2) ∈ plr := by decide +kernel
    show xm_R hE a e.1 = some (a + fo e.1) ∧ xm_K hE (a + fo e.1) = e.2.1 ∧ xm_N hE (a + fo e.1) = e.2.2 ∧ xm_B hE ≤ a + fo e.1
    rcases m e he with y | y | y | y
    · rw [y]
      exact ⟨g14.1, g14.2.1, g14.2.2.1, B2 _⟩
    · rw [y]
      exact ⟨g16.1, g16.2.1, g16.2.2.1, B2 _⟩
    · rw [y]
      exact ⟨g19.1, g19.2.1, g19.2.2.1, B2 _⟩
    · obtain ⟨j1, j2, j3, -⟩ := pl _ y
      exact ⟨j1, j2, j3, B2 _⟩
  · have m : ∀ e ∈ cs_ob, e = (13, 2) ∨ e = (15, 3) := by decide +kernel
    show xm_R hE a e.1 = some (a + fo e.1) ∧ xm_K hE (a + fo e.1) = e.2 ∧ xm_B hE ≤ a + fo e.1
    rcases m e he with y | y
    · rw [y]
      exact ⟨g13.1, g13.2.1, B2 _⟩
    · rw [y]
      exact ⟨g15.1, g15.2.1, B2 _⟩
  · obtain ⟨k1, k2, k3, ⟨a1, a2, a3, a4, a5, a6, a7⟩, b1, b2, b3, b4, b5, b6, b7⟩ := g19
    have r01 : r = 0 ∨ r = 1 := by omega
    rcases r01 with r01 | r01
    · subst r01
      refine ⟨a1, ⟨a2, B2 _, fun y hy => ?_⟩, a3, a4, a5, B2 _, fun k hk => ?_⟩
      · show xd_E (D0 a) (a + 15) y.1 = some (y.2, 0)
        rw [D0_E]
        exact enm_get (by decide) y hy
      · show xd_E (D0 a) (a + 16) k = some (17, 4 * 0 + k)
        rw [D0_E]
        show (if k < 4 then some (17, k) else none) = _
        rw [if_pos hk, show 4 * 0 + k = k by omega]
    · subst r01
      refine ⟨b1, ⟨b2, B2 _, fun y hy => ?_⟩, b3, b4, b5, B2 _, fun k hk => ?_⟩
      · show xd_E (D0 a) (a + 17) y.1 = some (y.2, 1)
        rw [D0_E]
        exact enm_get (by decide) y hy
      · show xd_E (D0 a) (a + 18) k = some (17, 4 * 1 + k)
        rw [D0_E]
        show (if k < 4 then some (17, 4 + k) else none) = _
        rw [if_pos hk]
  · obtain ⟨k1, k2, k3, c1, c2', c3, c4, c5, c6⟩ := g16
    have r01 : r = 0 ∨ r = 1 := by omega
    rcases r01 with r01 | r01
    · subst r01
      exact ⟨c1, c3, c4, B2 _⟩
    · subst r01
      exact ⟨c2', c5, c6, B2 _⟩
  · show xd_E (D0 a) (a + 8) k = some (86, k)
    rw [D0_E]
    exact if_pos hk
  · exact g15.2.2.1
  · show xd_E (D0 a) (a + 6) (6 + k) = some (87, k)
    rw [D0_E]
    have : k = 0 ∨ k = 1 := by omega
    rcases this with rfl | rfl <;> rfl
theorem HW0 (f : FE h a q hE) : HW hE (D0 a) := by
  obtain ⟨o, f1, f2, f3, f4, f5, -⟩ := f
  refine ⟨by have := o.2.1; have := o.2.2.1; omega, fun x p hx => ⟨?_, rfl⟩, o.2.2.2⟩
  show (if x < a then none else eT (x - a) p) = none
  rw [if_neg (by omega)]
  obtain ⟨n, hn⟩ : ∃ n, x - a = n + 35 := ⟨x - a - 35, by omega⟩
  rw [hn]
  rfl
theorem VN0 : VN (D0 a) := by
  intro x p y hy
  rcases hy with hy | hy
  · exact eT_nok _ _ _ (D0_Es hy).2
  · exact nomatch hy
theorem n01_0 : ¬ xd_A (D0 a) 0 0 = xd_A (D0 a) 0 1 := by
  show ¬ a + fo 0 = a + fo 1
  have e0 : fo 0 = 1 := by decide +kernel
  have e1 : fo 1 = 2 := by decide +kernel
  omega
theorem put0 (f : FE h a q hE) : hE = xp_c hE (D0 a) F0m := by
  obtain ⟨o, f1, f2, f3, f4, f5, pl, g2, g13, g14, g15, g16, g19, sc⟩ := f
  refine same_put (fun x p y hy => ?_) (fun x p y hy => nomatch hy)
  obtain ⟨l1, e1⟩ := D0_Es hy
  obtain ⟨off, ho⟩ : ∃ off, x = a + off := ⟨x - a, by omega⟩
  subst ho
  rw [show a + off - a = off by omega] at e1
  have zer : ∀ o2 n, (o2, n) ∈ plr.map (fun y => (y.2.1, y.1)) → ∀ p, xm_I hE (a + o2) p = 0 := by
    intro o2 n hm p
    obtain ⟨y, hy, ey⟩ := List.mem_map.mp hm
    have := (pl y hy).2.2.2 p
    rw [show y.2.1 = o2 from congrArg Prod.fst ey] at this
    exact this
  match off, e1 with
  | 0, e1 =>
    have m := lkp_mem e1
    exact (sc _ m).symm
  | 1, e1 => exact nomatch e1
  | 2, e1 => exact nomatch e1
  | 3, e1 =>
    have e2 : some (1, p) = some y := e1
    rw [← Option.some.inj e2]
    exact F0m_1.trans (g2.2.2.2 p).symm
  | 4, e1 =>
    have e2 : some (2, p) = some y := e1
    rw [← Option.some.inj e2]
    exact (F0m_z (show ¬ 2 = 0 by decide) (show ¬ 2 = 1 by decide) (show ¬ 2 = 16 by decide)).trans (zer 4 3 (by decide +kernel) p).symm
  | 5, e1 =>
    have e2 : some (81, p) = some y := e1
    rw [← Option.some.inj e2]
    exact (F0m_z (show ¬ 81 = 0 by decide) (show ¬ 81 = 1 by decide) (show ¬ 81 = 16 by decide)).trans (zer 5 9 (by decide +kernel) p).symm
  | 6, e1 =>
    have e2 : (if p = 6 then some (87, 0) else if p = 7 then some (87, 1) else none) = some y := e1
    rw [g13.2.2]
    by_cases c : p = 6
    · rw [if_pos c] at e2
      rw [← Option.some.inj e2]
      exact F0m_z (by decide) (by decide) (by decide)
    rw [if_neg c] at e2
    by_cases c1 : p = 7
    · rw [if_pos c1] at e2
      rw [← Option.some.inj e2]
      exact F0m_z (by decide) (by decide) (by decide)
    rw [if_neg c1] at e2
    cases e2
  | 7, e1 => exact nomatch e1
  | 8, e1 =>
    have e2 : (if p < 6 then some (86, p) else none) = some y := e1
    rw [g15.2.2.2]
    by_cases c : p < 6
    · rw [if_pos c] at e2
      rw [← Option.some.inj e2]
      exact F0m_z (show ¬ 86 = 0 by decide) (show ¬ 86 = 1 by decide) (show ¬ 86 = 16 by decide)
    rw [if_neg c] at e2
    cases e2
  | 9, e1 => exact nomatch e1
  | 10, e1 => exact nomatch e1
  | 11, e1 => exact nomatch e1
  | 12, e1 =>
    have e2 : some (14, p) = some y := e1
    rw [← Option.some.inj e2]
    exact (F0m_z (show ¬ 14 = 0 by decide) (show ¬ 14 = 1 by decide) (show ¬ 14 = 16 by decide)).trans (zer 12 17 (by decide +kernel) p).symm
  | 13, e1 =>
    have e2 : some (82, p) = some y := e1
    rw [← Option.some.inj e2]
    exact (F0m_z (show ¬ 82 = 0 by decide) (show ¬ 82 = 1 by decide) (show ¬ 82 = 16 by decide)).trans (zer 13 18 (by decide +kernel) p).symm
  | 14, e1 => exact nomatch e1
  | 15, e1 =>
    have m := enm_mem (show enm cs_custom 0 p = some y from e1)
    obtain ⟨k1, k2, k3, ⟨a1, a2, a3, a4, a5, a6, a7⟩, b1, b2, b3, b4, b5, b6, b7⟩ := g19
    rw [show y = (y.1, 0) from Prod.ext rfl m.1]
    exact (cu_F0 _ m.2).1.trans (a6 p).symm
  | 16, e1 =>
    obtain ⟨k1, k2, k3, ⟨a1, a2, a3, a4, a5, a6, a7⟩, b1, b2, b3, b4, b5, b6, b7⟩ := g19
    have e2 : (if p < 4 then some (17, p) else none) = some y := e1
    rw [a7]
    by_cases c : p < 4
    · rw [if_pos c] at e2
      rw [← Option.some.inj e2]
      exact F0m_z (show ¬ 17 = 0 by decide) (show ¬ 17 = 1 by decide) (show ¬ 17 = 16 by decide)
    rw [if_neg c] at e2
    cases e2
  | 17, e1 =>
    have m := enm_mem (show enm cs_custom 1 p = some y from e1)
    obtain ⟨k1, k2, k3, ⟨a1, a2, a3, a4, a5, a6, a7⟩, b1, b2, b3, b4, b5, b6, b7⟩ := g19
    rw [show y = (y.1, 1) from Prod.ext rfl m.1]
    exact (cu_F0 _ m.2).2.trans (b6 p).symm
  | 18, e1 =>
    obtain ⟨k1, k2, k3, ⟨a1, a2, a3, a4, a5, a6, a7⟩, b1, b2, b3, b4, b5, b6, b7⟩ := g19
    have e2 : (if p < 4 then some (17, 4 + p) else none) = some y := e1
    rw [b7]
    by_cases c : p < 4
    · rw [if_pos c] at e2
      rw [← Option.some.inj e2]
      exact F0m_z (show ¬ 17 = 0 by decide) (show ¬ 17 = 1 by decide) (show ¬ 17 = 16 by decide)
    rw [if_neg c] at e2
    cases e2
  | 19, e1 =>
    have e2 : some (30, p) = some y := e1
    rw [← Option.some.inj e2]
    exact (F0m_z (show ¬ 30 = 0 by decide) (show ¬ 30 = 1 by decide) (show ¬ 30 = 16 by decide)).trans (zer 19 20 (by decide +kernel) p).symm
  | 20, e1 =>
    have e2 : some (31, p) = some y := e1
    rw [← Option.some.inj e2]
    exact (F0m_z (show ¬ 31 = 0 by decide) (show ¬ 31 = 1 by decide) (show ¬ 31 = 16 by decide)).trans (zer 20 21 (by decide +kernel) p).symm
  | 21, e1 =>
    have e2 : some (83, p) = some y := e1
    rw [← Option.some.inj e2]
    exact (F0m_z (show ¬ 83 = 0 by decide) (show ¬ 83 = 1 by decide) (show ¬ 83 = 16 by decide)).trans (zer 21 23 (by decide +kernel) p).symm
  | 22, e1 =>
    have e2 : some (84, p) = some y := e1
    rw [← Option.some.inj e2]
    exact (F0m_z (show ¬ 84 = 0 by decide) (show ¬ 84 = 1 by decide) (show ¬ 84 = 16 by decide)).trans (zer 22 24 (by decide +kernel) p).symm
  | 23, e1 =>
    have e2 : some (85, p) = some y := e1
    rw [← Option.some.inj e2]
    exact (F0m_z (show ¬ 85 = 0 by decide) (show ¬ 85 = 1 by decide) (show ¬ 85 = 16 by decide)).trans (zer 23 25 (by decide +kernel) p).symm
  | 24, e1 => exact nomatch e1
  | 25, e1 =>
    have e2 : some (55, p) = some y := e1
    rw [← Option.some.inj e2]
    exact (F0m_z (show ¬ 55 = 0 by decide) (show ¬ 55 = 1 by decide) (show ¬ 55 = 16 by decide)).trans (zer 25 33 (by decide +kernel) p).symm
  | 26, e1 => exact nomatch e1
  | 27, e1 => exact nomatch e1
  | 28, e1 =>
    have e2 : some (60, p) = some y := e1
    rw [← Option.some.inj e2]
    exact (F0m_z (show ¬ 60 = 0 by decide) (show ¬ 60 = 1 by decide) (show ¬ 60 = 16 by decide)).trans (zer 28 39 (by decide +kernel) p).symm
  | 29, e1 =>
    have e2 : some (61, p) = some y := e1
    rw [← Option.some.inj e2]
    exact (F0m_z (show ¬ 61 = 0 by decide) (show ¬ 61 = 1 by decide) (show ¬ 61 = 16 by decide)).trans (zer 29 40 (by decide +kernel) p).symm
  | 30, e1 =>
    have e2 : some (62, p) = some y := e1
    rw [← Option.some.inj e2]
    exact (F0m_z (show ¬ 62 = 0 by decide) (show ¬ 62 = 1 by decide) (show ¬ 62 = 16 by decide)).trans (zer 30 41 (by decide +kernel) p).symm
  | 31, e1 =>
    have e2 : some (64, p) = some y := e1
    rw [← Option.some.inj e2]
    exact (F0m_z (show ¬ 64 = 0 by decide) (show ¬ 64 = 1 by decide) (show ¬ 64 = 16 by decide)).trans (zer 31 46 (by decide +kernel) p).symm
  | 32, e1 =>
    have e2 : some (65, p) = some y := e1
    rw [← Option.some.inj e2]
    exact (F0m_z (show ¬ 65 = 0 by decide) (show ¬ 65 = 1 by decide) (show ¬ 65 = 16 by decide)).trans (zer 32 47 (by decide +kernel) p).symm
  | 33, e1 =>
    have e2 : some (66, p) = some y := e1
    rw [← Option.some.inj e2]
    exact (F0m_z (show ¬ 66 = 0 by decide) (show ¬ 66 = 1 by decide) (show ¬ 66 = 16 by decide)).trans (zer 33 48 (by decide +kernel) p).symm
  | 34, e1 =>
    have e2 : some (67, p) = some y := e1
    rw [← Option.some.inj e2]
    exact (F0m_z (show ¬ 67 = 0 by decide) (show ¬ 67 = 1 by decide) (show ¬ 67 = 16 by decide)).trans (zer 34 49 (by decide +kernel) p).symm
  | n + 35, e1 => exact nomatch e1
/-- strings that stand at the start -/
def STR (h : xm_H) (a m : Nat) (f : Nat → Int32) : Prop := ∃ b, xm_K h a = 28 ∧ xm_R h a 0 = some b ∧ xm_I h a 1 = 0 ∧ xm_K h b = 101 ∧ xm_N h b = m ∧ ∀ j, j < m → xm_I h b j = f j
theorem SX0 (f : FE h a q hE) (ha : xm_K h a = 1) (hz : ∀ x, a < x → xm_K h x = 0) {b m : Nat} {g : Nat → Int32} (s : STR h b m g) : SX hE (D0 a) b m g := by
  obtain ⟨c, s1, s2, s3, s4, s5, s6⟩ := s
  have lt : ∀ x k, xm_K h x = k → ¬ k = 0 → ¬ k = 1 → x < a := fun x k e k0 k1 => by
    false_or_by_contra
    by_cases c : x = a
    · rw [c, ha] at e
      exact k1 e.symm
    · rw [hz x (by omega)] at e
      exact k0 e.symm
  have lb := lt b 28 s1 (by decide) (by decide)
  have lc := lt c 101 s4 (by decide) (by decide)
  have f5 := f.2.2.2.2.2.1
  obtain ⟨x1, x2, x3⟩ := f5 b lb
  obtain ⟨y1, y2, y3⟩ := f5 c lc
  refine ⟨c, x1.trans s1, ((x3 0).2.2).trans s2, ((x3 1).2.1).trans s3, y1.trans s4, y2.trans s5, fun j hj => ((y3 j).2.1).trans (s6 j hj), fun p => ⟨if_pos lb, if_pos lc⟩⟩
theorem SW0 (f : FE h a q hE) (ha : xm_K h a = 1) (hz : ∀ x, a < x → xm_K h x = 0) (c100 : xm_C h 100 = .int 1) {s21 : Nat} (c21 : xm_C h 21 = .ref s21) (t21 : STR h s21 10 sgf) (tq : ∀ k, k < 21 → STR h (q k) (wln k) (wdf k)) : SW hE (D0 a) := by
  have f2 := f.2.2.1
  have g14 := f.2.2.2.2.2.2.2.2.2.1
  refine ⟨by rw [f2]; exact c100, ⟨s21, by rw [f2]; exact c21, SX0 f ha hz t21⟩, fun k hk => ⟨q k, ?_, SX0 f ha hz (tq k hk)⟩⟩
  exact g14.2.2.2 k hk
end M0E
