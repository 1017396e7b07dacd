/-! the component's contracts, 19: offers -/
set_option maxRecDepth 100000
/-- names that the component has not -/
abbrev mnm (o k : Nat) : Prop := (18 ≤ o ∧ o ≤ 29) ∨ (32 ≤ o ∧ o ≤ 38) ∨ o = 50 ∨ o = 51 ∨ o = 53 ∨ o = 63 ∨ (68 ≤ o ∧ o ≤ 70) ∨ (o = 0 ∧ (k = 34 ∨ k = 35 ∨ (37 ≤ k ∧ k ≤ 42) ∨ k = 44 ∨ (56 ≤ k ∧ k ≤ 60)))
def xd_vis (D : xp_D) : Prop := ∀ a p x, (xd_E D a p = some x ∨ xd_L D a p = some x) → ¬ mnm x.1 x.2
theorem xp_c_ag {h : xm_H} {D : xp_D} {F G : xp_F} (v : xd_vis D) (a : ∀ o k, ¬ mnm o k → G o k = F o k) : xp_c h D G = xp_c h D F := by
  have e1 : (fun a k => va_I (xd_E D a k) G (h.2.2.2.1 a k)) = fun a k => va_I (xd_E D a k) F (h.2.2.2.1 a k) := by
    funext b j
    cases e : xd_E D b j with
    | none => rfl
    | some x => exact a x.1 x.2 (v b j x (Or.inl e))
  have e2 : (fun a k => va_L (xd_L D a k) G (h.2.2.2.2.1 a k)) = fun a k => va_L (xd_L D a k) F (h.2.2.2.2.1 a k) := by
    funext b j
    cases e : xd_L D b j with
    | none => rfl
    | some x => exact congrArg Int32.toInt64 (a x.1 x.2 (v b j x (Or.inr e)))
  have t := congr (congrArg (fun x y => ((h.1, h.2.1, h.2.2.1, x, y, h.2.2.2.2.2) : xm_H)) e1) e2
  exact t
section C19
variable {d : Nat} {h : xm_H} {D : xp_D} {F : xp_F}
/-- what buyers still take, as the component has it -/
def adj (G : xp_F) : xp_F := fun o k => if o = 59 ∧ k < 4 then G 59 k - G 63 k else if o = 63 then 0 else G o k
theorem adj_o {G : xp_F} {o k : Nat} (h1 : ¬ o = 59) (h2 : ¬ o = 63) : adj G o k = G o k := by
  unfold adj
  rw [if_neg (fun z => h1 z.1), if_neg h2]
theorem adj_t {G : xp_F} {k : Nat} (hk : k < 4) : adj G 59 k = G 59 k - G 63 k := if_pos ⟨rfl, hk⟩
theorem adj_u {G : xp_F} {o k : Nat} {v : Int32} (h1 : ¬ o = 59) (h2 : ¬ o = 63) : xm_u2 (adj G) o k v = adj (xm_u2 G o k v) := by
  funext a j
  rw [u2_ap]
  unfold adj
  rw [u2_ap, u2_ap, u2_ap]
  by_cases e : a = o ∧ j = k
  · rw [if_pos e, if_neg (by omega), if_neg (by omega), if_pos e]
  · have n1 : ¬ (59 = o ∧ j = k) := fun z => h1 z.1.symm
    have n2 : ¬ (63 = o ∧ j = k) := fun z => h2 z.1.symm
    simp only [n1, n2, e, ↓reduceIte]
theorem adj_p {G : xp_F} {b : Nat} {v : Int32} (hb : b < 4) : xm_u2 (adj G) 59 b (G 59 b - G 63 b - v) = adj (xm_u2 G 63 b (G 63 b + v)) := by
  have e0 : G 59 b - (G 63 b + v) = G 59 b - G 63 b - v := (Int32.sub_sub _ _ _).symm
  funext a j
  rw [u2_ap]
  unfold adj
  rw [u2_ap, u2_ap, u2_ap]
  by_cases e : a = 59 ∧ j = b
  · rw [if_pos e, if_pos ⟨e.1, by omega⟩, if_neg (fun z => absurd z.1 (by decide)), if_pos ⟨rfl, e.2⟩, e.2, e0]
  · rw [if_neg e]
    by_cases e2 : a = 59 ∧ j < 4
    · rw [if_pos e2, if_pos e2, if_neg (fun z => absurd z.1 (by decide)), if_neg (fun z => e ⟨e2.1, z.2⟩)]
    · rw [if_neg e2, if_neg e2]
      by_cases e3 : a = 63
      · rw [if_pos e3, if_pos e3]
      · rw [if_neg e3, if_neg e3, if_neg (fun z => e3 z.1)]
end C19
