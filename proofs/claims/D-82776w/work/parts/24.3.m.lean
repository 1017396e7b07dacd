/-! the model's contracts, 29: what a day's going touches -/
set_option maxRecDepth 100000
section M29
variable {F E : xp_F}
/-- what days that go leave alone -/
abbrev gP (o k : Nat) : Prop := 14 ≤ o ∨ (o = 0 ∧ ¬ k = 0 ∧ ¬ k = 1 ∧ ¬ k = 6)
def mg (F E : xp_F) : xp_F := fun o k => if gP o k then E o k else F o k
theorem mg_ap {o k : Nat} (h : ¬ (14 ≤ o ∨ (o = 0 ∧ ¬ k = 0 ∧ ¬ k = 1 ∧ ¬ k = 6))) : mg F E o k = F o k := if_neg h
theorem mg_p {o k : Nat} (h : gP o k) : mg F E o k = E o k := if_pos h
theorem mg_u2 {o k : Nat} {v : Int32} (h : ¬ (14 ≤ o ∨ (o = 0 ∧ ¬ k = 0 ∧ ¬ k = 1 ∧ ¬ k = 6))) : xm_u2 (mg F E) o k v = mg (xm_u2 F o k v) E := by
  funext a b
  unfold mg
  rw [u2_ap, u2_ap]
  by_cases e : a = o ∧ b = k
  · rw [if_pos e, if_pos e, e.1, e.2, if_neg h]
  · rw [if_neg e, if_neg e]
theorem mg_self : mg F F = F := by
  funext a b
  unfold mg
  split <;> rfl
theorem mg_it {f : Nat → xp_F → xp_F} (hf : ∀ k F, f k (mg F E) = mg (f k F) E) : ∀ c k F, xp_it f k c (mg F E) = mg (xp_it f k c F) E := by
  intro c
  induction c with
  | zero => intro _ _; rfl
  | succ c ih =>
    intro k F
    show xp_it f (k + 1) c (f k (mg F E)) = mg (xp_it f (k + 1) c (f k F)) E
    rw [hf, ih]
theorem grow1_mg (l : Nat) (F : xp_F) : sp_grow1 l (mg F E) = mg (sp_grow1 l F) E := by
  have e : sp_some (mg F E) l = sp_some F l := by
    unfold sp_some
    simp only [mg_ap, mg_u2, Nat.reduceLeDiff, Nat.reduceEqDiff, false_and, true_and, or_false, false_or, not_true_eq_false, not_false_eq_true, and_false, and_true, and_self]
  unfold sp_grow1
  rw [e]
  by_cases c : 0 < sp_some F l
  · rw [if_pos c, if_pos c]
    simp only [mg_ap, mg_u2, Nat.reduceLeDiff, Nat.reduceEqDiff, false_and, true_and, or_false, false_or, not_true_eq_false, not_false_eq_true, and_false, and_true, and_self]
  · rw [if_neg c, if_neg c]
theorem grow_mg : sp_grow (mg F E) = mg (sp_grow F) E := by
  unfold sp_grow
  rw [mg_ap (by decide)]
  exact mg_it grow1_mg _ _ _
theorem end1_mg (l : Nat) (F : xp_F) : sp_end1 l (mg F E) = mg (sp_end1 l F) E := by
  unfold sp_end1 sp_less
  simp only [mg_ap, mg_u2, Nat.reduceLeDiff, Nat.reduceEqDiff, false_and, true_and, or_false, false_or, not_true_eq_false, not_false_eq_true, and_false, and_true, and_self]
theorem near_mg {l : Nat} : sp_near (mg F E) l = sp_near F l := by
  funext o b
  unfold sp_near sp_apart
  simp only [mg_ap, mg_u2, Nat.reduceLeDiff, Nat.reduceEqDiff, false_and, true_and, or_false, false_or, not_true_eq_false, not_false_eq_true, and_false, and_true, and_self]
theorem swarm_mg {l : Nat} : sp_swarm (mg F E) l = mg (sp_swarm F l) E := by
  have e : sp_nearest (mg F E) l = sp_nearest F l := by
    unfold sp_nearest
    rw [near_mg]
    simp only [mg_ap, mg_u2, Nat.reduceLeDiff, Nat.reduceEqDiff, false_and, true_and, or_false, false_or, not_true_eq_false, not_false_eq_true, and_false, and_true, and_self]
  unfold sp_swarm
  rw [e]
  by_cases c : sp_nearest F l = -1
  · rw [if_pos c, if_pos c]
  · rw [if_neg c, if_neg c]
    simp only [mg_ap, mg_u2, Nat.reduceLeDiff, Nat.reduceEqDiff, false_and, true_and, or_false, false_or, not_true_eq_false, not_false_eq_true, and_false, and_true, and_self]
theorem sw1_mg (l : Nat) (F : xp_F) : sp_sw1 l (mg F E) = mg (sp_sw1 l F) E := by
  unfold sp_sw1
  simp only [mg_ap, mg_u2, Nat.reduceLeDiff, Nat.reduceEqDiff, false_and, true_and, or_false, false_or, not_true_eq_false, not_false_eq_true, and_false, and_true, and_self]
  split
  · exact swarm_mg
  · rfl
theorem rs1_mg (l : Nat) (F : xp_F) : sp_rs1 l (mg F E) = mg (sp_rs1 l F) E := by
  unfold sp_rs1
  simp only [mg_ap, mg_u2, Nat.reduceLeDiff, Nat.reduceEqDiff, false_and, true_and, or_false, false_or, not_true_eq_false, not_false_eq_true, and_false, and_true, and_self]
theorem ends_mg : sp_ends (mg F E) = mg (sp_ends F) E := by
  unfold sp_ends
  simp only [mg_ap, mg_u2, Nat.reduceLeDiff, Nat.reduceEqDiff, false_and, true_and, or_false, false_or, not_true_eq_false, not_false_eq_true, and_false, and_true, and_self]
  rw [mg_it end1_mg, mg_it sw1_mg, mg_it rs1_mg]
theorem goes_mg : sp_goes (mg F E) = mg (sp_goes F) E := by
  unfold sp_goes
  simp only [mg_ap, mg_u2, Nat.reduceLeDiff, Nat.reduceEqDiff, false_and, true_and, or_false, false_or, not_true_eq_false, not_false_eq_true, and_false, and_true, and_self, grow_mg]
  by_cases c : sp_day (F 0 0) = 59
  · rw [if_pos c, if_pos c, ends_mg]
    simp only [mg_ap, mg_u2, Nat.reduceLeDiff, Nat.reduceEqDiff, false_and, true_and, or_false, false_or, not_true_eq_false, not_false_eq_true, and_false, and_true, and_self]
  · rw [if_neg c, if_neg c]
    simp only [mg_ap, mg_u2, Nat.reduceLeDiff, Nat.reduceEqDiff, false_and, true_and, or_false, false_or, not_true_eq_false, not_false_eq_true, and_false, and_true, and_self]
/-- the same but for what days leave alone -/
def eN (F G : xp_F) : Prop := ∀ o k, ¬ gP o k → G o k = F o k
theorem eN.mge {G : xp_F} (a : eN F G) : G = mg F G := by
  funext o k
  unfold mg
  split
  · rfl
  · rename_i h
    exact a o k h
theorem mg_eN {G : xp_F} : eN F (mg F G) := fun _ _ h => if_neg h
theorem eN.goes {G : xp_F} (a : eN F G) : eN (sp_goes F) (sp_goes G) := by
  rw [a.mge, goes_mg]
  exact mg_eN
theorem goes_gP {o k : Nat} (p : gP o k) : sp_goes F o k = F o k := by
  have e := @goes_mg F F
  rw [mg_self] at e
  rw [e]
  exact mg_p p
theorem eN.pq {n : Nat} {G : xp_F} (a : pq n F G) : eN F G := fun o k h => a.1 o k (fun e => h (by rw [e]; exact Or.inl (by decide)))
theorem pq.goes {G : xp_F} (a : pq 0 F G) : pq 0 (sp_goes F) (sp_goes G) := by
  refine ⟨fun o k ho => ?_, fun k hk => absurd hk (Nat.not_lt_zero _)⟩
  by_cases p : gP o k
  · rw [goes_gP p, goes_gP p]
    exact a.1 o k ho
  · exact (eN.pq a).goes o k p
theorem MR.gP {r n : Nat} {L : Nat → Ln} {G : xp_F} (a : MR F r n L) (p : ∀ o k, 14 ≤ o → o < 29 → G o k = F o k) : MR G r n L := by
  have e : cd2 G r = cd2 F r := by
    funext i
    unfold cd2
    rw [p 21 _ (by decide) (by decide), p 21 _ (by decide) (by decide)]
  unfold MR
  rw [e, p 14 _ (by decide) (by decide)]
  refine ⟨a.1, a.2.1, fun i hi => ?_⟩
  rw [p 18 _ (by decide) (by decide), p 19 _ (by decide) (by decide), p 20 _ (by decide) (by decide), p 19 _ (by decide) (by decide)]
  exact a.2.2 i hi
theorem eN.has {l : Nat} {G : xp_F} (a : eN F G) : sp_has G l = sp_has F l := by
  rw [a.mge]
  funext k
  unfold sp_has
  simp only [mg_ap, mg_u2, Nat.reduceLeDiff, Nat.reduceEqDiff, false_and, true_and, or_false, false_or, not_true_eq_false, not_false_eq_true, and_false, and_true, and_self]
theorem eN.stays {n l : Nat} {L : Nat → Ln} {G : xp_F} (a : eN F G) : sp_stays G n L l = sp_stays F n L l := by
  unfold sp_stays
  rw [a.has, a 6 l (by omega)]
end M29
