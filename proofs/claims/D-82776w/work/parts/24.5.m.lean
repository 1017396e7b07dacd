/-! the model's contracts, 31: what is foreseen -/
set_option maxRecDepth 100000
theorem it_up {α : Type} {f : Nat → α → α} {n : Nat} (I : Nat → α → Prop) (hs : ∀ k s, k < n → I k s → I (k + 1) (f k s)) : ∀ c k s, k + c = n → I k s → I n (xp_it f k c s) := by
  intro c
  induction c with
  | zero =>
    intro k s e h
    have : k = n := by omega
    subst this
    exact h
  | succ c ih =>
    intro k s e h
    exact ih (k + 1) (f k s) (by omega) (hs k s (by omega) h)
section M31
variable {d : Nat} {h : xm_H} {M : Nat} {F E : xp_F}
theorem eN.tr {G H : xp_F} (a : eN F G) (b : eN G H) : eN F H := fun o k p => (b o k p).trans (a o k p)
theorem rest_mg : sp_rest (mg F E) = mg (sp_rest F) E := by
  unfold sp_rest
  rw [mg_ap (by decide)]
  exact mg_it (fun _ _ => goes_mg) _ _ _
theorem fore1_mg {L : Nat → Ln} {n l : Nat} {s : Int32 × xp_F} : sp_fore1 L n l (s.1, mg s.2 E) = ((sp_fore1 L n l s).1, mg (sp_fore1 L n l s).2 E) := by
  unfold sp_fore1
  have e1 : sp_has (mg s.2 E) l = sp_has s.2 l := (mg_eN (F := s.2) (G := E)).has
  have e2 : sp_stays (mg s.2 E) n L l = sp_stays s.2 n L l := (mg_eN (F := s.2) (G := E)).stays
  show (if mg s.2 E 12 l = 0 ∧ sp_barred (sp_has (mg s.2 E) l) L n = 0 ∧ sp_stays (mg s.2 E) n L l < mg s.2 E 6 l then _ else _) = _
  simp only [e1, e2, mg_ap, mg_u2, Nat.reduceLeDiff, Nat.reduceEqDiff, false_and, true_and, or_false, false_or, not_true_eq_false, not_false_eq_true, and_false, and_true, and_self]
  split <;> rfl
theorem fores_mg {L : Nat → Ln} {n : Nat} : ∀ l, sp_fores L n (mg F E) l = ((sp_fores L n F l).1, mg (sp_fores L n F l).2 E)
  | 0 => by
    show (0, sp_rest (mg F E)) = (0, mg (sp_rest F) E)
    rw [rest_mg]
  | l + 1 => by
    show sp_fore1 L n l (sp_fores L n (mg F E) l) = ((sp_fore1 L n l (sp_fores L n F l)).1, mg (sp_fore1 L n l (sp_fores L n F l)).2 E)
    rw [fores_mg l]
    exact fore1_mg
theorem foresees_mg {L : Nat → Ln} {n : Nat} : sp_foresees L n (mg F E) = ((sp_foresees L n F).1, mg (sp_foresees L n F).2 E) := by
  unfold sp_foresees
  rw [mg_ap (by decide), fores_mg]
  show (_, sp_goes (mg _ E)) = (_, mg _ E)
  rw [goes_mg]
theorem eN.foresees {L : Nat → Ln} {n : Nat} {G : xp_F} (a : eN F G) : (sp_foresees L n G).1 = (sp_foresees L n F).1 ∧ eN (sp_foresees L n F).2 (sp_foresees L n G).2 := by
  rw [a.mge, foresees_mg]
  exact ⟨rfl, mg_eN⟩
theorem foresees_gP {L : Nat → Ln} {n o k : Nat} (p : gP o k) : (sp_foresees L n F).2 o k = F o k := (goes_gP p).trans (fores_gP p)
theorem foresees_6 {L : Nat → Ln} {n : Nat} : (sp_foresees L n F).2 0 6 = F 0 6 := goes_6.trans fores_6
theorem foresees_d {L : Nat → Ln} {n : Nat} (h0 : 0 ≤ (F 0 0).toInt) (h1 : (F 0 0).toInt ≤ 99000) : ((sp_foresees L n F).2 0 0).toInt = (F 0 0).toInt + 60 - (F 0 0).toInt % 60 := by
  have e := rest_d h0 h1
  show (sp_goes _ 0 0).toInt = _
  rw [goes_d, fores_d, ti_add1 (k := 100000) ⟨by omega, by omega⟩ (by decide), e]
  omega
/-- what days that go don't write -/
abbrev gW (o k : Nat) : Prop := ¬ (5 ≤ o ∧ o ≤ 8) ∧ ¬ (10 ≤ o ∧ o ≤ 13) ∧ ¬ (o = 0 ∧ k = 0)
theorem grow1_w {l o k : Nat} (p : gW o k) : sp_grow1 l F o k = F o k := by
  unfold sp_grow1
  split
  · rw [u2_ap, if_neg (by omega), u2_ap, if_neg (by omega)]
  · rfl
theorem end1_w {l o k : Nat} (p : gW o k) : sp_end1 l F o k = F o k := by
  unfold sp_end1
  rw [u2_ap, if_neg (by omega), u2_ap, if_neg (by omega), u2_ap, if_neg (by omega), u2_ap, if_neg (by omega)]
theorem sw1_w {l o k : Nat} (p : gW o k) : sp_sw1 l F o k = F o k := by
  unfold sp_sw1 sp_swarm
  split
  · split
    · rfl
    · rw [u2_ap, if_neg (by omega), u2_ap, if_neg (by omega)]
  · rfl
theorem rs1_w {l o k : Nat} (p : gW o k) : sp_rs1 l F o k = F o k := by
  unfold sp_rs1
  rw [u2_ap, if_neg (by omega), u2_ap, if_neg (by omega), u2_ap, if_neg (by omega), u2_ap, if_neg (by omega), u2_ap, if_neg (by omega)]
theorem goes_w {o k : Nat} (p : gW o k) : sp_goes F o k = F o k := by
  have g : sp_grow F o k = F o k := it_inv (fun (G : xp_F) => G o k = F o k) (fun _ _ h => (grow1_w p).trans h) _ _ _ rfl
  unfold sp_goes
  rw [u2_ap, if_neg (by omega)]
  split
  · unfold sp_ends
    refine it_inv (fun (G : xp_F) => G o k = F o k) (fun _ _ h => (rs1_w p).trans h) _ _ _ ?_
    refine it_inv (fun (G : xp_F) => G o k = F o k) (fun _ _ h => (sw1_w p).trans h) _ _ _ ?_
    exact it_inv (fun (G : xp_F) => G o k = F o k) (fun _ _ h => (end1_w p).trans h) _ _ _ g
  · exact g
theorem foresees_w {L : Nat → Ln} {n o k : Nat} (p : gW o k) : (sp_foresees L n F).2 o k = F o k := by
  refine (goes_w p).trans ((fores_o (by omega) (by omega) (by omega)).trans ?_)
  exact it_inv (fun (G : xp_F) => G o k = F o k) (fun _ _ h => (goes_w p).trans h) _ _ _ rfl
/-! keeping, putting back -/
theorem save1_o {l o k : Nat} (p : ¬ (68 ≤ o ∧ o ≤ 70)) : sp_save1 l F o k = F o k := by
  unfold sp_save1
  rw [u2_ap, if_neg (by omega), u2_ap, if_neg (by omega), u2_ap, if_neg (by omega), u2_ap, if_neg (by omega), u2_ap, if_neg (by omega), u2_ap, if_neg (by omega), u2_ap, if_neg (by omega), u2_ap, if_neg (by omega)]
theorem keep_o {o k : Nat} (p : ¬ (68 ≤ o ∧ o ≤ 70)) : sp_keep F o k = F o k := it_inv (fun (G : xp_F) => G o k = F o k) (fun _ _ h => (save1_o p).trans h) _ _ _ rfl
/-- what is kept of a ledge -/
def kp (F G : xp_F) (j : Nat) : Prop := G 68 (8 * j) = F 5 j ∧ G 68 (8 * j + 1) = F 6 j ∧ G 68 (8 * j + 2) = F 7 j ∧ G 68 (8 * j + 3) = F 8 j ∧ G 68 (8 * j + 4) = F 10 j ∧ G 68 (8 * j + 5) = F 11 j ∧ G 69 j = F 12 j ∧ G 70 j = F 13 j
theorem keep_k {j : Nat} (hj : j < 12) : kp F (sp_keep F) j := by
  have go := it_up (f := sp_save1) (n := 12) (fun k (G : xp_F) => (∀ o j, ¬ (68 ≤ o ∧ o ≤ 70) → G o j = F o j) ∧ ∀ j, j < k → kp F G j) (fun k G hk hG => by
    refine ⟨fun o j p => (save1_o p).trans (hG.1 o j p), fun j hj => ?_⟩
    have a1 := hG.1 5 k (by decide)
    have a2 := hG.1 6 k (by decide)
    have a3 := hG.1 7 k (by decide)
    have a4 := hG.1 8 k (by decide)
    have a5 := hG.1 10 k (by decide)
    have a6 := hG.1 11 k (by decide)
    have a7 := hG.1 12 k (by decide)
    have a8 := hG.1 13 k (by decide)
    by_cases e : j = k
    · subst e
      unfold kp sp_save1
      simp only [u2_ap]
      refine ⟨?_, ?_, ?_, ?_, ?_, ?_, ?_, ?_⟩
      · repeat (first | rw [if_neg (by omega)] | rw [if_pos (by omega)])
        exact a1
      · repeat (first | rw [if_neg (by omega)] | rw [if_pos (by omega)])
        exact a2
      · repeat (first | rw [if_neg (by omega)] | rw [if_pos (by omega)])
        exact a3
      · repeat (first | rw [if_neg (by omega)] | rw [if_pos (by omega)])
        exact a4
      · repeat (first | rw [if_neg (by omega)] | rw [if_pos (by omega)])
        exact a5
      · repeat (first | rw [if_neg (by omega)] | rw [if_pos (by omega)])
        exact a6
      · repeat (first | rw [if_neg (by omega)] | rw [if_pos (by omega)])
        exact a7
      · repeat (first | rw [if_neg (by omega)] | rw [if_pos (by omega)])
        exact a8
    · obtain ⟨b1, b2, b3, b4, b5, b6, b7, b8⟩ := hG.2 j (by omega)
      have ne : ¬ j = k := e
      unfold kp sp_save1
      refine ⟨?_, ?_, ?_, ?_, ?_, ?_, ?_, ?_⟩
      · rw [u2_ap, if_neg (by omega), u2_ap, if_neg (by omega), u2_ap, if_neg (by omega), u2_ap, if_neg (by omega), u2_ap, if_neg (by omega), u2_ap, if_neg (by omega), u2_ap, if_neg (by omega), u2_ap, if_neg (by omega), b1]
      · rw [u2_ap, if_neg (by omega), u2_ap, if_neg (by omega), u2_ap, if_neg (by omega), u2_ap, if_neg (by omega), u2_ap, if_neg (by omega), u2_ap, if_neg (by omega), u2_ap, if_neg (by omega), u2_ap, if_neg (by omega), b2]
      · rw [u2_ap, if_neg (by omega), u2_ap, if_neg (by omega), u2_ap, if_neg (by omega), u2_ap, if_neg (by omega), u2_ap, if_neg (by omega), u2_ap, if_neg (by omega), u2_ap, if_neg (by omega), u2_ap, if_neg (by omega), b3]
      · rw [u2_ap, if_neg (by omega), u2_ap, if_neg (by omega), u2_ap, if_neg (by omega), u2_ap, if_neg (by omega), u2_ap, if_neg (by omega), u2_ap, if_neg (by omega), u2_ap, if_neg (by omega), u2_ap, if_neg (by omega), b4]
      · rw [u2_ap, if_neg (by omega), u2_ap, if_neg (by omega), u2_ap, if_neg (by omega), u2_ap, if_neg (by omega), u2_ap, if_neg (by omega), u2_ap, if_neg (by omega), u2_ap, if_neg (by omega), u2_ap, if_neg (by omega), b5]
      · rw [u2_ap, if_neg (by omega), u2_ap, if_neg (by omega), u2_ap, if_neg (by omega), u2_ap, if_neg (by omega), u2_ap, if_neg (by omega), u2_ap, if_neg (by omega), u2_ap, if_neg (by omega), u2_ap, if_neg (by omega), b6]
      · rw [u2_ap, if_neg (by omega), u2_ap, if_neg (by omega), u2_ap, if_neg (by omega), u2_ap, if_neg (by omega), u2_ap, if_neg (by omega), u2_ap, if_neg (by omega), u2_ap, if_neg (by omega), u2_ap, if_neg (by omega), b7]
      · rw [u2_ap, if_neg (by omega), u2_ap, if_neg (by omega), u2_ap, if_neg (by omega), u2_ap, if_neg (by omega), u2_ap, if_neg (by omega), u2_ap, if_neg (by omega), u2_ap, if_neg (by omega), u2_ap, if_neg (by omega), b8]) 12 0 F (Nat.zero_add _) ⟨fun _ _ _ => rfl, fun j hj => absurd hj (Nat.not_lt_zero _)⟩
  exact go.2 j hj
theorem back1_o {l o k : Nat} (p : gW o k) : sp_back1 l F o k = F o k := by
  unfold sp_back1
  rw [u2_ap, if_neg (by omega), u2_ap, if_neg (by omega), u2_ap, if_neg (by omega), u2_ap, if_neg (by omega), u2_ap, if_neg (by omega), u2_ap, if_neg (by omega), u2_ap, if_neg (by omega), u2_ap, if_neg (by omega)]
theorem back1_0 {l k : Nat} : sp_back1 l F 0 k = F 0 k := by
  unfold sp_back1
  simp only [u2_ap, Nat.reduceEqDiff, false_and, ↓reduceIte]
/-- put back -/
def bk (F G : xp_F) (j : Nat) : Prop := F 5 j = G 68 (8 * j) ∧ F 6 j = G 68 (8 * j + 1) ∧ F 7 j = G 68 (8 * j + 2) ∧ F 8 j = G 68 (8 * j + 3) ∧ F 10 j = G 68 (8 * j + 4) ∧ F 11 j = G 68 (8 * j + 5) ∧ F 12 j = G 69 j ∧ F 13 j = G 70 j
theorem back_k {j : Nat} (hj : j < 12) : bk (sp_back F) F j := by
  have go := it_up (f := sp_back1) (n := 12) (fun k (G : xp_F) => (∀ o j, 68 ≤ o → G o j = F o j) ∧ ∀ j, j < k → bk G F j) (fun k G hk hG => by
    refine ⟨fun o j p => (back1_o ⟨by omega, by omega, by omega⟩).trans (hG.1 o j p), fun j hj => ?_⟩
    have a1 := hG.1 68 (8 * k) (by decide)
    have a2 := hG.1 68 (8 * k + 1) (by decide)
    have a3 := hG.1 68 (8 * k + 2) (by decide)
    have a4 := hG.1 68 (8 * k + 3) (by decide)
    have a5 := hG.1 68 (8 * k + 4) (by decide)
    have a6 := hG.1 68 (8 * k + 5) (by decide)
    have a7 := hG.1 69 k (by decide)
    have a8 := hG.1 70 k (by decide)
    by_cases e : j = k
    · subst e
      unfold bk sp_back1
      simp only [u2_ap, Nat.reduceEqDiff, false_and, true_and, and_true, and_self, ↓reduceIte, a1, a2, a3, a4, a5, a6, a7, a8]
    · obtain ⟨b1, b2, b3, b4, b5, b6, b7, b8⟩ := hG.2 j (by omega)
      unfold bk sp_back1
      simp only [u2_ap, Nat.reduceEqDiff, false_and, true_and, and_false, ↓reduceIte, e]
      exact ⟨b1, b2, b3, b4, b5, b6, b7, b8⟩) 12 0 F (Nat.zero_add _) ⟨fun _ _ _ => rfl, fun j hj => absurd hj (Nat.not_lt_zero _)⟩
  exact go.2 j hj
theorem back_o {o k : Nat} (p : gW o k) : sp_back F o k = F o k := it_inv (fun (G : xp_F) => G o k = F o k) (fun _ _ h => (back1_o p).trans h) _ _ _ rfl
end M31
