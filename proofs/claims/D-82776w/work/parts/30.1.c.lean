/-! objects that come, the shape -/
set_option maxRecDepth 100000
section EXT
variable {h h' : xm_H} {D D' : xp_D} {F : xp_F} {z s : Nat}
/-- what a new lot must be -/
def newLot (h : xm_H) (D : xp_D) (i : Nat) : Prop := xm_R h (xd_A D 0 36) i = some (xd_A D 4 i) ∧ xm_R h (xd_A D 4 i) 5 = some (xd_X D) ∧ match xd_m D i with
    | none => cs_o h D (xd_A D 4 i) 20 (cs_lot ++ cs_cut) i ∧ xm_R h (xd_A D 4 i) 8 = some (xd_A D 5 i) ∧ xm_R h (xd_A D 4 i) 9 = some (xd_X D) ∧ xm_K h (xd_A D 5 i) = 100 ∧ xm_N h (xd_A D 5 i) = 12 ∧ xm_B h ≤ xd_A D 5 i ∧ ∀ l, l < 12 → xd_E D (xd_A D 5 i) l = some (52, 12 * i + l)
    | some (a, b) => cs_o h D (xd_A D 4 i) 21 cs_lot i ∧ a < i ∧ b < i ∧ xm_R h (xd_A D 4 i) 6 = some (xd_A D 4 a) ∧ xm_R h (xd_A D 4 i) 7 = some (xd_A D 4 b) ∧ xm_R h (xd_A D 4 i) 8 = some (xd_X D)
theorem CS.ext (q : CS h D) (w : HW h D) (x : gx z s h h') (e : sE h D D') (eL : ∀ a p, a < xm_Z h → xd_L D' a p = xd_L D a p) (inj : xd_inj D') (eX : xd_X D' = xd_X D) (e0 : ∀ k, xd_A D' 0 k = xd_A D 0 k) (e7 : ∀ k r, 7 ≤ k → xd_A D' k r = xd_A D k r)
    (e1 : ∀ l, l < xd_n D 0 → xd_A D' 1 l = xd_A D 1 l ∧ xd_A D' 2 l = xd_A D 2 l ∧ xm_R h' (xd_A D 0 0) l = xm_R h (xd_A D 0 0) l ∧ xm_R h' (xd_A D 0 1) l = xm_R h (xd_A D 0 1) l)
    (e3 : ∀ p, p < xd_n D 1 → xd_A D' 3 p = xd_A D 3 p ∧ xm_R h' (xd_A D 0 30) p = xm_R h (xd_A D 0 30) p)
    (e4 : ∀ i, i < xd_n D 2 → xd_A D' 4 i = xd_A D 4 i ∧ xd_A D' 5 i = xd_A D 5 i ∧ xm_R h' (xd_A D 0 36) i = xm_R h (xd_A D 0 36) i ∧ xd_m D' i = xd_m D i)
    (e6 : ∀ b, b < xd_n D 3 → xd_A D' 6 b = xd_A D 6 b ∧ xm_R h' (xd_A D 0 38) b = xm_R h (xd_A D 0 38) b)
    (r16 : ∀ p, xm_R h' (xd_A D 0 16) p = xm_R h (xd_A D 0 16) p) (r19 : ∀ p, xm_R h' (xd_A D 0 19) p = xm_R h (xd_A D 0 19) p)
    (nL : ∀ l, l < xd_n D' 0 → ¬ l < xd_n D 0 → (xm_R h' (xd_A D' 0 0) l = some (xd_A D' 1 l) ∧ cs_o h' D' (xd_A D' 1 l) 6 cs_ledge l ∧ xd_L D' (xd_A D' 1 l) 8 = some (7, l)) ∧ xm_R h' (xd_A D' 0 1) l = some (xd_A D' 2 l) ∧ cs_o h' D' (xd_A D' 2 l) 6 cs_trial l ∧ xd_L D' (xd_A D' 2 l) 8 = some (98, l))
    (nP : ∀ p, p < xd_n D' 1 → ¬ p < xd_n D 1 → xm_R h' (xd_A D' 0 30) p = some (xd_A D' 3 p) ∧ cs_o h' D' (xd_A D' 3 p) 18 cs_person p)
    (nI : ∀ i, i < xd_n D' 2 → ¬ i < xd_n D 2 → newLot h' D' i)
    (nY : ∀ b, b < xd_n D' 3 → ¬ b < xd_n D 3 → xm_R h' (xd_A D' 0 38) b = some (xd_A D' 6 b) ∧ cs_o h' D' (xd_A D' 6 b) 22 cs_buyer b)
    (nn : xd_n D' 0 ≤ 12 ∧ xd_n D' 1 ≤ 16 ∧ xd_n D' 2 ≤ 40 ∧ xd_n D' 3 ≤ 4) : CS h' D' := by
  have B : xm_B h' = xm_B h := x.1
  obtain ⟨q1, q2, q3, q4, q5, q6, q7, q8, q9, q10, q11, q12, q13, q14, q15, q16, q17, q18⟩ := q
  have RX : ∀ p, xm_R h' (xd_X D) p = xm_R h (xd_X D) p := fun p => x.R w q2 (by decide) (by decide)
  have co : ∀ {a kd L i}, cs_o h D a kd L i → ¬ kd = 0 → cs_o h' D' a kd L i := fun ⟨c1, c2, c3⟩ hk => ⟨x.K w c1 hk, by rw [B]; exact c2, fun y hy => (e _ _ (w.lt c1 hk)).trans (c3 y hy)⟩
  have XZ := w.lt q2 (by decide)
  refine ⟨inj, by rw [eX]; exact x.K w q2 (by decide), by rw [B, eX]; exact q3, fun y hy => by rw [eX, e _ _ XZ]; exact q4 y hy, fun y hy => ?_, fun y hy => ?_, fun y hy => ?_, fun l hl => ?_, fun l hl => ?_, fun p hp => ?_, fun i hi => ?_, fun b hb => ?_, fun r hr => ?_, fun r hr => ?_, fun k hk => ?_, ?_, fun k hk => ?_, nn⟩
  · obtain ⟨a1, a2, a3, a4, a5⟩ := q5 y hy
    have nz : ¬ y.2.1 = 0 := by
      have : ∀ y ∈ cs_ar, ¬ y.2.1 = 0 := by decide
      exact this y hy
    rw [eX, e0]
    exact ⟨by rw [RX]; exact a1, x.K w a2 nz, x.N w a2 nz a3, by rw [B]; exact a4, fun k => (e _ _ (w.lt a2 nz)).trans (a5 k)⟩
  · obtain ⟨a1, a2, a3, a4⟩ := q6 y hy
    have nz : ¬ y.2.1 = 0 := by
      have : ∀ y ∈ cs_oa, ¬ y.2.1 = 0 := by decide
      exact this y hy
    rw [eX, e0]
    exact ⟨by rw [RX]; exact a1, x.K w a2 nz, x.N w a2 nz a3, by rw [B]; exact a4⟩
  · obtain ⟨a1, a2, a3⟩ := q7 y hy
    have nz : ¬ y.2 = 0 := by
      have : ∀ y ∈ cs_ob, ¬ y.2 = 0 := by decide
      exact this y hy
    rw [eX, e0]
    exact ⟨by rw [RX]; exact a1, x.K w a2 nz, by rw [B]; exact a3⟩
  · by_cases c : l < xd_n D 0
    · obtain ⟨a1, a2, a3⟩ := q8 l c
      obtain ⟨b1, b2, b3, b4⟩ := e1 l c
      rw [e0, b1]
      exact ⟨by rw [b3]; exact a1, co a2 (by decide), (eL _ _ (w.lt a2.1 (by decide))).trans a3⟩
    · exact (nL l hl c).1
  · by_cases c : l < xd_n D 0
    · obtain ⟨a1, a2, a3⟩ := q9 l c
      obtain ⟨b1, b2, b3, b4⟩ := e1 l c
      rw [e0, b2]
      exact ⟨by rw [b4]; exact a1, co a2 (by decide), (eL _ _ (w.lt a2.1 (by decide))).trans a3⟩
    · exact (nL l hl c).2
  · by_cases c : p < xd_n D 1
    · obtain ⟨a1, a2⟩ := q10 p c
      obtain ⟨b1, b2⟩ := e3 p c
      rw [e0, b1]
      exact ⟨by rw [b2]; exact a1, co a2 (by decide)⟩
    · exact nP p hp c
  · by_cases c : i < xd_n D 2
    · obtain ⟨a1, a2, a3⟩ := q11 i c
      obtain ⟨b1, b2, b3, b4⟩ := e4 i c
      rw [e0, b1, b2, b4, eX]
      cases em : xd_m D i with
      | none =>
        rw [em] at a3
        obtain ⟨f1, f2, f3, f4, f5, f6, f7⟩ := a3
        have R4 : ∀ p, xm_R h' (xd_A D 4 i) p = xm_R h (xd_A D 4 i) p := fun p => x.R w f1.1 (by decide) (by decide)
        exact ⟨by rw [b3]; exact a1, by rw [R4]; exact a2, co f1 (by decide), by rw [R4]; exact f2, by rw [R4]; exact f3, x.K w f4 (by decide), x.N w f4 (by decide) f5, by rw [B]; exact f6, fun l hl => (e _ _ (w.lt f4 (by decide))).trans (f7 l hl)⟩
      | some y =>
        obtain ⟨a, b⟩ := y
        rw [em] at a3
        obtain ⟨f1, f2, f3, f4, f5, f6⟩ := a3
        have R4 : ∀ p, xm_R h' (xd_A D 4 i) p = xm_R h (xd_A D 4 i) p := fun p => x.R w f1.1 (by decide) (by decide)
        have ea := (e4 a (by omega)).1
        have eb := (e4 b (by omega)).1
        exact ⟨by rw [b3]; exact a1, by rw [R4]; exact a2, co f1 (by decide), f2, f3, by rw [R4, ea]; exact f4, by rw [R4, eb]; exact f5, by rw [R4]; exact f6⟩
    · obtain ⟨a1, a2, a3⟩ := nI i hi c
      exact ⟨a1, a2, a3⟩
  · by_cases c : b < xd_n D 3
    · obtain ⟨a1, a2⟩ := q12 b c
      obtain ⟨b1, b2⟩ := e6 b c
      rw [e0, b1]
      exact ⟨by rw [b2]; exact a1, co a2 (by decide)⟩
    · exact nY b hb c
  · obtain ⟨a1, a2, a3, a4, a5, a6, a7⟩ := q13 r hr
    have R7 : ∀ p, xm_R h' (xd_A D 7 r) p = xm_R h (xd_A D 7 r) p := fun p => x.R w a2.1 (by decide) (by decide)
    rw [e0, e7 7 r (by decide), e7 8 r (by decide)]
    exact ⟨by rw [r19]; exact a1, co a2 (by decide), by rw [R7]; exact a3, x.K w a4 (by decide), x.N w a4 (by decide) a5, by rw [B]; exact a6, fun k hk => (e _ _ (w.lt a4 (by decide))).trans (a7 k hk)⟩
  · obtain ⟨a1, a2, a3, a4⟩ := q14 r hr
    rw [e0, e7 9 r (by decide)]
    exact ⟨by rw [r16]; exact a1, x.K w a2 (by decide), x.N w a2 (by decide) a3, by rw [B]; exact a4⟩
  · rw [e0, e _ _ (w.lt (q7 (15, 3) (by decide)).2.1 (by decide))]
    exact q15 k hk
  · rw [e0, eX, x.R w (q7 (15, 3) (by decide)).2.1 (by decide) (by decide)]
    exact q16
  · rw [e0, e _ _ (w.lt (q7 (13, 2) (by decide)).2.1 (by decide))]
    exact q17 k hk
/-- places of one object more; counts, addresses -/
def exD (D : xp_D) (a0 : Nat) (e l : Nat → Option (Nat × Nat)) : xp_D := (D.1, (fun a p => if a = a0 then e p else D.2.1 a p), (fun a p => if a = a0 then l p else D.2.2.1 a p), D.2.2.2)
def exA (D : xp_D) (k i a0 : Nat) : xp_D := (D.1, D.2.1, D.2.2.1, (fun k' i' => if k' = k ∧ i' = i then a0 else D.2.2.2.1 k' i'), D.2.2.2.2)
def exN (D : xp_D) (j v : Nat) : xp_D := (D.1, D.2.1, D.2.2.1, D.2.2.2.1, (fun j' => if j' = j then v else D.2.2.2.2.1 j'), D.2.2.2.2.2)
def exM (D : xp_D) (i : Nat) (m : Option (Nat × Nat)) : xp_D := (D.1, D.2.1, D.2.2.1, D.2.2.2.1, D.2.2.2.2.1, (fun i' => if i' = i then m else D.2.2.2.2.2 i'))
/-- names by a list -/
def enm (L : List (Nat × Nat)) (i : Nat) (p : Nat) : Option (Nat × Nat) := match L with
  | [] => none
  | (s, o) :: L => if p = s then some (o, i) else enm L i p
end EXT
