/-! a cut: the row that is found, what it leaves -/
set_option maxRecDepth 100000
section ST8
variable {h : xm_H} {D : xp_D} {F G : xp_F} {M : Nat}
/-- a row of the set, with its units -/
def rwG (S : List Nat) (u : Int32) (p : List Nat) : Prop := (∀ l ∈ p, l ∈ S) ∧ p.Nodup ∧ (p.length : Int) ≤ u.toInt ∧ u.toInt ≤ 3600 * (p.length : Int) ∧ p.length ≤ 7
theorem trs_good {c : Nat → Int32} {S : List Nat} (hc : ∀ l ∈ S, 0 < (c l).toInt ∧ (c l).toInt ≤ 3600) : ∀ (r : Nat) (p : List Nat) (m u s : Int32) (B : Bst) (l : Nat), p.length + r ≤ 7 → rwG S u p → l ∈ S → rwG S B.1 B.2.2.2 → rwG S (sp_trs F c S r p m u s B l).1 (sp_trs F c S r p m u s B l).2.2.2
  | 0, _, _, _, _, _, _, _, _, _, hB => hB
  | r + 1, p, m, u, s, B, l, hp, gp, hl, hB => by
    unfold sp_trs
    split
    · exact hB
    · rename_i nn
      obtain ⟨c1, c2⟩ := hc l hl
      obtain ⟨p1, p2, p3, p4, p5⟩ := gp
      have lp : ¬ l ∈ p := fun z => nn (Or.inl z)
      have eu : (u + c l).toInt = u.toInt + (c l).toInt := ti_add (by omega)
      have g2 : rwG S (u + c l) (l :: p) := by
        refine ⟨fun x hx => ?_, List.nodup_cons.mpr ⟨lp, p2⟩, ?_, ?_, ?_⟩
        · rcases List.mem_cons.mp hx with e | e
          · rw [e]
            exact hl
          · exact p1 x e
        · rw [eu, List.length_cons]
          omega
        · rw [eu, List.length_cons]
          omega
        · rw [List.length_cons]
          omega
      have go : ∀ (T : List Nat) (B : Bst), (∀ x ∈ T, x ∈ S) → rwG S B.1 B.2.2.2 → rwG S (T.foldl (sp_trs F c S r (l :: p) (sp_mins F p m (c l) l) (u + c l) (sp_stg F p s l)) B).1 (T.foldl (sp_trs F c S r (l :: p) (sp_mins F p m (c l) l) (u + c l) (sp_stg F p s l)) B).2.2.2 := by
        intro T
        induction T with
        | nil => exact fun _ _ h => h
        | cons a T ih =>
          intro B ht h
          rw [List.foldl_cons]
          exact ih _ (fun x hx => ht x (List.mem_cons_of_mem _ hx)) (trs_good hc r _ _ _ _ _ _ (by rw [List.length_cons]; omega) g2 (ht a List.mem_cons_self) h)
      refine go S _ (fun x hx => hx) ?_
      unfold sp_tk
      split
      · exact hB
      · exact g2
theorem found_good {c : Nat → Int32} {S : List Nat} (h7 : S.length ≤ 7) (hc : ∀ l ∈ S, 0 < (c l).toInt ∧ (c l).toInt ≤ 3600) : rwG S (sp_found F c S).1 (sp_found F c S).2.2.2 := by
  have e : rwG S 0 [] := ⟨fun x hx => absurd hx List.not_mem_nil, List.nodup_nil, by decide, by decide, by decide⟩
  unfold sp_found
  have go : ∀ (T : List Nat) (B : Bst), (∀ x ∈ T, x ∈ S) → rwG S B.1 B.2.2.2 → rwG S (T.foldl (sp_trs F c S S.length [] 0 0 0) B).1 (T.foldl (sp_trs F c S S.length [] 0 0 0) B).2.2.2 := by
    intro T
    induction T with
    | nil => exact fun _ _ h => h
    | cons a T ih =>
      intro B ht h
      rw [List.foldl_cons]
      exact ih _ (fun x hx => ht x (List.mem_cons_of_mem _ hx)) (trs_good hc _ _ _ _ _ _ _ (by rw [List.length_nil]; omega) e (ht a List.mem_cons_self) h)
  exact go S _ (fun x hx => hx) e
theorem nthr_inj : ∀ (p : List Nat), p.Nodup → ∀ i j, i < j → j < p.length → ¬ nthr p i = nthr p j
  | [], _, i, j, _, hj => absurd hj (Nat.not_lt_zero _)
  | l :: p, hn, i, j, hi, hj => by
    obtain ⟨n1, n2⟩ := List.nodup_cons.mp hn
    rw [List.length_cons] at hj
    have li : nthr (l :: p) i = nthr p i := if_neg (by omega)
    rw [li]
    by_cases e : j = p.length
    · have lj : nthr (l :: p) j = l := if_pos e
      rw [lj]
      exact fun z => n1 (by rw [← z]; exact nthr_mem p (by omega))
    · have lj : nthr (l :: p) j = nthr p j := if_neg e
      rw [lj]
      exact nthr_inj p n2 i j hi (by omega)
/-- the row of a cut -/
def rowG (D : xp_D) (F : xp_F) (st c : Nat → Int32) (u : Int32) (p : List Nat) : Prop := (∀ j, j < p.length → nthr p j < xd_n D 0 ∧ (c (nthr p j)).toInt = (F 6 (nthr p j)).toInt - (st (nthr p j)).toInt ∧ 0 < (c (nthr p j)).toInt ∧ 0 ≤ (st (nthr p j)).toInt) ∧ (∀ i j, i < j → j < p.length → ¬ nthr p i = nthr p j) ∧ (p.length : Int) ≤ u.toInt ∧ u.toInt ≤ 3600 * (p.length : Int) ∧ p.length ≤ 7
theorem if_row (i : IF D F) (n12 : xd_n D 0 ≤ 12) {n : Nat} {L : Nat → Ln} {k c a : Int32} : rowG D F (sp_stays F n L) (sp_cutOf F n L) (sp_rows F n L k c a).1 (sp_rows F n L k c a).2.2.2 ∧ ∀ j, j < (sp_rows F n L k c a).2.2.2.length → nthr (sp_rows F n L k c a).2.2.2 j ∈ sp_lows (sp_reached F n L k c a) (F 0 6).toNatClampNeg := by
  have hb := @if_hb D F i n12 n L k c a
  have et : (F 0 6).toNatClampNeg = xd_n D 0 := by rw [i.1.1, tc_nat (by omega)]
  have g := @found_good F (sp_cutOf F n L) (sp_lows (sp_reached F n L k c a) (F 0 6).toNatClampNeg) (lows_len _) (fun l hl => ⟨(hb.1 l hl).2.1, (hb.1 l hl).2.2⟩)
  have g : rwG (sp_lows (sp_reached F n L k c a) (F 0 6).toNatClampNeg) (sp_rows F n L k c a).1 (sp_rows F n L k c a).2.2.2 := g
  generalize sp_rows F n L k c a = B at g ⊢
  obtain ⟨g1, g2, g3, g4, g5⟩ := g
  refine ⟨⟨fun j hj => ?_, nthr_inj _ g2, g3, g4, g5⟩, fun j hj => g1 _ (nthr_mem _ hj)⟩
  have m := g1 _ (nthr_mem _ hj)
  have lt := lows_lt _ _ m
  rw [et] at lt
  generalize nthr B.2.2.2 j = l at m lt
  obtain ⟨-, c1, c2⟩ := hb.1 l m
  obtain ⟨f1, f2, f3, -⟩ := i.2.1.2.2.1 l lt
  have f1 : rg (F 5 l) 9 := f1
  have f2 : 0 ≤ (F 6 l).toInt := f2
  have f3 : (F 6 l).toInt ≤ 400 * (F 5 l).toInt := f3
  have s9 := f1.2
  obtain ⟨-, t1, t2⟩ := left_ti (c := F 6 l) (v := sp_leaves (sp_has F l) L n) ⟨f2, by omega⟩ leaves_rg
  have e : (sp_cutOf F n L l).toInt = (F 6 l).toInt - (sp_left (F 6 l) (sp_leaves (sp_has F l) L n)).toInt := ti_sub (by
    show -2147483648 ≤ (F 6 l).toInt - (sp_left (F 6 l) (sp_leaves (sp_has F l) L n)).toInt ∧ (F 6 l).toInt - (sp_left (F 6 l) (sp_leaves (sp_has F l) L n)).toInt < 2147483648
    omega)
  exact ⟨lt, e, c1, t1⟩
theorem rowG.cwc (i : IF D F) {st c : Nat → Int32} {u : Int32} {p : List Nat} (g : rowG D F st c u p) : CWc D F st p := by
  refine ⟨fun j hj => ?_, g.2.1⟩
  obtain ⟨lt, e, c1, c2⟩ := g.1 j hj
  generalize nthr p j = l at lt e c1 c2
  obtain ⟨f1, f2, f3, f4, f5⟩ := i.2.1.2.2.1 l lt
  have f1 : rg (F 5 l) 9 := f1
  have f3 : (F 6 l).toInt ≤ 400 * (F 5 l).toInt := f3
  have f4 : 0 ≤ (F 7 l).toInt := f4
  have f5 : (F 7 l).toInt ≤ 9 * (F 6 l).toInt := f5
  have s9 := f1.2
  exact ⟨lt, ⟨by show 0 < (F 6 l).toInt; omega, by show (F 6 l).toInt ≤ 3600; omega, f4, by show (F 7 l).toInt ≤ 32400; omega⟩, c2, by omega⟩
theorem rowG.cw (n12 : xd_n D 0 ≤ 12) {st c : Nat → Int32} {u : Int32} {p : List Nat} (g : rowG D F st c u p) : CW F u p := by
  refine ⟨fun h z => ?_, fun j hj => ?_, g.2.1⟩
  · have a := g.2.2.1
    rw [z, show (0 : Int32).toInt = 0 from rfl] at a
    omega
  · obtain ⟨lt, e, c1, c2⟩ := g.1 j hj
    refine ⟨by omega, fun z => ?_⟩
    rw [z, show (0 : Int32).toInt = 0 from rfl] at e
    omega
/-- after k of the row -/
def cutJ (D : xp_D) (F : xp_F) (st c : Nat → Int32) (p : List Nat) (k : Nat) (s : Int32 × xp_F) : Prop := (0 ≤ s.1.toInt ∧ s.1.toInt ≤ 32400 * (k : Int)) ∧
  (∀ l, (∃ j, j < k ∧ nthr p j = l) → s.2 6 l = st l ∧ s.2 7 l = F 7 l - sp_mad1 F c l ∧ s.2 12 l = 1 ∧ s.2 52 (12 * xd_n D 2 + l) = c l) ∧
  (∀ l, ¬ (∃ j, j < k ∧ nthr p j = l) → s.2 6 l = F 6 l ∧ s.2 7 l = F 7 l ∧ s.2 12 l = F 12 l ∧ (l < 12 → s.2 52 (12 * xd_n D 2 + l) = 0)) ∧
  (∀ j, j < 32 → (bit (s.2 53 (xd_n D 2)) j = true ↔ ∃ i, i < k ∧ nthr p i = j)) ∧ (∀ x, ¬ x = xd_n D 2 → s.2 53 x = F 53 x) ∧
  ∀ x, ¬ (12 * xd_n D 2 ≤ x ∧ x < 12 * xd_n D 2 + 12) → s.2 52 x = F 52 x
theorem cutC_53 {u : Int32} {x : Nat} : sp_cutC F u 53 x = if x = (F 0 68).toNatClampNeg then 0 else F 53 x := by
  unfold sp_cutC
  rw [u2_ap]
  by_cases e : x = (F 0 68).toNatClampNeg
  · rw [if_pos ⟨rfl, e⟩, if_pos e]
  · rw [if_neg (fun z => e z.2), if_neg e, comesC rfl, if_neg (by omega), if_neg (by omega), if_neg (by omega), if_neg (by omega), if_neg (by omega), if_neg (by omega), if_neg (by omega)]
theorem cuts_J (n12 : xd_n D 0 ≤ 12) (et : (F 0 68).toNatClampNeg = xd_n D 2) {st c : Nat → Int32} {u : Int32} {p : List Nat} (g : rowG D F st c u p) (gi : GI true (xd_n D 0) F) : ∀ k, k ≤ p.length → cutJ D F st c p k (sp_cuts F st c (xd_n D 2) p (sp_cutC F u) k)
  | 0, _ => by
    have f : ∀ o l, ctN o → sp_cutC F u o l = F o l := fun o l ho => by
      rw [cutC_ap (by omega) (by omega) (by omega), if_neg (by omega), if_neg (by omega), if_neg (by omega), if_neg (by omega), if_neg (by omega)]
    refine ⟨⟨by show (0 : Int) ≤ (0 : Int32).toInt; decide, by show (0 : Int32).toInt ≤ 32400 * ((0 : Nat) : Int); decide⟩, fun l ⟨j, hj, _⟩ => absurd hj (Nat.not_lt_zero _), fun l _ => ⟨f 6 l (by decide), f 7 l (by decide), f 12 l (by decide), fun hl => ?_⟩, fun j hj => ?_, fun x hx => ?_, fun x hx => ?_⟩
    · show sp_cutC F u 52 (12 * xd_n D 2 + l) = 0
      rw [cutC_ap (by omega) (by omega) (by omega), et, if_pos ⟨rfl, by omega, by omega⟩]
    · show bit (sp_cutC F u 53 (xd_n D 2)) j = true ↔ _
      rw [cutC_53, if_pos et.symm, bit_0]
      exact Iff.intro (fun z => by cases z) (fun z => by
        obtain ⟨i, hi, -⟩ := z
        exact absurd hi (Nat.not_lt_zero _))
    · show sp_cutC F u 53 x = F 53 x
      rw [cutC_53, et, if_neg hx]
    · show sp_cutC F u 52 x = F 52 x
      rw [cutC_ap (by omega) (by omega) (by omega), et, if_neg (by omega), if_neg (by omega), if_neg (by omega), if_neg (by omega), if_neg (by omega)]
  | k + 1, hk => by
    have ih := cuts_J n12 et g gi k (by omega)
    show cutJ D F st c p (k + 1) (sp_cut1 F st c (xd_n D 2) (nthr p k) (sp_cuts F st c (xd_n D 2) p (sp_cutC F u) k))
    generalize sp_cuts F st c (xd_n D 2) p (sp_cutC F u) k = s at ih ⊢
    obtain ⟨lt, ec, c1, c2⟩ := g.1 k (by omega)
    have dis : ∀ j, j < k → ¬ nthr p j = nthr p k := fun j hj => g.2.1 j k hj (by omega)
    generalize eL : nthr p k = l at lt ec c1 c2 dis ⊢
    obtain ⟨f1, f2, f3, f4, f5⟩ := gi l lt
    have f1 : rg (F 5 l) 9 := f1
    have f2 : 0 ≤ (F 6 l).toInt := f2
    have f3 : (F 6 l).toInt ≤ 400 * (F 5 l).toInt := f3
    have f4 : 0 ≤ (F 7 l).toInt := f4
    have f5 : (F 7 l).toInt ≤ 9 * (F 6 l).toInt := f5
    have s9 := f1.2
    obtain ⟨i1, i2, i3, i4, i5, i6⟩ := ih
    have md : 0 ≤ (sp_mad1 F c l).toInt ∧ (sp_mad1 F c l).toInt ≤ (F 7 l).toInt := (l_md (m := F 7 l) (y := c l) (c := F 6 l) ⟨f4, by omega⟩ (by omega) (by omega) (by omega) (by omega)).2.2
    have h7 := g.2.2.2.2
    have em : (s.1 + sp_mad1 F c l).toInt = s.1.toInt + (sp_mad1 F c l).toInt := ti_add (by omega)
    have old : ∀ x, ¬ x = l → ((∃ j, j < k + 1 ∧ nthr p j = x) ↔ ∃ j, j < k ∧ nthr p j = x) := fun x hx => by
      constructor
      · rintro ⟨j, hj, e⟩
        refine ⟨j, ?_, e⟩
        by_cases q : j = k
        · rw [q, eL] at e
          exact absurd e.symm hx
        · omega
      · rintro ⟨j, hj, e⟩
        exact ⟨j, by omega, e⟩
    have yes : ∃ j, j < k + 1 ∧ nthr p j = l := ⟨k, Nat.lt_succ_self _, eL⟩
    have no : ¬ ∃ j, j < k ∧ nthr p j = l := fun ⟨j, hj, e⟩ => dis j hj e
    have ap : ∀ o x, (sp_cut1 F st c (xd_n D 2) l s).2 o x = if o = 53 ∧ x = xd_n D 2 then s.2 53 (xd_n D 2) ||| 1 <<< (Int32.ofNat l &&& 31) else if o = 52 ∧ x = 12 * xd_n D 2 + l then c l else if o = 12 ∧ x = l then 1 else if o = 6 ∧ x = l then st l else if o = 8 ∧ x = l then 100 * st l / F 6 l else if o = 7 ∧ x = l then F 7 l - sp_mad1 F c l else s.2 o x := fun o x => by
      unfold sp_cut1
      show xm_u2 _ _ _ _ o x = _
      rw [u2_ap, u2_ap, u2_ap, u2_ap, u2_ap, u2_ap]
    have e1 : (sp_cut1 F st c (xd_n D 2) l s).1 = s.1 + sp_mad1 F c l := Eq.refl (s.1 + sp_mad1 F c l)
    generalize sp_cut1 F st c (xd_n D 2) l s = T at ap e1 ⊢
    refine ⟨⟨by rw [e1, em]; omega, by rw [e1, em]; omega⟩, fun x hx => ?_, fun x hx => ?_, fun j hj => ?_, fun x hx => ?_, fun x hx => ?_⟩
    · by_cases q : x = l
      · subst q
        refine ⟨?_, ?_, ?_, ?_⟩
        · rw [ap]
          simp only [Nat.reduceEqDiff, false_and, and_self, ↓reduceIte]
        · rw [ap]
          simp only [Nat.reduceEqDiff, false_and, and_self, ↓reduceIte]
        · rw [ap]
          simp only [Nat.reduceEqDiff, false_and, and_self, ↓reduceIte]
        · rw [ap]
          simp only [Nat.reduceEqDiff, false_and, and_self, ↓reduceIte]
      · obtain ⟨a1, a2, a3, a4⟩ := i2 x ((old x q).mp hx)
        refine ⟨?_, ?_, ?_, ?_⟩
        · rw [ap, if_neg (by omega), if_neg (by omega), if_neg (by omega), if_neg (by omega), if_neg (by omega), if_neg (by omega)]
          exact a1
        · rw [ap, if_neg (by omega), if_neg (by omega), if_neg (by omega), if_neg (by omega), if_neg (by omega), if_neg (by omega)]
          exact a2
        · rw [ap, if_neg (by omega), if_neg (by omega), if_neg (by omega), if_neg (by omega), if_neg (by omega), if_neg (by omega)]
          exact a3
        · rw [ap, if_neg (by omega), if_neg (by omega), if_neg (by omega), if_neg (by omega), if_neg (by omega), if_neg (by omega)]
          exact a4
    · have q : ¬ x = l := fun z => hx (by rw [z]; exact yes)
      obtain ⟨a1, a2, a3, a4⟩ := i3 x (fun z => hx ((old x q).mpr z))
      refine ⟨?_, ?_, ?_, fun hl => ?_⟩
      · rw [ap, if_neg (by omega), if_neg (by omega), if_neg (by omega), if_neg (by omega), if_neg (by omega), if_neg (by omega)]
        exact a1
      · rw [ap, if_neg (by omega), if_neg (by omega), if_neg (by omega), if_neg (by omega), if_neg (by omega), if_neg (by omega)]
        exact a2
      · rw [ap, if_neg (by omega), if_neg (by omega), if_neg (by omega), if_neg (by omega), if_neg (by omega), if_neg (by omega)]
        exact a3
      · rw [ap, if_neg (by omega), if_neg (by omega), if_neg (by omega), if_neg (by omega), if_neg (by omega), if_neg (by omega)]
        exact a4 hl
    · rw [ap, if_pos ⟨rfl, rfl⟩, bit_set (by omega) hj, Bool.or_eq_true, i4 j hj, decide_eq_true_iff]
      by_cases q : j = l
      · exact ⟨fun _ => by rw [q]; exact yes, fun _ => Or.inr q⟩
      · exact ⟨fun z => (old j q).mpr (z.resolve_right q), fun z => Or.inl ((old j q).mp z)⟩
    · rw [ap, if_neg (by omega), if_neg (by omega), if_neg (by omega), if_neg (by omega), if_neg (by omega), if_neg (by omega)]
      exact i5 x hx
    · rw [ap, if_neg (by omega), if_neg (by omega), if_neg (by omega), if_neg (by omega), if_neg (by omega), if_neg (by omega)]
      exact i6 x hx
end ST8
