/-! a person, a buyer, a ledge come -/
set_option maxRecDepth 100000
section ST4
variable {d : Nat} {h : xm_H} {D : xp_D} {F G : xp_F} {M : Nat} {n : Nat → Nat} {m : Nat → Option (Nat × Nat)}
def IDn (n : Nat → Nat) (m : Nat → Option (Nat × Nat)) : xp_D := (0, fun _ _ => none, fun _ _ => none, fun _ _ => 0, n, m)
theorem IF_D (en : ∀ j, xd_n D j = n j) (em : ∀ i, xd_m D i = m i) (i : IF (IDn n m) F) : IF D F := by
  have e1 : xd_n D = n := funext en
  have e2 : xd_m D = m := funext em
  subst e1
  subst e2
  exact i
theorem nr_mono {x : Int32} {a b : Nat} (i : nr x a) (hab : a ≤ b) : nr x b := by
  rcases i with e | e
  · exact Or.inl e
  · have := in_iff.mp e
    exact Or.inr (in_iff.mpr ⟨this.1, by omega⟩)
theorem in_mono {x : Int32} {a b : Nat} (e : xm_in x a = true) (hab : a ≤ b) : xm_in x b = true := by
  have := in_iff.mp e
  exact in_iff.mpr ⟨this.1, by omega⟩
/-- one more of them -/
def nxt (D : xp_D) (j : Nat) (i : Nat) : Nat := if i = j then xd_n D j + 1 else xd_n D i
theorem per_P (hp : ivP D F) (g40 : ∀ k, G 40 k = if k = xd_n D 1 then -1 else F 40 k) (g41 : ∀ k, G 41 k = F 41 k) (g42 : ∀ k, G 42 k = F 42 k) : ivP (IDn (nxt D 1) m) G := by
  refine ⟨fun k hk => ?_, fun k hk => ?_⟩
  · have hk : xd_n D 1 + 1 ≤ k := hk
    rw [g40, g41, g42, if_neg (by omega)]
    exact hp.1 k (by omega)
  · have hk : k < xd_n D 1 + 1 := hk
    rw [g40]
    split
    · exact Or.inl rfl
    · rcases hp.2 k (by omega) with e | ⟨j, hj, e⟩
      · exact Or.inl e
      · exact Or.inr ⟨j, by show j < xd_n D 1 + 1; omega, e⟩
theorem per_C (pw : PWy D F) : PWy (IDn (nxt D 1) m) F := ⟨pw.1, fun l hl => nr_mono (pw.2.1 l hl) (Nat.le_succ _), pw.2.2⟩
theorem per_L (hl : ivL D F) : ivL (IDn (nxt D 1) (xd_m D)) F := by
  obtain ⟨l1, l2, l3⟩ := hl
  refine ⟨l1, l2, fun i hi => ?_⟩
  have := l3 i hi
  show match xd_m D i with
    | none => F 50 i = -1 ∧ xm_in (F 47 i) (xd_n D 1 + 1) = true ∧ xm_in (F 48 i) (xd_n D 1 + 1) = true
    | some (a, b) => F 50 i = Int32.ofNat a ∧ F 51 i = Int32.ofNat b
  cases e : xd_m D i with
  | none =>
    rw [e] at this
    exact ⟨this.1, in_mono this.2.1 (Nat.le_succ _), in_mono this.2.2 (Nat.le_succ _)⟩
  | some y =>
    rw [e] at this
    exact this
theorem if_person (i : IF D F) (n16 : xd_n D 1 ≤ 16) {x : Int32} (c : (30 ≤ x ∧ x ≤ 120) ∧ ¬ F 0 61 = 16) : IF (IDn (nxt D 1) (xd_m D)) (sp_person F x).2 := by
  obtain ⟨cn, ha, hz, hf, hp, ht, hw, hh, hb, hr, hl, hu, hy, pw, hs, hn, ti, hd⟩ := i
  have e1 := cn.2.1
  have et : (F 0 61).toNatClampNeg = xd_n D 1 := by rw [e1, tc_nat (by omega)]
  have eq1 : F 0 61 + 1 = Int32.ofNat (xd_n D 1 + 1) := by rw [e1, nat_succ]
  have mo : (F 0 61).toInt = xd_n D 1 := by rw [e1, ti_nat (by omega)]
  have mo1 : (F 0 61 + 1 - 1).toInt = xd_n D 1 := by rw [eq1, ti_sub1 (by rw [ti_nat (by omega)]; omega), ti_nat (by omega)]; omega
  unfold sp_person
  rw [if_pos c, et]
  by_cases e : F 0 62 = -1
  · rw [if_pos e]
    refine ⟨⟨cn.1, eq1, cn.2.2⟩, ha, hz, hf, per_P hp (fun k => ?_) (fun k => rfl) (fun k => rfl), ht, hw, hh, hb, fun _ => ?_, per_L hl, hu, hy, per_C pw, hs, hn, ti, hd⟩
    · show xm_u2 F 40 (xd_n D 1) (-1) 40 k = _
      rw [u2_ap]
      simp only [true_and]
    · show ¬ xm_u2 (xm_u2 (xm_u2 F 39 (xd_n D 1) x) 40 (xd_n D 1) (-1)) 43 (xd_n D 1) 1 43 (F 0 61).toNatClampNeg = 0
      rw [et, u2_ap, if_pos ⟨rfl, rfl⟩]
      decide
  · rw [if_neg e]
    refine ⟨⟨cn.1, eq1, cn.2.2⟩, ha, hz, hf, per_P hp (fun k => ?_) (fun k => rfl) (fun k => rfl), ht, hw, hh, hb, fun z => ?_, per_L hl, hu, hy, per_C pw, hs, hn, ti, hd⟩
    · show xm_u2 F 40 (xd_n D 1) (-1) 40 k = _
      rw [u2_ap]
      simp only [true_and]
    · have z : 0 ≤ F 0 62 ∧ F 0 62 ≤ F 0 61 + 1 - 1 := z
      show ¬ xm_u2 (xm_u2 (xm_u2 F 39 (xd_n D 1) x) 40 (xd_n D 1) (-1)) 43 (xd_n D 1) 1 43 (F 0 62).toNatClampNeg = 0
      rw [u2_ap]
      split
      · decide
      · rename_i w
        have z1 := Int32.le_iff_toInt_le.mp z.1
        have z2 := Int32.le_iff_toInt_le.mp z.2
        rw [show (0 : Int32).toInt = 0 from rfl] at z1
        rw [mo1] at z2
        have r16 : rg (F 0 62) 16 := ⟨z1, by omega⟩
        have t := rg_tc r16
        have ne : ¬ (F 0 62).toNatClampNeg = xd_n D 1 := fun v => w ⟨rfl, v⟩
        refine hr ⟨z.1, Int32.le_iff_toInt_le.mpr ?_⟩
        rw [ti_sub1 (by omega), mo]
        omega
theorem mr_person {x : Int32} {r n : Nat} {L : Nat → Ln} (a : MR F r n L) : MR (sp_person F x).2 r n L := by
  unfold sp_person
  split
  · show MR (xm_u2 (if _ then _ else _) _ _ _) r n L
    split <;> exact a
  · exact a
theorem t_17 (iv : IV M h D F) {x : Int32} : RG M (d + 1000) h D F 41 154 [.int x] :=
  st_gx (P := fun F1 D' => F1 = (sp_person F x).2 ∧ IF D' (sp_person F x).2) (Q := fun F2 => F2 = (sp_person F x).2) iv (fun hh q w v ru => by
    obtain ⟨h', D', m1, g, -, k⟩ := c41 (d := d + 998) q w v iv.n (fun k hk => (iv.2.2.2.2.2.2.1.1 k hk).2) (x := x)
    refine ⟨h', D', _, m1, g.mono (by decide) (by decide), rfl, ?_⟩
    rcases k with ⟨e1, e2⟩ | ⟨c, k1, k2, k3⟩
    · rw [e1, e2]
      exact iv.2.2
    · refine IF_D (n := nxt D 1) (m := xd_m D) (fun j => ?_) k3 (if_person iv.2.2 (cs_n iv.q).2.1 c)
      unfold nxt
      split
      · rename_i e
        rw [e]
        exact k1
      · rename_i e
        exact k2 j e) (fun hb ms => ⟨_, c154 (d := d + 999) ms (iv.n.p iv.q), rfl⟩) (fun D' F1 F2 a b _ _ _ _ => by rw [a.1, b]) fun D2 F1 F2 _ a b => by
    rw [a.1, b, mrg_s]
    exact ⟨fun _ _ _ => mr_person, a.2⟩
theorem if_buyer (i : IF D F) (n4 : xd_n D 3 ≤ 4) {x1 x2 x3 x4 : Int32} (c : sp_isSpan x1 x2 ∧ (1 ≤ x3 ∧ x3 ≤ 99) ∧ (1 ≤ x4 ∧ x4 ≤ 99999) ∧ ¬ F 0 83 = 4) : IF (IDn (nxt D 3) (xd_m D)) (sp_buyer F x1 x2 x3 x4).2 := by
  obtain ⟨cn, ha, hz, hf, hp, ht, hw, hh, hb, hr, hl, hu, hy, pw, hs, hn, ti, hd⟩ := i
  have e1 := cn.2.2.2
  have et : (F 0 83).toNatClampNeg = xd_n D 3 := by rw [e1, tc_nat (by omega)]
  have eq1 : F 0 83 + 1 = Int32.ofNat (xd_n D 3 + 1) := by rw [e1, nat_succ]
  unfold sp_buyer
  rw [if_pos c, et]
  refine ⟨⟨cn.1, cn.2.1, cn.2.2.1, eq1⟩, ha, hz, hf, hp, ht, hw, hh, hb, hr, hl, hu, fun k hk => ?_, pw, hs, hn, ti, hd⟩
  have hk : k < xd_n D 3 + 1 := hk
  show (0 ≤ (xm_u2 F 59 (xd_n D 3) x4 59 k).toInt ∧ (xm_u2 F 59 (xd_n D 3) x4 59 k).toInt ≤ 99999) ∧ 0 ≤ (xm_u2 F 58 (xd_n D 3) x3 58 k).toInt ∧ (xm_u2 F 58 (xd_n D 3) x3 58 k).toInt ≤ 99
  rw [u2_ap, u2_ap]
  have a1 := Int32.le_iff_toInt_le.mp c.2.2.1.1
  have a2 := Int32.le_iff_toInt_le.mp c.2.2.1.2
  have b1 := Int32.le_iff_toInt_le.mp c.2.1.1
  have b2 := Int32.le_iff_toInt_le.mp c.2.1.2
  rw [show (1 : Int32).toInt = 1 from rfl] at a1 b1
  rw [show (99999 : Int32).toInt = 99999 from rfl] at a2
  rw [show (99 : Int32).toInt = 99 from rfl] at b2
  by_cases q : k = xd_n D 3
  · rw [if_pos ⟨rfl, q⟩, if_pos ⟨rfl, q⟩]
    omega
  · rw [if_neg (fun z => q z.2), if_neg (fun z => q z.2)]
    exact hy k (by omega)
theorem mr_buyer {x1 x2 x3 x4 : Int32} {r n : Nat} {L : Nat → Ln} (a : MR F r n L) : MR (sp_buyer F x1 x2 x3 x4).2 r n L := by
  unfold sp_buyer
  split <;> exact a
theorem t_26 (iv : IV M h D F) {x1 x2 x3 x4 : Int32} : RG M (d + 1000) h D F 54 167 [.int x1, .int x2, .int x3, .int x4] :=
  st_gx (P := fun F1 D' => F1 = (sp_buyer F x1 x2 x3 x4).2 ∧ IF D' (sp_buyer F x1 x2 x3 x4).2) (Q := fun F2 => F2 = (sp_buyer F x1 x2 x3 x4).2) iv (fun hh q w v ru => by
    obtain ⟨h', D', m1, g, -, k⟩ := c54 (d := d + 998) q w v iv.n (x1 := x1) (x2 := x2) (x3 := x3) (x4 := x4)
    refine ⟨h', D', _, m1, g.mono (by decide) (by decide), rfl, ?_⟩
    rcases k with ⟨e1, e2⟩ | ⟨c, k1, k2, k3⟩
    · rw [e1, e2]
      exact iv.2.2
    · refine IF_D (n := nxt D 3) (m := xd_m D) (fun j => ?_) k3 (if_buyer iv.2.2 (cs_n iv.q).2.2.2 c)
      unfold nxt
      split
      · rename_i e
        rw [e]
        exact k1
      · rename_i e
        exact k2 j e) (fun hb ms => ⟨_, c167 (d := d + 998) ms (iv.n.b iv.q), rfl⟩) (fun D' F1 F2 a b _ _ _ _ => by rw [a.1, b]) fun D2 F1 F2 _ a b => by
    rw [a.1, b, mrg_s]
    exact ⟨fun _ _ _ => mr_buyer, a.2⟩
end ST4
