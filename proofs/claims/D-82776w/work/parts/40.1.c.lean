/-! rules -/
set_option maxRecDepth 100000
section RULES
variable {d : Nat} {h : xm_H} {D : xp_D} {F G K : xp_F} {M : Nat} {c : Nat → Int32} {T : Nat}
theorem MR.o {r R n : Nat} {L : Nat → Ln} (m : MR F r n L) (hr : r < 2) (hR : R < 2) (ne : ¬ r = R) (fr : ∀ o k, 14 ≤ o → o ≤ 21 → ¬ tkR R o k → G o k = F o k) : MR G r n L := by
  obtain ⟨m1, m2, m3⟩ := m
  have nt : ∀ o k, (o = 14 ∧ k = r) ∨ ((o = 18 ∨ o = 20) ∧ 20 * r ≤ k ∧ k < 20 * r + 20) ∨ (o = 19 ∧ 21 * r ≤ k ∧ k < 21 * r + 21) ∨ (o = 21 ∧ 1220 * r ≤ k ∧ k < 1220 * r + 1220) → G o k = F o k := fun o k q => fr o k (by omega) (by omega) (by
    unfold tkR
    omega)
  have cd : ∀ j, j < 610 → cd2 G r j = cd2 F r j := fun j hj => by
    unfold cd2
    rw [nt 21 _ (by omega), nt 21 _ (by omega)]
  refine ⟨by rw [nt 14 r (by omega)]; exact m1, m2, fun i hi => ?_⟩
  obtain ⟨a1, a2, a3⟩ := m3 i hi
  refine ⟨by rw [nt 18 _ (by omega)]; exact a1, fun e3 => ?_, fun e4 => ?_⟩
  · obtain ⟨b, w, e, x1, x2, x3, x4, x5, x6, x7⟩ := a2 e3
    have le : w ≤ e := by
      cases eM : (L i).2.2 with
      | none =>
        rw [eM] at x7
        exact Nat.le_of_eq x7
      | some t =>
        rw [eM] at x7
        exact Nat.le_of_lt (sg_lt x7.1 x7.2)
    refine ⟨b, w, e, by rw [nt 19 _ (by omega)]; exact x1, by rw [nt 20 _ (by omega)]; exact x2, by rw [nt 19 _ (by omega)]; exact x3, x4, x5, sg_ag x5 x6 (fun j _ h => cd j (by omega)), ?_⟩
    cases eM : (L i).2.2 with
    | none =>
      rw [eM] at x7
      exact x7
    | some t =>
      rw [eM] at x7
      exact ⟨x7.1, sg_ag x7.1 x7.2 (fun j _ h => cd j (by omega))⟩
  · obtain ⟨b, e, t, x1, x2, x3, x4, x5, x6⟩ := a3 e4
    exact ⟨b, e, t, by rw [nt 19 _ (by omega)]; exact x1, by rw [nt 19 _ (by omega)]; exact x2, x3, x4, x5, sg_ag x5 x6 (fun j _ h => cd j (by omega))⟩
/-- a share is small -/
def G5 (l : Ln) : Prop := l.1 = 5 → rg (lnum l.2.1) 99
theorem pl_G5 {k : Int32} {q : Nat} {x : Ln × Nat} (e : pl c T k q = .inr x) : G5 x.1 := by
  unfold pl at e
  intro h5
  by_cases c3 : k = 3
  · rw [if_pos c3] at e
    cases e1 : pz c T (8 * T + 8) 3 0 (.num 0) q with
    | inl y =>
      rw [e1] at e
      cases e
    | inr y =>
      rw [e1] at e
      have e : (if lK c T y.2 = 8 then pw (pz c T (8 * T + 8) 8 0 (.num 0) (lE c T y.2)) fun z => .inr ((3, y.1, some z.1), z.2) else .inr ((3, y.1, none), y.2)) = (.inr x : (Int32 × Nat) ⊕ (Ln × Nat)) := e
      by_cases c8 : lK c T y.2 = 8
      · rw [if_pos c8] at e
        cases e2 : pz c T (8 * T + 8) 8 0 (.num 0) (lE c T y.2) with
        | inl z =>
          rw [e2] at e
          cases e
        | inr z =>
          rw [e2] at e
          cases e
          cases h5
      · rw [if_neg c8] at e
        cases e
        cases h5
  · rw [if_neg c3] at e
    by_cases c4 : k = 4
    · rw [if_pos c4] at e
      by_cases c8 : lK c T q = 8
      · rw [if_pos c8] at e
        cases e2 : pz c T (8 * T + 8) 8 0 (.num 0) (lE c T q) with
        | inl z =>
          rw [e2] at e
          cases e
        | inr z =>
          rw [e2] at e
          cases e
          cases h5
      · rw [if_neg c8] at e
        cases e
    · rw [if_neg c4] at e
      by_cases c5 : k = 5
      · rw [if_pos c5] at e
        by_cases cq : 150 ≤ lK c T q ∧ lK c T q ≤ 153
        · rw [if_pos cq] at e
          cases e2 : nbr c T 99 (lE c T q) with
          | inl z =>
            rw [e2] at e
            cases e
          | inr z =>
            rw [e2] at e
            have r := nbr_rg e2
            cases e
            show rg (Int32.ofInt z.1.toInt) 99
            rw [Int32.ofInt_toInt]
            exact r
        · rw [if_neg cq] at e
          cases e
      · rw [if_neg c5] at e
        cases e2 : nbr c T (if k = 6 then 9 else 20) q with
        | inl z =>
          rw [e2] at e
          cases e
        | inr z =>
          rw [e2] at e
          cases e
          exact absurd h5 c5
theorem pls_G5 : ∀ (n m : Nat) (L : Nat → Ln) (q : Nat) (x : Nat × (Nat → Ln)), pls c T n m L q = .inr x → (∀ j, j < m → G5 (L j)) → ∀ j, j < x.1 → G5 (x.2 j)
  | 0, m, L, q, x, e, h => by
    have e : (.inl (0, 0) : (Int32 × Nat) ⊕ (Nat × (Nat → Ln))) = .inr x := e
    cases e
  | n + 1, m, L, q, x, e, h => by
    have e : (if lK c T q = 0 then .inr (m, L) else pw (p1 c T m q) fun x => pls c T n (m + 1) (fun j => if j = m then x.1 else L j) x.2) = (.inr x : (Int32 × Nat) ⊕ (Nat × (Nat → Ln))) := e
    by_cases c0 : lK c T q = 0
    · rw [if_pos c0] at e
      cases e
      exact h
    · rw [if_neg c0] at e
      cases e1 : p1 c T m q with
      | inl y =>
        rw [e1] at e
        cases e
      | inr y =>
        rw [e1] at e
        have gy : G5 y.1 := by
          unfold p1 at e1
          by_cases c1 : 3 ≤ lK c T q ∧ lK c T q ≤ 7
          · rw [if_pos c1] at e1
            by_cases c2 : m = 20
            · rw [if_pos c2] at e1
              cases e1
            · rw [if_neg c2] at e1
              cases e2 : pl c T (lK c T q) (lE c T q) with
              | inl z =>
                rw [e2] at e1
                cases e1
              | inr z =>
                rw [e2] at e1
                have e1 : (if lK c T z.2 = 59 then .inr (z.1, lE c T z.2) else .inl (1, lS c T z.2)) = (.inr y : (Int32 × Nat) ⊕ (Ln × Nat)) := e1
                by_cases c3 : lK c T z.2 = 59
                · rw [if_pos c3] at e1
                  cases e1
                  exact pl_G5 (x := z) e2
                · rw [if_neg c3] at e1
                  cases e1
          · rw [if_neg c1] at e1
            cases e1
        refine pls_G5 n (m + 1) _ _ x e fun j hj => ?_
        show G5 (if j = m then y.1 else L j)
        by_cases q : j = m
        · rw [if_pos q]
          exact gy
        · rw [if_neg q]
          exact h j (by omega)
theorem tel_S {R : Nat} {L : Nat → Ln} (s : ivS F) : ∀ m, (∀ j, j < m → G5 (L j)) → ivS (sp_tel R L F m)
  | 0, _ => by
    show ivS (sp_cus F R)
    unfold sp_cus
    refine it_inv (fun (G : xp_F) => ivS G) (fun k G hG x hx => ?_) _ _ _ (fun x hx => ?_)
    · rw [u2_ap]
      split
      · exact ⟨by decide, by decide⟩
      · exact hG x hx
    · rw [u2_ap, if_neg (by omega), u2_ap, if_neg (by omega)]
      exact s x hx
  | m + 1, h => by
    have ih := tel_S (R := R) s m (fun j hj => h j (by omega))
    show ivS (tel1 R (L m) (sp_tel R L F m))
    generalize sp_tel R L F m = G at ih ⊢
    unfold tel1
    split
    · rename_i c5
      intro x hx
      rw [u2_ap]
      split
      · exact h m (Nat.lt_succ_self _) c5
      · exact ih x hx
    · split
      · intro x hx
        rw [u2_ap, if_neg (by omega)]
        exact ih x hx
      · split
        · intro x hx
          rw [u2_ap, if_neg (by omega)]
          exact ih x hx
        · exact ih
/-- where rules may write -/
abbrev ruF (o k : Nat) : Prop := (o = 0 ∧ 34 ≤ k ∧ k ≤ 45) ∨ (14 ≤ o ∧ o ≤ 27) ∨ o = 86 ∨ o = 87 ∨ 101 ≤ o
theorem if_ru (i : IF D F) (fr : ∀ o k, ¬ ruF o k → K o k = F o k) (k36 : K 0 36 = 0) (sh : ivS K) : IF D K := by
  have e : K = fun o k => if ruF o k then K o k else F o k := by
    funext o k
    by_cases c : ruF o k
    · rw [if_pos c]
    · rw [if_neg c]
      exact fr o k c
  obtain ⟨cn, ha, hz, hf, hp, ht, hw, hh, hb, hr, hl, hu, hy, pw, hs, hn, ti, hd⟩ := i
  have ta : TA (fun _ => -1) 0 := ⟨by decide, fun _ _ => rfl, fun j hj => absurd hj (Nat.not_lt_zero _)⟩
  have bt : ivT K := ⟨_, 0, ⟨ta, k36, fun j hj => absurd hj (Nat.not_lt_zero _)⟩, ta, k36, fun j hj => absurd hj (Nat.not_lt_zero _)⟩
  rw [e] at bt sh ⊢
  exact ⟨cn, ha, hz, hf, hp, bt, hw, hh, hb, hr, hl, hu, hy, pw, sh, hn, ti, hd⟩
theorem t_9 (iv : IV M h D F) {r : Int32} : RG M (d + 1000) h D F 18 112 [.int r] := by
  have i := iv.2.2
  have hs := i.2.2.2.2.2.2.2.2.2.2.2.2.2.2.1
  obtain ⟨n0, L00, n1, L1, ⟨m0, m1⟩, r0, r1⟩ := iv.2.1
  obtain ⟨c, T, tp, tc⟩ := i.2.2.2.2.2.1
  by_cases hr : 0 ≤ r ∧ r ≤ 1
  case neg =>
    exact st_same (v := -1) iv (fun _ q _ => c18n (d := d + 999) q hr) (fun _ ms => (c112 (d := d + 892) ms tp (r := r)).1 hr) (fun _ _ _ m => m) (if_ru i (fun o k q => by rw [u2_ap, if_neg (by omega)]) (by rw [u2_ap, if_pos ⟨rfl, rfl⟩]) (fun x hx => by
      rw [u2_ap, if_neg (by omega)]
      exact hs x hx))
  have hr : rg r 1 := rg_le hr.1 hr.2 rfl
  have R2 : r.toNatClampNeg < 2 := by
    have := rg_tc hr
    have := hr.2
    omega
  have T6 : T ≤ 600 := tp.1.1
  have rF : ∀ o j, ¬ ruF o j → ¬ (o = 0 ∧ 34 ≤ j ∧ j ≤ 45) ∧ ¬ (22 ≤ o ∧ o ≤ 27) ∧ ¬ tkR r.toNatClampNeg o j ∧ ¬ o = 86 ∧ ¬ o = 87 ∧ ¬ (o = 0 ∧ (j = 36 ∨ j = 43 ∨ j = 45)) ∧ ¬ (15 ≤ o ∧ o ≤ 17) ∧ ¬ ((o = 14 ∨ o = 101 ∨ o = 102) ∧ j = r.toNatClampNeg) := fun o j q => by
    unfold tkR
    omega
  have cm := fun (hb : xm_H) (ms : MS hb M) => (c112 (d := d + 892) ms tp (r := r)).2 hr
  have cc := fun (hh : xm_H) (q : CS hh D) (w : HW hh D) (v : VN D) (sw : SW hh D) => c18y (d := d + 887) q w v sw tc hr
  cases eP : pls c T (T + 1) 0 L0 0 with
  | inl x =>
    rw [eP] at cm cc
    refine st_one (v := -1) (P := fun F1 h' D' => rucX F x.1 x.2 F1 ∧ D' = D ∧ CR h' D 0 n0 L00 ∧ CR h' D 1 n1 L1) (Q := fun F2 => rulX F x.1 x.2 F2) iv (fun q w v sw _ => ?_) cm (fun h' D' F1 F2 a b o k nk ho => ?_) fun h2 D2 F1 F2 c2 w' q' y a b => ?_
    · obtain ⟨h', G1, e1, q1, w1, y, g⟩ := cc _ q w v sw
      have y := y.mono (z2 := 4000) (s2 := 30000) (by omega) (by omega)
      exact ⟨h', D, G1, e1, q1, w1, v, y, rfl, fun _ => rfl, g, rfl, CR.wx w y (by decide) q rfl (CR.m iv.1.2.2.2.2.1 r0), CR.wx w y (by decide) q rfl (CR.m iv.1.2.2.2.2.1 r1)⟩
    · obtain ⟨⟨p1, p2, p3, p4⟩, -⟩ := a
      obtain ⟨q1, q2, q3, q4⟩ := b
      have nm := nk.1
      by_cases z1 : o = 0 ∧ k = 36
      · rw [z1.1, z1.2, p1, q1]
      by_cases z2 : o = 0 ∧ k = 43
      · rw [z2.1, z2.2, p2, q2]
      by_cases z3 : o = 0 ∧ k = 45
      · rw [z3.1, z3.2, p3, q3]
      rw [p4 o k (by omega) (by omega) (by omega), q4 o k (by omega) (by omega)]
    · obtain ⟨⟨p1, p2, p3, p4⟩, e, c0, c1⟩ := a
      subst e
      obtain ⟨q1, q2, q3, q4⟩ := b
      have fr : ∀ o k, ¬ (o = 0 ∧ 34 ≤ k ∧ k ≤ 45) → ¬ (22 ≤ o ∧ o ≤ 27) → ¬ o = 86 → ¬ o = 87 → mrg F1 F2 o k = F o k := fun o k h1 h2 h3 h4 => by
        by_cases z : o ≤ 70
        · rw [mrg_lo z]
          exact q4 o k h1 h2
        · rw [mrg_hi z]
          exact p4 o k h3 h4 (by omega)
      have mr : ∀ {r n : Nat} {L : Nat → Ln}, MR F r n L → MR (mrg F1 F2) r n L := fun {r n L} m => by
        have e : mrg F1 F2 = fun o k => if (o = 0 ∧ 34 ≤ k ∧ k ≤ 45) ∨ (22 ≤ o ∧ o ≤ 27) ∨ o = 86 ∨ o = 87 then mrg F1 F2 o k else F o k := by
          funext o k
          by_cases z : (o = 0 ∧ 34 ≤ k ∧ k ≤ 45) ∨ (22 ≤ o ∧ o ≤ 27) ∨ o = 86 ∨ o = 87
          · rw [if_pos z]
          · rw [if_neg z]
            exact fr o k (by omega) (by omega) (by omega) (by omega)
        rw [e]
        exact m
      refine ⟨⟨n0, L00, n1, L1, ⟨mr m0, mr m1⟩, c0, c1⟩, if_ru i (fun o k z => fr o k (by omega) (by omega) (by omega) (by omega)) (by rw [mrg_lo (by decide)]; exact q1) fun x hx => ?_⟩
      rw [fr 17 x (by omega) (by omega) (by omega) (by omega)]
      exact hs x hx
  | inr x =>
    rw [eP] at cm cc
    have g5 := pls_G5 _ _ _ _ x eP (fun j hj => absurd hj (Nat.not_lt_zero _))
    refine st_one (v := Int32.ofNat x.1) (P := fun F1 h' D' => rucY F r.toNatClampNeg x.1 x.2 F1 ∧ (∀ j, xd_n D' j = xd_n D j) ∧ (∀ i, xd_m D' i = xd_m D i) ∧ CR h' D' r.toNatClampNeg x.1 x.2 ∧ (¬ 0 = r.toNatClampNeg → CR h' D' 0 n0 L00) ∧ (¬ 1 = r.toNatClampNeg → CR h' D' 1 n1 L1)) (Q := fun F2 => rulY F r.toNatClampNeg x.1 x.2 F2 ∧ x.1 ≤ 20) iv (fun q w v sw _ => ?_) cm (fun h' D' F1 F2 a b o k nk ho => ?_) fun h2 D2 F1 F2 c2 w' q' y a b => ?_
    · obtain ⟨h', D', G1, e1, q1, w1, v1, y, eX, e0, en, em, ea, cr, g⟩ := cc _ q w v sw
      have y := y.mono (z2 := 4000) (s2 := 30000) (by omega) (by omega)
      exact ⟨h', D', G1, e1, q1, w1, v1, y, eX, e0, g, en, em, cr, fun z => CR.wx w y (by decide) q (ea 0 z) (CR.m iv.1.2.2.2.2.1 r0), fun z => CR.wx w y (by decide) q (ea 1 z) (CR.m iv.1.2.2.2.2.1 r1)⟩
    · obtain ⟨⟨p0, pt, p1, p2, p3, p4⟩, -⟩ := a
      obtain ⟨⟨qm, qt, q1, q2, q3, q4⟩, -⟩ := b
      have nm := nk.1
      by_cases z1 : o = 0 ∧ k = 36
      · rw [z1.1, z1.2, p1, q1]
      by_cases z2 : o = 0 ∧ k = 43
      · rw [z2.1, z2.2, p2, q2]
      by_cases z3 : o = 0 ∧ k = 45
      · rw [z3.1, z3.2, p3, q3]
      by_cases z4 : 15 ≤ o ∧ o ≤ 17
      · rw [pt o k z4, qt o k z4]
      by_cases z5 : o = 14 ∧ k = r.toNatClampNeg
      · rw [z5.1, z5.2, p0, qm.1]
      rw [p4 o k (by omega) (by omega) (by omega) z4 (by omega), q4 o k (by omega) (by omega) (by unfold tkR; omega)]
    · obtain ⟨⟨p0, pt, p1, p2, p3, p4⟩, en, em, cR, cr0, cr1⟩ := a
      obtain ⟨⟨qm, qt, q1, q2, q3, q4⟩, -⟩ := b
      have fr : ∀ o k, ¬ ruF o k → mrg F1 F2 o k = F o k := fun o k z => by
        obtain ⟨z1, z2, z3, z4, z5, z6, z7, z8⟩ := rF o k z
        by_cases z : o ≤ 70
        · rw [mrg_lo z]
          exact q4 o k z1 z2 z3
        · rw [mrg_hi z]
          exact p4 o k z4 z5 z6 z7 z8
      have mR : MR (mrg F1 F2) r.toNatClampNeg x.1 x.2 := qm.gP fun o k h1 h2 => mrg_lo (by omega)
      have mo : ∀ {r' n : Nat} {L : Nat → Ln}, r' < 2 → ¬ r' = r.toNatClampNeg → MR F r' n L → MR (mrg F1 F2) r' n L := fun {r' n L} h1 h2 m => m.o h1 R2 h2 fun o k g1 g2 g3 => by
        rw [mrg_lo (by omega)]
        exact q4 o k (by omega) (by omega) g3
      have si : ivS (mrg F1 F2) := fun k hk => by
        rw [mrg_lo (by decide), qt 17 k (by decide)]
        exact tel_S hs _ g5 k hk
      refine ⟨?_, IF_D (n := xd_n D) (m := xd_m D) en em (if_ru i fr (by rw [mrg_lo (by decide)]; exact q1) si)⟩
      by_cases z0 : 0 = r.toNatClampNeg
      · rw [← z0] at mR cR
        exact ⟨x.1, x.2, n1, L1, ⟨mR, mo (by decide) (by omega) m1⟩, cR, cr1 (by omega)⟩
      · have z1 : 1 = r.toNatClampNeg := by omega
        rw [← z1] at mR cR
        exact ⟨n0, L00, x.1, x.2, ⟨mo (by decide) (by omega) m0, mR⟩, cr0 z0, cR⟩
end RULES
