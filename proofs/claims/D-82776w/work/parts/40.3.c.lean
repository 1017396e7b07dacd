/-! sell -/
set_option maxRecDepth 100000
section SELL
variable {d : Nat} {h : xm_H} {D : xp_D} {F G : xp_F} {M : Nat}
theorem pay_z {n : Nat} {i : Nat} {s : Int32} (t : (F 0 6).toNatClampNeg = xd_n D 0) (hf : ∀ l, l < xd_n D 0 → nr (F 9 l) n) (c : xm_in (F 47 i) n = true) (r : xm_in (F 48 i) n = true) : ∀ x, n ≤ x → (sp_pay F i s).2 42 x = F 42 x := by
  unfold sp_pay
  split
  · exact fun _ _ => rfl
  · have tn : ∀ {y : Int32}, xm_in y n = true → y.toNatClampNeg < n := fun {y} e => by
      have := in_iff.mp e
      show y.toInt.toNat < n
      omega
    rw [t]
    refine up_lt (f := sp_pay1 F i s (sp_shares F)) (n := xd_n D 0) (fun (st : Int32 × xp_F) => ∀ x, n ≤ x → st.2 42 x = F 42 x) (fun x hx => ?_) (fun l st hl hs x hx => ?_) _ (Nat.le_refl _)
    · have c1 := tn c
      have r1 := tn r
      unfold sp_pay0
      show xm_u2 (xm_u2 F 42 _ _) 42 _ _ 42 x = _
      rw [u2_ap, if_neg (by omega), u2_ap, if_neg (by omega)]
    · have f1 : ∀ x, n ≤ x → (sp_find1 F i s (sp_shares F) l st).2 42 x = F 42 x := by
        unfold sp_find1
        split
        · exact hs
        · rename_i ne
          intro x hx
          have lf := tn ((hf l hl).resolve_left ne)
          show xm_u2 st.2 42 _ _ 42 x = _
          rw [u2_ap, if_neg (by omega)]
          exact hs x hx
      unfold sp_pay1
      split
      · exact hs x hx
      · unfold sp_own1
        split
        · exact f1 x hx
        · show xm_u2 (sp_find1 F i s (sp_shares F) l st).2 55 (sp_own F i l).toNatClampNeg ((sp_find1 F i s (sp_shares F) l st).2 55 (sp_own F i l).toNatClampNeg + sp_part F i l (sp_due F s 3 (sp_shares F))) 42 x = _
          rw [u2_ap, if_neg (by omega)]
          exact f1 x hx
theorem pays_z (n0 : xd_n D 0 ≤ 12) (hm : ∀ i x y, i < xd_n D 2 → xd_m D i = some (x, y) → x < i ∧ y < i) (n2 : xd_n D 2 ≤ 40) : ∀ (n i : Nat) (s : Int32) (G : xp_F), i < xd_n D 2 → G 0 6 = Int32.ofNat (xd_n D 0) → (∀ l, l < xd_n D 0 → nr (G 9 l) (xd_n D 1)) → LPx D G → ∀ x, xd_n D 1 ≤ x → (sp_pays n i s G).2 42 x = G 42 x
  | 0, _, _, _, _, _, _, _ => fun _ _ => rfl
  | n + 1, i, s, G, hi, e6, hf, lp => by
    have li := lp i hi
    unfold sp_pays
    cases em : xd_m D i with
    | none =>
      rw [em] at li
      rw [if_pos li.1]
      exact pay_z (D := D) (by rw [e6, tc_nat (by omega)]) hf li.2.1 li.2.2
    | some y =>
      obtain ⟨a, b⟩ := y
      rw [em] at li
      have li : G 50 i = Int32.ofNat a ∧ G 51 i = Int32.ofNat b := li
      obtain ⟨ha, hb⟩ := hm i a b hi em
      rw [if_neg (fun z => on_ne (b := a) (by omega) (z.symm.trans li.1)), li.1, li.2, tc_nat (by omega), tc_nat (by omega)]
      intro x hx
      have p1 := pays_pp n a ((s.toInt64 * (G 44 a).toInt64 / (G 44 i).toInt64).toInt32) G
      have q1 := pays_z n0 hm n2 n a ((s.toInt64 * (G 44 a).toInt64 / (G 44 i).toInt64).toInt32) G (by omega) e6 hf lp x hx
      show (sp_pays n b (s - (s.toInt64 * (G 44 a).toInt64 / (G 44 i).toInt64).toInt32) (sp_pays n a ((s.toInt64 * (G 44 a).toInt64 / (G 44 i).toInt64).toInt32) G).2).2 42 x = G 42 x
      generalize (sp_pays n a ((s.toInt64 * (G 44 a).toInt64 / (G 44 i).toInt64).toInt32) G).2 = H at p1 q1 ⊢
      refine (pays_z n0 hm n2 n b _ H (by omega) ((p1 0 6 (by decide) (by decide)).trans e6) (fun l hl => ?_) (fun j hj => ?_) x hx).trans q1
      · rw [p1 9 l (by decide) (by decide)]
        exact hf l hl
      · have := lp j hj
        rw [p1 50 j (by decide) (by decide), p1 51 j (by decide) (by decide), p1 47 j (by decide) (by decide), p1 48 j (by decide) (by decide)]
        exact this
theorem sales_ofB (i : IF D F) (n40 : xd_n D 2 ≤ 40) (n4 : xd_n D 3 ≤ 4) : ofB (sp_sales0 F) (sp_salesN F) (xd_n D 3) ∧ (∀ j, ofW (sp_sales0 F) j = (F 44 (sp_sales F 60 j).toNatClampNeg).toInt) ∧ (∀ b, sp_sales0 F 59 b = F 59 b) ∧ ∀ j, j < sp_salesN F → (sp_sales F 60 j).toNatClampNeg < xd_n D 2 := by
  obtain ⟨cn, ha, hz, hf, hp, ht, hw, hh, hb, hr, hl, ⟨lv, u1, u2, u3⟩, hy, pw, hs, hn, ti, hd⟩ := i
  have r40 : rg (F 0 68) 40 := by rw [cn.2.2.1]; exact ⟨by rw [ti_nat (by omega)]; omega, by rw [ti_nat (by omega)]; omega⟩
  obtain ⟨k, ls1⟩ := listed_ls r40
  obtain ⟨m, l1, l2, l3, l4, l5⟩ := ls1
  obtain ⟨s1, s2, s3⟩ := @sales0_of F
  obtain ⟨v1, v2, v3⟩ := sales_n r40
  have f0 : ∀ o x, ¬ o = 63 → ¬ o = 60 → ¬ (o = 0 ∧ (x = 92 ∨ x = 93)) → sp_sales0 F o x = F o x := fun o x h1 h2 h3 => (s3 o x h1 (by omega)).trans (l5 o x h2 (by omega))
  have e60 : ∀ j, sp_sales F 60 j = sp_sales0 F 60 j := fun j => offers_sq _ _ _ _ _ 60 j (by decide) (by decide) (by decide) (by omega)
  have li : ∀ j, j < sp_salesN F → (sp_sales F 60 j).toNatClampNeg < xd_n D 2 := fun j hj => by
    obtain ⟨a1, a2⟩ := v3 j hj
    have a1 := in_iff.mp a1
    have a2 := Int32.lt_iff_toInt_lt.mp a2
    rw [cn.2.2.1, ti_nat (by omega)] at a2
    show (sp_sales F 60 j).toInt.toNat < xd_n D 2
    omega
  have ew : ∀ j, ofW (sp_sales0 F) j = (F 44 (sp_sales F 60 j).toNatClampNeg).toInt := fun j => by
    unfold ofW
    rw [f0 44 _ (by decide) (by decide) (by omega), e60]
  refine ⟨⟨v1, n4, ?_, fun j hj => ?_, fun b hb => ?_⟩, ew, fun b => f0 59 b (by decide) (by decide) (by omega), li⟩
  · rw [f0 0 83 (by decide) (by decide) (by decide), cn.2.2.2, tc_nat (by omega)]
  · rw [ew]
    obtain ⟨b1, b2, b3⟩ := u2 _ (li j hj)
    omega
  · rw [f0 59 b (by decide) (by decide) (by omega), f0 58 b (by decide) (by decide) (by omega)]
    exact hy b hb
theorem sales_ok (i : IF D F) (n40 : xd_n D 2 ≤ 40) (n4 : xd_n D 3 ≤ 4) : ofK (sp_sales0 F) (sp_salesN F) (xd_n D 3) (sp_sales F) := by
  obtain ⟨b, -, -, -⟩ := sales_ofB i n40 n4
  refine offers_ok b (sp_salesN F) 0 0 0 (sp_sales0 F) (Nat.zero_add _) sq.rf ⟨fun x hx => ?_, fun j hj => absurd hj (Nat.not_lt_zero _)⟩ (Or.inl ?_) (by decide) (by decide)
  · rw [sales0_63 (by omega)]
    exact ⟨rfl, (b.2.2.2.2 x hx).1.1⟩
  · rw [sales0_ne (by decide), u2_ap, if_pos ⟨rfl, rfl⟩]
theorem sum_le {f g : Nat → Nat} : ∀ n, (∀ i, i < n → f i ≤ g i) → sumf f n ≤ sumf g n
  | 0, _ => Nat.le_refl _
  | n + 1, h => by
    have := sum_le (f := f) (g := g) n (fun i hi => h i (by omega))
    have := h n (Nat.lt_succ_self _)
    show sumf f n + f n ≤ sumf g n + g n
    omega
theorem sum_bd {f : Nat → Nat} {m : Nat} : ∀ n, (∀ i, i < n → f i ≤ m) → sumf f n ≤ m * n
  | 0, _ => Nat.zero_le _
  | n + 1, h => by
    have := sum_bd (f := f) (m := m) n (fun i hi => h i (by omega))
    have := h n (Nat.lt_succ_self _)
    show sumf f n + f n ≤ m * (n + 1)
    rw [Nat.mul_succ]
    omega
/-- after k of what is sold -/
def selI (D : xp_D) (F : xp_F) (k : Nat) (G : xp_F) : Prop := (∀ o x, ¬ (o = 42 ∨ o = 54 ∨ o = 55 ∨ o = 59 ∨ (o = 0 ∧ x = 70)) → G o x = sp_sales F o x) ∧ (∀ b, b < xd_n D 3 → (G 59 b).toInt = (F 59 b).toInt - smz (fun j => if sp_sales F 62 j = Int32.ofNat b then ofW (sp_sales0 F) j else 0) k) ∧ (∀ x, G 54 x = 0 ∨ G 54 x = F 54 x) ∧ ∀ x, xd_n D 1 ≤ x → G 42 x = F 42 x
theorem sell_I (i : IF D F) (n12 : xd_n D 0 ≤ 12) (n40 : xd_n D 2 ≤ 40) (n4 : xd_n D 3 ≤ 4) (hm : ∀ i x y, i < xd_n D 2 → xd_m D i = some (x, y) → x < i ∧ y < i) : selI D F (sp_salesN F) (sp_sell F) := by
  obtain ⟨ob, ew, et, li⟩ := sales_ofB i n40 n4
  obtain ⟨k1, k2⟩ := sales_ok i n40 n4
  obtain ⟨cn, ha, hz, hf, hp, ht, hw, hh, hb, hr, ⟨l1, l2, l3⟩, hu, hy, pw, hs, hn, ti, hd⟩ := i
  have r40 : rg (F 0 68) 40 := by rw [cn.2.2.1]; exact ⟨by rw [ti_nat (by omega)]; omega, by rw [ti_nat (by omega)]; omega⟩
  have sS : ∀ o x, o = 44 ∨ o = 42 ∨ o = 54 ∨ o = 59 ∨ o = 9 ∨ o = 47 ∨ o = 48 ∨ o = 50 ∨ o = 51 ∨ (o = 0 ∧ x = 6) → sp_sales F o x = F o x := fun o x ho => sales_sq r40 o x (by omega) (by omega) (by omega) (by omega) (by omega)
  refine it_up (f := sp_sell1) (n := sp_salesN F) (selI D F) (fun k G hk a => ?_) _ 0 _ (Nat.zero_add _) ⟨fun _ _ _ => rfl, fun b hb => ?_, fun x => Or.inr (sS 54 x (by omega)), fun x hx => sS 42 x (by omega)⟩
  · obtain ⟨a1, a2, a3, a4⟩ := a
    have g62 : G 62 k = sp_sales F 62 k := a1 62 k (by omega)
    have g60 : G 60 k = sp_sales F 60 k := a1 60 k (by omega)
    unfold sp_sell1
    by_cases c : G 62 k = -1
    · rw [if_pos c]
      refine ⟨a1, fun b hb => ?_, a3, a4⟩
      show _ = _ - (smz _ k + (if sp_sales F 62 k = Int32.ofNat b then ofW (sp_sales0 F) k else 0))
      rw [← g62, c, if_neg (on_ne (by omega)), Int.add_zero]
      exact a2 b hb
    · rw [if_neg c]
      obtain ⟨b0, hb0, eb⟩ := (k1 k hk).resolve_left (fun z => c (g62.trans z))
      have lk := li k hk
      have ek := ew k
      rw [g62, g60, eb, tc_nat (by omega)]
      generalize (sp_sales F 60 k).toNatClampNeg = ik at lk ek ⊢
      have u44 : G 44 ik = F 44 ik := (a1 44 ik (by omega)).trans (sS 44 ik (by omega))
      show selI D F (k + 1) (xm_u2 (sp_pays 40 ik (G 58 b0 * G 44 ik) (xm_u2 (xm_u2 G 54 ik 0) 59 b0 (G 59 b0 - G 44 ik))).2 0 70 (G 0 70 + (sp_pays 40 ik (G 58 b0 * G 44 ik) (xm_u2 (xm_u2 G 54 ik 0) 59 b0 (G 59 b0 - G 44 ik))).1))
      have fr : ∀ o x, ¬ (o = 54 ∧ x = ik) → ¬ (o = 59 ∧ x = b0) → xm_u2 (xm_u2 G 54 ik 0) 59 b0 (G 59 b0 - G 44 ik) o x = G o x := fun o x h1 h2 => by
        rw [u2_ap, if_neg h2, u2_ap, if_neg h1]
      have v59 : xm_u2 (xm_u2 G 54 ik 0) 59 b0 (G 59 b0 - G 44 ik) 59 b0 = G 59 b0 - F 44 ik := by
        rw [u2_ap, if_pos ⟨rfl, rfl⟩, u44]
      have v54 : xm_u2 (xm_u2 G 54 ik 0) 59 b0 (G 59 b0 - G 44 ik) 54 ik = 0 := by
        rw [u2_ap, if_neg (by omega), u2_ap, if_pos ⟨rfl, rfl⟩]
      generalize xm_u2 (xm_u2 G 54 ik 0) 59 b0 (G 59 b0 - G 44 ik) = G1 at fr v59 v54 ⊢
      have gs : ∀ o x, o = 9 ∨ o = 47 ∨ o = 48 ∨ o = 50 ∨ o = 51 ∨ (o = 0 ∧ x = 6) → G1 o x = F o x := fun o x ho => (fr o x (by omega) (by omega)).trans ((a1 o x (by omega)).trans (sS o x (by omega)))
      have pz := pays_z n12 hm n40 40 ik (G 58 b0 * G 44 ik) G1 lk ((gs 0 6 (by omega)).trans cn.1) (fun l hl => by rw [gs 9 l (by omega)]; exact pw.2.1 l hl) (fun j hj => by
        have := l3 j hj
        rw [gs 50 j (by omega), gs 51 j (by omega), gs 47 j (by omega), gs 48 j (by omega)]
        exact this)
      have pq1 := pays_pp 40 ik (G 58 b0 * G 44 ik) G1
      generalize sp_pays 40 ik (G 58 b0 * G 44 ik) G1 = P at pz pq1 ⊢
      have pr : ∀ o x, ¬ o = 42 → ¬ o = 55 → ¬ (o = 0 ∧ x = 70) → xm_u2 P.2 0 70 (G 0 70 + P.1) o x = G1 o x := fun o x h1 h2 h3 => by
        rw [u2_ap, if_neg h3]
        exact pq1 o x h1 h2
      refine ⟨fun o x ho => ?_, fun b hb => ?_, fun x => ?_, fun x hx => ?_⟩
      · rw [pr o x (by omega) (by omega) (by omega), fr o x (by omega) (by omega)]
        exact a1 o x ho
      · rw [pr 59 b (by decide) (by decide) (by omega)]
        show _ = _ - (smz _ k + (if sp_sales F 62 k = Int32.ofNat b then ofW (sp_sales0 F) k else 0))
        have ab := a2 b hb
        by_cases z : b = b0
        · rw [if_pos (by rw [eb, z]), z, v59]
          rw [z] at ab
          have sm := smz_mono (f := fun j => if sp_sales F 62 j = Int32.ofNat b0 then ofW (sp_sales0 F) j else 0) (n := sp_salesN F) (fun j hj => by
            show 0 ≤ (if sp_sales F 62 j = Int32.ofNat b0 then ofW (sp_sales0 F) j else 0)
            split
            · exact (ob.2.2.2.1 j hj).1
            · exact Int.le_refl _) (k + 1) (by omega)
          have sm : smz (fun j => if sp_sales F 62 j = Int32.ofNat b0 then ofW (sp_sales0 F) j else 0) k + (if sp_sales F 62 k = Int32.ofNat b0 then ofW (sp_sales0 F) k else 0) ≤ smz (fun j => if sp_sales F 62 j = Int32.ofNat b0 then ofW (sp_sales0 F) j else 0) (sp_salesN F) := sm
          have sn := smz_nn (f := fun j => if sp_sales F 62 j = Int32.ofNat b0 then ofW (sp_sales0 F) j else 0) (n := k) (fun j hj => by
            show 0 ≤ (if sp_sales F 62 j = Int32.ofNat b0 then ofW (sp_sales0 F) j else 0)
            split
            · exact (ob.2.2.2.1 j (by omega)).1
            · exact Int.le_refl _)
          have kb := k2 b0 hb0
          rw [et] at kb
          rw [if_pos eb] at sm
          have w0 := (ob.2.2.2.1 k hk).1
          have t9 := (hy b0 hb0).1.2
          rw [ti_sub (by omega), ← ek]
          omega
        · rw [if_neg (fun y => z (by
            rw [eb] at y
            exact (on_inj (by omega) (by omega) y).symm)), Int.add_zero, fr 59 b (by omega) (by omega)]
          exact ab
      · rw [pr 54 x (by decide) (by decide) (by omega)]
        by_cases z : x = ik
        · rw [z]
          exact Or.inl v54
        · rw [fr 54 x (by omega) (by omega)]
          exact a3 x
      · rw [u2_ap, if_neg (by omega), pz x hx, fr 42 x (by omega) (by omega)]
        exact a4 x hx
  · show _ = _ - 0
    rw [sS 59 b (by omega), Int.sub_zero]
theorem if_sell (i : IF D F) (n12 : xd_n D 0 ≤ 12) (n40 : xd_n D 2 ≤ 40) (n4 : xd_n D 3 ≤ 4) (hm : ∀ i x y, i < xd_n D 2 → xd_m D i = some (x, y) → x < i ∧ y < i) : IF D (sp_sell F) ∧ ∀ o j, 14 ≤ o → o < 29 → sp_sell F o j = F o j := by
  obtain ⟨ob, ew, et, li⟩ := sales_ofB i n40 n4
  obtain ⟨k1, k2⟩ := sales_ok i n40 n4
  obtain ⟨a1, a2, a3, a4⟩ := sell_I i n12 n40 n4 hm
  obtain ⟨cn, ha, hz, hf, hp, ht, hw, hh, hb, hr, hl, ⟨lv, u1, u2, u3⟩, hy, pw, hs, hn, ti, hd⟩ := i
  have r40 : rg (F 0 68) 40 := by rw [cn.2.2.1]; exact ⟨by rw [ti_nat (by omega)]; omega, by rw [ti_nat (by omega)]; omega⟩
  have fr : ∀ o x, ¬ (o = 42 ∨ o = 54 ∨ o = 55 ∨ (59 ≤ o ∧ o ≤ 63) ∨ (o = 0 ∧ (x = 70 ∨ x = 92 ∨ x = 93 ∨ x = 94))) → sp_sell F o x = F o x := fun o x ho => (a1 o x (by omega)).trans (sales_sq r40 o x (by omega) (by omega) (by omega) (by omega) (by omega))
  generalize sp_sell F = K at a1 a2 a3 a4 fr ⊢
  refine ⟨?_, fun o j h1 h2 => fr o j (by omega)⟩
  have e : K = fun o x => if o = 42 ∨ o = 54 ∨ o = 55 ∨ (59 ≤ o ∧ o ≤ 63) ∨ (o = 0 ∧ (x = 70 ∨ x = 92 ∨ x = 93 ∨ x = 94)) then K o x else F o x := by
    funext o x
    by_cases c : o = 42 ∨ o = 54 ∨ o = 55 ∨ (59 ≤ o ∧ o ≤ 63) ∨ (o = 0 ∧ (x = 70 ∨ x = 92 ∨ x = 93 ∨ x = 94))
    · rw [if_pos c]
    · rw [if_neg c]
      exact fr o x c
  have b1 : ivP D K := by
    refine ⟨fun n h1 => ?_, fun n h1 => ?_⟩
    · rw [fr 40 n (by omega), fr 41 n (by omega), a4 n h1]
      exact hp.1 n h1
    · rw [fr 40 n (by omega)]
      exact hp.2 n h1
  have b2 : ivU D K := by
    refine ⟨lv, u1, fun i hi => ?_, Nat.le_trans (sum_le _ fun i hi => ?_) u3⟩
    · rw [fr 44 i (by omega)]
      exact u2 i hi
    · show (if K 54 i = 0 then 0 else lv i) ≤ (if F 54 i = 0 then 0 else lv i)
      rcases a3 i with z | z
      · rw [if_pos z]
        exact Nat.zero_le _
      · rw [z]
        exact Nat.le_refl _
  have b3 : ivY D K := fun b hb => by
    obtain ⟨⟨t0, t1⟩, t2⟩ := hy b hb
    have kb := k2 b hb
    rw [et] at kb
    have ab := a2 b hb
    have sn := smz_nn (f := fun j => if sp_sales F 62 j = Int32.ofNat b then ofW (sp_sales0 F) j else 0) (n := sp_salesN F) (fun j hj => by
      show 0 ≤ (if sp_sales F 62 j = Int32.ofNat b then ofW (sp_sales0 F) j else 0)
      split
      · exact (ob.2.2.2.1 j hj).1
      · exact Int.le_refl _)
    rw [fr 58 b (by omega)]
    exact ⟨⟨by omega, by omega⟩, t2⟩
  rw [e] at b1 b2 b3 ⊢
  exact ⟨cn, ha, hz, hf, b1, ht, hw, hh, hb, hr, hl, b2, b3, pw, hs, hn, ti, hd⟩
theorem sh_nn (hs : ivS F) : 0 ≤ (sp_shares F).toInt := by
  unfold sp_shares
  obtain ⟨a0, a1⟩ := hs 0 (by decide)
  obtain ⟨b0, b1⟩ := hs 1 (by decide)
  obtain ⟨c0, c1⟩ := hs 2 (by decide)
  obtain ⟨d0, d1⟩ := hs 3 (by decide)
  have e1 : (F 17 0 + F 17 1).toInt = (F 17 0).toInt + (F 17 1).toInt := ti_add (by omega)
  have e2 : (F 17 0 + F 17 1 + F 17 2).toInt = (F 17 0).toInt + (F 17 1).toInt + (F 17 2).toInt := by rw [ti_add (by rw [e1]; omega), e1]
  rw [ti_add (by rw [e2]; omega), e2]
  omega
theorem t_28 (iv : IV M h D F) : RG M (d + 1000) h D F 58 171 [] := by
  have i := iv.2.2
  obtain ⟨n12, n16, n40, n4⟩ := cs_n iv.q
  have hm := cs_ml iv.q
  obtain ⟨ob, ew, et, li⟩ := sales_ofB i n40 n4
  obtain ⟨k1, k2⟩ := sales_ok i n40 n4
  obtain ⟨f1, f2⟩ := if_sell i n12 n40 n4 hm
  obtain ⟨cn, ha, hz, hf, hp, ht, hw, hh, hb, hr, ⟨l1, l2, l3⟩, ⟨lv, u1, u2, u3⟩, hy, pw, hs, hn, ti, hd⟩ := iv.2.2
  have un : ∀ i, i < xd_n D 2 → ¬ (F 44 i).toInt64 = 0 := fun i hi => l_ne (u2 i hi).2.1
  have lpw : LPw D F := fun i hi => ⟨un i hi, l3 i hi⟩
  have nrs : ∀ k, k < sp_salesN F → nr (sp_sales F 62 k) (xd_n D 3) := fun k hk => by
    rcases k1 k hk with e | ⟨b, hb, e⟩
    · exact Or.inl e
    · rw [e]
      exact Or.inr (in_nat hb (by omega)).1
  have fw : FW F := by
    refine ⟨cn.l iv.q, pw.1, fun l => ?_, pw.2.2, fun z => ?_⟩
    · by_cases c : l < xd_n D 0
      · exact nr_mono (pw.2.1 l c) n16
      · rw [hf l (by omega)]
        exact Or.inr (by decide)
    · false_or_by_contra
      rename_i ne
      have nn := sh_nn hs
      have : ¬ (sp_shares F).toInt = 0 := fun y => ne (Int32.toInt_inj.mp (y.trans rfl))
      exact l_ne (show 0 < (sp_shares F).toInt by omega) z
  have lw : ∀ i, i < (F 0 68).toNatClampNeg → LW F i := fun i hi => by
    rw [cn.2.2.1, tc_nat (by omega)] at hi
    refine ⟨un i hi, ?_⟩
    have l := l3 i hi
    cases em : xd_m D i with
    | none =>
      rw [em] at l
      exact Or.inl ⟨l.1, in_mono l.2.1 n16, in_mono l.2.2 n16⟩
    | some y =>
      obtain ⟨a, b⟩ := y
      rw [em] at l
      obtain ⟨x1, x2⟩ := hm i a b hi em
      exact Or.inr ⟨a, b, l.1, l.2, x1, x2⟩
  have sb : sumf (fun k => lv (sp_sales F 60 k).toNatClampNeg) (sp_salesN F) ≤ 320 := by
    have := sum_bd (f := fun k => lv (sp_sales F 60 k).toNatClampNeg) (m := 40) (sp_salesN F) (fun k hk => (u2 _ (li k hk)).1)
    have := ob.1
    omega
  refine st_gx (P := fun F1 D' => F1 = sp_sell F ∧ D' = D) (Q := fun F2 => F2 = sp_sell F) iv (fun hh q w v ru => ?_) (fun hb ms => ⟨_, c171 (d := d + 959) ms (cn.i iv.q) (cn.b iv.q) fw lw (fun k hk => nr_mono (nrs k hk) n4), rfl⟩) (fun D' F1 F2 a b _ _ _ _ => by rw [a.1, b]) fun D2 F1 F2 _ a b => ?_
  · obtain ⟨h', m1, x, w'⟩ := c58 (d := d + 957) u1 q w v.vis cn (if_ws iv.2.2) ⟨cn.1, pw, sh_nn hs⟩ lpw nrs
    exact ⟨h', D, _, m1, (GX.of q v w x w').mono (by omega) (by omega), rfl, rfl⟩
  · obtain ⟨a, e⟩ := a
    subst e
    rw [a, b, mrg_s]
    exact ⟨fun r n L m => m.gP f2, f1⟩
end SELL
