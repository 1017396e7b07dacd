/-! new customs stand -/
set_option maxRecDepth 100000
section CUM
variable {d : Nat} {h h' h2 : xm_H} {D D' D2 : xp_D} {F G : xp_F} {z s : Nat}
abbrev nH18 (h : xm_H) (D : xp_D) (r row : Nat) : xm_H := xm_sR (xm_sI (xm_sR (xm_nw (xm_nw (xm_sR h (xd_A D 0 16) r (some row)) 4 0 5) 100 4 4) (xm_Z h) 0 (some (xm_Z h + 1))) (xm_Z h) 2 20) (xd_A D 0 19) r (some (xm_Z h))
theorem n18_K {r row a : Nat} : xm_K (nH18 h D r row) a = if a = xm_Z h + 1 then 100 else if a = xm_Z h then 4 else xm_K h a := rfl
theorem n18_N {r row a : Nat} : xm_N (nH18 h D r row) a = if a = xm_Z h + 1 then 4 else if a = xm_Z h then 0 else xm_N h a := rfl
theorem n18_R {r row a p : Nat} : xm_R (nH18 h D r row) a p = if a = xd_A D 0 19 ∧ p = r then some (xm_Z h) else if a = xm_Z h ∧ p = 0 then some (xm_Z h + 1) else if a = xm_Z h + 1 then none else if a = xm_Z h then none else if a = xd_A D 0 16 ∧ p = r then some row else xm_R h a p := by
  rw [h_R_sR]
  by_cases c1 : a = xd_A D 0 19 ∧ p = r
  · rw [if_pos c1, if_pos c1]
  rw [if_neg c1, if_neg c1]
  show xm_R (xm_sR (xm_nw (xm_nw (xm_sR h (xd_A D 0 16) r (some row)) 4 0 5) 100 4 4) (xm_Z h) 0 (some (xm_Z h + 1))) a p = _
  rw [h_R_sR]
  by_cases c2 : a = xm_Z h ∧ p = 0
  · rw [if_pos c2, if_pos c2]
  rw [if_neg c2, if_neg c2, h_R_nw, h_R_nw, h_R_sR]
  rfl
theorem n18_I {r row a p : Nat} : xm_I (nH18 h D r row) a p = if a = xm_Z h ∧ p = 2 then 20 else if a = xm_Z h + 1 then 0 else if a = xm_Z h then 0 else xm_I h a p := by
  show xm_I (xm_sI (xm_sR (xm_nw (xm_nw (xm_sR h (xd_A D 0 16) r (some row)) 4 0 5) 100 4 4) (xm_Z h) 0 (some (xm_Z h + 1))) (xm_Z h) 2 20) a p = _
  rw [h_I_sI]
  by_cases c2 : a = xm_Z h ∧ p = 2
  · rw [if_pos c2, if_pos c2]
  rw [if_neg c2, if_neg c2]
  show xm_I (xm_nw (xm_nw (xm_sR h (xd_A D 0 16) r (some row)) 4 0 5) 100 4 4) a p = _
  rw [h_I_nw, h_I_nw]
  rfl
theorem cus_new (q : CS h D) (w : HW h D) (v : VN D) {r row : Nat} (hr : r < 2) (k1 : xm_K h row = 113) (k2 : xm_N h row = 20) (k3 : xm_B h ≤ row) : CS (xp_c (nH18 h D r row) D G) (nD18 D r (xm_Z h) row) ∧ HW (xp_c (nH18 h D r row) D G) (nD18 D r (xm_Z h) row) ∧ VN (nD18 D r (xm_Z h) row) ∧ wx 2 9 h D (xp_c (nH18 h D r row) D G) (nD18 D r (xm_Z h) row) ∧ xp_c (nH18 h D r row) D G = xp_c (xp_c (nH18 h D r row) D G) (nD18 D r (xm_Z h) row) (sp_cu2 G r) := by
  have k16 := (cs_f16 q).2.1
  have k19 := (cs_f19 q).2.1
  have z16 := w.lt k16 (by decide)
  have z19 := w.lt k19 (by decide)
  have zr := w.lt k1 (by decide)
  have ne : ¬ xd_A D 0 16 = xd_A D 0 19 := fun y => by
    rw [y, k19] at k16
    exact absurd k16 (by decide)
  have qu := cs_U q hr
  have qu8 := cs_U8 q hr
  have z7 := w.lt qu.2.1 (by decide)
  have z8 := w.lt qu.2.2.2.2.2.2.2.2.1 (by decide)
  have Bz := w.1
  have eE : ∀ a p, a < xm_Z h → ¬ a = xd_A D 7 r → ¬ a = xd_A D 8 r → nE18 D r (xm_Z h) a p = xd_E D a p := fun a p ha h7 h8 => by
    unfold nE18
    rw [if_neg (by omega), if_neg (by omega), if_neg (by rintro (y | y); exact h7 y; exact h8 y)]
  have e0 : ∀ p, nE18 D r (xm_Z h) (xm_Z h) p = enm cs_custom r p := fun p => by
    unfold nE18
    rw [if_pos rfl]
  have e1 : ∀ k, k < 4 → nE18 D r (xm_Z h) (xm_Z h + 1) k = some (17, 4 * r + k) := fun k hk => by
    unfold nE18
    rw [if_neg (by omega), if_pos rfl, if_pos hk]
  have A7 : xd_A (nD18 D r (xm_Z h) row) 7 r = xm_Z h := if_pos ⟨rfl, rfl⟩
  have A8 : xd_A (nD18 D r (xm_Z h) row) 8 r = xm_Z h + 1 := by
    show (if 8 = 7 ∧ r = r then xm_Z h else if 8 = 8 ∧ r = r then xm_Z h + 1 else _) = _
    rw [if_neg (by omega), if_pos ⟨rfl, rfl⟩]
  have A9 : xd_A (nD18 D r (xm_Z h) row) 9 r = row := by
    show (if 9 = 7 ∧ r = r then xm_Z h else if 9 = 8 ∧ r = r then xm_Z h + 1 else if 9 = 9 ∧ r = r then row else _) = _
    rw [if_neg (by omega), if_neg (by omega), if_pos ⟨rfl, rfl⟩]
  have cs : CS (nH18 h D r row) (nD18 D r (xm_Z h) row) := by
    refine CS.cus (D' := nD18 D r (xm_Z h) row) q w hr rfl (fun a ha => ⟨by rw [n18_K, if_neg (by omega), if_neg (by omega)], by rw [n18_N, if_neg (by omega), if_neg (by omega)]⟩) (fun a p ha h16 h19 h15 => by rw [n18_R, if_neg h19, if_neg (by omega), if_neg (by omega), if_neg (by omega), if_neg h16]) eE (fun a p _ => rfl) (nE_inj q w hr (Nat.le_refl _)) rfl (fun k i hk => ?_) (fun j => rfl) (fun i => rfl) ?_ ?_
    · show (if k = 7 ∧ i = r then xm_Z h else if k = 8 ∧ i = r then xm_Z h + 1 else if k = 9 ∧ i = r then row else D.2.2.2.1 k i) = D.2.2.2.1 k i
      rw [if_neg (by omega), if_neg (by omega), if_neg (by omega)]
    · rw [A7, A8]
      refine ⟨by rw [n18_R, if_pos ⟨rfl, rfl⟩], ⟨by rw [n18_K, if_neg (by omega), if_pos rfl], Bz, fun y hy => (e0 _).trans (enm_get (by decide) y hy)⟩, by rw [n18_R, if_neg (by omega), if_pos ⟨rfl, rfl⟩], by rw [n18_K, if_pos rfl], by rw [n18_N, if_pos rfl], by show xm_B h ≤ _; omega, e1⟩
    · rw [A9]
      refine ⟨by rw [n18_R, if_neg (fun y => ne y.1), if_neg (by omega), if_neg (by omega), if_neg (by omega), if_pos ⟨rfl, rfl⟩], by rw [n18_K, if_neg (by omega), if_neg (by omega)]; exact k1, by rw [n18_N, if_neg (by omega), if_neg (by omega)]; exact k2, k3⟩
  have zz : xm_Z (nH18 h D r row) = xm_Z h + 2 := rfl
  refine ⟨cs, ⟨by show xm_B h ≤ xm_Z h + 2; omega, fun a p ha => ⟨?_, ?_⟩, fun a ha => ?_⟩, fun a p x hx => ?_, ⟨rfl, rfl, by show xm_Z h ≤ xm_Z h + 2; omega, Nat.le_refl _, by show xm_S h + 5 + 4 ≤ xm_S h + 9; omega, fun a ha => ⟨?_, ?_, fun p => ⟨fun hn => ?_, fun en => ⟨?_, ?_⟩⟩⟩⟩, ?_⟩
  · have ha : xm_Z h + 2 ≤ a := ha
    show nE18 D r (xm_Z h) a p = none
    rw [show nE18 D r (xm_Z h) a p = xd_E D a p by
      unfold nE18
      rw [if_neg (by omega), if_neg (by omega), if_neg (by omega)]]
    exact (w.2.1 a p (by omega)).1
  · have ha : xm_Z h + 2 ≤ a := ha
    exact (w.2.1 a p (by omega)).2
  · have ha : xm_Z h + 2 ≤ a := ha
    show xm_K (nH18 h D r row) a = 0
    rw [n18_K, if_neg (by omega), if_neg (by omega)]
    exact w.2.2 a (by omega)
  · show nok (xd_n D 0) (xd_n D 1) (xd_n D 2) (xd_n D 3) x.1 x.2
    rcases hx with hx | hx
    · have hx : nE18 D r (xm_Z h) a p = some x := hx
      by_cases c0 : a = xm_Z h
      · rw [c0, e0] at hx
        have m := enm_mem hx
        rcases cu_mem _ m.2 with n | n | n | n
        · rw [show x = (15, r) from Prod.ext n m.1]
          exact v _ _ _ (Or.inl qu.2.2.2.1)
        · rw [show x = (16, r) from Prod.ext n m.1]
          exact v _ _ _ (Or.inl qu.2.2.2.2.1)
        · rw [show x = (101, r) from Prod.ext n m.1]
          exact v _ _ _ (Or.inl qu.2.2.2.2.2.1)
        · rw [show x = (102, r) from Prod.ext n m.1]
          exact v _ _ _ (Or.inl qu.2.2.2.2.2.2.1)
      · by_cases c1 : a = xm_Z h + 1
        · rw [c1] at hx
          unfold nE18 at hx
          rw [if_neg (by omega), if_pos rfl] at hx
          by_cases p4 : p < 4
          · rw [if_pos p4] at hx
            rw [← Option.some.inj hx]
            exact v _ _ _ (Or.inl (qu8 p p4))
          · rw [if_neg p4] at hx
            cases hx
        · exact v _ _ _ (Or.inl (nE_old q hr c0 c1 hx).1)
    · exact v _ _ _ (Or.inr hx)
  · show xm_K (nH18 h D r row) a = _
    rw [n18_K, if_neg (by omega), if_neg (by omega)]
  · show xm_N (nH18 h D r row) a = _
    rw [n18_N, if_neg (by omega), if_neg (by omega)]
  · show xm_R (nH18 h D r row) a p = _
    rw [n18_R, if_neg (fun y => by rw [y.1] at hn; omega), if_neg (by omega), if_neg (by omega), if_neg (by omega), if_neg (fun y => by rw [y.1] at hn; omega)]
  · show nE18 D r (xm_Z h) a p = none
    unfold nE18
    rw [if_neg (by omega), if_neg (by omega)]
    split
    · rfl
    · exact en
  · rw [mc_I, en, va_In, n18_I, if_neg (by omega), if_neg (by omega), if_neg (by omega)]
  · obtain ⟨u1, u2, u3, u4, u5⟩ := cu2_new (F := G) (r := r)
    have nn : ∀ p, xd_E D (xm_Z h) p = none := fun p => (w.2.1 _ p (Nat.le_refl _)).1
    have nn1 : ∀ p, xd_E D (xm_Z h + 1) p = none := fun p => (w.2.1 _ p (Nat.le_succ _)).1
    refine same_put (fun a p x hx => ?_) (fun a p x hx => ?_)
    · have hx : nE18 D r (xm_Z h) a p = some x := hx
      by_cases c0 : a = xm_Z h
      · rw [c0, e0] at hx
        rw [c0, mc_I, nn, va_In, n18_I]
        have m := enm_mem hx
        rcases cu_mem _ m.2 with n | n | n | n
        · have hp : p = 1 := enm_inj (i := r) (by decide) (hx.trans (congrArg some (show x = (15, r) from Prod.ext n m.1))) (show enm cs_custom r 1 = some (15, r) from rfl)
          rw [hp, if_neg (by omega), if_neg (by omega), if_pos rfl, show x = (15, r) from Prod.ext n m.1]
          exact u1
        · have hp : p = 2 := enm_inj (i := r) (by decide) (hx.trans (congrArg some (show x = (16, r) from Prod.ext n m.1))) (show enm cs_custom r 2 = some (16, r) from rfl)
          rw [hp, if_pos ⟨rfl, rfl⟩, show x = (16, r) from Prod.ext n m.1]
          exact u2
        · have hp : p = 3 := enm_inj (i := r) (by decide) (hx.trans (congrArg some (show x = (101, r) from Prod.ext n m.1))) (show enm cs_custom r 3 = some (101, r) from rfl)
          rw [hp, if_neg (by omega), if_neg (by omega), if_pos rfl, show x = (101, r) from Prod.ext n m.1]
          exact u3
        · have hp : p = 4 := enm_inj (i := r) (by decide) (hx.trans (congrArg some (show x = (102, r) from Prod.ext n m.1))) (show enm cs_custom r 4 = some (102, r) from rfl)
          rw [hp, if_neg (by omega), if_neg (by omega), if_pos rfl, show x = (102, r) from Prod.ext n m.1]
          exact u4
      · by_cases c1 : a = xm_Z h + 1
        · rw [c1] at hx ⊢
          unfold nE18 at hx
          rw [if_neg (by omega), if_pos rfl] at hx
          by_cases p4 : p < 4
          · rw [if_pos p4] at hx
            rw [← Option.some.inj hx, mc_I, nn1, va_In, n18_I, if_neg (by omega), if_pos rfl]
            exact u5 p p4
          · rw [if_neg p4] at hx
            cases hx
        · obtain ⟨o1, o2, o3, o4, o5⟩ := nE_old q hr c0 c1 hx
          rw [mc_I, o1, cu2_ap o4 o5]
          exact va_Is.symm
    · have hx : xd_L D a p = some x := hx
      have qi := (cs_inj q).2.2
      rw [mc_L, hx, cu2_ap]
      · exact va_Ls.symm
      · rintro ⟨y1 | y1 | y1 | y1, y2⟩
        · rw [show x = (15, r) from Prod.ext y1 y2] at hx
          exact qi _ _ _ _ _ qu.2.2.2.1 hx
        · rw [show x = (16, r) from Prod.ext y1 y2] at hx
          exact qi _ _ _ _ _ qu.2.2.2.2.1 hx
        · rw [show x = (101, r) from Prod.ext y1 y2] at hx
          exact qi _ _ _ _ _ qu.2.2.2.2.2.1 hx
        · rw [show x = (102, r) from Prod.ext y1 y2] at hx
          exact qi _ _ _ _ _ qu.2.2.2.2.2.2.1 hx
      · rintro ⟨y1, y2, y3⟩
        rw [show x = (17, 4 * r + (x.2 - 4 * r)) from Prod.ext y1 (by show x.2 = _; omega)] at hx
        exact qi _ _ _ _ _ (qu8 _ (by omega)) hx
end CUM
