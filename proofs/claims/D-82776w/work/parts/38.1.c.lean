/-! the law's loop -/
set_option maxRecDepth 100000
section LWL
variable {d : Nat} {h h2 : xm_H} {D D2 : xp_D} {F F2 : xp_F} {S X M N : Nat} {sc : Nat → Int32}
/-- what a round must do -/
def RND (IV : xm_H → xp_D → xp_F → Prop) (d M : Nat) : Prop := ∀ h D F, IV h D F → JS h D M ∧ ∀ t, t < 35 → ∀ (sc : Nat → Int32) (k : Nat), ∃ v Hm h2 D2 F2 F1, xm_met d (lwc.getD t (0, 0, 0)).1 (.ref (xd_X D) :: lwa sc k (lwc.getD t (0, 0, 0)).2.2) (Jh h D M F) = some (.inl (some (.int v)), Hm) ∧ xm_met d (lwc.getD t (0, 0, 0)).2.1 (.ref M :: lwa sc k (lwc.getD t (0, 0, 0)).2.2) Hm = some (.inl (some (.int v)), Jh h2 D2 M F2) ∧ Hm = xp_c h2 D2 F1 ∧ IV h2 D2 F2 ∧ xd_X D2 = xd_X D ∧ wx 4000 30000 (xp_m h M F) D h2 D2
/-- the script stands beside them -/
def SCR (h : xm_H) (D : xp_D) (M S N : Nat) (sc : Nat → Int32) : Prop := xm_K h S = 100 ∧ xm_N h S = N ∧ (∀ j, xm_I h S j = sc j) ∧ (∀ p, xd_E D S p = none) ∧ ¬ (M ≤ S ∧ S ≤ M + 70)
theorem SCR.J (a : SCR h D M S N sc) : AT (Jh h D M F) S N sc := by
  obtain ⟨a1, a2, a3, a4, a5⟩ := a
  refine ⟨a1, a2, fun j => ?_⟩
  show (if M ≤ S ∧ S ≤ M + 70 then F (S - M) j else xm_I (xp_c h D F) S j) = _
  rw [if_neg a5, mc_I, a4, va_In]
  exact a3 j
theorem SCR.C (a : SCR h D M S N sc) : AT (xp_c h D F) S N sc := by
  obtain ⟨a1, a2, a3, a4, a5⟩ := a
  refine ⟨a1, a2, fun j => ?_⟩
  rw [mc_I, a4, va_In]
  exact a3 j
theorem SCR.wx {z s : Nat} (a : SCR h D M S N sc) (w : HW h D) (x : wx z s (xp_m h M F) D h2 D2) : SCR h2 D2 M S N sc := by
  obtain ⟨a1, a2, a3, a4, a5⟩ := a
  have w' : HW (xp_m h M F) D := w
  have k1 : xm_K (xp_m h M F) S = 100 := a1
  refine ⟨x.K w' k1 (by decide), x.N w' k1 (by decide) a2, fun j => ?_, fun p => x.E w' k1 (by decide) (a4 p), a5⟩
  rw [x.I w' k1 (by decide) (a4 j)]
  show (if M ≤ S ∧ S ≤ M + 70 then F (S - M) j else xm_I h S j) = _
  rw [if_neg a5]
  exact a3 j
theorem law_loop {IV : xm_H → xp_D → xp_F → Prop} (R : RND IV d M) (hN : N ≤ 384) : ∀ (n k : Nat) {h : xm_H} {D : xp_D} {F : xp_F}, k + n = N / 6 → IV h D F → SCR h D M S N sc → ∃ H', xm_run (d + 1) 294 18 [some (.ref S), some (.ref (xd_X D)), some (.ref M), some (.int (Int32.ofNat (6 * k)))] [] (Jh h D M F) = some (.inl (some (.int 1)), H') ∧ xm_Z H' ≤ xm_Z h + 4000 * n ∧ xm_S H' ≤ xm_S h + 30000 * n
  | 0, k, h, D, F, e, iv, a => ⟨_, q294e (SCR.J a) (by omega) (by omega) hN, Nat.le_refl _, Nat.le_refl _⟩
  | n + 1, k, h, D, F, e, iv, a => by
    obtain ⟨js, st⟩ := R h D F iv
    have kx : xm_K (Jh h D M F) (xd_X D) = 1 := cs_K js.1
    by_cases c : ∃ t, t < 35 ∧ sc (6 * k) &&& 63 = Int32.ofNat t
    · obtain ⟨t, ht, et⟩ := c
      obtain ⟨v, Hm, h2, D2, F2, F1, m1, m2, eH, iv2, eX, x⟩ := st t ht sc k
      have a2 := a.wx js.2.1 x
      have km : xm_K Hm M = 5 := by
        rw [eH]
        exact (R h2 D2 F2 iv2).1.2.2.2.2.1.1
      have am : AT Hm S N sc := by
        rw [eH]
        exact a2.C
      have r := q294a (SCR.J a) am kx km (by omega) hN ht et m1 m2
      obtain ⟨H', e1, z1, s1⟩ := law_loop R hN n (k + 1) (by omega) iv2 a2
      rw [eX] at e1
      have xz : xm_Z h2 ≤ xm_Z h + 4000 := x.2.2.2.1
      have xs : xm_S h2 ≤ xm_S h + 30000 := x.2.2.2.2.1
      exact ⟨H', r.trans e1, by omega, by omega⟩
    · have r := q294o (d := d) (X := xd_X D) (M := M) (SCR.J (F := F) a) (show 6 * k + 6 ≤ N by omega) hN (fun t ht et => c ⟨t, ht, et⟩)
      obtain ⟨H', e1, z1, s1⟩ := law_loop R hN n (k + 1) (by omega) iv a
      exact ⟨H', r.trans e1, by omega, by omega⟩
end LWL
