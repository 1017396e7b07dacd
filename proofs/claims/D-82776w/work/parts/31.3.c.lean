/-! what is foreseen: ledges that are tried are as ledges that are -/
set_option maxRecDepth 100000
theorem nu_inj : ∀ b : Bool, ∀ s, s < 11 → ∀ t, t < 11 → nu b s = nu b t → s = t := by decide
theorem nu_r : ∀ b : Bool, ∀ s, s < 11 → (3 ≤ nu b s ∧ nu b s ≤ 13) ∨ (90 ≤ nu b s ∧ nu b s ≤ 100) := by decide
theorem it_rel {α β : Type} {f : Nat → α → α} {g : Nat → β → β} {n : Nat} (R : α → β → Prop) (hs : ∀ k s t, k < n → R s t → R (f k s) (g k t)) : ∀ c k s t, k + c = n → R s t → R (xp_it f k c s) (xp_it g k c t)
  | 0, _, _, _, _, h => h
  | c + 1, k, s, t, e, h => it_rel R hs c (k + 1) _ _ (by omega) (hs k s t (by omega) h)
abbrev fS (e : Bool) (s : Nat) : Prop := s < 11 ∧ ¬ s = 2 ∧ ¬ s = 6 ∧ ¬ s = 7 ∧ ¬ s = 8 ∧ (e = true → ¬ s = 4)
/-- the model's ledges are those that are tried -/
def fR (e : Bool) (n : Nat) (P G : xp_F) : Prop := P 0 1 = 0 ∧ P 0 6 = G 0 6 ∧ (∀ k, P 1 k = G 1 k ∧ P 2 k = G 2 k) ∧ ∀ s, fS e s → ∀ k, k < n → P (nu true s) k = G (nu false s) k
section FR
variable {e0 : Bool} {n l : Nat} {P G : xp_F} {x : Int32}
theorem fR.u2 {s : Nat} (hs : s < 11) {v v' : Int32} (e : fS e0 s → v = v') (a : fR e0 n P G) : fR e0 n (xm_u2 P (nu true s) l v) (xm_u2 G (nu false s) l v') := by
  obtain ⟨a1, a2, a3, a4⟩ := a
  have r1 := nu_r true s hs
  have r2 := nu_r false s hs
  refine ⟨?_, ?_, fun k => ⟨?_, ?_⟩, fun t ht k hk => ?_⟩
  · rw [u2_ap, if_neg (by omega)]; exact a1
  · rw [u2_ap, if_neg (by omega), u2_ap, if_neg (by omega)]; exact a2
  · rw [u2_ap, if_neg (by omega), u2_ap, if_neg (by omega)]; exact (a3 k).1
  · rw [u2_ap, if_neg (by omega), u2_ap, if_neg (by omega)]; exact (a3 k).2
  · rw [u2_ap, u2_ap]
    by_cases c : t = s ∧ k = l
    · rw [if_pos ⟨by rw [c.1], c.2⟩, if_pos ⟨by rw [c.1], c.2⟩]
      exact e (by rw [← c.1]; exact ht)
    · rw [if_neg (fun z => c ⟨nu_inj true t ht.1 s hs z.1, z.2⟩), if_neg (fun z => c ⟨nu_inj false t ht.1 s hs z.1, z.2⟩)]
      exact a4 t ht k hk
/-- what is not asked may be changed -/
theorem fR.g8 {v : Int32} (a : fR e0 n P G) : fR e0 n P (xm_u2 G (nu false 8) l v) := by
  obtain ⟨a1, a2, a3, a4⟩ := a
  refine ⟨a1, ?_, fun k => ⟨?_, ?_⟩, fun t ht k hk => ?_⟩
  · rw [u2_ap, if_neg (by have := nu_r false 8 (by decide); omega)]; exact a2
  · rw [u2_ap, if_neg (by have := nu_r false 8 (by decide); omega)]; exact (a3 k).1
  · rw [u2_ap, if_neg (by have := nu_r false 8 (by decide); omega)]; exact (a3 k).2
  · rw [u2_ap, if_neg (fun z => by have := nu_inj false t ht.1 8 (by decide) z.1; omega)]
    exact a4 t ht k hk
theorem fR.ag {G' : xp_F} (a : fR e0 n P G) (e : ∀ o k, (o ≤ 2 ∨ (90 ≤ o ∧ o ≤ 100)) → G' o k = G o k) : fR e0 n P G' := by
  obtain ⟨a1, a2, a3, a4⟩ := a
  refine ⟨a1, by rw [e _ _ (by omega)]; exact a2, fun k => ⟨by rw [e _ _ (by omega)]; exact (a3 k).1, by rw [e _ _ (by omega)]; exact (a3 k).2⟩, fun t ht k hk => ?_⟩
  have : nu false t = 90 + t := rfl
  rw [e _ _ (by have := ht.1; omega)]
  exact a4 t ht k hk
theorem fR.d {v : Int32} (a : fR e0 n P G) : fR e0 n (xm_u2 P 0 0 v) G := by
  obtain ⟨a1, a2, a3, a4⟩ := a
  refine ⟨?_, ?_, fun k => ⟨?_, ?_⟩, fun t ht k hk => ?_⟩
  · rw [u2_ap, if_neg (by decide)]; exact a1
  · rw [u2_ap, if_neg (by decide)]; exact a2
  · rw [u2_ap, if_neg (by omega)]; exact (a3 k).1
  · rw [u2_ap, if_neg (by omega)]; exact (a3 k).2
  · have := nu_r true t ht.1
    rw [u2_ap, if_neg (by omega)]
    exact a4 t ht k hk
theorem fR.grow (a : fR false n P G) : fR false n (sq_grow true n x P) (sq_grow false n x G) := by
  unfold sq_grow
  refine it_rel (fR false n) (fun k P G hk a => ?_) n 0 P G (Nat.zero_add _) a
  obtain ⟨a1, a2, a3, a4⟩ := a
  have e1 := a4 1 (by decide) k hk
  have e3 := a4 3 (by decide) k hk
  have e4 := a4 4 (by decide) k hk
  unfold sq_grow1
  rw [e1, (a3 _).1, (a3 _).2]
  have es : ∀ g, sq_some true P k g = sq_some false G k g := fun g => by
    unfold sq_some
    rw [e3, e4]
  unfold sq_grows
  rw [es, e4]
  split
  · exact fR.u2 (by decide) (fun z => absurd rfl z.2.2.2.2.1) (fR.u2 (by decide) (fun _ => rfl) ⟨a1, a2, a3, a4⟩)
  · exact ⟨a1, a2, a3, a4⟩
theorem fR.ends (hn : n ≤ 12) (a : fR e0 n P G) : fR e0 n (sq_ends true n P) (sq_ends false n G) := by
  unfold sq_ends
  refine it_rel (fR e0 n) (fun k P G hk a => ?_) n 0 _ _ (Nat.zero_add _) (it_rel (fR e0 n) (fun k P G hk a => ?_) n 0 P G (Nat.zero_add _) a)
  · have a4 := a.2.2.2
    have e3 := fun j (hj : j < n) => a4 3 (by cases e0 <;> decide) j hj
    have en : sq_nearest true n P k = sq_nearest false n G k := by
      unfold sq_nearest
      refine it_congr (n := n) (fun _ x => ofl n x) (fun j x hj hx => ?_) n 0 (-1) (Nat.zero_add _) (Or.inl rfl)
      refine ⟨?_, near_ofl hj hx⟩
      unfold sq_near sq_apart
      rw [e3 j hj, a4 0 (by cases e0 <;> decide) k hk, a4 0 (by cases e0 <;> decide) j hj, a4 1 (by cases e0 <;> decide) k hk, a4 1 (by cases e0 <;> decide) j hj]
      rcases hx with hx | ⟨i, hi, hx⟩
      · rw [hx]
        simp only [true_or, and_true]
      · have ti : x.toNatClampNeg = i := by rw [hx, tc_nat (by omega)]
        rw [ti, a4 0 (by cases e0 <;> decide) i hi, a4 1 (by cases e0 <;> decide) i hi]
    unfold sq_sw1
    rw [e3 k hk, en]
    split
    · rename_i c
      obtain ⟨j, hj, ej, -⟩ := (@nearest_6 G false n k).resolve_left c.2
      have tj : (sq_nearest false n G k).toNatClampNeg = j := by rw [ej, tc_nat (by omega)]
      rw [tj, e3 j hj]
      exact fR.u2 (by decide) (fun _ => rfl) (fR.u2 (by decide) (fun _ => rfl) a)
    · exact a
  · have a4 := a.2.2.2
    have ec : ∀ v y, sq_chg true P k v y = sq_chg false G k v y := fun v y => by
      unfold sq_chg
      rw [a4 10 (by cases e0 <;> decide) k hk]
    have eb : sq_by P true k = sq_by G false k := by
      unfold sq_by
      rw [a4 5 (by cases e0 <;> decide) k hk]
    unfold sq_se1
    rw [ec, eb, a4 3 (by cases e0 <;> decide) k hk]
    exact fR.u2 (by decide) (fun _ => rfl) (fR.u2 (by decide) (fun _ => rfl) (fR.u2 (by decide) (fun _ => rfl) (fR.u2 (by decide) (fun _ => rfl) (fR.u2 (by decide) (fun _ => rfl) (fR.u2 (by decide) (fun z => absurd rfl z.2.2.2.1) (fR.u2 (by decide) (fun z => absurd rfl z.2.2.1) (fR.u2 (by decide) (fun _ => rfl) a)))))))
/-- combs are nothing to a season's end -/
theorem fR.ends4 (hn : n ≤ 12) (a : fR true n P G) : fR false n (sq_ends true n P) (sq_ends false n G) := by
  have r := fR.ends hn a
  have g1 := ends_gz (b := true) (F := P) hn
  have g2 := ends_gz (b := false) (F := G) hn
  refine ⟨r.1, r.2.1, r.2.2.1, fun s hs k hk => ?_⟩
  by_cases c : s = 4
  · rw [c, (g1 k hk).2.1, (g2 k hk).2.1]
  · exact r.2.2.2 s ⟨hs.1, hs.2.1, hs.2.2.1, hs.2.2.2.1, hs.2.2.2.2.1, fun _ => c⟩ k hk
theorem fR.weak (a : fR false n P G) : fR true n P G := ⟨a.1, a.2.1, a.2.2.1, fun s hs k hk => a.2.2.2 s ⟨hs.1, hs.2.1, hs.2.2.1, hs.2.2.2.1, hs.2.2.2.2.1, fun z => Bool.noConfusion z⟩ k hk⟩
theorem fR.growl (a : fR true n P G) : fR true n (sq_grow true n x P) G := by
  have : ∀ o k, ¬ o = 6 → ¬ o = 7 → sq_grow true n x P o k = P o k := fun o k h1 h2 => grow_o h1 h2
  refine ⟨?_, ?_, fun k => ⟨?_, ?_⟩, fun s hs k hk => ?_⟩
  · rw [this _ _ (by decide) (by decide)]; exact a.1
  · rw [this _ _ (by decide) (by decide)]; exact a.2.1
  · rw [this _ _ (by decide) (by decide)]; exact (a.2.2.1 k).1
  · rw [this _ _ (by decide) (by decide)]; exact (a.2.2.1 k).2
  · have h4 := nu_inj true s hs.1 4 (by decide)
    have h8 := nu_inj true s hs.1 8 (by decide)
    rw [this _ _ (fun z => hs.2.2.2.2.2 rfl (h4 z)) (fun z => hs.2.2.2.2.1 (h8 z))]
    exact a.2.2.2 s hs k hk
end FR
