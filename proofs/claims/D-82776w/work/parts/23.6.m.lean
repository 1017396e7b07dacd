/-! the model's contracts, 24: offers -/
set_option maxRecDepth 100000
section M24
variable {d : Nat} {h : xm_H} {M : Nat} {F : xp_F}
abbrev sp_fits (G : xp_F) (b i : Nat) : Prop := ¬ G 45 i < G 56 b ∧ ¬ G 57 b < G 46 i ∧ G 63 b + G 44 i ≤ G 59 b
def sp_offers (n : Nat) : Nat → Nat → Int32 → Int32 → xp_F → xp_F
  | 0, _, s, c, F => sp_sold F n s c
  | r + 1, k, s, c, F => sp_offers n r (k + 1) s c (xm_u2 (xp_up (fun b G => if sp_fits G b (F 60 k).toNatClampNeg then
      (fun G2 : xp_F => xm_u2 G2 63 b (G2 63 b - G2 44 (F 60 k).toNatClampNeg)) (sp_offers n r (k + 1) (s + G 58 b * G 44 (F 60 k).toNatClampNeg) (c + 1) (xm_u2 (xm_u2 G 63 b (G 63 b + G 44 (F 60 k).toNatClampNeg)) 61 k (Int32.ofNat b))) else G) F (F 0 83).toNatClampNeg) 61 k (-1))
/-- what offers leaves alone -/
def sq (F G : xp_F) : Prop := ∀ o k, ¬ o = 61 → ¬ o = 62 → ¬ o = 63 → ¬ (o = 0 ∧ (k = 93 ∨ k = 94)) → G o k = F o k
theorem sq.rf : sq F F := fun _ _ _ _ _ _ => rfl
theorem sq.tr {G H : xp_F} (a : sq F G) (b : sq G H) : sq F H := fun o k h1 h2 h3 h4 => (b o k h1 h2 h3 h4).trans (a o k h1 h2 h3 h4)
theorem sq.g {k : Nat} {v : Int32} : sq F (xm_u2 F 61 k v) := fun o _ h1 _ _ _ => by rw [u2_ap, if_neg (fun z => h1 z.1)]
theorem sq.s {k : Nat} {v : Int32} : sq F (xm_u2 F 62 k v) := fun o _ _ h1 _ _ => by rw [u2_ap, if_neg (fun z => h1 z.1)]
theorem sq.p {k : Nat} {v : Int32} : sq F (xm_u2 F 63 k v) := fun o _ _ _ h1 _ => by rw [u2_ap, if_neg (fun z => h1 z.1)]
theorem sq.m {v : Int32} : sq F (xm_u2 F 0 93 v) := fun o _ _ _ _ h1 => by rw [u2_ap, if_neg (fun z => h1 ⟨z.1, Or.inl z.2⟩)]
theorem sq.c {v : Int32} : sq F (xm_u2 F 0 94 v) := fun o _ _ _ _ h1 => by rw [u2_ap, if_neg (fun z => h1 ⟨z.1, Or.inr z.2⟩)]
theorem sold_sq {n : Nat} {s c : Int32} : sq F (sp_sold F n s c) := by
  unfold sp_sold
  split
  · exact sq.rf
  · exact it_inv (fun (G : xp_F) => sq F G) (fun k G h => h.tr sq.s) _ _ _ (sq.m.tr sq.c)
theorem up_inv {α : Type} {f : Nat → α → α} (I : α → Prop) (hs : ∀ k s, I s → I (f k s)) {s : α} (h : I s) : ∀ n, I (xp_up f s n)
  | 0 => h
  | n + 1 => hs n _ (up_inv I hs h n)
theorem offers_sq {n : Nat} : ∀ (r k : Nat) (s c : Int32) (F : xp_F), sq F (sp_offers n r k s c F)
  | 0, _, _, _, _ => sold_sq
  | r + 1, k, s, c, F => by
    unfold sp_offers
    refine sq.tr (sq.tr ?_ sq.g) (offers_sq r _ _ _ _)
    refine up_inv (fun (G : xp_F) => sq F G) (fun b G hG => ?_) sq.rf _
    show sq F (if _ then _ else _)
    split
    · exact hG.tr ((sq.p.tr sq.g).tr ((offers_sq r _ _ _ _).tr sq.p))
    · exact hG
end M24
