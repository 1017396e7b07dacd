/-! what all steps keep -/
set_option maxRecDepth 100000
section WXS
variable {h h' h2 : xm_H} {D D' D2 : xp_D} {F G : xp_F} {z s : Nat}
/-- grown by z cells, s slots at most; what has no name is as it was -/
def wx (z s : Nat) (h : xm_H) (D : xp_D) (h' : xm_H) (D' : xp_D) : Prop := xm_B h' = xm_B h ∧ xm_C h' = xm_C h ∧ xm_Z h ≤ xm_Z h' ∧ xm_Z h' ≤ xm_Z h + z ∧ xm_S h' ≤ xm_S h + s ∧ ∀ a, a < xm_Z h → xm_K h' a = xm_K h a ∧ xm_N h' a = xm_N h a ∧ ∀ p, (¬ (xm_K h a = 3 ∨ xm_K h a = 110 ∨ xm_K h a = 112 ∨ xm_K h a = 114 ∨ xm_K h a = 115 ∨ xm_K h a = 116 ∨ xm_K h a = 117) → xm_R h' a p = xm_R h a p) ∧ (xd_E D a p = none → xd_E D' a p = none ∧ xm_I h' a p = xm_I h a p)
theorem wx.rf : wx 0 0 h D h D := ⟨rfl, rfl, Nat.le_refl _, Nat.le_refl _, Nat.le_refl _, fun _ _ => ⟨rfl, rfl, fun _ => ⟨fun _ => rfl, fun e => ⟨e, rfl⟩⟩⟩⟩
theorem wx.tr {z2 s2 : Nat} (a : wx z s h D h' D') (b : wx z2 s2 h' D' h2 D2) : wx (z + z2) (s + s2) h D h2 D2 := by
  obtain ⟨a1, a2, a3, a4, a5, a6⟩ := a
  obtain ⟨b1, b2, b3, b4, b5, b6⟩ := b
  refine ⟨b1.trans a1, b2.trans a2, by omega, by omega, by omega, fun x hx => ?_⟩
  obtain ⟨c1, c2, c3⟩ := a6 x hx
  obtain ⟨d1, d2, d3⟩ := b6 x (by omega)
  refine ⟨d1.trans c1, d2.trans c2, fun p => ⟨fun hn => ((d3 p).1 (by rw [c1]; exact hn)).trans ((c3 p).1 hn), fun e => ?_⟩⟩
  obtain ⟨e1, e2⟩ := (c3 p).2 e
  obtain ⟨e3, e4⟩ := (d3 p).2 e1
  exact ⟨e3, e4.trans e2⟩
theorem wx.mono {z2 s2 : Nat} (a : wx z s h D h' D') (h1 : z ≤ z2) (h2 : s ≤ s2) : wx z2 s2 h D h' D' := by
  obtain ⟨a1, a2, a3, a4, a5, a6⟩ := a
  exact ⟨a1, a2, a3, by omega, by omega, a6⟩
theorem GX.wx (x : GX z s h D h' D') : wx z s h D h' D' := by
  obtain ⟨-, -, -, ⟨a1, a2, a3, a4, a5, a6⟩, e, -⟩ := x
  refine ⟨a1, a2, a3, a4, a5, fun a ha => ?_⟩
  obtain ⟨c1, c2, c3⟩ := a6 a ha
  exact ⟨c1, c2, fun p => ⟨fun hn => (c3 p).2.2 (by omega), fun en => ⟨(e a p ha).trans en, (c3 p).1⟩⟩⟩
theorem rx.wx (x : rx z s D h h') (q : CS h D) : wx z s h D h' D := by
  obtain ⟨a1, a2, a3, a4, a5, a6⟩ := x
  have k15 := (cs_f15 q).2.1
  refine ⟨a1, a2, a3, a4, a5, fun a ha => ?_⟩
  obtain ⟨c1, c2, c3⟩ := a6 a ha
  exact ⟨c1, c2, fun p => ⟨fun hn => (c3 p).2.2 (fun e => by
    rw [e.1] at hn
    omega), fun en => ⟨en, (c3 p).1⟩⟩⟩
theorem wx.K (x : wx z s h D h' D') (w : HW h D) {a k : Nat} (e : xm_K h a = k) (hk : ¬ k = 0) : xm_K h' a = k := (x.2.2.2.2.2 a (w.lt e hk)).1.trans e
theorem wx.N (x : wx z s h D h' D') (w : HW h D) {a k n : Nat} (e : xm_K h a = k) (hk : ¬ k = 0) (en : xm_N h a = n) : xm_N h' a = n := (x.2.2.2.2.2 a (w.lt e hk)).2.1.trans en
theorem wx.I (x : wx z s h D h' D') (w : HW h D) {a k p : Nat} (e : xm_K h a = k) (hk : ¬ k = 0) (en : xd_E D a p = none) : xm_I h' a p = xm_I h a p := (((x.2.2.2.2.2 a (w.lt e hk)).2.2 p).2 en).2
theorem wx.E (x : wx z s h D h' D') (w : HW h D) {a k p : Nat} (e : xm_K h a = k) (hk : ¬ k = 0) (en : xd_E D a p = none) : xd_E D' a p = none := (((x.2.2.2.2.2 a (w.lt e hk)).2.2 p).2 en).1
theorem wx.R (x : wx z s h D h' D') (w : HW h D) {a k p : Nat} (e : xm_K h a = k) (hk : ¬ k = 0) (hr : ¬ (k = 3 ∨ k = 110 ∨ k = 112 ∨ k = 114 ∨ k = 115 ∨ k = 116 ∨ k = 117)) : xm_R h' a p = xm_R h a p := ((x.2.2.2.2.2 a (w.lt e hk)).2.2 p).1 (by rw [e]; exact hr)
theorem TO.wx (w : HW h D) (x : wx z s h D h' D') : ∀ (t : Tm) (a : Nat), TO h D t a → TO h' D' t a
  | .num v, a, ⟨k, n, i⟩ => ⟨x.K w k (by decide), fun p => x.E w k (by decide) (n p), by rw [x.I w k (by decide) (n 0)]; exact i⟩
  | .var _, a, ⟨k, n, i⟩ => ⟨x.K w k (by decide), fun p => x.E w k (by decide) (n p), by rw [x.I w k (by decide) (n 0)]; exact i⟩
  | .neg t, a, ⟨k, b, r, o⟩ => ⟨x.K w k (by decide), b, by rw [x.R w k (by decide) (by decide)]; exact r, TO.wx w x t b o⟩
  | .mulR t v, a, ⟨k, n, i, b, c, rb, rc, ob, kc, nc, ic⟩ => ⟨x.K w k (by decide), fun p => x.E w k (by decide) (n p), by rw [x.I w k (by decide) (n 0)]; exact i, b, c, by rw [x.R w k (by decide) (by decide)]; exact rb, by rw [x.R w k (by decide) (by decide)]; exact rc, TO.wx w x t b ob, x.K w kc (by decide), fun p => x.E w kc (by decide) (nc p), by rw [x.I w kc (by decide) (nc 0)]; exact ic⟩
  | .mulL o (.add u v), a, ⟨k, n, i, b, c, rb, rc, ob, oc⟩ => ⟨x.K w k (by decide), fun p => x.E w k (by decide) (n p), by rw [x.I w k (by decide) (n 0)]; exact i, b, c, by rw [x.R w k (by decide) (by decide)]; exact rb, by rw [x.R w k (by decide) (by decide)]; exact rc, TO.wx w x u b ob, TO.wx w x v c oc⟩
theorem LO.wx (w : HW h D) (x : wx z s h D h' D') {L : Ln} {a : Nat} (o : LO h D L a) : LO h' D' L a := by
  rcases o with ⟨s3, k, w1, t1, ⟨b, rb, ob⟩, hc⟩ | ⟨s4, k, t, c, e1, w1, t1, rc, oc⟩ | ⟨n3, n4, k, r⟩
  · refine Or.inl ⟨s3, x.K w k (by decide), w1, t1, ⟨b, by rw [x.R w k (by decide) (by decide)]; exact rb, TO.wx w x _ _ ob⟩, ?_⟩
    cases e1 : L.2.2 with
    | none =>
      rw [e1] at hc
      show xm_R h' a 1 = none
      rw [x.R w k (by decide) (by decide)]
      exact hc
    | some t =>
      rw [e1] at hc
      obtain ⟨w2, t2, c, rc, oc⟩ := hc
      exact ⟨w2, t2, c, by rw [x.R w k (by decide) (by decide)]; exact rc, TO.wx w x _ _ oc⟩
  · exact Or.inr (Or.inl ⟨s4, x.K w k (by decide), t, c, e1, w1, t1, by rw [x.R w k (by decide) (by decide)]; exact rc, TO.wx w x _ _ oc⟩)
  · refine Or.inr (Or.inr ⟨n3, n4, ?_, ?_⟩)
    · rcases k with k | k | k
      · exact Or.inl (x.K w k (by decide))
      · exact Or.inr (Or.inl (x.K w k (by decide)))
      · exact Or.inr (Or.inr (x.K w k (by decide)))
    · rcases k with k | k | k
      · rw [x.R w k (by decide) (by decide)]; exact r
      · rw [x.R w k (by decide) (by decide)]; exact r
      · rw [x.R w k (by decide) (by decide)]; exact r
theorem LQ.wx (w : HW h D) (x : wx z s h D h' D') {L : Ln} {a : Nat} (q : LQ h D L a) : LQ h' D' L a := by
  obtain ⟨q1, q0, q2, q3, q4, q5⟩ := q
  have ka : ∃ k, xm_K h a = k ∧ ¬ k = 0 := by
    rcases q1 with ⟨-, k, -⟩ | ⟨-, k, -⟩ | ⟨-, -, k, -⟩
    · exact ⟨_, k, by decide⟩
    · exact ⟨_, k, by decide⟩
    · rcases k with k | k | k
      · exact ⟨_, k, by decide⟩
      · exact ⟨_, k, by decide⟩
      · exact ⟨_, k, by decide⟩
  obtain ⟨k0, ek, nk⟩ := ka
  refine ⟨LO.wx w x q1, q0, fun p => x.E w ek nk (q2 p), fun e => ?_, fun e => ?_, fun e => ?_⟩
  · obtain ⟨k, a1, a2, a3⟩ := q3 e
    exact ⟨x.K w k (by decide), (x.I w k (by decide) (q2 2)).trans a1, a2, (x.I w k (by decide) (q2 3)).trans a3⟩
  · obtain ⟨k, a1⟩ := q4 e
    exact ⟨x.K w k (by decide), (x.I w k (by decide) (q2 3)).trans a1⟩
  · obtain ⟨k, a1⟩ := q5 e
    exact ⟨x.K w k (by decide), (x.I w k (by decide) (q2 3)).trans a1⟩
theorem CR.wx (w : HW h D) (x : wx z s h D h' D') {r n : Nat} (hr : r < 2) {L : Nat → Ln} (q : CS h D) (ea : xd_A D' 9 r = xd_A D 9 r) (c : CR h D r n L) : CR h' D' r n L := by
  refine ⟨c.1, fun i hi => ?_⟩
  obtain ⟨a, h1, h2⟩ := c.2 i hi
  exact ⟨a, by rw [ea, x.R w (cs_W q hr).2.1 (by decide) (by decide)]; exact h1, LO.wx w x h2⟩
theorem MS.wx (w : HW h D) (x : wx z s h D h' D') {M : Nat} (q : MS h M) : MS h' M := by
  refine ⟨x.K w q.1 (by decide), by rw [x.1]; exact q.2.1, fun e he => ?_⟩
  obtain ⟨a1, a2, a3⟩ := q.2.2 e he
  have nz : ¬ e.2.2.1 = 0 := by
    have : ∀ e ∈ xp_ms, ¬ e.2.2.1 = 0 := by decide
    exact this e he
  exact ⟨by rw [x.R w q.1 (by decide) (by decide)]; exact a1, x.K w a2 nz, x.N w a2 nz a3⟩
theorem SX.wx (w : HW h D) (x : wx z s h D h' D') {a m : Nat} {f : Nat → Int32} (y : SX h D a m f) : SX h' D' a m f := by
  obtain ⟨b, a1, a2, a3, a4, a5, a6, a7⟩ := y
  exact ⟨b, x.K w a1 (by decide), (x.R w a1 (by decide) (by decide)).trans a2, (x.I w a1 (by decide) (a7 1).1).trans a3, x.K w a4 (by decide), x.N w a4 (by decide) a5, fun j hj => (x.I w a4 (by decide) (a7 j).2).trans (a6 j hj), fun p => ⟨x.E w a1 (by decide) (a7 p).1, x.E w a4 (by decide) (a7 p).2⟩⟩
theorem SW.wx (q : CS h D) (w : HW h D) (x : wx z s h D h' D') (e0 : xd_A D' 0 14 = xd_A D 0 14) (a : SW h D) : SW h' D' := by
  obtain ⟨a1, ⟨b, a2, a3⟩, a4⟩ := a
  refine ⟨by rw [x.2.1]; exact a1, ⟨b, by rw [x.2.1]; exact a2, SX.wx w x a3⟩, fun k hk => ?_⟩
  obtain ⟨y, b1, b2⟩ := a4 k hk
  exact ⟨y, by rw [e0]; exact (x.R w (cs_f14 q).2.1 (by decide) (by decide)).trans b1, SX.wx w x b2⟩
end WXS
