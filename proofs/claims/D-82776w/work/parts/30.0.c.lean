/-! objects that come -/
set_option maxRecDepth 100000
/-- grown; rows of objects may be changed -/
def gx (z s : Nat) (h h' : xm_H) : Prop := xm_B h' = xm_B h ∧ xm_C h' = xm_C h ∧ xm_Z h ≤ xm_Z h' ∧ xm_Z h' ≤ xm_Z h + z ∧ xm_S h' ≤ xm_S h + s ∧ ∀ a, a < xm_Z h → xm_K h' a = xm_K h a ∧ xm_N h' a = xm_N h a ∧ ∀ p, xm_I h' a p = xm_I h a p ∧ xm_L h' a p = xm_L h a p ∧ (¬ (xm_K h a = 110 ∨ xm_K h a = 115 ∨ xm_K h a = 116 ∨ xm_K h a = 117) → xm_R h' a p = xm_R h a p)
/-- names that a shape with those counts may have -/
abbrev nok (n0 n1 n2 n3 : Nat) (o k : Nat) : Prop := ¬ mnm o k ∧ (((3 ≤ o ∧ o ≤ 13) ∨ (90 ≤ o ∧ o ≤ 100)) → k < n0) ∧ ((39 ≤ o ∧ o ≤ 43) → k < n1) ∧ (((44 ≤ o ∧ o ≤ 49) ∨ o = 54) → k < n2) ∧ (o = 52 → k < 12 * n2) ∧ ((56 ≤ o ∧ o ≤ 59) → k < n3)
def VN (D : xp_D) : Prop := ∀ a p x, (xd_E D a p = some x ∨ xd_L D a p = some x) → nok (xd_n D 0) (xd_n D 1) (xd_n D 2) (xd_n D 3) x.1 x.2
theorem VN.vis {D : xp_D} (v : VN D) : xd_vis D := fun a p x h => (v a p x h).1
section GX
variable {h h' : xm_H} {D D' : xp_D} {F G : xp_F} {z s : Nat}
theorem hx.gx (x : hx z s h h') : gx z s h h' := by
  obtain ⟨a1, a2, a3, a4, a5, a6⟩ := x
  exact ⟨a1, a2, a3, a4, a5, fun a ha => ⟨(a6 a ha).1, (a6 a ha).2.1, fun p => ⟨((a6 a ha).2.2 p).1, ((a6 a ha).2.2 p).2.1, fun _ => ((a6 a ha).2.2 p).2.2⟩⟩⟩
theorem gx.K (x : gx z s h h') (w : HW h D) {a k : Nat} (e : xm_K h a = k) (hk : ¬ k = 0) : xm_K h' a = k := (x.2.2.2.2.2 a (w.lt e hk)).1.trans e
theorem gx.N (x : gx z s h h') (w : HW h D) {a k n : Nat} (e : xm_K h a = k) (hk : ¬ k = 0) (en : xm_N h a = n) : xm_N h' a = n := (x.2.2.2.2.2 a (w.lt e hk)).2.1.trans en
theorem gx.I (x : gx z s h h') (w : HW h D) {a k p : Nat} (e : xm_K h a = k) (hk : ¬ k = 0) : xm_I h' a p = xm_I h a p := ((x.2.2.2.2.2 a (w.lt e hk)).2.2 p).1
theorem gx.R (x : gx z s h h') (w : HW h D) {a k p : Nat} (e : xm_K h a = k) (hk : ¬ k = 0) (hr : ¬ (k = 110 ∨ k = 115 ∨ k = 116 ∨ k = 117)) : xm_R h' a p = xm_R h a p := ((x.2.2.2.2.2 a (w.lt e hk)).2.2 p).2.2 (by rw [e]; exact hr)
theorem gx.sR {a p : Nat} {v : Option Nat} (x : gx z s h h') (hk : xm_Z h ≤ a ∨ xm_K h a = 110 ∨ xm_K h a = 115 ∨ xm_K h a = 116 ∨ xm_K h a = 117) : gx z s h (xm_sR h' a p v) := by
  obtain ⟨a1, a2, a3, a4, a5, a6⟩ := x
  refine ⟨a1, a2, a3, a4, a5, fun b hb => ?_⟩
  obtain ⟨c1, c2, c3⟩ := a6 b hb
  refine ⟨c1, c2, fun q => ⟨(c3 q).1, (c3 q).2.1, fun hn => ?_⟩⟩
  rw [h_R_sR, if_neg]
  · exact (c3 q).2.2 hn
  · intro e
    rw [e.1] at hb hn
    rcases hk with hk | hk
    · omega
    · exact hn hk
theorem gx.sI {a p : Nat} {v : Int32} (x : gx z s h h') (ha : xm_Z h ≤ a) : gx z s h (xm_sI h' a p v) := by
  obtain ⟨a1, a2, a3, a4, a5, a6⟩ := x
  refine ⟨a1, a2, a3, a4, a5, fun b hb => ?_⟩
  obtain ⟨c1, c2, c3⟩ := a6 b hb
  refine ⟨c1, c2, fun q => ⟨?_, (c3 q).2.1, (c3 q).2.2⟩⟩
  rw [h_I_sI, if_neg (by omega)]
  exact (c3 q).1
theorem gx.nw (x : gx z s h h') {kd n s' : Nat} : gx (z + 1) (s + s') h (xm_nw h' kd n s') := by
  obtain ⟨a1, a2, a3, a4, a5, a6⟩ := x
  refine ⟨a1, a2, by show _ ≤ xm_Z h' + 1; omega, by show xm_Z h' + 1 ≤ _; omega, by show xm_S h' + s' ≤ _; omega, fun b hb => ?_⟩
  obtain ⟨c1, c2, c3⟩ := a6 b hb
  have ne : ¬ b = xm_Z h' := by omega
  refine ⟨by rw [h_K_nw, if_neg ne]; exact c1, by rw [h_N_nw, if_neg ne]; exact c2, fun q => ⟨by rw [h_I_nw, if_neg ne]; exact (c3 q).1, by rw [h_L_nw, if_neg ne]; exact (c3 q).2.1, fun hn => by rw [h_R_nw, if_neg ne]; exact (c3 q).2.2 hn⟩⟩
theorem gx.tr {h2 : xm_H} {z2 s2 : Nat} (a : gx z s h h') (b : gx z2 s2 h' h2) : gx (z + z2) (s + s2) h h2 := by
  obtain ⟨a1, a2, a3, a4, a5, a6⟩ := a
  obtain ⟨b1, b2, b3, b4, b5, b6⟩ := b
  refine ⟨b1.trans a1, b2.trans a2, by omega, by omega, by omega, fun x hx => ?_⟩
  obtain ⟨c1, c2, c3⟩ := a6 x hx
  obtain ⟨d1, d2, d3⟩ := b6 x (by omega)
  exact ⟨d1.trans c1, d2.trans c2, fun p => ⟨(d3 p).1.trans (c3 p).1, (d3 p).2.1.trans (c3 p).2.1, fun hn => ((d3 p).2.2 (by rw [c1]; exact hn)).trans ((c3 p).2.2 hn)⟩⟩
theorem gx.mono {z2 s2 : Nat} (a : gx z s h h') (h1 : z ≤ z2) (h2 : s ≤ s2) : gx z2 s2 h h' := by
  obtain ⟨a1, a2, a3, a4, a5, a6⟩ := a
  exact ⟨a1, a2, a3, by omega, by omega, a6⟩
/-- the shapes' places are the same as far as the heap was -/
def sE (h : xm_H) (D D' : xp_D) : Prop := ∀ a p, a < xm_Z h → xd_E D' a p = xd_E D a p
theorem TO.gx (w : HW h D) (x : gx z s h h') (e : sE h D D') : ∀ (t : Tm) (a : Nat), TO h D t a → TO h' D' t a
  | .num v, a, ⟨k, n, i⟩ => ⟨x.K w k (by decide), fun p => (e a p (w.lt k (by decide))).trans (n p), by rw [x.I w k (by decide)]; exact i⟩
  | .var _, a, ⟨k, n, i⟩ => ⟨x.K w k (by decide), fun p => (e a p (w.lt k (by decide))).trans (n p), by rw [x.I w k (by decide)]; exact i⟩
  | .neg t, a, ⟨k, b, r, o⟩ => ⟨x.K w k (by decide), b, by rw [x.R w k (by decide) (by decide)]; exact r, TO.gx w x e t b o⟩
  | .mulR t v, a, ⟨k, n, i, b, c, rb, rc, ob, kc, nc, ic⟩ => ⟨x.K w k (by decide), fun p => (e a p (w.lt k (by decide))).trans (n p), by rw [x.I w k (by decide)]; exact i, b, c, by rw [x.R w k (by decide) (by decide)]; exact rb, by rw [x.R w k (by decide) (by decide)]; exact rc, TO.gx w x e t b ob, x.K w kc (by decide), fun p => (e c p (w.lt kc (by decide))).trans (nc p), by rw [x.I w kc (by decide)]; exact ic⟩
  | .mulL o (.add u v), a, ⟨k, n, i, b, c, rb, rc, ob, oc⟩ => ⟨x.K w k (by decide), fun p => (e a p (w.lt k (by decide))).trans (n p), by rw [x.I w k (by decide)]; exact i, b, c, by rw [x.R w k (by decide) (by decide)]; exact rb, by rw [x.R w k (by decide) (by decide)]; exact rc, TO.gx w x e u b ob, TO.gx w x e v c oc⟩
theorem LO.gx (w : HW h D) (x : gx z s h h') (e : sE h D D') {L : Ln} {a : Nat} (o : LO h D L a) : LO h' D' L a := by
  rcases o with ⟨s3, k, w1, t1, ⟨b, rb, ob⟩, hc⟩ | ⟨s4, k, t, c, e1, w1, t1, rc, oc⟩ | ⟨n3, n4, k, r⟩
  · refine Or.inl ⟨s3, x.K w k (by decide), w1, t1, ⟨b, by rw [x.R w k (by decide) (by decide)]; exact rb, TO.gx w x e _ _ ob⟩, ?_⟩
    cases e1 : L.2.2 with
    | none =>
      rw [e1] at hc
      show xm_R h' a 1 = none
      rw [x.R w k (by decide) (by decide)]
      exact hc
    | some t =>
      rw [e1] at hc
      obtain ⟨w2, t2, c, rc, oc⟩ := hc
      exact ⟨w2, t2, c, by rw [x.R w k (by decide) (by decide)]; exact rc, TO.gx w x e _ _ oc⟩
  · exact Or.inr (Or.inl ⟨s4, x.K w k (by decide), t, c, e1, w1, t1, by rw [x.R w k (by decide) (by decide)]; exact rc, TO.gx w x e _ _ oc⟩)
  · refine Or.inr (Or.inr ⟨n3, n4, ?_, ?_⟩)
    · rcases k with k | k | k
      · exact Or.inl (x.K w k (by decide))
      · exact Or.inr (Or.inl (x.K w k (by decide)))
      · exact Or.inr (Or.inr (x.K w k (by decide)))
    · rcases k with k | k | k
      · rw [x.R w k (by decide) (by decide)]; exact r
      · rw [x.R w k (by decide) (by decide)]; exact r
      · rw [x.R w k (by decide) (by decide)]; exact r
theorem CR.gx (w : HW h D) (x : gx z s h h') (e : sE h D D') {r n : Nat} (hr : r < 2) {L : Nat → Ln} (q : CS h D) (ea : xd_A D' 9 r = xd_A D 9 r) (c : CR h D r n L) : CR h' D' r n L := by
  refine ⟨c.1, fun i hi => ?_⟩
  obtain ⟨a, h1, h2⟩ := c.2 i hi
  exact ⟨a, by rw [ea, x.R w (cs_W q hr).2.1 (by decide) (by decide)]; exact h1, h2.gx w x e⟩
theorem MS.gx (w : HW h D) (x : gx z s h h') {M : Nat} (q : MS h M) : MS h' M := by
  refine ⟨x.K w q.1 (by decide), by rw [x.1]; exact q.2.1, fun e he => ?_⟩
  obtain ⟨a1, a2, a3⟩ := q.2.2 e he
  have nz : ¬ e.2.2.1 = 0 := by
    have : ∀ e ∈ xp_ms, ¬ e.2.2.1 = 0 := by decide
    exact this e he
  exact ⟨by rw [x.R w q.1 (by decide) (by decide)]; exact a1, x.K w a2 nz, x.N w a2 nz a3⟩
/-- the heap put in another way -/
theorem xp_c_ren (hI : ∀ a p, va_I (xd_E D' a p) G (xm_I h a p) = va_I (xd_E D a p) F (xm_I h a p)) (hL : ∀ a p, va_L (xd_L D' a p) G (xm_L h a p) = va_L (xd_L D a p) F (xm_L h a p)) : xp_c h D F = xp_c h D' G := by
  have e1 : (fun a k => va_I (xd_E D a k) F (h.2.2.2.1 a k)) = fun a k => va_I (xd_E D' a k) G (h.2.2.2.1 a k) := by
    funext a k
    exact (hI a k).symm
  have e2 : (fun a k => va_L (xd_L D a k) F (h.2.2.2.2.1 a k)) = fun a k => va_L (xd_L D' a k) G (h.2.2.2.2.1 a k) := by
    funext a k
    exact (hL a k).symm
  have t := congr (congrArg (fun x y => ((h.1, h.2.1, h.2.2.1, x, y, h.2.2.2.2.2) : xm_H)) e1) e2
  exact t
end GX
