/-! heaps that grow -/
set_option maxRecDepth 100000
/-- nothing lies behind the end -/
def HW (h : xm_H) (D : xp_D) : Prop := xm_B h ≤ xm_Z h ∧ (∀ a p, xm_Z h ≤ a → xd_E D a p = none ∧ xd_L D a p = none) ∧ ∀ a, xm_Z h ≤ a → xm_K h a = 0
/-- grown by z cells, s slots at most -/
def hx (z s : Nat) (h h' : xm_H) : Prop := xm_B h' = xm_B h ∧ xm_C h' = xm_C h ∧ xm_Z h ≤ xm_Z h' ∧ xm_Z h' ≤ xm_Z h + z ∧ xm_S h' ≤ xm_S h + s ∧ ∀ a, a < xm_Z h → xm_K h' a = xm_K h a ∧ xm_N h' a = xm_N h a ∧ ∀ p, xm_I h' a p = xm_I h a p ∧ xm_L h' a p = xm_L h a p ∧ xm_R h' a p = xm_R h a p
section HX
variable {h h' : xm_H} {D : xp_D} {F : xp_F} {z s : Nat}
theorem hx.rf : hx z s h h := ⟨rfl, rfl, Nat.le_refl _, Nat.le_add_right _ _, Nat.le_add_right _ _, fun _ _ => ⟨rfl, rfl, fun _ => ⟨rfl, rfl, rfl⟩⟩⟩
theorem hx.tr {h2 : xm_H} {z2 s2 : Nat} (a : hx z s h h') (b : hx z2 s2 h' h2) : hx (z + z2) (s + s2) h h2 := by
  obtain ⟨a1, a2, a3, a4, a5, a6⟩ := a
  obtain ⟨b1, b2, b3, b4, b5, b6⟩ := b
  refine ⟨b1.trans a1, b2.trans a2, by omega, by omega, by omega, fun x hx => ?_⟩
  obtain ⟨c1, c2, c3⟩ := a6 x hx
  obtain ⟨d1, d2, d3⟩ := b6 x (by omega)
  exact ⟨d1.trans c1, d2.trans c2, fun p => ⟨(d3 p).1.trans (c3 p).1, (d3 p).2.1.trans (c3 p).2.1, (d3 p).2.2.trans (c3 p).2.2⟩⟩
theorem hx.mono {z2 s2 : Nat} (a : hx z s h h') (h1 : z ≤ z2) (h2 : s ≤ s2) : hx z2 s2 h h' := by
  obtain ⟨a1, a2, a3, a4, a5, a6⟩ := a
  exact ⟨a1, a2, a3, by omega, by omega, a6⟩
theorem hx_nw {kd n : Nat} : hx 1 s h (xm_nw h kd n s) := by
  refine ⟨rfl, rfl, Nat.le_succ _, Nat.le_refl _, Nat.le_refl _, fun a ha => ?_⟩
  have ne : ¬ a = xm_Z h := by omega
  refine ⟨by rw [h_K_nw, if_neg ne], by rw [h_N_nw, if_neg ne], fun p => ⟨by rw [h_I_nw, if_neg ne], by rw [h_L_nw, if_neg ne], by rw [h_R_nw, if_neg ne]⟩⟩
theorem hx.sI {a p : Nat} {v : Int32} (x : hx z s h h') (ha : xm_Z h ≤ a) : hx z s h (xm_sI h' a p v) := by
  obtain ⟨a1, a2, a3, a4, a5, a6⟩ := x
  refine ⟨a1, a2, a3, a4, a5, fun b hb => ?_⟩
  obtain ⟨c1, c2, c3⟩ := a6 b hb
  refine ⟨c1, c2, fun q => ⟨?_, (c3 q).2.1, (c3 q).2.2⟩⟩
  rw [h_I_sI, if_neg (by omega)]
  exact (c3 q).1
theorem hx.sL {a p : Nat} {v : Int64} (x : hx z s h h') (ha : xm_Z h ≤ a) : hx z s h (xm_sL h' a p v) := by
  obtain ⟨a1, a2, a3, a4, a5, a6⟩ := x
  refine ⟨a1, a2, a3, a4, a5, fun b hb => ?_⟩
  obtain ⟨c1, c2, c3⟩ := a6 b hb
  refine ⟨c1, c2, fun q => ⟨(c3 q).1, ?_, (c3 q).2.2⟩⟩
  rw [h_L_sL, if_neg (by omega)]
  exact (c3 q).2.1
theorem hx.sR {a p : Nat} {v : Option Nat} (x : hx z s h h') (ha : xm_Z h ≤ a) : hx z s h (xm_sR h' a p v) := by
  obtain ⟨a1, a2, a3, a4, a5, a6⟩ := x
  refine ⟨a1, a2, a3, a4, a5, fun b hb => ?_⟩
  obtain ⟨c1, c2, c3⟩ := a6 b hb
  refine ⟨c1, c2, fun q => ⟨(c3 q).1, (c3 q).2.1, ?_⟩⟩
  rw [h_R_sR, if_neg (by omega)]
  exact (c3 q).2.2
theorem HW.lt (w : HW h D) {a k : Nat} (e : xm_K h a = k) (hk : ¬ k = 0) : a < xm_Z h := by
  false_or_by_contra
  exact hk (e.symm.trans (w.2.2 a (by omega)))
/-- grown but for the kinds behind -/
theorem HW.hx (w : HW h D) (x : hx z s h h') (k : ∀ a, xm_Z h' ≤ a → xm_K h' a = 0) : HW h' D := by
  obtain ⟨a1, a2, a3, a4, a5, a6⟩ := x
  exact ⟨by rw [a1]; have := w.1; omega, fun a p ha => w.2.1 a p (by omega), k⟩
theorem HW.nw (w : HW h D) {kd n : Nat} : HW (xm_nw h kd n s) D := w.hx hx_nw (fun a ha => by
  have hz : xm_Z h + 1 ≤ a := ha
  rw [h_K_nw, if_neg (by omega)]
  exact w.2.2 a (by omega))
theorem HW.sI (w : HW h D) {a p : Nat} {v : Int32} : HW (xm_sI h a p v) D := w
theorem HW.sL (w : HW h D) {a p : Nat} {v : Int64} : HW (xm_sL h a p v) D := w
theorem HW.sR (w : HW h D) {a p : Nat} {v : Option Nat} : HW (xm_sR h a p v) D := w
theorem hx.K (x : hx z s h h') (w : HW h D) {a k : Nat} (e : xm_K h a = k) (hk : ¬ k = 0) : xm_K h' a = k := (x.2.2.2.2.2 a (w.lt e hk)).1.trans e
theorem hx.N (x : hx z s h h') (w : HW h D) {a k n : Nat} (e : xm_K h a = k) (hk : ¬ k = 0) (en : xm_N h a = n) : xm_N h' a = n := (x.2.2.2.2.2 a (w.lt e hk)).2.1.trans en
theorem hx.I (x : hx z s h h') (w : HW h D) {a k p : Nat} (e : xm_K h a = k) (hk : ¬ k = 0) : xm_I h' a p = xm_I h a p := ((x.2.2.2.2.2 a (w.lt e hk)).2.2 p).1
theorem hx.R (x : hx z s h h') (w : HW h D) {a k p : Nat} (e : xm_K h a = k) (hk : ¬ k = 0) : xm_R h' a p = xm_R h a p := ((x.2.2.2.2.2 a (w.lt e hk)).2.2 p).2.2
theorem CS.hx (q : CS h D) (w : HW h D) (x : hx z s h h') : CS h' D := by
  have B : xm_B h' = xm_B h := x.1
  obtain ⟨q1, q2, q3, q4, q5, q6, q7, q8, q9, q10, q11, q12, q13, q14, q15, q16, q17, q18⟩ := q
  have RX : ∀ p, xm_R h' (xd_X D) p = xm_R h (xd_X D) p := fun p => x.R w q2 (by decide)
  have oa : ∀ e ∈ cs_oa, ∀ p, xm_R h' (xd_A D 0 e.1) p = xm_R h (xd_A D 0 e.1) p := fun e he p => x.R w (q6 e he).2.1 (by
    have : ∀ e ∈ cs_oa, ¬ e.2.1 = 0 := by decide
    exact this e he)
  have co : ∀ {a kd L i}, cs_o h D a kd L i → ¬ kd = 0 → cs_o h' D a kd L i := fun ⟨c1, c2, c3⟩ hk => ⟨x.K w c1 hk, by rw [B]; exact c2, c3⟩
  refine ⟨q1, x.K w q2 (by decide), by rw [B]; exact q3, q4, fun e he => ?_, fun e he => ?_, fun e he => ?_, fun l hl => ?_, fun l hl => ?_, fun p hp => ?_, fun i hi => ?_, fun b hb => ?_, fun r hr => ?_, fun r hr => ?_, q15, ?_, q17, q18⟩
  · obtain ⟨a1, a2, a3, a4, a5⟩ := q5 e he
    have nz : ¬ e.2.1 = 0 := by
      have : ∀ e ∈ cs_ar, ¬ e.2.1 = 0 := by decide
      exact this e he
    exact ⟨by rw [RX]; exact a1, x.K w a2 nz, x.N w a2 nz a3, by rw [B]; exact a4, a5⟩
  · obtain ⟨a1, a2, a3, a4⟩ := q6 e he
    have nz : ¬ e.2.1 = 0 := by
      have : ∀ e ∈ cs_oa, ¬ e.2.1 = 0 := by decide
      exact this e he
    exact ⟨by rw [RX]; exact a1, x.K w a2 nz, x.N w a2 nz a3, by rw [B]; exact a4⟩
  · obtain ⟨a1, a2, a3⟩ := q7 e he
    have nz : ¬ e.2 = 0 := by
      have : ∀ e ∈ cs_ob, ¬ e.2 = 0 := by decide
      exact this e he
    exact ⟨by rw [RX]; exact a1, x.K w a2 nz, by rw [B]; exact a3⟩
  · obtain ⟨a1, a2, a3⟩ := q8 l hl
    exact ⟨by rw [oa (0, 110, 12) (by decide)]; exact a1, co a2 (by decide), a3⟩
  · obtain ⟨a1, a2, a3⟩ := q9 l hl
    exact ⟨by rw [oa (1, 110, 12) (by decide)]; exact a1, co a2 (by decide), a3⟩
  · obtain ⟨a1, a2⟩ := q10 p hp
    exact ⟨by rw [oa (30, 115, 16) (by decide)]; exact a1, co a2 (by decide)⟩
  · obtain ⟨a1, a2, a3⟩ := q11 i hi
    cases em : xd_m D i with
    | none =>
      rw [em] at a3
      obtain ⟨b1, b2, b3, b4, b5, b6, b7⟩ := a3
      have R4 : ∀ p, xm_R h' (xd_A D 4 i) p = xm_R h (xd_A D 4 i) p := fun p => x.R w b1.1 (by decide)
      exact ⟨by rw [oa (36, 116, 40) (by decide)]; exact a1, by rw [R4]; exact a2, co b1 (by decide), by rw [R4]; exact b2, by rw [R4]; exact b3, x.K w b4 (by decide), x.N w b4 (by decide) b5, by rw [B]; exact b6, b7⟩
    | some y =>
      obtain ⟨a, b⟩ := y
      rw [em] at a3
      obtain ⟨b1, b2, b3, b4, b5, b6⟩ := a3
      have R4 : ∀ p, xm_R h' (xd_A D 4 i) p = xm_R h (xd_A D 4 i) p := fun p => x.R w b1.1 (by decide)
      exact ⟨by rw [oa (36, 116, 40) (by decide)]; exact a1, by rw [R4]; exact a2, co b1 (by decide), b2, b3, by rw [R4]; exact b4, by rw [R4]; exact b5, by rw [R4]; exact b6⟩
  · obtain ⟨a1, a2⟩ := q12 b hb
    exact ⟨by rw [oa (38, 117, 4) (by decide)]; exact a1, co a2 (by decide)⟩
  · obtain ⟨a1, a2, a3, a4, a5, a6, a7⟩ := q13 r hr
    have R7 : ∀ p, xm_R h' (xd_A D 7 r) p = xm_R h (xd_A D 7 r) p := fun p => x.R w a2.1 (by decide)
    exact ⟨by rw [oa (19, 114, 2) (by decide)]; exact a1, co a2 (by decide), by rw [R7]; exact a3, x.K w a4 (by decide), x.N w a4 (by decide) a5, by rw [B]; exact a6, a7⟩
  · obtain ⟨a1, a2, a3, a4⟩ := q14 r hr
    exact ⟨by rw [oa (16, 112, 2) (by decide)]; exact a1, x.K w a2 (by decide), x.N w a2 (by decide) a3, by rw [B]; exact a4⟩
  · rw [x.R w (q7 (15, 3) (by decide)).2.1 (by decide)]
    exact q16
theorem TO.hx (w : HW h D) (x : hx z s h h') : ∀ (t : Tm) (a : Nat), TO h D t a → TO h' D t a
  | .num v, a, ⟨k, n, i⟩ => ⟨x.K w k (by decide), n, by rw [x.I w k (by decide)]; exact i⟩
  | .var _, a, ⟨k, n, i⟩ => ⟨x.K w k (by decide), n, by rw [x.I w k (by decide)]; exact i⟩
  | .neg t, a, ⟨k, b, r, o⟩ => ⟨x.K w k (by decide), b, by rw [x.R w k (by decide)]; exact r, TO.hx w x t b o⟩
  | .mulR t v, a, ⟨k, n, i, b, c, rb, rc, ob, kc, nc, ic⟩ => ⟨x.K w k (by decide), n, by rw [x.I w k (by decide)]; exact i, b, c, by rw [x.R w k (by decide)]; exact rb, by rw [x.R w k (by decide)]; exact rc, TO.hx w x t b ob, x.K w kc (by decide), nc, by rw [x.I w kc (by decide)]; exact ic⟩
  | .mulL o (.add u v), a, ⟨k, n, i, b, c, rb, rc, ob, oc⟩ => ⟨x.K w k (by decide), n, by rw [x.I w k (by decide)]; exact i, b, c, by rw [x.R w k (by decide)]; exact rb, by rw [x.R w k (by decide)]; exact rc, TO.hx w x u b ob, TO.hx w x v c oc⟩
theorem LO.hx (w : HW h D) (x : hx z s h h') {L : Ln} {a : Nat} (o : LO h D L a) : LO h' D L a := by
  rcases o with ⟨s3, k, w1, t1, ⟨b, rb, ob⟩, hc⟩ | ⟨s4, k, t, c, e, w1, t1, rc, oc⟩ | ⟨n3, n4, k, r⟩
  · refine Or.inl ⟨s3, x.K w k (by decide), w1, t1, ⟨b, by rw [x.R w k (by decide)]; exact rb, TO.hx w x _ _ ob⟩, ?_⟩
    cases e : L.2.2 with
    | none =>
      rw [e] at hc
      show xm_R h' a 1 = none
      rw [x.R w k (by decide)]
      exact hc
    | some t =>
      rw [e] at hc
      obtain ⟨w2, t2, c, rc, oc⟩ := hc
      exact ⟨w2, t2, c, by rw [x.R w k (by decide)]; exact rc, TO.hx w x _ _ oc⟩
  · exact Or.inr (Or.inl ⟨s4, x.K w k (by decide), t, c, e, w1, t1, by rw [x.R w k (by decide)]; exact rc, TO.hx w x _ _ oc⟩)
  · refine Or.inr (Or.inr ⟨n3, n4, ?_, ?_⟩)
    · rcases k with k | k | k
      · exact Or.inl (x.K w k (by decide))
      · exact Or.inr (Or.inl (x.K w k (by decide)))
      · exact Or.inr (Or.inr (x.K w k (by decide)))
    · rcases k with k | k | k
      · rw [x.R w k (by decide)]; exact r
      · rw [x.R w k (by decide)]; exact r
      · rw [x.R w k (by decide)]; exact r
theorem CR.hx (w : HW h D) (x : hx z s h h') {r n : Nat} (hr : r < 2) {L : Nat → Ln} (q : CS h D) (c : CR h D r n L) : CR h' D r n L := by
  refine ⟨c.1, fun i hi => ?_⟩
  obtain ⟨a, h1, h2⟩ := c.2 i hi
  exact ⟨a, by rw [x.R w (cs_W q hr).2.1 (by decide)]; exact h1, h2.hx w x⟩
theorem MS.hx (w : HW h D) (x : hx z s h h') {M : Nat} (q : MS h M) : MS h' M := by
  refine ⟨x.K w q.1 (by decide), by rw [x.1]; exact q.2.1, fun e he => ?_⟩
  obtain ⟨a1, a2, a3⟩ := q.2.2 e he
  have nz : ¬ e.2.2.1 = 0 := by
    have : ∀ e ∈ xp_ms, ¬ e.2.2.1 = 0 := by decide
    exact this e he
  exact ⟨by rw [x.R w q.1 (by decide)]; exact a1, x.K w a2 nz, x.N w a2 nz a3⟩
/-! the component's ints put into a heap that grows -/
theorem mc_nw (w : HW h D) {kd n : Nat} : xm_nw (xp_c h D F) kd n s = xp_c (xm_nw h kd n s) D F := by
  have e1 : xm_u1 (fun a k => va_I (xd_E D a k) F (h.2.2.2.1 a k)) h.1.2.1 (fun _ => 0) = fun a k => va_I (xd_E D a k) F (xm_u1 h.2.2.2.1 h.1.2.1 (fun _ => 0) a k) := by
    funext a k
    unfold xm_u1
    by_cases e : a = h.1.2.1
    · rw [if_pos e, if_pos e, (w.2.1 a k (by rw [e]; exact Nat.le_refl _)).1]
      rfl
    · rw [if_neg e, if_neg e]
  have e2 : xm_u1 (fun a k => va_L (xd_L D a k) F (h.2.2.2.2.1 a k)) h.1.2.1 (fun _ => 0) = fun a k => va_L (xd_L D a k) F (xm_u1 h.2.2.2.2.1 h.1.2.1 (fun _ => 0) a k) := by
    funext a k
    unfold xm_u1
    by_cases e : a = h.1.2.1
    · rw [if_pos e, if_pos e, (w.2.1 a k (by rw [e]; exact Nat.le_refl _)).2]
      rfl
    · rw [if_neg e, if_neg e]
  have t := congr (congrArg (fun x y => (((h.1.1, h.1.2.1 + 1, h.1.2.2.1 + s, h.1.2.2.2), xm_u1 h.2.1 h.1.2.1 kd, xm_u1 h.2.2.1 h.1.2.1 n, x, y, xm_u1 h.2.2.2.2.2 h.1.2.1 (fun _ => none)) : xm_H)) e1) e2
  exact t
theorem mc_sn {a p : Nat} {v : Int32} (he : xd_E D a p = none) : xm_sI (xp_c h D F) a p v = xp_c (xm_sI h a p v) D F := by
  have e1 : xm_u2 (fun a k => va_I (xd_E D a k) F (h.2.2.2.1 a k)) a p v = fun b j => va_I (xd_E D b j) F (xm_u2 h.2.2.2.1 a p v b j) := by
    funext b j
    unfold xm_u2
    by_cases e : b = a ∧ j = p
    · rw [if_pos e, if_pos e, e.1, e.2, he]
      rfl
    · rw [if_neg e, if_neg e]
  have t := congrArg (fun x => ((h.1, h.2.1, h.2.2.1, x, (fun a k => va_L (xd_L D a k) F (h.2.2.2.2.1 a k)), h.2.2.2.2.2) : xm_H)) e1
  exact t
theorem mc_sLn {a p : Nat} {v : Int64} (he : xd_L D a p = none) : xm_sL (xp_c h D F) a p v = xp_c (xm_sL h a p v) D F := by
  have e1 : xm_u2 (fun a k => va_L (xd_L D a k) F (h.2.2.2.2.1 a k)) a p v = fun b j => va_L (xd_L D b j) F (xm_u2 h.2.2.2.2.1 a p v b j) := by
    funext b j
    unfold xm_u2
    by_cases e : b = a ∧ j = p
    · rw [if_pos e, if_pos e, e.1, e.2, he]
      rfl
    · rw [if_neg e, if_neg e]
  have t := congrArg (fun x => ((h.1, h.2.1, h.2.2.1, (fun a k => va_I (xd_E D a k) F (h.2.2.2.1 a k)), x, h.2.2.2.2.2) : xm_H)) e1
  exact t
theorem mc_sR {a p : Nat} {v : Option Nat} : xm_sR (xp_c h D F) a p v = xp_c (xm_sR h a p v) D F := Eq.trans (b := xp_c (xm_sR h a p v) D F) rfl rfl
end HX
