/-! the reader's row changes -/
set_option maxRecDepth 100000
section RXR
variable {h h' h2 : xm_H} {D : xp_D} {F G : xp_F} {z s : Nat}
theorem CS.row (q : CS h D) {v : Option Nat} : CS (xm_sR h (xd_A D 0 15) 6 v) D := by
  obtain ⟨q1, q2, q3, q4, q5, q6, q7, q8, q9, q10, q11, q12, q13, q14, q15, q16, q17, q18⟩ := q
  have k15 := (q7 (15, 3) (by decide)).2.1
  have RR : ∀ {a k : Nat} (p : Nat), xm_K h a = k → ¬ k = 3 → xm_R (xm_sR h (xd_A D 0 15) 6 v) a p = xm_R h a p := fun {a k} p e hk => by
    rw [h_R_sR, if_neg]
    rintro ⟨e1, -⟩
    rw [e1] at e
    exact hk (e.symm.trans k15)
  have RX : ∀ p, xm_R (xm_sR h (xd_A D 0 15) 6 v) (xd_X D) p = xm_R h (xd_X D) p := fun p => RR p q2 (by decide)
  have oa : ∀ e ∈ cs_oa, ∀ p, xm_R (xm_sR h (xd_A D 0 15) 6 v) (xd_A D 0 e.1) p = xm_R h (xd_A D 0 e.1) p := fun e he p => RR p (q6 e he).2.1 (by
    have : ∀ e ∈ cs_oa, ¬ e.2.1 = 3 := by decide
    exact this e he)
  have co : ∀ {a kd L i}, cs_o h D a kd L i → ¬ kd = 0 → cs_o (xm_sR h (xd_A D 0 15) 6 v) D a kd L i := fun ⟨c1, c2, c3⟩ hk => ⟨c1, c2, c3⟩
  refine ⟨q1, q2, q3, q4, fun e he => ?_, fun e he => ?_, fun e he => ?_, fun l hl => ?_, fun l hl => ?_, fun p hp => ?_, fun i hi => ?_, fun b hb => ?_, fun r hr => ?_, fun r hr => ?_, q15, ?_, q17, q18⟩
  · obtain ⟨a1, a2, a3, a4, a5⟩ := q5 e he
    have nz : ¬ e.2.1 = 0 := by
      have : ∀ e ∈ cs_ar, ¬ e.2.1 = 0 := by decide
      exact this e he
    exact ⟨by rw [RX]; exact a1, a2, a3, a4, a5⟩
  · obtain ⟨a1, a2, a3, a4⟩ := q6 e he
    have nz : ¬ e.2.1 = 0 := by
      have : ∀ e ∈ cs_oa, ¬ e.2.1 = 0 := by decide
      exact this e he
    exact ⟨by rw [RX]; exact a1, a2, a3, a4⟩
  · obtain ⟨a1, a2, a3⟩ := q7 e he
    have nz : ¬ e.2 = 0 := by
      have : ∀ e ∈ cs_ob, ¬ e.2 = 0 := by decide
      exact this e he
    exact ⟨by rw [RX]; exact a1, a2, a3⟩
  · obtain ⟨a1, a2, a3⟩ := q8 l hl
    exact ⟨by rw [oa (0, 110, 12) (by decide)]; exact a1, co a2 (by decide), a3⟩
  · obtain ⟨a1, a2, a3⟩ := q9 l hl
    exact ⟨by rw [oa (1, 110, 12) (by decide)]; exact a1, co a2 (by decide), a3⟩
  · obtain ⟨a1, a2⟩ := q10 p hp
    exact ⟨by rw [oa (30, 115, 16) (by decide)]; exact a1, co a2 (by decide)⟩
  · obtain ⟨a1, a2, a3⟩ := q11 i hi
    cases em : xd_m D i with
    | none =>
      rw [em] at a3
      obtain ⟨b1, b2, b3, b4, b5, b6, b7⟩ := a3
      have R4 : ∀ p, xm_R (xm_sR h (xd_A D 0 15) 6 v) (xd_A D 4 i) p = xm_R h (xd_A D 4 i) p := fun p => RR p b1.1 (by decide)
      exact ⟨by rw [oa (36, 116, 40) (by decide)]; exact a1, by rw [R4]; exact a2, co b1 (by decide), by rw [R4]; exact b2, by rw [R4]; exact b3, b4, b5, b6, b7⟩
    | some y =>
      obtain ⟨a, b⟩ := y
      rw [em] at a3
      obtain ⟨b1, b2, b3, b4, b5, b6⟩ := a3
      have R4 : ∀ p, xm_R (xm_sR h (xd_A D 0 15) 6 v) (xd_A D 4 i) p = xm_R h (xd_A D 4 i) p := fun p => RR p b1.1 (by decide)
      exact ⟨by rw [oa (36, 116, 40) (by decide)]; exact a1, by rw [R4]; exact a2, co b1 (by decide), b2, b3, by rw [R4]; exact b4, by rw [R4]; exact b5, by rw [R4]; exact b6⟩
  · obtain ⟨a1, a2⟩ := q12 b hb
    exact ⟨by rw [oa (38, 117, 4) (by decide)]; exact a1, co a2 (by decide)⟩
  · obtain ⟨a1, a2, a3, a4, a5, a6, a7⟩ := q13 r hr
    have R7 : ∀ p, xm_R (xm_sR h (xd_A D 0 15) 6 v) (xd_A D 7 r) p = xm_R h (xd_A D 7 r) p := fun p => RR p a2.1 (by decide)
    exact ⟨by rw [oa (19, 114, 2) (by decide)]; exact a1, co a2 (by decide), by rw [R7]; exact a3, a4, a5, a6, a7⟩
  · obtain ⟨a1, a2, a3, a4⟩ := q14 r hr
    exact ⟨by rw [oa (16, 112, 2) (by decide)]; exact a1, a2, a3, a4⟩
  · rw [h_R_sR, if_neg (by omega)]
    exact q16
/-- grown, but for the reader's row -/
def rx (z s : Nat) (D : xp_D) (h h' : xm_H) : Prop := xm_B h' = xm_B h ∧ xm_C h' = xm_C h ∧ xm_Z h ≤ xm_Z h' ∧ xm_Z h' ≤ xm_Z h + z ∧ xm_S h' ≤ xm_S h + s ∧ ∀ a, a < xm_Z h → xm_K h' a = xm_K h a ∧ xm_N h' a = xm_N h a ∧ ∀ p, xm_I h' a p = xm_I h a p ∧ xm_L h' a p = xm_L h a p ∧ (¬ (a = xd_A D 0 15 ∧ p = 6) → xm_R h' a p = xm_R h a p)
theorem rx.tr2 (a : rx z s D h h') {z2 s2 : Nat} (b : hx z2 s2 h' h2) : rx (z + z2) (s + s2) D h h2 := by
  obtain ⟨a1, a2, a3, a4, a5, a6⟩ := a
  obtain ⟨b1, b2, b3, b4, b5, b6⟩ := b
  refine ⟨b1.trans a1, b2.trans a2, by omega, by omega, by omega, fun x hx => ?_⟩
  obtain ⟨c1, c2, c3⟩ := a6 x hx
  obtain ⟨d1, d2, d3⟩ := b6 x (by omega)
  exact ⟨d1.trans c1, d2.trans c2, fun p => ⟨(d3 p).1.trans (c3 p).1, (d3 p).2.1.trans (c3 p).2.1, fun hn => (d3 p).2.2.trans ((c3 p).2.2 hn)⟩⟩
theorem rx.mono (a : rx z s D h h') {z2 s2 : Nat} (h1 : z ≤ z2) (h2 : s ≤ s2) : rx z2 s2 D h h' := by
  obtain ⟨a1, a2, a3, a4, a5, a6⟩ := a
  exact ⟨a1, a2, a3, by omega, by omega, a6⟩
theorem rx.sR (x : rx z s D h h') {a p : Nat} {v : Option Nat} (ha : xm_Z h ≤ a) : rx z s D h (xm_sR h' a p v) := by
  obtain ⟨a1, a2, a3, a4, a5, a6⟩ := x
  refine ⟨a1, a2, a3, a4, a5, fun b hb => ?_⟩
  obtain ⟨c1, c2, c3⟩ := a6 b hb
  refine ⟨c1, c2, fun q => ⟨(c3 q).1, (c3 q).2.1, fun hn => ?_⟩⟩
  rw [h_R_sR, if_neg (by omega)]
  exact (c3 q).2.2 hn
theorem rx.row (x : hx z s h h') {v : Option Nat} : rx z s D h (xm_sR h' (xd_A D 0 15) 6 v) := by
  obtain ⟨a1, a2, a3, a4, a5, a6⟩ := x
  refine ⟨a1, a2, a3, a4, a5, fun b hb => ?_⟩
  obtain ⟨c1, c2, c3⟩ := a6 b hb
  refine ⟨c1, c2, fun q => ⟨(c3 q).1, (c3 q).2.1, fun hn => ?_⟩⟩
  rw [h_R_sR, if_neg hn]
  exact (c3 q).2.2
/-- put back, it has only grown -/
theorem rx.un (x : rx z s D h h') : hx z s h (xm_sR h' (xd_A D 0 15) 6 (xm_R h (xd_A D 0 15) 6)) := by
  obtain ⟨a1, a2, a3, a4, a5, a6⟩ := x
  refine ⟨a1, a2, a3, a4, a5, fun b hb => ?_⟩
  obtain ⟨c1, c2, c3⟩ := a6 b hb
  refine ⟨c1, c2, fun q => ⟨(c3 q).1, (c3 q).2.1, ?_⟩⟩
  by_cases e : b = xd_A D 0 15 ∧ q = 6
  · rw [h_R_sR, if_pos e, e.1, e.2]
  · rw [h_R_sR, if_neg e]
    exact (c3 q).2.2 e
theorem sR_sR {a p : Nat} {u v : Option Nat} : xm_sR (xm_sR h a p u) a p v = xm_sR h a p v := by
  have e : (fun a' k' => if a' = a ∧ k' = p then v else if a' = a ∧ k' = p then u else xm_R h a' k') = fun a' k' => if a' = a ∧ k' = p then v else xm_R h a' k' := by
    funext a' k'
    by_cases c : a' = a ∧ k' = p
    · rw [if_pos c, if_pos c]
    · rw [if_neg c, if_neg c, if_neg c]
  exact congrArg (fun y => ((h.1, h.2.1, h.2.2.1, h.2.2.2.1, h.2.2.2.2.1, y) : xm_H)) e
theorem sR_id {a p : Nat} : xm_sR h a p (xm_R h a p) = h := by
  have e : (fun a' k' => if a' = a ∧ k' = p then xm_R h a p else xm_R h a' k') = fun a' k' => xm_R h a' k' := by
    funext a' k'
    by_cases c : a' = a ∧ k' = p
    · rw [if_pos c, c.1, c.2]
    · rw [if_neg c]
  exact congrArg (fun y => ((h.1, h.2.1, h.2.2.1, h.2.2.2.1, h.2.2.2.2.1, y) : xm_H)) e
theorem CS.rx (q : CS h D) (w : HW h D) (x : rx z s D h h') : CS h' D := by
  have q2 := (q.hx w x.un).row (v := xm_R h' (xd_A D 0 15) 6)
  rw [sR_sR, sR_id] at q2
  exact q2
theorem rx.R (x : rx z s D h h') (q : CS h D) (w : HW h D) {a k p : Nat} (e : xm_K h a = k) (hk : ¬ k = 0) (h3 : ¬ k = 3) : xm_R h' a p = xm_R h a p := ((x.2.2.2.2.2 a (w.lt e hk)).2.2 p).2.2 (fun y => by
  rw [y.1] at e
  exact h3 (e.symm.trans (cs_f15 q).2.1))
theorem rx.K (x : rx z s D h h') (w : HW h D) {a k : Nat} (e : xm_K h a = k) (hk : ¬ k = 0) : xm_K h' a = k := (x.2.2.2.2.2 a (w.lt e hk)).1.trans e
theorem rx.N (x : rx z s D h h') (w : HW h D) {a k n : Nat} (e : xm_K h a = k) (hk : ¬ k = 0) (en : xm_N h a = n) : xm_N h' a = n := (x.2.2.2.2.2 a (w.lt e hk)).2.1.trans en
theorem rx.I (x : rx z s D h h') (w : HW h D) {a k p : Nat} (e : xm_K h a = k) (hk : ¬ k = 0) : xm_I h' a p = xm_I h a p := ((x.2.2.2.2.2 a (w.lt e hk)).2.2 p).1
theorem SX.rx (q : CS h D) (w : HW h D) (x : rx z s D h h') {a m : Nat} {f : Nat → Int32} (y : SX h D a m f) : SX h' D a m f := by
  obtain ⟨b, a1, a2, a3, a4, a5, a6, a7⟩ := y
  exact ⟨b, x.K w a1 (by decide), (x.R q w a1 (by decide) (by decide)).trans a2, (x.I w a1 (by decide)).trans a3, x.K w a4 (by decide), x.N w a4 (by decide) a5, fun j hj => (x.I w a4 (by decide)).trans (a6 j hj), a7⟩
theorem SW.rx (q : CS h D) (w : HW h D) (x : rx z s D h h') (a : SW h D) : SW h' D := by
  obtain ⟨a1, ⟨b, a2, a3⟩, a4⟩ := a
  refine ⟨by rw [x.2.1]; exact a1, ⟨b, by rw [x.2.1]; exact a2, a3.rx q w x⟩, fun k hk => ?_⟩
  obtain ⟨y, b1, b2⟩ := a4 k hk
  exact ⟨y, (x.R q w (cs_f14 q).2.1 (by decide) (by decide)).trans b1, b2.rx q w x⟩
theorem LQ.sR {L : Ln} {a b p : Nat} {v : Option Nat} (kb : ∀ k, (8 ≤ k ∧ k ≤ 17) → ¬ xm_K h b = k) (q : LQ h D L a) : LQ (xm_sR h b p v) D L a := by
  have e : ∀ y, (∃ k, (8 ≤ k ∧ k ≤ 17) ∧ xm_K h y = k) → ∀ j, xm_R (xm_sR h b p v) y j = xm_R h y j := fun y hy j => by
    obtain ⟨k, hk, ek⟩ := hy
    rw [h_R_sR, if_neg]
    rintro ⟨e1, -⟩
    exact kb k hk (e1 ▸ ek)
  have to : ∀ (t : Tm) (a : Nat), TO h D t a → TO (xm_sR h b p v) D t a := TO.chg (z0 := b) (Or.inr (Or.inr (Or.inr (by
    have := kb 8 (by omega)
    have := kb 9 (by omega)
    have := kb 10 (by omega)
    have := kb 13 (by omega)
    omega)))) (fun y hy => ⟨rfl, fun j => ⟨rfl, by rw [h_R_sR, if_neg (fun e => hy e.1)]⟩⟩)
  obtain ⟨lo, q0, q2, q3, q4, q5⟩ := q
  refine ⟨?_, q0, q2, q3, q4, q5⟩
  rcases lo with ⟨s3, k, w1, t1, ⟨b', rb, ob⟩, hc⟩ | ⟨s4, k, t, c, e1, w1, t1, rc, oc⟩ | ⟨n3, n4, k, r⟩
  · have ea := e a ⟨12, by omega, k⟩
    refine Or.inl ⟨s3, k, w1, t1, ⟨b', (ea 0).trans rb, to _ _ ob⟩, ?_⟩
    cases e1 : L.2.2 with
    | none =>
      rw [e1] at hc
      exact (ea 1).trans hc
    | some t =>
      rw [e1] at hc
      obtain ⟨w2, t2, c, rc, oc⟩ := hc
      exact ⟨w2, t2, c, (ea 1).trans rc, to _ _ oc⟩
  · exact Or.inr (Or.inl ⟨s4, k, t, c, e1, w1, t1, (e a ⟨14, by omega, k⟩ 1).trans rc, to _ _ oc⟩)
  · refine Or.inr (Or.inr ⟨n3, n4, k, ?_⟩)
    rcases k with k | k | k
    · exact (e a ⟨15, by omega, k⟩ 1).trans r
    · exact (e a ⟨16, by omega, k⟩ 1).trans r
    · exact (e a ⟨17, by omega, k⟩ 1).trans r
end RXR
