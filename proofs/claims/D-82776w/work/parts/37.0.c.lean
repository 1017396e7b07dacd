/-! both: the component and the model side by side -/
set_option maxRecDepth 100000
section JNT
variable {h h' h2 : xm_H} {D D' : xp_D} {F G F1 F2 : xp_F} {M z s : Nat}
/-- the heap of both -/
def Jh (h : xm_H) (D : xp_D) (M : Nat) (F : xp_F) : xm_H := xp_m (xp_c h D F) M F
theorem comm (dM : ∀ o p, o ≤ 70 → xd_E D (M + o) p = none) : xp_m (xp_c h D F) M G = xp_c (xp_m h M G) D F := by
  have e : (fun a k => if M ≤ a ∧ a ≤ M + 70 then G (a - M) k else va_I (xd_E D a k) F (h.2.2.2.1 a k)) = fun a k => va_I (xd_E D a k) F (if M ≤ a ∧ a ≤ M + 70 then G (a - M) k else h.2.2.2.1 a k) := by
    funext a k
    by_cases c : M ≤ a ∧ a ≤ M + 70
    · have := dM (a - M) k (by omega)
      rw [show M + (a - M) = a by omega] at this
      rw [if_pos c, if_pos c, this]
      rfl
    · rw [if_neg c, if_neg c]
  exact congrArg (fun y => ((h.1, h.2.1, h.2.2.1, y, (fun a k => va_L (xd_L D a k) F (h.2.2.2.2.1 a k)), h.2.2.2.2.2) : xm_H)) e
/-- the model's cells -/
theorem MS.cell (q : MS h M) {o : Nat} (ho : o ≤ 70) : xm_K h (M + o) = 5 ∨ xm_K h (M + o) = 100 ∨ xm_K h (M + o) = 102 := by
  by_cases c : o = 0
  · subst c
    exact Or.inl q.1
  · have m : ∀ o, o ≤ 70 → ¬ o = 0 → ∃ e ∈ xp_ms, e.2.1 = o ∧ (e.2.2.1 = 100 ∨ e.2.2.1 = 102) := by decide +kernel
    obtain ⟨e, he, e1, e2⟩ := m o ho c
    obtain ⟨-, a2, -⟩ := q.2.2 e he
    rw [e1] at a2
    rw [a2]
    exact Or.inr e2
theorem MS.I (q : MS h M) {b k p : Nat} (e : xm_K h b = k) (hk : ¬ k = 5 ∧ ¬ k = 100 ∧ ¬ k = 102) : xm_I (xp_m h M F) b p = xm_I h b p := by
  show (if M ≤ b ∧ b ≤ M + 70 then F (b - M) p else xm_I h b p) = _
  rw [if_neg]
  intro c
  have := q.cell (o := b - M) (by omega)
  rw [show M + (b - M) = b by omega, e] at this
  omega
theorem TO.m (q : MS h M) : ∀ (t : Tm) (a : Nat), TO h D t a → TO (xp_m h M F) D t a
  | .num v, a, ⟨k, n, i⟩ => ⟨k, n, by rw [q.I k (by decide)]; exact i⟩
  | .var _, a, ⟨k, n, i⟩ => ⟨k, n, by rw [q.I k (by decide)]; exact i⟩
  | .neg t, a, ⟨k, b, r, o⟩ => ⟨k, b, r, TO.m q t b o⟩
  | .mulR t v, a, ⟨k, n, i, b, c, rb, rc, ob, kc, nc, ic⟩ => ⟨k, n, by rw [q.I k (by decide)]; exact i, b, c, rb, rc, TO.m q t b ob, kc, nc, by rw [q.I kc (by decide)]; exact ic⟩
  | .mulL o (.add u v), a, ⟨k, n, i, b, c, rb, rc, ob, oc⟩ => ⟨k, n, by rw [q.I k (by decide)]; exact i, b, c, rb, rc, TO.m q u b ob, TO.m q v c oc⟩
theorem LO.m (q : MS h M) {L : Ln} {a : Nat} (o : LO h D L a) : LO (xp_m h M F) D L a := by
  rcases o with ⟨s3, k, w1, t1, ⟨b, rb, ob⟩, hc⟩ | ⟨s4, k, t, c, e1, w1, t1, rc, oc⟩ | ⟨n3, n4, k, r⟩
  · refine Or.inl ⟨s3, k, w1, t1, ⟨b, rb, TO.m q _ _ ob⟩, ?_⟩
    cases e1 : L.2.2 with
    | none =>
      rw [e1] at hc
      exact hc
    | some t =>
      rw [e1] at hc
      obtain ⟨w2, t2, c, rc, oc⟩ := hc
      exact ⟨w2, t2, c, rc, TO.m q _ _ oc⟩
  · exact Or.inr (Or.inl ⟨s4, k, t, c, e1, w1, t1, rc, TO.m q _ _ oc⟩)
  · exact Or.inr (Or.inr ⟨n3, n4, k, r⟩)
theorem CR.m (q : MS h M) {r n : Nat} {L : Nat → Ln} (c : CR h D r n L) : CR (xp_m h M F) D r n L := by
  refine ⟨c.1, fun i hi => ?_⟩
  obtain ⟨a, h1, h2⟩ := c.2 i hi
  exact ⟨a, h1, LO.m q h2⟩
theorem SX.m (q : MS h M) {a m : Nat} {f : Nat → Int32} (y : SX h D a m f) : SX (xp_m h M F) D a m f := by
  obtain ⟨b, a1, a2, a3, a4, a5, a6, a7⟩ := y
  exact ⟨b, a1, a2, by rw [q.I a1 (by decide)]; exact a3, a4, a5, fun j hj => by rw [q.I a4 (by decide)]; exact a6 j hj, a7⟩
theorem SW.m (q : MS h M) (a : SW h D) : SW (xp_m h M F) D := by
  obtain ⟨a1, ⟨b, a2, a3⟩, a4⟩ := a
  refine ⟨a1, ⟨b, a2, SX.m q a3⟩, fun k hk => ?_⟩
  obtain ⟨y, b1, b2⟩ := a4 k hk
  exact ⟨y, b1, SX.m q b2⟩
/-- the shape of both -/
def JS (h : xm_H) (D : xp_D) (M : Nat) : Prop := CS h D ∧ HW h D ∧ VN D ∧ SW h D ∧ MS h M ∧ (∀ o p, o ≤ 70 → xd_E D (M + o) p = none) ∧ ¬ xd_A D 0 0 = xd_A D 0 1
theorem JS.c (q : JS h D M) : CS (xp_m h M F) D := q.1
theorem JS.w (q : JS h D M) : HW (xp_m h M F) D := q.2.1
theorem JS.sw (q : JS h D M) : SW (xp_m h M F) D := SW.m q.2.2.2.2.1 q.2.2.2.1
/-- a call of both -/
theorem J_step {mi mj X1 X2 : Nat} {as : List Value} {v : Int32} (js : JS h D M) {P : xp_F → xm_H → xp_D → Prop} {Q : xp_F → Prop}
    (hc : ∃ h' D' F1, xm_met X1 mi (.ref (xd_X D) :: as) (xp_c (xp_m h M F) D F) = some (.inl (some (.int v)), xp_c h' D' F1) ∧ CS h' D' ∧ HW h' D' ∧ VN D' ∧ wx z s (xp_m h M F) D h' D' ∧ xd_X D' = xd_X D ∧ (∀ k, xd_A D' 0 k = xd_A D 0 k) ∧ P F1 h' D')
    (hm : ∀ hb, MS hb M → ∃ F2, xm_met X2 mj (.ref M :: as) (xp_m hb M F) = some (.inl (some (.int v)), xp_m hb M F2) ∧ Q F2)
    (ag : ∀ h' D' F1 F2, P F1 h' D' → Q F2 → ∀ o k, nok (xd_n D' 0) (xd_n D' 1) (xd_n D' 2) (xd_n D' 3) o k → o ≤ 70 → F1 o k = F2 o k) :
    ∃ Hm h2 D2 F3, xm_met X1 mi (.ref (xd_X D) :: as) (Jh h D M F) = some (.inl (some (.int v)), Hm) ∧ xm_met X2 mj (.ref M :: as) Hm = some (.inl (some (.int v)), Jh h2 D2 M F3) ∧ JS h2 D2 M ∧ xd_X D2 = xd_X D ∧ wx z s (xp_m h M F) D h2 D2 ∧ ∃ F1 F2, Hm = xp_c h2 D2 F1 ∧ P F1 h2 D2 ∧ Q F2 ∧ ∀ o k, F3 o k = if o ≤ 70 then F2 o k else F1 o k := by
  obtain ⟨q, w, v1, sw, ms, dM, n01⟩ := js
  obtain ⟨h2, D2, F1, m1, q2, w2, v2, x, eX, eA, p1⟩ := hc
  have msM : MS (xp_m h M F) M := ms
  have wM : HW (xp_m h M F) D := w
  have ms2 : MS h2 M := MS.wx wM x msM
  have cellz : ∀ o, o ≤ 70 → M + o < xm_Z (xp_m h M F) := fun o ho => by
    rcases ms.cell ho with k | k | k
    · exact w.lt k (by decide)
    · exact w.lt k (by decide)
    · exact w.lt k (by decide)
  have dM2 : ∀ o p, o ≤ 70 → xd_E D2 (M + o) p = none := fun o p ho => (((x.2.2.2.2.2 _ (cellz o ho)).2.2 p).2 (dM o p ho)).1
  have put : h2 = xp_m h2 M F := m_put (fun o k ho => (((x.2.2.2.2.2 _ (cellz o ho)).2.2 k).2 (dM o k ho)).2.trans (mp_I ho))
  have eH : xp_c h2 D2 F1 = xp_m (xp_c h2 D2 F1) M F := by
    rw [comm dM2, ← put]
  have msb : MS (xp_c h2 D2 F1) M := ms2
  obtain ⟨F2, m2, p2⟩ := hm (xp_c h2 D2 F1) msb
  have sw2 : SW h2 D2 := SW.wx (show CS (xp_m h M F) D from q) wM x (eA 14) (SW.m ms sw)
  refine ⟨xp_c h2 D2 F1, h2, D2, fun o k => if o ≤ 70 then F2 o k else F1 o k, ?_, ?_, ⟨q2, w2, v2, sw2, ms2, dM2, by rw [eA, eA]; exact n01⟩, eX, x, F1, F2, rfl, p1, p2, fun o k => rfl⟩
  · unfold Jh
    rw [comm dM]
    exact m1
  · refine (congrArg (fun y => xm_met X2 mj (.ref M :: as) y) eH).trans (m2.trans ?_)
    have a := ag h2 D2 F1 F2 p1 p2
    have e1 : xp_c h2 D2 F1 = xp_c h2 D2 (fun o k => if o ≤ 70 then F2 o k else F1 o k) := by
      refine xp_c_ren (fun b p => ?_) (fun b p => ?_)
      · cases e : xd_E D2 b p with
        | none => rfl
        | some y =>
          show (if y.1 ≤ 70 then F2 y.1 y.2 else F1 y.1 y.2) = F1 y.1 y.2
          by_cases c : y.1 ≤ 70
          · rw [if_pos c]
            exact (a _ _ (v2 _ _ _ (Or.inl e)) c).symm
          · rw [if_neg c]
      · cases e : xd_L D2 b p with
        | none => rfl
        | some y =>
          show (if y.1 ≤ 70 then F2 y.1 y.2 else F1 y.1 y.2).toInt64 = (F1 y.1 y.2).toInt64
          by_cases c : y.1 ≤ 70
          · rw [if_pos c, a _ _ (v2 _ _ _ (Or.inr e)) c]
          · rw [if_neg c]
    have e2 : ∀ hb : xm_H, xp_m hb M F2 = xp_m hb M (fun o k => if o ≤ 70 then F2 o k else F1 o k) := fun hb => by
      have e : (fun a k => if M ≤ a ∧ a ≤ M + 70 then F2 (a - M) k else hb.2.2.2.1 a k) = fun a k => if M ≤ a ∧ a ≤ M + 70 then (if a - M ≤ 70 then F2 (a - M) k else F1 (a - M) k) else hb.2.2.2.1 a k := by
        funext b k
        by_cases c : M ≤ b ∧ b ≤ M + 70
        · rw [if_pos c, if_pos c, if_pos (by omega)]
        · rw [if_neg c, if_neg c]
      exact congrArg (fun y => ((hb.1, hb.2.1, hb.2.2.1, y, hb.2.2.2.2.1, hb.2.2.2.2.2) : xm_H)) e
    unfold Jh
    rw [← e1, e2]
end JNT
