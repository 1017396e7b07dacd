/-! what holds between two calls -/
set_option maxRecDepth 100000
section IVD
variable {h : xm_H} {D : xp_D} {F G : xp_F} {M X z s : Nat}
def ivA (D : xp_D) (F : xp_F) : Prop := rg (F 0 0) 2400 ∧ GB F ∧ GI true (xd_n D 0) F ∧ GG (xd_n D 0) F
def ivZ (D : xp_D) (F : xp_F) : Prop := ∀ n, xd_n D 0 ≤ n → n < 12 → F 6 n = 0 ∧ F 7 n = 0 ∧ F 10 n = 0 ∧ F 12 n = 0 ∧ F 13 n = 0
def ivF (D : xp_D) (F : xp_F) : Prop := ∀ n, xd_n D 0 ≤ n → F 9 n = 0
def ivP (D : xp_D) (F : xp_F) : Prop := (∀ n, xd_n D 1 ≤ n → F 40 n = 0 ∧ F 41 n = 0 ∧ F 42 n = 0) ∧ HN D F
def ivT (F : xp_F) : Prop := ∃ c T, TP F c T ∧ TC F c T
def ivW (F : xp_F) : Prop := rg (F 0 2) 600 ∧ 0 ≤ (F 0 3).toInt
def ivH (D : xp_D) (F : xp_F) : Prop := ∀ l, l < xd_n D 0 → rg (F 4 l) 98
def ivB (F : xp_F) : Prop := ∃ B, BRc F B
def ivR (F : xp_F) : Prop := sp_isPerson F (F 0 62) → ¬ F 43 (F 0 62).toNatClampNeg = 0
def LPx (D : xp_D) (F : xp_F) : Prop := ∀ i, i < xd_n D 2 → match xd_m D i with
  | none => F 50 i = -1 ∧ xm_in (F 47 i) (xd_n D 1) = true ∧ xm_in (F 48 i) (xd_n D 1) = true
  | some (a, b) => F 50 i = Int32.ofNat a ∧ F 51 i = Int32.ofNat b
def ivL (D : xp_D) (F : xp_F) : Prop := LBn (xd_n D 2) F ∧ LSt D F ∧ LPx D F
def ivU (D : xp_D) (F : xp_F) : Prop := ∃ lv : Nat → Nat, LV D lv ∧ (∀ i, i < xd_n D 2 → lv i ≤ 40 ∧ 0 < (F 44 i).toInt ∧ (F 44 i).toInt ≤ 25200 * lv i) ∧ sumf (fun i => if F 54 i = 0 then 0 else lv i) (xd_n D 2) ≤ xd_n D 2
def ivY (D : xp_D) (F : xp_F) : Prop := ∀ b, b < xd_n D 3 → (0 ≤ (F 59 b).toInt ∧ (F 59 b).toInt ≤ 99999) ∧ 0 ≤ (F 58 b).toInt ∧ (F 58 b).toInt ≤ 99
def ivS (F : xp_F) : Prop := ∀ k, k < 4 → rg (F 17 k) 99
def ivN (F : xp_F) : Prop := ∀ l, l < 12 → bl (F 12 l) ∧ bl (F 13 l)
def ivD (F : xp_F) : Prop := rg (F 0 46) 4
/-- of the names -/
def IF (D : xp_D) (F : xp_F) : Prop := CN D F ∧ ivA D F ∧ ivZ D F ∧ ivF D F ∧ ivP D F ∧ ivT F ∧ ivW F ∧ ivH D F ∧ ivB F ∧ ivR F ∧ ivL D F ∧ ivU D F ∧ ivY D F ∧ PWy D F ∧ ivS F ∧ ivN F ∧ TI (xd_n D 0) F ∧ ivD F
/-- of the rules -/
def RU (h : xm_H) (D : xp_D) (F : xp_F) : Prop := ∃ n0 L0 n1 L1, (MR F 0 n0 L0 ∧ MR F 1 n1 L1) ∧ CR h D 0 n0 L0 ∧ CR h D 1 n1 L1
/-- between two calls -/
def IV (M : Nat) (h : xm_H) (D : xp_D) (F : xp_F) : Prop := JS h D M ∧ RU h D F ∧ IF D F
/-- a call of both, what it must do -/
def RG (M X : Nat) (h : xm_H) (D : xp_D) (F : xp_F) (mi mj : Nat) (as : List Value) : Prop := ∃ v Hm h2 D2 F2 F1, xm_met X mi (.ref (xd_X D) :: as) (Jh h D M F) = some (.inl (some (.int v)), Hm) ∧ xm_met X mj (.ref M :: as) Hm = some (.inl (some (.int v)), Jh h2 D2 M F2) ∧ Hm = xp_c h2 D2 F1 ∧ IV M h2 D2 F2 ∧ xd_X D2 = xd_X D ∧ wx 4000 30000 (xp_m h M F) D h2 D2
/-- of two, the model's to 70 -/
def mrg (F1 F2 : xp_F) : xp_F := fun o k => if o ≤ 70 then F2 o k else F1 o k
theorem mrg_s : mrg G G = G := by
  funext o k
  show (if o ≤ 70 then G o k else G o k) = _
  split <;> rfl
theorem st_one {mi mj : Nat} {as : List Value} {v : Int32} {P : xp_F → xm_H → xp_D → Prop} {Q : xp_F → Prop} (iv : IV M h D F)
    (hc : CS (xp_m h M F) D → HW (xp_m h M F) D → VN D → SW (xp_m h M F) D → RU (xp_m h M F) D F → ∃ h' D' F1, xm_met X mi (.ref (xd_X D) :: as) (xp_c (xp_m h M F) D F) = some (.inl (some (.int v)), xp_c h' D' F1) ∧ CS h' D' ∧ HW h' D' ∧ VN D' ∧ wx 4000 30000 (xp_m h M F) D h' D' ∧ xd_X D' = xd_X D ∧ (∀ k, xd_A D' 0 k = xd_A D 0 k) ∧ P F1 h' D')
    (hm : ∀ hb, MS hb M → ∃ F2, xm_met X mj (.ref M :: as) (xp_m hb M F) = some (.inl (some (.int v)), xp_m hb M F2) ∧ Q F2)
    (ag : ∀ h' D' F1 F2, P F1 h' D' → Q F2 → ∀ o k, nok (xd_n D' 0) (xd_n D' 1) (xd_n D' 2) (xd_n D' 3) o k → o ≤ 70 → F1 o k = F2 o k)
    (fin : ∀ h2 D2 F1 F2, CS h2 D2 → HW (xp_m h M F) D → CS (xp_m h M F) D → wx 4000 30000 (xp_m h M F) D h2 D2 → P F1 h2 D2 → Q F2 → RU h2 D2 (mrg F1 F2) ∧ IF D2 (mrg F1 F2)) : RG M X h D F mi mj as := by
  obtain ⟨js, ⟨n0, L0, n1, L1, m, r0, r1⟩, fi⟩ := iv
  have ms := js.2.2.2.2.1
  have csm : CS (xp_m h M F) D := js.1
  have hwm : HW (xp_m h M F) D := js.2.1
  obtain ⟨Hm, h2, D2, F3, m1, m2, js2, eX, x, F1, F2, eH, p1, p2, e3⟩ := J_step (z := 4000) (s := 30000) js (P := P) (Q := Q) (hc csm hwm js.2.2.1 (SW.m ms js.2.2.2.1) ⟨n0, L0, n1, L1, m, CR.m ms r0, CR.m ms r1⟩) hm ag
  have e3 : F3 = mrg F1 F2 := funext fun o => funext fun k => e3 o k
  subst e3
  obtain ⟨ru, fi2⟩ := fin h2 D2 F1 F2 js2.1 hwm csm x p1 p2
  exact ⟨v, Hm, h2, D2, _, F1, m1, m2, eH, ⟨js2, ru, fi2⟩, eX, x⟩
/-- grown but for the rules -/
theorem st_gx {mi mj : Nat} {as : List Value} {v : Int32} {P : xp_F → xp_D → Prop} {Q : xp_F → Prop} (iv : IV M h D F)
    (hc : ∀ hh, CS hh D → HW hh D → VN D → RU hh D F → ∃ h' D' F1, xm_met X mi (.ref (xd_X D) :: as) (xp_c hh D F) = some (.inl (some (.int v)), xp_c h' D' F1) ∧ GX 4000 30000 hh D h' D' ∧ P F1 D')
    (hm : ∀ hb, MS hb M → ∃ F2, xm_met X mj (.ref M :: as) (xp_m hb M F) = some (.inl (some (.int v)), xp_m hb M F2) ∧ Q F2)
    (ag : ∀ D' F1 F2, P F1 D' → Q F2 → ∀ o k, nok (xd_n D' 0) (xd_n D' 1) (xd_n D' 2) (xd_n D' 3) o k → o ≤ 70 → F1 o k = F2 o k)
    (fin : ∀ D2 F1 F2, (xd_n D2 0 ≤ 12 ∧ xd_n D2 1 ≤ 16 ∧ xd_n D2 2 ≤ 40 ∧ xd_n D2 3 ≤ 4) → P F1 D2 → Q F2 → (∀ r n L, MR F r n L → MR (mrg F1 F2) r n L) ∧ IF D2 (mrg F1 F2)) : RG M X h D F mi mj as := by
  refine st_one (P := fun F1 h' D' => P F1 D' ∧ RU h' D' F) (Q := Q) iv (fun q w v _ ru => ?_) hm (fun h' D' F1 F2 a b => ag D' F1 F2 a.1 b) fun h2 D2 F1 F2 c2 w q x a b => ?_
  · obtain ⟨h', D', F1, m1, g, p⟩ := hc _ q w v ru
    obtain ⟨n0, L0, n1, L1, m, r0, r1⟩ := ru
    have x := g.wx
    obtain ⟨g1, g2, g3, -, -, -, g4, g5, g6⟩ := g
    exact ⟨h', D', F1, m1, g1, g2, g3, x, g4, g5, p, n0, L0, n1, L1, m, CR.wx w x (by decide) q (g6 9 0 (by decide)) r0, CR.wx w x (by decide) q (g6 9 1 (by decide)) r1⟩
  · obtain ⟨f1, f2⟩ := fin D2 F1 F2 (cs_n c2) a.1 b
    obtain ⟨-, n0, L0, n1, L1, ⟨m0, m1⟩, r⟩ := a
    exact ⟨⟨n0, L0, n1, L1, ⟨f1 _ _ _ m0, f1 _ _ _ m1⟩, r⟩, f2⟩
/-- on one heap -/
theorem st_flat {mi mj : Nat} {as : List Value} {v : Int32} {P : xp_F → Prop} {Q : xp_F → Prop} (iv : IV M h D F)
    (hc : ∀ hh, CS hh D → VN D → RU hh D F → ∃ F1, xm_met X mi (.ref (xd_X D) :: as) (xp_c hh D F) = some (.inl (some (.int v)), xp_c hh D F1) ∧ P F1)
    (hm : ∀ hb, MS hb M → ∃ F2, xm_met X mj (.ref M :: as) (xp_m hb M F) = some (.inl (some (.int v)), xp_m hb M F2) ∧ Q F2)
    (ag : ∀ F1 F2, P F1 → Q F2 → ∀ o k, nok (xd_n D 0) (xd_n D 1) (xd_n D 2) (xd_n D 3) o k → o ≤ 70 → F1 o k = F2 o k)
    (fin : ∀ F1 F2, P F1 → Q F2 → (∀ r n L, MR F r n L → MR (mrg F1 F2) r n L) ∧ IF D (mrg F1 F2)) : RG M X h D F mi mj as :=
  st_gx (P := fun F1 D' => P F1 ∧ D' = D) (Q := Q) iv (fun hh q w v ru => by
    obtain ⟨F1, m1, p⟩ := hc hh q v ru
    exact ⟨hh, D, F1, m1, (GX.rf q w v).mono (by decide) (by decide), p, rfl⟩) hm (fun D' F1 F2 a b => by
    obtain ⟨a, e⟩ := a
    subst e
    exact ag F1 F2 a b) fun D2 F1 F2 _ a b => by
    obtain ⟨a, e⟩ := a
    subst e
    exact fin F1 F2 a b
/-- the same on both sides -/
theorem st_same {mi mj : Nat} {as : List Value} {v : Int32} (iv : IV M h D F)
    (hc : ∀ hh, CS hh D → VN D → xm_met X mi (.ref (xd_X D) :: as) (xp_c hh D F) = some (.inl (some (.int v)), xp_c hh D G))
    (hm : ∀ hb, MS hb M → xm_met X mj (.ref M :: as) (xp_m hb M F) = some (.inl (some (.int v)), xp_m hb M G))
    (mr : ∀ r n L, MR F r n L → MR G r n L) (fin : IF D G) : RG M X h D F mi mj as :=
  st_flat (P := fun F1 => F1 = G) (Q := fun F2 => F2 = G) iv (fun hh q v _ => ⟨G, hc hh q v, rfl⟩) (fun hb ms => ⟨G, hm hb ms, rfl⟩) (fun F1 F2 a b _ _ _ _ => by rw [a, b]) fun F1 F2 a b => by
    rw [a, b, mrg_s]
    exact ⟨mr, fin⟩
end IVD
