/-! the round of a cut -/
set_option maxRecDepth 100000
section STA
variable {d : Nat} {h : xm_H} {D : xp_D} {F G : xp_F} {M : Nat}
/-- grown, the rules known -/
theorem st_grow {X mi mj : Nat} {as : List Value} {v : Int32} {P : xp_F → xp_D → Prop} {Q : xp_F → Prop} (iv : IV M h D F)
    (hc : CS (xp_m h M F) D → HW (xp_m h M F) D → VN D → ∃ h' D' F1, xm_met X mi (.ref (xd_X D) :: as) (xp_c (xp_m h M F) D F) = some (.inl (some (.int v)), xp_c h' D' F1) ∧ GX 4000 30000 (xp_m h M F) D h' D' ∧ P F1 D')
    (hm : ∀ hb, MS hb M → ∃ F2, xm_met X mj (.ref M :: as) (xp_m hb M F) = some (.inl (some (.int v)), xp_m hb M F2) ∧ Q F2)
    (ag : ∀ D' F1 F2, P F1 D' → Q F2 → ∀ o k, nok (xd_n D' 0) (xd_n D' 1) (xd_n D' 2) (xd_n D' 3) o k → o ≤ 70 → F1 o k = F2 o k)
    (fin : ∀ D2 F1 F2, (xd_n D2 0 ≤ 12 ∧ xd_n D2 1 ≤ 16 ∧ xd_n D2 2 ≤ 40 ∧ xd_n D2 3 ≤ 4) → P F1 D2 → Q F2 → (∀ r n L, MR F r n L → MR (mrg F1 F2) r n L) ∧ IF D2 (mrg F1 F2)) : RG M X h D F mi mj as := by
  obtain ⟨n0, L0, n1, L1, ⟨m0, m1⟩, r0, r1⟩ := iv.2.1
  refine st_one (v := v) (P := fun F1 h' D' => P F1 D' ∧ CR h' D' 0 n0 L0 ∧ CR h' D' 1 n1 L1) (Q := Q) iv (fun q w' v _ _ => ?_) hm (fun h' D' F1 F2 a b => ag D' F1 F2 a.1 b) fun h2 D2 F1 F2 c2 w' q' x a b => ?_
  · obtain ⟨h', D', F1, m1, g, p⟩ := hc q w' v
    have x := g.wx
    obtain ⟨g1, g2, g3, -, -, -, g4, g5, g6⟩ := g
    exact ⟨h', D', F1, m1, g1, g2, g3, x, g4, g5, p, CR.wx w' x (by decide) q (g6 9 0 (by decide)) (CR.m iv.1.2.2.2.2.1 r0), CR.wx w' x (by decide) q (g6 9 1 (by decide)) (CR.m iv.1.2.2.2.2.1 r1)⟩
  · obtain ⟨a, r⟩ := a
    obtain ⟨f1, f2⟩ := fin D2 F1 F2 (cs_n c2) a b
    exact ⟨⟨n0, L0, n1, L1, ⟨f1 _ _ _ m0, f1 _ _ _ m1⟩, r⟩, f2⟩
theorem t_22 (iv : IV M h D F) {k c a b : Int32} : RG M (d + 1000) h D F 48 160 [.int k, .int c, .int a, .int b] := by
  obtain ⟨n0, L0, n1, L1, ⟨m0, m1⟩, r0, r1⟩ := iv.2.1
  have i := iv.2.2
  obtain ⟨B0, hB⟩ := i.2.2.2.2.2.2.2.2.1
  have hr := i.2.2.2.2.2.2.2.2.2.1
  obtain ⟨n12, n16, n40, -⟩ := cs_n iv.q
  obtain ⟨g, gl⟩ := @if_row D F i n12 n0 L0 k c a
  refine st_grow (v := (sp_cut F n0 L0 k c a b).1) (P := fun F1 D' => cq (sp_cut F n0 L0 k c a b).2 F1 ∧ (∃ B, BRc F1 B) ∧ IF D' (sp_cut F n0 L0 k c a b).2) (Q := fun F2 => rw' (sp_cut F n0 L0 k c a b).2 F2) iv (fun q w v => ?_) (fun hb ms => c160 (d := d + 991) ms (iv.n.l iv.q) iv.ld (iv.n.p iv.q) (iv.n.i iv.q) m0 (g.cw n12)) (fun D' F1 F2 x y o j nk ho => ?_) fun D2 F1 F2 nn x y => ?_
  · obtain ⟨h', D', G1, m1, x1, x2, x3, -, x5⟩ := c48 (d := d + 294) (a := a) (b := b) q w v iv.n iv.ld (CR.m iv.1.2.2.2.2.1 r0) m0.1 (if_hb i n12) hB hr (fun z => ⟨by have := g.2.2.1; omega, by have := g.2.2.2.1; have := g.2.2.2.2; omega⟩) gl (g.cwc i)
    refine ⟨h', D', G1, m1, x3.mono (by decide) (by decide), x1, x2, ?_⟩
    rcases x5 with ⟨e1, e2⟩ | ⟨cc, k1, k2, k3⟩
    · rw [e1, e2]
      exact i
    · refine IF_D (n := nxt D 2) (m := mxd D none) (fun j => ?_) k3 (if_cut i n12 n16 n40 (cs_ml iv.q) cc).1
      unfold nxt
      split
      · rename_i e
        rw [e]
        exact k1
      · rename_i e
        exact k2 j e
  · have nm := nk.1
    rw [x.1 o j (by omega), y o j (by omega) (by omega) (by omega)]
  · obtain ⟨x1, ⟨B1, x2⟩, x3⟩ := x
    have fr := rw_fr x1 y
    have fK : ∀ o j, 14 ≤ o → o < 29 → (sp_cut F n0 L0 k c a b).2 o j = F o j := by
      by_cases cc : sp_canCut F k c a b ∧ ¬ (sp_rows F n0 L0 k c a).2.2.2.length = 0
      · exact (if_cut i n12 n16 n40 (cs_ml iv.q) cc).2
      · intro o j _ _
        unfold sp_cut
        rw [if_neg cc]
    refine ⟨fun r n L m => mr_q fr (m.gP fK), if_q x3 nn.1 fr ⟨B1, x2.ag fun o j ho => mrg_hi (by omega)⟩ (x3.2.2.2.2.2.2.2.2.2.2.2.2.2.2.2.2.1.fr fun o l hl ho => ?_)⟩
    rcases ho with e | e | e | e | e
    · exact fr o l (by omega)
    · exact fr o l (by omega)
    · exact fr o l (by omega)
    · exact fr o l (by omega)
    · rw [e, mrg_hi (by decide)]
      exact x1 98 l (by omega)
end STA
