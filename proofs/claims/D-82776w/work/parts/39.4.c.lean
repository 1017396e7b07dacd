/-! calls that leave only traces; days -/
set_option maxRecDepth 100000
section ST5
variable {d : Nat} {h : xm_H} {D : xp_D} {F G : xp_F} {M : Nat}
/-- where a call that asks may write -/
abbrev qF (o k : Nat) : Prop := o = 29 ∨ (32 ≤ o ∧ o ≤ 38) ∨ (68 ≤ o ∧ o ≤ 70) ∨ (((5 ≤ o ∧ o ≤ 8) ∨ (10 ≤ o ∧ o ≤ 13)) ∧ 12 ≤ k) ∨ (o = 0 ∧ 56 ≤ k ∧ k ≤ 60) ∨ o = 80 ∨ (82 ≤ o ∧ o ≤ 85) ∨ 93 ≤ o
theorem if_q (i : IF D F) (n12 : xd_n D 0 ≤ 12) (fr : ∀ o k, ¬ qF o k → G o k = F o k) (br : ivB G) (tg : TI (xd_n D 0) G) : IF D G := by
  have e : G = fun o k => if qF o k then G o k else F o k := by
    funext o k
    by_cases c : qF o k
    · rw [if_pos c]
    · rw [if_neg c]
      exact fr o k c
  obtain ⟨cn, ⟨a1, a2, a3, a4⟩, hz, hf, hp, ht, hw, hh, hb, hr, hl, hu, hy, pw, hs, hn, ti, hd⟩ := i
  have f5 : ∀ l, l < 12 → ∀ o, o ≤ 13 → 1 ≤ o → G o l = F o l := fun l hl o h1 h2 => fr o l (by omega)
  have b3 : GI true (xd_n D 0) G := fun l hl => by
    have hl2 : l < 12 := by omega
    show rg (G 5 l) 9 ∧ 0 ≤ (G 6 l).toInt ∧ (G 6 l).toInt ≤ 400 * (G 5 l).toInt ∧ 0 ≤ (G 7 l).toInt ∧ (G 7 l).toInt ≤ 9 * (G 6 l).toInt
    rw [f5 l hl2 5 (by decide) (by decide), f5 l hl2 6 (by decide) (by decide), f5 l hl2 7 (by decide) (by decide)]
    exact a3 l hl
  have b4 : GG (xd_n D 0) G := fun l hl => by
    have hl2 : l < 12 := by omega
    rw [f5 l hl2 5 (by decide) (by decide), f5 l hl2 10 (by decide) (by decide), f5 l hl2 11 (by decide) (by decide)]
    exact a4 l hl
  have bz : ivZ D G := fun l h1 h2 => by
    rw [f5 l h2 6 (by decide) (by decide), f5 l h2 7 (by decide) (by decide), f5 l h2 10 (by decide) (by decide), f5 l h2 12 (by decide) (by decide), f5 l h2 13 (by decide) (by decide)]
    exact hz l h1 h2
  have bn : ivN G := fun l h2 => by
    rw [f5 l h2 12 (by decide) (by decide), f5 l h2 13 (by decide) (by decide)]
    exact hn l h2
  rw [e] at b3 b4 bz bn br tg ⊢
  exact ⟨cn, ⟨a1, a2, b3, b4⟩, bz, hf, hp, ht, hw, hh, br, hr, hl, hu, hy, pw, hs, bn, tg, hd⟩
theorem TI.fr {n : Nat} (a : TI n F) (h : ∀ o l, l < n → o = 3 ∨ o = 4 ∨ o = 90 ∨ o = 91 ∨ o = 98 → G o l = F o l) : TI n G := fun l hl => by
  rw [h 90 l hl (by omega), h 91 l hl (by omega), h 98 l hl (by omega), h 3 l hl (by omega), h 4 l hl (by omega)]
  exact a l hl
theorem mr_q (fr : ∀ o k, ¬ qF o k → G o k = F o k) {r n : Nat} {L : Nat → Ln} (a : MR F r n L) : MR G r n L := a.gP fun o k h1 h2 => fr o k (by omega)
theorem mrg_lo {F1 F2 : xp_F} {o k : Nat} (ho : o ≤ 70) : mrg F1 F2 o k = F2 o k := if_pos ho
theorem mrg_hi {F1 F2 : xp_F} {o k : Nat} (ho : ¬ o ≤ 70) : mrg F1 F2 o k = F1 o k := if_neg ho
theorem if_cr (i : IF D F) (n12 : xd_n D 0 ≤ 12) {F1 F2 : xp_F} (a : cr F F1) (b : pq 0 F F2) : (∀ r n L, MR F r n L → MR (mrg F1 F2) r n L) ∧ IF D (mrg F1 F2) := by
  have fr : ∀ o k, ¬ o = 29 → ¬ o = 82 → ¬ o = 83 → ¬ o = 101 → ¬ o = 102 → mrg F1 F2 o k = F o k := fun o k h1 h2 h3 h4 h5 => by
    by_cases c : o ≤ 70
    · rw [mrg_lo c]
      exact b.1 o k h1
    · rw [mrg_hi c]
      exact a o k h2 h3 h4 h5
  have fq : ∀ o k, ¬ qF o k → mrg F1 F2 o k = F o k := fun o k c => fr o k (by omega) (by omega) (by omega) (by omega) (by omega)
  obtain ⟨B, hB⟩ := i.2.2.2.2.2.2.2.2.1
  exact ⟨fun r n L m => mr_q fq m, if_q i n12 fq ⟨B, hB.ag fun o j ho => fr o j (by omega) (by omega) (by omega) (by omega) (by omega)⟩ (i.2.2.2.2.2.2.2.2.2.2.2.2.2.2.2.2.1.fr fun o l _ ho => fr o l (by omega) (by omega) (by omega) (by omega) (by omega))⟩
theorem RU.m (ru : RU h D F) {X : Prop} (f : ∀ n0 L0 n1 L1, MR F 0 n0 L0 → MR F 1 n1 L1 → CR h D 0 n0 L0 → CR h D 1 n1 L1 → X) : X := by
  obtain ⟨n0, L0, n1, L1, ⟨m0, m1⟩, r0, r1⟩ := ru
  exact f n0 L0 n1 L1 m0 m1 r0 r1
/-- on the same heap, the rules known -/
theorem st_heap {X mi mj : Nat} {as : List Value} {v : Int32} {P : xp_F → Prop} {Q : xp_F → Prop} (iv : IV M h D F)
    (hc : CS (xp_m h M F) D → VN D → ∃ F1, xm_met X mi (.ref (xd_X D) :: as) (xp_c (xp_m h M F) D F) = some (.inl (some (.int v)), xp_c (xp_m h M F) D F1) ∧ P F1)
    (hm : ∀ hb, MS hb M → ∃ F2, xm_met X mj (.ref M :: as) (xp_m hb M F) = some (.inl (some (.int v)), xp_m hb M F2) ∧ Q F2)
    (ag : ∀ F1 F2, P F1 → Q F2 → ∀ o k, nok (xd_n D 0) (xd_n D 1) (xd_n D 2) (xd_n D 3) o k → o ≤ 70 → F1 o k = F2 o k)
    (fin : ∀ F1 F2, P F1 → Q F2 → (∀ r n L, MR F r n L → MR (mrg F1 F2) r n L) ∧ IF D (mrg F1 F2)) : RG M X h D F mi mj as := by
  obtain ⟨n0, L0, n1, L1, ⟨m0, m1⟩, r0, r1⟩ := iv.2.1
  refine st_one (v := v) (P := fun F1 h' D' => P F1 ∧ D' = D ∧ h' = xp_m h M F) (Q := Q) iv (fun q w' v _ _ => ?_) hm (fun h' D' F1 F2 a b => ?_) fun h2 D2 F1 F2 c2 w' q' x a b => ?_
  · obtain ⟨G1, e, g⟩ := hc q v
    exact ⟨_, D, G1, e, q, w', v, (GX.rf q w' v).wx.mono (by decide) (by decide), rfl, fun _ => rfl, g, rfl, rfl⟩
  · obtain ⟨a, e1, e2⟩ := a
    subst e1
    exact ag F1 F2 a b
  · obtain ⟨a, e1, e2⟩ := a
    subst e1
    subst e2
    obtain ⟨f1, f2⟩ := fin F1 F2 a b
    exact ⟨⟨n0, L0, n1, L1, ⟨f1 _ _ _ m0, f1 _ _ _ m1⟩, CR.m iv.1.2.2.2.2.1 r0, CR.m iv.1.2.2.2.2.1 r1⟩, f2⟩
theorem ag_cr {n0 n1 n2 n3 o k : Nat} {F1 F2 : xp_F} (a : cr F F1) (b : pq 0 F F2) (nk : nok n0 n1 n2 n3 o k) (ho : o ≤ 70) : F1 o k = F2 o k := by
  have nm := nk.1
  rw [a o k (by omega) (by omega) (by omega) (by omega), b.1 o k (by omega)]
theorem t_12 (iv : IV M h D F) {r l w : Int32} : RG M (d + 1000) h D F 26 134 [.int r, .int l, .int w] := by
  obtain ⟨n0, L0, n1, L1, ⟨m0, m1⟩, r0, r1⟩ := iv.2.1
  exact st_heap (v := sp_asked F n0 L0 n1 L1 r l w) (P := cr F) (Q := pq 0 F) iv (fun q _ => c26 (d := d + 296) q iv.n (CR.m iv.1.2.2.2.2.1 r0) (CR.m iv.1.2.2.2.2.1 r1) m0.1 m1.1) (fun hb ms => c134 (d := d + 994) ms (iv.n.l iv.q) m0 m1) (fun F1 F2 a b o k nk ho => ag_cr a b nk ho) fun F1 F2 a b => if_cr iv.2.2 (cs_n iv.q).1 a b
theorem t_15 (iv : IV M h D F) {k c w : Int32} : RG M (d + 1000) h D F 33 146 [.int k, .int c, .int w] := by
  obtain ⟨n0, L0, n1, L1, ⟨m0, m1⟩, r0, r1⟩ := iv.2.1
  exact st_heap (v := sp_reach F n0 L0 k c w) (P := cr F) (Q := pq 0 F) iv (fun q _ => c33 (d := d + 295) q iv.n iv.ld (CR.m iv.1.2.2.2.2.1 r0) m0.1) (fun hb ms => c146 (d := d + 992) ms (iv.n.l iv.q) iv.ld (iv.n.p iv.q) m0) (fun F1 F2 a b o k nk ho => ag_cr a b nk ho) fun F1 F2 a b => if_cr iv.2.2 (cs_n iv.q).1 a b
theorem reached_bit {n : Nat} {L : Nat → Ln} {k c w : Int32} {l : Nat} (hl : l < 32) : ∀ N, N ≤ 12 → bit (xp_up (sp_reach1 F n L k c w) 0 N) l = true → sp_isR F n L k c w l = true
  | 0, _, b => by
    have b : bit 0 l = true := b
    rw [bit_0] at b
    cases b
  | N + 1, hN, b => by
    have b : bit (sp_reach1 F n L k c w N (xp_up (sp_reach1 F n L k c w) 0 N)) l = true := b
    unfold sp_reach1 at b
    by_cases c1 : sp_isR F n L k c w N = true
    · rw [if_pos c1, bit_set (by omega) hl] at b
      by_cases e : l = N
      · rw [e]
        exact c1
      · rw [decide_eq_false e, Bool.or_false] at b
        exact reached_bit hl N (by omega) b
    · rw [if_neg c1, Int32.or_zero] at b
      exact reached_bit hl N (by omega) b
/-- heights, yields of what is reached -/
theorem if_hb (i : IF D F) (n12 : xd_n D 0 ≤ 12) {n : Nat} {L : Nat → Ln} {k c w : Int32} : HB F (sp_cutOf F n L) (sp_lows (sp_reached F n L k c w) (F 0 6).toNatClampNeg) := by
  obtain ⟨cn, ⟨a1, a2, a3, a4⟩, hz, hf, hp, ht, hw, hh, hb, hr, hl, hu, hy, pw, hs, hn, ti, hd⟩ := i
  have et : (F 0 6).toNatClampNeg = xd_n D 0 := by rw [cn.1, tc_nat (by omega)]
  refine ⟨fun l m => ?_, hw⟩
  rw [et] at m
  have lt := lows_lt _ l m
  have b := lows_bit _ l m
  unfold sp_reached at b
  rw [et] at b
  have r := of_decide_eq_true (reached_bit (by omega) _ n12 b)
  have g := Int32.lt_iff_toInt_lt.mp r.2.2.2.2.2.1
  obtain ⟨g1, g2, g3, -⟩ := a3 l lt
  have g1 : rg (F 5 l) 9 := g1
  have g2 : 0 ≤ (F 6 l).toInt := g2
  have g3 : (F 6 l).toInt ≤ 400 * (F 5 l).toInt := g3
  have s9 := g1.2
  obtain ⟨-, t1, t2⟩ := left_ti (c := F 6 l) (v := sp_leaves (sp_has F l) L n) ⟨g2, by omega⟩ leaves_rg
  have e : (sp_cutOf F n L l).toInt = (F 6 l).toInt - (sp_left (F 6 l) (sp_leaves (sp_has F l) L n)).toInt := ti_sub (by
    show -2147483648 ≤ (F 6 l).toInt - (sp_left (F 6 l) (sp_leaves (sp_has F l) L n)).toInt ∧ (F 6 l).toInt - (sp_left (F 6 l) (sp_leaves (sp_has F l) L n)).toInt < 2147483648
    omega)
  have g : 0 < (sp_cutOf F n L l).toInt := g
  exact ⟨hh l lt, g, by omega⟩
theorem rw_fr {F1 F2 : xp_F} (a : cq F F1) (b : rw' F F2) : ∀ o k, ¬ qF o k → mrg F1 F2 o k = F o k := fun o k c => by
  by_cases h : o ≤ 70
  · rw [mrg_lo h]
    exact b o k (by omega) (by omega) (by omega)
  · rw [mrg_hi h]
    exact a o k (by omega)
theorem t_16 (iv : IV M h D F) {k c w x : Int32} : RG M (d + 1000) h D F 37 150 [.int k, .int c, .int w, .int x] := by
  obtain ⟨n0, L0, n1, L1, ⟨m0, m1⟩, r0, r1⟩ := iv.2.1
  obtain ⟨B0, hB⟩ := iv.2.2.2.2.2.2.2.2.2.2.1
  have n12 := (cs_n iv.q).1
  refine st_heap (v := sp_row F n0 L0 k c w x) (P := fun F1 => cq F F1 ∧ ∃ B1, BRc F1 B1) (Q := rw' F) iv (fun q _ => c37 (d := d + 294) q iv.n iv.ld (CR.m iv.1.2.2.2.2.1 r0) m0.1 (if_hb iv.2.2 n12) hB) (fun hb ms => c150 (d := d + 991) ms (iv.n.l iv.q) iv.ld (iv.n.p iv.q) m0) (fun F1 F2 a b o k nk ho => ?_) fun F1 F2 a b => ?_
  · have nm := nk.1
    rw [a.1 o k (by omega), b o k (by omega) (by omega) (by omega)]
  · have fr := rw_fr a.1 b
    obtain ⟨B1, b1⟩ := a.2
    exact ⟨fun r n L m => mr_q fr m, if_q iv.2.2 n12 fr ⟨B1, b1.ag fun o j ho => mrg_hi (by omega)⟩ (iv.2.2.2.2.2.2.2.2.2.2.2.2.2.2.2.2.2.2.1.fr fun o l hl ho => by
      rcases ho with e | e | e | e | e
      · exact fr o l (by omega)
      · exact fr o l (by omega)
      · exact fr o l (by omega)
      · exact fr o l (by omega)
      · rw [e, mrg_hi (by decide)]
        exact a.1 98 l (by omega))⟩
theorem t_34 (iv : IV M h D F) {r m w : Int32} : RG M (d + 1000) h D F 65 180 [.int r, .int m, .int w] := by
  obtain ⟨n0, L0, n1, L1, ⟨m0, m1⟩, r0, r1⟩ := iv.2.1
  have n12 := (cs_n iv.q).1
  have ia := iv.2.2.2.1
  have bn := iv.2.2.2.2.2.2.2.2.2.2.2.2.2.2.2.2.2.1
  have ti := iv.2.2.2.2.2.2.2.2.2.2.2.2.2.2.2.2.2.2.1
  refine st_heap (v := sp_foreseen F n0 L0 n1 L1 r m w) (P := fun F1 => fC F F1 ∧ TI (xd_n D 0) F1) (Q := sf F) iv (fun q _ => c65 (d := d + 296) q iv.n ⟨iv.n.1, ia.2⟩ ia.1 (fun l hl => bn l (by omega)) ti (CR.m iv.1.2.2.2.2.1 r0) m0.1 (CR.m iv.1.2.2.2.2.1 r1) m1.1) (fun hb ms => c180 (d := d + 993) ms (iv.n.l iv.q) (iv.n.i iv.q) ia.1 bn m0 m1) (fun F1 F2 a b o k nk ho => ?_) fun F1 F2 a b => ?_
  · have nm := nk.1
    have nl := nk.2.1
    rw [a.1 o k (by omega) (by omega), b o k (by omega) (by omega) (by omega)]
  · obtain ⟨a, t1⟩ := a
    have fr : ∀ o k, ¬ qF o k → mrg F1 F2 o k = F o k := fun o k c => by
      by_cases h : o ≤ 70
      · rw [mrg_lo h]
        exact b o k (by omega) (by omega) (by omega)
      · rw [mrg_hi h]
        exact a o k (by omega) (by omega)
    obtain ⟨B, hB⟩ := iv.2.2.2.2.2.2.2.2.2.2.1
    refine ⟨fun r n L m => mr_q fr m, if_q iv.2.2 n12 fr ⟨B, hB.ag fun o j ho => ?_⟩ (t1.fr fun o l hl ho => ?_)⟩
    · rw [mrg_hi (by omega)]
      exact a o j (by omega) (by omega)
    · rcases ho with e | e | e | e | e
      · rw [fr o l (by omega), a o l (by omega) (by omega)]
      · rw [fr o l (by omega), a o l (by omega) (by omega)]
      · exact mrg_hi (by omega)
      · exact mrg_hi (by omega)
      · exact mrg_hi (by omega)
end ST5
