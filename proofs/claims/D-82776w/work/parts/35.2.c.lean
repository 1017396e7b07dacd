/-! the component reads all lines -/
set_option maxRecDepth 100000
section RDA
variable {d : Nat} {h h' : xm_H} {D : xp_D} {F G : xp_F} {c : Nat → Int32} {T : Nat} {z s : Nat}
/-- the row of lines at a: m of them -/
def RW (h : xm_H) (D : xp_D) (a m : Nat) (L : Nat → Ln) : Prop := xm_R h (xd_A D 0 15) 6 = some a ∧ xm_K h a = 113 ∧ xm_N h a = 20 ∧ xm_B h ≤ a ∧ ∀ j, j < m → ∃ b, xm_R h a j = some b ∧ LQ h D (L j) b
theorem RW.hx (q : CS h D) (w : HW h D) (x : hx z s h h') {a m : Nat} {L : Nat → Ln} (r : RW h D a m L) : RW h' D a m L := by
  obtain ⟨r1, r2, r3, r4, r5⟩ := r
  refine ⟨(x.R w (cs_f15 q).2.1 (by decide)).trans r1, x.K w r2 (by decide), x.N w r2 (by decide) r3, by rw [x.1]; exact r4, fun j hj => ?_⟩
  obtain ⟨b, b1, b2⟩ := r5 j hj
  exact ⟨b, (x.R w r2 (by decide)).trans b1, b2.hx w x⟩
theorem lK_37 {q : Nat} (h : 3 ≤ lK c T q ∧ lK c T q ≤ 7) : ∃ k, (12 ≤ k ∧ k ≤ 16) ∧ lK c T q = cod k ∧ Int32.ofNat k = lK c T q + 9 := by
  have : (3 ≤ lK c T q ∧ lK c T q ≤ 7) → ∃ k, (12 ≤ k ∧ k ≤ 16) ∧ lK c T q = cod k ∧ Int32.ofNat k = lK c T q + 9 := lK_all (P := fun x => (3 ≤ x ∧ x ≤ 7) → ∃ k, (12 ≤ k ∧ k ≤ 16) ∧ x = cod k ∧ Int32.ofNat k = x + 9) (by
    intro k hk h
    simp only [wds, List.mem_cons, List.not_mem_nil, or_false] at hk
    rcases hk with rfl | rfl | rfl | rfl | rfl | rfl | rfl | rfl | rfl | rfl | rfl | rfl | rfl | rfl | rfl | rfl | rfl | rfl | rfl | rfl | rfl | rfl
    all_goals first | exact absurd h (by decide) | exact ⟨12, by decide⟩ | exact ⟨13, by decide⟩ | exact ⟨14, by decide⟩ | exact ⟨15, by decide⟩ | exact ⟨16, by decide⟩) (fun h => absurd h (by decide)) (fun h => absurd h (by decide)) (by
    intro k hk h
    rcases hk with rfl | rfl | rfl | rfl | rfl | rfl | rfl | rfl | rfl | rfl
    all_goals exact absurd h (by decide))
  exact this h
theorem cod_16 : ∀ k, k < 21 → ¬ (3 ≤ cod k ∧ cod k ≤ 7) → ¬ ((12 : Int32) ≤ Int32.ofNat k ∧ Int32.ofNat k ≤ 16) := by decide +kernel
theorem cod_17 : ∀ k, k < 17 → 12 ≤ k → (12 : Int32) ≤ Int32.ofNat k ∧ Int32.ofNat k ≤ 16 := by decide +kernel
theorem QS.told {F2 : xp_F} {i dp : Nat} (a : QS F c T i dp G) (f : fr86 F F2) {v : Int32} (hv : F2 86 5 = v) : QS F2 c T i dp (xm_u2 G 86 5 v) := by
  obtain ⟨⟨n1, n2, n3, n4, n5, n6⟩, b2, b3, b4⟩ := a
  refine ⟨⟨?_, ?_, ?_, fun z => ?_, fun z => ?_, fun k hk z => ?_⟩, ?_, ?_, fun o k ho => ?_⟩
  · rw [u2_ap, if_neg (by omega)]; exact n1
  · rw [u2_ap, if_neg (by omega)]; exact n2
  · rw [u2_ap, if_neg (by omega)]; exact n3
  · rw [u2_ap, if_neg (by omega)]; exact n4 z
  · rw [u2_ap, if_neg (by omega)]; exact n5 z
  · rw [u2_ap, if_neg (by omega)]; exact n6 k hk z
  · rw [u2_ap, if_neg (by omega)]; exact b2
  · rw [u2_ap, if_pos ⟨rfl, rfl⟩, hv]
  · rw [u2_ap, if_neg (by omega), f o k ho]
    exact b4 o k ho
theorem FT.fr {F2 : xp_F} {k : Int32} {p : Nat} (a : FT F2 k p G) (f : fr86 F F2) : FT F k p G := ⟨a.1, a.2.1, fun o j h1 h2 => (a.2.2 o j h1 h2).trans (f o j h1)⟩
theorem c68l (q : CS h D) (w : HW h D) (sw : SW h D) (tc : TC F c T) {l : List (Option Value)} : ∀ (n : Nat) {m i : Nat} {L : Nat → Ln} {hc : xm_H} {F1 G : xp_F}, i ≤ T → m ≤ 20 → rx (5 + 6 * i) (60 + 48 * i) D h hc → HW hc D → RW hc D (xm_Z h) m L → fr86 F F1 → F1 86 5 = Int32.ofNat m → QS F1 c T i 0 G → T - i < n →
    match pls c T n m L i with
    | .inl x => ∃ h' G', xm_run (d + 112) 68 28 (some (.ref (xd_A D 0 15)) :: l) [] (xp_c hc D G) = some (.inr (xd_A D 0 13), xp_c h' D G') ∧ rx (5 + 6 * T) (60 + 48 * T) D h h' ∧ HW h' D ∧ FT F x.1 x.2 G'
    | .inr x => ∃ h' G', xm_run (d + 112) 68 28 (some (.ref (xd_A D 0 15)) :: l) [] (xp_c hc D G) = some (.inl none, xp_c h' D G') ∧ rx (5 + 6 * T) (60 + 48 * T) D h h' ∧ HW h' D ∧ RW h' D (xm_Z h) x.1 x.2 ∧ G' 86 5 = Int32.ofNat x.1 ∧ fr86 F G' ∧ x.1 ≤ 20
  | 0, m, i, L, hc, F1, G, hi, m20, x, wc, rw, f1, hf, qs, hn => absurd hn (by omega)
  | n + 1, m, i, L, hc, F1, G, hi, m20, x, wc, rw, f1, hf, qs, hn => by
    have t600 := tc.1.1
    have qc := q.rx w x
    have swc := sw.rx q w x
    have tc1 := tc.fr f1
    have t2 := qs.1.2.2.1
    have told : G 86 5 = Int32.ofNat m := qs.2.2.1.trans hf
    have n1 : ¬ (1 : Int32) = 0 := by decide
    unfold pls
    by_cases c0 : lK c T i = 0
    · rw [if_pos c0]
      have t0 : G 86 2 = 0 := by rw [t2, c0]; rfl
      have n02 : ¬ (0 : Int32) = 2 := by decide
      refine ⟨hc, G, ?_, x.mono (by omega) (by omega), wc, rw, told, f1.tr qs.2.2.2, m20⟩
      rw [r68_28]
      simp only [ite_not, ite_self, w8_nil, ok01, ite10, rf_rv, rf_ref, rf_cat, rf_lk2, rf_some, rf_none, w_add, w_cons, cr_int, cr_long, cr_ref, cr_null, is_ref, is_null, l2_int, l2_ref, l2_null, l2_none, ent_nil, ent_int, ent_ref, ent_null, ent_rf, ent_long, ok_0, ok_1, af_ret, af_void, List.tail_cons, List.tail_nil, Nat.reduceAdd, Nat.reduceLeDiff, not_false_eq_true, not_true_eq_false, and_self, and_true, true_and, ne_eq, or_true, true_or, or_false, false_or, eq_self, Nat.reduceEqDiff, ↓reduceIte, false_and, and_false, Nat.le_refl, Nat.zero_le, nz_1, nz_2, nz_3, nz_4, nz_5, nz_6, nz_8, nz_10, nz_12, nz_20, nz_30, nz_60, nz_100, mc_B, mc_Z, mc_S, mc_C, mc_K, mc_N, mc_R, mc_I, mc_L, va_Is, va_Ls, va_us, va_iss, u2_ap, sp_isLedge, sp_isLadder, sp_isPerson, sp_isLiving, sp_isLot, sp_isThere, sp_isSpan, cs_f15 qc, cs_rd qc, r68_29, r68_32, r68_36, r68_37, r68_40, r68_42, r68_44, r68_50, r68_51, r68_54, r68_59, r68_60, r68_63, r68_64, r68_65, r68_68, r68_71, r68_72, r68_73, r68_76, r68_77, r68_78, r68_81, r68_82, r68_85, r68_86, r68_89, r68_90, r68_91, r68_94, r68_95, r68_96, r68_97, r68_100, r68_101, r68_102, r68_105, r68_106, r68_108, r68_114, r68_115, r68_118, r68_119, r68_120, r68_123, r68_126, r68_127, r68_133, r68_134, r68_137, r68_138, r68_33, r68_47, r68_56, r68_111, r68_130, t0, n02]
    · rw [if_neg c0]
      unfold p1
      by_cases c1 : 3 ≤ lK c T i ∧ lK c T i ≤ 7
      · rw [if_pos c1]
        obtain ⟨k, ⟨k12, k16⟩, ek, ev⟩ := lK_37 c1
        have v : G 86 3 = Int32.ofNat k := qs.1.2.2.2.2.2 k (by omega) ek
        have t4 : G 86 2 = 2 := by rw [t2, ek]; exact cTk_cod k (by omega)
        obtain ⟨b1, b2⟩ := cod_17 k (by omega) k12
        by_cases em20 : m = 20
        · rw [if_pos em20]
          have e20 : Int32.ofNat m = 20 := by rw [em20]; rfl
          refine ⟨hc, sp_flt G 3, ?_, x.mono (by omega) (by omega), wc, qs.flt.fr f1⟩
          rw [r68_28]
          unfold sp_flt
          simp only [ite_not, ite_self, w8_nil, ok01, ite10, rf_rv, rf_ref, rf_cat, rf_lk2, rf_some, rf_none, w_add, w_cons, cr_int, cr_long, cr_ref, cr_null, is_ref, is_null, l2_int, l2_ref, l2_null, l2_none, ent_nil, ent_int, ent_ref, ent_null, ent_rf, ent_long, ok_0, ok_1, af_ret, af_void, List.tail_cons, List.tail_nil, Nat.reduceAdd, Nat.reduceLeDiff, not_false_eq_true, not_true_eq_false, and_self, and_true, true_and, ne_eq, or_true, true_or, or_false, false_or, eq_self, Nat.reduceEqDiff, ↓reduceIte, false_and, and_false, Nat.le_refl, Nat.zero_le, nz_1, nz_2, nz_3, nz_4, nz_5, nz_6, nz_8, nz_10, nz_12, nz_20, nz_30, nz_60, nz_100, mc_B, mc_Z, mc_S, mc_C, mc_K, mc_N, mc_R, mc_I, mc_L, va_Is, va_Ls, va_us, va_iss, u2_ap, sp_isLedge, sp_isLadder, sp_isPerson, sp_isLiving, sp_isLot, sp_isThere, sp_isSpan, cs_f15 qc, cs_rd qc, cs_K qc, c2, c20 qc, thr_c qc, r68_29, r68_32, r68_36, r68_37, r68_40, r68_42, r68_44, r68_50, r68_51, r68_54, r68_59, r68_60, r68_63, r68_64, r68_65, r68_68, r68_71, r68_72, r68_73, r68_76, r68_77, r68_78, r68_81, r68_82, r68_85, r68_86, r68_89, r68_90, r68_91, r68_94, r68_95, r68_96, r68_97, r68_100, r68_101, r68_102, r68_105, r68_106, r68_108, r68_114, r68_115, r68_118, r68_119, r68_120, r68_123, r68_126, r68_127, r68_133, r68_134, r68_137, r68_138, r68_33, r68_47, r68_56, r68_111, r68_130, t4, v, b1, b2, n1, told, e20]
        · rw [if_neg em20]
          have e20 : ¬ Int32.ofNat m = 20 := fun y => by
            have := congrArg Int32.toInt y
            rw [ti_nat (by omega), show (20 : Int32).toInt = 20 from rfl] at this
            omega
          obtain ⟨im1, im2⟩ := in_nat (show m < 20 by omega) (by decide)
          have l1 := lE_lt tc.1 hi c0
          obtain ⟨h1, G1, m1, x1, w1, qs1⟩ := qs.next (d := d + 104) qc wc swc tc1 hi
          have q1' := qc.hx wc x1
          have sw1 := swc.hx qc wc x1
          have rw1 := rw.hx qc wc x1
          have told1 : G1 86 5 = Int32.ofNat m := qs1.2.2.1.trans hf
          have ln := c75 (d := d) q1' w1 sw1 tc1 c1 l1.2 qs1
          rw [← ev] at ln
          generalize pl c T (lK c T i) (lE c T i) = r0 at ln ⊢
          cases r0 with
          | inl y =>
            obtain ⟨h2, G2, m2, x2, w2, ft⟩ := ln
            refine ⟨h2, G2, ?_, ((x.tr2 x1).tr2 x2).mono (by omega) (by omega), w2, ft.fr f1⟩
            rw [r68_28]
            simp only [ite_not, ite_self, w8_nil, ok01, ite10, rf_rv, rf_ref, rf_cat, rf_lk2, rf_some, rf_none, w_add, w_cons, cr_int, cr_long, cr_ref, cr_null, is_ref, is_null, l2_int, l2_ref, l2_null, l2_none, ent_nil, ent_int, ent_ref, ent_null, ent_rf, ent_long, ok_0, ok_1, af_ret, af_void, List.tail_cons, List.tail_nil, Nat.reduceAdd, Nat.reduceLeDiff, not_false_eq_true, not_true_eq_false, and_self, and_true, true_and, ne_eq, or_true, true_or, or_false, false_or, eq_self, Nat.reduceEqDiff, ↓reduceIte, false_and, and_false, Nat.le_refl, Nat.zero_le, nz_1, nz_2, nz_3, nz_4, nz_5, nz_6, nz_8, nz_10, nz_12, nz_20, nz_30, nz_60, nz_100, mc_B, mc_Z, mc_S, mc_C, mc_K, mc_N, mc_R, mc_I, mc_L, va_Is, va_Ls, va_us, va_iss, u2_ap, sp_isLedge, sp_isLadder, sp_isPerson, sp_isLiving, sp_isLot, sp_isThere, sp_isSpan, cs_f15 qc, cs_rd qc, cs_f15 q1', cs_rd q1', c2, af_thr, thr_c (q1'.hx w1 x2), rw1.1, r68_29, r68_32, r68_36, r68_37, r68_40, r68_42, r68_44, r68_50, r68_51, r68_54, r68_59, r68_60, r68_63, r68_64, r68_65, r68_68, r68_71, r68_72, r68_73, r68_76, r68_77, r68_78, r68_81, r68_82, r68_85, r68_86, r68_89, r68_90, r68_91, r68_94, r68_95, r68_96, r68_97, r68_100, r68_101, r68_102, r68_105, r68_106, r68_108, r68_114, r68_115, r68_118, r68_119, r68_120, r68_123, r68_126, r68_127, r68_133, r68_134, r68_137, r68_138, r68_33, r68_47, r68_56, r68_111, r68_130, t4, v, b1, b2, n1, told, e20, m1, told1, m2]
          | inr y =>
            obtain ⟨ln1, i1⟩ := y
            obtain ⟨h2, G2, b, m2, x2, w2, qs2, lq, l2, l3⟩ := ln
            have x2 : hx (6 * (i1 - lE c T i) + 2) (48 * (i1 - lE c T i) + 8) h1 h2 := x2
            have l2 : lE c T i ≤ i1 := l2
            have l3 : i1 ≤ T := l3
            have rw2 := rw1.hx q1' w1 x2
            have q2' := q1'.hx w1 x2
            have told2 : G2 86 5 = Int32.ofNat m := qs2.2.2.1.trans hf
            obtain ⟨a1, a2, a3, a4, a5⟩ := rw2
            -- the row is set
            have x3 : rx (5 + 6 * i + 4 + (6 * (i1 - lE c T i) + 2)) (60 + 48 * i + 40 + (48 * (i1 - lE c T i) + 8)) D h (xm_sR h2 (xm_Z h) m (some b)) := ((x.tr2 x1).tr2 x2).sR (Nat.le_refl _)
            have w3 : HW (xm_sR h2 (xm_Z h) m (some b)) D := w2
            have q3' := q.rx w x3
            have sw3 := sw.rx q w x3
            have k113 : ∀ k, (8 ≤ k ∧ k ≤ 17) → ¬ xm_K h2 (xm_Z h) = k := fun k hk e => by omega
            have zr : ¬ xd_A D 0 15 = xm_Z h := by
              have := w.lt (cs_f15 q).2.1 (by decide)
              omega
            have rw3 : RW (xm_sR h2 (xm_Z h) m (some b)) D (xm_Z h) (m + 1) (fun j => if j = m then ln1 else L j) := by
              refine ⟨by rw [h_R_sR, if_neg (fun e => zr e.1)]; exact a1, a2, a3, a4, fun j hj => ?_⟩
              by_cases cj : j = m
              · subst cj
                refine ⟨b, by rw [h_R_sR, if_pos ⟨rfl, rfl⟩], ?_⟩
                show LQ _ D (if j = j then ln1 else L j) b
                rw [if_pos rfl]
                exact lq.sR k113
              · obtain ⟨b', e1, e2⟩ := a5 j (by omega)
                refine ⟨b', by rw [h_R_sR, if_neg (fun e => cj e.2)]; exact e1, ?_⟩
                show LQ _ D (if j = m then ln1 else L j) b'
                rw [if_neg cj]
                exact e2.sR k113
            have el : xm_el 113 (xm_K h2 b) = true := by
              obtain ⟨lo, -⟩ := lq
              rcases lo with ⟨-, k', -⟩ | ⟨-, k', -⟩ | ⟨-, -, k', -⟩
              · rw [k']; decide
              · rw [k']; decide
              · rcases k' with k' | k' | k' <;> (rw [k']; decide)
            have qs3 : QS (xm_u2 F1 86 5 (Int32.ofNat (m + 1))) c T i1 0 (xm_u2 G2 86 5 (Int32.ofNat (m + 1))) := qs2.told fr86.rf.u (by rw [u2_ap, if_pos ⟨rfl, rfl⟩])
            have f3 : fr86 F (xm_u2 F1 86 5 (Int32.ofNat (m + 1))) := f1.u
            have hf3 : xm_u2 F1 86 5 (Int32.ofNat (m + 1)) 86 5 = Int32.ofNat (m + 1) := by rw [u2_ap, if_pos ⟨rfl, rfl⟩]
            have s59 := c79 (d := d + 111) q3' qs3.1 (x := 59) (by decide)
            show match pw (if lK c T i1 = 59 then .inr (ln1, lE c T i1) else .inl (1, lS c T i1)) (fun x => pls c T n (m + 1) (fun j => if j = m then x.1 else L j) x.2) with | .inl x => _ | .inr x => _
            by_cases c59 : lK c T i1 = 59
            · rw [if_pos c59] at s59 ⊢
              have l4 := lE_lt tc.1 l3 (by rw [c59]; decide)
              obtain ⟨h4, G4, m4, x4, w4, qs4⟩ := qs3.next (d := d + 104) q3' w3 sw3 (tc.fr f3) l3
              have ih := c68l q w sw tc (l := some (.int (Int32.ofNat k)) :: l.tail) n (m := m + 1) (i := lE c T i1) (L := fun j => if j = m then ln1 else L j) l4.2 (by omega) ((x3.tr2 x4).mono (by omega) (by omega)) w4 (rw3.hx q3' w3 x4) f3 hf3 qs4 (by omega)
              have e : xm_run (d + 112) 68 28 (some (.ref (xd_A D 0 15)) :: l) [] (xp_c hc D G) = xm_run (d + 112) 68 28 (some (.ref (xd_A D 0 15)) :: some (.int (Int32.ofNat k)) :: l.tail) [] (xp_c h4 D G4) := by
                rw [r68_28]
                simp only [ite_not, ite_self, w8_nil, ok01, ite10, rf_rv, rf_ref, rf_cat, rf_lk2, rf_some, rf_none, w_add, w_cons, cr_int, cr_long, cr_ref, cr_null, is_ref, is_null, l2_int, l2_ref, l2_null, l2_none, ent_nil, ent_int, ent_ref, ent_null, ent_rf, ent_long, ok_0, ok_1, af_ret, af_void, List.tail_cons, List.tail_nil, Nat.reduceAdd, Nat.reduceLeDiff, not_false_eq_true, not_true_eq_false, and_self, and_true, true_and, ne_eq, or_true, true_or, or_false, false_or, eq_self, Nat.reduceEqDiff, ↓reduceIte, false_and, and_false, Nat.le_refl, Nat.zero_le, nz_1, nz_2, nz_3, nz_4, nz_5, nz_6, nz_8, nz_10, nz_12, nz_20, nz_30, nz_60, nz_100, mc_B, mc_Z, mc_S, mc_C, mc_K, mc_N, mc_R, mc_I, mc_L, va_Is, va_Ls, va_us, va_iss, u2_ap, sp_isLedge, sp_isLadder, sp_isPerson, sp_isLiving, sp_isLot, sp_isThere, sp_isSpan, cs_f15 qc, cs_rd qc, cs_f15 q1', cs_rd q1', c2, rw1.1, r68_29, r68_32, r68_36, r68_37, r68_40, r68_42, r68_44, r68_50, r68_51, r68_54, r68_59, r68_60, r68_63, r68_64, r68_65, r68_68, r68_71, r68_72, r68_73, r68_76, r68_77, r68_78, r68_81, r68_82, r68_85, r68_86, r68_89, r68_90, r68_91, r68_94, r68_95, r68_33, r68_47, r68_56, t4, v, b1, b2, n1, told, e20, m1, told1, m2, a2, a3, a4, im1, im2, el, mc_sR]
                simp only [ite_not, ite_self, w8_nil, ok01, ite10, rf_rv, rf_ref, rf_cat, rf_lk2, rf_some, rf_none, w_add, w_cons, cr_int, cr_long, cr_ref, cr_null, is_ref, is_null, l2_int, l2_ref, l2_null, l2_none, ent_nil, ent_int, ent_ref, ent_null, ent_rf, ent_long, ok_0, ok_1, af_ret, af_void, List.tail_cons, List.tail_nil, Nat.reduceAdd, Nat.reduceLeDiff, not_false_eq_true, not_true_eq_false, and_self, and_true, true_and, ne_eq, or_true, true_or, or_false, false_or, eq_self, Nat.reduceEqDiff, ↓reduceIte, false_and, and_false, Nat.le_refl, Nat.zero_le, nz_1, nz_2, nz_3, nz_4, nz_5, nz_6, nz_8, nz_10, nz_12, nz_20, nz_30, nz_60, nz_100, mc_B, mc_Z, mc_S, mc_C, mc_K, mc_N, mc_R, mc_I, mc_L, va_Is, va_Ls, va_us, va_iss, u2_ap, sp_isLedge, sp_isLadder, sp_isPerson, sp_isLiving, sp_isLot, sp_isThere, sp_isSpan, cs_f15 q3', cs_B q3', cs_rd q3', mc_s (cs_inj q3'), r68_95, r68_96, r68_97, r68_100, r68_101, r68_102, r68_105, r68_106, r68_108, r68_114, r68_115, r68_118, r68_119, r68_120, r68_123, r68_111, told2, nat_succ, s59, n1, m4]
              rw [e]
              exact ih
            · rw [if_neg c59] at s59 ⊢
              have m5 := c81 (d := d + 110) (G := xm_u2 G2 86 5 (Int32.ofNat (m + 1))) q3'
              refine ⟨_, sp_flt (xm_u2 G2 86 5 (Int32.ofNat (m + 1))) 1, ?_, x3.mono (by omega) (by omega), w3, qs3.flt.fr f3⟩
              rw [r68_28]
              simp only [ite_not, ite_self, w8_nil, ok01, ite10, rf_rv, rf_ref, rf_cat, rf_lk2, rf_some, rf_none, w_add, w_cons, cr_int, cr_long, cr_ref, cr_null, is_ref, is_null, l2_int, l2_ref, l2_null, l2_none, ent_nil, ent_int, ent_ref, ent_null, ent_rf, ent_long, ok_0, ok_1, af_ret, af_void, List.tail_cons, List.tail_nil, Nat.reduceAdd, Nat.reduceLeDiff, not_false_eq_true, not_true_eq_false, and_self, and_true, true_and, ne_eq, or_true, true_or, or_false, false_or, eq_self, Nat.reduceEqDiff, ↓reduceIte, false_and, and_false, Nat.le_refl, Nat.zero_le, nz_1, nz_2, nz_3, nz_4, nz_5, nz_6, nz_8, nz_10, nz_12, nz_20, nz_30, nz_60, nz_100, mc_B, mc_Z, mc_S, mc_C, mc_K, mc_N, mc_R, mc_I, mc_L, va_Is, va_Ls, va_us, va_iss, u2_ap, sp_isLedge, sp_isLadder, sp_isPerson, sp_isLiving, sp_isLot, sp_isThere, sp_isSpan, cs_f15 qc, cs_rd qc, cs_f15 q1', cs_rd q1', c2, rw1.1, r68_29, r68_32, r68_36, r68_37, r68_40, r68_42, r68_44, r68_50, r68_51, r68_54, r68_59, r68_60, r68_63, r68_64, r68_65, r68_68, r68_71, r68_72, r68_73, r68_76, r68_77, r68_78, r68_81, r68_82, r68_85, r68_86, r68_89, r68_90, r68_91, r68_94, r68_95, r68_33, r68_47, r68_56, t4, v, b1, b2, n1, told, e20, m1, told1, m2, a2, a3, a4, im1, im2, el, mc_sR]
              simp only [ite_not, ite_self, w8_nil, ok01, ite10, rf_rv, rf_ref, rf_cat, rf_lk2, rf_some, rf_none, w_add, w_cons, cr_int, cr_long, cr_ref, cr_null, is_ref, is_null, l2_int, l2_ref, l2_null, l2_none, ent_nil, ent_int, ent_ref, ent_null, ent_rf, ent_long, ok_0, ok_1, af_ret, af_void, List.tail_cons, List.tail_nil, Nat.reduceAdd, Nat.reduceLeDiff, not_false_eq_true, not_true_eq_false, and_self, and_true, true_and, ne_eq, or_true, true_or, or_false, false_or, eq_self, Nat.reduceEqDiff, ↓reduceIte, false_and, and_false, Nat.le_refl, Nat.zero_le, nz_1, nz_2, nz_3, nz_4, nz_5, nz_6, nz_8, nz_10, nz_12, nz_20, nz_30, nz_60, nz_100, mc_B, mc_Z, mc_S, mc_C, mc_K, mc_N, mc_R, mc_I, mc_L, va_Is, va_Ls, va_us, va_iss, u2_ap, sp_isLedge, sp_isLadder, sp_isPerson, sp_isLiving, sp_isLot, sp_isThere, sp_isSpan, cs_f15 q3', cs_B q3', cs_rd q3', mc_s (cs_inj q3'), thr_c q3', r68_95, r68_96, r68_97, r68_100, r68_101, r68_102, r68_105, r68_106, r68_108, r68_114, r68_115, r68_118, r68_119, r68_120, r68_123, r68_111, told2, nat_succ, s59, m5]
      · rw [if_neg c1]
        have m3 := c81 (d := d + 110) (G := G) qc
        have t0 : ¬ G 86 2 = 0 := fun y => by
          have : cTk (lK c T i) = 0 → lK c T i = 0 := lK_all (P := fun k => cTk k = 0 → k = 0) (by decide +kernel) (by decide +kernel) (by decide +kernel) (tG_all (by decide +kernel))
          exact c0 (this (t2.symm.trans y))
        refine ⟨hc, sp_flt G 1, ?_, x.mono (by omega) (by omega), wc, qs.flt.fr f1⟩
        rw [r68_28]
        by_cases c4 : G 86 2 = 2
        · obtain ⟨k, hk, ek⟩ := lK_cod (t2.symm.trans c4)
          have v := qs.1.2.2.2.2.2 k hk ek
          have nb := cod_16 k hk (by rw [← ek]; exact c1)
          have n20 : ¬ (2 : Int32) = 0 := by decide
          simp only [ite_not, ite_self, w8_nil, ok01, ite10, rf_rv, rf_ref, rf_cat, rf_lk2, rf_some, rf_none, w_add, w_cons, cr_int, cr_long, cr_ref, cr_null, is_ref, is_null, l2_int, l2_ref, l2_null, l2_none, ent_nil, ent_int, ent_ref, ent_null, ent_rf, ent_long, ok_0, ok_1, af_ret, af_void, List.tail_cons, List.tail_nil, Nat.reduceAdd, Nat.reduceLeDiff, not_false_eq_true, not_true_eq_false, and_self, and_true, true_and, ne_eq, or_true, true_or, or_false, false_or, eq_self, Nat.reduceEqDiff, ↓reduceIte, false_and, and_false, Nat.le_refl, Nat.zero_le, nz_1, nz_2, nz_3, nz_4, nz_5, nz_6, nz_8, nz_10, nz_12, nz_20, nz_30, nz_60, nz_100, mc_B, mc_Z, mc_S, mc_C, mc_K, mc_N, mc_R, mc_I, mc_L, va_Is, va_Ls, va_us, va_iss, u2_ap, sp_isLedge, sp_isLadder, sp_isPerson, sp_isLiving, sp_isLot, sp_isThere, sp_isSpan, cs_f15 qc, cs_rd qc, c2, thr_c qc, r68_29, r68_32, r68_36, r68_37, r68_40, r68_42, r68_44, r68_50, r68_51, r68_54, r68_59, r68_60, r68_63, r68_64, r68_65, r68_68, r68_71, r68_72, r68_73, r68_76, r68_77, r68_78, r68_81, r68_82, r68_85, r68_86, r68_89, r68_90, r68_91, r68_94, r68_95, r68_96, r68_97, r68_100, r68_101, r68_102, r68_105, r68_106, r68_108, r68_114, r68_115, r68_118, r68_119, r68_120, r68_123, r68_126, r68_127, r68_133, r68_134, r68_137, r68_138, r68_33, r68_47, r68_56, r68_111, r68_130, c4, v, nb, n20, m3]
        · simp only [ite_not, ite_self, w8_nil, ok01, ite10, rf_rv, rf_ref, rf_cat, rf_lk2, rf_some, rf_none, w_add, w_cons, cr_int, cr_long, cr_ref, cr_null, is_ref, is_null, l2_int, l2_ref, l2_null, l2_none, ent_nil, ent_int, ent_ref, ent_null, ent_rf, ent_long, ok_0, ok_1, af_ret, af_void, List.tail_cons, List.tail_nil, Nat.reduceAdd, Nat.reduceLeDiff, not_false_eq_true, not_true_eq_false, and_self, and_true, true_and, ne_eq, or_true, true_or, or_false, false_or, eq_self, Nat.reduceEqDiff, ↓reduceIte, false_and, and_false, Nat.le_refl, Nat.zero_le, nz_1, nz_2, nz_3, nz_4, nz_5, nz_6, nz_8, nz_10, nz_12, nz_20, nz_30, nz_60, nz_100, mc_B, mc_Z, mc_S, mc_C, mc_K, mc_N, mc_R, mc_I, mc_L, va_Is, va_Ls, va_us, va_iss, u2_ap, sp_isLedge, sp_isLadder, sp_isPerson, sp_isLiving, sp_isLot, sp_isThere, sp_isSpan, cs_f15 qc, cs_rd qc, c2, thr_c qc, r68_29, r68_32, r68_36, r68_37, r68_40, r68_42, r68_44, r68_50, r68_51, r68_54, r68_59, r68_60, r68_63, r68_64, r68_65, r68_68, r68_71, r68_72, r68_73, r68_76, r68_77, r68_78, r68_81, r68_82, r68_85, r68_86, r68_89, r68_90, r68_91, r68_94, r68_95, r68_96, r68_97, r68_100, r68_101, r68_102, r68_105, r68_106, r68_108, r68_114, r68_115, r68_118, r68_119, r68_120, r68_123, r68_126, r68_127, r68_133, r68_134, r68_137, r68_138, r68_33, r68_47, r68_56, r68_111, r68_130, c4, t0, m3]
end RDA
