/-! texts: the model reads terms -/
set_option maxRecDepth 100000
section MRD
variable {d : Nat} {h : xm_H} {M : Nat} {F F0 : xp_F} {c : Nat → Int32} {T : Nat}
/-- but for the reader's own the same -/
def fz (F G : xp_F) : Prop := ∀ o k, ¬ (o = 0 ∧ (k = 35 ∨ (37 ≤ k ∧ k ≤ 40) ∨ k = 44)) → ¬ o = 27 → G o k = F o k
/-- the fault's ints may change too -/
def fzw (F G : xp_F) : Prop := ∀ o k, ¬ (o = 0 ∧ (k = 35 ∨ (37 ≤ k ∧ k ≤ 42) ∨ k = 44)) → ¬ o = 27 → G o k = F o k
theorem fz.rf : fz F F := fun _ _ _ _ => rfl
theorem fz.tr {G H : xp_F} (a : fz F G) (b : fz G H) : fz F H := fun o k h1 h2 => (b o k h1 h2).trans (a o k h1 h2)
theorem fx.fz {G : xp_F} (a : fx F G) : fz F G := fun o k h1 _ => a o k (by omega)
theorem fz.u {G : xp_F} (a : fz F G) {k : Nat} (hk : k = 35 ∨ (37 ≤ k ∧ k ≤ 40) ∨ k = 44) {v : Int32} : fz F (xm_u2 G 0 k v) := fun o j h1 h2 => by
  rw [u2_ap, if_neg (by omega)]
  exact a o j h1 h2
theorem fz.w {G : xp_F} (a : fz F G) : fzw F G := fun o k h1 h2 => a o k (by omega) h2
theorem fzw.u {G : xp_F} (a : fzw F G) {k : Nat} (hk : k = 41 ∨ k = 42) {v : Int32} : fzw F (xm_u2 G 0 k v) := fun o j h1 h2 => by
  rw [u2_ap, if_neg (by omega)]
  exact a o j h1 h2
theorem TP.fz {G : xp_F} (a : TP F c T) (b : fz F G) : TP G c T := ⟨a.1, (b _ _ (by omega) (by omega)).trans a.2.1, fun i hi => (b _ _ (by omega) (by omega)).trans (a.2.2 i hi)⟩
/-- codes that were laid -/
def cf (F : xp_F) (j : Nat) : Int32 × Int32 := (F 27 (2 * j), F 27 (2 * j + 1))
/-- the model reads: at the token sought from q on, dp open, s steps laid -/
def PS (F0 : xp_F) (c : Nat → Int32) (T q dp s : Nat) (F : xp_F) : Prop := NX c T q F ∧ F 0 44 = Int32.ofNat dp ∧ F 0 35 = Int32.ofNat s ∧ fz F0 F
/-- the model refuses -/
def PF (F0 : xp_F) (k : Int32) (p : Nat) (F : xp_F) : Prop := F 0 41 = k ∧ F 0 42 = Int32.ofNat p ∧ fzw F0 F
/-- laid before s the same -/
def kp2 (s : Nat) (F G : xp_F) : Prop := ∀ j, j < 2 * s → G 27 j = F 27 j
theorem kp2.tr {s s' : Nat} {G H : xp_F} (a : kp2 s F G) (b : kp2 s' G H) (l : s ≤ s') : kp2 s F H := fun j hj => (b j (by omega)).trans (a j hj)
theorem PS.bad (q : MS h M) {i dp s : Nat} (a : PS F0 c T i dp s F) {k : Int32} : ∃ G, xm_met d 119 [.ref M, .int k] (xp_m h M F) = some (.inl (some (.int 0)), xp_m h M G) ∧ PF F0 k (lS c T i) G := by
  refine ⟨sp_bad F k, c119 q, ?_, ?_, ?_⟩
  · unfold sp_bad
    rw [u2_ap, if_neg (by decide), u2_ap, if_pos ⟨rfl, rfl⟩]
  · unfold sp_bad
    rw [u2_ap, if_pos ⟨rfl, rfl⟩]
    exact a.1.2.2.1
  · unfold sp_bad
    exact (a.2.2.2.w.u (by omega)).u (by omega)
theorem PS.next (q : MS h M) (tp : TP F0 c T) {i dp s : Nat} (hi : i ≤ T) (a : PS F0 c T i dp s F) : ∃ G, xm_met (d + 2) 113 [.ref M] (xp_m h M F) = some (.inl none, xp_m h M G) ∧ PS F0 c T (lE c T i) dp s G ∧ kp2 s F G ∧ ∀ j, G 27 j = F 27 j := by
  obtain ⟨G, m, nx, f⟩ := c113 (d := d) q (tp.fz a.2.2.2) (lE_le tp.1 hi).2.1 a.1.1
  exact ⟨G, m, ⟨nx, (f _ _ (by omega)).trans a.2.1, (f _ _ (by omega)).trans a.2.2.1, a.2.2.2.tr f.fz⟩, fun j _ => f _ _ (by omega), fun j => f _ _ (by omega)⟩
/-- a step is laid -/
theorem PS.lay (q : MS h M) {i dp s : Nat} (a : PS F0 c T i dp s F) (hs : s < 610) {k v : Int32} : ∃ G, xm_met d 126 [.ref M, .int k, .int v] (xp_m h M F) = some (.inl none, xp_m h M G) ∧ PS F0 c T i dp (s + 1) G ∧ kp2 s F G ∧ cf G s = (k, v) := by
  refine ⟨sp_lay F s k v, c126 q a.2.2.1 hs, ⟨⟨?_, ?_, ?_, fun z => ?_⟩, ?_, ?_, fun o j h1 h2 => ?_⟩, fun j hj => ?_, ?_⟩
  · unfold sp_lay
    rw [u2_ap, if_neg (by omega), u2_ap, if_neg (by omega), u2_ap, if_neg (by omega)]
    exact a.1.1
  · unfold sp_lay
    rw [u2_ap, if_neg (by omega), u2_ap, if_neg (by omega), u2_ap, if_neg (by omega)]
    exact a.1.2.1
  · unfold sp_lay
    rw [u2_ap, if_neg (by omega), u2_ap, if_neg (by omega), u2_ap, if_neg (by omega)]
    exact a.1.2.2.1
  · unfold sp_lay
    rw [u2_ap, if_neg (by omega), u2_ap, if_neg (by omega), u2_ap, if_neg (by omega)]
    exact a.1.2.2.2 z
  · unfold sp_lay
    rw [u2_ap, if_neg (by omega), u2_ap, if_neg (by omega), u2_ap, if_neg (by omega)]
    exact a.2.1
  · unfold sp_lay
    rw [u2_ap, if_pos ⟨rfl, rfl⟩]
  · unfold sp_lay
    rw [u2_ap, if_neg (by omega), u2_ap, if_neg (by omega), u2_ap, if_neg (by omega)]
    exact a.2.2.2 o j h1 h2
  · unfold sp_lay
    rw [u2_ap, if_neg (by omega), u2_ap, if_neg (by omega), u2_ap, if_neg (by omega)]
  · unfold sp_lay cf
    simp only [u2_ap, Nat.reduceEqDiff, false_and, true_and, ↓reduceIte]
    rw [if_neg (by omega)]
theorem c124 (q : MS h M) (tp : TP F0 c T) {i dp s : Nat} (hi : i ≤ T) (h8 : dp ≤ 8) (a : PS F0 c T i dp s F) : (dp = 8 → ∃ G, xm_met (d + 3) 124 [.ref M] (xp_m h M F) = some (.inl (some (.int 0)), xp_m h M G) ∧ PF F0 3 (lS c T i) G) ∧ (¬ dp = 8 → ∃ G, xm_met (d + 3) 124 [.ref M] (xp_m h M F) = some (.inl (some (.int 1)), xp_m h M G) ∧ PS F0 c T (lE c T i) (dp + 1) s G ∧ ∀ j, G 27 j = F 27 j) := by
  constructor
  · intro e
    obtain ⟨G, m, pf⟩ := a.bad (d := d + 2) q (k := 3)
    refine ⟨G, ?_, pf⟩
    have hd : F 0 44 = 8 := by rw [a.2.1, e]; rfl
    unfold xm_met
    simp only [ite_not, ite_self, w8_nil, ok01, ite10, rf_rv, rf_ref, rf_cat, rf_lk2, rf_some, rf_none, w_add, w_cons, cr_int, cr_long, cr_ref, cr_null, is_ref, is_null, l2_int, l2_ref, l2_null, l2_none, ent_nil, ent_int, ent_ref, ent_null, ent_rf, ent_long, ok_0, ok_1, af_ret, af_void, List.tail_cons, List.tail_nil, Nat.reduceAdd, Nat.reduceLeDiff, not_false_eq_true, not_true_eq_false, and_self, and_true, true_and, ne_eq, or_true, true_or, or_false, false_or, eq_self, Nat.reduceEqDiff, ↓reduceIte, false_and, and_false, Nat.le_refl, Nat.zero_le, nz_1, nz_2, nz_3, nz_4, nz_5, nz_6, nz_8, nz_10, nz_12, nz_20, nz_30, nz_60, nz_100, mp_B, mp_Z, mp_S, mp_C, mp_K, mp_N, mp_L, mp_R, mp_I, mp_I0, mp_s, mp_s0, u2_ap, sp_isLedge, sp_isLadder, sp_isPerson, sp_isLiving, sp_isLot, sp_isThere, sp_isSpan, ms_K q, ms_B q, r124_0, r124_1, r124_4, r124_9, r124_10, r124_11, r124_14, r124_15, r124_16, r124_17, r124_20, r124_21, r124_22, r124_25, r124_26, r124_29, r124_30, r124_6, hd, m]
  · intro e
    have b : PS F0 c T i (dp + 1) s (xm_u2 F 0 44 (Int32.ofNat (dp + 1))) := ⟨⟨by rw [u2_ap, if_neg (by decide)]; exact a.1.1, by rw [u2_ap, if_neg (by decide)]; exact a.1.2.1, by rw [u2_ap, if_neg (by decide)]; exact a.1.2.2.1, fun z => by rw [u2_ap, if_neg (by decide)]; exact a.1.2.2.2 z⟩, by rw [u2_ap, if_pos ⟨rfl, rfl⟩], by rw [u2_ap, if_neg (by decide)]; exact a.2.2.1, a.2.2.2.u (by omega)⟩
    obtain ⟨G, m, ps, -, fr⟩ := b.next (d := d) q tp hi
    refine ⟨G, ?_, ps, fun j => (fr j).trans (by rw [u2_ap, if_neg (by omega)])⟩
    have hd : ¬ Int32.ofNat dp = 8 := fun z => by
      have := congrArg Int32.toInt z
      rw [ti_nat (by omega), show (8 : Int32).toInt = 8 from rfl] at this
      omega
    have a2 := a.2.1
    unfold xm_met
    simp only [ite_not, ite_self, w8_nil, ok01, ite10, rf_rv, rf_ref, rf_cat, rf_lk2, rf_some, rf_none, w_add, w_cons, cr_int, cr_long, cr_ref, cr_null, is_ref, is_null, l2_int, l2_ref, l2_null, l2_none, ent_nil, ent_int, ent_ref, ent_null, ent_rf, ent_long, ok_0, ok_1, af_ret, af_void, List.tail_cons, List.tail_nil, Nat.reduceAdd, Nat.reduceLeDiff, not_false_eq_true, not_true_eq_false, and_self, and_true, true_and, ne_eq, or_true, true_or, or_false, false_or, eq_self, Nat.reduceEqDiff, ↓reduceIte, false_and, and_false, Nat.le_refl, Nat.zero_le, nz_1, nz_2, nz_3, nz_4, nz_5, nz_6, nz_8, nz_10, nz_12, nz_20, nz_30, nz_60, nz_100, mp_B, mp_Z, mp_S, mp_C, mp_K, mp_N, mp_L, mp_R, mp_I, mp_I0, mp_s, mp_s0, u2_ap, sp_isLedge, sp_isLadder, sp_isPerson, sp_isLiving, sp_isLot, sp_isThere, sp_isSpan, ms_K q, ms_B q, r124_0, r124_1, r124_4, r124_9, r124_10, r124_11, r124_14, r124_15, r124_16, r124_17, r124_20, r124_21, r124_22, r124_25, r124_26, r124_29, r124_30, r124_6, a2, hd, nat_succ, m]
theorem c125 (q : MS h M) (tp : TP F0 c T) {i dp s : Nat} (hi : i ≤ T) (a : PS F0 c T i dp s F) {k : Int32} : (lK c T i = k → ∃ G, xm_met (d + 3) 125 [.ref M, .int k] (xp_m h M F) = some (.inl (some (.int 1)), xp_m h M G) ∧ PS F0 c T (lE c T i) dp s G ∧ ∀ j, G 27 j = F 27 j) ∧ (¬ lK c T i = k → ∃ G, xm_met (d + 3) 125 [.ref M, .int k] (xp_m h M F) = some (.inl (some (.int 0)), xp_m h M G) ∧ PF F0 1 (lS c T i) G) := by
  have a2 := a.1.2.1
  constructor
  · intro e
    obtain ⟨G, m, ps, -, fr⟩ := a.next (d := d) q tp hi
    refine ⟨G, ?_, ps, fr⟩
    rw [e] at a2
    unfold xm_met
    simp only [ite_not, ite_self, w8_nil, ok01, ite10, rf_rv, rf_ref, rf_cat, rf_lk2, rf_some, rf_none, w_add, w_cons, cr_int, cr_long, cr_ref, cr_null, is_ref, is_null, l2_int, l2_ref, l2_null, l2_none, ent_nil, ent_int, ent_ref, ent_null, ent_rf, ent_long, ok_0, ok_1, af_ret, af_void, List.tail_cons, List.tail_nil, Nat.reduceAdd, Nat.reduceLeDiff, not_false_eq_true, not_true_eq_false, and_self, and_true, true_and, ne_eq, or_true, true_or, or_false, false_or, eq_self, Nat.reduceEqDiff, ↓reduceIte, false_and, and_false, Nat.le_refl, Nat.zero_le, nz_1, nz_2, nz_3, nz_4, nz_5, nz_6, nz_8, nz_10, nz_12, nz_20, nz_30, nz_60, nz_100, mp_B, mp_Z, mp_S, mp_C, mp_K, mp_N, mp_L, mp_R, mp_I, mp_I0, mp_s, mp_s0, u2_ap, sp_isLedge, sp_isLadder, sp_isPerson, sp_isLiving, sp_isLot, sp_isThere, sp_isSpan, ms_K q, ms_B q, r125_0, r125_1, r125_4, r125_8, r125_9, r125_10, r125_13, r125_14, r125_15, r125_18, r125_19, r125_5, a2, m]
  · intro e
    obtain ⟨G, m, pf⟩ := a.bad (d := d + 2) q (k := 1)
    refine ⟨G, ?_, pf⟩
    unfold xm_met
    simp only [ite_not, ite_self, w8_nil, ok01, ite10, rf_rv, rf_ref, rf_cat, rf_lk2, rf_some, rf_none, w_add, w_cons, cr_int, cr_long, cr_ref, cr_null, is_ref, is_null, l2_int, l2_ref, l2_null, l2_none, ent_nil, ent_int, ent_ref, ent_null, ent_rf, ent_long, ok_0, ok_1, af_ret, af_void, List.tail_cons, List.tail_nil, Nat.reduceAdd, Nat.reduceLeDiff, not_false_eq_true, not_true_eq_false, and_self, and_true, true_and, ne_eq, or_true, true_or, or_false, false_or, eq_self, Nat.reduceEqDiff, ↓reduceIte, false_and, and_false, Nat.le_refl, Nat.zero_le, nz_1, nz_2, nz_3, nz_4, nz_5, nz_6, nz_8, nz_10, nz_12, nz_20, nz_30, nz_60, nz_100, mp_B, mp_Z, mp_S, mp_C, mp_K, mp_N, mp_L, mp_R, mp_I, mp_I0, mp_s, mp_s0, u2_ap, sp_isLedge, sp_isLadder, sp_isPerson, sp_isLiving, sp_isLot, sp_isThere, sp_isSpan, ms_K q, ms_B q, r125_0, r125_1, r125_4, r125_8, r125_9, r125_10, r125_13, r125_14, r125_15, r125_18, r125_19, r125_5, a2, e, m]
/-- where the model reads a term -/
noncomputable def mX (h : xm_H) (M D g : Nat) (F : xp_F) (l : List (Option Value)) : xm_V := match g with
  | 0 => xm_met D 123 [.ref M] (xp_m h M F)
  | 1 => xm_met D 122 [.ref M] (xp_m h M F)
  | 2 => xm_run D 122 9 (some (.ref M) :: l) [] (xp_m h M F)
  | 3 => xm_met D 121 [.ref M] (xp_m h M F)
  | 4 => xm_run D 121 9 (some (.ref M) :: l) [] (xp_m h M F)
  | 5 => xm_met D 129 [.ref M] (xp_m h M F)
  | 6 => xm_met D 128 [.ref M] (xp_m h M F)
  | 7 => xm_run D 128 9 (some (.ref M) :: l) [] (xp_m h M F)
  | 8 => xm_met D 127 [.ref M] (xp_m h M F)
  | _ => xm_run D 127 9 (some (.ref M) :: l) [] (xp_m h M F)
def rkd : Nat → Nat
  | 0 => 4
  | 1 => 5
  | 2 => 5
  | 3 => 6
  | 4 => 6
  | 5 => 7
  | 6 => 8
  | 7 => 8
  | _ => 9
/-- what it comes to: b where the term's steps begin, s those laid, i where it stood -/
def mO (h : xm_H) (M : Nat) (F0 : xp_F) (c : Nat → Int32) (T dp b s i : Nat) (F : xp_F) (v : xm_V) (r : PR) : Prop := match r with
  | .inl x => ∃ G, v = some (.inl (some (.int 0)), xp_m h M G) ∧ PF F0 x.1 x.2 G
  | .inr x => ∃ G s', v = some (.inl (some (.int 1)), xp_m h M G) ∧ PS F0 c T x.2 dp s' G ∧ kp2 s F G ∧ sg (cf G) x.1 b s' ∧ s ≤ s' ∧ s' + i ≤ s + x.2
end MRD
