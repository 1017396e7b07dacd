/-! texts: lines, what they are; the model reads one -/
set_option maxRecDepth 100000
/-- a number, m at most -/
def nbr (c : Nat → Int32) (T : Nat) (m : Int32) (q : Nat) : (Int32 × Nat) ⊕ (Int32 × Nat) := if lK c T q = 2 then (if m < lV c T q then .inl (2, lS c T q) else .inr (lV c T q, lE c T q)) else .inl (1, lS c T q)
def pw {α β : Type} (r : (Int32 × Nat) ⊕ α) (f : α → (Int32 × Nat) ⊕ β) : (Int32 × Nat) ⊕ β := match r with
  | .inl e => .inl e
  | .inr x => f x
/-- what stands behind a line's word k -/
def pl (c : Nat → Int32) (T : Nat) (k : Int32) (q : Nat) : (Int32 × Nat) ⊕ (Ln × Nat) :=
  if k = 3 then pw (pz c T (8 * T + 8) 3 0 (.num 0) q) fun x => if lK c T x.2 = 8 then pw (pz c T (8 * T + 8) 8 0 (.num 0) (lE c T x.2)) fun y => .inr ((3, x.1, some y.1), y.2) else .inr ((3, x.1, none), x.2)
  else if k = 4 then (if lK c T q = 8 then pw (pz c T (8 * T + 8) 8 0 (.num 0) (lE c T q)) fun y => .inr ((4, .num 0, some y.1), y.2) else .inl (1, lS c T q))
  else if k = 5 then (if 150 ≤ lK c T q ∧ lK c T q ≤ 153 then pw (nbr c T 99 (lE c T q)) fun x => .inr ((5, .add (.num (lK c T q - 150).toInt) (.num x.1.toInt), none), x.2) else .inl (1, lS c T q))
  else pw (nbr c T (if k = 6 then 9 else 20) q) fun x => .inr ((k, .num x.1.toInt, none), x.2)
section MLN
variable {d : Nat} {h : xm_H} {M : Nat} {F F0 : xp_F} {c : Nat → Int32} {T : Nat}
/-- but for what is read the same -/
def fq (F G : xp_F) : Prop := ∀ o k, ¬ (o = 0 ∧ (k = 34 ∨ k = 35 ∨ (37 ≤ k ∧ k ≤ 42) ∨ k = 44)) → ¬ (22 ≤ o ∧ o ≤ 27) → G o k = F o k
theorem fq.rf : fq F F := fun _ _ _ _ => rfl
theorem fq.tr {G H : xp_F} (a : fq F G) (b : fq G H) : fq F H := fun o k h1 h2 => (b o k h1 h2).trans (a o k h1 h2)
theorem fz.fq {G : xp_F} (a : fz F G) : fq F G := fun o k h1 h2 => a o k (by omega) (by omega)
theorem fzw.fq {G : xp_F} (a : fzw F G) : fq F G := fun o k h1 h2 => a o k (by omega) (by omega)
theorem fq.u {G : xp_F} (a : fq F G) {o k : Nat} (ho : (22 ≤ o ∧ o ≤ 27) ∨ (o = 0 ∧ (k = 34 ∨ k = 35 ∨ (37 ≤ k ∧ k ≤ 42) ∨ k = 44))) {v : Int32} : fq F (xm_u2 G o k v) := fun o j h1 h2 => by
  rw [u2_ap, if_neg (by omega)]
  exact a o j h1 h2
/-- refused: its kind and place -/
def PE (F0 : xp_F) (k : Int32) (p : Nat) (F : xp_F) : Prop := F 0 41 = k ∧ F 0 42 = Int32.ofNat p ∧ fq F0 F
theorem PF.e {k : Int32} {p : Nat} {F1 : xp_F} (a : PF F1 k p F) (b : fq F0 F1) : PE F0 k p F := ⟨a.1, a.2.1, b.tr a.2.2.fq⟩
/-- an int of a line is put -/
theorem PS.set {i dp s o k : Nat} (ho : (22 ≤ o ∧ o ≤ 26) ∨ (o = 0 ∧ k = 34)) {v : Int32} (a : PS F0 c T i dp s F) : PS (xm_u2 F0 o k v) c T i dp s (xm_u2 F o k v) := by
  refine ⟨⟨?_, ?_, ?_, fun z => ?_⟩, ?_, ?_, fun o' j h1 h2 => ?_⟩
  · rw [u2_ap, if_neg (by omega)]; exact a.1.1
  · rw [u2_ap, if_neg (by omega)]; exact a.1.2.1
  · rw [u2_ap, if_neg (by omega)]; exact a.1.2.2.1
  · rw [u2_ap, if_neg (by omega)]; exact a.1.2.2.2 z
  · rw [u2_ap, if_neg (by omega)]; exact a.2.1
  · rw [u2_ap, if_neg (by omega)]; exact a.2.2.1
  · rw [u2_ap, u2_ap, a.2.2.2 o' j h1 h2]
theorem TP.set {o k : Nat} (ho : (22 ≤ o ∧ o ≤ 26) ∨ (o = 0 ∧ k = 34)) {v : Int32} (a : TP F0 c T) : TP (xm_u2 F0 o k v) c T := ⟨a.1, by rw [u2_ap, if_neg (by omega)]; exact a.2.1, fun i hi => by rw [u2_ap, if_neg (by omega)]; exact a.2.2 i hi⟩
theorem PS.d0 {i dp s : Nat} {G : xp_F} (a : PS F0 c T i dp s G) : PS F0 c T i 0 s (xm_u2 G 0 44 0) := ⟨⟨by rw [u2_ap, if_neg (by decide)]; exact a.1.1, by rw [u2_ap, if_neg (by decide)]; exact a.1.2.1, by rw [u2_ap, if_neg (by decide)]; exact a.1.2.2.1, fun z => by rw [u2_ap, if_neg (by decide)]; exact a.1.2.2.2 z⟩, by rw [u2_ap, if_pos ⟨rfl, rfl⟩]; rfl, by rw [u2_ap, if_neg (by decide)]; exact a.2.2.1, a.2.2.2.u (by omega)⟩
/-- but for line j's own the same -/
def f6 (j : Nat) (F G : xp_F) : Prop := ∀ o k, ¬ (24 ≤ o ∧ o ≤ 26 ∧ k = j) → G o k = F o k
theorem f6.fq {j : Nat} {G : xp_F} (a : f6 j F G) : fq F G := fun o k h1 h2 => a o k (by omega)
theorem f6.tr {j : Nat} {G H : xp_F} (a : f6 j F G) (b : f6 j G H) : f6 j F H := fun o k h1 => (b o k h1).trans (a o k h1)
theorem f6.u {j : Nat} {o : Nat} (ho : 24 ≤ o ∧ o ≤ 26) {v : Int32} : f6 j F (xm_u2 F o j v) := fun o' k h1 => by
  rw [u2_ap, if_neg (by omega)]
/-- line j's body as laid, its steps from b to e -/
def FB (G : xp_F) (j : Nat) (k : Int32) (L : Ln) (b e : Nat) : Prop := L.1 = k ∧ (k = 3 → ∃ w, G 24 j = Int32.ofNat w ∧ w ≤ 610 ∧ wf false L.2.1 ∧ sg (cf G) L.2.1 b w ∧ match L.2.2 with
      | none => w = e
      | some t => wf true t ∧ sg (cf G) t w e) ∧
    (k = 4 → ∃ t, L.2.2 = some t ∧ wf true t ∧ sg (cf G) t b e) ∧
    (k = 5 → ∃ w : Nat, ∃ v : Int32, w < 4 ∧ rg v 99 ∧ L.2.1 = .add (.num (w : Int)) (.num v.toInt) ∧ G 25 j = Int32.ofNat w ∧ G 26 j = v) ∧
    (k = 6 ∨ k = 7 → ∃ v : Int32, rg v 20 ∧ L.2.1 = .num v.toInt ∧ G 26 j = v)
/-- what reading a number comes to -/
def nO (h : xm_H) (M : Nat) (F0 : xp_F) (c : Nat → Int32) (T j s i : Nat) (F : xp_F) (v : xm_V) (r : (Int32 × Nat) ⊕ (Int32 × Nat)) : Prop := match r with
  | .inl x => ∃ G, v = some (.inl (some (.int 0)), xp_m h M G) ∧ PF F0 x.1 x.2 G
  | .inr x => ∃ G, v = some (.inl (some (.int 1)), xp_m h M G) ∧ PS (xm_u2 F0 26 j x.1) c T x.2 0 s G ∧ (∀ k, G 27 k = F 27 k) ∧ i < x.2 ∧ x.2 ≤ T
theorem c130 (q : MS h M) (tp : TP F0 c T) {i j s : Nat} (hi : i ≤ T) (a : PS F0 c T i 0 s F) (hj : F 0 34 = Int32.ofNat j) (j20 : j < 20) {m : Int32} : nO h M F0 c T j s i F (xm_met (d + 3) 130 [.ref M, .int m] (xp_m h M F)) (nbr c T m i) := by
  have a2 := a.1.2.1
  unfold nbr
  by_cases c1 : lK c T i = 2
  · rw [if_pos c1]
    have a4 := a.1.2.2.2 c1
    rw [c1] at a2
    have l1 := lE_lt tp.1 hi (by rw [c1]; decide)
    by_cases c22 : m < lV c T i
    · rw [if_pos c22]
      obtain ⟨G, m1, pf⟩ := a.bad (d := d + 2) q (k := 2)
      refine ⟨G, ?_, pf⟩
      have c3 : ¬ lV c T i ≤ m := Int32.not_le.mpr c22
      unfold xm_met
      simp only [ite_not, ite_self, w8_nil, ok01, ite10, rf_rv, rf_ref, rf_cat, rf_lk2, rf_some, rf_none, w_add, w_cons, cr_int, cr_long, cr_ref, cr_null, is_ref, is_null, l2_int, l2_ref, l2_null, l2_none, ent_nil, ent_int, ent_ref, ent_null, ent_rf, ent_long, ok_0, ok_1, af_ret, af_void, List.tail_cons, List.tail_nil, Nat.reduceAdd, Nat.reduceLeDiff, not_false_eq_true, not_true_eq_false, and_self, and_true, true_and, ne_eq, or_true, true_or, or_false, false_or, eq_self, Nat.reduceEqDiff, ↓reduceIte, false_and, and_false, Nat.le_refl, Nat.zero_le, nz_1, nz_2, nz_3, nz_4, nz_5, nz_6, nz_8, nz_10, nz_12, nz_20, nz_30, nz_60, nz_100, mp_B, mp_Z, mp_S, mp_C, mp_K, mp_N, mp_L, mp_R, mp_I, mp_I0, mp_s, mp_s0, u2_ap, sp_isLedge, sp_isLadder, sp_isPerson, sp_isLiving, sp_isLot, sp_isThere, sp_isSpan, ms_K q, ms_B q, ms_f30 q, r130_0, r130_1, r130_4, r130_8, r130_9, r130_10, r130_13, r130_14, r130_15, r130_18, r130_22, r130_23, r130_24, r130_27, r130_28, r130_29, r130_32, r130_33, r130_36, r130_37, r130_40, r130_41, r130_42, r130_45, r130_46, r130_5, r130_19, a2, a4, c3, m1]
    · rw [if_neg c22]
      have c3 : lV c T i ≤ m := Int32.not_lt.mp c22
      obtain ⟨G, m1, ps, -, fr⟩ := (a.set (o := 26) (k := j) (v := lV c T i) (by omega)).next (d := d) q (tp.set (by omega)) hi
      refine ⟨G, ?_, ps, fun k => (fr k).trans (by rw [u2_ap, if_neg (by omega)]), l1.1, l1.2⟩
      have ij := in_nat (show j < 20 from j20) (by decide)
      unfold xm_met
      simp only [ite_not, ite_self, w8_nil, ok01, ite10, rf_rv, rf_ref, rf_cat, rf_lk2, rf_some, rf_none, w_add, w_cons, cr_int, cr_long, cr_ref, cr_null, is_ref, is_null, l2_int, l2_ref, l2_null, l2_none, ent_nil, ent_int, ent_ref, ent_null, ent_rf, ent_long, ok_0, ok_1, af_ret, af_void, List.tail_cons, List.tail_nil, Nat.reduceAdd, Nat.reduceLeDiff, not_false_eq_true, not_true_eq_false, and_self, and_true, true_and, ne_eq, or_true, true_or, or_false, false_or, eq_self, Nat.reduceEqDiff, ↓reduceIte, false_and, and_false, Nat.le_refl, Nat.zero_le, nz_1, nz_2, nz_3, nz_4, nz_5, nz_6, nz_8, nz_10, nz_12, nz_20, nz_30, nz_60, nz_100, mp_B, mp_Z, mp_S, mp_C, mp_K, mp_N, mp_L, mp_R, mp_I, mp_I0, mp_s, mp_s0, u2_ap, sp_isLedge, sp_isLadder, sp_isPerson, sp_isLiving, sp_isLot, sp_isThere, sp_isSpan, ms_K q, ms_B q, ms_f30 q, r130_0, r130_1, r130_4, r130_8, r130_9, r130_10, r130_13, r130_14, r130_15, r130_18, r130_22, r130_23, r130_24, r130_27, r130_28, r130_29, r130_32, r130_33, r130_36, r130_37, r130_40, r130_41, r130_42, r130_45, r130_46, r130_5, r130_19, a2, a4, c3, hj, ij, m1]
  · rw [if_neg c1]
    obtain ⟨G, m1, pf⟩ := a.bad (d := d + 2) q (k := 1)
    refine ⟨G, ?_, pf⟩
    unfold xm_met
    simp only [ite_not, ite_self, w8_nil, ok01, ite10, rf_rv, rf_ref, rf_cat, rf_lk2, rf_some, rf_none, w_add, w_cons, cr_int, cr_long, cr_ref, cr_null, is_ref, is_null, l2_int, l2_ref, l2_null, l2_none, ent_nil, ent_int, ent_ref, ent_null, ent_rf, ent_long, ok_0, ok_1, af_ret, af_void, List.tail_cons, List.tail_nil, Nat.reduceAdd, Nat.reduceLeDiff, not_false_eq_true, not_true_eq_false, and_self, and_true, true_and, ne_eq, or_true, true_or, or_false, false_or, eq_self, Nat.reduceEqDiff, ↓reduceIte, false_and, and_false, Nat.le_refl, Nat.zero_le, nz_1, nz_2, nz_3, nz_4, nz_5, nz_6, nz_8, nz_10, nz_12, nz_20, nz_30, nz_60, nz_100, mp_B, mp_Z, mp_S, mp_C, mp_K, mp_N, mp_L, mp_R, mp_I, mp_I0, mp_s, mp_s0, u2_ap, sp_isLedge, sp_isLadder, sp_isPerson, sp_isLiving, sp_isLot, sp_isThere, sp_isSpan, ms_K q, ms_B q, ms_f30 q, r130_0, r130_1, r130_4, r130_8, r130_9, r130_10, r130_13, r130_14, r130_15, r130_18, r130_22, r130_23, r130_24, r130_27, r130_28, r130_29, r130_32, r130_33, r130_36, r130_37, r130_40, r130_41, r130_42, r130_45, r130_46, r130_5, r130_19, a2, c1, m1]
end MLN
