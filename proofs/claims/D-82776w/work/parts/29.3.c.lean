/-! the component's contracts, 27: a sale that is made -/
set_option maxRecDepth 100000
section C27
variable {d : Nat} {h : xm_H} {D : xp_D} {F : xp_F}
/-! money paid has nothing to do with the temple's -/
theorem due_t {s a v : Int32} {w : Nat} : sp_due (xm_u2 F 0 70 v) s w a = sp_due F s w a := by
  unfold sp_due
  rw [u2_ap, if_neg (by omega)]
theorem part_t {i l : Nat} {v x : Int32} : sp_part (xm_u2 F 0 70 v) i l x = sp_part F i l x := by
  unfold sp_part
  rw [u2_ap, if_neg (by omega), u2_ap, if_neg (by omega)]
theorem whose_t {l s w v : Int32} : sp_whoseIs (xm_u2 F 0 70 v) l s w = sp_whoseIs F l s w := by
  have e : sp_whose1 (xm_u2 F 0 70 v) l s w = sp_whose1 F l s w := by
    funext k b
    unfold sp_whose1
    simp only [u2_ap, Nat.reduceEqDiff, false_and, and_false, ↓reduceIte]
  unfold sp_whoseIs sp_whoseB
  rw [e]
  simp only [u2_ap, Nat.reduceEqDiff, false_and, and_false, ↓reduceIte]
theorem own_t {i l : Nat} {v : Int32} : sp_own (xm_u2 F 0 70 v) i l = sp_own F i l := by
  unfold sp_own
  rw [whose_t, u2_ap, if_neg (by omega)]
theorem pay1_t {i l : Nat} {s a v : Int32} {b : Int32} {G : xp_F} : sp_pay1 (xm_u2 F 0 70 v) i s a l (b, xm_u2 G 0 70 v) = ((sp_pay1 F i s a l (b, G)).1, xm_u2 (sp_pay1 F i s a l (b, G)).2 0 70 v) := by
  have f : sp_find1 (xm_u2 F 0 70 v) i s a l (b, xm_u2 G 0 70 v) = ((sp_find1 F i s a l (b, G)).1, xm_u2 (sp_find1 F i s a l (b, G)).2 0 70 v) := by
    have ef : xm_u2 F 0 70 v 9 l = F 9 l := by rw [u2_ap, if_neg (by omega)]
    unfold sp_find1
    rw [part_t, due_t, ef]
    by_cases c : F 9 l = -1
    · rw [if_pos c, if_pos c]
    · rw [if_neg c, if_neg c]
      have e2 : xm_u2 G 0 70 v 42 (F 9 l).toNatClampNeg = G 42 (F 9 l).toNatClampNeg := by rw [u2_ap, if_neg (by omega)]
      show (b - sp_part F i l (sp_due F s 2 a), xm_u2 (xm_u2 G 0 70 v) 42 (F 9 l).toNatClampNeg (xm_u2 G 0 70 v 42 (F 9 l).toNatClampNeg + sp_part F i l (sp_due F s 2 a))) = (b - sp_part F i l (sp_due F s 2 a), xm_u2 (xm_u2 G 42 (F 9 l).toNatClampNeg (G 42 (F 9 l).toNatClampNeg + sp_part F i l (sp_due F s 2 a))) 0 70 v)
      rw [e2, u2_u2 (by omega)]
  have o : ∀ st : Int32 × xp_F, sp_own1 (xm_u2 F 0 70 v) i s a l (st.1, xm_u2 st.2 0 70 v) = ((sp_own1 F i s a l st).1, xm_u2 (sp_own1 F i s a l st).2 0 70 v) := fun st => by
    unfold sp_own1
    rw [part_t, due_t, own_t]
    by_cases c : sp_own F i l = -1
    · rw [if_pos c, if_pos c]
    · rw [if_neg c, if_neg c]
      have e2 : xm_u2 st.2 0 70 v 55 (sp_own F i l).toNatClampNeg = st.2 55 (sp_own F i l).toNatClampNeg := by rw [u2_ap, if_neg (by omega)]
      show (st.1 - sp_part F i l (sp_due F s 3 a), xm_u2 (xm_u2 st.2 0 70 v) 55 (sp_own F i l).toNatClampNeg (xm_u2 st.2 0 70 v 55 (sp_own F i l).toNatClampNeg + sp_part F i l (sp_due F s 3 a))) = (st.1 - sp_part F i l (sp_due F s 3 a), xm_u2 (xm_u2 st.2 55 (sp_own F i l).toNatClampNeg (st.2 55 (sp_own F i l).toNatClampNeg + sp_part F i l (sp_due F s 3 a))) 0 70 v)
      rw [e2, u2_u2 (by omega)]
  rw [pay1_all, pay1_all, f, o]
theorem pay_t {i : Nat} {s v : Int32} : sp_pay (xm_u2 F 0 70 v) i s = ((sp_pay F i s).1, xm_u2 (sp_pay F i s).2 0 70 v) := by
  have es : sp_shares (xm_u2 F 0 70 v) = sp_shares F := by
    unfold sp_shares
    rw [u2_ap, if_neg (by omega), u2_ap, if_neg (by omega), u2_ap, if_neg (by omega), u2_ap, if_neg (by omega)]
  have en : xm_u2 F 0 70 v 0 6 = F 0 6 := by rw [u2_ap, if_neg (by omega)]
  unfold sp_pay
  rw [es, en]
  by_cases c : sp_shares F = 0
  · rw [if_pos c, if_pos c]
  · rw [if_neg c, if_neg c]
    have e0 : sp_pay0 (xm_u2 F 0 70 v) i s (sp_shares F) = ((sp_pay0 F i s (sp_shares F)).1, xm_u2 (sp_pay0 F i s (sp_shares F)).2 0 70 v) := by
      unfold sp_pay0
      rw [due_t, due_t]
      simp only [u2_ap, Nat.reduceEqDiff, false_and, ↓reduceIte]
      rw [u2_u2 (F := F) (o := 0) (k := 70) (by omega), u2_u2 (o := 0) (k := 70) (by omega)]
    have go : ∀ n, xp_up (sp_pay1 (xm_u2 F 0 70 v) i s (sp_shares F)) (sp_pay0 (xm_u2 F 0 70 v) i s (sp_shares F)) n = ((xp_up (sp_pay1 F i s (sp_shares F)) (sp_pay0 F i s (sp_shares F)) n).1, xm_u2 (xp_up (sp_pay1 F i s (sp_shares F)) (sp_pay0 F i s (sp_shares F)) n).2 0 70 v) := by
      intro n
      induction n with
      | zero => exact e0
      | succ n ih =>
        show sp_pay1 _ i s _ n (xp_up _ _ n) = _
        rw [ih, pay1_t]
        rfl
    exact go _
theorem pays_t : ∀ (n i : Nat) (s v : Int32) (F : xp_F), sp_pays n i s (xm_u2 F 0 70 v) = ((sp_pays n i s F).1, xm_u2 (sp_pays n i s F).2 0 70 v)
  | 0, _, _, _, _ => rfl
  | n + 1, i, s, v, F => by
    have e1 : xm_u2 F 0 70 v 50 i = F 50 i := by rw [u2_ap, if_neg (by omega)]
    have e2 : xm_u2 F 0 70 v 51 i = F 51 i := by rw [u2_ap, if_neg (by omega)]
    have e3 : ∀ k, xm_u2 F 0 70 v 44 k = F 44 k := fun k => by rw [u2_ap, if_neg (by omega)]
    unfold sp_pays
    rw [e1]
    by_cases c : F 50 i = -1
    · rw [if_pos c, if_pos c]
      exact pay_t
    · rw [if_neg c, if_neg c]
      simp only [e2, e3, pays_t n]
/-- lots as they may be paid -/
def LPw (D : xp_D) (F : xp_F) : Prop := ∀ i, i < xd_n D 2 → ¬ (F 44 i).toInt64 = 0 ∧ match xd_m D i with
  | none => F 50 i = -1 ∧ xm_in (F 47 i) (xd_n D 1) = true ∧ xm_in (F 48 i) (xd_n D 1) = true
  | some (a, b) => F 50 i = Int32.ofNat a ∧ F 51 i = Int32.ofNat b
theorem LPw.ag {G : xp_F} (a : LPw D F) (p : ∀ o k, fwP o k → G o k = F o k) : LPw D G := fun i hi => by
  obtain ⟨h1, h2⟩ := a i hi
  refine ⟨by rw [p 44 i (by simp [fwP])]; exact h1, ?_⟩
  cases em : xd_m D i with
  | none =>
    rw [em] at h2
    exact ⟨by rw [p 50 i (by simp [fwP])]; exact h2.1, by rw [p 47 i (by simp [fwP])]; exact h2.2.1, by rw [p 48 i (by simp [fwP])]; exact h2.2.2⟩
  | some x =>
    rw [em] at h2
    exact ⟨by rw [p 50 i (by simp [fwP])]; exact h2.1, by rw [p 51 i (by simp [fwP])]; exact h2.2⟩
/-- what paying asks of shares, finders, claims -/
def PV (D : xp_D) (F : xp_F) : Prop := F 0 6 = Int32.ofNat (xd_n D 0) ∧ PWy D F ∧ 0 ≤ (sp_shares F).toInt
theorem PV.ag {G : xp_F} (a : PV D F) (p : ∀ o k, fwP o k → G o k = F o k) : PV D G := by
  obtain ⟨h1, ⟨h2, h3, h4⟩, h5⟩ := a
  refine ⟨by rw [p 0 6 (by decide)]; exact h1, ⟨by rw [p 0 95 (by decide)]; exact h2, fun l hl => by rw [p 9 l (by simp [fwP])]; exact h3 l hl, fun k => by rw [p 65 k (by simp [fwP])]; exact h4 k⟩, ?_⟩
  unfold sp_shares
  rw [p 17 0 (by decide), p 17 1 (by decide), p 17 2 (by decide), p 17 3 (by decide)]
  exact h5
theorem fw_pp {G : xp_F} (a : pp F G) {o k : Nat} (p : fwP o k) : G o k = F o k := by
  refine a o k ?_ ?_ <;> intro e <;> simp [fwP] at p <;> omega
theorem fw_t {v : Int32} {o k : Nat} (p : fwP o k) : xm_u2 F 0 70 v o k = F o k := by
  rw [u2_ap, if_neg]
  intro e
  simp [fwP] at p
  omega
def mp (D : xp_D) (i : Nat) : Nat := match xd_m D i with
  | none => 221
  | some _ => 226
theorem t226_24 (q : CS h D) {i : Nat} (hi : i < xd_n D 2) {x : Int32} {ls : List (Option Value)} {st : List Value} (hw : xm_w st ≤ 8) : xm_run (d + 1) 226 24 ls (.int x :: .ref (xd_A D 4 i) :: st) (xp_c h D F) = xm_aft (xm_run (d + 1) 226) 226 24 ls st (xm_met d (mp D i) [.ref (xd_A D 4 i), .int x] (xp_c h D F)) := by
  have e1 : xm_w [Value.ref (xd_A D 4 i), Value.int x] ≤ 3 := by rw [w_cons, w_cons]; exact Nat.le_succ 2
  unfold mp
  cases em : xd_m D i with
  | none => exact r226_24k20 (by rw [mc_K]; exact (cs_C q hi em).1) hw (by omega)
  | some y => exact r226_24k21 (by rw [mc_K]; exact (cs_M q hi (show xd_m D i = some (y.1, y.2) from em)).1) hw e1
theorem t226_34 (q : CS h D) {i : Nat} (hi : i < xd_n D 2) {x : Int32} {ls : List (Option Value)} {st : List Value} (hw : xm_w st ≤ 8) : xm_run (d + 1) 226 34 ls (.int x :: .ref (xd_A D 4 i) :: st) (xp_c h D F) = xm_aft (xm_run (d + 1) 226) 226 34 ls st (xm_met d (mp D i) [.ref (xd_A D 4 i), .int x] (xp_c h D F)) := by
  have e1 : xm_w [Value.ref (xd_A D 4 i), Value.int x] ≤ 3 := by rw [w_cons, w_cons]; exact Nat.le_succ 2
  unfold mp
  cases em : xd_m D i with
  | none => exact r226_34k20 (by rw [mc_K]; exact (cs_C q hi em).1) hw (by omega)
  | some y => exact r226_34k21 (by rw [mc_K]; exact (cs_M q hi (show xd_m D i = some (y.1, y.2) from em)).1) hw e1
theorem t58_87 (q : CS h D) {i : Nat} (hi : i < xd_n D 2) {x : Int32} {ls : List (Option Value)} {st : List Value} (hw : xm_w st ≤ 8) : xm_run (d + 1) 58 87 ls (.int x :: .ref (xd_A D 4 i) :: st) (xp_c h D F) = xm_aft (xm_run (d + 1) 58) 58 87 ls st (xm_met d (mp D i) [.ref (xd_A D 4 i), .int x] (xp_c h D F)) := by
  have e1 : xm_w [Value.ref (xd_A D 4 i), Value.int x] ≤ 3 := by rw [w_cons, w_cons]; exact Nat.le_succ 2
  unfold mp
  cases em : xd_m D i with
  | none => exact r58_87k20 (by rw [mc_K]; exact (cs_C q hi em).1) hw (by omega)
  | some y => exact r58_87k21 (by rw [mc_K]; exact (cs_M q hi (show xd_m D i = some (y.1, y.2) from em)).1) hw e1
end C27
