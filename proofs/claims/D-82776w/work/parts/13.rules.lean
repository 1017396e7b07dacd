/-! the instructions as equations of xm_run: one general lemma a kind; the rows by place are printed from them -/
set_option maxRecDepth 100000
def xm_plain (i : Instr) : Bool := match i with
  | .return_ => false
  | .ireturn => false
  | .lreturn => false
  | .areturn => false
  | .invokestatic _ => false
  | .invokespecial _ => false
  | .invokevirtual _ => false
  | .multianewarray _ _ => false
  | .athrow => false
  | _ => true
theorem nox_ne {y : Nat} (h : (y == 18) = false) (v : xm_V) : xm_nox y v = v := by
  have h : ¬ y = 18 := by simpa using h
  unfold xm_nox
  split
  · rw [if_neg h]
  · rfl
theorem nox_ret {y : Nat} {v : Option Value} {h : xm_H} : xm_nox y (some (.inl v, h)) = some (.inl v, h) := rfl
section RQ
variable {mi pc len : Nat} {cc : ByteArray} {i : Instr} {d : Nat} {ls : List (Option Value)} {st : List Value} {h : xm_H}
theorem rq_of {pc' : Nat} {ls' : List (Option Value)} {st' : List Value} {h' : xm_H} (hm : xm_mC mi = cc) (hd : decode cc pc = .ok (i, len)) (hs : xm_simple mi i pc ls st h = some (pc', ls', st', h')) (hL : xm_ln i len = true := by rfl) : xm_run d mi pc ls st h = xm_run d mi pc' ls' st' h' := by
  rw [xm_run_eq d mi pc]
  unfold xm_step
  rw [hm, hd]
  simp only [hs, hL, Bool.true_eq_false, if_false]
theorem rq_nat {pc' : Nat} {ls' : List (Option Value)} {st' : List Value} {h' : xm_H} (hm : xm_mC mi = cc) (hd : decode cc pc = .ok (i, len)) (h1 : xm_simple mi i pc ls st h = none) (h2 : xm_ret mi i st = none) (hs : xm_nat mi i pc ls st h = some (pc', ls', st', h')) (hL : xm_ln i len = true := by rfl) : xm_run (d + 1) mi pc ls st h = xm_run (d + 1) mi pc' ls' st' h' := by
  rw [xm_run_eq (d + 1) mi pc]
  unfold xm_step
  rw [hm, hd]
  simp only [h1, h2, hs, hL, Bool.true_eq_false, if_false]
theorem rq_ret {v : Option Value} (hm : xm_mC mi = cc) (hd : decode cc pc = .ok (i, len)) (h1 : xm_simple mi i pc ls st h = none) (hs : xm_ret mi i st = some v) (hL : xm_ln i len = true := by rfl) : xm_run d mi pc ls st h = some (.inl v, h) := by
  rw [xm_run_eq d mi pc]
  unfold xm_step
  rw [hm, hd]
  simp only [h1, hs, hL, Bool.true_eq_false, if_false]
theorem rq_call {y : Nat} {as r : List Value} (hm : xm_mC mi = cc) (hd : decode cc pc = .ok (i, len)) (h1 : xm_simple mi i pc ls st h = none) (h2 : xm_ret mi i st = none) (h3 : xm_nat mi i pc ls st h = none) (hs : xm_cal mi i st h = some (y, as, r)) (hL : xm_ln i len = true := by rfl) : xm_run (d + 1) mi pc ls st h = xm_aft (xm_run (d + 1) mi) mi pc ls r (xm_nox y (xm_met d y as h)) := by
  rw [xm_run_eq (d + 1) mi pc]
  unfold xm_step
  rw [hm, hd]
  simp only [h1, h2, h3, hs, hL, Bool.true_eq_false, if_false]
theorem rq_throw {a : Nat} {r : List Value} (hm : xm_mC mi = cc) (hd : decode cc pc = .ok (.athrow, 1)) : xm_run (d + 1) mi pc ls (.ref a :: r) h = xm_thr (xm_run (d + 1) mi) mi pc ls h a := by
  rw [xm_run_eq (d + 1) mi pc]
  unfold xm_step
  rw [hm, hd]
  rfl
/-- a plain instruction whose step is a branch on c -/
theorem rq_br {c : Prop} [Decidable c] {p1 p2 : Nat} {ls1 : List (Option Value)} {st1 : List Value} (hm : xm_mC mi = cc) (hd : decode cc pc = .ok (i, len)) (hs : xm_simple mi i pc ls st h = if c then some (p1, ls1, st1, h) else some (p2, ls1, st1, h)) (hL : xm_ln i len = true := by rfl) : xm_run d mi pc ls st h = if c then xm_run d mi p1 ls1 st1 h else xm_run d mi p2 ls1 st1 h := by
  by_cases q : c
  · rw [if_pos q] at hs ⊢
    exact rq_of hm hd hs hL
  · rw [if_neg q] at hs ⊢
    exact rq_of hm hd hs hL
/-- a plain instruction under a condition -/
theorem rq_if {c : Prop} [Decidable c] {pc' : Nat} {ls' : List (Option Value)} {st' : List Value} {h' : xm_H} (hm : xm_mC mi = cc) (hd : decode cc pc = .ok (i, len)) (hc : c) (hs : xm_simple mi i pc ls st h = if c then some (pc', ls', st', h') else none) (hL : xm_ln i len = true := by rfl) : xm_run d mi pc ls st h = xm_run d mi pc' ls' st' h' := rq_of hm hd (by rw [hs, if_pos hc]) hL
theorem rq_ifn {c : Prop} [Decidable c] {pc' : Nat} {ls' : List (Option Value)} {st' : List Value} {h' : xm_H} (hm : xm_mC mi = cc) (hd : decode cc pc = .ok (i, len)) (hc : ¬ c) (hs : xm_simple mi i pc ls st h = if c then none else some (pc', ls', st', h')) (hL : xm_ln i len = true := by rfl) : xm_run d mi pc ls st h = xm_run d mi pc' ls' st' h' := rq_of hm hd (by rw [hs, if_neg hc]) hL
/-- getfield: an int, a long, a reference -/
theorem rq_getI {idx c k a : Nat} {r : List Value} (hm : xm_mC mi = cc) (hd : decode cc pc = .ok (.getfield idx, 3)) (hf : xm_lkF (xm_mO mi) idx = some (c, k)) (ht : ∀ h a, xm_fv c k h a = some (.int (xm_I h a k))) (hk : xm_is c (xm_K h a) = true) : xm_run d mi pc ls (.ref a :: r) h = xm_run d mi (pc + 3) ls (.int (xm_I h a k) :: r) h := by
  refine rq_of hm hd ?_
  simp only [xm_simple, hf, if_pos hk, ht]
theorem rq_getL {idx c k a : Nat} {r : List Value} (hm : xm_mC mi = cc) (hd : decode cc pc = .ok (.getfield idx, 3)) (hf : xm_lkF (xm_mO mi) idx = some (c, k)) (ht : ∀ h a, xm_fv c k h a = some (.long (xm_L h a k))) (hk : xm_is c (xm_K h a) = true) : xm_run d mi pc ls (.ref a :: r) h = xm_run d mi (pc + 3) ls (.long (xm_L h a k) :: r) h := by
  refine rq_of hm hd ?_
  simp only [xm_simple, hf, if_pos hk, ht]
theorem rq_getR {idx c k a : Nat} {r : List Value} (hm : xm_mC mi = cc) (hd : decode cc pc = .ok (.getfield idx, 3)) (hf : xm_lkF (xm_mO mi) idx = some (c, k)) (ht : ∀ h a, xm_fv c k h a = some (va_rf (xm_R h a k))) (hk : xm_is c (xm_K h a) = true) : xm_run d mi pc ls (.ref a :: r) h = xm_run d mi (pc + 3) ls (va_rf (xm_R h a k) :: r) h := by
  refine rq_of hm hd ?_
  simp only [xm_simple, hf, if_pos hk, ht]
/-- putfield -/
theorem rq_put {idx c k a : Nat} {v : Value} {h' : xm_H} {r : List Value} (hm : xm_mC mi = cc) (hd : decode cc pc = .ok (.putfield idx, 3)) (hf : xm_lkF (xm_mO mi) idx = some (c, k)) (hp : xm_pf mi c k = true) (ht : xm_fs c k h a v = some h') (hk : xm_is c (xm_K h a) = true) (hB : xm_B h ≤ a) : xm_run d mi pc ls (v :: .ref a :: r) h = xm_run d mi (pc + 3) ls r h' := by
  refine rq_of hm hd ?_
  simp only [xm_simple, hf]
  rw [if_pos ⟨hk, hB, hp⟩, ht]
theorem rf_rv (o : Option Nat) : xm_rv (va_rf o) = some o := by cases o <;> rfl
theorem rf_ref (o : Option Nat) : xm_isref (va_rf o) = true := by cases o <;> rfl
theorem rf_cat (o : Option Nat) : (va_rf o).category = 1 := by cases o <;> rfl
theorem rf_lk2 (o : Option Nat) : xm_lk2 (some (va_rf o)) = false := by cases o <;> rfl
theorem rf_some (a : Nat) : va_rf (some a) = .ref a := rfl
theorem rf_none : va_rf none = .null := rfl
theorem rq_ls1 {a : Option Value} {n : Nat} {v : Option Value} (l : List (Option Value)) : xm_ls (a :: l) (n + 1) v = a :: xm_ls l n v := rfl
theorem rq_ls0 {v : Option Value} (l : List (Option Value)) : xm_ls l 0 v = v :: l.tail := by cases l <;> rfl
/-- a store in place n -/
theorem rq_st {v : Value} {r : List Value} {n w : Nat} (hm : xm_mC mi = cc) (hd : decode cc pc = .ok (i, len)) (hs : xm_simple mi i pc ls (v :: r) h = xm_st1 ls n pc w (xm_mL mi) v r h) (hn : n < xm_mL mi) (h2 : xm_two ls n = false) (hL : xm_ln i len = true := by rfl) : xm_run d mi pc ls (v :: r) h = xm_run d mi (pc + w) (xm_ls ls n (some v)) r h := by
  refine rq_of hm hd ?_ hL
  rw [hs, xm_st1, if_pos ⟨hn, h2⟩]
theorem rq_stL {v : Value} {r : List Value} {n w : Nat} (hm : xm_mC mi = cc) (hd : decode cc pc = .ok (i, len)) (hs : xm_simple mi i pc ls (v :: r) h = xm_st2 ls n pc w (xm_mL mi) v r h) (hn : n + 1 < xm_mL mi) (h2 : xm_two ls n = false) (hL : xm_ln i len = true := by rfl) : xm_run d mi pc ls (v :: r) h = xm_run d mi (pc + w) (xm_ls (xm_ls ls n (some v)) (n + 1) none) r h := by
  refine rq_of hm hd ?_ hL
  rw [hs, xm_st2, if_pos ⟨hn, h2⟩]
theorem rq_iinc {x c : Int32} {n : Nat} {v : Int} {ls' : List (Option Value)} (hm : xm_mC mi = cc) (hd : decode cc pc = .ok (.iinc n v, 3)) (hl : xm_lg ls n = some (.int x)) (hn : n < xm_mL mi) (h2 : xm_two ls n = false) (hv : Int32.ofInt v = c) (e : xm_ls ls n (some (.int (x + c))) = ls') : xm_run d mi pc ls st h = xm_run d mi (pc + 3) ls' st h := by
  subst hv
  subst e
  refine rq_of hm hd ?_
  simp only [xm_simple, hl]
  rw [xm_st1, if_pos ⟨hn, h2⟩]
/-- calls -/
theorem rq_static {idx y : Nat} (hm : xm_mC mi = cc) (hd : decode cc pc = .ok (.invokestatic idx, 3)) (hf : xm_lkS (xm_mO mi) idx = some y) (hy : xm_lkY (xm_mO mi) idx = false ∧ xm_lkN (xm_mO mi) idx = none) (h1 : xm_mP y ≤ st.length) (h2 : xm_w (st.drop (xm_mP y)) ≤ 8) (h9 : xm_w (st.take (xm_mP y)).reverse ≤ xm_mL y) (h18 : (y == 18) = false := by rfl) : xm_run (d + 1) mi pc ls st h = xm_aft (xm_run (d + 1) mi) mi pc ls (st.drop (xm_mP y)) (xm_met d y (st.take (xm_mP y)).reverse h) := by
  rw [← nox_ne h18 (xm_met d y _ h)]
  refine rq_call hm hd rfl rfl ?_ ?_
  · simp [xm_nat, hy.1, hy.2]
  · simp only [xm_cal, hf]
    rw [if_pos ⟨h1, h2, h9⟩]
theorem rq_special {idx y a : Nat} {r : List Value} (hm : xm_mC mi = cc) (hd : decode cc pc = .ok (.invokespecial idx, 3)) (hf : xm_lkP (xm_mO mi) idx = some y) (hy : xm_lkO (xm_mO mi) idx = false) (hz : xm_lkZ (xm_mO mi) idx = true → xm_K h a = 27) (h1 : st.drop (xm_mP y) = .ref a :: r) (h2 : xm_w r ≤ 8) (h9 : xm_w (.ref a :: (st.take (xm_mP y)).reverse) ≤ xm_mL y) (h18 : (y == 18) = false := by rfl) : xm_run (d + 1) mi pc ls st h = xm_aft (xm_run (d + 1) mi) mi pc ls r (xm_met d y (.ref a :: (st.take (xm_mP y)).reverse) h) := by
  rw [← nox_ne h18 (xm_met d y _ h)]
  refine rq_call hm hd rfl rfl ?_ ?_
  · simp [xm_nat, hy]
  · simp only [xm_cal, hf, h1]
    rw [if_pos ⟨h2, hz, h9⟩]
theorem rq_virt {idx n y a : Nat} {r : List Value} (kd : Nat) (hm : xm_mC mi = cc) (hd : decode cc pc = .ok (.invokevirtual idx, 3)) (hn : xm_lkV (xm_mO mi) idx = some n) (hf : xm_lkR (xm_mO mi) idx kd = some y) (hp : xm_mP y = n) (h1 : st.drop n = .ref a :: r) (hk : xm_K h a = kd) (h2 : xm_w r ≤ 8) (h9 : xm_w (.ref a :: (st.take n).reverse) ≤ xm_mL y) : xm_run (d + 1) mi pc ls st h = xm_aft (xm_run (d + 1) mi) mi pc ls r (xm_nox y (xm_met d y (.ref a :: (st.take n).reverse) h)) := by
  refine rq_call hm hd rfl rfl rfl ?_
  simp only [xm_cal, hn, h1, hk, hf]
  rw [if_pos ⟨h2, hp, h9⟩]
theorem rq_virt2 {idx n y a : Nat} {r : List Value} (kd : Nat) (hm : xm_mC mi = cc) (hd : decode cc pc = .ok (.invokevirtual idx, 3)) (hn : xm_lkV (xm_mO mi) idx = some n) (hf : xm_lkR (xm_mO mi) idx kd = some y) (hp : xm_mP y = n) (h1 : st.drop n = .ref a :: r) (hk : xm_K h a = kd) (h2 : xm_w r ≤ 8) (h9 : xm_w (.ref a :: (st.take n).reverse) ≤ xm_mL y) (h18 : (y == 18) = false := by rfl) : xm_run (d + 1) mi pc ls st h = xm_aft (xm_run (d + 1) mi) mi pc ls r (xm_met d y (.ref a :: (st.take n).reverse) h) := by
  rw [← nox_ne h18 (xm_met d y _ h)]
  exact rq_virt kd hm hd hn hf hp h1 hk h2 h9
theorem rq_objinit {idx a : Nat} {r : List Value} (hm : xm_mC mi = cc) (hd : decode cc pc = .ok (.invokespecial idx, 3)) (hf : xm_lkO (xm_mO mi) idx = true) (h2 : xm_w r ≤ 8) : xm_run (d + 1) mi pc ls (.ref a :: r) h = xm_run (d + 1) mi (pc + 3) ls r h := by
  refine rq_nat hm hd rfl rfl ?_
  simp only [xm_nat, hf]
  rw [if_pos trivial, if_pos h2]
theorem rq_copy {idx a b : Nat} {sp dp n : Int32} {r : List Value} (hm : xm_mC mi = cc) (hd : decode cc pc = .ok (.invokestatic idx, 3)) (hf : xm_lkY (xm_mO mi) idx = true ∧ xm_lkN (xm_mO mi) idx = none)
    (hc : (xm_K h a = 100 ∨ (xm_K h a = 101 ∧ (List.range n.toNatClampNeg).all (fun j => fits .byte (.int (xm_I h a (sp.toNatClampNeg + j)))) = true)) ∧ xm_K h b = xm_K h a ∧ xm_B h ≤ b ∧ ¬ a = b ∧ ¬ n < 0 ∧ ¬ sp < 0 ∧ ¬ dp < 0 ∧ sp.toNatClampNeg + n.toNatClampNeg ≤ xm_N h a ∧ dp.toNatClampNeg + n.toNatClampNeg ≤ xm_N h b ∧ xm_w r ≤ 8) : xm_run (d + 1) mi pc ls (.int n :: .int dp :: .ref b :: .int sp :: .ref a :: r) h = xm_run (d + 1) mi (pc + 3) ls r (xm_cp h b dp.toNatClampNeg n.toNatClampNeg (fun j => xm_I h a (sp.toNatClampNeg + j))) := by
  refine rq_nat hm hd rfl rfl ?_
  simp only [xm_nat, hf.1, hf.2]
  rw [if_pos trivial, if_pos hc]
theorem rq_max {idx : Nat} {x y : Int32} {r : List Value} (hm : xm_mC mi = cc) (hd : decode cc pc = .ok (.invokestatic idx, 3)) (hf : xm_lkN (xm_mO mi) idx = some 0) (hw : xm_w r ≤ 8) : xm_run (d + 1) mi pc ls (.int y :: .int x :: r) h = xm_run (d + 1) mi (pc + 3) ls (.int (if x < y then y else x) :: r) h := by
  refine rq_nat hm hd rfl rfl ?_
  simp only [xm_nat, hf, xm_mth]
  rw [if_pos hw]
theorem rq_min {idx : Nat} {x y : Int32} {r : List Value} (hm : xm_mC mi = cc) (hd : decode cc pc = .ok (.invokestatic idx, 3)) (hf : xm_lkN (xm_mO mi) idx = some 1) (hw : xm_w r ≤ 8) : xm_run (d + 1) mi pc ls (.int y :: .int x :: r) h = xm_run (d + 1) mi (pc + 3) ls (.int (if y < x then y else x) :: r) h := by
  refine rq_nat hm hd rfl rfl ?_
  simp only [xm_nat, hf, xm_mth]
  rw [if_pos hw]
theorem rq_abs {idx : Nat} {x : Int32} {r : List Value} (hm : xm_mC mi = cc) (hd : decode cc pc = .ok (.invokestatic idx, 3)) (hf : xm_lkN (xm_mO mi) idx = some 2) (hw : xm_w r ≤ 8) : xm_run (d + 1) mi pc ls (.int x :: r) h = xm_run (d + 1) mi (pc + 3) ls (.int (if 0 ≤ x then x else 0 - x) :: r) h := by
  refine rq_nat hm hd rfl rfl ?_
  simp only [xm_nat, hf, xm_mth]
  rw [if_pos hw]
/-- a table switch as a chain -/
noncomputable def xm_sw (d mi : Nat) (ls : List (Option Value)) (st : List Value) (h : xm_H) (x : Int32) (dflt : Nat) : List (Int32 × Nat) → xm_V
  | [] => xm_run d mi dflt ls st h
  | (k, t) :: l => if x = k then xm_run d mi t ls st h else xm_sw d mi ls st h x dflt l
def xm_swt (x : Int32) (dflt : Nat) : List (Int32 × Nat) → Nat
  | [] => dflt
  | (k, t) :: l => if x = k then t else xm_swt x dflt l
theorem xm_sw_eq {x : Int32} {dflt : Nat} (l : List (Int32 × Nat)) : xm_sw d mi ls st h x dflt l = xm_run d mi (xm_swt x dflt l) ls st h := by
  induction l with
  | nil => rfl
  | cons a l ih =>
    obtain ⟨k, t⟩ := a
    simp only [xm_sw, xm_swt]
    by_cases q : x = k
    · rw [if_pos q, if_pos q]
    · rw [if_neg q, if_neg q]
      exact ih
theorem xm_swt_out {x : Int32} {dflt : Nat} : ∀ (l : List (Int32 × Nat)), (∀ q ∈ l, ¬ x = q.1) → xm_swt x dflt l = dflt
  | [], _ => rfl
  | (k, t) :: l, hq => by
    rw [xm_swt, if_neg (hq (k, t) List.mem_cons_self)]
    exact xm_swt_out l (fun q h => hq q (List.mem_cons_of_mem _ h))
theorem rq_tsw {x : Int32} {dflt lo hi : Int} {offs : Array Int} {n : Nat} {df : Nat} (l : List (Int32 × Nat)) (hm : xm_mC mi = cc) (hd : decode cc pc = .ok (.tableswitch dflt lo hi offs, len)) (h1 : hi = lo + n) (hdf : xm_jmp pc dflt = some df) (hb : -1000 ≤ lo ∧ hi ≤ 1000)
    (hl : (List.range (n + 1)).all (fun j => match offs[j]? with
      | some off => decide (xm_jmp pc off = some (xm_swt (Int32.ofInt (lo + j)) df l))
      | none => false) = true) (hr : l.all (fun q => decide (lo ≤ q.1.toInt ∧ q.1.toInt ≤ hi)) = true) : xm_run d mi pc ls (.int x :: st) h = xm_sw d mi ls st h x df l := by
  rw [xm_sw_eq]
  refine rq_of hm hd ?_ rfl
  simp only [xm_simple]
  by_cases q : x.toInt < lo ∨ hi < x.toInt
  · rw [if_pos q, hdf]
    simp only
    rw [xm_swt_out l (fun z hz e => ?_)]
    have := of_decide_eq_true (List.all_eq_true.mp hr z hz)
    rw [← e] at this
    omega
  · rw [if_neg q]
    have hj : (x.toInt - lo).toNat < n + 1 := by omega
    have h2 := List.all_eq_true.mp hl _ (List.mem_range.mpr hj)
    have e : Int32.ofInt (lo + ((x.toInt - lo).toNat : Int)) = x := by
      rw [show lo + ((x.toInt - lo).toNat : Int) = x.toInt by omega]
      exact Int32.ofInt_toInt x
    cases ho : offs[(x.toInt - lo).toNat]? with
    | none => rw [ho] at h2; cases h2
    | some off =>
      rw [ho] at h2
      have h3 := of_decide_eq_true h2
      rw [e] at h3
      simp only [h3]
theorem rq_iconst {n : Int} {v : Int32} (hm : xm_mC mi = cc) (hd : decode cc pc = .ok (.iconst n, 1)) (hv : Int32.ofInt n = v) : xm_run d mi pc ls st h = xm_run d mi (pc + 1) ls (.int v :: st) h := rq_of hm hd (by rw [← hv]; rfl)
theorem rq_bipush {n : Int} {v : Int32} (hm : xm_mC mi = cc) (hd : decode cc pc = .ok (.bipush n, 2)) (hv : (Int8.ofInt n).toInt32 = v) : xm_run d mi pc ls st h = xm_run d mi (pc + 2) ls (.int v :: st) h := rq_of hm hd (by rw [← hv]; rfl)
theorem rq_sipush {n : Int} {v : Int32} (hm : xm_mC mi = cc) (hd : decode cc pc = .ok (.sipush n, 3)) (hv : (Int16.ofInt n).toInt32 = v) : xm_run d mi pc ls st h = xm_run d mi (pc + 3) ls (.int v :: st) h := rq_of hm hd (by rw [← hv]; rfl)
theorem rq_lconst {n : Fin 2} {v : Int64} (hm : xm_mC mi = cc) (hd : decode cc pc = .ok (.lconst n, 1)) (hv : Int64.ofNat (n : Nat) = v) : xm_run d mi pc ls st h = xm_run d mi (pc + 1) ls (.long v :: st) h := rq_of hm hd (by rw [← hv]; rfl)
theorem rq_bz {a : Nat} {i x : Int32} {r : List Value} (hk : xm_K h a = 102) (hB : xm_B h ≤ a) (hi : xm_in i (xm_N h a) = true) (hx : xm_ok .boolean x = true) : xm_simple mi .bastore pc ls (.int x :: .int i :: .ref a :: r) h = some (pc + 1, ls, r, xm_sI h a i.toNatClampNeg x) := by
  simp only [xm_simple]
  rw [if_pos ⟨hB, hi⟩, if_neg (by rw [hk]; decide), if_pos ⟨hk, hx⟩]
theorem rq_bb {a : Nat} {i x : Int32} {r : List Value} (hk : xm_K h a = 101) (hB : xm_B h ≤ a) (hi : xm_in i (xm_N h a) = true) : xm_simple mi .bastore pc ls (.int x :: .int i :: .ref a :: r) h = some (pc + 1, ls, r, xm_sI h a i.toNatClampNeg x.toInt8.toInt32) := by
  simp only [xm_simple]
  rw [if_pos ⟨hB, hi⟩, if_pos hk]
theorem rq_mna {idx : Nat} {n : Int32} {r : List Value} (hw : xm_lkW (xm_mO mi) idx = true) (hn : ¬ n < 0 ∧ n.toNatClampNeg ≤ 1000) : xm_nat mi (.multianewarray idx 2) pc ls (.int n :: .int 2 :: r) h = some (pc + 4, ls, .ref (xm_Z h) :: r, xm_sR (xm_sR (xm_nw (xm_nw (xm_nw h 112 2 2) 113 n.toNatClampNeg n.toNatClampNeg) 113 n.toNatClampNeg n.toNatClampNeg) (xm_Z h) 0 (some (xm_Z h + 1))) (xm_Z h) 1 (some (xm_Z h + 2))) := by
  simp only [xm_nat, hw]
  rw [if_pos ⟨trivial, trivial⟩, if_pos ⟨trivial, hn.1, hn.2⟩]
theorem xm_le_len {n : Nat} {st : List Value} {k : Nat} (e : st.length = k + n) : n ≤ st.length := by omega
end RQ
theorem rq_ri {mi : Nat} (ht : xm_mT mi = some .int) (x : Int32) : xm_ret mi .ireturn [.int x] = some (some (.int x)) := by
  simp only [xm_ret, ht]
  rw [if_pos (show xm_ok .int x = true from rfl)]
/-! behind a call -/
section AF
variable {d mi pc : Nat} {ls : List (Option Value)} {r : List Value} {h : xm_H}
theorem af_ret {v : Value} : xm_aft (xm_run d mi) mi pc ls r (some (.inl (some v), h)) = xm_run d mi (pc + 3) ls (v :: r) h := rfl
theorem af_void : xm_aft (xm_run d mi) mi pc ls r (some (.inl none, h)) = xm_run d mi (pc + 3) ls r h := rfl
theorem af_thr {a : Nat} : xm_aft (xm_run d mi) mi pc ls r (some (.inr a, h)) = xm_thr (xm_run d mi) mi pc ls h a := rfl
theorem th_out {a : Nat} (hk : xm_K h a = 2) (hB : xm_B h ≤ a) (hh : xm_hnd mi pc = none) : xm_thr (xm_run d mi) mi pc ls h a = some (.inr a, h) := by
  rw [xm_thr, if_pos ⟨hk, hB⟩, hh]
theorem th_in {a hp : Nat} (hk : xm_K h a = 2) (hB : xm_B h ≤ a) (hh : xm_hnd mi pc = some hp) : xm_thr (xm_run d mi) mi pc ls h a = xm_run d mi hp ls [.ref a] h := by
  rw [xm_thr, if_pos ⟨hk, hB⟩, hh]
end AF
/-! reading what was set -/
section HL
variable {h : xm_H} {a b k j : Nat}
theorem h_I_sI {v : Int32} : xm_I (xm_sI h a k v) b j = if b = a ∧ j = k then v else xm_I h b j := rfl
theorem h_L_sI {v : Int32} : xm_L (xm_sI h a k v) = xm_L h := rfl
theorem h_R_sI {v : Int32} : xm_R (xm_sI h a k v) = xm_R h := rfl
theorem h_K_sI {v : Int32} : xm_K (xm_sI h a k v) = xm_K h := rfl
theorem h_N_sI {v : Int32} : xm_N (xm_sI h a k v) = xm_N h := rfl
theorem h_B_sI {v : Int32} : xm_B (xm_sI h a k v) = xm_B h := rfl
theorem h_Z_sI {v : Int32} : xm_Z (xm_sI h a k v) = xm_Z h := rfl
theorem h_S_sI {v : Int32} : xm_S (xm_sI h a k v) = xm_S h := rfl
theorem h_C_sI {v : Int32} : xm_C (xm_sI h a k v) = xm_C h := rfl
theorem h_I_sL {v : Int64} : xm_I (xm_sL h a k v) = xm_I h := rfl
theorem h_L_sL {v : Int64} : xm_L (xm_sL h a k v) b j = if b = a ∧ j = k then v else xm_L h b j := rfl
theorem h_R_sL {v : Int64} : xm_R (xm_sL h a k v) = xm_R h := rfl
theorem h_K_sL {v : Int64} : xm_K (xm_sL h a k v) = xm_K h := rfl
theorem h_N_sL {v : Int64} : xm_N (xm_sL h a k v) = xm_N h := rfl
theorem h_B_sL {v : Int64} : xm_B (xm_sL h a k v) = xm_B h := rfl
theorem h_Z_sL {v : Int64} : xm_Z (xm_sL h a k v) = xm_Z h := rfl
theorem h_S_sL {v : Int64} : xm_S (xm_sL h a k v) = xm_S h := rfl
theorem h_C_sL {v : Int64} : xm_C (xm_sL h a k v) = xm_C h := rfl
theorem h_I_sR {v : Option Nat} : xm_I (xm_sR h a k v) = xm_I h := rfl
theorem h_L_sR {v : Option Nat} : xm_L (xm_sR h a k v) = xm_L h := rfl
theorem h_R_sR {v : Option Nat} : xm_R (xm_sR h a k v) b j = if b = a ∧ j = k then v else xm_R h b j := rfl
theorem h_K_sR {v : Option Nat} : xm_K (xm_sR h a k v) = xm_K h := rfl
theorem h_N_sR {v : Option Nat} : xm_N (xm_sR h a k v) = xm_N h := rfl
theorem h_B_sR {v : Option Nat} : xm_B (xm_sR h a k v) = xm_B h := rfl
theorem h_Z_sR {v : Option Nat} : xm_Z (xm_sR h a k v) = xm_Z h := rfl
theorem h_S_sR {v : Option Nat} : xm_S (xm_sR h a k v) = xm_S h := rfl
theorem h_C_sR {v : Option Nat} : xm_C (xm_sR h a k v) = xm_C h := rfl
theorem h_I_cp {p n : Nat} {f : Nat → Int32} : xm_I (xm_cp h a p n f) b j = if b = a ∧ p ≤ j ∧ j < p + n then f (j - p) else xm_I h b j := rfl
theorem h_L_cp {p n : Nat} {f : Nat → Int32} : xm_L (xm_cp h a p n f) = xm_L h := rfl
theorem h_R_cp {p n : Nat} {f : Nat → Int32} : xm_R (xm_cp h a p n f) = xm_R h := rfl
theorem h_K_cp {p n : Nat} {f : Nat → Int32} : xm_K (xm_cp h a p n f) = xm_K h := rfl
theorem h_N_cp {p n : Nat} {f : Nat → Int32} : xm_N (xm_cp h a p n f) = xm_N h := rfl
theorem h_B_cp {p n : Nat} {f : Nat → Int32} : xm_B (xm_cp h a p n f) = xm_B h := rfl
theorem h_Z_cp {p n : Nat} {f : Nat → Int32} : xm_Z (xm_cp h a p n f) = xm_Z h := rfl
theorem h_S_cp {p n : Nat} {f : Nat → Int32} : xm_S (xm_cp h a p n f) = xm_S h := rfl
theorem h_C_cp {p n : Nat} {f : Nat → Int32} : xm_C (xm_cp h a p n f) = xm_C h := rfl
theorem h_I_nw {kd n s : Nat} : xm_I (xm_nw h kd n s) b j = if b = xm_Z h then 0 else xm_I h b j := by
  show (xm_u1 (xm_I h) (xm_Z h) (fun _ => 0)) b j = _
  unfold xm_u1
  by_cases q : b = xm_Z h
  · rw [if_pos q, if_pos q]
  · rw [if_neg q, if_neg q]
theorem h_L_nw {kd n s : Nat} : xm_L (xm_nw h kd n s) b j = if b = xm_Z h then 0 else xm_L h b j := by
  show (xm_u1 (xm_L h) (xm_Z h) (fun _ => 0)) b j = _
  unfold xm_u1
  by_cases q : b = xm_Z h
  · rw [if_pos q, if_pos q]
  · rw [if_neg q, if_neg q]
theorem h_R_nw {kd n s : Nat} : xm_R (xm_nw h kd n s) b j = if b = xm_Z h then none else xm_R h b j := by
  show (xm_u1 (xm_R h) (xm_Z h) (fun _ => none)) b j = _
  unfold xm_u1
  by_cases q : b = xm_Z h
  · rw [if_pos q, if_pos q]
  · rw [if_neg q, if_neg q]
theorem h_K_nw {kd n s : Nat} : xm_K (xm_nw h kd n s) b = if b = xm_Z h then kd else xm_K h b := rfl
theorem h_N_nw {kd n s : Nat} : xm_N (xm_nw h kd n s) b = if b = xm_Z h then n else xm_N h b := rfl
theorem h_B_nw {kd n s : Nat} : xm_B (xm_nw h kd n s) = xm_B h := rfl
theorem h_Z_nw {kd n s : Nat} : xm_Z (xm_nw h kd n s) = xm_Z h + 1 := rfl
theorem h_S_nw {kd n s : Nat} : xm_S (xm_nw h kd n s) = xm_S h + s := rfl
theorem h_C_nw {kd n s : Nat} : xm_C (xm_nw h kd n s) = xm_C h := rfl
end HL
theorem w_nil : xm_w [] = 0 := rfl
theorem w_cons {v : Value} {r : List Value} : xm_w (v :: r) = v.category + xm_w r := by simp [xm_w]
theorem cat_int {x : Int32} : (Value.int x).category = 1 := rfl
theorem cat_long {x : Int64} : (Value.long x).category = 2 := rfl
theorem cat_ref {x : Nat} : (Value.ref x).category = 1 := rfl
theorem cat_null : (Value.null).category = 1 := rfl
theorem isr_ref {x : Nat} : xm_isref (.ref x) = true := rfl
theorem isr_null : xm_isref .null = true := rfl
theorem lk2_int {x : Int32} : xm_lk2 (some (.int x)) = false := rfl
theorem lk2_ref {x : Nat} : xm_lk2 (some (.ref x)) = false := rfl
theorem lk2_null : xm_lk2 (some .null) = false := rfl
theorem lk2_none : xm_lk2 none = false := rfl
theorem ent_nil : xm_ent [] = [] := rfl
theorem ent_int {x : Int32} {r : List Value} : xm_ent (.int x :: r) = some (.int x) :: xm_ent r := rfl
theorem ent_ref {x : Nat} {r : List Value} : xm_ent (.ref x :: r) = some (.ref x) :: xm_ent r := rfl
theorem ent_null {r : List Value} : xm_ent (.null :: r) = some .null :: xm_ent r := rfl
theorem ent_rf {x : Option Nat} {r : List Value} : xm_ent (va_rf x :: r) = some (va_rf x) :: xm_ent r := by cases x <;> rfl
theorem ent_long {x : Int64} {r : List Value} : xm_ent (.long x :: r) = some (.long x) :: none :: xm_ent r := rfl
theorem ok_nar {t : FieldType} {x : Int32} (h : xm_ok t x = true) : narrow t (.int x) = .int x := by
  cases t with
  | int => exact vp_nar_int x
  | _ => exact of_decide_eq_true (Bool.and_eq_true_iff.mp h).1
theorem ok_fit {t : FieldType} {x : Int32} (h : xm_ok t x = true) : fits t (.int x) = true := by
  cases t with
  | int => rfl
  | _ => exact (Bool.and_eq_true_iff.mp h).2
theorem ok_0 : xm_ok .boolean 0 = true := by decide
theorem ok_1 : xm_ok .boolean 1 = true := by decide
theorem ok_if {c : Prop} [Decidable c] {x y : Int32} (hx : xm_ok .boolean x = true) (hy : xm_ok .boolean y = true) : xm_ok .boolean (if c then x else y) = true := by
  split <;> assumption
