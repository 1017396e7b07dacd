/-! SOUNDNESS, fourth part: arrays, and what is made -/
set_option maxRecDepth 100000
theorem in_not {i : Int32} {n : Nat} (h : xm_in i n = true) : ¬ (i < 0 ∨ n ≤ i.toNatClampNeg) := of_decide_eq_true h
theorem in_lt {i : Int32} {n : Nat} (h : xm_in i n = true) : i.toNatClampNeg < n := by
  have := in_not h
  omega
section SA
variable {D : va_G} {B : Nat} {cs : Nat → Value} {p : Program} {l : Launch} {e : Env} {R : Room} {s : State} {m : MethodId} {args : Array Value} {below : List Frame} {meth : Method} {c : Code} {H : Heap} {locs : List Loc} {cells slots : Nat} {Q : State → Prop}
variable {mi pc len : Nat} {lsA : List (Option Value)} {ls : Array Slot} {st : List Value} {h : xm_H}
theorem xs_arr_of {a : Nat} (A : xs_At D B cs s h H locs) (hk : 100 ≤ xm_K h a) : ∃ (cell : Cell) (ty : FieldType), H[a]? = some cell ∧ xs_cell D s h a cell ∧ xs_ety (xm_K h a) = some ty ∧ s.isArrayOf cell ty ∧ xs_comp s cell ty ∧ cell.slots.size = xm_N h a ∧ ∀ j, j < xm_N h a → cell.slots[j]? = some (xs_av (xm_K h a) h a j) := by
  obtain ⟨cell, hcell, hc⟩ := A.2.2.1.2.2 a (by omega)
  obtain ⟨ty, h1, h2, h3, h4, h5⟩ := hc.2.2.2.2 hk
  exact ⟨cell, ty, hcell, hc, h1, h2, h3, h4, h5⟩
theorem xs_iald {a : Nat} {i : Int32} {r : List Value} (C : xs_Ctx D B cs p s m args meth c mi) (A : xs_At D B cs s h H locs) (hd : decode (xm_mC mi) pc = .ok (.iaload, 1)) (hk : xm_K h a = 100) (hi : xm_in i (xm_N h a) = true)
    (kk : W p l e R s m args below meth c H locs cells slots Q (F0 m (pc + 1) ls (.int (xm_I h a i.toNatClampNeg) :: r))) : W p l e R s m args below meth c H locs cells slots Q (F0 m pc ls (.int i :: .ref a :: r)) := by
  obtain ⟨cell, ty, hcell, hc, h1, h2, h3, h4, h5⟩ := xs_arr_of A (a := a) (by omega)
  rw [hk] at h1 h5
  cases h1
  exact W.iald C.1 C.2.1 hcell h2 hc.1 (by rw [h4]; exact in_not hi) (h5 _ (in_lt hi)) rfl rfl hd kk
theorem xs_bald {a : Nat} {i : Int32} {r : List Value} (C : xs_Ctx D B cs p s m args meth c mi) (A : xs_At D B cs s h H locs) (hd : decode (xm_mC mi) pc = .ok (.baload, 1)) (hk : xm_K h a = 101 ∨ xm_K h a = 102) (hi : xm_in i (xm_N h a) = true)
    (kk : W p l e R s m args below meth c H locs cells slots Q (F0 m (pc + 1) ls (.int (xm_I h a i.toNatClampNeg) :: r))) : W p l e R s m args below meth c H locs cells slots Q (F0 m pc ls (.int i :: .ref a :: r)) := by
  obtain ⟨cell, ty, hcell, hc, h1, h2, h3, h4, h5⟩ := xs_arr_of A (a := a) (by omega)
  rcases hk with hk | hk
  · rw [hk] at h1 h5
    cases h1
    exact W.bald C.1 C.2.1 hcell h2 hc.1 (by rw [h4]; exact in_not hi) (h5 _ (in_lt hi)) rfl rfl hd kk
  · rw [hk] at h1 h5
    cases h1
    exact W.zald C.1 C.2.1 hcell h2 hc.1 (by rw [h4]; exact in_not hi) (h5 _ (in_lt hi)) rfl rfl hd kk
theorem xs_ety_ref {kd : Nat} {ty : FieldType} (h : xs_ety kd = some ty) (hk : 110 ≤ kd) : ty.isReference = true := by
  unfold xs_ety at h
  split at h
  all_goals first | omega | (cases h; done) | (cases h; rfl)
theorem xs_aald {a : Nat} {i : Int32} {r : List Value} (C : xs_Ctx D B cs p s m args meth c mi) (A : xs_At D B cs s h H locs) (hd : decode (xm_mC mi) pc = .ok (.aaload, 1)) (hk : 110 ≤ xm_K h a) (hi : xm_in i (xm_N h a) = true)
    (kk : W p l e R s m args below meth c H locs cells slots Q (F0 m (pc + 1) ls (va_rf (xm_R h a i.toNatClampNeg) :: r))) : W p l e R s m args below meth c H locs cells slots Q (F0 m pc ls (.int i :: .ref a :: r)) := by
  obtain ⟨cell, ty, hcell, hc, h1, h2, h3, h4, h5⟩ := xs_arr_of A (a := a) (by omega)
  refine W.aald C.1 C.2.1 hcell h2 (xs_ety_ref h1 hk) hc.1 (by rw [h4]; exact in_not hi) (v := va_rf (xm_R h a i.toNatClampNeg)) ?_ rfl rfl hd kk
  rw [h5 _ (in_lt hi)]
  unfold xs_av
  rw [if_pos hk]
theorem xs_alen {a : Nat} {r : List Value} (C : xs_Ctx D B cs p s m args meth c mi) (A : xs_At D B cs s h H locs) (hd : decode (xm_mC mi) pc = .ok (.arraylength, 1)) (hk : 100 ≤ xm_K h a)
    (kk : W p l e R s m args below meth c H locs cells slots Q (F0 m (pc + 1) ls (.int (Int32.ofNat (xm_N h a)) :: r))) : W p l e R s m args below meth c H locs cells slots Q (F0 m pc ls (.ref a :: r)) := by
  obtain ⟨cell, ty, hcell, hc, h1, h2, h3, h4, h5⟩ := xs_arr_of A hk
  exact W.alen C.1 C.2.1 hcell h2 (by rw [h4]) rfl rfl hd kk
/-- one component set -/
theorem xs_aset {a j : Nat} {v : Value} {h' : xm_H} {H' : Heap} {cell : Cell} (A : xs_At D B cs s h H locs) (hcell : H[a]? = some cell) (hc : xs_cell D s h a cell) (hk : 100 ≤ xm_K h a) (hBa : xm_B h ≤ a) (hj : j < xm_N h a)
    (hB : xm_B h' = xm_B h) (hC : xm_C h' = xm_C h) (hZ : xm_Z h' = xm_Z h) (hK : xm_K h' = xm_K h) (hN : xm_N h' = xm_N h) (hq : ∀ b, ¬ b = a → xs_eq h h' b) (hv : ∀ i, xs_av (xm_K h a) h' a i = if i = j then v else xs_av (xm_K h a) h a i)
    (e1 : H'[a]? = some (cell.setSlot j v)) (e2 : H'.size = H.size) (e3 : ∀ q, q ≠ a → H'[q]? = H[q]?) : xs_At D B cs s h' H' (locs ++ [⟨a, j⟩]) := by
  refine ⟨hB.trans A.1, hC.trans A.2.1, A.2.2.1.set hB hZ hK hq e1 e2 e3 ?_, A.2.2.2.put e2 e3 (by rw [← A.1]; exact hBa)⟩
  obtain ⟨ty, h1, h2, h3, h4, h5⟩ := hc.2.2.2.2 hk
  refine ⟨hc.1, hc.2.1, fun _ => hc.2.2.1 hBa, fun q => ?_, fun q => ?_⟩
  · rw [hK] at q
    omega
  · rw [hK]
    refine ⟨ty, h1, h2, h3, by rw [hN, ← h4]; simp [Cell.setSlot], fun i hi => ?_⟩
    rw [hN] at hi
    rw [hv]
    by_cases q : i = j
    · subst q
      rw [if_pos rfl]
      exact Cell.slots_setSlot_self _ (by rw [h4]; exact hi)
    · rw [if_neg q, slot_ne _ _ (Ne.symm q)]
      exact h5 i hi
theorem xs_aset_I {a j : Nat} {x : Int32} {H' : Heap} {cell : Cell} (A : xs_At D B cs s h H locs) (hcell : H[a]? = some cell) (hc : xs_cell D s h a cell) (hk : 100 ≤ xm_K h a) (hk2 : xm_K h a < 110) (hBa : xm_B h ≤ a) (hj : j < xm_N h a)
    (e1 : H'[a]? = some (cell.setSlot j (.int x))) (e2 : H'.size = H.size) (e3 : ∀ q, q ≠ a → H'[q]? = H[q]?) : xs_At D B cs s (xm_sI h a j x) H' (locs ++ [⟨a, j⟩]) := by
  refine xs_aset A hcell hc hk hBa hj rfl rfl rfl rfl rfl (fun b hb => ⟨rfl, rfl, by funext k; rw [h_I_sI, if_neg (fun q => hb q.1)], rfl, rfl⟩) (fun i => ?_) e1 e2 e3
  have n1 : ¬ 110 ≤ xm_K h a := by omega
  unfold xs_av
  rw [if_neg n1, if_neg n1, h_I_sI]
  by_cases q : i = j
  · rw [if_pos ⟨rfl, q⟩, if_pos q]
  · rw [if_neg (fun z => q z.2), if_neg q]
theorem xs_aset_R {a j : Nat} {x : Option Nat} {H' : Heap} {cell : Cell} (A : xs_At D B cs s h H locs) (hcell : H[a]? = some cell) (hc : xs_cell D s h a cell) (hk : 110 ≤ xm_K h a) (hBa : xm_B h ≤ a) (hj : j < xm_N h a)
    (e1 : H'[a]? = some (cell.setSlot j (va_rf x))) (e2 : H'.size = H.size) (e3 : ∀ q, q ≠ a → H'[q]? = H[q]?) : xs_At D B cs s (xm_sR h a j x) H' (locs ++ [⟨a, j⟩]) := by
  refine xs_aset A hcell hc (by omega) hBa hj rfl rfl rfl rfl rfl (fun b hb => ⟨rfl, rfl, rfl, rfl, by funext k; rw [h_R_sR, if_neg (fun q => hb q.1)]⟩) (fun i => ?_) e1 e2 e3
  unfold xs_av
  rw [if_pos hk, if_pos hk, h_R_sR]
  by_cases q : i = j
  · rw [if_pos ⟨rfl, q⟩, if_pos q]
  · rw [if_neg (fun z => q z.2), if_neg q]
theorem xs_iast {a : Nat} {i x : Int32} {r : List Value} (C : xs_Ctx D B cs p s m args meth c mi) (A : xs_At D B cs s h H locs) (hd : decode (xm_mC mi) pc = .ok (.iastore, 1)) (hk : xm_K h a = 100) (hB : xm_B h ≤ a) (hi : xm_in i (xm_N h a) = true)
    (kk : ∀ H' locs', xs_At D B cs s (xm_sI h a i.toNatClampNeg x) H' locs' → W p l e R s m args below meth c H' locs' cells slots Q (F0 m (pc + 1) ls r)) : W p l e R s m args below meth c H locs cells slots Q (F0 m pc ls (.int x :: .int i :: .ref a :: r)) := by
  obtain ⟨cell, ty, hcell, hc, h1, h2, h3, h4, h5⟩ := xs_arr_of A (a := a) (by omega)
  rw [hk] at h1
  cases h1
  exact W.iast C.1 C.2.1 hcell h2 hc.1 (by rw [h4]; exact in_not hi) rfl rfl hd fun H' e1 e2 e3 => kk _ _ (xs_aset_I A hcell hc (by omega) (by omega) hB (in_lt hi) e1 e2 e3)
theorem xs_bast {a : Nat} {i x : Int32} {r : List Value} (C : xs_Ctx D B cs p s m args meth c mi) (A : xs_At D B cs s h H locs) (hd : decode (xm_mC mi) pc = .ok (.bastore, 1)) (hk : xm_K h a = 101) (hB : xm_B h ≤ a) (hi : xm_in i (xm_N h a) = true)
    (kk : ∀ H' locs', xs_At D B cs s (xm_sI h a i.toNatClampNeg x.toInt8.toInt32) H' locs' → W p l e R s m args below meth c H' locs' cells slots Q (F0 m (pc + 1) ls r)) : W p l e R s m args below meth c H locs cells slots Q (F0 m pc ls (.int x :: .int i :: .ref a :: r)) := by
  obtain ⟨cell, ty, hcell, hc, h1, h2, h3, h4, h5⟩ := xs_arr_of A (a := a) (by omega)
  rw [hk] at h1
  cases h1
  exact W.bast C.1 C.2.1 hcell h2 hc.1 (by rw [h4]; exact in_not hi) rfl rfl hd fun H' e1 e2 e3 => kk _ _ (xs_aset_I A hcell hc (by omega) (by omega) hB (in_lt hi) e1 e2 e3)
theorem xs_zast {a : Nat} {i x : Int32} {r : List Value} (C : xs_Ctx D B cs p s m args meth c mi) (A : xs_At D B cs s h H locs) (hd : decode (xm_mC mi) pc = .ok (.bastore, 1)) (hk : xm_K h a = 102) (hB : xm_B h ≤ a) (hi : xm_in i (xm_N h a) = true) (hx : xm_ok .boolean x = true)
    (kk : ∀ H' locs', xs_At D B cs s (xm_sI h a i.toNatClampNeg x) H' locs' → W p l e R s m args below meth c H' locs' cells slots Q (F0 m (pc + 1) ls r)) : W p l e R s m args below meth c H locs cells slots Q (F0 m pc ls (.int x :: .int i :: .ref a :: r)) := by
  obtain ⟨cell, ty, hcell, hc, h1, h2, h3, h4, h5⟩ := xs_arr_of A (a := a) (by omega)
  rw [hk] at h1
  cases h1
  exact W.zast C.1 C.2.1 hcell h2 hc.1 (by rw [h4]; exact in_not hi) rfl rfl hd fun H' e1 e2 e3 => kk _ _ (xs_aset_I A hcell hc (by omega) (by omega) hB (in_lt hi) (by rw [ok_nar hx] at e1; exact e1) e2 e3)
theorem xs_asg (vm : Vm) (c : ClassId) : vm.assignable c c = true := Bool.or_eq_true_iff.mpr (Or.inl (beq_self_eq_true c))
/-- the class of an element and the array's component -/
theorem xs_assign {ty : FieldType} {cv : Cell} {a v : Nat} (hK : xs_K D B cs s) (hel : xm_el (xm_K h a) (xm_K h v) = true) (hty : xs_ety (xm_K h a) = some ty) (hcv : xs_cell D s h v cv) {comp : ClassId} (hcomp : s.vm.findClass (xs_enm ty) = some comp) : s.vm.assignable cv.cls comp = true ∧ ∃ kv, s.vm.classes[cv.cls]? = some kv ∧ ∃ kc, s.vm.classes[comp]? = some kc := by
  have obj : ∀ sc C, xm_K h v = sc + 1 → sc < 99 → xm_oN sc = C → s.vm.findClass C = some comp → s.vm.assignable cv.cls comp = true ∧ ∃ kv, s.vm.classes[cv.cls]? = some kv ∧ ∃ kc, s.vm.classes[comp]? = some kc := by
    intro sc C e1 hl e2 hf
    obtain ⟨hcc, hcls, -⟩ := hcv.2.2.2.1 (by omega)
    have es : xm_K h v - 1 = sc := by omega
    rw [es] at hcls hcc
    obtain ⟨-, hca⟩ := hK.1 sc hcc
    have e9 : D.1 sc = comp := by
      have := hca.1
      rw [e2] at this
      exact Option.some.inj (this.symm.trans hf)
    rw [hcls, e9]
    rw [e9] at hca
    obtain ⟨h1, kC, h2, h3⟩ := hca
    exact ⟨xs_asg _ _, kC, h2, kC, h2⟩
  have sub : ∀ sc C T, xm_K h v = sc + 1 → sc < 99 → xm_oN sc = C → Cond.castable C T ∈ xs_cst → s.vm.findClass T = some comp → s.vm.assignable cv.cls comp = true ∧ ∃ kv, s.vm.classes[cv.cls]? = some kv ∧ ∃ kc, s.vm.classes[comp]? = some kc := by
    intro sc C T e1 hl e2 hw hf
    obtain ⟨hcc, hcls, -⟩ := hcv.2.2.2.1 (by omega)
    have es : xm_K h v - 1 = sc := by omega
    rw [es] at hcls hcc
    obtain ⟨-, hf1, kC, h2, -⟩ := hK.1 sc hcc
    obtain ⟨c3, c4, hc3, hc4, hasg⟩ := Cond.castable_spec (va_Nw.use (A := #[]) rfl (hK.2.2.1 _ hw))
    rw [e2] at hf1
    cases Option.some.inj (hc3.symm.trans hf1)
    cases Option.some.inj (hc4.symm.trans hf)
    obtain ⟨kc, h9, -⟩ := Vm.findClass_spec hc4
    exact ⟨by rw [hcls]; exact hasg, kC, by rw [hcls]; exact h2, kc, h9⟩
  unfold xm_el at hel
  unfold xs_ety at hty
  split at hel
  all_goals try simp only [Bool.or_eq_true, beq_iff_eq] at hel
  · rename_i e; rw [e] at hty; cases hty; exact obj 5 _ hel (by decide) rfl hcomp
  · rename_i e; rw [e] at hty; cases hty; exact obj 27 _ hel (by decide) rfl hcomp
  · rename_i e; rw [e] at hty; cases hty
    rcases hel with (((hel | hel) | hel) | hel) | hel
    · exact sub 11 _ _ hel (by decide) rfl (List.mem_of_getElem? (i := 0) rfl) hcomp
    · exact sub 13 _ _ hel (by decide) rfl (List.mem_of_getElem? (i := 1) rfl) hcomp
    · exact sub 14 _ _ hel (by decide) rfl (List.mem_of_getElem? (i := 2) rfl) hcomp
    · exact sub 15 _ _ hel (by decide) rfl (List.mem_of_getElem? (i := 3) rfl) hcomp
    · exact sub 16 _ _ hel (by decide) rfl (List.mem_of_getElem? (i := 4) rfl) hcomp
  · rename_i e; rw [e] at hty; cases hty; exact obj 3 _ hel (by decide) rfl hcomp
  · rename_i e; rw [e] at hty; cases hty; exact obj 17 _ hel (by decide) rfl hcomp
  · rename_i e; rw [e] at hty; cases hty
    rcases hel with hel | hel
    · exact sub 19 _ _ hel (by decide) rfl (List.mem_of_getElem? (i := 5) rfl) hcomp
    · exact sub 20 _ _ hel (by decide) rfl (List.mem_of_getElem? (i := 6) rfl) hcomp
  · rename_i e; rw [e] at hty; cases hty; exact obj 21 _ hel (by decide) rfl hcomp
  · rename_i e; rw [e] at hty; cases hty
    obtain ⟨ty2, h1, h2, h3, -⟩ := hcv.2.2.2.2 (by omega)
    rw [hel] at h1
    cases h1
    obtain ⟨k1, comp1, h4, h5, h6, h7⟩ := h3 rfl
    have e9 : cv.cls = comp := Option.some.inj (h7.symm.trans hcomp)
    rw [← e9]
    exact ⟨xs_asg _ _, k1, h4, k1, h4⟩
  · cases hel
theorem xs_aast {a v : Nat} {i : Int32} {r : List Value} (C : xs_Ctx D B cs p s m args meth c mi) (A : xs_At D B cs s h H locs) (hd : decode (xm_mC mi) pc = .ok (.aastore, 1)) (hel : xm_el (xm_K h a) (xm_K h v) = true) (hB : xm_B h ≤ a) (hi : xm_in i (xm_N h a) = true)
    (kk : ∀ H' locs', xs_At D B cs s (xm_sR h a i.toNatClampNeg (some v)) H' locs' → W p l e R s m args below meth c H' locs' cells slots Q (F0 m (pc + 1) ls r)) : W p l e R s m args below meth c H locs cells slots Q (F0 m pc ls (.ref v :: .int i :: .ref a :: r)) := by
  have hk : 110 ≤ xm_K h a ∧ ¬ xm_K h v = 0 := by
    unfold xm_el at hel
    split at hel <;> (try simp only [Bool.or_eq_true, beq_iff_eq] at hel) <;> first | omega | cases hel
  obtain ⟨cell, ty, hcell, hc, h1, h2, h3, h4, h5⟩ := xs_arr_of A (a := a) (by omega)
  obtain ⟨cv, hcv, hcc⟩ := A.2.2.1.2.2 v hk.2
  have href := xs_ety_ref h1 hk.1
  obtain ⟨k, comp, g1, g2, g3, -⟩ := h3 href
  obtain ⟨hasg, kv, g4, kc, g5⟩ := xs_assign C.2.2.2.2.2.2.1 hel h1 hcc g3
  have nst : ∀ {cl : Cell}, cl.vm.isStatics = false → ∀ q, cl.vm ≠ .statics q := fun hz q e => by rw [e] at hz; cases hz
  exact W.aast C.1 C.2.1 hcell (nst hc.2.1) hc.1 g1 g2 href g5 ⟨fun q => in_not hi (Or.inl q), by rw [h4]; exact in_lt hi⟩ hcv (nst hcc.2.1) g4 hasg rfl rfl hd fun H' e1 e2 e3 => kk _ _ (xs_aset_R A hcell hc hk.1 hB (in_lt hi) e1 e2 e3)
/-- what a fresh object's fields hold -/
theorem xs_fv0 {c0 k w n : Nat} {v : Value} (hv : xm_fv c0 k (xm_nw h (c0 + 1) n w) (xm_Z h) = some v) : v = defaultValue (xm_ty c0 k) := by
  unfold xm_fv at hv
  simp only [h_I_nw, h_L_nw, h_R_nw, if_true] at hv
  cases hty : xm_ty c0 k <;> rw [hty] at hv <;> first | (cases hv; rfl) | cases hv
theorem xs_new {idx c0 : Nat} (C : xs_Ctx D B cs p s m args meth c mi) (A : xs_At D B cs s h H locs) (hd : decode (xm_mC mi) pc = .ok (.new idx, 3)) (hl : xm_lkC (xm_mO mi) idx = some c0) (hcells : cells + 1 ≤ R.cells) (hslots : slots + xm_ns c0 ≤ R.slots)
    (kk : ∀ H', xs_At D B cs s (xm_nw h (c0 + 1) 0 (xm_ns c0)) H' locs → W p l e R s m args below meth c H' locs (cells + 1) (slots + xm_ns c0) Q (F0 m (pc + 3) ls (.ref (xm_Z h) :: st))) : W p l e R s m args below meth c H locs cells slots Q (F0 m pc ls st) := by
  obtain ⟨hx, hb, -, hown, hts, -, hK, -⟩ := C
  obtain ⟨hcc, hcl⟩ := xs_C hl
  have hKn := hK.1 c0 hcc
  refine W.newcK hx hb hown (hts _ hcl) (hts _ (xs_inst c0 hcc)) (hts _ (xs_init c0 hcc)) rfl hd hcells hslots hKn.2.1 A.2.2.1.1 fun H1 kC hkC e1 z1 o1 => ?_
  refine kk H1 ⟨A.1, A.2.1, A.2.2.1.new e1 z1 o1 ?_, ?_⟩
  · obtain ⟨cell, q1, q2, q3, q4⟩ := u_born (xm_ty c0) hts (xs_in c0 hcc) hKn hkC e1 (xs_tyok c0 hcc)
    have e9 : cell = blank (D.1 c0) kC := Option.some.inj (q1.symm.trans e1)
    rw [← e9]
    have hsc : c0 < 99 := by
      have h9 : c0 ∈ ([0, 1, 2, 3, 4, 5, 7, 8, 9, 11, 12, 13, 14, 15, 16, 17, 19, 20, 21, 26, 27] : List Nat) := List.contains_iff_mem.mp hcc
      simp only [List.mem_cons, List.not_mem_nil, or_false] at h9
      omega
    refine ⟨by rw [q3]; exact fun z => (by cases z), by rw [q3]; rfl, fun _ => q3, fun _ => ?_, fun q => ?_⟩
    · rw [h_K_nw, if_pos rfl, Nat.add_sub_cancel]
      refine ⟨hcc, q2, fun k v hk hv => ?_⟩
      rw [xs_fv0 hv]
      exact q4 k hk
    · rw [h_K_nw, if_pos rfl] at q
      omega
  · exact ⟨Nat.le_trans A.2.2.2.1 (by rw [z1, A.2.2.1.1]; exact Nat.le_succ _), fun q h1 h2 => (o1 q (by rw [← A.2.2.1.1]; exact Nat.lt_of_lt_of_le h1 A.2.2.2.1)).trans (A.2.2.2.2.1 q h1 h2), A.2.2.2.2.2⟩
/-- an array made -/
theorem xs_mkarr {kd n : Nat} {ty : FieldType} {H1 : Heap} {cell : Cell} (A : xs_At D B cs s h H locs) (hty : xs_ety kd = some ty) (hkd : 100 ≤ kd) (hvm : cell.vm = .none) (harr : s.isArrayOf cell ty) (hcp : xs_comp s cell ty) (hsz : cell.slots.size = n) (hv : ∀ j, j < n → cell.slots[j]? = some (if 110 ≤ kd then .null else .int 0))
    (e1 : H1[xm_Z h]? = some cell) (z1 : H1.size = xm_Z h + 1) (o1 : ∀ q, q < xm_Z h → H1[q]? = H[q]?) : xs_At D B cs s (xm_nw h kd n n) H1 locs := by
  refine ⟨A.1, A.2.1, A.2.2.1.new e1 z1 o1 ⟨by rw [hvm]; exact fun z => (by cases z), by rw [hvm]; rfl, fun _ => hvm, fun q => ?_, fun q => ?_⟩, ?_⟩
  · rw [h_K_nw, if_pos rfl] at q
    omega
  · rw [h_K_nw, if_pos rfl, h_N_nw, if_pos rfl]
    refine ⟨ty, hty, harr, hcp, hsz, fun j hj => ?_⟩
    rw [hv j hj]
    unfold xs_av
    rw [h_R_nw, if_pos rfl, h_I_nw, if_pos rfl]
    rfl
  · exact ⟨Nat.le_trans A.2.2.2.1 (by rw [z1, A.2.2.1.1]; exact Nat.le_succ _), fun q h1 h2 => (o1 q (by rw [← A.2.2.1.1]; exact Nat.lt_of_lt_of_le h1 A.2.2.2.1)).trans (A.2.2.2.2.1 q h1 h2), A.2.2.2.2.2⟩
theorem xs_newarr {t : ArrayType} {kd : Nat} {n : Int32} {r : List Value} (C : xs_Ctx D B cs p s m args meth c mi) (A : xs_At D B cs s h H locs) (hd : decode (xm_mC mi) pc = .ok (.newarray t, 2)) (ht : xm_at t = some kd) (hn : ¬ n < 0 ∧ n.toNatClampNeg ≤ 100000) (hcells : cells + 1 ≤ R.cells) (hslots : slots + n.toNatClampNeg ≤ R.slots)
    (kk : ∀ H', xs_At D B cs s (xm_nw h kd n.toNatClampNeg n.toNatClampNeg) H' locs → W p l e R s m args below meth c H' locs (cells + 1) (slots + n.toNatClampNeg) Q (F0 m (pc + 2) ls (.ref (xm_Z h) :: r))) : W p l e R s m args below meth c H locs cells slots Q (F0 m pc ls (.int n :: r)) := by
  obtain ⟨hx, hb, -, hown, hts, -, hK, -⟩ := C
  have key : ∀ (ty : FieldType), newarray.typeOf t = ty → xs_ety kd = some ty → Cond.arrayClass ty ∈ lw_all → componentBytes ty ≤ 4 → 100 ≤ kd → kd < 110 → defaultValue ty = .int 0 → ty.isReference = false → W p l e R s m args below meth c H locs cells slots Q (F0 m pc ls (.int n :: r)) := by
    intro ty e1 e2 hw hcb hk1 hk2 hdv href
    subst e1
    refine W.newaK hx hb (hts _ hw) rfl hd rfl hn.1 rfl (by have := Nat.mul_le_mul hn.2 hcb; omega) hcells hslots A.2.2.1.1 fun H1 cA f1 z1 o1 hA => ?_
    refine kk H1 (xs_mkarr A e2 hk1 rfl (hA _ _) (fun q => by rw [href] at q; cases q) (arrV_size _ _ _) (fun j hj => ?_) f1 z1 o1)
    rw [arrV_read _ _ hj, if_neg (by omega), hdv]
  cases t <;> simp only [xm_at, Option.some.injEq, reduceCtorEq] at ht
  · subst ht; exact key .boolean rfl rfl q1821 (by decide) (by decide) (by decide) rfl rfl
  · subst ht; exact key .byte rfl rfl q209 (by decide) (by decide) (by decide) rfl rfl
  · subst ht; exact key .int rfl rfl q208 (by decide) (by decide) (by decide) rfl rfl
theorem xs_anew {idx kd : Nat} {n : Int32} {r : List Value} (C : xs_Ctx D B cs p s m args meth c mi) (A : xs_At D B cs s h H locs) (hd : decode (xm_mC mi) pc = .ok (.anewarray idx, 3)) (hl : xm_lkA (xm_mO mi) idx = some kd) (hn : ¬ n < 0 ∧ n.toNatClampNeg ≤ 100000) (hcells : cells + 1 ≤ R.cells) (hslots : slots + n.toNatClampNeg ≤ R.slots)
    (kk : ∀ H', xs_At D B cs s (xm_nw h kd n.toNatClampNeg n.toNatClampNeg) H' locs → W p l e R s m args below meth c H' locs (cells + 1) (slots + n.toNatClampNeg) Q (F0 m (pc + 3) ls (.ref (xm_Z h) :: r))) : W p l e R s m args below meth c H locs cells slots Q (F0 m pc ls (.int n :: r)) := by
  obtain ⟨hx, hb, -, hown, hts, -, hK, -⟩ := C
  obtain ⟨T, e1, hT, hk1, hcl⟩ := xs_A1 hl
  refine W.anew hx hb hown (hts _ hcl) (va_AO.use (hK.2.2.2.1 T hT)) rfl hd rfl hn.1 (by have := hn.2; omega) hcells hslots fun cA kA comp f1 f2 f3 f4 => ?_
  have z := A.2.2.1.1
  rw [z]
  refine kk _ (xs_mkarr (cell := { cls := cA, slots := Array.replicate n.toNatClampNeg .null, vm := .none }) A e1 (by omega) rfl ⟨fun k h => (by cases h), kA, f2, comp, f3⟩ (fun _ => ⟨kA, comp, f2, f3, f4, f1⟩) (by simp) (fun j hj => ?_) (by rw [← z]; simp) (by rw [← z]; simp) (fun q hq => by rw [← z] at hq; rw [Array.getElem?_push, if_neg (Nat.ne_of_lt hq)]))
  rw [if_pos hk1]
  simp [hj]
theorem xs_isStr {a : Nat} (A : xs_At D B cs s h H locs) (hK : xs_K D B cs s) (hk : xm_K h a = 28) : ∃ cell : Cell, H[a]? = some cell ∧ cell.vm.isStatics = false ∧ s.vm.findClass "java/lang/String" = some cell.cls := by
  obtain ⟨cell, hcell, hc⟩ := A.2.2.1.2.2 a (by omega)
  obtain ⟨hcc, hcls, -⟩ := hc.2.2.2.1 (by omega)
  rw [hk] at hcls hcc
  exact ⟨cell, hcell, hc.2.1, by rw [hcls]; exact (hK.1 27 hcc).2.1⟩
theorem xs_instOf {a idx : Nat} {r : List Value} (C : xs_Ctx D B cs p s m args meth c mi) (A : xs_At D B cs s h H locs) (hd : decode (xm_mC mi) pc = .ok (.instanceof idx, 3)) (hl : xm_lkI (xm_mO mi) idx = some (xm_K h a))
    (kk : W p l e R s m args below meth c H locs cells slots Q (F0 m (pc + 3) ls (.int 1 :: r))) : W p l e R s m args below meth c H locs cells slots Q (F0 m pc ls (.ref a :: r)) := by
  obtain ⟨hx, hb, -, hown, hts, -, hK, -⟩ := C
  obtain ⟨hk, hw⟩ := xs_I1 hl
  exact va_instS hx hb hown (hts _ hw) (hK.1 27 (by decide)).2 (xs_isStr A hK hk) hd kk
theorem xs_castOf {a idx : Nat} {r : List Value} (C : xs_Ctx D B cs p s m args meth c mi) (A : xs_At D B cs s h H locs) (hd : decode (xm_mC mi) pc = .ok (.checkcast idx, 3)) (hl : xm_lkI (xm_mO mi) idx = some (xm_K h a))
    (kk : W p l e R s m args below meth c H locs cells slots Q (F0 m (pc + 3) ls (.ref a :: r))) : W p l e R s m args below meth c H locs cells slots Q (F0 m pc ls (.ref a :: r)) := by
  obtain ⟨hx, hb, -, hown, hts, -, hK, -⟩ := C
  obtain ⟨hk, hw⟩ := xs_I1 hl
  exact va_castS hx hb hown (hts _ hw) (hK.1 27 (by decide)).2 (xs_isStr A hK hk) hd kk
end SA
