/-! fields laid one by one -/
set_option maxRecDepth 100000
/-- a field is laid: an int, or a row of kind k of length n -/
def ast (a : Nat) (e : Nat × Nat × Nat × Int32) (h : xm_H) : xm_H := if e.2.1 = 0 then xm_sI h a e.1 e.2.2.2 else xm_sR (xm_nw h e.2.1 e.2.2.1 e.2.2.1) a e.1 (some (xm_Z h))
def asl (a : Nat) : List (Nat × Nat × Nat × Int32) → xm_H → xm_H
  | [], h => h
  | e :: l, h => asl a l (ast a e h)
/-- rows and where they lie, from i on -/
def adl : List (Nat × Nat × Nat × Int32) → Nat → List (Nat × Nat × Nat × Nat)
  | [], _ => []
  | e :: l, i => if e.2.1 = 0 then adl l i else (e.1, i, e.2.1, e.2.2.1) :: adl l (i + 1)
def acn : List (Nat × Nat × Nat × Int32) → Nat
  | [] => 0
  | e :: l => if e.2.1 = 0 then acn l else acn l + 1
def asz : List (Nat × Nat × Nat × Int32) → Nat
  | [] => 0
  | e :: l => if e.2.1 = 0 then asz l else asz l + e.2.2.1
/-- the int of a field -/
def avl : List (Nat × Nat × Nat × Int32) → Nat → Int32 → Int32
  | [], _, x => x
  | e :: l, f, x => avl l f (if e.2.1 = 0 ∧ f = e.1 then e.2.2.2 else x)
/-- no row is laid twice -/
def afd : List (Nat × Nat × Nat × Int32) → Bool
  | [] => true
  | e :: l => (decide (e.2.1 = 0) || l.all fun y => decide (y.2.1 = 0) || decide (¬ y.1 = e.1)) && afd l
section ASL
variable {d : Nat} {a : Nat}
/-- an object that is being laid -/
def ob (kd : Nat) (a : Nat) (h : xm_H) : Prop := xm_K h a = kd ∧ xm_B h ≤ a ∧ a < xm_Z h ∧ ∀ x, xm_Z h ≤ x → xm_K h x = 0
theorem ast_K {e : Nat × Nat × Nat × Int32} {h : xm_H} {x : Nat} (hx : x < xm_Z h) : xm_K (ast a e h) x = xm_K h x ∧ xm_N (ast a e h) x = xm_N h x ∧ (∀ p, xm_L (ast a e h) x p = xm_L h x p) ∧ (∀ p, ¬ (x = a ∧ e.2.1 = 0 ∧ p = e.1) → xm_I (ast a e h) x p = xm_I h x p) ∧ ∀ p, ¬ (x = a ∧ ¬ e.2.1 = 0 ∧ p = e.1) → xm_R (ast a e h) x p = xm_R h x p := by
  unfold ast
  by_cases c : e.2.1 = 0
  · rw [if_pos c]
    refine ⟨rfl, rfl, fun p => rfl, fun p hp => ?_, fun p _ => rfl⟩
    rw [h_I_sI, if_neg (fun y => hp ⟨y.1, c, y.2⟩)]
  · rw [if_neg c]
    refine ⟨?_, ?_, fun p => ?_, fun p hp => ?_, fun p hp => ?_⟩
    · rw [h_K_sR, h_K_nw, if_neg (by omega)]
    · rw [h_N_sR, h_N_nw, if_neg (by omega)]
    · rw [h_L_sR, h_L_nw, if_neg (by omega)]
    · rw [h_I_sR, h_I_nw, if_neg (by omega)]
    · rw [h_R_sR, if_neg (fun y => hp ⟨y.1, c, y.2⟩), h_R_nw, if_neg (by omega)]
theorem ast_Z {e : Nat × Nat × Nat × Int32} {h : xm_H} : xm_Z (ast a e h) = xm_Z h + (if e.2.1 = 0 then 0 else 1) ∧ xm_S (ast a e h) = xm_S h + (if e.2.1 = 0 then 0 else e.2.2.1) ∧ xm_B (ast a e h) = xm_B h ∧ xm_C (ast a e h) = xm_C h := by
  unfold ast
  by_cases c : e.2.1 = 0
  · rw [if_pos c, if_pos c, if_pos c]
    exact ⟨rfl, rfl, rfl, rfl⟩
  · rw [if_neg c, if_neg c, if_neg c]
    exact ⟨rfl, rfl, rfl, rfl⟩
theorem ob.one {kd : Nat} {h : xm_H} (o : ob kd a h) {e : Nat × Nat × Nat × Int32} : ob kd a (ast a e h) := by
  obtain ⟨o1, o2, o3, o4⟩ := o
  have z := (ast_Z (a := a) (e := e) (h := h))
  refine ⟨(ast_K o3).1.trans o1, by rw [z.2.2.1]; exact o2, by rw [z.1]; omega, fun x hx => ?_⟩
  rw [z.1] at hx
  unfold ast
  by_cases c : e.2.1 = 0
  · rw [if_pos c] at hx ⊢
    exact o4 x (by omega)
  · rw [if_neg c] at hx ⊢
    rw [h_K_sR, h_K_nw, if_neg (by omega)]
    exact o4 x (by omega)
theorem ob.lst {kd : Nat} : ∀ (l : List (Nat × Nat × Nat × Int32)) {h : xm_H}, ob kd a h → ob kd a (asl a l h)
  | [], _, o => o
  | _ :: l, _, o => ob.lst l o.one
theorem asl_Z : ∀ (l : List (Nat × Nat × Nat × Int32)) {h : xm_H}, xm_Z (asl a l h) = xm_Z h + acn l ∧ xm_S (asl a l h) = xm_S h + asz l ∧ xm_B (asl a l h) = xm_B h ∧ xm_C (asl a l h) = xm_C h
  | [], _ => ⟨rfl, rfl, rfl, rfl⟩
  | e :: l, h => by
    obtain ⟨i1, i2, i3, i4⟩ := asl_Z l (h := ast a e h)
    obtain ⟨z1, z2, z3, z4⟩ := ast_Z (a := a) (e := e) (h := h)
    show xm_Z (asl a l (ast a e h)) = _ ∧ xm_S (asl a l (ast a e h)) = _ ∧ xm_B (asl a l (ast a e h)) = _ ∧ xm_C (asl a l (ast a e h)) = _
    rw [i1, i2, i3, i4, z1, z2, z3, z4]
    show xm_Z h + _ + acn l = xm_Z h + (if e.2.1 = 0 then acn l else acn l + 1) ∧ xm_S h + _ + asz l = xm_S h + (if e.2.1 = 0 then asz l else asz l + e.2.2.1) ∧ _ ∧ _
    by_cases c : e.2.1 = 0
    · rw [if_pos c, if_pos c, if_pos c, if_pos c]
      exact ⟨rfl, rfl, rfl, rfl⟩
    · rw [if_neg c, if_neg c, if_neg c, if_neg c]
      exact ⟨by omega, by omega, rfl, rfl⟩
/-- what stood stands -/
theorem asl_old : ∀ (l : List (Nat × Nat × Nat × Int32)) {h : xm_H} {x : Nat}, x < xm_Z h → xm_K (asl a l h) x = xm_K h x ∧ xm_N (asl a l h) x = xm_N h x ∧ (∀ p, xm_L (asl a l h) x p = xm_L h x p) ∧ (∀ p, xm_I (asl a l h) x p = if x = a then avl l p (xm_I h x p) else xm_I h x p) ∧ ∀ p, ¬ (x = a ∧ ∃ e ∈ l, ¬ e.2.1 = 0 ∧ p = e.1) → xm_R (asl a l h) x p = xm_R h x p
  | [], h, x, hx => ⟨rfl, rfl, fun _ => rfl, fun p => by split <;> rfl, fun _ _ => rfl⟩
  | e :: l, h, x, hx => by
    have hz : x < xm_Z (ast a e h) := by rw [(ast_Z (a := a) (e := e) (h := h)).1]; omega
    obtain ⟨i1, i2, i3, i4, i5⟩ := asl_old l (h := ast a e h) hz
    obtain ⟨k1, k2, k3, k4, k5⟩ := ast_K (a := a) (e := e) (h := h) hx
    refine ⟨i1.trans k1, i2.trans k2, fun p => (i3 p).trans (k3 p), fun p => (i4 p).trans ?_, fun p hp => (i5 p (fun y => hp ⟨y.1, ?_⟩)).trans (k5 p (fun y => hp ⟨y.1, e, List.mem_cons_self, y.2⟩))⟩
    · by_cases cx : x = a
      · rw [if_pos cx, if_pos cx]
        show avl l p (xm_I (ast a e h) x p) = avl l p (if e.2.1 = 0 ∧ p = e.1 then e.2.2.2 else xm_I h x p)
        by_cases c : e.2.1 = 0 ∧ p = e.1
        · rw [if_pos c]
          congr 1
          unfold ast
          rw [if_pos c.1, h_I_sI, if_pos ⟨cx, c.2⟩]
        · rw [if_neg c, k4 p (fun y => c y.2)]
      · rw [if_neg cx, if_neg cx, k4 p (fun y => cx y.1)]
    · obtain ⟨-, y, hy, e1⟩ := y
      exact ⟨y, List.mem_cons_of_mem _ hy, e1⟩
/-- what was laid lies -/
theorem asl_new {b : Nat} : ∀ (l : List (Nat × Nat × Nat × Int32)) {h : xm_H} {i : Nat}, a < xm_Z h → b + i = xm_Z h → afd l = true → ∀ y ∈ adl l i, xm_R (asl a l h) a y.1 = some (b + y.2.1) ∧ xm_K (asl a l h) (b + y.2.1) = y.2.2.1 ∧ xm_N (asl a l h) (b + y.2.1) = y.2.2.2 ∧ (∀ p, xm_I (asl a l h) (b + y.2.1) p = 0) ∧ (∀ p, xm_R (asl a l h) (b + y.2.1) p = none) ∧ xm_Z h ≤ b + y.2.1 ∧ b + y.2.1 < xm_Z (asl a l h)
  | [], h, i, ha, hb, hf, y, hy => nomatch hy
  | e :: l, h, i, ha, hb, hf, y, hy => by
    have z := (ast_Z (a := a) (e := e) (h := h)).1
    have hf : ((decide (e.2.1 = 0) || l.all fun y => decide (y.2.1 = 0) || decide (¬ y.1 = e.1)) && afd l) = true := hf
    rw [Bool.and_eq_true] at hf
    have hy : y ∈ (if e.2.1 = 0 then adl l i else (e.1, i, e.2.1, e.2.2.1) :: adl l (i + 1)) := hy
    show xm_R (asl a l (ast a e h)) a y.1 = _ ∧ xm_K (asl a l (ast a e h)) _ = _ ∧ xm_N (asl a l (ast a e h)) _ = _ ∧ (∀ p, xm_I (asl a l (ast a e h)) _ p = 0) ∧ (∀ p, xm_R (asl a l (ast a e h)) _ p = none) ∧ _ ∧ _ < xm_Z (asl a l (ast a e h))
    by_cases c : e.2.1 = 0
    · rw [if_pos c] at hy z
      obtain ⟨j1, j2, j3, j4, j5, j6, j7⟩ := asl_new (b := b) l (h := ast a e h) (i := i) (by omega) (by omega) hf.2 y hy
      exact ⟨j1, j2, j3, j4, j5, by omega, j7⟩
    · rw [if_neg c] at hy z
      rcases List.mem_cons.mp hy with hy | hy
      · subst hy
        have hz : xm_Z h < xm_Z (ast a e h) := by omega
        obtain ⟨i1, i2, i3, i4, i5⟩ := asl_old (a := a) l (h := ast a e h) hz
        have ea : ast a e h = xm_sR (xm_nw h e.2.1 e.2.2.1 e.2.2.1) a e.1 (some (xm_Z h)) := if_neg c
        have hd : ∀ y ∈ l, y.2.1 = 0 ∨ ¬ y.1 = e.1 := by
          have h1 := hf.1
          rw [Bool.or_eq_true] at h1
          rcases h1 with h1 | h1
          · exact absurd (of_decide_eq_true h1) c
          · intro y hy
            have h2 := List.all_eq_true.mp h1 y hy
            rw [Bool.or_eq_true] at h2
            rcases h2 with h2 | h2
            · exact Or.inl (of_decide_eq_true h2)
            · exact Or.inr (of_decide_eq_true h2)
        have za : ¬ xm_Z h = a := by omega
        have oa := asl_old (a := a) l (h := ast a e h) (x := a) (by omega)
        have bz : b + i = xm_Z h := hb
        show xm_R (asl a l (ast a e h)) a e.1 = some (b + i) ∧ xm_K (asl a l (ast a e h)) (b + i) = e.2.1 ∧ xm_N (asl a l (ast a e h)) (b + i) = e.2.2.1 ∧ (∀ p, xm_I (asl a l (ast a e h)) (b + i) p = 0) ∧ (∀ p, xm_R (asl a l (ast a e h)) (b + i) p = none) ∧ xm_Z h ≤ b + i ∧ b + i < xm_Z (asl a l (ast a e h))
        rw [bz]
        refine ⟨?_, ?_, ?_, fun p => ?_, fun p => ?_, Nat.le_refl _, ?_⟩
        · rw [oa.2.2.2.2 e.1 (fun y => by
            obtain ⟨-, y, hy, y1, y2⟩ := y
            rcases hd y hy with y3 | y3
            · exact y1 y3
            · exact y3 y2.symm), ea, h_R_sR, if_pos ⟨rfl, rfl⟩]
        · rw [i1, ea, h_K_sR, h_K_nw, if_pos rfl]
        · rw [i2, ea, h_N_sR, h_N_nw, if_pos rfl]
        · rw [i4, if_neg za, ea, h_I_sR, h_I_nw, if_pos rfl]
        · rw [i5 p (fun y => za y.1), ea, h_R_sR, if_neg (fun y => za y.1), h_R_nw, if_pos rfl]
        · rw [(asl_Z (a := a) l (h := ast a e h)).1]
          omega
      · obtain ⟨j1, j2, j3, j4, j5, j6, j7⟩ := asl_new (b := b) l (h := ast a e h) (i := i + 1) (by omega) (by omega) hf.2 y hy
        exact ⟨j1, j2, j3, j4, j5, by omega, j7⟩
end ASL
