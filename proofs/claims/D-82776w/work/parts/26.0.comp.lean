/-! the component's shape; its ints put in by a map of places to names (written by gen/mk24.py) -/
set_option maxRecDepth 100000
/-- the component: its address, ints' places, longs' places, addresses by kind and number, counts, of what a lot is mixed -/
abbrev xp_D : Type := Nat × (Nat → Nat → Option (Nat × Nat)) × (Nat → Nat → Option (Nat × Nat)) × (Nat → Nat → Nat) × (Nat → Nat) × (Nat → Option (Nat × Nat))
def xd_X (D : xp_D) : Nat := D.1
def xd_E (D : xp_D) : Nat → Nat → Option (Nat × Nat) := D.2.1
def xd_L (D : xp_D) : Nat → Nat → Option (Nat × Nat) := D.2.2.1
def xd_A (D : xp_D) : Nat → Nat → Nat := D.2.2.2.1
def xd_n (D : xp_D) : Nat → Nat := D.2.2.2.2.1
def xd_m (D : xp_D) : Nat → Option (Nat × Nat) := D.2.2.2.2.2
def va_I (x : Option (Nat × Nat)) (F : xp_F) (v : Int32) : Int32 := match x with
  | some (o, k) => F o k
  | none => v
def va_L (x : Option (Nat × Nat)) (F : xp_F) (v : Int64) : Int64 := match x with
  | some (o, k) => (F o k).toInt64
  | none => v
def va_u (x : Option (Nat × Nat)) (F : xp_F) (v : Int32) : xp_F := match x with
  | some (o, k) => xm_u2 F o k v
  | none => F
def xp_c (h : xm_H) (D : xp_D) (F : xp_F) : xm_H := (h.1, h.2.1, h.2.2.1, (fun a k => va_I (xd_E D a k) F (h.2.2.2.1 a k)), (fun a k => va_L (xd_L D a k) F (h.2.2.2.2.1 a k)), h.2.2.2.2.2)
/-- no two places have one name -/
def xd_inj (D : xp_D) : Prop := (∀ a p b r x, xd_E D a p = some x → xd_E D b r = some x → a = b ∧ p = r) ∧ (∀ a p b r x, xd_L D a p = some x → xd_L D b r = some x → a = b ∧ p = r) ∧ ∀ a p b r x, xd_E D a p = some x → xd_L D b r = some x → False
section XPC
variable {h : xm_H} {D : xp_D} {a p : Nat} {F : xp_F} {v : Int32} {w : Int64}
theorem mc_B : xm_B (xp_c h D F) = xm_B h := Eq.trans (b := xm_B h) rfl rfl
theorem mc_Z : xm_Z (xp_c h D F) = xm_Z h := Eq.trans (b := xm_Z h) rfl rfl
theorem mc_S : xm_S (xp_c h D F) = xm_S h := Eq.trans (b := xm_S h) rfl rfl
theorem mc_C : xm_C (xp_c h D F) = xm_C h := Eq.trans (b := xm_C h) rfl rfl
theorem mc_K : xm_K (xp_c h D F) = xm_K h := Eq.trans (b := xm_K h) rfl rfl
theorem mc_N : xm_N (xp_c h D F) = xm_N h := Eq.trans (b := xm_N h) rfl rfl
theorem mc_R : xm_R (xp_c h D F) = xm_R h := Eq.trans (b := xm_R h) rfl rfl
theorem mc_I : xm_I (xp_c h D F) a p = va_I (xd_E D a p) F (xm_I h a p) := Eq.trans (b := va_I (xd_E D a p) F (xm_I h a p)) rfl rfl
theorem mc_L : xm_L (xp_c h D F) a p = va_L (xd_L D a p) F (xm_L h a p) := Eq.trans (b := va_L (xd_L D a p) F (xm_L h a p)) rfl rfl
theorem va_Is {o k : Nat} : va_I (some (o, k)) F v = F o k := Eq.trans (b := F o k) rfl rfl
theorem va_Ls {o k : Nat} : va_L (some (o, k)) F w = (F o k).toInt64 := Eq.trans (b := (F o k).toInt64) rfl rfl
theorem va_us {o k : Nat} : va_u (some (o, k)) F v = xm_u2 F o k v := Eq.trans (b := xm_u2 F o k v) rfl rfl
theorem va_In : va_I none F v = v := Eq.trans (b := v) rfl rfl
theorem va_Ln : va_L none F w = w := Eq.trans (b := w) rfl rfl
theorem mc_s (q : xd_inj D) (hs : (xd_E D a p).isSome = true) : xm_sI (xp_c h D F) a p v = xp_c h D (va_u (xd_E D a p) F v) := by
  obtain ⟨⟨o, k⟩, he⟩ := Option.isSome_iff_exists.mp hs
  rw [he, va_us]
  have e1 : xm_u2 (fun a k => va_I (xd_E D a k) F (h.2.2.2.1 a k)) a p v = fun b j => va_I (xd_E D b j) (xm_u2 F o k v) (h.2.2.2.1 b j) := by
    funext b j
    unfold xm_u2
    by_cases e : b = a ∧ j = p
    · rw [if_pos e, e.1, e.2, he]
      show v = if o = o ∧ k = k then v else _
      rw [if_pos ⟨rfl, rfl⟩]
    · rw [if_neg e]
      show va_I (xd_E D b j) F _ = va_I (xd_E D b j) (xm_u2 F o k v) _
      cases hb : xd_E D b j with
      | none => rfl
      | some y =>
        obtain ⟨o', k'⟩ := y
        show F o' k' = if o' = o ∧ k' = k then v else F o' k'
        rw [if_neg]
        intro z
        rw [z.1, z.2] at hb
        exact e (q.1 _ _ _ _ _ hb he)
  have e2 : (fun a k => va_L (xd_L D a k) F (h.2.2.2.2.1 a k)) = fun b j => va_L (xd_L D b j) (xm_u2 F o k v) (h.2.2.2.2.1 b j) := by
    funext b j
    cases hb : xd_L D b j with
    | none => rfl
    | some y =>
      obtain ⟨o', k'⟩ := y
      show (F o' k').toInt64 = (if o' = o ∧ k' = k then v else F o' k').toInt64
      rw [if_neg]
      intro z
      rw [z.1, z.2] at hb
      exact q.2.2 _ _ _ _ _ he hb
  exact congr (congrArg (fun x y => ((h.1, h.2.1, h.2.2.1, x, y, h.2.2.2.2.2) : xm_H)) e1) e2
theorem mc_sL (q : xd_inj D) (hs : (xd_L D a p).isSome = true) (hw : w.toInt32.toInt64 = w) : xm_sL (xp_c h D F) a p w = xp_c h D (va_u (xd_L D a p) F w.toInt32) := by
  obtain ⟨⟨o, k⟩, he⟩ := Option.isSome_iff_exists.mp hs
  rw [he, va_us]
  have e1 : xm_u2 (fun a k => va_L (xd_L D a k) F (h.2.2.2.2.1 a k)) a p w = fun b j => va_L (xd_L D b j) (xm_u2 F o k w.toInt32) (h.2.2.2.2.1 b j) := by
    funext b j
    unfold xm_u2
    by_cases e : b = a ∧ j = p
    · rw [if_pos e, e.1, e.2, he]
      show w = (if o = o ∧ k = k then w.toInt32 else _).toInt64
      rw [if_pos ⟨rfl, rfl⟩, hw]
    · rw [if_neg e]
      show va_L (xd_L D b j) F _ = va_L (xd_L D b j) (xm_u2 F o k w.toInt32) _
      cases hb : xd_L D b j with
      | none => rfl
      | some y =>
        obtain ⟨o', k'⟩ := y
        show (F o' k').toInt64 = (if o' = o ∧ k' = k then w.toInt32 else F o' k').toInt64
        rw [if_neg]
        intro z
        rw [z.1, z.2] at hb
        exact e (q.2.1 _ _ _ _ _ hb he)
  have e2 : (fun a k => va_I (xd_E D a k) F (h.2.2.2.1 a k)) = fun b j => va_I (xd_E D b j) (xm_u2 F o k w.toInt32) (h.2.2.2.1 b j) := by
    funext b j
    cases hb : xd_E D b j with
    | none => rfl
    | some y =>
      obtain ⟨o', k'⟩ := y
      show F o' k' = if o' = o ∧ k' = k then w.toInt32 else F o' k'
      rw [if_neg]
      intro z
      rw [z.1, z.2] at hb
      exact q.2.2 _ _ _ _ _ hb he
  exact congr (congrArg (fun x y => ((h.1, h.2.1, h.2.2.1, x, y, h.2.2.2.2.2) : xm_H)) e2) e1
end XPC
def cs_sc : List (Nat × Nat × Nat) := [(4, 0, 6), (5, 0, 0), (6, 0, 1), (7, 0, 2), (8, 0, 3), (10, 0, 36), (11, 0, 43), (12, 0, 45), (22, 0, 46), (26, 80, 26), (27, 80, 27), (28, 80, 28), (29, 80, 29), (31, 0, 61), (32, 0, 62), (34, 0, 70), (35, 0, 69), (37, 0, 68), (42, 0, 83), (43, 0, 92), (44, 0, 93), (45, 0, 94), (50, 0, 95)]
def cs_ar : List (Nat × Nat × Nat × Nat) := [(2, 100, 6, 1), (3, 100, 6, 2), (9, 101, 600, 81), (17, 100, 2, 14), (18, 100, 8, 82), (20, 100, 4, 30), (21, 100, 4, 31), (23, 100, 12, 83), (24, 100, 7, 84), (25, 100, 7, 85), (33, 100, 2, 55), (39, 100, 8, 60), (40, 100, 8, 61), (41, 100, 8, 62), (46, 100, 100, 64), (47, 100, 100, 65), (48, 100, 100, 66), (49, 100, 100, 67)]
def cs_oa : List (Nat × Nat × Nat) := [(0, 110, 12), (1, 110, 12), (14, 111, 21), (16, 112, 2), (19, 114, 2), (30, 115, 16), (36, 116, 40), (38, 117, 4)]
def cs_ob : List (Nat × Nat) := [(13, 2), (15, 3)]
/-- an object whose ints have names -/
def cs_o (h : xm_H) (D : xp_D) (a kd : Nat) (L : List (Nat × Nat)) (i : Nat) : Prop := xm_K h a = kd ∧ xm_B h ≤ a ∧ ∀ e ∈ L, xd_E D a e.1 = some (e.2, i)
def cs_ledge : List (Nat × Nat) := [(0, 3), (1, 4), (2, 9), (3, 5), (4, 6), (5, 8), (6, 10), (7, 11), (9, 12), (10, 13)]
def cs_trial : List (Nat × Nat) := [(0, 90), (1, 91), (2, 92), (3, 93), (4, 94), (5, 95), (6, 96), (7, 97), (9, 99), (10, 100)]
def cs_person : List (Nat × Nat) := [(0, 39), (1, 40), (2, 41), (3, 42), (4, 43)]
def cs_lot : List (Nat × Nat) := [(0, 44), (1, 49), (2, 45), (3, 46), (4, 54)]
def cs_cut : List (Nat × Nat) := [(6, 47), (7, 48)]
def cs_buyer : List (Nat × Nat) := [(0, 56), (1, 57), (2, 58), (3, 59)]
def cs_custom : List (Nat × Nat) := [(1, 15), (2, 16), (3, 101), (4, 102)]
/-- the component's shape: kinds of names in xd_A: 0 by field, 1 ledges, 2 tried ones, 3 persons, 4 lots, 5 parts of cuts, 6 buyers, 7 customs, 8 their shares, 9 rows of lines; counts in xd_n: 0 ledges, 1 persons, 2 lots, 3 buyers -/
def CS (h : xm_H) (D : xp_D) : Prop := xd_inj D ∧ xm_K h (xd_X D) = 1 ∧ xm_B h ≤ xd_X D ∧
  (∀ e ∈ cs_sc, xd_E D (xd_X D) e.1 = some (e.2.1, e.2.2)) ∧
  (∀ e ∈ cs_ar, xm_R h (xd_X D) e.1 = some (xd_A D 0 e.1) ∧ xm_K h (xd_A D 0 e.1) = e.2.1 ∧ xm_N h (xd_A D 0 e.1) = e.2.2.1 ∧ xm_B h ≤ xd_A D 0 e.1 ∧ ∀ k, xd_E D (xd_A D 0 e.1) k = some (e.2.2.2, k)) ∧
  (∀ e ∈ cs_oa, xm_R h (xd_X D) e.1 = some (xd_A D 0 e.1) ∧ xm_K h (xd_A D 0 e.1) = e.2.1 ∧ xm_N h (xd_A D 0 e.1) = e.2.2 ∧ xm_B h ≤ xd_A D 0 e.1) ∧
  (∀ e ∈ cs_ob, xm_R h (xd_X D) e.1 = some (xd_A D 0 e.1) ∧ xm_K h (xd_A D 0 e.1) = e.2 ∧ xm_B h ≤ xd_A D 0 e.1) ∧
  (∀ l, l < xd_n D 0 → xm_R h (xd_A D 0 0) l = some (xd_A D 1 l) ∧ cs_o h D (xd_A D 1 l) 6 cs_ledge l ∧ xd_L D (xd_A D 1 l) 8 = some (7, l)) ∧
  (∀ l, l < xd_n D 0 → xm_R h (xd_A D 0 1) l = some (xd_A D 2 l) ∧ cs_o h D (xd_A D 2 l) 6 cs_trial l ∧ xd_L D (xd_A D 2 l) 8 = some (98, l)) ∧
  (∀ p, p < xd_n D 1 → xm_R h (xd_A D 0 30) p = some (xd_A D 3 p) ∧ cs_o h D (xd_A D 3 p) 18 cs_person p) ∧
  (∀ i, i < xd_n D 2 → xm_R h (xd_A D 0 36) i = some (xd_A D 4 i) ∧ xm_R h (xd_A D 4 i) 5 = some (xd_X D) ∧ match xd_m D i with
    | none => cs_o h D (xd_A D 4 i) 20 (cs_lot ++ cs_cut) i ∧ xm_R h (xd_A D 4 i) 8 = some (xd_A D 5 i) ∧ xm_R h (xd_A D 4 i) 9 = some (xd_X D) ∧ xm_K h (xd_A D 5 i) = 100 ∧ xm_N h (xd_A D 5 i) = 12 ∧ xm_B h ≤ xd_A D 5 i ∧ ∀ l, l < 12 → xd_E D (xd_A D 5 i) l = some (52, 12 * i + l)
    | some (a, b) => cs_o h D (xd_A D 4 i) 21 cs_lot i ∧ a < i ∧ b < i ∧ xm_R h (xd_A D 4 i) 6 = some (xd_A D 4 a) ∧ xm_R h (xd_A D 4 i) 7 = some (xd_A D 4 b) ∧ xm_R h (xd_A D 4 i) 8 = some (xd_X D)) ∧
  (∀ b, b < xd_n D 3 → xm_R h (xd_A D 0 38) b = some (xd_A D 6 b) ∧ cs_o h D (xd_A D 6 b) 22 cs_buyer b) ∧
  (∀ r, r < 2 → xm_R h (xd_A D 0 19) r = some (xd_A D 7 r) ∧ cs_o h D (xd_A D 7 r) 4 cs_custom r ∧ xm_R h (xd_A D 7 r) 0 = some (xd_A D 8 r) ∧ xm_K h (xd_A D 8 r) = 100 ∧ xm_N h (xd_A D 8 r) = 4 ∧ xm_B h ≤ xd_A D 8 r ∧ ∀ k, k < 4 → xd_E D (xd_A D 8 r) k = some (17, 4 * r + k)) ∧
  (∀ r, r < 2 → xm_R h (xd_A D 0 16) r = some (xd_A D 9 r) ∧ xm_K h (xd_A D 9 r) = 113 ∧ xm_N h (xd_A D 9 r) = 20 ∧ xm_B h ≤ xd_A D 9 r) ∧
  (∀ k, k < 6 → xd_E D (xd_A D 0 15) k = some (86, k)) ∧ xm_R h (xd_A D 0 15) 7 = some (xd_X D) ∧
  (∀ k, k < 2 → xd_E D (xd_A D 0 13) (6 + k) = some (87, k)) ∧
  xd_n D 0 ≤ 12 ∧ xd_n D 1 ≤ 16 ∧ xd_n D 2 ≤ 40 ∧ xd_n D 3 ≤ 4
section CSF
variable {h : xm_H} {D : xp_D} {F : xp_F}
theorem cs_inj (q : CS h D) : xd_inj D := q.1
theorem cs_K (q : CS h D) : xm_K h (xd_X D) = 1 := q.2.1
theorem cs_B (q : CS h D) : xm_B h ≤ xd_X D := q.2.2.1
theorem cs_f4 (q : CS h D) : xd_E D (xd_X D) 4 = some (0, 6) := q.2.2.2.1 (4, 0, 6) (by decide +kernel)
theorem cs_f5 (q : CS h D) : xd_E D (xd_X D) 5 = some (0, 0) := q.2.2.2.1 (5, 0, 0) (by decide +kernel)
theorem cs_f6 (q : CS h D) : xd_E D (xd_X D) 6 = some (0, 1) := q.2.2.2.1 (6, 0, 1) (by decide +kernel)
theorem cs_f7 (q : CS h D) : xd_E D (xd_X D) 7 = some (0, 2) := q.2.2.2.1 (7, 0, 2) (by decide +kernel)
theorem cs_f8 (q : CS h D) : xd_E D (xd_X D) 8 = some (0, 3) := q.2.2.2.1 (8, 0, 3) (by decide +kernel)
theorem cs_f10 (q : CS h D) : xd_E D (xd_X D) 10 = some (0, 36) := q.2.2.2.1 (10, 0, 36) (by decide +kernel)
theorem cs_f11 (q : CS h D) : xd_E D (xd_X D) 11 = some (0, 43) := q.2.2.2.1 (11, 0, 43) (by decide +kernel)
theorem cs_f12 (q : CS h D) : xd_E D (xd_X D) 12 = some (0, 45) := q.2.2.2.1 (12, 0, 45) (by decide +kernel)
theorem cs_f22 (q : CS h D) : xd_E D (xd_X D) 22 = some (0, 46) := q.2.2.2.1 (22, 0, 46) (by decide +kernel)
theorem cs_f26 (q : CS h D) : xd_E D (xd_X D) 26 = some (80, 26) := q.2.2.2.1 (26, 80, 26) (by decide +kernel)
theorem cs_f27 (q : CS h D) : xd_E D (xd_X D) 27 = some (80, 27) := q.2.2.2.1 (27, 80, 27) (by decide +kernel)
theorem cs_f28 (q : CS h D) : xd_E D (xd_X D) 28 = some (80, 28) := q.2.2.2.1 (28, 80, 28) (by decide +kernel)
theorem cs_f29 (q : CS h D) : xd_E D (xd_X D) 29 = some (80, 29) := q.2.2.2.1 (29, 80, 29) (by decide +kernel)
theorem cs_f31 (q : CS h D) : xd_E D (xd_X D) 31 = some (0, 61) := q.2.2.2.1 (31, 0, 61) (by decide +kernel)
theorem cs_f32 (q : CS h D) : xd_E D (xd_X D) 32 = some (0, 62) := q.2.2.2.1 (32, 0, 62) (by decide +kernel)
theorem cs_f34 (q : CS h D) : xd_E D (xd_X D) 34 = some (0, 70) := q.2.2.2.1 (34, 0, 70) (by decide +kernel)
theorem cs_f35 (q : CS h D) : xd_E D (xd_X D) 35 = some (0, 69) := q.2.2.2.1 (35, 0, 69) (by decide +kernel)
theorem cs_f37 (q : CS h D) : xd_E D (xd_X D) 37 = some (0, 68) := q.2.2.2.1 (37, 0, 68) (by decide +kernel)
theorem cs_f42 (q : CS h D) : xd_E D (xd_X D) 42 = some (0, 83) := q.2.2.2.1 (42, 0, 83) (by decide +kernel)
theorem cs_f43 (q : CS h D) : xd_E D (xd_X D) 43 = some (0, 92) := q.2.2.2.1 (43, 0, 92) (by decide +kernel)
theorem cs_f44 (q : CS h D) : xd_E D (xd_X D) 44 = some (0, 93) := q.2.2.2.1 (44, 0, 93) (by decide +kernel)
theorem cs_f45 (q : CS h D) : xd_E D (xd_X D) 45 = some (0, 94) := q.2.2.2.1 (45, 0, 94) (by decide +kernel)
theorem cs_f50 (q : CS h D) : xd_E D (xd_X D) 50 = some (0, 95) := q.2.2.2.1 (50, 0, 95) (by decide +kernel)
theorem cs_f2 (q : CS h D) : xm_R h (xd_X D) 2 = some (xd_A D 0 2) ∧ xm_K h (xd_A D 0 2) = 100 ∧ xm_N h (xd_A D 0 2) = 6 ∧ xm_B h ≤ xd_A D 0 2 ∧ ∀ k, xd_E D (xd_A D 0 2) k = some (1, k) := q.2.2.2.2.1 (2, 100, 6, 1) (by decide +kernel)
theorem cs_f3 (q : CS h D) : xm_R h (xd_X D) 3 = some (xd_A D 0 3) ∧ xm_K h (xd_A D 0 3) = 100 ∧ xm_N h (xd_A D 0 3) = 6 ∧ xm_B h ≤ xd_A D 0 3 ∧ ∀ k, xd_E D (xd_A D 0 3) k = some (2, k) := q.2.2.2.2.1 (3, 100, 6, 2) (by decide +kernel)
theorem cs_f9 (q : CS h D) : xm_R h (xd_X D) 9 = some (xd_A D 0 9) ∧ xm_K h (xd_A D 0 9) = 101 ∧ xm_N h (xd_A D 0 9) = 600 ∧ xm_B h ≤ xd_A D 0 9 ∧ ∀ k, xd_E D (xd_A D 0 9) k = some (81, k) := q.2.2.2.2.1 (9, 101, 600, 81) (by decide +kernel)
theorem cs_f17 (q : CS h D) : xm_R h (xd_X D) 17 = some (xd_A D 0 17) ∧ xm_K h (xd_A D 0 17) = 100 ∧ xm_N h (xd_A D 0 17) = 2 ∧ xm_B h ≤ xd_A D 0 17 ∧ ∀ k, xd_E D (xd_A D 0 17) k = some (14, k) := q.2.2.2.2.1 (17, 100, 2, 14) (by decide +kernel)
theorem cs_f18 (q : CS h D) : xm_R h (xd_X D) 18 = some (xd_A D 0 18) ∧ xm_K h (xd_A D 0 18) = 100 ∧ xm_N h (xd_A D 0 18) = 8 ∧ xm_B h ≤ xd_A D 0 18 ∧ ∀ k, xd_E D (xd_A D 0 18) k = some (82, k) := q.2.2.2.2.1 (18, 100, 8, 82) (by decide +kernel)
theorem cs_f20 (q : CS h D) : xm_R h (xd_X D) 20 = some (xd_A D 0 20) ∧ xm_K h (xd_A D 0 20) = 100 ∧ xm_N h (xd_A D 0 20) = 4 ∧ xm_B h ≤ xd_A D 0 20 ∧ ∀ k, xd_E D (xd_A D 0 20) k = some (30, k) := q.2.2.2.2.1 (20, 100, 4, 30) (by decide +kernel)
theorem cs_f21 (q : CS h D) : xm_R h (xd_X D) 21 = some (xd_A D 0 21) ∧ xm_K h (xd_A D 0 21) = 100 ∧ xm_N h (xd_A D 0 21) = 4 ∧ xm_B h ≤ xd_A D 0 21 ∧ ∀ k, xd_E D (xd_A D 0 21) k = some (31, k) := q.2.2.2.2.1 (21, 100, 4, 31) (by decide +kernel)
theorem cs_f23 (q : CS h D) : xm_R h (xd_X D) 23 = some (xd_A D 0 23) ∧ xm_K h (xd_A D 0 23) = 100 ∧ xm_N h (xd_A D 0 23) = 12 ∧ xm_B h ≤ xd_A D 0 23 ∧ ∀ k, xd_E D (xd_A D 0 23) k = some (83, k) := q.2.2.2.2.1 (23, 100, 12, 83) (by decide +kernel)
theorem cs_f24 (q : CS h D) : xm_R h (xd_X D) 24 = some (xd_A D 0 24) ∧ xm_K h (xd_A D 0 24) = 100 ∧ xm_N h (xd_A D 0 24) = 7 ∧ xm_B h ≤ xd_A D 0 24 ∧ ∀ k, xd_E D (xd_A D 0 24) k = some (84, k) := q.2.2.2.2.1 (24, 100, 7, 84) (by decide +kernel)
theorem cs_f25 (q : CS h D) : xm_R h (xd_X D) 25 = some (xd_A D 0 25) ∧ xm_K h (xd_A D 0 25) = 100 ∧ xm_N h (xd_A D 0 25) = 7 ∧ xm_B h ≤ xd_A D 0 25 ∧ ∀ k, xd_E D (xd_A D 0 25) k = some (85, k) := q.2.2.2.2.1 (25, 100, 7, 85) (by decide +kernel)
theorem cs_f33 (q : CS h D) : xm_R h (xd_X D) 33 = some (xd_A D 0 33) ∧ xm_K h (xd_A D 0 33) = 100 ∧ xm_N h (xd_A D 0 33) = 2 ∧ xm_B h ≤ xd_A D 0 33 ∧ ∀ k, xd_E D (xd_A D 0 33) k = some (55, k) := q.2.2.2.2.1 (33, 100, 2, 55) (by decide +kernel)
theorem cs_f39 (q : CS h D) : xm_R h (xd_X D) 39 = some (xd_A D 0 39) ∧ xm_K h (xd_A D 0 39) = 100 ∧ xm_N h (xd_A D 0 39) = 8 ∧ xm_B h ≤ xd_A D 0 39 ∧ ∀ k, xd_E D (xd_A D 0 39) k = some (60, k) := q.2.2.2.2.1 (39, 100, 8, 60) (by decide +kernel)
theorem cs_f40 (q : CS h D) : xm_R h (xd_X D) 40 = some (xd_A D 0 40) ∧ xm_K h (xd_A D 0 40) = 100 ∧ xm_N h (xd_A D 0 40) = 8 ∧ xm_B h ≤ xd_A D 0 40 ∧ ∀ k, xd_E D (xd_A D 0 40) k = some (61, k) := q.2.2.2.2.1 (40, 100, 8, 61) (by decide +kernel)
theorem cs_f41 (q : CS h D) : xm_R h (xd_X D) 41 = some (xd_A D 0 41) ∧ xm_K h (xd_A D 0 41) = 100 ∧ xm_N h (xd_A D 0 41) = 8 ∧ xm_B h ≤ xd_A D 0 41 ∧ ∀ k, xd_E D (xd_A D 0 41) k = some (62, k) := q.2.2.2.2.1 (41, 100, 8, 62) (by decide +kernel)
theorem cs_f46 (q : CS h D) : xm_R h (xd_X D) 46 = some (xd_A D 0 46) ∧ xm_K h (xd_A D 0 46) = 100 ∧ xm_N h (xd_A D 0 46) = 100 ∧ xm_B h ≤ xd_A D 0 46 ∧ ∀ k, xd_E D (xd_A D 0 46) k = some (64, k) := q.2.2.2.2.1 (46, 100, 100, 64) (by decide +kernel)
theorem cs_f47 (q : CS h D) : xm_R h (xd_X D) 47 = some (xd_A D 0 47) ∧ xm_K h (xd_A D 0 47) = 100 ∧ xm_N h (xd_A D 0 47) = 100 ∧ xm_B h ≤ xd_A D 0 47 ∧ ∀ k, xd_E D (xd_A D 0 47) k = some (65, k) := q.2.2.2.2.1 (47, 100, 100, 65) (by decide +kernel)
theorem cs_f48 (q : CS h D) : xm_R h (xd_X D) 48 = some (xd_A D 0 48) ∧ xm_K h (xd_A D 0 48) = 100 ∧ xm_N h (xd_A D 0 48) = 100 ∧ xm_B h ≤ xd_A D 0 48 ∧ ∀ k, xd_E D (xd_A D 0 48) k = some (66, k) := q.2.2.2.2.1 (48, 100, 100, 66) (by decide +kernel)
theorem cs_f49 (q : CS h D) : xm_R h (xd_X D) 49 = some (xd_A D 0 49) ∧ xm_K h (xd_A D 0 49) = 100 ∧ xm_N h (xd_A D 0 49) = 100 ∧ xm_B h ≤ xd_A D 0 49 ∧ ∀ k, xd_E D (xd_A D 0 49) k = some (67, k) := q.2.2.2.2.1 (49, 100, 100, 67) (by decide +kernel)
theorem cs_f0 (q : CS h D) : xm_R h (xd_X D) 0 = some (xd_A D 0 0) ∧ xm_K h (xd_A D 0 0) = 110 ∧ xm_N h (xd_A D 0 0) = 12 ∧ xm_B h ≤ xd_A D 0 0 := q.2.2.2.2.2.1 (0, 110, 12) (by decide +kernel)
theorem cs_f1 (q : CS h D) : xm_R h (xd_X D) 1 = some (xd_A D 0 1) ∧ xm_K h (xd_A D 0 1) = 110 ∧ xm_N h (xd_A D 0 1) = 12 ∧ xm_B h ≤ xd_A D 0 1 := q.2.2.2.2.2.1 (1, 110, 12) (by decide +kernel)
theorem cs_f14 (q : CS h D) : xm_R h (xd_X D) 14 = some (xd_A D 0 14) ∧ xm_K h (xd_A D 0 14) = 111 ∧ xm_N h (xd_A D 0 14) = 21 ∧ xm_B h ≤ xd_A D 0 14 := q.2.2.2.2.2.1 (14, 111, 21) (by decide +kernel)
theorem cs_f16 (q : CS h D) : xm_R h (xd_X D) 16 = some (xd_A D 0 16) ∧ xm_K h (xd_A D 0 16) = 112 ∧ xm_N h (xd_A D 0 16) = 2 ∧ xm_B h ≤ xd_A D 0 16 := q.2.2.2.2.2.1 (16, 112, 2) (by decide +kernel)
theorem cs_f19 (q : CS h D) : xm_R h (xd_X D) 19 = some (xd_A D 0 19) ∧ xm_K h (xd_A D 0 19) = 114 ∧ xm_N h (xd_A D 0 19) = 2 ∧ xm_B h ≤ xd_A D 0 19 := q.2.2.2.2.2.1 (19, 114, 2) (by decide +kernel)
theorem cs_f30 (q : CS h D) : xm_R h (xd_X D) 30 = some (xd_A D 0 30) ∧ xm_K h (xd_A D 0 30) = 115 ∧ xm_N h (xd_A D 0 30) = 16 ∧ xm_B h ≤ xd_A D 0 30 := q.2.2.2.2.2.1 (30, 115, 16) (by decide +kernel)
theorem cs_f36 (q : CS h D) : xm_R h (xd_X D) 36 = some (xd_A D 0 36) ∧ xm_K h (xd_A D 0 36) = 116 ∧ xm_N h (xd_A D 0 36) = 40 ∧ xm_B h ≤ xd_A D 0 36 := q.2.2.2.2.2.1 (36, 116, 40) (by decide +kernel)
theorem cs_f38 (q : CS h D) : xm_R h (xd_X D) 38 = some (xd_A D 0 38) ∧ xm_K h (xd_A D 0 38) = 117 ∧ xm_N h (xd_A D 0 38) = 4 ∧ xm_B h ≤ xd_A D 0 38 := q.2.2.2.2.2.1 (38, 117, 4) (by decide +kernel)
theorem cs_f13 (q : CS h D) : xm_R h (xd_X D) 13 = some (xd_A D 0 13) ∧ xm_K h (xd_A D 0 13) = 2 ∧ xm_B h ≤ xd_A D 0 13 := q.2.2.2.2.2.2.1 (13, 2) (by decide +kernel)
theorem cs_f15 (q : CS h D) : xm_R h (xd_X D) 15 = some (xd_A D 0 15) ∧ xm_K h (xd_A D 0 15) = 3 ∧ xm_B h ≤ xd_A D 0 15 := q.2.2.2.2.2.2.1 (15, 3) (by decide +kernel)
abbrev cs_r1 (q : CS h D) := q.2.2.2.2.2.2.2
theorem cs_L (q : CS h D) {i : Nat} (hi : i < xd_n D 0) : xm_R h (xd_A D 0 0) i = some (xd_A D 1 i) ∧ xm_K h (xd_A D 1 i) = 6 ∧ xm_B h ≤ xd_A D 1 i ∧ xd_E D (xd_A D 1 i) 0 = some (3, i) ∧ xd_E D (xd_A D 1 i) 1 = some (4, i) ∧ xd_E D (xd_A D 1 i) 2 = some (9, i) ∧ xd_E D (xd_A D 1 i) 3 = some (5, i) ∧ xd_E D (xd_A D 1 i) 4 = some (6, i) ∧ xd_E D (xd_A D 1 i) 5 = some (8, i) ∧ xd_E D (xd_A D 1 i) 6 = some (10, i) ∧ xd_E D (xd_A D 1 i) 7 = some (11, i) ∧ xd_E D (xd_A D 1 i) 9 = some (12, i) ∧ xd_E D (xd_A D 1 i) 10 = some (13, i) ∧ xd_L D (xd_A D 1 i) 8 = some (7, i) := by
  obtain ⟨a, b, c⟩ := q.2.2.2.2.2.2.2.1 i hi
  exact ⟨a, b.1, b.2.1, b.2.2 (0, 3) (by decide +kernel), b.2.2 (1, 4) (by decide +kernel), b.2.2 (2, 9) (by decide +kernel), b.2.2 (3, 5) (by decide +kernel), b.2.2 (4, 6) (by decide +kernel), b.2.2 (5, 8) (by decide +kernel), b.2.2 (6, 10) (by decide +kernel), b.2.2 (7, 11) (by decide +kernel), b.2.2 (9, 12) (by decide +kernel), b.2.2 (10, 13) (by decide +kernel), c⟩
theorem cs_T (q : CS h D) {i : Nat} (hi : i < xd_n D 0) : xm_R h (xd_A D 0 1) i = some (xd_A D 2 i) ∧ xm_K h (xd_A D 2 i) = 6 ∧ xm_B h ≤ xd_A D 2 i ∧ xd_E D (xd_A D 2 i) 0 = some (90, i) ∧ xd_E D (xd_A D 2 i) 1 = some (91, i) ∧ xd_E D (xd_A D 2 i) 2 = some (92, i) ∧ xd_E D (xd_A D 2 i) 3 = some (93, i) ∧ xd_E D (xd_A D 2 i) 4 = some (94, i) ∧ xd_E D (xd_A D 2 i) 5 = some (95, i) ∧ xd_E D (xd_A D 2 i) 6 = some (96, i) ∧ xd_E D (xd_A D 2 i) 7 = some (97, i) ∧ xd_E D (xd_A D 2 i) 9 = some (99, i) ∧ xd_E D (xd_A D 2 i) 10 = some (100, i) ∧ xd_L D (xd_A D 2 i) 8 = some (98, i) := by
  obtain ⟨a, b, c⟩ := q.2.2.2.2.2.2.2.2.1 i hi
  exact ⟨a, b.1, b.2.1, b.2.2 (0, 90) (by decide +kernel), b.2.2 (1, 91) (by decide +kernel), b.2.2 (2, 92) (by decide +kernel), b.2.2 (3, 93) (by decide +kernel), b.2.2 (4, 94) (by decide +kernel), b.2.2 (5, 95) (by decide +kernel), b.2.2 (6, 96) (by decide +kernel), b.2.2 (7, 97) (by decide +kernel), b.2.2 (9, 99) (by decide +kernel), b.2.2 (10, 100) (by decide +kernel), c⟩
theorem cs_P (q : CS h D) {i : Nat} (hi : i < xd_n D 1) : xm_R h (xd_A D 0 30) i = some (xd_A D 3 i) ∧ xm_K h (xd_A D 3 i) = 18 ∧ xm_B h ≤ xd_A D 3 i ∧ xd_E D (xd_A D 3 i) 0 = some (39, i) ∧ xd_E D (xd_A D 3 i) 1 = some (40, i) ∧ xd_E D (xd_A D 3 i) 2 = some (41, i) ∧ xd_E D (xd_A D 3 i) 3 = some (42, i) ∧ xd_E D (xd_A D 3 i) 4 = some (43, i) := by
  obtain ⟨a, b⟩ := q.2.2.2.2.2.2.2.2.2.1 i hi
  exact ⟨a, b.1, b.2.1, b.2.2 (0, 39) (by decide +kernel), b.2.2 (1, 40) (by decide +kernel), b.2.2 (2, 41) (by decide +kernel), b.2.2 (3, 42) (by decide +kernel), b.2.2 (4, 43) (by decide +kernel)⟩
theorem cs_I (q : CS h D) {i : Nat} (hi : i < xd_n D 2) : xm_R h (xd_A D 0 36) i = some (xd_A D 4 i) ∧ xm_R h (xd_A D 4 i) 5 = some (xd_X D) ∧ xm_B h ≤ xd_A D 4 i ∧ xd_E D (xd_A D 4 i) 0 = some (44, i) ∧ xd_E D (xd_A D 4 i) 1 = some (49, i) ∧ xd_E D (xd_A D 4 i) 2 = some (45, i) ∧ xd_E D (xd_A D 4 i) 3 = some (46, i) ∧ xd_E D (xd_A D 4 i) 4 = some (54, i) := by
  obtain ⟨a, b, c⟩ := q.2.2.2.2.2.2.2.2.2.2.1 i hi
  cases e : xd_m D i with
  | none =>
    rw [e] at c
    obtain ⟨c, -⟩ := c
    exact ⟨a, b, c.2.1, c.2.2 (0, 44) (by decide +kernel), c.2.2 (1, 49) (by decide +kernel), c.2.2 (2, 45) (by decide +kernel), c.2.2 (3, 46) (by decide +kernel), c.2.2 (4, 54) (by decide +kernel)⟩
  | some x =>
    rw [e] at c
    obtain ⟨c, -⟩ := c
    exact ⟨a, b, c.2.1, c.2.2 (0, 44) (by decide +kernel), c.2.2 (1, 49) (by decide +kernel), c.2.2 (2, 45) (by decide +kernel), c.2.2 (3, 46) (by decide +kernel), c.2.2 (4, 54) (by decide +kernel)⟩
theorem cs_C (q : CS h D) {i : Nat} (hi : i < xd_n D 2) (e : xd_m D i = none) : xm_K h (xd_A D 4 i) = 20 ∧ xd_E D (xd_A D 4 i) 6 = some (47, i) ∧ xd_E D (xd_A D 4 i) 7 = some (48, i) ∧ xm_R h (xd_A D 4 i) 8 = some (xd_A D 5 i) ∧ xm_R h (xd_A D 4 i) 9 = some (xd_X D) ∧ xm_K h (xd_A D 5 i) = 100 ∧ xm_N h (xd_A D 5 i) = 12 ∧ xm_B h ≤ xd_A D 5 i ∧ ∀ l, l < 12 → xd_E D (xd_A D 5 i) l = some (52, 12 * i + l) := by
  obtain ⟨-, -, c⟩ := q.2.2.2.2.2.2.2.2.2.2.1 i hi
  rw [e] at c
  obtain ⟨c, d⟩ := c
  exact ⟨c.1, c.2.2 (6, 47) (by decide +kernel), c.2.2 (7, 48) (by decide +kernel), d⟩
theorem cs_M (q : CS h D) {i a b : Nat} (hi : i < xd_n D 2) (e : xd_m D i = some (a, b)) : xm_K h (xd_A D 4 i) = 21 ∧ a < i ∧ b < i ∧ xm_R h (xd_A D 4 i) 6 = some (xd_A D 4 a) ∧ xm_R h (xd_A D 4 i) 7 = some (xd_A D 4 b) ∧ xm_R h (xd_A D 4 i) 8 = some (xd_X D) := by
  obtain ⟨-, -, c⟩ := q.2.2.2.2.2.2.2.2.2.2.1 i hi
  rw [e] at c
  obtain ⟨c, d⟩ := c
  exact ⟨c.1, d⟩
theorem cs_Y (q : CS h D) {i : Nat} (hi : i < xd_n D 3) : xm_R h (xd_A D 0 38) i = some (xd_A D 6 i) ∧ xm_K h (xd_A D 6 i) = 22 ∧ xm_B h ≤ xd_A D 6 i ∧ xd_E D (xd_A D 6 i) 0 = some (56, i) ∧ xd_E D (xd_A D 6 i) 1 = some (57, i) ∧ xd_E D (xd_A D 6 i) 2 = some (58, i) ∧ xd_E D (xd_A D 6 i) 3 = some (59, i) := by
  obtain ⟨a, b⟩ := q.2.2.2.2.2.2.2.2.2.2.2.1 i hi
  exact ⟨a, b.1, b.2.1, b.2.2 (0, 56) (by decide +kernel), b.2.2 (1, 57) (by decide +kernel), b.2.2 (2, 58) (by decide +kernel), b.2.2 (3, 59) (by decide +kernel)⟩
theorem cs_U (q : CS h D) {i : Nat} (hi : i < 2) : xm_R h (xd_A D 0 19) i = some (xd_A D 7 i) ∧ xm_K h (xd_A D 7 i) = 4 ∧ xm_B h ≤ xd_A D 7 i ∧ xd_E D (xd_A D 7 i) 1 = some (15, i) ∧ xd_E D (xd_A D 7 i) 2 = some (16, i) ∧ xd_E D (xd_A D 7 i) 3 = some (101, i) ∧ xd_E D (xd_A D 7 i) 4 = some (102, i) ∧ xm_R h (xd_A D 7 i) 0 = some (xd_A D 8 i) ∧ xm_K h (xd_A D 8 i) = 100 ∧ xm_N h (xd_A D 8 i) = 4 ∧ xm_B h ≤ xd_A D 8 i ∧ ∀ k, k < 4 → xd_E D (xd_A D 8 i) k = some (17, 4 * i + k) := by
  obtain ⟨a, b, c⟩ := q.2.2.2.2.2.2.2.2.2.2.2.2.1 i hi
  exact ⟨a, b.1, b.2.1, b.2.2 (1, 15) (by decide +kernel), b.2.2 (2, 16) (by decide +kernel), b.2.2 (3, 101) (by decide +kernel), b.2.2 (4, 102) (by decide +kernel), c⟩
theorem cs_W (q : CS h D) {i : Nat} (hi : i < 2) : xm_R h (xd_A D 0 16) i = some (xd_A D 9 i) ∧ xm_K h (xd_A D 9 i) = 113 ∧ xm_N h (xd_A D 9 i) = 20 ∧ xm_B h ≤ xd_A D 9 i := q.2.2.2.2.2.2.2.2.2.2.2.2.2.1 i hi
theorem cs_rd (q : CS h D) : xm_R h (xd_A D 0 15) 7 = some (xd_X D) ∧ xd_E D (xd_A D 0 15) 0 = some (86, 0) ∧ xd_E D (xd_A D 0 15) 1 = some (86, 1) ∧ xd_E D (xd_A D 0 15) 2 = some (86, 2) ∧ xd_E D (xd_A D 0 15) 3 = some (86, 3) ∧ xd_E D (xd_A D 0 15) 4 = some (86, 4) ∧ xd_E D (xd_A D 0 15) 5 = some (86, 5) := by
  obtain ⟨a, b, -⟩ := q.2.2.2.2.2.2.2.2.2.2.2.2.2.2
  exact ⟨b, a 0 (by decide), a 1 (by decide), a 2 (by decide), a 3 (by decide), a 4 (by decide), a 5 (by decide)⟩
theorem cs_fl (q : CS h D) : xd_E D (xd_A D 0 13) 6 = some (87, 0) ∧ xd_E D (xd_A D 0 13) 7 = some (87, 1) := by
  obtain ⟨-, -, a, -⟩ := q.2.2.2.2.2.2.2.2.2.2.2.2.2.2
  exact ⟨a 0 (by decide), a 1 (by decide)⟩
theorem cs_n (q : CS h D) : xd_n D 0 ≤ 12 ∧ xd_n D 1 ≤ 16 ∧ xd_n D 2 ≤ 40 ∧ xd_n D 3 ≤ 4 := q.2.2.2.2.2.2.2.2.2.2.2.2.2.2.2.2.2
end CSF
