/-! the model's shape; its ints put in by a map: offset 0 the scalars by field, offset o the o-th array (written by gen/mk20.py) -/
set_option maxRecDepth 100000
def xp_ms : List (Nat × Nat × Nat × Nat) := [(4, 1, 100, 6), (5, 2, 100, 6), (7, 3, 100, 12), (8, 4, 100, 12), (9, 5, 100, 12), (10, 6, 100, 12), (11, 7, 100, 12), (12, 8, 100, 12), (13, 9, 100, 12), (14, 10, 100, 12), (15, 11, 100, 12), (16, 12, 102, 12), (17, 13, 102, 12), (18, 14, 100, 2), (19, 15, 100, 2), (20, 16, 100, 2), (21, 17, 100, 8), (22, 18, 100, 40), (23, 19, 100, 42), (24, 20, 100, 40), (25, 21, 100, 2440), (26, 22, 100, 20), (27, 23, 100, 21), (28, 24, 100, 20), (29, 25, 100, 20), (30, 26, 100, 20), (31, 27, 100, 1220), (32, 28, 100, 600), (33, 29, 100, 620), (47, 30, 100, 4), (48, 31, 100, 4), (49, 32, 100, 7), (50, 33, 100, 8), (51, 34, 100, 8), (52, 35, 100, 8), (53, 36, 100, 8), (54, 37, 100, 8), (55, 38, 100, 7), (63, 39, 100, 16), (64, 40, 100, 16), (65, 41, 100, 16), (66, 42, 100, 16), (67, 43, 102, 16), (71, 44, 100, 40), (72, 45, 100, 40), (73, 46, 100, 40), (74, 47, 100, 40), (75, 48, 100, 40), (76, 49, 100, 40), (77, 50, 100, 40), (78, 51, 100, 40), (79, 52, 100, 480), (80, 53, 100, 40), (81, 54, 102, 40), (82, 55, 100, 2), (84, 56, 100, 4), (85, 57, 100, 4), (86, 58, 100, 4), (87, 59, 100, 4), (88, 60, 100, 8), (89, 61, 100, 8), (90, 62, 100, 8), (91, 63, 100, 4), (96, 64, 100, 100), (97, 65, 100, 100), (98, 66, 100, 100), (99, 67, 100, 100), (100, 68, 100, 96), (101, 69, 102, 12), (102, 70, 102, 12)]
def MS (h : xm_H) (M : Nat) : Prop := xm_K h M = 5 ∧ xm_B h ≤ M ∧ ∀ e ∈ xp_ms, xm_R h M e.1 = some (M + e.2.1) ∧ xm_K h (M + e.2.1) = e.2.2.1 ∧ xm_N h (M + e.2.1) = e.2.2.2
theorem ms_K {h : xm_H} {M : Nat} (q : MS h M) : xm_K h M = 5 := q.1
theorem ms_B {h : xm_H} {M : Nat} (q : MS h M) : xm_B h ≤ M := q.2.1
theorem ms_f4 {h : xm_H} {M : Nat} (q : MS h M) : xm_R h M 4 = some (M + 1) ∧ xm_K h (M + 1) = 100 ∧ xm_N h (M + 1) = 6 ∧ xm_B h ≤ M + 1 := by
  have a := q.2.2 (4, 1, 100, 6) (by decide +kernel)
  exact ⟨a.1, a.2.1, a.2.2, Nat.le_trans q.2.1 (Nat.le_add_right _ _)⟩
theorem ms_f5 {h : xm_H} {M : Nat} (q : MS h M) : xm_R h M 5 = some (M + 2) ∧ xm_K h (M + 2) = 100 ∧ xm_N h (M + 2) = 6 ∧ xm_B h ≤ M + 2 := by
  have a := q.2.2 (5, 2, 100, 6) (by decide +kernel)
  exact ⟨a.1, a.2.1, a.2.2, Nat.le_trans q.2.1 (Nat.le_add_right _ _)⟩
theorem ms_f7 {h : xm_H} {M : Nat} (q : MS h M) : xm_R h M 7 = some (M + 3) ∧ xm_K h (M + 3) = 100 ∧ xm_N h (M + 3) = 12 ∧ xm_B h ≤ M + 3 := by
  have a := q.2.2 (7, 3, 100, 12) (by decide +kernel)
  exact ⟨a.1, a.2.1, a.2.2, Nat.le_trans q.2.1 (Nat.le_add_right _ _)⟩
theorem ms_f8 {h : xm_H} {M : Nat} (q : MS h M) : xm_R h M 8 = some (M + 4) ∧ xm_K h (M + 4) = 100 ∧ xm_N h (M + 4) = 12 ∧ xm_B h ≤ M + 4 := by
  have a := q.2.2 (8, 4, 100, 12) (by decide +kernel)
  exact ⟨a.1, a.2.1, a.2.2, Nat.le_trans q.2.1 (Nat.le_add_right _ _)⟩
theorem ms_f9 {h : xm_H} {M : Nat} (q : MS h M) : xm_R h M 9 = some (M + 5) ∧ xm_K h (M + 5) = 100 ∧ xm_N h (M + 5) = 12 ∧ xm_B h ≤ M + 5 := by
  have a := q.2.2 (9, 5, 100, 12) (by decide +kernel)
  exact ⟨a.1, a.2.1, a.2.2, Nat.le_trans q.2.1 (Nat.le_add_right _ _)⟩
theorem ms_f10 {h : xm_H} {M : Nat} (q : MS h M) : xm_R h M 10 = some (M + 6) ∧ xm_K h (M + 6) = 100 ∧ xm_N h (M + 6) = 12 ∧ xm_B h ≤ M + 6 := by
  have a := q.2.2 (10, 6, 100, 12) (by decide +kernel)
  exact ⟨a.1, a.2.1, a.2.2, Nat.le_trans q.2.1 (Nat.le_add_right _ _)⟩
theorem ms_f11 {h : xm_H} {M : Nat} (q : MS h M) : xm_R h M 11 = some (M + 7) ∧ xm_K h (M + 7) = 100 ∧ xm_N h (M + 7) = 12 ∧ xm_B h ≤ M + 7 := by
  have a := q.2.2 (11, 7, 100, 12) (by decide +kernel)
  exact ⟨a.1, a.2.1, a.2.2, Nat.le_trans q.2.1 (Nat.le_add_right _ _)⟩
theorem ms_f12 {h : xm_H} {M : Nat} (q : MS h M) : xm_R h M 12 = some (M + 8) ∧ xm_K h (M + 8) = 100 ∧ xm_N h (M + 8) = 12 ∧ xm_B h ≤ M + 8 := by
  have a := q.2.2 (12, 8, 100, 12) (by decide +kernel)
  exact ⟨a.1, a.2.1, a.2.2, Nat.le_trans q.2.1 (Nat.le_add_right _ _)⟩
theorem ms_f13 {h : xm_H} {M : Nat} (q : MS h M) : xm_R h M 13 = some (M + 9) ∧ xm_K h (M + 9) = 100 ∧ xm_N h (M + 9) = 12 ∧ xm_B h ≤ M + 9 := by
  have a := q.2.2 (13, 9, 100, 12) (by decide +kernel)
  exact ⟨a.1, a.2.1, a.2.2, Nat.le_trans q.2.1 (Nat.le_add_right _ _)⟩
theorem ms_f14 {h : xm_H} {M : Nat} (q : MS h M) : xm_R h M 14 = some (M + 10) ∧ xm_K h (M + 10) = 100 ∧ xm_N h (M + 10) = 12 ∧ xm_B h ≤ M + 10 := by
  have a := q.2.2 (14, 10, 100, 12) (by decide +kernel)
  exact ⟨a.1, a.2.1, a.2.2, Nat.le_trans q.2.1 (Nat.le_add_right _ _)⟩
theorem ms_f15 {h : xm_H} {M : Nat} (q : MS h M) : xm_R h M 15 = some (M + 11) ∧ xm_K h (M + 11) = 100 ∧ xm_N h (M + 11) = 12 ∧ xm_B h ≤ M + 11 := by
  have a := q.2.2 (15, 11, 100, 12) (by decide +kernel)
  exact ⟨a.1, a.2.1, a.2.2, Nat.le_trans q.2.1 (Nat.le_add_right _ _)⟩
theorem ms_f16 {h : xm_H} {M : Nat} (q : MS h M) : xm_R h M 16 = some (M + 12) ∧ xm_K h (M + 12) = 102 ∧ xm_N h (M + 12) = 12 ∧ xm_B h ≤ M + 12 := by
  have a := q.2.2 (16, 12, 102, 12) (by decide +kernel)
  exact ⟨a.1, a.2.1, a.2.2, Nat.le_trans q.2.1 (Nat.le_add_right _ _)⟩
theorem ms_f17 {h : xm_H} {M : Nat} (q : MS h M) : xm_R h M 17 = some (M + 13) ∧ xm_K h (M + 13) = 102 ∧ xm_N h (M + 13) = 12 ∧ xm_B h ≤ M + 13 := by
  have a := q.2.2 (17, 13, 102, 12) (by decide +kernel)
  exact ⟨a.1, a.2.1, a.2.2, Nat.le_trans q.2.1 (Nat.le_add_right _ _)⟩
theorem ms_f18 {h : xm_H} {M : Nat} (q : MS h M) : xm_R h M 18 = some (M + 14) ∧ xm_K h (M + 14) = 100 ∧ xm_N h (M + 14) = 2 ∧ xm_B h ≤ M + 14 := by
  have a := q.2.2 (18, 14, 100, 2) (by decide +kernel)
  exact ⟨a.1, a.2.1, a.2.2, Nat.le_trans q.2.1 (Nat.le_add_right _ _)⟩
theorem ms_f19 {h : xm_H} {M : Nat} (q : MS h M) : xm_R h M 19 = some (M + 15) ∧ xm_K h (M + 15) = 100 ∧ xm_N h (M + 15) = 2 ∧ xm_B h ≤ M + 15 := by
  have a := q.2.2 (19, 15, 100, 2) (by decide +kernel)
  exact ⟨a.1, a.2.1, a.2.2, Nat.le_trans q.2.1 (Nat.le_add_right _ _)⟩
theorem ms_f20 {h : xm_H} {M : Nat} (q : MS h M) : xm_R h M 20 = some (M + 16) ∧ xm_K h (M + 16) = 100 ∧ xm_N h (M + 16) = 2 ∧ xm_B h ≤ M + 16 := by
  have a := q.2.2 (20, 16, 100, 2) (by decide +kernel)
  exact ⟨a.1, a.2.1, a.2.2, Nat.le_trans q.2.1 (Nat.le_add_right _ _)⟩
theorem ms_f21 {h : xm_H} {M : Nat} (q : MS h M) : xm_R h M 21 = some (M + 17) ∧ xm_K h (M + 17) = 100 ∧ xm_N h (M + 17) = 8 ∧ xm_B h ≤ M + 17 := by
  have a := q.2.2 (21, 17, 100, 8) (by decide +kernel)
  exact ⟨a.1, a.2.1, a.2.2, Nat.le_trans q.2.1 (Nat.le_add_right _ _)⟩
theorem ms_f22 {h : xm_H} {M : Nat} (q : MS h M) : xm_R h M 22 = some (M + 18) ∧ xm_K h (M + 18) = 100 ∧ xm_N h (M + 18) = 40 ∧ xm_B h ≤ M + 18 := by
  have a := q.2.2 (22, 18, 100, 40) (by decide +kernel)
  exact ⟨a.1, a.2.1, a.2.2, Nat.le_trans q.2.1 (Nat.le_add_right _ _)⟩
theorem ms_f23 {h : xm_H} {M : Nat} (q : MS h M) : xm_R h M 23 = some (M + 19) ∧ xm_K h (M + 19) = 100 ∧ xm_N h (M + 19) = 42 ∧ xm_B h ≤ M + 19 := by
  have a := q.2.2 (23, 19, 100, 42) (by decide +kernel)
  exact ⟨a.1, a.2.1, a.2.2, Nat.le_trans q.2.1 (Nat.le_add_right _ _)⟩
theorem ms_f24 {h : xm_H} {M : Nat} (q : MS h M) : xm_R h M 24 = some (M + 20) ∧ xm_K h (M + 20) = 100 ∧ xm_N h (M + 20) = 40 ∧ xm_B h ≤ M + 20 := by
  have a := q.2.2 (24, 20, 100, 40) (by decide +kernel)
  exact ⟨a.1, a.2.1, a.2.2, Nat.le_trans q.2.1 (Nat.le_add_right _ _)⟩
theorem ms_f25 {h : xm_H} {M : Nat} (q : MS h M) : xm_R h M 25 = some (M + 21) ∧ xm_K h (M + 21) = 100 ∧ xm_N h (M + 21) = 2440 ∧ xm_B h ≤ M + 21 := by
  have a := q.2.2 (25, 21, 100, 2440) (by decide +kernel)
  exact ⟨a.1, a.2.1, a.2.2, Nat.le_trans q.2.1 (Nat.le_add_right _ _)⟩
theorem ms_f26 {h : xm_H} {M : Nat} (q : MS h M) : xm_R h M 26 = some (M + 22) ∧ xm_K h (M + 22) = 100 ∧ xm_N h (M + 22) = 20 ∧ xm_B h ≤ M + 22 := by
  have a := q.2.2 (26, 22, 100, 20) (by decide +kernel)
  exact ⟨a.1, a.2.1, a.2.2, Nat.le_trans q.2.1 (Nat.le_add_right _ _)⟩
theorem ms_f27 {h : xm_H} {M : Nat} (q : MS h M) : xm_R h M 27 = some (M + 23) ∧ xm_K h (M + 23) = 100 ∧ xm_N h (M + 23) = 21 ∧ xm_B h ≤ M + 23 := by
  have a := q.2.2 (27, 23, 100, 21) (by decide +kernel)
  exact ⟨a.1, a.2.1, a.2.2, Nat.le_trans q.2.1 (Nat.le_add_right _ _)⟩
theorem ms_f28 {h : xm_H} {M : Nat} (q : MS h M) : xm_R h M 28 = some (M + 24) ∧ xm_K h (M + 24) = 100 ∧ xm_N h (M + 24) = 20 ∧ xm_B h ≤ M + 24 := by
  have a := q.2.2 (28, 24, 100, 20) (by decide +kernel)
  exact ⟨a.1, a.2.1, a.2.2, Nat.le_trans q.2.1 (Nat.le_add_right _ _)⟩
theorem ms_f29 {h : xm_H} {M : Nat} (q : MS h M) : xm_R h M 29 = some (M + 25) ∧ xm_K h (M + 25) = 100 ∧ xm_N h (M + 25) = 20 ∧ xm_B h ≤ M + 25 := by
  have a := q.2.2 (29, 25, 100, 20) (by decide +kernel)
  exact ⟨a.1, a.2.1, a.2.2, Nat.le_trans q.2.1 (Nat.le_add_right _ _)⟩
theorem ms_f30 {h : xm_H} {M : Nat} (q : MS h M) : xm_R h M 30 = some (M + 26) ∧ xm_K h (M + 26) = 100 ∧ xm_N h (M + 26) = 20 ∧ xm_B h ≤ M + 26 := by
  have a := q.2.2 (30, 26, 100, 20) (by decide +kernel)
  exact ⟨a.1, a.2.1, a.2.2, Nat.le_trans q.2.1 (Nat.le_add_right _ _)⟩
theorem ms_f31 {h : xm_H} {M : Nat} (q : MS h M) : xm_R h M 31 = some (M + 27) ∧ xm_K h (M + 27) = 100 ∧ xm_N h (M + 27) = 1220 ∧ xm_B h ≤ M + 27 := by
  have a := q.2.2 (31, 27, 100, 1220) (by decide +kernel)
  exact ⟨a.1, a.2.1, a.2.2, Nat.le_trans q.2.1 (Nat.le_add_right _ _)⟩
theorem ms_f32 {h : xm_H} {M : Nat} (q : MS h M) : xm_R h M 32 = some (M + 28) ∧ xm_K h (M + 28) = 100 ∧ xm_N h (M + 28) = 600 ∧ xm_B h ≤ M + 28 := by
  have a := q.2.2 (32, 28, 100, 600) (by decide +kernel)
  exact ⟨a.1, a.2.1, a.2.2, Nat.le_trans q.2.1 (Nat.le_add_right _ _)⟩
theorem ms_f33 {h : xm_H} {M : Nat} (q : MS h M) : xm_R h M 33 = some (M + 29) ∧ xm_K h (M + 29) = 100 ∧ xm_N h (M + 29) = 620 ∧ xm_B h ≤ M + 29 := by
  have a := q.2.2 (33, 29, 100, 620) (by decide +kernel)
  exact ⟨a.1, a.2.1, a.2.2, Nat.le_trans q.2.1 (Nat.le_add_right _ _)⟩
theorem ms_f47 {h : xm_H} {M : Nat} (q : MS h M) : xm_R h M 47 = some (M + 30) ∧ xm_K h (M + 30) = 100 ∧ xm_N h (M + 30) = 4 ∧ xm_B h ≤ M + 30 := by
  have a := q.2.2 (47, 30, 100, 4) (by decide +kernel)
  exact ⟨a.1, a.2.1, a.2.2, Nat.le_trans q.2.1 (Nat.le_add_right _ _)⟩
theorem ms_f48 {h : xm_H} {M : Nat} (q : MS h M) : xm_R h M 48 = some (M + 31) ∧ xm_K h (M + 31) = 100 ∧ xm_N h (M + 31) = 4 ∧ xm_B h ≤ M + 31 := by
  have a := q.2.2 (48, 31, 100, 4) (by decide +kernel)
  exact ⟨a.1, a.2.1, a.2.2, Nat.le_trans q.2.1 (Nat.le_add_right _ _)⟩
theorem ms_f49 {h : xm_H} {M : Nat} (q : MS h M) : xm_R h M 49 = some (M + 32) ∧ xm_K h (M + 32) = 100 ∧ xm_N h (M + 32) = 7 ∧ xm_B h ≤ M + 32 := by
  have a := q.2.2 (49, 32, 100, 7) (by decide +kernel)
  exact ⟨a.1, a.2.1, a.2.2, Nat.le_trans q.2.1 (Nat.le_add_right _ _)⟩
theorem ms_f50 {h : xm_H} {M : Nat} (q : MS h M) : xm_R h M 50 = some (M + 33) ∧ xm_K h (M + 33) = 100 ∧ xm_N h (M + 33) = 8 ∧ xm_B h ≤ M + 33 := by
  have a := q.2.2 (50, 33, 100, 8) (by decide +kernel)
  exact ⟨a.1, a.2.1, a.2.2, Nat.le_trans q.2.1 (Nat.le_add_right _ _)⟩
theorem ms_f51 {h : xm_H} {M : Nat} (q : MS h M) : xm_R h M 51 = some (M + 34) ∧ xm_K h (M + 34) = 100 ∧ xm_N h (M + 34) = 8 ∧ xm_B h ≤ M + 34 := by
  have a := q.2.2 (51, 34, 100, 8) (by decide +kernel)
  exact ⟨a.1, a.2.1, a.2.2, Nat.le_trans q.2.1 (Nat.le_add_right _ _)⟩
theorem ms_f52 {h : xm_H} {M : Nat} (q : MS h M) : xm_R h M 52 = some (M + 35) ∧ xm_K h (M + 35) = 100 ∧ xm_N h (M + 35) = 8 ∧ xm_B h ≤ M + 35 := by
  have a := q.2.2 (52, 35, 100, 8) (by decide +kernel)
  exact ⟨a.1, a.2.1, a.2.2, Nat.le_trans q.2.1 (Nat.le_add_right _ _)⟩
theorem ms_f53 {h : xm_H} {M : Nat} (q : MS h M) : xm_R h M 53 = some (M + 36) ∧ xm_K h (M + 36) = 100 ∧ xm_N h (M + 36) = 8 ∧ xm_B h ≤ M + 36 := by
  have a := q.2.2 (53, 36, 100, 8) (by decide +kernel)
  exact ⟨a.1, a.2.1, a.2.2, Nat.le_trans q.2.1 (Nat.le_add_right _ _)⟩
theorem ms_f54 {h : xm_H} {M : Nat} (q : MS h M) : xm_R h M 54 = some (M + 37) ∧ xm_K h (M + 37) = 100 ∧ xm_N h (M + 37) = 8 ∧ xm_B h ≤ M + 37 := by
  have a := q.2.2 (54, 37, 100, 8) (by decide +kernel)
  exact ⟨a.1, a.2.1, a.2.2, Nat.le_trans q.2.1 (Nat.le_add_right _ _)⟩
theorem ms_f55 {h : xm_H} {M : Nat} (q : MS h M) : xm_R h M 55 = some (M + 38) ∧ xm_K h (M + 38) = 100 ∧ xm_N h (M + 38) = 7 ∧ xm_B h ≤ M + 38 := by
  have a := q.2.2 (55, 38, 100, 7) (by decide +kernel)
  exact ⟨a.1, a.2.1, a.2.2, Nat.le_trans q.2.1 (Nat.le_add_right _ _)⟩
theorem ms_f63 {h : xm_H} {M : Nat} (q : MS h M) : xm_R h M 63 = some (M + 39) ∧ xm_K h (M + 39) = 100 ∧ xm_N h (M + 39) = 16 ∧ xm_B h ≤ M + 39 := by
  have a := q.2.2 (63, 39, 100, 16) (by decide +kernel)
  exact ⟨a.1, a.2.1, a.2.2, Nat.le_trans q.2.1 (Nat.le_add_right _ _)⟩
theorem ms_f64 {h : xm_H} {M : Nat} (q : MS h M) : xm_R h M 64 = some (M + 40) ∧ xm_K h (M + 40) = 100 ∧ xm_N h (M + 40) = 16 ∧ xm_B h ≤ M + 40 := by
  have a := q.2.2 (64, 40, 100, 16) (by decide +kernel)
  exact ⟨a.1, a.2.1, a.2.2, Nat.le_trans q.2.1 (Nat.le_add_right _ _)⟩
theorem ms_f65 {h : xm_H} {M : Nat} (q : MS h M) : xm_R h M 65 = some (M + 41) ∧ xm_K h (M + 41) = 100 ∧ xm_N h (M + 41) = 16 ∧ xm_B h ≤ M + 41 := by
  have a := q.2.2 (65, 41, 100, 16) (by decide +kernel)
  exact ⟨a.1, a.2.1, a.2.2, Nat.le_trans q.2.1 (Nat.le_add_right _ _)⟩
theorem ms_f66 {h : xm_H} {M : Nat} (q : MS h M) : xm_R h M 66 = some (M + 42) ∧ xm_K h (M + 42) = 100 ∧ xm_N h (M + 42) = 16 ∧ xm_B h ≤ M + 42 := by
  have a := q.2.2 (66, 42, 100, 16) (by decide +kernel)
  exact ⟨a.1, a.2.1, a.2.2, Nat.le_trans q.2.1 (Nat.le_add_right _ _)⟩
theorem ms_f67 {h : xm_H} {M : Nat} (q : MS h M) : xm_R h M 67 = some (M + 43) ∧ xm_K h (M + 43) = 102 ∧ xm_N h (M + 43) = 16 ∧ xm_B h ≤ M + 43 := by
  have a := q.2.2 (67, 43, 102, 16) (by decide +kernel)
  exact ⟨a.1, a.2.1, a.2.2, Nat.le_trans q.2.1 (Nat.le_add_right _ _)⟩
theorem ms_f71 {h : xm_H} {M : Nat} (q : MS h M) : xm_R h M 71 = some (M + 44) ∧ xm_K h (M + 44) = 100 ∧ xm_N h (M + 44) = 40 ∧ xm_B h ≤ M + 44 := by
  have a := q.2.2 (71, 44, 100, 40) (by decide +kernel)
  exact ⟨a.1, a.2.1, a.2.2, Nat.le_trans q.2.1 (Nat.le_add_right _ _)⟩
theorem ms_f72 {h : xm_H} {M : Nat} (q : MS h M) : xm_R h M 72 = some (M + 45) ∧ xm_K h (M + 45) = 100 ∧ xm_N h (M + 45) = 40 ∧ xm_B h ≤ M + 45 := by
  have a := q.2.2 (72, 45, 100, 40) (by decide +kernel)
  exact ⟨a.1, a.2.1, a.2.2, Nat.le_trans q.2.1 (Nat.le_add_right _ _)⟩
theorem ms_f73 {h : xm_H} {M : Nat} (q : MS h M) : xm_R h M 73 = some (M + 46) ∧ xm_K h (M + 46) = 100 ∧ xm_N h (M + 46) = 40 ∧ xm_B h ≤ M + 46 := by
  have a := q.2.2 (73, 46, 100, 40) (by decide +kernel)
  exact ⟨a.1, a.2.1, a.2.2, Nat.le_trans q.2.1 (Nat.le_add_right _ _)⟩
theorem ms_f74 {h : xm_H} {M : Nat} (q : MS h M) : xm_R h M 74 = some (M + 47) ∧ xm_K h (M + 47) = 100 ∧ xm_N h (M + 47) = 40 ∧ xm_B h ≤ M + 47 := by
  have a := q.2.2 (74, 47, 100, 40) (by decide +kernel)
  exact ⟨a.1, a.2.1, a.2.2, Nat.le_trans q.2.1 (Nat.le_add_right _ _)⟩
theorem ms_f75 {h : xm_H} {M : Nat} (q : MS h M) : xm_R h M 75 = some (M + 48) ∧ xm_K h (M + 48) = 100 ∧ xm_N h (M + 48) = 40 ∧ xm_B h ≤ M + 48 := by
  have a := q.2.2 (75, 48, 100, 40) (by decide +kernel)
  exact ⟨a.1, a.2.1, a.2.2, Nat.le_trans q.2.1 (Nat.le_add_right _ _)⟩
theorem ms_f76 {h : xm_H} {M : Nat} (q : MS h M) : xm_R h M 76 = some (M + 49) ∧ xm_K h (M + 49) = 100 ∧ xm_N h (M + 49) = 40 ∧ xm_B h ≤ M + 49 := by
  have a := q.2.2 (76, 49, 100, 40) (by decide +kernel)
  exact ⟨a.1, a.2.1, a.2.2, Nat.le_trans q.2.1 (Nat.le_add_right _ _)⟩
theorem ms_f77 {h : xm_H} {M : Nat} (q : MS h M) : xm_R h M 77 = some (M + 50) ∧ xm_K h (M + 50) = 100 ∧ xm_N h (M + 50) = 40 ∧ xm_B h ≤ M + 50 := by
  have a := q.2.2 (77, 50, 100, 40) (by decide +kernel)
  exact ⟨a.1, a.2.1, a.2.2, Nat.le_trans q.2.1 (Nat.le_add_right _ _)⟩
theorem ms_f78 {h : xm_H} {M : Nat} (q : MS h M) : xm_R h M 78 = some (M + 51) ∧ xm_K h (M + 51) = 100 ∧ xm_N h (M + 51) = 40 ∧ xm_B h ≤ M + 51 := by
  have a := q.2.2 (78, 51, 100, 40) (by decide +kernel)
  exact ⟨a.1, a.2.1, a.2.2, Nat.le_trans q.2.1 (Nat.le_add_right _ _)⟩
theorem ms_f79 {h : xm_H} {M : Nat} (q : MS h M) : xm_R h M 79 = some (M + 52) ∧ xm_K h (M + 52) = 100 ∧ xm_N h (M + 52) = 480 ∧ xm_B h ≤ M + 52 := by
  have a := q.2.2 (79, 52, 100, 480) (by decide +kernel)
  exact ⟨a.1, a.2.1, a.2.2, Nat.le_trans q.2.1 (Nat.le_add_right _ _)⟩
theorem ms_f80 {h : xm_H} {M : Nat} (q : MS h M) : xm_R h M 80 = some (M + 53) ∧ xm_K h (M + 53) = 100 ∧ xm_N h (M + 53) = 40 ∧ xm_B h ≤ M + 53 := by
  have a := q.2.2 (80, 53, 100, 40) (by decide +kernel)
  exact ⟨a.1, a.2.1, a.2.2, Nat.le_trans q.2.1 (Nat.le_add_right _ _)⟩
theorem ms_f81 {h : xm_H} {M : Nat} (q : MS h M) : xm_R h M 81 = some (M + 54) ∧ xm_K h (M + 54) = 102 ∧ xm_N h (M + 54) = 40 ∧ xm_B h ≤ M + 54 := by
  have a := q.2.2 (81, 54, 102, 40) (by decide +kernel)
  exact ⟨a.1, a.2.1, a.2.2, Nat.le_trans q.2.1 (Nat.le_add_right _ _)⟩
theorem ms_f82 {h : xm_H} {M : Nat} (q : MS h M) : xm_R h M 82 = some (M + 55) ∧ xm_K h (M + 55) = 100 ∧ xm_N h (M + 55) = 2 ∧ xm_B h ≤ M + 55 := by
  have a := q.2.2 (82, 55, 100, 2) (by decide +kernel)
  exact ⟨a.1, a.2.1, a.2.2, Nat.le_trans q.2.1 (Nat.le_add_right _ _)⟩
theorem ms_f84 {h : xm_H} {M : Nat} (q : MS h M) : xm_R h M 84 = some (M + 56) ∧ xm_K h (M + 56) = 100 ∧ xm_N h (M + 56) = 4 ∧ xm_B h ≤ M + 56 := by
  have a := q.2.2 (84, 56, 100, 4) (by decide +kernel)
  exact ⟨a.1, a.2.1, a.2.2, Nat.le_trans q.2.1 (Nat.le_add_right _ _)⟩
theorem ms_f85 {h : xm_H} {M : Nat} (q : MS h M) : xm_R h M 85 = some (M + 57) ∧ xm_K h (M + 57) = 100 ∧ xm_N h (M + 57) = 4 ∧ xm_B h ≤ M + 57 := by
  have a := q.2.2 (85, 57, 100, 4) (by decide +kernel)
  exact ⟨a.1, a.2.1, a.2.2, Nat.le_trans q.2.1 (Nat.le_add_right _ _)⟩
theorem ms_f86 {h : xm_H} {M : Nat} (q : MS h M) : xm_R h M 86 = some (M + 58) ∧ xm_K h (M + 58) = 100 ∧ xm_N h (M + 58) = 4 ∧ xm_B h ≤ M + 58 := by
  have a := q.2.2 (86, 58, 100, 4) (by decide +kernel)
  exact ⟨a.1, a.2.1, a.2.2, Nat.le_trans q.2.1 (Nat.le_add_right _ _)⟩
theorem ms_f87 {h : xm_H} {M : Nat} (q : MS h M) : xm_R h M 87 = some (M + 59) ∧ xm_K h (M + 59) = 100 ∧ xm_N h (M + 59) = 4 ∧ xm_B h ≤ M + 59 := by
  have a := q.2.2 (87, 59, 100, 4) (by decide +kernel)
  exact ⟨a.1, a.2.1, a.2.2, Nat.le_trans q.2.1 (Nat.le_add_right _ _)⟩
theorem ms_f88 {h : xm_H} {M : Nat} (q : MS h M) : xm_R h M 88 = some (M + 60) ∧ xm_K h (M + 60) = 100 ∧ xm_N h (M + 60) = 8 ∧ xm_B h ≤ M + 60 := by
  have a := q.2.2 (88, 60, 100, 8) (by decide +kernel)
  exact ⟨a.1, a.2.1, a.2.2, Nat.le_trans q.2.1 (Nat.le_add_right _ _)⟩
theorem ms_f89 {h : xm_H} {M : Nat} (q : MS h M) : xm_R h M 89 = some (M + 61) ∧ xm_K h (M + 61) = 100 ∧ xm_N h (M + 61) = 8 ∧ xm_B h ≤ M + 61 := by
  have a := q.2.2 (89, 61, 100, 8) (by decide +kernel)
  exact ⟨a.1, a.2.1, a.2.2, Nat.le_trans q.2.1 (Nat.le_add_right _ _)⟩
theorem ms_f90 {h : xm_H} {M : Nat} (q : MS h M) : xm_R h M 90 = some (M + 62) ∧ xm_K h (M + 62) = 100 ∧ xm_N h (M + 62) = 8 ∧ xm_B h ≤ M + 62 := by
  have a := q.2.2 (90, 62, 100, 8) (by decide +kernel)
  exact ⟨a.1, a.2.1, a.2.2, Nat.le_trans q.2.1 (Nat.le_add_right _ _)⟩
theorem ms_f91 {h : xm_H} {M : Nat} (q : MS h M) : xm_R h M 91 = some (M + 63) ∧ xm_K h (M + 63) = 100 ∧ xm_N h (M + 63) = 4 ∧ xm_B h ≤ M + 63 := by
  have a := q.2.2 (91, 63, 100, 4) (by decide +kernel)
  exact ⟨a.1, a.2.1, a.2.2, Nat.le_trans q.2.1 (Nat.le_add_right _ _)⟩
theorem ms_f96 {h : xm_H} {M : Nat} (q : MS h M) : xm_R h M 96 = some (M + 64) ∧ xm_K h (M + 64) = 100 ∧ xm_N h (M + 64) = 100 ∧ xm_B h ≤ M + 64 := by
  have a := q.2.2 (96, 64, 100, 100) (by decide +kernel)
  exact ⟨a.1, a.2.1, a.2.2, Nat.le_trans q.2.1 (Nat.le_add_right _ _)⟩
theorem ms_f97 {h : xm_H} {M : Nat} (q : MS h M) : xm_R h M 97 = some (M + 65) ∧ xm_K h (M + 65) = 100 ∧ xm_N h (M + 65) = 100 ∧ xm_B h ≤ M + 65 := by
  have a := q.2.2 (97, 65, 100, 100) (by decide +kernel)
  exact ⟨a.1, a.2.1, a.2.2, Nat.le_trans q.2.1 (Nat.le_add_right _ _)⟩
theorem ms_f98 {h : xm_H} {M : Nat} (q : MS h M) : xm_R h M 98 = some (M + 66) ∧ xm_K h (M + 66) = 100 ∧ xm_N h (M + 66) = 100 ∧ xm_B h ≤ M + 66 := by
  have a := q.2.2 (98, 66, 100, 100) (by decide +kernel)
  exact ⟨a.1, a.2.1, a.2.2, Nat.le_trans q.2.1 (Nat.le_add_right _ _)⟩
theorem ms_f99 {h : xm_H} {M : Nat} (q : MS h M) : xm_R h M 99 = some (M + 67) ∧ xm_K h (M + 67) = 100 ∧ xm_N h (M + 67) = 100 ∧ xm_B h ≤ M + 67 := by
  have a := q.2.2 (99, 67, 100, 100) (by decide +kernel)
  exact ⟨a.1, a.2.1, a.2.2, Nat.le_trans q.2.1 (Nat.le_add_right _ _)⟩
theorem ms_f100 {h : xm_H} {M : Nat} (q : MS h M) : xm_R h M 100 = some (M + 68) ∧ xm_K h (M + 68) = 100 ∧ xm_N h (M + 68) = 96 ∧ xm_B h ≤ M + 68 := by
  have a := q.2.2 (100, 68, 100, 96) (by decide +kernel)
  exact ⟨a.1, a.2.1, a.2.2, Nat.le_trans q.2.1 (Nat.le_add_right _ _)⟩
theorem ms_f101 {h : xm_H} {M : Nat} (q : MS h M) : xm_R h M 101 = some (M + 69) ∧ xm_K h (M + 69) = 102 ∧ xm_N h (M + 69) = 12 ∧ xm_B h ≤ M + 69 := by
  have a := q.2.2 (101, 69, 102, 12) (by decide +kernel)
  exact ⟨a.1, a.2.1, a.2.2, Nat.le_trans q.2.1 (Nat.le_add_right _ _)⟩
theorem ms_f102 {h : xm_H} {M : Nat} (q : MS h M) : xm_R h M 102 = some (M + 70) ∧ xm_K h (M + 70) = 102 ∧ xm_N h (M + 70) = 12 ∧ xm_B h ≤ M + 70 := by
  have a := q.2.2 (102, 70, 102, 12) (by decide +kernel)
  exact ⟨a.1, a.2.1, a.2.2, Nat.le_trans q.2.1 (Nat.le_add_right _ _)⟩
theorem nz_1 : ((1 : Int32) = 0) = False := by decide
theorem nz_2 : ((2 : Int32) = 0) = False := by decide
theorem nz_3 : ((3 : Int32) = 0) = False := by decide
theorem nz_4 : ((4 : Int32) = 0) = False := by decide
theorem nz_5 : ((5 : Int32) = 0) = False := by decide
theorem nz_6 : ((6 : Int32) = 0) = False := by decide
theorem nz_8 : ((8 : Int32) = 0) = False := by decide
theorem nz_10 : ((10 : Int32) = 0) = False := by decide
theorem nz_12 : ((12 : Int32) = 0) = False := by decide
theorem nz_20 : ((20 : Int32) = 0) = False := by decide
theorem nz_30 : ((30 : Int32) = 0) = False := by decide
theorem nz_60 : ((60 : Int32) = 0) = False := by decide
theorem nz_100 : ((100 : Int32) = 0) = False := by decide
theorem w8_nil : xm_w [] ≤ 8 := by decide
theorem w_add {k : Nat} : k + xm_w [] = k := rfl
abbrev xp_F : Type := Nat → Nat → Int32
def xp_m (h : xm_H) (M : Nat) (F : xp_F) : xm_H := (h.1, h.2.1, h.2.2.1, (fun a k => if M ≤ a ∧ a ≤ M + 70 then F (a - M) k else h.2.2.2.1 a k), h.2.2.2.2.1, h.2.2.2.2.2)
section XPM
variable {h : xm_H} {M o k : Nat} {F : xp_F} {v : Int32}
theorem mp_B : xm_B (xp_m h M F) = xm_B h := Eq.trans (b := xm_B h) rfl rfl
theorem mp_Z : xm_Z (xp_m h M F) = xm_Z h := Eq.trans (b := xm_Z h) rfl rfl
theorem mp_S : xm_S (xp_m h M F) = xm_S h := Eq.trans (b := xm_S h) rfl rfl
theorem mp_C : xm_C (xp_m h M F) = xm_C h := Eq.trans (b := xm_C h) rfl rfl
theorem mp_K : xm_K (xp_m h M F) = xm_K h := Eq.trans (b := xm_K h) rfl rfl
theorem mp_N : xm_N (xp_m h M F) = xm_N h := Eq.trans (b := xm_N h) rfl rfl
theorem mp_L : xm_L (xp_m h M F) = xm_L h := Eq.trans (b := xm_L h) rfl rfl
theorem mp_R : xm_R (xp_m h M F) = xm_R h := Eq.trans (b := xm_R h) rfl rfl
theorem mp_I (ho : o ≤ 70) : xm_I (xp_m h M F) (M + o) k = F o k := by
  show (if M ≤ M + o ∧ M + o ≤ M + 70 then F (M + o - M) k else _) = _
  rw [if_pos ⟨Nat.le_add_right _ _, by omega⟩, Nat.add_sub_cancel_left]
theorem mp_I0 : xm_I (xp_m h M F) M k = F 0 k := mp_I (o := 0) (by decide)
theorem mp_s (ho : o ≤ 70) : xm_sI (xp_m h M F) (M + o) k v = xp_m h M (xm_u2 F o k v) := by
  show (h.1, h.2.1, h.2.2.1, xm_u2 _ (M + o) k v, h.2.2.2.2.1, h.2.2.2.2.2) = (h.1, h.2.1, h.2.2.1, _, h.2.2.2.2.1, h.2.2.2.2.2)
  have e : xm_u2 (fun a k => if M ≤ a ∧ a ≤ M + 70 then F (a - M) k else h.2.2.2.1 a k) (M + o) k v = (fun a k' => if M ≤ a ∧ a ≤ M + 70 then xm_u2 F o k v (a - M) k' else h.2.2.2.1 a k') := by
    funext a j
    unfold xm_u2
    by_cases e : a = M + o ∧ j = k
    · rw [if_pos e, if_pos ⟨by omega, by omega⟩, if_pos ⟨by omega, e.2⟩]
    · rw [if_neg e]
      by_cases e2 : M ≤ a ∧ a ≤ M + 70
      · rw [if_pos e2, if_neg (fun z => e ⟨by omega, z.2⟩)]
        exact if_pos e2
      · rw [if_neg e2]
        exact if_neg e2
  exact congrArg (fun z => (h.1, h.2.1, h.2.2.1, z, h.2.2.2.2.1, h.2.2.2.2.2)) e
theorem mp_s0 : xm_sI (xp_m h M F) M k v = xp_m h M (xm_u2 F 0 k v) := mp_s (o := 0) (by decide)
theorem u2_ap {a b j : Nat} : xm_u2 F a k v b j = if b = a ∧ j = k then v else F b j := rfl
theorem ms_m (q : MS h M) : MS (xp_m h M F) M := q
end XPM
