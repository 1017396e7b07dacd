/-! what the tables say of the links (written by gen/mk19.py) -/
set_option maxRecDepth 100000
def xs_cc (c : Nat) : Bool := ([0, 1, 2, 3, 4, 5, 7, 8, 9, 11, 12, 13, 14, 15, 16, 17, 19, 20, 21, 26, 27] : List Nat).contains c
theorem xs_wsle {C : String} {T : u_T} {n m : Nat} (h : n ≤ m) {w : Cond} (hw : w ∈ u_ws C T n) : w ∈ u_ws C T m := by
  unfold u_ws at hw ⊢
  obtain ⟨k, hk, e⟩ := List.mem_map.mp hw
  exact List.mem_map.mpr ⟨k, List.mem_range.mpr (Nat.lt_of_lt_of_le (List.mem_range.mp hk) h), e⟩
theorem xs_in : ∀ c, xs_cc c = true → ∀ w ∈ u_ws (xm_oN c) (xm_T c) (xm_nf c), w ∈ lw_all := by
  intro c hc
  have h : c ∈ ([0, 1, 2, 3, 4, 5, 7, 8, 9, 11, 12, 13, 14, 15, 16, 17, 19, 20, 21, 26, 27] : List Nat) := List.contains_iff_mem.mp hc
  simp only [List.mem_cons, List.not_mem_nil, or_false] at h
  rcases h with rfl | rfl | rfl | rfl | rfl | rfl | rfl | rfl | rfl | rfl | rfl | rfl | rfl | rfl | rfl | rfl | rfl | rfl | rfl | rfl | rfl
  · exact in_X0
  · exact in_X1
  · exact in_X2
  · exact in_X3
  · exact in_X4
  · exact in_X5
  · exact in_X7
  · exact in_X8
  · exact in_X9
  · exact in_X11
  · exact in_X12
  · exact in_X13
  · exact in_X14
  · exact in_X15
  · exact in_X16
  · exact in_X17
  · exact in_X19
  · exact in_X20
  · exact in_X21
  · exact in_J4
  · exact fun w h => in_J5 w (xs_wsle (by decide) h)
theorem xs_tyok : ∀ c, xs_cc c = true → ∀ k, k < xm_nf c → parseFieldDescriptor (xm_T c k).2.2.1 = some (xm_ty c k) := by
  intro c hc
  have h : c ∈ ([0, 1, 2, 3, 4, 5, 7, 8, 9, 11, 12, 13, 14, 15, 16, 17, 19, 20, 21, 26, 27] : List Nat) := List.contains_iff_mem.mp hc
  simp only [List.mem_cons, List.not_mem_nil, or_false] at h
  rcases h with rfl | rfl | rfl | rfl | rfl | rfl | rfl | rfl | rfl | rfl | rfl | rfl | rfl | rfl | rfl | rfl | rfl | rfl | rfl | rfl | rfl
  · exact tyX0_ok
  · exact tyX1_ok
  · exact tyX2_ok
  · exact tyX3_ok
  · exact tyX4_ok
  · exact tyX5_ok
  · exact tyX7_ok
  · exact tyX8_ok
  · exact tyX9_ok
  · exact tyX11_ok
  · exact tyX12_ok
  · exact tyX13_ok
  · exact tyX14_ok
  · exact tyX15_ok
  · exact tyX16_ok
  · exact tyX17_ok
  · exact tyX19_ok
  · exact tyX20_ok
  · exact tyX21_ok
  · exact tyJ4_ok
  · exact fun k hk => tyJ5_ok k (Nat.lt_of_lt_of_le hk (by decide))
theorem xs_inst : ∀ c, xs_cc c = true → (Cond.instantiable (xm_oN c) (xm_ns c)) ∈ lw_all := by
  intro c hc
  have h : c ∈ ([0, 1, 2, 3, 4, 5, 7, 8, 9, 11, 12, 13, 14, 15, 16, 17, 19, 20, 21, 26, 27] : List Nat) := List.contains_iff_mem.mp hc
  simp only [List.mem_cons, List.not_mem_nil, or_false] at h
  rcases h with rfl | rfl | rfl | rfl | rfl | rfl | rfl | rfl | rfl | rfl | rfl | rfl | rfl | rfl | rfl | rfl | rfl | rfl | rfl | rfl | rfl
  · exact q134
  · exact q144
  · exact q234
  · exact q272
  · exact q1506
  · exact q481
  · exact q940
  · exact q953
  · exact q963
  · exact q983
  · exact q1001
  · exact q1027
  · exact q1036
  · exact q1055
  · exact q1066
  · exact q1218
  · exact q1276
  · exact q1382
  · exact q1410
  · exact q641
  · exact q774
theorem xs_init : ∀ c, xs_cc c = true → (Cond.initialized (xm_oN c)) ∈ lw_all := by
  intro c hc
  have h : c ∈ ([0, 1, 2, 3, 4, 5, 7, 8, 9, 11, 12, 13, 14, 15, 16, 17, 19, 20, 21, 26, 27] : List Nat) := List.contains_iff_mem.mp hc
  simp only [List.mem_cons, List.not_mem_nil, or_false] at h
  rcases h with rfl | rfl | rfl | rfl | rfl | rfl | rfl | rfl | rfl | rfl | rfl | rfl | rfl | rfl | rfl | rfl | rfl | rfl | rfl | rfl | rfl
  · exact q98
  · exact q101
  · exact q102
  · exact q103
  · exact q104
  · exact q105
  · exact q118
  · exact q119
  · exact q120
  · exact q122
  · exact q123
  · exact q124
  · exact q125
  · exact q126
  · exact q127
  · exact q128
  · exact q130
  · exact q131
  · exact q132
  · exact q108
  · exact q109
/-- the words of the nest, that ride with the state -/
def xs_nest : List Cond := [Cond.fieldLinkNest "CliffHoney" 299 "CliffHoney$Reader" "row" "[LCliffHoney$Line;" "CliffHoney",
  Cond.fieldLinkNest "CliffHoney" 303 "CliffHoney$Reader" "told" "I" "CliffHoney",
  Cond.fieldLinkNest "CliffHoney" 426 "CliffHoney$Cut" "parts" "[I" "CliffHoney",
  Cond.fieldLinkNest "CliffHoney$Cut" 28 "CliffHoney" "customs" "[LCliffHoney$Custom;" "CliffHoney",
  Cond.fieldLinkNest "CliffHoney$Cut" 41 "CliffHoney" "people" "[LCliffHoney$Person;" "CliffHoney",
  Cond.fieldLinkNest "CliffHoney$Cut" 50 "CliffHoney" "many" "I" "CliffHoney",
  Cond.fieldLinkNest "CliffHoney$Cut" 63 "CliffHoney" "temple" "I" "CliffHoney",
  Cond.fieldLinkNest "CliffHoney$Cut" 66 "CliffHoney" "ledges" "[LCliffHoney$Ledge;" "CliffHoney",
  Cond.fieldLinkNest "CliffHoney$Cut" 82 "CliffHoney" "villageMoney" "[I" "CliffHoney",
  Cond.fieldLinkNest "CliffHoney$Reader" 19 "CliffHoney" "taped" "I" "CliffHoney",
  Cond.fieldLinkNest "CliffHoney$Reader" 22 "CliffHoney" "tape" "[B" "CliffHoney",
  Cond.fieldLinkNest "CliffHoney$Reader" 76 "CliffHoney" "words" "[Ljava/lang/String;" "CliffHoney",
  Cond.methodLinkNest "CliffHoney" 96 ⟨"CliffHoney$Reader", "<init>", "(LCliffHoney;)V"⟩ "CliffHoney",
  Cond.methodLinkNest "CliffHoney" 116 ⟨"CliffHoney$Custom", "<init>", "()V"⟩ "CliffHoney",
  Cond.methodLinkNest "CliffHoney" 296 ⟨"CliffHoney$Reader", "read", "()V"⟩ "CliffHoney",
  Cond.methodLinkNest "CliffHoney$Asked" 1 ⟨"CliffHoney$Term", "<init>", "()V"⟩ "CliffHoney",
  Cond.methodLinkNest "CliffHoney$Cut" 78 ⟨"CliffHoney", "whoseOf", "(III)I"⟩ "CliffHoney",
  Cond.methodLinkNest "CliffHoney$Ledge" 50 ⟨"CliffHoney", "clamp", "(III)I"⟩ "CliffHoney",
  Cond.methodLinkNest "CliffHoney$Lot" 26 ⟨"CliffHoney", "clamp", "(III)I"⟩ "CliffHoney",
  Cond.methodLinkNest "CliffHoney$Not" 1 ⟨"CliffHoney$Term", "<init>", "()V"⟩ "CliffHoney",
  Cond.methodLinkNest "CliffHoney$Plain" 1 ⟨"CliffHoney$Term", "<init>", "()V"⟩ "CliffHoney",
  Cond.methodLinkNest "CliffHoney$Reader" 84 ⟨"CliffHoney", "refused", "(II)LCliffHoney$Fault;"⟩ "CliffHoney",
  Cond.methodLinkNest "CliffHoney$Reader" 92 ⟨"CliffHoney", "isIn", "(III)Z"⟩ "CliffHoney",
  Cond.methodLinkNest "CliffHoney$Two" 1 ⟨"CliffHoney$Term", "<init>", "()V"⟩ "CliffHoney"]
theorem xs_nest_in : ∀ w ∈ xs_nest, w ∈ lw_tbl := List.forall_mem_cons.mpr ⟨q247, List.forall_mem_cons.mpr ⟨q245, List.forall_mem_cons.mpr ⟨q1289, List.forall_mem_cons.mpr ⟨q332, List.forall_mem_cons.mpr ⟨q344, List.forall_mem_cons.mpr ⟨q312, List.forall_mem_cons.mpr ⟨q349, List.forall_mem_cons.mpr ⟨q308, List.forall_mem_cons.mpr ⟨q348, List.forall_mem_cons.mpr ⟨q320, List.forall_mem_cons.mpr ⟨q319, List.forall_mem_cons.mpr ⟨q326, List.forall_mem_cons.mpr ⟨q235, List.forall_mem_cons.mpr ⟨q273, List.forall_mem_cons.mpr ⟨q619, List.forall_mem_cons.mpr ⟨q944, List.forall_mem_cons.mpr ⟨q1468, List.forall_mem_cons.mpr ⟨q577, List.forall_mem_cons.mpr ⟨q1285, List.forall_mem_cons.mpr ⟨q1005, List.forall_mem_cons.mpr ⟨q957, List.forall_mem_cons.mpr ⟨q907, List.forall_mem_cons.mpr ⟨q906, List.forall_mem_cons.mpr ⟨q971, (fun _ h => absurd h List.not_mem_nil)⟩⟩⟩⟩⟩⟩⟩⟩⟩⟩⟩⟩⟩⟩⟩⟩⟩⟩⟩⟩⟩⟩⟩⟩
theorem lk_mem {β : Type} : ∀ {l : List (Nat × β)} {i : Nat} {v : β}, l.lookup i = some v → (i, v) ∈ l
  | [], i, v, h => by cases h
  | (j, u) :: l, i, v, h => by
    rw [List.lookup_cons] at h
    split at h
    · rename_i e
      have e2 : i = j := by simpa using e
      rw [← Option.some.inj h, e2]
      exact List.mem_cons_self
    · exact List.mem_cons_of_mem _ (lk_mem h)
/-- the field k of the concrete class c is what the entry idx of class o's pool names -/
def xs_Fok (o idx c k : Nat) : Prop := k < xm_nf c ∧ ∃ ref, (Cond.fieldLink (xm_oN o) idx ref (xm_T c k).2.1 (xm_T c k).2.2.1 ∈ lw_all ∨ ∃ host, Cond.fieldLinkNest (xm_oN o) idx ref (xm_T c k).2.1 (xm_T c k).2.2.1 host ∈ xs_nest) ∧ (ref = (xm_T c k).1 ∨ Cond.sameField ref (xm_T c k).1 (xm_T c k).2.1 (xm_T c k).2.2.1 ∈ lw_all)
def xs_FF (o idx c k : Nat) : Prop := ∀ kd, xm_is c kd = true → ∃ s, kd = s + 1 ∧ xs_cc s = true ∧ xm_ty s k = xm_ty c k ∧ (xm_T s k).2.2.2 = (xm_T c k).2.2.2 ∧ (xm_T s k).1 = (xm_T c k).1 ∧ xs_Fok o idx s k
theorem xs_f1 {o idx c k : Nat} (hne : ∀ kd, xm_is c kd = true → kd = c + 1) (hc : xs_cc c = true) (h : xs_Fok o idx c k) : xs_FF o idx c k := fun kd hk => ⟨c, hne kd hk, hc, rfl, rfl, rfl, h⟩
theorem xs_f2 {o idx c k : Nat} (l : List Nat) (hne : ∀ kd, xm_is c kd = true → ∃ s ∈ l, kd = s + 1) (h : ∀ s ∈ l, xs_cc s = true ∧ xm_ty s k = xm_ty c k ∧ (xm_T s k).2.2.2 = (xm_T c k).2.2.2 ∧ (xm_T s k).1 = (xm_T c k).1 ∧ xs_Fok o idx s k) : xs_FF o idx c k := by
  intro kd hk
  obtain ⟨s, hs, e⟩ := hne kd hk
  exact ⟨s, e, h s hs⟩
theorem xs_n0 : ∀ kd, xm_is 0 kd = true → kd = 0 + 1 := fun kd h => by simpa [xm_is] using h
theorem xs_n1 : ∀ kd, xm_is 1 kd = true → kd = 1 + 1 := fun kd h => by simpa [xm_is] using h
theorem xs_n2 : ∀ kd, xm_is 2 kd = true → kd = 2 + 1 := fun kd h => by simpa [xm_is] using h
theorem xs_n3 : ∀ kd, xm_is 3 kd = true → kd = 3 + 1 := fun kd h => by simpa [xm_is] using h
theorem xs_n4 : ∀ kd, xm_is 4 kd = true → kd = 4 + 1 := fun kd h => by simpa [xm_is] using h
theorem xs_n5 : ∀ kd, xm_is 5 kd = true → kd = 5 + 1 := fun kd h => by simpa [xm_is] using h
theorem xs_n6 : ∀ kd, xm_is 6 kd = true → ∃ s ∈ ([7, 12, 8, 9] : List Nat), kd = s + 1 := by
  intro kd h
  simp only [xm_is, Bool.or_eq_true, beq_iff_eq] at h
  have : kd = 7 + 1 ∨ kd = 12 + 1 ∨ kd = 8 + 1 ∨ kd = 9 + 1 := by omega
  rcases this with h | h | h | h
  · exact ⟨7, by decide, h⟩
  · exact ⟨12, by decide, h⟩
  · exact ⟨8, by decide, h⟩
  · exact ⟨9, by decide, h⟩
theorem xs_n7 : ∀ kd, xm_is 7 kd = true → kd = 7 + 1 := fun kd h => by simpa [xm_is] using h
theorem xs_n8 : ∀ kd, xm_is 8 kd = true → kd = 8 + 1 := fun kd h => by simpa [xm_is] using h
theorem xs_n9 : ∀ kd, xm_is 9 kd = true → kd = 9 + 1 := fun kd h => by simpa [xm_is] using h
theorem xs_n10 : ∀ kd, xm_is 10 kd = true → ∃ s ∈ ([11, 13, 14, 15, 16] : List Nat), kd = s + 1 := by
  intro kd h
  simp only [xm_is, Bool.or_eq_true, beq_iff_eq] at h
  have : kd = 11 + 1 ∨ kd = 13 + 1 ∨ kd = 14 + 1 ∨ kd = 15 + 1 ∨ kd = 16 + 1 := by omega
  rcases this with h | h | h | h | h
  · exact ⟨11, by decide, h⟩
  · exact ⟨13, by decide, h⟩
  · exact ⟨14, by decide, h⟩
  · exact ⟨15, by decide, h⟩
  · exact ⟨16, by decide, h⟩
theorem xs_n11 : ∀ kd, xm_is 11 kd = true → kd = 11 + 1 := fun kd h => by simpa [xm_is] using h
theorem xs_n12 : ∀ kd, xm_is 12 kd = true → kd = 12 + 1 := fun kd h => by simpa [xm_is] using h
theorem xs_n13 : ∀ kd, xm_is 13 kd = true → kd = 13 + 1 := fun kd h => by simpa [xm_is] using h
theorem xs_n14 : ∀ kd, xm_is 14 kd = true → ∃ s ∈ ([14, 15, 16] : List Nat), kd = s + 1 := by
  intro kd h
  simp only [xm_is, Bool.or_eq_true, beq_iff_eq] at h
  have : kd = 14 + 1 ∨ kd = 15 + 1 ∨ kd = 16 + 1 := by omega
  rcases this with h | h | h
  · exact ⟨14, by decide, h⟩
  · exact ⟨15, by decide, h⟩
  · exact ⟨16, by decide, h⟩
theorem xs_n15 : ∀ kd, xm_is 15 kd = true → kd = 15 + 1 := fun kd h => by simpa [xm_is] using h
theorem xs_n16 : ∀ kd, xm_is 16 kd = true → kd = 16 + 1 := fun kd h => by simpa [xm_is] using h
theorem xs_n17 : ∀ kd, xm_is 17 kd = true → kd = 17 + 1 := fun kd h => by simpa [xm_is] using h
theorem xs_n18 : ∀ kd, xm_is 18 kd = true → ∃ s ∈ ([19, 20] : List Nat), kd = s + 1 := by
  intro kd h
  simp only [xm_is, Bool.or_eq_true, beq_iff_eq] at h
  have : kd = 19 + 1 ∨ kd = 20 + 1 := by omega
  rcases this with h | h
  · exact ⟨19, by decide, h⟩
  · exact ⟨20, by decide, h⟩
theorem xs_n19 : ∀ kd, xm_is 19 kd = true → kd = 19 + 1 := fun kd h => by simpa [xm_is] using h
theorem xs_n20 : ∀ kd, xm_is 20 kd = true → kd = 20 + 1 := fun kd h => by simpa [xm_is] using h
theorem xs_n21 : ∀ kd, xm_is 21 kd = true → kd = 21 + 1 := fun kd h => by simpa [xm_is] using h
theorem xs_n22 : ∀ kd, xm_is 22 kd = true → ∃ s ∈ ([1] : List Nat), kd = s + 1 := by
  intro kd h
  simp only [xm_is, Bool.or_eq_true, beq_iff_eq] at h
  exact ⟨_, List.mem_cons_self, h⟩
theorem xs_n23 : ∀ kd, xm_is 23 kd = true → ∃ s ∈ ([1] : List Nat), kd = s + 1 := by
  intro kd h
  simp only [xm_is, Bool.or_eq_true, beq_iff_eq] at h
  exact ⟨_, List.mem_cons_self, h⟩
theorem xs_n24 : ∀ kd, xm_is 24 kd = true → kd = 24 + 1 := fun kd h => by simpa [xm_is] using h
theorem xs_n25 : ∀ kd, xm_is 25 kd = true → ∃ s ∈ ([26] : List Nat), kd = s + 1 := by
  intro kd h
  simp only [xm_is, Bool.or_eq_true, beq_iff_eq] at h
  exact ⟨_, List.mem_cons_self, h⟩
theorem xs_n26 : ∀ kd, xm_is 26 kd = true → kd = 26 + 1 := fun kd h => by simpa [xm_is] using h
theorem xs_n27 : ∀ kd, xm_is 27 kd = true → kd = 27 + 1 := fun kd h => by simpa [xm_is] using h
theorem xs_n28 : ∀ kd, xm_is 28 kd = true → kd = 28 + 1 := fun kd h => by simpa [xm_is] using h
theorem xs_n29 : ∀ kd, xm_is 29 kd = true → kd = 29 + 1 := fun kd h => by simpa [xm_is] using h
theorem xs_n30 : ∀ kd, xm_is 30 kd = true → kd = 30 + 1 := fun kd h => by simpa [xm_is] using h
theorem xs_n31 : ∀ kd, xm_is 31 kd = true → kd = 31 + 1 := fun kd h => by simpa [xm_is] using h
theorem xs_n32 : ∀ kd, xm_is 32 kd = true → kd = 32 + 1 := fun kd h => by simpa [xm_is] using h
theorem xs_n33 : ∀ kd, xm_is 33 kd = true → kd = 33 + 1 := fun kd h => by simpa [xm_is] using h
theorem xs_n34 : ∀ kd, xm_is 34 kd = true → kd = 34 + 1 := fun kd h => by simpa [xm_is] using h
theorem xs_F0_0 : xs_FF 0 11 0 0 := xs_f1 xs_n0 (by decide) ⟨by decide, _, Or.inl q307, Or.inl rfl⟩
theorem xs_F0_1 : xs_FF 0 15 0 1 := xs_f1 xs_n0 (by decide) ⟨by decide, _, Or.inl q309, Or.inl rfl⟩
theorem xs_F0_2 : xs_FF 0 18 0 2 := xs_f1 xs_n0 (by decide) ⟨by decide, _, Or.inl q310, Or.inl rfl⟩
theorem xs_F0_3 : xs_FF 0 22 0 3 := xs_f1 xs_n0 (by decide) ⟨by decide, _, Or.inl q311, Or.inl rfl⟩
theorem xs_F0_4 : xs_FF 0 25 0 7 := xs_f1 xs_n0 (by decide) ⟨by decide, _, Or.inl q316, Or.inl rfl⟩
theorem xs_F0_5 : xs_FF 0 29 0 8 := xs_f1 xs_n0 (by decide) ⟨by decide, _, Or.inl q317, Or.inl rfl⟩
theorem xs_F0_6 : xs_FF 0 32 0 9 := xs_f1 xs_n0 (by decide) ⟨by decide, _, Or.inl q318, Or.inl rfl⟩
theorem xs_F0_7 : xs_FF 0 36 0 12 := xs_f1 xs_n0 (by decide) ⟨by decide, _, Or.inl q323, Or.inl rfl⟩
theorem xs_F0_8 : xs_FF 0 42 0 13 := xs_f1 xs_n0 (by decide) ⟨by decide, _, Or.inl q324, Or.inl rfl⟩
theorem xs_F0_9 : xs_FF 0 90 0 14 := xs_f1 xs_n0 (by decide) ⟨by decide, _, Or.inl q325, Or.inl rfl⟩
theorem xs_F0_10 : xs_FF 0 99 0 15 := xs_f1 xs_n0 (by decide) ⟨by decide, _, Or.inl q327, Or.inl rfl⟩
theorem xs_F0_11 : xs_FF 0 105 0 16 := xs_f1 xs_n0 (by decide) ⟨by decide, _, Or.inl q328, Or.inl rfl⟩
theorem xs_F0_12 : xs_FF 0 108 0 17 := xs_f1 xs_n0 (by decide) ⟨by decide, _, Or.inl q329, Or.inl rfl⟩
theorem xs_F0_13 : xs_FF 0 111 0 18 := xs_f1 xs_n0 (by decide) ⟨by decide, _, Or.inl q330, Or.inl rfl⟩
theorem xs_F0_14 : xs_FF 0 117 0 19 := xs_f1 xs_n0 (by decide) ⟨by decide, _, Or.inl q331, Or.inl rfl⟩
theorem xs_F0_15 : xs_FF 0 121 0 20 := xs_f1 xs_n0 (by decide) ⟨by decide, _, Or.inl q333, Or.inl rfl⟩
theorem xs_F0_16 : xs_FF 0 124 0 21 := xs_f1 xs_n0 (by decide) ⟨by decide, _, Or.inl q334, Or.inl rfl⟩
theorem xs_F0_17 : xs_FF 0 127 0 23 := xs_f1 xs_n0 (by decide) ⟨by decide, _, Or.inl q336, Or.inl rfl⟩
theorem xs_F0_18 : xs_FF 0 130 0 24 := xs_f1 xs_n0 (by decide) ⟨by decide, _, Or.inl q337, Or.inl rfl⟩
theorem xs_F0_19 : xs_FF 0 133 0 25 := xs_f1 xs_n0 (by decide) ⟨by decide, _, Or.inl q338, Or.inl rfl⟩
theorem xs_F0_20 : xs_FF 0 138 0 30 := xs_f1 xs_n0 (by decide) ⟨by decide, _, Or.inl q343, Or.inl rfl⟩
theorem xs_F0_21 : xs_FF 0 142 0 32 := xs_f1 xs_n0 (by decide) ⟨by decide, _, Or.inl q346, Or.inl rfl⟩
theorem xs_F0_22 : xs_FF 0 145 0 33 := xs_f1 xs_n0 (by decide) ⟨by decide, _, Or.inl q347, Or.inl rfl⟩
theorem xs_F0_23 : xs_FF 0 150 0 36 := xs_f1 xs_n0 (by decide) ⟨by decide, _, Or.inl q352, Or.inl rfl⟩
theorem xs_F0_24 : xs_FF 0 156 0 38 := xs_f1 xs_n0 (by decide) ⟨by decide, _, Or.inl q354, Or.inl rfl⟩
theorem xs_F0_25 : xs_FF 0 160 0 39 := xs_f1 xs_n0 (by decide) ⟨by decide, _, Or.inl q355, Or.inl rfl⟩
theorem xs_F0_26 : xs_FF 0 163 0 40 := xs_f1 xs_n0 (by decide) ⟨by decide, _, Or.inl q356, Or.inl rfl⟩
theorem xs_F0_27 : xs_FF 0 166 0 41 := xs_f1 xs_n0 (by decide) ⟨by decide, _, Or.inl q357, Or.inl rfl⟩
theorem xs_F0_28 : xs_FF 0 169 0 46 := xs_f1 xs_n0 (by decide) ⟨by decide, _, Or.inl q362, Or.inl rfl⟩
theorem xs_F0_29 : xs_FF 0 172 0 47 := xs_f1 xs_n0 (by decide) ⟨by decide, _, Or.inl q363, Or.inl rfl⟩
theorem xs_F0_30 : xs_FF 0 175 0 48 := xs_f1 xs_n0 (by decide) ⟨by decide, _, Or.inl q364, Or.inl rfl⟩
theorem xs_F0_31 : xs_FF 0 178 0 49 := xs_f1 xs_n0 (by decide) ⟨by decide, _, Or.inl q365, Or.inl rfl⟩
theorem xs_F0_32 : xs_FF 0 193 0 5 := xs_f1 xs_n0 (by decide) ⟨by decide, _, Or.inl q314, Or.inl rfl⟩
theorem xs_F0_33 : xs_FF 0 196 0 4 := xs_f1 xs_n0 (by decide) ⟨by decide, _, Or.inl q313, Or.inl rfl⟩
theorem xs_F0_34 : xs_FF 0 203 0 31 := xs_f1 xs_n0 (by decide) ⟨by decide, _, Or.inl q345, Or.inl rfl⟩
theorem xs_F0_35 : xs_FF 0 206 5 0 := xs_f1 xs_n5 (by decide) ⟨by decide, _, Or.inl q487, Or.inl rfl⟩
theorem xs_F0_36 : xs_FF 0 209 5 1 := xs_f1 xs_n5 (by decide) ⟨by decide, _, Or.inl q489, Or.inl rfl⟩
theorem xs_F0_37 : xs_FF 0 218 5 3 := xs_f1 xs_n5 (by decide) ⟨by decide, _, Or.inl q494, Or.inl rfl⟩
theorem xs_F0_38 : xs_FF 0 220 5 4 := xs_f1 xs_n5 (by decide) ⟨by decide, _, Or.inl q496, Or.inl rfl⟩
theorem xs_F0_39 : xs_FF 0 222 5 8 := xs_f1 xs_n5 (by decide) ⟨by decide, _, Or.inl q504, Or.inl rfl⟩
theorem xs_F0_40 : xs_FF 0 226 5 9 := xs_f1 xs_n5 (by decide) ⟨by decide, _, Or.inl q506, Or.inl rfl⟩
theorem xs_F0_41 : xs_FF 0 230 5 5 := xs_f1 xs_n5 (by decide) ⟨by decide, _, Or.inl q498, Or.inl rfl⟩
theorem xs_F0_42 : xs_FF 0 233 5 10 := xs_f1 xs_n5 (by decide) ⟨by decide, _, Or.inl q508, Or.inl rfl⟩
theorem xs_F0_43 : xs_FF 0 236 5 2 := xs_f1 xs_n5 (by decide) ⟨by decide, _, Or.inl q492, Or.inl rfl⟩
theorem xs_F0_44 : xs_FF 0 263 0 6 := xs_f1 xs_n0 (by decide) ⟨by decide, _, Or.inl q315, Or.inl rfl⟩
theorem xs_F0_45 : xs_FF 0 268 0 37 := xs_f1 xs_n0 (by decide) ⟨by decide, _, Or.inl q353, Or.inl rfl⟩
theorem xs_F0_46 : xs_FF 0 271 18 4 := xs_f2 [19, 20] xs_n18 (List.forall_mem_cons.mpr ⟨⟨by decide, rfl, rfl, rfl, ⟨by decide, _, Or.inl q1312, Or.inl rfl⟩⟩, List.forall_mem_cons.mpr ⟨⟨by decide, rfl, rfl, rfl, ⟨by decide, _, Or.inl q1312, Or.inl rfl⟩⟩, (fun _ h => absurd h List.not_mem_nil)⟩⟩)
theorem xs_F0_47 : xs_FF 0 274 0 34 := xs_f1 xs_n0 (by decide) ⟨by decide, _, Or.inl q350, Or.inl rfl⟩
theorem xs_F0_48 : xs_FF 0 277 0 35 := xs_f1 xs_n0 (by decide) ⟨by decide, _, Or.inl q351, Or.inl rfl⟩
theorem xs_F0_49 : xs_FF 0 284 1 6 := xs_f1 xs_n1 (by decide) ⟨by decide, _, Or.inl q189, Or.inl rfl⟩
theorem xs_F0_50 : xs_FF 0 287 1 7 := xs_f1 xs_n1 (by decide) ⟨by decide, _, Or.inl q190, Or.inl rfl⟩
theorem xs_F0_51 : xs_FF 0 293 0 10 := xs_f1 xs_n0 (by decide) ⟨by decide, _, Or.inl q321, Or.inl rfl⟩
theorem xs_F0_52 : xs_FF 0 299 2 6 := xs_f1 xs_n2 (by decide) ⟨by decide, _, Or.inr ⟨_, List.mem_of_getElem? (i := 0) rfl⟩, Or.inl rfl⟩
theorem xs_F0_53 : xs_FF 0 303 2 5 := xs_f1 xs_n2 (by decide) ⟨by decide, _, Or.inr ⟨_, List.mem_of_getElem? (i := 1) rfl⟩, Or.inl rfl⟩
theorem xs_F0_54 : xs_FF 0 312 0 11 := xs_f1 xs_n0 (by decide) ⟨by decide, _, Or.inl q322, Or.inl rfl⟩
theorem xs_F0_55 : xs_FF 0 319 3 1 := xs_f1 xs_n3 (by decide) ⟨by decide, _, Or.inl q282, Or.inl rfl⟩
theorem xs_F0_56 : xs_FF 0 321 3 2 := xs_f1 xs_n3 (by decide) ⟨by decide, _, Or.inl q285, Or.inl rfl⟩
theorem xs_F0_57 : xs_FF 0 323 3 0 := xs_f1 xs_n3 (by decide) ⟨by decide, _, Or.inl q280, Or.inl rfl⟩
theorem xs_F0_58 : xs_FF 0 326 3 3 := xs_f1 xs_n3 (by decide) ⟨by decide, _, Or.inl q287, Or.inl rfl⟩
theorem xs_F0_59 : xs_FF 0 329 3 4 := xs_f1 xs_n3 (by decide) ⟨by decide, _, Or.inl q289, Or.inl rfl⟩
theorem xs_F0_60 : xs_FF 0 344 0 22 := xs_f1 xs_n0 (by decide) ⟨by decide, _, Or.inl q335, Or.inl rfl⟩
theorem xs_F0_61 : xs_FF 0 362 17 0 := xs_f1 xs_n17 (by decide) ⟨by decide, _, Or.inl q1224, Or.inl rfl⟩
theorem xs_F0_62 : xs_FF 0 369 0 27 := xs_f1 xs_n0 (by decide) ⟨by decide, _, Or.inl q340, Or.inl rfl⟩
theorem xs_F0_63 : xs_FF 0 372 0 28 := xs_f1 xs_n0 (by decide) ⟨by decide, _, Or.inl q341, Or.inl rfl⟩
theorem xs_F0_64 : xs_FF 0 375 0 26 := xs_f1 xs_n0 (by decide) ⟨by decide, _, Or.inl q339, Or.inl rfl⟩
theorem xs_F0_65 : xs_FF 0 378 0 29 := xs_f1 xs_n0 (by decide) ⟨by decide, _, Or.inl q342, Or.inl rfl⟩
theorem xs_F0_66 : xs_FF 0 399 17 4 := xs_f1 xs_n17 (by decide) ⟨by decide, _, Or.inl q1231, Or.inl rfl⟩
theorem xs_F0_67 : xs_FF 0 404 17 1 := xs_f1 xs_n17 (by decide) ⟨by decide, _, Or.inl q1226, Or.inl rfl⟩
theorem xs_F0_68 : xs_FF 0 412 17 2 := xs_f1 xs_n17 (by decide) ⟨by decide, _, Or.inl q1227, Or.inl rfl⟩
theorem xs_F0_69 : xs_FF 0 415 17 3 := xs_f1 xs_n17 (by decide) ⟨by decide, _, Or.inl q1229, Or.inl rfl⟩
theorem xs_F0_70 : xs_FF 0 426 19 8 := xs_f1 xs_n19 (by decide) ⟨by decide, _, Or.inr ⟨_, List.mem_of_getElem? (i := 2) rfl⟩, Or.inl rfl⟩
theorem xs_F0_71 : xs_FF 0 433 18 0 := xs_f2 [19, 20] xs_n18 (List.forall_mem_cons.mpr ⟨⟨by decide, rfl, rfl, rfl, ⟨by decide, _, Or.inl q1298, Or.inl rfl⟩⟩, List.forall_mem_cons.mpr ⟨⟨by decide, rfl, rfl, rfl, ⟨by decide, _, Or.inl q1298, Or.inl rfl⟩⟩, (fun _ h => absurd h List.not_mem_nil)⟩⟩)
theorem xs_F0_72 : xs_FF 0 436 18 2 := xs_f2 [19, 20] xs_n18 (List.forall_mem_cons.mpr ⟨⟨by decide, rfl, rfl, rfl, ⟨by decide, _, Or.inl q1306, Or.inl rfl⟩⟩, List.forall_mem_cons.mpr ⟨⟨by decide, rfl, rfl, rfl, ⟨by decide, _, Or.inl q1306, Or.inl rfl⟩⟩, (fun _ h => absurd h List.not_mem_nil)⟩⟩)
theorem xs_F0_73 : xs_FF 0 439 18 3 := xs_f2 [19, 20] xs_n18 (List.forall_mem_cons.mpr ⟨⟨by decide, rfl, rfl, rfl, ⟨by decide, _, Or.inl q1310, Or.inl rfl⟩⟩, List.forall_mem_cons.mpr ⟨⟨by decide, rfl, rfl, rfl, ⟨by decide, _, Or.inl q1310, Or.inl rfl⟩⟩, (fun _ h => absurd h List.not_mem_nil)⟩⟩)
theorem xs_F0_74 : xs_FF 0 449 18 1 := xs_f2 [19, 20] xs_n18 (List.forall_mem_cons.mpr ⟨⟨by decide, rfl, rfl, rfl, ⟨by decide, _, Or.inl q1302, Or.inl rfl⟩⟩, List.forall_mem_cons.mpr ⟨⟨by decide, rfl, rfl, rfl, ⟨by decide, _, Or.inl q1302, Or.inl rfl⟩⟩, (fun _ h => absurd h List.not_mem_nil)⟩⟩)
theorem xs_F0_75 : xs_FF 0 458 0 42 := xs_f1 xs_n0 (by decide) ⟨by decide, _, Or.inl q358, Or.inl rfl⟩
theorem xs_F0_76 : xs_FF 0 462 0 43 := xs_f1 xs_n0 (by decide) ⟨by decide, _, Or.inl q359, Or.inl rfl⟩
theorem xs_F0_77 : xs_FF 0 465 0 44 := xs_f1 xs_n0 (by decide) ⟨by decide, _, Or.inl q360, Or.inl rfl⟩
theorem xs_F0_78 : xs_FF 0 468 0 45 := xs_f1 xs_n0 (by decide) ⟨by decide, _, Or.inl q361, Or.inl rfl⟩
theorem xs_F0_79 : xs_FF 0 475 21 3 := xs_f1 xs_n21 (by decide) ⟨by decide, _, Or.inl q1420, Or.inl rfl⟩
theorem xs_F0_80 : xs_FF 0 478 21 2 := xs_f1 xs_n21 (by decide) ⟨by decide, _, Or.inl q1418, Or.inl rfl⟩
theorem xs_F0_81 : xs_FF 0 490 0 50 := xs_f1 xs_n0 (by decide) ⟨by decide, _, Or.inl q366, Or.inl rfl⟩
theorem xs_F0_82 : xs_FF 0 496 5 6 := xs_f1 xs_n5 (by decide) ⟨by decide, _, Or.inl q500, Or.inl rfl⟩
theorem xs_F0_83 : xs_FF 0 497 5 7 := xs_f1 xs_n5 (by decide) ⟨by decide, _, Or.inl q502, Or.inl rfl⟩
theorem xs_Fo0 : ∀ q ∈ xm_lkF_0, xs_FF 0 q.1 q.2.1 q.2.2 := List.forall_mem_cons.mpr ⟨xs_F0_0, List.forall_mem_cons.mpr ⟨xs_F0_1, List.forall_mem_cons.mpr ⟨xs_F0_2, List.forall_mem_cons.mpr ⟨xs_F0_3, List.forall_mem_cons.mpr ⟨xs_F0_4, List.forall_mem_cons.mpr ⟨xs_F0_5, List.forall_mem_cons.mpr ⟨xs_F0_6, List.forall_mem_cons.mpr ⟨xs_F0_7, List.forall_mem_cons.mpr ⟨xs_F0_8, List.forall_mem_cons.mpr ⟨xs_F0_9, List.forall_mem_cons.mpr ⟨xs_F0_10, List.forall_mem_cons.mpr ⟨xs_F0_11, List.forall_mem_cons.mpr ⟨xs_F0_12, List.forall_mem_cons.mpr ⟨xs_F0_13, List.forall_mem_cons.mpr ⟨xs_F0_14, List.forall_mem_cons.mpr ⟨xs_F0_15, List.forall_mem_cons.mpr ⟨xs_F0_16, List.forall_mem_cons.mpr ⟨xs_F0_17, List.forall_mem_cons.mpr ⟨xs_F0_18, List.forall_mem_cons.mpr ⟨xs_F0_19, List.forall_mem_cons.mpr ⟨xs_F0_20, List.forall_mem_cons.mpr ⟨xs_F0_21, List.forall_mem_cons.mpr ⟨xs_F0_22, List.forall_mem_cons.mpr ⟨xs_F0_23, List.forall_mem_cons.mpr ⟨xs_F0_24, List.forall_mem_cons.mpr ⟨xs_F0_25, List.forall_mem_cons.mpr ⟨xs_F0_26, List.forall_mem_cons.mpr ⟨xs_F0_27, List.forall_mem_cons.mpr ⟨xs_F0_28, List.forall_mem_cons.mpr ⟨xs_F0_29, List.forall_mem_cons.mpr ⟨xs_F0_30, List.forall_mem_cons.mpr ⟨xs_F0_31, List.forall_mem_cons.mpr ⟨xs_F0_32, List.forall_mem_cons.mpr ⟨xs_F0_33, List.forall_mem_cons.mpr ⟨xs_F0_34, List.forall_mem_cons.mpr ⟨xs_F0_35, List.forall_mem_cons.mpr ⟨xs_F0_36, List.forall_mem_cons.mpr ⟨xs_F0_37, List.forall_mem_cons.mpr ⟨xs_F0_38, List.forall_mem_cons.mpr ⟨xs_F0_39, List.forall_mem_cons.mpr ⟨xs_F0_40, List.forall_mem_cons.mpr ⟨xs_F0_41, List.forall_mem_cons.mpr ⟨xs_F0_42, List.forall_mem_cons.mpr ⟨xs_F0_43, List.forall_mem_cons.mpr ⟨xs_F0_44, List.forall_mem_cons.mpr ⟨xs_F0_45, List.forall_mem_cons.mpr ⟨xs_F0_46, List.forall_mem_cons.mpr ⟨xs_F0_47, List.forall_mem_cons.mpr ⟨xs_F0_48, List.forall_mem_cons.mpr ⟨xs_F0_49, List.forall_mem_cons.mpr ⟨xs_F0_50, List.forall_mem_cons.mpr ⟨xs_F0_51, List.forall_mem_cons.mpr ⟨xs_F0_52, List.forall_mem_cons.mpr ⟨xs_F0_53, List.forall_mem_cons.mpr ⟨xs_F0_54, List.forall_mem_cons.mpr ⟨xs_F0_55, List.forall_mem_cons.mpr ⟨xs_F0_56, List.forall_mem_cons.mpr ⟨xs_F0_57, List.forall_mem_cons.mpr ⟨xs_F0_58, List.forall_mem_cons.mpr ⟨xs_F0_59, List.forall_mem_cons.mpr ⟨xs_F0_60, List.forall_mem_cons.mpr ⟨xs_F0_61, List.forall_mem_cons.mpr ⟨xs_F0_62, List.forall_mem_cons.mpr ⟨xs_F0_63, List.forall_mem_cons.mpr ⟨xs_F0_64, List.forall_mem_cons.mpr ⟨xs_F0_65, List.forall_mem_cons.mpr ⟨xs_F0_66, List.forall_mem_cons.mpr ⟨xs_F0_67, List.forall_mem_cons.mpr ⟨xs_F0_68, List.forall_mem_cons.mpr ⟨xs_F0_69, List.forall_mem_cons.mpr ⟨xs_F0_70, List.forall_mem_cons.mpr ⟨xs_F0_71, List.forall_mem_cons.mpr ⟨xs_F0_72, List.forall_mem_cons.mpr ⟨xs_F0_73, List.forall_mem_cons.mpr ⟨xs_F0_74, List.forall_mem_cons.mpr ⟨xs_F0_75, List.forall_mem_cons.mpr ⟨xs_F0_76, List.forall_mem_cons.mpr ⟨xs_F0_77, List.forall_mem_cons.mpr ⟨xs_F0_78, List.forall_mem_cons.mpr ⟨xs_F0_79, List.forall_mem_cons.mpr ⟨xs_F0_80, List.forall_mem_cons.mpr ⟨xs_F0_81, List.forall_mem_cons.mpr ⟨xs_F0_82, List.forall_mem_cons.mpr ⟨xs_F0_83, (fun _ h => absurd h List.not_mem_nil)⟩⟩⟩⟩⟩⟩⟩⟩⟩⟩⟩⟩⟩⟩⟩⟩⟩⟩⟩⟩⟩⟩⟩⟩⟩⟩⟩⟩⟩⟩⟩⟩⟩⟩⟩⟩⟩⟩⟩⟩⟩⟩⟩⟩⟩⟩⟩⟩⟩⟩⟩⟩⟩⟩⟩⟩⟩⟩⟩⟩⟩⟩⟩⟩⟩⟩⟩⟩⟩⟩⟩⟩⟩⟩⟩⟩⟩⟩⟩⟩⟩⟩⟩⟩
theorem xs_F2_0 : xs_FF 2 3 2 7 := xs_f1 xs_n2 (by decide) ⟨by decide, _, Or.inl q248, Or.inl rfl⟩
theorem xs_F2_1 : xs_FF 2 15 2 0 := xs_f1 xs_n2 (by decide) ⟨by decide, _, Or.inl q239, Or.inl rfl⟩
theorem xs_F2_2 : xs_FF 2 19 0 10 := xs_f1 xs_n0 (by decide) ⟨by decide, _, Or.inr ⟨_, List.mem_of_getElem? (i := 9) rfl⟩, Or.inl rfl⟩
theorem xs_F2_3 : xs_FF 2 22 0 9 := xs_f1 xs_n0 (by decide) ⟨by decide, _, Or.inr ⟨_, List.mem_of_getElem? (i := 10) rfl⟩, Or.inl rfl⟩
theorem xs_F2_4 : xs_FF 2 30 2 1 := xs_f1 xs_n2 (by decide) ⟨by decide, _, Or.inl q240, Or.inl rfl⟩
theorem xs_F2_5 : xs_FF 2 33 2 2 := xs_f1 xs_n2 (by decide) ⟨by decide, _, Or.inl q241, Or.inl rfl⟩
theorem xs_F2_6 : xs_FF 2 57 2 3 := xs_f1 xs_n2 (by decide) ⟨by decide, _, Or.inl q242, Or.inl rfl⟩
theorem xs_F2_7 : xs_FF 2 76 0 14 := xs_f1 xs_n0 (by decide) ⟨by decide, _, Or.inr ⟨_, List.mem_of_getElem? (i := 11) rfl⟩, Or.inl rfl⟩
theorem xs_F2_8 : xs_FF 2 99 2 4 := xs_f1 xs_n2 (by decide) ⟨by decide, _, Or.inl q243, Or.inl rfl⟩
theorem xs_F2_9 : xs_FF 2 102 2 5 := xs_f1 xs_n2 (by decide) ⟨by decide, _, Or.inl q244, Or.inl rfl⟩
theorem xs_F2_10 : xs_FF 2 107 2 6 := xs_f1 xs_n2 (by decide) ⟨by decide, _, Or.inl q246, Or.inl rfl⟩
theorem xs_Fo2 : ∀ q ∈ xm_lkF_2, xs_FF 2 q.1 q.2.1 q.2.2 := List.forall_mem_cons.mpr ⟨xs_F2_0, List.forall_mem_cons.mpr ⟨xs_F2_1, List.forall_mem_cons.mpr ⟨xs_F2_2, List.forall_mem_cons.mpr ⟨xs_F2_3, List.forall_mem_cons.mpr ⟨xs_F2_4, List.forall_mem_cons.mpr ⟨xs_F2_5, List.forall_mem_cons.mpr ⟨xs_F2_6, List.forall_mem_cons.mpr ⟨xs_F2_7, List.forall_mem_cons.mpr ⟨xs_F2_8, List.forall_mem_cons.mpr ⟨xs_F2_9, List.forall_mem_cons.mpr ⟨xs_F2_10, (fun _ h => absurd h List.not_mem_nil)⟩⟩⟩⟩⟩⟩⟩⟩⟩⟩⟩
theorem xs_F3_0 : xs_FF 3 9 3 0 := xs_f1 xs_n3 (by decide) ⟨by decide, _, Or.inl q277, Or.inl rfl⟩
theorem xs_F3_1 : xs_FF 3 15 3 2 := xs_f1 xs_n3 (by decide) ⟨by decide, _, Or.inl q283, Or.inl rfl⟩
theorem xs_Fo3 : ∀ q ∈ xm_lkF_3, xs_FF 3 q.1 q.2.1 q.2.2 := List.forall_mem_cons.mpr ⟨xs_F3_0, List.forall_mem_cons.mpr ⟨xs_F3_1, (fun _ h => absurd h List.not_mem_nil)⟩⟩
theorem xs_F4_0 : xs_FF 4 7 4 2 := xs_f1 xs_n4 (by decide) ⟨by decide, _, Or.inl q1513, Or.inl rfl⟩
theorem xs_F4_1 : xs_FF 4 13 4 3 := xs_f1 xs_n4 (by decide) ⟨by decide, _, Or.inl q1514, Or.inl rfl⟩
theorem xs_F4_2 : xs_FF 4 16 4 4 := xs_f1 xs_n4 (by decide) ⟨by decide, _, Or.inl q1515, Or.inl rfl⟩
theorem xs_F4_3 : xs_FF 4 20 4 5 := xs_f1 xs_n4 (by decide) ⟨by decide, _, Or.inl q1516, Or.inl rfl⟩
theorem xs_F4_4 : xs_FF 4 23 4 7 := xs_f1 xs_n4 (by decide) ⟨by decide, _, Or.inl q1518, Or.inl rfl⟩
theorem xs_F4_5 : xs_FF 4 26 4 8 := xs_f1 xs_n4 (by decide) ⟨by decide, _, Or.inl q1519, Or.inl rfl⟩
theorem xs_F4_6 : xs_FF 4 29 4 9 := xs_f1 xs_n4 (by decide) ⟨by decide, _, Or.inl q1520, Or.inl rfl⟩
theorem xs_F4_7 : xs_FF 4 32 4 10 := xs_f1 xs_n4 (by decide) ⟨by decide, _, Or.inl q1521, Or.inl rfl⟩
theorem xs_F4_8 : xs_FF 4 35 4 11 := xs_f1 xs_n4 (by decide) ⟨by decide, _, Or.inl q1522, Or.inl rfl⟩
theorem xs_F4_9 : xs_FF 4 38 4 12 := xs_f1 xs_n4 (by decide) ⟨by decide, _, Or.inl q1523, Or.inl rfl⟩
theorem xs_F4_10 : xs_FF 4 41 4 13 := xs_f1 xs_n4 (by decide) ⟨by decide, _, Or.inl q1524, Or.inl rfl⟩
theorem xs_F4_11 : xs_FF 4 44 4 14 := xs_f1 xs_n4 (by decide) ⟨by decide, _, Or.inl q1525, Or.inl rfl⟩
theorem xs_F4_12 : xs_FF 4 47 4 15 := xs_f1 xs_n4 (by decide) ⟨by decide, _, Or.inl q1526, Or.inl rfl⟩
theorem xs_F4_13 : xs_FF 4 50 4 16 := xs_f1 xs_n4 (by decide) ⟨by decide, _, Or.inl q1527, Or.inl rfl⟩
theorem xs_F4_14 : xs_FF 4 54 4 17 := xs_f1 xs_n4 (by decide) ⟨by decide, _, Or.inl q1528, Or.inl rfl⟩
theorem xs_F4_15 : xs_FF 4 57 4 18 := xs_f1 xs_n4 (by decide) ⟨by decide, _, Or.inl q1529, Or.inl rfl⟩
theorem xs_F4_16 : xs_FF 4 60 4 19 := xs_f1 xs_n4 (by decide) ⟨by decide, _, Or.inl q1530, Or.inl rfl⟩
theorem xs_F4_17 : xs_FF 4 63 4 20 := xs_f1 xs_n4 (by decide) ⟨by decide, _, Or.inl q1531, Or.inl rfl⟩
theorem xs_F4_18 : xs_FF 4 66 4 21 := xs_f1 xs_n4 (by decide) ⟨by decide, _, Or.inl q1532, Or.inl rfl⟩
theorem xs_F4_19 : xs_FF 4 69 4 22 := xs_f1 xs_n4 (by decide) ⟨by decide, _, Or.inl q1533, Or.inl rfl⟩
theorem xs_F4_20 : xs_FF 4 72 4 23 := xs_f1 xs_n4 (by decide) ⟨by decide, _, Or.inl q1534, Or.inl rfl⟩
theorem xs_F4_21 : xs_FF 4 75 4 24 := xs_f1 xs_n4 (by decide) ⟨by decide, _, Or.inl q1535, Or.inl rfl⟩
theorem xs_F4_22 : xs_FF 4 78 4 25 := xs_f1 xs_n4 (by decide) ⟨by decide, _, Or.inl q1536, Or.inl rfl⟩
theorem xs_F4_23 : xs_FF 4 81 4 26 := xs_f1 xs_n4 (by decide) ⟨by decide, _, Or.inl q1537, Or.inl rfl⟩
theorem xs_F4_24 : xs_FF 4 84 4 27 := xs_f1 xs_n4 (by decide) ⟨by decide, _, Or.inl q1538, Or.inl rfl⟩
theorem xs_F4_25 : xs_FF 4 87 4 28 := xs_f1 xs_n4 (by decide) ⟨by decide, _, Or.inl q1539, Or.inl rfl⟩
theorem xs_F4_26 : xs_FF 4 90 4 29 := xs_f1 xs_n4 (by decide) ⟨by decide, _, Or.inl q1540, Or.inl rfl⟩
theorem xs_F4_27 : xs_FF 4 93 4 30 := xs_f1 xs_n4 (by decide) ⟨by decide, _, Or.inl q1541, Or.inl rfl⟩
theorem xs_F4_28 : xs_FF 4 96 4 31 := xs_f1 xs_n4 (by decide) ⟨by decide, _, Or.inl q1542, Or.inl rfl⟩
theorem xs_F4_29 : xs_FF 4 99 4 32 := xs_f1 xs_n4 (by decide) ⟨by decide, _, Or.inl q1543, Or.inl rfl⟩
theorem xs_F4_30 : xs_FF 4 102 4 33 := xs_f1 xs_n4 (by decide) ⟨by decide, _, Or.inl q1544, Or.inl rfl⟩
theorem xs_F4_31 : xs_FF 4 105 4 45 := xs_f1 xs_n4 (by decide) ⟨by decide, _, Or.inl q1556, Or.inl rfl⟩
theorem xs_F4_32 : xs_FF 4 108 4 47 := xs_f1 xs_n4 (by decide) ⟨by decide, _, Or.inl q1558, Or.inl rfl⟩
theorem xs_F4_33 : xs_FF 4 111 4 48 := xs_f1 xs_n4 (by decide) ⟨by decide, _, Or.inl q1559, Or.inl rfl⟩
theorem xs_F4_34 : xs_FF 4 114 4 49 := xs_f1 xs_n4 (by decide) ⟨by decide, _, Or.inl q1560, Or.inl rfl⟩
theorem xs_F4_35 : xs_FF 4 117 4 50 := xs_f1 xs_n4 (by decide) ⟨by decide, _, Or.inl q1561, Or.inl rfl⟩
theorem xs_F4_36 : xs_FF 4 120 4 51 := xs_f1 xs_n4 (by decide) ⟨by decide, _, Or.inl q1562, Or.inl rfl⟩
theorem xs_F4_37 : xs_FF 4 123 4 52 := xs_f1 xs_n4 (by decide) ⟨by decide, _, Or.inl q1563, Or.inl rfl⟩
theorem xs_F4_38 : xs_FF 4 126 4 53 := xs_f1 xs_n4 (by decide) ⟨by decide, _, Or.inl q1564, Or.inl rfl⟩
theorem xs_F4_39 : xs_FF 4 129 4 54 := xs_f1 xs_n4 (by decide) ⟨by decide, _, Or.inl q1565, Or.inl rfl⟩
theorem xs_F4_40 : xs_FF 4 132 4 55 := xs_f1 xs_n4 (by decide) ⟨by decide, _, Or.inl q1566, Or.inl rfl⟩
theorem xs_F4_41 : xs_FF 4 135 4 62 := xs_f1 xs_n4 (by decide) ⟨by decide, _, Or.inl q1573, Or.inl rfl⟩
theorem xs_F4_42 : xs_FF 4 138 4 63 := xs_f1 xs_n4 (by decide) ⟨by decide, _, Or.inl q1574, Or.inl rfl⟩
theorem xs_F4_43 : xs_FF 4 141 4 64 := xs_f1 xs_n4 (by decide) ⟨by decide, _, Or.inl q1575, Or.inl rfl⟩
theorem xs_F4_44 : xs_FF 4 144 4 65 := xs_f1 xs_n4 (by decide) ⟨by decide, _, Or.inl q1576, Or.inl rfl⟩
theorem xs_F4_45 : xs_FF 4 147 4 66 := xs_f1 xs_n4 (by decide) ⟨by decide, _, Or.inl q1577, Or.inl rfl⟩
theorem xs_F4_46 : xs_FF 4 150 4 67 := xs_f1 xs_n4 (by decide) ⟨by decide, _, Or.inl q1578, Or.inl rfl⟩
theorem xs_F4_47 : xs_FF 4 153 4 71 := xs_f1 xs_n4 (by decide) ⟨by decide, _, Or.inl q1582, Or.inl rfl⟩
theorem xs_F4_48 : xs_FF 4 156 4 72 := xs_f1 xs_n4 (by decide) ⟨by decide, _, Or.inl q1583, Or.inl rfl⟩
theorem xs_F4_49 : xs_FF 4 159 4 73 := xs_f1 xs_n4 (by decide) ⟨by decide, _, Or.inl q1584, Or.inl rfl⟩
theorem xs_F4_50 : xs_FF 4 162 4 74 := xs_f1 xs_n4 (by decide) ⟨by decide, _, Or.inl q1585, Or.inl rfl⟩
theorem xs_F4_51 : xs_FF 4 165 4 75 := xs_f1 xs_n4 (by decide) ⟨by decide, _, Or.inl q1586, Or.inl rfl⟩
theorem xs_F4_52 : xs_FF 4 168 4 76 := xs_f1 xs_n4 (by decide) ⟨by decide, _, Or.inl q1587, Or.inl rfl⟩
theorem xs_F4_53 : xs_FF 4 171 4 77 := xs_f1 xs_n4 (by decide) ⟨by decide, _, Or.inl q1588, Or.inl rfl⟩
theorem xs_F4_54 : xs_FF 4 174 4 78 := xs_f1 xs_n4 (by decide) ⟨by decide, _, Or.inl q1589, Or.inl rfl⟩
theorem xs_F4_55 : xs_FF 4 177 4 79 := xs_f1 xs_n4 (by decide) ⟨by decide, _, Or.inl q1590, Or.inl rfl⟩
theorem xs_F4_56 : xs_FF 4 180 4 80 := xs_f1 xs_n4 (by decide) ⟨by decide, _, Or.inl q1591, Or.inl rfl⟩
theorem xs_F4_57 : xs_FF 4 183 4 81 := xs_f1 xs_n4 (by decide) ⟨by decide, _, Or.inl q1592, Or.inl rfl⟩
theorem xs_F4_58 : xs_FF 4 186 4 82 := xs_f1 xs_n4 (by decide) ⟨by decide, _, Or.inl q1593, Or.inl rfl⟩
theorem xs_F4_59 : xs_FF 4 189 4 84 := xs_f1 xs_n4 (by decide) ⟨by decide, _, Or.inl q1595, Or.inl rfl⟩
theorem xs_F4_60 : xs_FF 4 192 4 85 := xs_f1 xs_n4 (by decide) ⟨by decide, _, Or.inl q1596, Or.inl rfl⟩
theorem xs_F4_61 : xs_FF 4 195 4 86 := xs_f1 xs_n4 (by decide) ⟨by decide, _, Or.inl q1597, Or.inl rfl⟩
theorem xs_F4_62 : xs_FF 4 198 4 87 := xs_f1 xs_n4 (by decide) ⟨by decide, _, Or.inl q1598, Or.inl rfl⟩
theorem xs_F4_63 : xs_FF 4 201 4 88 := xs_f1 xs_n4 (by decide) ⟨by decide, _, Or.inl q1599, Or.inl rfl⟩
theorem xs_F4_64 : xs_FF 4 204 4 89 := xs_f1 xs_n4 (by decide) ⟨by decide, _, Or.inl q1600, Or.inl rfl⟩
theorem xs_F4_65 : xs_FF 4 207 4 90 := xs_f1 xs_n4 (by decide) ⟨by decide, _, Or.inl q1601, Or.inl rfl⟩
theorem xs_F4_66 : xs_FF 4 210 4 91 := xs_f1 xs_n4 (by decide) ⟨by decide, _, Or.inl q1602, Or.inl rfl⟩
theorem xs_F4_67 : xs_FF 4 213 4 96 := xs_f1 xs_n4 (by decide) ⟨by decide, _, Or.inl q1607, Or.inl rfl⟩
theorem xs_F4_68 : xs_FF 4 216 4 97 := xs_f1 xs_n4 (by decide) ⟨by decide, _, Or.inl q1608, Or.inl rfl⟩
theorem xs_F4_69 : xs_FF 4 219 4 98 := xs_f1 xs_n4 (by decide) ⟨by decide, _, Or.inl q1609, Or.inl rfl⟩
theorem xs_F4_70 : xs_FF 4 222 4 99 := xs_f1 xs_n4 (by decide) ⟨by decide, _, Or.inl q1610, Or.inl rfl⟩
theorem xs_F4_71 : xs_FF 4 225 4 100 := xs_f1 xs_n4 (by decide) ⟨by decide, _, Or.inl q1611, Or.inl rfl⟩
theorem xs_F4_72 : xs_FF 4 228 4 101 := xs_f1 xs_n4 (by decide) ⟨by decide, _, Or.inl q1612, Or.inl rfl⟩
theorem xs_F4_73 : xs_FF 4 231 4 102 := xs_f1 xs_n4 (by decide) ⟨by decide, _, Or.inl q1613, Or.inl rfl⟩
theorem xs_F4_74 : xs_FF 4 234 4 0 := xs_f1 xs_n4 (by decide) ⟨by decide, _, Or.inl q1511, Or.inl rfl⟩
theorem xs_F4_75 : xs_FF 4 248 4 6 := xs_f1 xs_n4 (by decide) ⟨by decide, _, Or.inl q1517, Or.inl rfl⟩
theorem xs_F4_76 : xs_FF 4 285 4 1 := xs_f1 xs_n4 (by decide) ⟨by decide, _, Or.inl q1512, Or.inl rfl⟩
theorem xs_F4_77 : xs_FF 4 288 4 68 := xs_f1 xs_n4 (by decide) ⟨by decide, _, Or.inl q1579, Or.inl rfl⟩
theorem xs_F4_78 : xs_FF 4 291 4 70 := xs_f1 xs_n4 (by decide) ⟨by decide, _, Or.inl q1581, Or.inl rfl⟩
theorem xs_F4_79 : xs_FF 4 294 4 69 := xs_f1 xs_n4 (by decide) ⟨by decide, _, Or.inl q1580, Or.inl rfl⟩
theorem xs_F4_80 : xs_FF 4 297 4 36 := xs_f1 xs_n4 (by decide) ⟨by decide, _, Or.inl q1547, Or.inl rfl⟩
theorem xs_F4_81 : xs_FF 4 342 4 37 := xs_f1 xs_n4 (by decide) ⟨by decide, _, Or.inl q1548, Or.inl rfl⟩
theorem xs_F4_82 : xs_FF 4 348 4 39 := xs_f1 xs_n4 (by decide) ⟨by decide, _, Or.inl q1550, Or.inl rfl⟩
theorem xs_F4_83 : xs_FF 4 351 4 38 := xs_f1 xs_n4 (by decide) ⟨by decide, _, Or.inl q1549, Or.inl rfl⟩
theorem xs_F4_84 : xs_FF 4 364 4 40 := xs_f1 xs_n4 (by decide) ⟨by decide, _, Or.inl q1551, Or.inl rfl⟩
theorem xs_F4_85 : xs_FF 4 367 4 41 := xs_f1 xs_n4 (by decide) ⟨by decide, _, Or.inl q1552, Or.inl rfl⟩
theorem xs_F4_86 : xs_FF 4 370 4 42 := xs_f1 xs_n4 (by decide) ⟨by decide, _, Or.inl q1553, Or.inl rfl⟩
theorem xs_F4_87 : xs_FF 4 379 4 35 := xs_f1 xs_n4 (by decide) ⟨by decide, _, Or.inl q1546, Or.inl rfl⟩
theorem xs_F4_88 : xs_FF 4 382 4 44 := xs_f1 xs_n4 (by decide) ⟨by decide, _, Or.inl q1555, Or.inl rfl⟩
theorem xs_F4_89 : xs_FF 4 411 4 34 := xs_f1 xs_n4 (by decide) ⟨by decide, _, Or.inl q1545, Or.inl rfl⟩
theorem xs_F4_90 : xs_FF 4 426 4 43 := xs_f1 xs_n4 (by decide) ⟨by decide, _, Or.inl q1554, Or.inl rfl⟩
theorem xs_F4_91 : xs_FF 4 453 4 46 := xs_f1 xs_n4 (by decide) ⟨by decide, _, Or.inl q1557, Or.inl rfl⟩
theorem xs_F4_92 : xs_FF 4 475 4 56 := xs_f1 xs_n4 (by decide) ⟨by decide, _, Or.inl q1567, Or.inl rfl⟩
theorem xs_F4_93 : xs_FF 4 478 4 57 := xs_f1 xs_n4 (by decide) ⟨by decide, _, Or.inl q1568, Or.inl rfl⟩
theorem xs_F4_94 : xs_FF 4 481 4 58 := xs_f1 xs_n4 (by decide) ⟨by decide, _, Or.inl q1569, Or.inl rfl⟩
theorem xs_F4_95 : xs_FF 4 484 4 59 := xs_f1 xs_n4 (by decide) ⟨by decide, _, Or.inl q1570, Or.inl rfl⟩
theorem xs_F4_96 : xs_FF 4 487 4 60 := xs_f1 xs_n4 (by decide) ⟨by decide, _, Or.inl q1571, Or.inl rfl⟩
theorem xs_F4_97 : xs_FF 4 500 4 61 := xs_f1 xs_n4 (by decide) ⟨by decide, _, Or.inl q1572, Or.inl rfl⟩
theorem xs_F4_98 : xs_FF 4 516 4 83 := xs_f1 xs_n4 (by decide) ⟨by decide, _, Or.inl q1594, Or.inl rfl⟩
theorem xs_F4_99 : xs_FF 4 519 4 92 := xs_f1 xs_n4 (by decide) ⟨by decide, _, Or.inl q1603, Or.inl rfl⟩
theorem xs_F4_100 : xs_FF 4 522 4 93 := xs_f1 xs_n4 (by decide) ⟨by decide, _, Or.inl q1604, Or.inl rfl⟩
theorem xs_F4_101 : xs_FF 4 528 4 94 := xs_f1 xs_n4 (by decide) ⟨by decide, _, Or.inl q1605, Or.inl rfl⟩
theorem xs_F4_102 : xs_FF 4 543 4 95 := xs_f1 xs_n4 (by decide) ⟨by decide, _, Or.inl q1606, Or.inl rfl⟩
theorem xs_Fo4 : ∀ q ∈ xm_lkF_4, xs_FF 4 q.1 q.2.1 q.2.2 := List.forall_mem_cons.mpr ⟨xs_F4_0, List.forall_mem_cons.mpr ⟨xs_F4_1, List.forall_mem_cons.mpr ⟨xs_F4_2, List.forall_mem_cons.mpr ⟨xs_F4_3, List.forall_mem_cons.mpr ⟨xs_F4_4, List.forall_mem_cons.mpr ⟨xs_F4_5, List.forall_mem_cons.mpr ⟨xs_F4_6, List.forall_mem_cons.mpr ⟨xs_F4_7, List.forall_mem_cons.mpr ⟨xs_F4_8, List.forall_mem_cons.mpr ⟨xs_F4_9, List.forall_mem_cons.mpr ⟨xs_F4_10, List.forall_mem_cons.mpr ⟨xs_F4_11, List.forall_mem_cons.mpr ⟨xs_F4_12, List.forall_mem_cons.mpr ⟨xs_F4_13, List.forall_mem_cons.mpr ⟨xs_F4_14, List.forall_mem_cons.mpr ⟨xs_F4_15, List.forall_mem_cons.mpr ⟨xs_F4_16, List.forall_mem_cons.mpr ⟨xs_F4_17, List.forall_mem_cons.mpr ⟨xs_F4_18, List.forall_mem_cons.mpr ⟨xs_F4_19, List.forall_mem_cons.mpr ⟨xs_F4_20, List.forall_mem_cons.mpr ⟨xs_F4_21, List.forall_mem_cons.mpr ⟨xs_F4_22, List.forall_mem_cons.mpr ⟨xs_F4_23, List.forall_mem_cons.mpr ⟨xs_F4_24, List.forall_mem_cons.mpr ⟨xs_F4_25, List.forall_mem_cons.mpr ⟨xs_F4_26, List.forall_mem_cons.mpr ⟨xs_F4_27, List.forall_mem_cons.mpr ⟨xs_F4_28, List.forall_mem_cons.mpr ⟨xs_F4_29, List.forall_mem_cons.mpr ⟨xs_F4_30, List.forall_mem_cons.mpr ⟨xs_F4_31, List.forall_mem_cons.mpr ⟨xs_F4_32, List.forall_mem_cons.mpr ⟨xs_F4_33, List.forall_mem_cons.mpr ⟨xs_F4_34, List.forall_mem_cons.mpr ⟨xs_F4_35, List.forall_mem_cons.mpr ⟨xs_F4_36, List.forall_mem_cons.mpr ⟨xs_F4_37, List.forall_mem_cons.mpr ⟨xs_F4_38, List.forall_mem_cons.mpr ⟨xs_F4_39, List.forall_mem_cons.mpr ⟨xs_F4_40, List.forall_mem_cons.mpr ⟨xs_F4_41, List.forall_mem_cons.mpr ⟨xs_F4_42, List.forall_mem_cons.mpr ⟨xs_F4_43, List.forall_mem_cons.mpr ⟨xs_F4_44, List.forall_mem_cons.mpr ⟨xs_F4_45, List.forall_mem_cons.mpr ⟨xs_F4_46, List.forall_mem_cons.mpr ⟨xs_F4_47, List.forall_mem_cons.mpr ⟨xs_F4_48, List.forall_mem_cons.mpr ⟨xs_F4_49, List.forall_mem_cons.mpr ⟨xs_F4_50, List.forall_mem_cons.mpr ⟨xs_F4_51, List.forall_mem_cons.mpr ⟨xs_F4_52, List.forall_mem_cons.mpr ⟨xs_F4_53, List.forall_mem_cons.mpr ⟨xs_F4_54, List.forall_mem_cons.mpr ⟨xs_F4_55, List.forall_mem_cons.mpr ⟨xs_F4_56, List.forall_mem_cons.mpr ⟨xs_F4_57, List.forall_mem_cons.mpr ⟨xs_F4_58, List.forall_mem_cons.mpr ⟨xs_F4_59, List.forall_mem_cons.mpr ⟨xs_F4_60, List.forall_mem_cons.mpr ⟨xs_F4_61, List.forall_mem_cons.mpr ⟨xs_F4_62, List.forall_mem_cons.mpr ⟨xs_F4_63, List.forall_mem_cons.mpr ⟨xs_F4_64, List.forall_mem_cons.mpr ⟨xs_F4_65, List.forall_mem_cons.mpr ⟨xs_F4_66, List.forall_mem_cons.mpr ⟨xs_F4_67, List.forall_mem_cons.mpr ⟨xs_F4_68, List.forall_mem_cons.mpr ⟨xs_F4_69, List.forall_mem_cons.mpr ⟨xs_F4_70, List.forall_mem_cons.mpr ⟨xs_F4_71, List.forall_mem_cons.mpr ⟨xs_F4_72, List.forall_mem_cons.mpr ⟨xs_F4_73, List.forall_mem_cons.mpr ⟨xs_F4_74, List.forall_mem_cons.mpr ⟨xs_F4_75, List.forall_mem_cons.mpr ⟨xs_F4_76, List.forall_mem_cons.mpr ⟨xs_F4_77, List.forall_mem_cons.mpr ⟨xs_F4_78, List.forall_mem_cons.mpr ⟨xs_F4_79, List.forall_mem_cons.mpr ⟨xs_F4_80, List.forall_mem_cons.mpr ⟨xs_F4_81, List.forall_mem_cons.mpr ⟨xs_F4_82, List.forall_mem_cons.mpr ⟨xs_F4_83, List.forall_mem_cons.mpr ⟨xs_F4_84, List.forall_mem_cons.mpr ⟨xs_F4_85, List.forall_mem_cons.mpr ⟨xs_F4_86, List.forall_mem_cons.mpr ⟨xs_F4_87, List.forall_mem_cons.mpr ⟨xs_F4_88, List.forall_mem_cons.mpr ⟨xs_F4_89, List.forall_mem_cons.mpr ⟨xs_F4_90, List.forall_mem_cons.mpr ⟨xs_F4_91, List.forall_mem_cons.mpr ⟨xs_F4_92, List.forall_mem_cons.mpr ⟨xs_F4_93, List.forall_mem_cons.mpr ⟨xs_F4_94, List.forall_mem_cons.mpr ⟨xs_F4_95, List.forall_mem_cons.mpr ⟨xs_F4_96, List.forall_mem_cons.mpr ⟨xs_F4_97, List.forall_mem_cons.mpr ⟨xs_F4_98, List.forall_mem_cons.mpr ⟨xs_F4_99, List.forall_mem_cons.mpr ⟨xs_F4_100, List.forall_mem_cons.mpr ⟨xs_F4_101, List.forall_mem_cons.mpr ⟨xs_F4_102, (fun _ h => absurd h List.not_mem_nil)⟩⟩⟩⟩⟩⟩⟩⟩⟩⟩⟩⟩⟩⟩⟩⟩⟩⟩⟩⟩⟩⟩⟩⟩⟩⟩⟩⟩⟩⟩⟩⟩⟩⟩⟩⟩⟩⟩⟩⟩⟩⟩⟩⟩⟩⟩⟩⟩⟩⟩⟩⟩⟩⟩⟩⟩⟩⟩⟩⟩⟩⟩⟩⟩⟩⟩⟩⟩⟩⟩⟩⟩⟩⟩⟩⟩⟩⟩⟩⟩⟩⟩⟩⟩⟩⟩⟩⟩⟩⟩⟩⟩⟩⟩⟩⟩⟩⟩⟩⟩⟩⟩⟩
theorem xs_F5_0 : xs_FF 5 9 5 5 := xs_f1 xs_n5 (by decide) ⟨by decide, _, Or.inl q497, Or.inl rfl⟩
theorem xs_F5_1 : xs_FF 5 15 5 7 := xs_f1 xs_n5 (by decide) ⟨by decide, _, Or.inl q501, Or.inl rfl⟩
theorem xs_F5_2 : xs_FF 5 18 5 0 := xs_f1 xs_n5 (by decide) ⟨by decide, _, Or.inl q486, Or.inl rfl⟩
theorem xs_F5_3 : xs_FF 5 21 5 1 := xs_f1 xs_n5 (by decide) ⟨by decide, _, Or.inl q488, Or.inl rfl⟩
theorem xs_F5_4 : xs_FF 5 24 5 3 := xs_f1 xs_n5 (by decide) ⟨by decide, _, Or.inl q493, Or.inl rfl⟩
theorem xs_F5_5 : xs_FF 5 27 5 2 := xs_f1 xs_n5 (by decide) ⟨by decide, _, Or.inl q490, Or.inl rfl⟩
theorem xs_F5_6 : xs_FF 5 30 5 4 := xs_f1 xs_n5 (by decide) ⟨by decide, _, Or.inl q495, Or.inl rfl⟩
theorem xs_F5_7 : xs_FF 5 33 5 9 := xs_f1 xs_n5 (by decide) ⟨by decide, _, Or.inl q505, Or.inl rfl⟩
theorem xs_F5_8 : xs_FF 5 37 5 10 := xs_f1 xs_n5 (by decide) ⟨by decide, _, Or.inl q507, Or.inl rfl⟩
theorem xs_F5_9 : xs_FF 5 46 5 8 := xs_f1 xs_n5 (by decide) ⟨by decide, _, Or.inl q503, Or.inl rfl⟩
theorem xs_F5_10 : xs_FF 5 57 5 6 := xs_f1 xs_n5 (by decide) ⟨by decide, _, Or.inl q499, Or.inl rfl⟩
theorem xs_Fo5 : ∀ q ∈ xm_lkF_5, xs_FF 5 q.1 q.2.1 q.2.2 := List.forall_mem_cons.mpr ⟨xs_F5_0, List.forall_mem_cons.mpr ⟨xs_F5_1, List.forall_mem_cons.mpr ⟨xs_F5_2, List.forall_mem_cons.mpr ⟨xs_F5_3, List.forall_mem_cons.mpr ⟨xs_F5_4, List.forall_mem_cons.mpr ⟨xs_F5_5, List.forall_mem_cons.mpr ⟨xs_F5_6, List.forall_mem_cons.mpr ⟨xs_F5_7, List.forall_mem_cons.mpr ⟨xs_F5_8, List.forall_mem_cons.mpr ⟨xs_F5_9, List.forall_mem_cons.mpr ⟨xs_F5_10, (fun _ h => absurd h List.not_mem_nil)⟩⟩⟩⟩⟩⟩⟩⟩⟩⟩⟩
theorem xs_F7_0 : xs_FF 7 7 7 0 := xs_f1 xs_n7 (by decide) ⟨by decide, _, Or.inl q948, Or.inl rfl⟩
theorem xs_Fo7 : ∀ q ∈ xm_lkF_7, xs_FF 7 q.1 q.2.1 q.2.2 := List.forall_mem_cons.mpr ⟨xs_F7_0, (fun _ h => absurd h List.not_mem_nil)⟩
theorem xs_F8_0 : xs_FF 8 7 8 0 := xs_f1 xs_n8 (by decide) ⟨by decide, _, Or.inl q958, Or.inl rfl⟩
theorem xs_Fo8 : ∀ q ∈ xm_lkF_8, xs_FF 8 q.1 q.2.1 q.2.2 := List.forall_mem_cons.mpr ⟨xs_F8_0, (fun _ h => absurd h List.not_mem_nil)⟩
theorem xs_F9_0 : xs_FF 9 7 9 1 := xs_f1 xs_n9 (by decide) ⟨by decide, _, Or.inl q973, Or.inl rfl⟩
theorem xs_F9_1 : xs_FF 9 13 9 0 := xs_f1 xs_n9 (by decide) ⟨by decide, _, Or.inl q972, Or.inl rfl⟩
theorem xs_F9_2 : xs_FF 9 17 9 2 := xs_f1 xs_n9 (by decide) ⟨by decide, _, Or.inl q974, Or.inl rfl⟩
theorem xs_Fo9 : ∀ q ∈ xm_lkF_9, xs_FF 9 q.1 q.2.1 q.2.2 := List.forall_mem_cons.mpr ⟨xs_F9_0, List.forall_mem_cons.mpr ⟨xs_F9_1, List.forall_mem_cons.mpr ⟨xs_F9_2, (fun _ h => absurd h List.not_mem_nil)⟩⟩⟩
theorem xs_F10_0 : xs_FF 10 7 10 0 := xs_f2 [11, 13, 14, 15, 16] xs_n10 (List.forall_mem_cons.mpr ⟨⟨by decide, rfl, rfl, rfl, ⟨by decide, _, Or.inl q1017, Or.inl rfl⟩⟩, List.forall_mem_cons.mpr ⟨⟨by decide, rfl, rfl, rfl, ⟨by decide, _, Or.inl q1017, Or.inl rfl⟩⟩, List.forall_mem_cons.mpr ⟨⟨by decide, rfl, rfl, rfl, ⟨by decide, _, Or.inl q1017, Or.inl rfl⟩⟩, List.forall_mem_cons.mpr ⟨⟨by decide, rfl, rfl, rfl, ⟨by decide, _, Or.inl q1017, Or.inl rfl⟩⟩, List.forall_mem_cons.mpr ⟨⟨by decide, rfl, rfl, rfl, ⟨by decide, _, Or.inl q1017, Or.inl rfl⟩⟩, (fun _ h => absurd h List.not_mem_nil)⟩⟩⟩⟩⟩)
theorem xs_F10_1 : xs_FF 10 13 10 1 := xs_f2 [11, 13, 14, 15, 16] xs_n10 (List.forall_mem_cons.mpr ⟨⟨by decide, rfl, rfl, rfl, ⟨by decide, _, Or.inl q1020, Or.inl rfl⟩⟩, List.forall_mem_cons.mpr ⟨⟨by decide, rfl, rfl, rfl, ⟨by decide, _, Or.inl q1020, Or.inl rfl⟩⟩, List.forall_mem_cons.mpr ⟨⟨by decide, rfl, rfl, rfl, ⟨by decide, _, Or.inl q1020, Or.inl rfl⟩⟩, List.forall_mem_cons.mpr ⟨⟨by decide, rfl, rfl, rfl, ⟨by decide, _, Or.inl q1020, Or.inl rfl⟩⟩, List.forall_mem_cons.mpr ⟨⟨by decide, rfl, rfl, rfl, ⟨by decide, _, Or.inl q1020, Or.inl rfl⟩⟩, (fun _ h => absurd h List.not_mem_nil)⟩⟩⟩⟩⟩)
theorem xs_Fo10 : ∀ q ∈ xm_lkF_10, xs_FF 10 q.1 q.2.1 q.2.2 := List.forall_mem_cons.mpr ⟨xs_F10_0, List.forall_mem_cons.mpr ⟨xs_F10_1, (fun _ h => absurd h List.not_mem_nil)⟩⟩
theorem xs_F11_0 : xs_FF 11 9 3 3 := xs_f1 xs_n3 (by decide) ⟨by decide, _, Or.inl q286, Or.inl rfl⟩
theorem xs_F11_1 : xs_FF 11 15 11 0 := xs_f1 xs_n11 (by decide) ⟨by decide, _, Or.inl q1018, Or.inr q1019⟩
theorem xs_Fo11 : ∀ q ∈ xm_lkF_11, xs_FF 11 q.1 q.2.1 q.2.2 := List.forall_mem_cons.mpr ⟨xs_F11_0, List.forall_mem_cons.mpr ⟨xs_F11_1, (fun _ h => absurd h List.not_mem_nil)⟩⟩
theorem xs_F12_0 : xs_FF 12 7 12 0 := xs_f1 xs_n12 (by decide) ⟨by decide, _, Or.inl q1006, Or.inl rfl⟩
theorem xs_Fo12 : ∀ q ∈ xm_lkF_12, xs_FF 12 q.1 q.2.1 q.2.2 := List.forall_mem_cons.mpr ⟨xs_F12_0, (fun _ h => absurd h List.not_mem_nil)⟩
theorem xs_F13_0 : xs_FF 13 7 3 4 := xs_f1 xs_n3 (by decide) ⟨by decide, _, Or.inl q288, Or.inl rfl⟩
theorem xs_Fo13 : ∀ q ∈ xm_lkF_13, xs_FF 13 q.1 q.2.1 q.2.2 := List.forall_mem_cons.mpr ⟨xs_F13_0, (fun _ h => absurd h List.not_mem_nil)⟩
theorem xs_F14_0 : xs_FF 14 7 14 2 := xs_f2 [14, 15, 16] xs_n14 (List.forall_mem_cons.mpr ⟨⟨by decide, rfl, rfl, rfl, ⟨by decide, _, Or.inl q1041, Or.inl rfl⟩⟩, List.forall_mem_cons.mpr ⟨⟨by decide, rfl, rfl, rfl, ⟨by decide, _, Or.inl q1041, Or.inl rfl⟩⟩, List.forall_mem_cons.mpr ⟨⟨by decide, rfl, rfl, rfl, ⟨by decide, _, Or.inl q1041, Or.inl rfl⟩⟩, (fun _ h => absurd h List.not_mem_nil)⟩⟩⟩)
theorem xs_F14_1 : xs_FF 14 13 14 3 := xs_f2 [14, 15, 16] xs_n14 (List.forall_mem_cons.mpr ⟨⟨by decide, rfl, rfl, rfl, ⟨by decide, _, Or.inl q1042, Or.inl rfl⟩⟩, List.forall_mem_cons.mpr ⟨⟨by decide, rfl, rfl, rfl, ⟨by decide, _, Or.inl q1042, Or.inl rfl⟩⟩, List.forall_mem_cons.mpr ⟨⟨by decide, rfl, rfl, rfl, ⟨by decide, _, Or.inl q1042, Or.inl rfl⟩⟩, (fun _ h => absurd h List.not_mem_nil)⟩⟩⟩)
theorem xs_F14_2 : xs_FF 14 16 3 0 := xs_f1 xs_n3 (by decide) ⟨by decide, _, Or.inl q278, Or.inl rfl⟩
theorem xs_Fo14 : ∀ q ∈ xm_lkF_14, xs_FF 14 q.1 q.2.1 q.2.2 := List.forall_mem_cons.mpr ⟨xs_F14_0, List.forall_mem_cons.mpr ⟨xs_F14_1, List.forall_mem_cons.mpr ⟨xs_F14_2, (fun _ h => absurd h List.not_mem_nil)⟩⟩⟩
theorem xs_F15_0 : xs_FF 15 9 15 3 := xs_f1 xs_n15 (by decide) ⟨by decide, _, Or.inl q1043, Or.inr q1044⟩
theorem xs_F15_1 : xs_FF 15 15 3 1 := xs_f1 xs_n3 (by decide) ⟨by decide, _, Or.inl q281, Or.inl rfl⟩
theorem xs_Fo15 : ∀ q ∈ xm_lkF_15, xs_FF 15 q.1 q.2.1 q.2.2 := List.forall_mem_cons.mpr ⟨xs_F15_0, List.forall_mem_cons.mpr ⟨xs_F15_1, (fun _ h => absurd h List.not_mem_nil)⟩⟩
theorem xs_F16_0 : xs_FF 16 9 16 3 := xs_f1 xs_n16 (by decide) ⟨by decide, _, Or.inl q1045, Or.inr q1046⟩
theorem xs_F16_1 : xs_FF 16 15 3 2 := xs_f1 xs_n3 (by decide) ⟨by decide, _, Or.inl q284, Or.inl rfl⟩
theorem xs_Fo16 : ∀ q ∈ xm_lkF_16, xs_FF 16 q.1 q.2.1 q.2.2 := List.forall_mem_cons.mpr ⟨xs_F16_0, List.forall_mem_cons.mpr ⟨xs_F16_1, (fun _ h => absurd h List.not_mem_nil)⟩⟩
theorem xs_F17_0 : xs_FF 17 9 17 1 := xs_f1 xs_n17 (by decide) ⟨by decide, _, Or.inl q1225, Or.inl rfl⟩
theorem xs_F17_1 : xs_FF 17 15 17 4 := xs_f1 xs_n17 (by decide) ⟨by decide, _, Or.inl q1230, Or.inl rfl⟩
theorem xs_F17_2 : xs_FF 17 19 17 0 := xs_f1 xs_n17 (by decide) ⟨by decide, _, Or.inl q1223, Or.inl rfl⟩
theorem xs_Fo17 : ∀ q ∈ xm_lkF_17, xs_FF 17 q.1 q.2.1 q.2.2 := List.forall_mem_cons.mpr ⟨xs_F17_0, List.forall_mem_cons.mpr ⟨xs_F17_1, List.forall_mem_cons.mpr ⟨xs_F17_2, (fun _ h => absurd h List.not_mem_nil)⟩⟩⟩
theorem xs_F18_0 : xs_FF 18 3 18 5 := xs_f2 [19, 20] xs_n18 (List.forall_mem_cons.mpr ⟨⟨by decide, rfl, rfl, rfl, ⟨by decide, _, Or.inl q1313, Or.inl rfl⟩⟩, List.forall_mem_cons.mpr ⟨⟨by decide, rfl, rfl, rfl, ⟨by decide, _, Or.inl q1313, Or.inl rfl⟩⟩, (fun _ h => absurd h List.not_mem_nil)⟩⟩)
theorem xs_F18_1 : xs_FF 18 15 18 4 := xs_f2 [19, 20] xs_n18 (List.forall_mem_cons.mpr ⟨⟨by decide, rfl, rfl, rfl, ⟨by decide, _, Or.inl q1311, Or.inl rfl⟩⟩, List.forall_mem_cons.mpr ⟨⟨by decide, rfl, rfl, rfl, ⟨by decide, _, Or.inl q1311, Or.inl rfl⟩⟩, (fun _ h => absurd h List.not_mem_nil)⟩⟩)
theorem xs_F18_2 : xs_FF 18 19 18 0 := xs_f2 [19, 20] xs_n18 (List.forall_mem_cons.mpr ⟨⟨by decide, rfl, rfl, rfl, ⟨by decide, _, Or.inl q1292, Or.inl rfl⟩⟩, List.forall_mem_cons.mpr ⟨⟨by decide, rfl, rfl, rfl, ⟨by decide, _, Or.inl q1292, Or.inl rfl⟩⟩, (fun _ h => absurd h List.not_mem_nil)⟩⟩)
theorem xs_F18_3 : xs_FF 18 23 18 1 := xs_f2 [19, 20] xs_n18 (List.forall_mem_cons.mpr ⟨⟨by decide, rfl, rfl, rfl, ⟨by decide, _, Or.inl q1299, Or.inl rfl⟩⟩, List.forall_mem_cons.mpr ⟨⟨by decide, rfl, rfl, rfl, ⟨by decide, _, Or.inl q1299, Or.inl rfl⟩⟩, (fun _ h => absurd h List.not_mem_nil)⟩⟩)
theorem xs_F18_4 : xs_FF 18 30 18 2 := xs_f2 [19, 20] xs_n18 (List.forall_mem_cons.mpr ⟨⟨by decide, rfl, rfl, rfl, ⟨by decide, _, Or.inl q1304, Or.inl rfl⟩⟩, List.forall_mem_cons.mpr ⟨⟨by decide, rfl, rfl, rfl, ⟨by decide, _, Or.inl q1304, Or.inl rfl⟩⟩, (fun _ h => absurd h List.not_mem_nil)⟩⟩)
theorem xs_F18_5 : xs_FF 18 33 18 3 := xs_f2 [19, 20] xs_n18 (List.forall_mem_cons.mpr ⟨⟨by decide, rfl, rfl, rfl, ⟨by decide, _, Or.inl q1308, Or.inl rfl⟩⟩, List.forall_mem_cons.mpr ⟨⟨by decide, rfl, rfl, rfl, ⟨by decide, _, Or.inl q1308, Or.inl rfl⟩⟩, (fun _ h => absurd h List.not_mem_nil)⟩⟩)
theorem xs_Fo18 : ∀ q ∈ xm_lkF_18, xs_FF 18 q.1 q.2.1 q.2.2 := List.forall_mem_cons.mpr ⟨xs_F18_0, List.forall_mem_cons.mpr ⟨xs_F18_1, List.forall_mem_cons.mpr ⟨xs_F18_2, List.forall_mem_cons.mpr ⟨xs_F18_3, List.forall_mem_cons.mpr ⟨xs_F18_4, List.forall_mem_cons.mpr ⟨xs_F18_5, (fun _ h => absurd h List.not_mem_nil)⟩⟩⟩⟩⟩⟩
theorem xs_F19_0 : xs_FF 19 3 19 9 := xs_f1 xs_n19 (by decide) ⟨by decide, _, Or.inl q1290, Or.inl rfl⟩
theorem xs_F19_1 : xs_FF 19 17 19 8 := xs_f1 xs_n19 (by decide) ⟨by decide, _, Or.inl q1288, Or.inl rfl⟩
theorem xs_F19_2 : xs_FF 19 21 19 6 := xs_f1 xs_n19 (by decide) ⟨by decide, _, Or.inl q1286, Or.inl rfl⟩
theorem xs_F19_3 : xs_FF 19 25 19 7 := xs_f1 xs_n19 (by decide) ⟨by decide, _, Or.inl q1287, Or.inl rfl⟩
theorem xs_F19_4 : xs_FF 19 28 0 19 := xs_f1 xs_n0 (by decide) ⟨by decide, _, Or.inr ⟨_, List.mem_of_getElem? (i := 3) rfl⟩, Or.inl rfl⟩
theorem xs_F19_5 : xs_FF 19 38 3 0 := xs_f1 xs_n3 (by decide) ⟨by decide, _, Or.inl q279, Or.inl rfl⟩
theorem xs_F19_6 : xs_FF 19 41 0 30 := xs_f1 xs_n0 (by decide) ⟨by decide, _, Or.inr ⟨_, List.mem_of_getElem? (i := 4) rfl⟩, Or.inl rfl⟩
theorem xs_F19_7 : xs_FF 19 45 17 3 := xs_f1 xs_n17 (by decide) ⟨by decide, _, Or.inl q1228, Or.inl rfl⟩
theorem xs_F19_8 : xs_FF 19 50 0 4 := xs_f1 xs_n0 (by decide) ⟨by decide, _, Or.inr ⟨_, List.mem_of_getElem? (i := 5) rfl⟩, Or.inl rfl⟩
theorem xs_F19_9 : xs_FF 19 53 19 0 := xs_f1 xs_n19 (by decide) ⟨by decide, _, Or.inl q1296, Or.inr q1297⟩
theorem xs_F19_10 : xs_FF 19 63 0 34 := xs_f1 xs_n0 (by decide) ⟨by decide, _, Or.inr ⟨_, List.mem_of_getElem? (i := 6) rfl⟩, Or.inl rfl⟩
theorem xs_F19_11 : xs_FF 19 66 0 0 := xs_f1 xs_n0 (by decide) ⟨by decide, _, Or.inr ⟨_, List.mem_of_getElem? (i := 7) rfl⟩, Or.inl rfl⟩
theorem xs_F19_12 : xs_FF 19 70 5 2 := xs_f1 xs_n5 (by decide) ⟨by decide, _, Or.inl q491, Or.inl rfl⟩
theorem xs_F19_13 : xs_FF 19 75 19 1 := xs_f1 xs_n19 (by decide) ⟨by decide, _, Or.inl q1300, Or.inr q1301⟩
theorem xs_F19_14 : xs_FF 19 82 0 33 := xs_f1 xs_n0 (by decide) ⟨by decide, _, Or.inr ⟨_, List.mem_of_getElem? (i := 8) rfl⟩, Or.inl rfl⟩
theorem xs_Fo19 : ∀ q ∈ xm_lkF_19, xs_FF 19 q.1 q.2.1 q.2.2 := List.forall_mem_cons.mpr ⟨xs_F19_0, List.forall_mem_cons.mpr ⟨xs_F19_1, List.forall_mem_cons.mpr ⟨xs_F19_2, List.forall_mem_cons.mpr ⟨xs_F19_3, List.forall_mem_cons.mpr ⟨xs_F19_4, List.forall_mem_cons.mpr ⟨xs_F19_5, List.forall_mem_cons.mpr ⟨xs_F19_6, List.forall_mem_cons.mpr ⟨xs_F19_7, List.forall_mem_cons.mpr ⟨xs_F19_8, List.forall_mem_cons.mpr ⟨xs_F19_9, List.forall_mem_cons.mpr ⟨xs_F19_10, List.forall_mem_cons.mpr ⟨xs_F19_11, List.forall_mem_cons.mpr ⟨xs_F19_12, List.forall_mem_cons.mpr ⟨xs_F19_13, List.forall_mem_cons.mpr ⟨xs_F19_14, (fun _ h => absurd h List.not_mem_nil)⟩⟩⟩⟩⟩⟩⟩⟩⟩⟩⟩⟩⟩⟩⟩
theorem xs_F20_0 : xs_FF 20 1 20 8 := xs_f1 xs_n20 (by decide) ⟨by decide, _, Or.inl q1391, Or.inl rfl⟩
theorem xs_F20_1 : xs_FF 20 7 18 0 := xs_f2 [19, 20] xs_n18 (List.forall_mem_cons.mpr ⟨⟨by decide, rfl, rfl, rfl, ⟨by decide, _, Or.inl q1291, Or.inl rfl⟩⟩, List.forall_mem_cons.mpr ⟨⟨by decide, rfl, rfl, rfl, ⟨by decide, _, Or.inl q1291, Or.inl rfl⟩⟩, (fun _ h => absurd h List.not_mem_nil)⟩⟩)
theorem xs_F20_2 : xs_FF 20 13 18 2 := xs_f2 [19, 20] xs_n18 (List.forall_mem_cons.mpr ⟨⟨by decide, rfl, rfl, rfl, ⟨by decide, _, Or.inl q1303, Or.inl rfl⟩⟩, List.forall_mem_cons.mpr ⟨⟨by decide, rfl, rfl, rfl, ⟨by decide, _, Or.inl q1303, Or.inl rfl⟩⟩, (fun _ h => absurd h List.not_mem_nil)⟩⟩)
theorem xs_F20_3 : xs_FF 20 22 18 3 := xs_f2 [19, 20] xs_n18 (List.forall_mem_cons.mpr ⟨⟨by decide, rfl, rfl, rfl, ⟨by decide, _, Or.inl q1307, Or.inl rfl⟩⟩, List.forall_mem_cons.mpr ⟨⟨by decide, rfl, rfl, rfl, ⟨by decide, _, Or.inl q1307, Or.inl rfl⟩⟩, (fun _ h => absurd h List.not_mem_nil)⟩⟩)
theorem xs_F20_4 : xs_FF 20 32 20 6 := xs_f1 xs_n20 (by decide) ⟨by decide, _, Or.inl q1389, Or.inl rfl⟩
theorem xs_F20_5 : xs_FF 20 36 20 7 := xs_f1 xs_n20 (by decide) ⟨by decide, _, Or.inl q1390, Or.inl rfl⟩
theorem xs_F20_6 : xs_FF 20 43 20 0 := xs_f1 xs_n20 (by decide) ⟨by decide, _, Or.inl q1294, Or.inr q1295⟩
theorem xs_Fo20 : ∀ q ∈ xm_lkF_20, xs_FF 20 q.1 q.2.1 q.2.2 := List.forall_mem_cons.mpr ⟨xs_F20_0, List.forall_mem_cons.mpr ⟨xs_F20_1, List.forall_mem_cons.mpr ⟨xs_F20_2, List.forall_mem_cons.mpr ⟨xs_F20_3, List.forall_mem_cons.mpr ⟨xs_F20_4, List.forall_mem_cons.mpr ⟨xs_F20_5, List.forall_mem_cons.mpr ⟨xs_F20_6, (fun _ h => absurd h List.not_mem_nil)⟩⟩⟩⟩⟩⟩⟩
theorem xs_F21_0 : xs_FF 21 7 21 0 := xs_f1 xs_n21 (by decide) ⟨by decide, _, Or.inl q1415, Or.inl rfl⟩
theorem xs_F21_1 : xs_FF 21 13 21 1 := xs_f1 xs_n21 (by decide) ⟨by decide, _, Or.inl q1416, Or.inl rfl⟩
theorem xs_F21_2 : xs_FF 21 16 21 2 := xs_f1 xs_n21 (by decide) ⟨by decide, _, Or.inl q1417, Or.inl rfl⟩
theorem xs_F21_3 : xs_FF 21 19 21 3 := xs_f1 xs_n21 (by decide) ⟨by decide, _, Or.inl q1419, Or.inl rfl⟩
theorem xs_F21_4 : xs_FF 21 22 18 2 := xs_f2 [19, 20] xs_n18 (List.forall_mem_cons.mpr ⟨⟨by decide, rfl, rfl, rfl, ⟨by decide, _, Or.inl q1305, Or.inl rfl⟩⟩, List.forall_mem_cons.mpr ⟨⟨by decide, rfl, rfl, rfl, ⟨by decide, _, Or.inl q1305, Or.inl rfl⟩⟩, (fun _ h => absurd h List.not_mem_nil)⟩⟩)
theorem xs_F21_5 : xs_FF 21 25 18 3 := xs_f2 [19, 20] xs_n18 (List.forall_mem_cons.mpr ⟨⟨by decide, rfl, rfl, rfl, ⟨by decide, _, Or.inl q1309, Or.inl rfl⟩⟩, List.forall_mem_cons.mpr ⟨⟨by decide, rfl, rfl, rfl, ⟨by decide, _, Or.inl q1309, Or.inl rfl⟩⟩, (fun _ h => absurd h List.not_mem_nil)⟩⟩)
theorem xs_F21_6 : xs_FF 21 26 18 0 := xs_f2 [19, 20] xs_n18 (List.forall_mem_cons.mpr ⟨⟨by decide, rfl, rfl, rfl, ⟨by decide, _, Or.inl q1293, Or.inl rfl⟩⟩, List.forall_mem_cons.mpr ⟨⟨by decide, rfl, rfl, rfl, ⟨by decide, _, Or.inl q1293, Or.inl rfl⟩⟩, (fun _ h => absurd h List.not_mem_nil)⟩⟩)
theorem xs_Fo21 : ∀ q ∈ xm_lkF_21, xs_FF 21 q.1 q.2.1 q.2.2 := List.forall_mem_cons.mpr ⟨xs_F21_0, List.forall_mem_cons.mpr ⟨xs_F21_1, List.forall_mem_cons.mpr ⟨xs_F21_2, List.forall_mem_cons.mpr ⟨xs_F21_3, List.forall_mem_cons.mpr ⟨xs_F21_4, List.forall_mem_cons.mpr ⟨xs_F21_5, List.forall_mem_cons.mpr ⟨xs_F21_6, (fun _ h => absurd h List.not_mem_nil)⟩⟩⟩⟩⟩⟩⟩
theorem xs_F22_0 : xs_FF 22 7 22 0 := xs_f2 [1] xs_n22 (List.forall_mem_cons.mpr ⟨⟨by decide, rfl, rfl, rfl, ⟨by decide, _, Or.inl q193, Or.inl rfl⟩⟩, (fun _ h => absurd h List.not_mem_nil)⟩)
theorem xs_F22_1 : xs_FF 22 17 22 1 := xs_f2 [1] xs_n22 (List.forall_mem_cons.mpr ⟨⟨by decide, rfl, rfl, rfl, ⟨by decide, _, Or.inl q194, Or.inl rfl⟩⟩, (fun _ h => absurd h List.not_mem_nil)⟩)
theorem xs_F22_2 : xs_FF 22 24 22 2 := xs_f2 [1] xs_n22 (List.forall_mem_cons.mpr ⟨⟨by decide, rfl, rfl, rfl, ⟨by decide, _, Or.inl q195, Or.inl rfl⟩⟩, (fun _ h => absurd h List.not_mem_nil)⟩)
theorem xs_F22_3 : xs_FF 22 31 22 3 := xs_f2 [1] xs_n22 (List.forall_mem_cons.mpr ⟨⟨by decide, rfl, rfl, rfl, ⟨by decide, _, Or.inl q192, Or.inl rfl⟩⟩, (fun _ h => absurd h List.not_mem_nil)⟩)
theorem xs_F22_4 : xs_FF 22 198 22 4 := xs_f2 [1] xs_n22 (List.forall_mem_cons.mpr ⟨⟨by decide, rfl, rfl, rfl, ⟨by decide, _, Or.inl q191, Or.inl rfl⟩⟩, (fun _ h => absurd h List.not_mem_nil)⟩)
theorem xs_Fo22 : ∀ q ∈ xm_lkF_22, xs_FF 22 q.1 q.2.1 q.2.2 := List.forall_mem_cons.mpr ⟨xs_F22_0, List.forall_mem_cons.mpr ⟨xs_F22_1, List.forall_mem_cons.mpr ⟨xs_F22_2, List.forall_mem_cons.mpr ⟨xs_F22_3, List.forall_mem_cons.mpr ⟨xs_F22_4, (fun _ h => absurd h List.not_mem_nil)⟩⟩⟩⟩⟩
theorem xs_F25_0 : xs_FF 25 15 25 0 := xs_f2 [26] xs_n25 (List.forall_mem_cons.mpr ⟨⟨by decide, rfl, rfl, rfl, ⟨by decide, _, Or.inl q658, Or.inl rfl⟩⟩, (fun _ h => absurd h List.not_mem_nil)⟩)
theorem xs_F25_1 : xs_FF 25 22 25 1 := xs_f2 [26] xs_n25 (List.forall_mem_cons.mpr ⟨⟨by decide, rfl, rfl, rfl, ⟨by decide, _, Or.inl q659, Or.inl rfl⟩⟩, (fun _ h => absurd h List.not_mem_nil)⟩)
theorem xs_F25_2 : xs_FF 25 79 25 3 := xs_f2 [26] xs_n25 (List.forall_mem_cons.mpr ⟨⟨by decide, rfl, rfl, rfl, ⟨by decide, _, Or.inl q661, Or.inl rfl⟩⟩, (fun _ h => absurd h List.not_mem_nil)⟩)
theorem xs_Fo25 : ∀ q ∈ xm_lkF_25, xs_FF 25 q.1 q.2.1 q.2.2 := List.forall_mem_cons.mpr ⟨xs_F25_0, List.forall_mem_cons.mpr ⟨xs_F25_1, List.forall_mem_cons.mpr ⟨xs_F25_2, (fun _ h => absurd h List.not_mem_nil)⟩⟩⟩
theorem xs_F27_0 : xs_FF 27 9 27 0 := xs_f1 xs_n27 (by decide) ⟨by decide, _, Or.inl q812, Or.inl rfl⟩
theorem xs_F27_1 : xs_FF 27 15 27 1 := xs_f1 xs_n27 (by decide) ⟨by decide, _, Or.inl q813, Or.inl rfl⟩
theorem xs_F27_2 : xs_FF 27 1048 25 2 := xs_f2 [26] xs_n25 (List.forall_mem_cons.mpr ⟨⟨by decide, rfl, rfl, rfl, ⟨by decide, _, Or.inl q660, Or.inl rfl⟩⟩, (fun _ h => absurd h List.not_mem_nil)⟩)
theorem xs_Fo27 : ∀ q ∈ xm_lkF_27, xs_FF 27 q.1 q.2.1 q.2.2 := List.forall_mem_cons.mpr ⟨xs_F27_0, List.forall_mem_cons.mpr ⟨xs_F27_1, List.forall_mem_cons.mpr ⟨xs_F27_2, (fun _ h => absurd h List.not_mem_nil)⟩⟩⟩
theorem xs_fld {o idx c k : Nat} (h : xm_lkF o idx = some (c, k)) : xs_FF o idx c k := by
  unfold xm_lkF at h
  split at h
  · exact xs_Fo0 _ (lk_mem h)
  · exact xs_Fo2 _ (lk_mem h)
  · exact xs_Fo3 _ (lk_mem h)
  · exact xs_Fo4 _ (lk_mem h)
  · exact xs_Fo5 _ (lk_mem h)
  · exact xs_Fo7 _ (lk_mem h)
  · exact xs_Fo8 _ (lk_mem h)
  · exact xs_Fo9 _ (lk_mem h)
  · exact xs_Fo10 _ (lk_mem h)
  · exact xs_Fo11 _ (lk_mem h)
  · exact xs_Fo12 _ (lk_mem h)
  · exact xs_Fo13 _ (lk_mem h)
  · exact xs_Fo14 _ (lk_mem h)
  · exact xs_Fo15 _ (lk_mem h)
  · exact xs_Fo16 _ (lk_mem h)
  · exact xs_Fo17 _ (lk_mem h)
  · exact xs_Fo18 _ (lk_mem h)
  · exact xs_Fo19 _ (lk_mem h)
  · exact xs_Fo20 _ (lk_mem h)
  · exact xs_Fo21 _ (lk_mem h)
  · exact xs_Fo22 _ (lk_mem h)
  · exact xs_Fo25 _ (lk_mem h)
  · exact xs_Fo27 _ (lk_mem h)
  · cases h
/-- a method that may be called: its code word, its class, its parameters -/
def xs_Mok (y : Nat) : Prop := Cond.code (xm_mY y) (xm_mC y) (xm_mL y) (xm_mT y) ∈ lw_all ∧ Cond.initialized (xm_mY y).cls ∈ lw_all ∧ plainName (xm_mY y).cls = true ∧ (xm_mY y).cls = xm_oN (xm_mO y) ∧ xm_mL y ≤ 40 ∧ (xm_mY y).cls ≠ "java/lang/invoke/MethodHandle" ∧ (xm_mY y).cls ≠ "java/lang/invoke/VarHandle" ∧ (parseMethodDescriptor (xm_mY y).desc).map (fun d => d.parameters.length) = some (xm_mP y)
theorem xs_M0 : xs_Mok 0 := ⟨q137, q98, by decide +kernel, rfl, by decide +kernel, by decide +kernel, by decide +kernel, by decide +kernel⟩
theorem xs_M1 : xs_Mok 1 := ⟨q473, q98, by decide +kernel, rfl, by decide +kernel, by decide +kernel, by decide +kernel, by decide +kernel⟩
theorem xs_M2 : xs_Mok 2 := ⟨q476, q98, by decide +kernel, rfl, by decide +kernel, by decide +kernel, by decide +kernel, by decide +kernel⟩
theorem xs_M3 : xs_Mok 3 := ⟨q480, q98, by decide +kernel, rfl, by decide +kernel, by decide +kernel, by decide +kernel, by decide +kernel⟩
theorem xs_M4 : xs_Mok 4 := ⟨q535, q98, by decide +kernel, rfl, by decide +kernel, by decide +kernel, by decide +kernel, by decide +kernel⟩
theorem xs_M5 : xs_Mok 5 := ⟨q539, q98, by decide +kernel, rfl, by decide +kernel, by decide +kernel, by decide +kernel, by decide +kernel⟩
theorem xs_M6 : xs_Mok 6 := ⟨q543, q98, by decide +kernel, rfl, by decide +kernel, by decide +kernel, by decide +kernel, by decide +kernel⟩
theorem xs_M7 : xs_Mok 7 := ⟨q547, q98, by decide +kernel, rfl, by decide +kernel, by decide +kernel, by decide +kernel, by decide +kernel⟩
theorem xs_M8 : xs_Mok 8 := ⟨q551, q98, by decide +kernel, rfl, by decide +kernel, by decide +kernel, by decide +kernel, by decide +kernel⟩
theorem xs_M9 : xs_Mok 9 := ⟨q554, q98, by decide +kernel, rfl, by decide +kernel, by decide +kernel, by decide +kernel, by decide +kernel⟩
theorem xs_M10 : xs_Mok 10 := ⟨q557, q98, by decide +kernel, rfl, by decide +kernel, by decide +kernel, by decide +kernel, by decide +kernel⟩
theorem xs_M11 : xs_Mok 11 := ⟨q568, q98, by decide +kernel, rfl, by decide +kernel, by decide +kernel, by decide +kernel, by decide +kernel⟩
theorem xs_M12 : xs_Mok 12 := ⟨q579, q98, by decide +kernel, rfl, by decide +kernel, by decide +kernel, by decide +kernel, by decide +kernel⟩
theorem xs_M13 : xs_Mok 13 := ⟨q588, q98, by decide +kernel, rfl, by decide +kernel, by decide +kernel, by decide +kernel, by decide +kernel⟩
theorem xs_M14 : xs_Mok 14 := ⟨q599, q98, by decide +kernel, rfl, by decide +kernel, by decide +kernel, by decide +kernel, by decide +kernel⟩
theorem xs_M15 : xs_Mok 15 := ⟨q603, q98, by decide +kernel, rfl, by decide +kernel, by decide +kernel, by decide +kernel, by decide +kernel⟩
theorem xs_M16 : xs_Mok 16 := ⟨q607, q98, by decide +kernel, rfl, by decide +kernel, by decide +kernel, by decide +kernel, by decide +kernel⟩
theorem xs_M17 : xs_Mok 17 := ⟨q611, q98, by decide +kernel, rfl, by decide +kernel, by decide +kernel, by decide +kernel, by decide +kernel⟩
theorem xs_M19 : xs_Mok 19 := ⟨q618, q98, by decide +kernel, rfl, by decide +kernel, by decide +kernel, by decide +kernel, by decide +kernel⟩
theorem xs_M20 : xs_Mok 20 := ⟨q910, q98, by decide +kernel, rfl, by decide +kernel, by decide +kernel, by decide +kernel, by decide +kernel⟩
theorem xs_M21 : xs_Mok 21 := ⟨q1094, q98, by decide +kernel, rfl, by decide +kernel, by decide +kernel, by decide +kernel, by decide +kernel⟩
theorem xs_M22 : xs_Mok 22 := ⟨q1098, q98, by decide +kernel, rfl, by decide +kernel, by decide +kernel, by decide +kernel, by decide +kernel⟩
theorem xs_M23 : xs_Mok 23 := ⟨q1102, q98, by decide +kernel, rfl, by decide +kernel, by decide +kernel, by decide +kernel, by decide +kernel⟩
theorem xs_M24 : xs_Mok 24 := ⟨q1106, q98, by decide +kernel, rfl, by decide +kernel, by decide +kernel, by decide +kernel, by decide +kernel⟩
theorem xs_M25 : xs_Mok 25 := ⟨q1110, q98, by decide +kernel, rfl, by decide +kernel, by decide +kernel, by decide +kernel, by decide +kernel⟩
theorem xs_M26 : xs_Mok 26 := ⟨q1114, q98, by decide +kernel, rfl, by decide +kernel, by decide +kernel, by decide +kernel, by decide +kernel⟩
theorem xs_M27 : xs_Mok 27 := ⟨q1118, q98, by decide +kernel, rfl, by decide +kernel, by decide +kernel, by decide +kernel, by decide +kernel⟩
theorem xs_M28 : xs_Mok 28 := ⟨q1163, q98, by decide +kernel, rfl, by decide +kernel, by decide +kernel, by decide +kernel, by decide +kernel⟩
theorem xs_M29 : xs_Mok 29 := ⟨q1167, q98, by decide +kernel, rfl, by decide +kernel, by decide +kernel, by decide +kernel, by decide +kernel⟩
theorem xs_M30 : xs_Mok 30 := ⟨q1171, q98, by decide +kernel, rfl, by decide +kernel, by decide +kernel, by decide +kernel, by decide +kernel⟩
theorem xs_M31 : xs_Mok 31 := ⟨q1175, q98, by decide +kernel, rfl, by decide +kernel, by decide +kernel, by decide +kernel, by decide +kernel⟩
theorem xs_M32 : xs_Mok 32 := ⟨q1179, q98, by decide +kernel, rfl, by decide +kernel, by decide +kernel, by decide +kernel, by decide +kernel⟩
theorem xs_M33 : xs_Mok 33 := ⟨q1183, q98, by decide +kernel, rfl, by decide +kernel, by decide +kernel, by decide +kernel, by decide +kernel⟩
theorem xs_M34 : xs_Mok 34 := ⟨q1187, q98, by decide +kernel, rfl, by decide +kernel, by decide +kernel, by decide +kernel, by decide +kernel⟩
theorem xs_M35 : xs_Mok 35 := ⟨q1191, q98, by decide +kernel, rfl, by decide +kernel, by decide +kernel, by decide +kernel, by decide +kernel⟩
theorem xs_M36 : xs_Mok 36 := ⟨q1195, q98, by decide +kernel, rfl, by decide +kernel, by decide +kernel, by decide +kernel, by decide +kernel⟩
theorem xs_M37 : xs_Mok 37 := ⟨q1200, q98, by decide +kernel, rfl, by decide +kernel, by decide +kernel, by decide +kernel, by decide +kernel⟩
theorem xs_M38 : xs_Mok 38 := ⟨q1204, q98, by decide +kernel, rfl, by decide +kernel, by decide +kernel, by decide +kernel, by decide +kernel⟩
theorem xs_M39 : xs_Mok 39 := ⟨q1208, q98, by decide +kernel, rfl, by decide +kernel, by decide +kernel, by decide +kernel, by decide +kernel⟩
theorem xs_M40 : xs_Mok 40 := ⟨q1213, q98, by decide +kernel, rfl, by decide +kernel, by decide +kernel, by decide +kernel, by decide +kernel⟩
theorem xs_M41 : xs_Mok 41 := ⟨q1217, q98, by decide +kernel, rfl, by decide +kernel, by decide +kernel, by decide +kernel, by decide +kernel⟩
theorem xs_M42 : xs_Mok 42 := ⟨q1246, q98, by decide +kernel, rfl, by decide +kernel, by decide +kernel, by decide +kernel, by decide +kernel⟩
theorem xs_M43 : xs_Mok 43 := ⟨q1250, q98, by decide +kernel, rfl, by decide +kernel, by decide +kernel, by decide +kernel, by decide +kernel⟩
theorem xs_M44 : xs_Mok 44 := ⟨q1254, q98, by decide +kernel, rfl, by decide +kernel, by decide +kernel, by decide +kernel, by decide +kernel⟩
theorem xs_M45 : xs_Mok 45 := ⟨q1258, q98, by decide +kernel, rfl, by decide +kernel, by decide +kernel, by decide +kernel, by decide +kernel⟩
theorem xs_M46 : xs_Mok 46 := ⟨q1262, q98, by decide +kernel, rfl, by decide +kernel, by decide +kernel, by decide +kernel, by decide +kernel⟩
theorem xs_M47 : xs_Mok 47 := ⟨q1266, q98, by decide +kernel, rfl, by decide +kernel, by decide +kernel, by decide +kernel, by decide +kernel⟩
theorem xs_M48 : xs_Mok 48 := ⟨q1270, q98, by decide +kernel, rfl, by decide +kernel, by decide +kernel, by decide +kernel, by decide +kernel⟩
theorem xs_M49 : xs_Mok 49 := ⟨q1338, q98, by decide +kernel, rfl, by decide +kernel, by decide +kernel, by decide +kernel, by decide +kernel⟩
theorem xs_M50 : xs_Mok 50 := ⟨q1342, q98, by decide +kernel, rfl, by decide +kernel, by decide +kernel, by decide +kernel, by decide +kernel⟩
theorem xs_M51 : xs_Mok 51 := ⟨q1372, q98, by decide +kernel, rfl, by decide +kernel, by decide +kernel, by decide +kernel, by decide +kernel⟩
theorem xs_M52 : xs_Mok 52 := ⟨q1376, q98, by decide +kernel, rfl, by decide +kernel, by decide +kernel, by decide +kernel, by decide +kernel⟩
theorem xs_M53 : xs_Mok 53 := ⟨q1380, q98, by decide +kernel, rfl, by decide +kernel, by decide +kernel, by decide +kernel, by decide +kernel⟩
theorem xs_M54 : xs_Mok 54 := ⟨q1408, q98, by decide +kernel, rfl, by decide +kernel, by decide +kernel, by decide +kernel, by decide +kernel⟩
theorem xs_M55 : xs_Mok 55 := ⟨q1433, q98, by decide +kernel, rfl, by decide +kernel, by decide +kernel, by decide +kernel, by decide +kernel⟩
theorem xs_M56 : xs_Mok 56 := ⟨q1437, q98, by decide +kernel, rfl, by decide +kernel, by decide +kernel, by decide +kernel, by decide +kernel⟩
theorem xs_M57 : xs_Mok 57 := ⟨q1441, q98, by decide +kernel, rfl, by decide +kernel, by decide +kernel, by decide +kernel, by decide +kernel⟩
theorem xs_M58 : xs_Mok 58 := ⟨q1449, q98, by decide +kernel, rfl, by decide +kernel, by decide +kernel, by decide +kernel, by decide +kernel⟩
theorem xs_M59 : xs_Mok 59 := ⟨q1471, q98, by decide +kernel, rfl, by decide +kernel, by decide +kernel, by decide +kernel, by decide +kernel⟩
theorem xs_M60 : xs_Mok 60 := ⟨q1479, q98, by decide +kernel, rfl, by decide +kernel, by decide +kernel, by decide +kernel, by decide +kernel⟩
theorem xs_M61 : xs_Mok 61 := ⟨q1483, q98, by decide +kernel, rfl, by decide +kernel, by decide +kernel, by decide +kernel, by decide +kernel⟩
theorem xs_M62 : xs_Mok 62 := ⟨q1487, q98, by decide +kernel, rfl, by decide +kernel, by decide +kernel, by decide +kernel, by decide +kernel⟩
theorem xs_M63 : xs_Mok 63 := ⟨q1492, q98, by decide +kernel, rfl, by decide +kernel, by decide +kernel, by decide +kernel, by decide +kernel⟩
theorem xs_M64 : xs_Mok 64 := ⟨q1496, q98, by decide +kernel, rfl, by decide +kernel, by decide +kernel, by decide +kernel, by decide +kernel⟩
theorem xs_M65 : xs_Mok 65 := ⟨q1500, q98, by decide +kernel, rfl, by decide +kernel, by decide +kernel, by decide +kernel, by decide +kernel⟩
theorem xs_M66 : xs_Mok 66 := ⟨q182, q101, by decide +kernel, rfl, by decide +kernel, by decide +kernel, by decide +kernel, by decide +kernel⟩
theorem xs_M67 : xs_Mok 67 := ⟨q237, q102, by decide +kernel, rfl, by decide +kernel, by decide +kernel, by decide +kernel, by decide +kernel⟩
theorem xs_M68 : xs_Mok 68 := ⟨q622, q102, by decide +kernel, rfl, by decide +kernel, by decide +kernel, by decide +kernel, by decide +kernel⟩
theorem xs_M69 : xs_Mok 69 := ⟨q627, q102, by decide +kernel, rfl, by decide +kernel, by decide +kernel, by decide +kernel, by decide +kernel⟩
theorem xs_M70 : xs_Mok 70 := ⟨q631, q102, by decide +kernel, rfl, by decide +kernel, by decide +kernel, by decide +kernel, by decide +kernel⟩
theorem xs_M71 : xs_Mok 71 := ⟨q635, q102, by decide +kernel, rfl, by decide +kernel, by decide +kernel, by decide +kernel, by decide +kernel⟩
theorem xs_M72 : xs_Mok 72 := ⟨q639, q102, by decide +kernel, rfl, by decide +kernel, by decide +kernel, by decide +kernel, by decide +kernel⟩
theorem xs_M73 : xs_Mok 73 := ⟨q834, q102, by decide +kernel, rfl, by decide +kernel, by decide +kernel, by decide +kernel, by decide +kernel⟩
theorem xs_M74 : xs_Mok 74 := ⟨q838, q102, by decide +kernel, rfl, by decide +kernel, by decide +kernel, by decide +kernel, by decide +kernel⟩
theorem xs_M75 : xs_Mok 75 := ⟨q914, q102, by decide +kernel, rfl, by decide +kernel, by decide +kernel, by decide +kernel, by decide +kernel⟩
theorem xs_M76 : xs_Mok 76 := ⟨q918, q102, by decide +kernel, rfl, by decide +kernel, by decide +kernel, by decide +kernel, by decide +kernel⟩
theorem xs_M77 : xs_Mok 77 := ⟨q922, q102, by decide +kernel, rfl, by decide +kernel, by decide +kernel, by decide +kernel, by decide +kernel⟩
theorem xs_M78 : xs_Mok 78 := ⟨q926, q102, by decide +kernel, rfl, by decide +kernel, by decide +kernel, by decide +kernel, by decide +kernel⟩
theorem xs_M79 : xs_Mok 79 := ⟨q930, q102, by decide +kernel, rfl, by decide +kernel, by decide +kernel, by decide +kernel, by decide +kernel⟩
theorem xs_M80 : xs_Mok 80 := ⟨q934, q102, by decide +kernel, rfl, by decide +kernel, by decide +kernel, by decide +kernel, by decide +kernel⟩
theorem xs_M81 : xs_Mok 81 := ⟨q938, q102, by decide +kernel, rfl, by decide +kernel, by decide +kernel, by decide +kernel, by decide +kernel⟩
theorem xs_M82 : xs_Mok 82 := ⟨q967, q102, by decide +kernel, rfl, by decide +kernel, by decide +kernel, by decide +kernel, by decide +kernel⟩
theorem xs_M83 : xs_Mok 83 := ⟨q987, q102, by decide +kernel, rfl, by decide +kernel, by decide +kernel, by decide +kernel, by decide +kernel⟩
theorem xs_M84 : xs_Mok 84 := ⟨q991, q102, by decide +kernel, rfl, by decide +kernel, by decide +kernel, by decide +kernel, by decide +kernel⟩
theorem xs_M85 : xs_Mok 85 := ⟨q995, q102, by decide +kernel, rfl, by decide +kernel, by decide +kernel, by decide +kernel, by decide +kernel⟩
theorem xs_M86 : xs_Mok 86 := ⟨q999, q102, by decide +kernel, rfl, by decide +kernel, by decide +kernel, by decide +kernel, by decide +kernel⟩
theorem xs_M87 : xs_Mok 87 := ⟨q275, q103, by decide +kernel, rfl, by decide +kernel, by decide +kernel, by decide +kernel, by decide +kernel⟩
theorem xs_M88 : xs_Mok 88 := ⟨q1459, q103, by decide +kernel, rfl, by decide +kernel, by decide +kernel, by decide +kernel, by decide +kernel⟩
theorem xs_M89 : xs_Mok 89 := ⟨q1509, q104, by decide +kernel, rfl, by decide +kernel, by decide +kernel, by decide +kernel, by decide +kernel⟩
theorem xs_M90 : xs_Mok 90 := ⟨q1825, q104, by decide +kernel, rfl, by decide +kernel, by decide +kernel, by decide +kernel, by decide +kernel⟩
theorem xs_M91 : xs_Mok 91 := ⟨q1828, q104, by decide +kernel, rfl, by decide +kernel, by decide +kernel, by decide +kernel, by decide +kernel⟩
theorem xs_M92 : xs_Mok 92 := ⟨q1832, q104, by decide +kernel, rfl, by decide +kernel, by decide +kernel, by decide +kernel, by decide +kernel⟩
theorem xs_M93 : xs_Mok 93 := ⟨q1836, q104, by decide +kernel, rfl, by decide +kernel, by decide +kernel, by decide +kernel, by decide +kernel⟩
theorem xs_M94 : xs_Mok 94 := ⟨q1840, q104, by decide +kernel, rfl, by decide +kernel, by decide +kernel, by decide +kernel, by decide +kernel⟩
theorem xs_M95 : xs_Mok 95 := ⟨q1844, q104, by decide +kernel, rfl, by decide +kernel, by decide +kernel, by decide +kernel, by decide +kernel⟩
theorem xs_M96 : xs_Mok 96 := ⟨q1848, q104, by decide +kernel, rfl, by decide +kernel, by decide +kernel, by decide +kernel, by decide +kernel⟩
theorem xs_M97 : xs_Mok 97 := ⟨q1852, q104, by decide +kernel, rfl, by decide +kernel, by decide +kernel, by decide +kernel, by decide +kernel⟩
theorem xs_M98 : xs_Mok 98 := ⟨q1856, q104, by decide +kernel, rfl, by decide +kernel, by decide +kernel, by decide +kernel, by decide +kernel⟩
theorem xs_M99 : xs_Mok 99 := ⟨q1860, q104, by decide +kernel, rfl, by decide +kernel, by decide +kernel, by decide +kernel, by decide +kernel⟩
theorem xs_M100 : xs_Mok 100 := ⟨q1864, q104, by decide +kernel, rfl, by decide +kernel, by decide +kernel, by decide +kernel, by decide +kernel⟩
theorem xs_M101 : xs_Mok 101 := ⟨q1868, q104, by decide +kernel, rfl, by decide +kernel, by decide +kernel, by decide +kernel, by decide +kernel⟩
theorem xs_M102 : xs_Mok 102 := ⟨q1872, q104, by decide +kernel, rfl, by decide +kernel, by decide +kernel, by decide +kernel, by decide +kernel⟩
theorem xs_M103 : xs_Mok 103 := ⟨q1876, q104, by decide +kernel, rfl, by decide +kernel, by decide +kernel, by decide +kernel, by decide +kernel⟩
theorem xs_M104 : xs_Mok 104 := ⟨q1879, q104, by decide +kernel, rfl, by decide +kernel, by decide +kernel, by decide +kernel, by decide +kernel⟩
theorem xs_M105 : xs_Mok 105 := ⟨q1883, q104, by decide +kernel, rfl, by decide +kernel, by decide +kernel, by decide +kernel, by decide +kernel⟩
theorem xs_M106 : xs_Mok 106 := ⟨q1887, q104, by decide +kernel, rfl, by decide +kernel, by decide +kernel, by decide +kernel, by decide +kernel⟩
theorem xs_M107 : xs_Mok 107 := ⟨q1890, q104, by decide +kernel, rfl, by decide +kernel, by decide +kernel, by decide +kernel, by decide +kernel⟩
theorem xs_M108 : xs_Mok 108 := ⟨q1894, q104, by decide +kernel, rfl, by decide +kernel, by decide +kernel, by decide +kernel, by decide +kernel⟩
theorem xs_M109 : xs_Mok 109 := ⟨q1898, q104, by decide +kernel, rfl, by decide +kernel, by decide +kernel, by decide +kernel, by decide +kernel⟩
theorem xs_M110 : xs_Mok 110 := ⟨q1902, q104, by decide +kernel, rfl, by decide +kernel, by decide +kernel, by decide +kernel, by decide +kernel⟩
theorem xs_M111 : xs_Mok 111 := ⟨q1906, q104, by decide +kernel, rfl, by decide +kernel, by decide +kernel, by decide +kernel, by decide +kernel⟩
theorem xs_M112 : xs_Mok 112 := ⟨q1910, q104, by decide +kernel, rfl, by decide +kernel, by decide +kernel, by decide +kernel, by decide +kernel⟩
theorem xs_M113 : xs_Mok 113 := ⟨q1914, q104, by decide +kernel, rfl, by decide +kernel, by decide +kernel, by decide +kernel, by decide +kernel⟩
theorem xs_M114 : xs_Mok 114 := ⟨q1918, q104, by decide +kernel, rfl, by decide +kernel, by decide +kernel, by decide +kernel, by decide +kernel⟩
theorem xs_M115 : xs_Mok 115 := ⟨q1921, q104, by decide +kernel, rfl, by decide +kernel, by decide +kernel, by decide +kernel, by decide +kernel⟩
theorem xs_M116 : xs_Mok 116 := ⟨q1924, q104, by decide +kernel, rfl, by decide +kernel, by decide +kernel, by decide +kernel, by decide +kernel⟩
theorem xs_M117 : xs_Mok 117 := ⟨q1948, q104, by decide +kernel, rfl, by decide +kernel, by decide +kernel, by decide +kernel, by decide +kernel⟩
theorem xs_M118 : xs_Mok 118 := ⟨q1952, q104, by decide +kernel, rfl, by decide +kernel, by decide +kernel, by decide +kernel, by decide +kernel⟩
theorem xs_M119 : xs_Mok 119 := ⟨q1956, q104, by decide +kernel, rfl, by decide +kernel, by decide +kernel, by decide +kernel, by decide +kernel⟩
theorem xs_M120 : xs_Mok 120 := ⟨q1960, q104, by decide +kernel, rfl, by decide +kernel, by decide +kernel, by decide +kernel, by decide +kernel⟩
theorem xs_M121 : xs_Mok 121 := ⟨q1964, q104, by decide +kernel, rfl, by decide +kernel, by decide +kernel, by decide +kernel, by decide +kernel⟩
theorem xs_M122 : xs_Mok 122 := ⟨q1968, q104, by decide +kernel, rfl, by decide +kernel, by decide +kernel, by decide +kernel, by decide +kernel⟩
theorem xs_M123 : xs_Mok 123 := ⟨q1972, q104, by decide +kernel, rfl, by decide +kernel, by decide +kernel, by decide +kernel, by decide +kernel⟩
theorem xs_M124 : xs_Mok 124 := ⟨q1976, q104, by decide +kernel, rfl, by decide +kernel, by decide +kernel, by decide +kernel, by decide +kernel⟩
theorem xs_M125 : xs_Mok 125 := ⟨q1980, q104, by decide +kernel, rfl, by decide +kernel, by decide +kernel, by decide +kernel, by decide +kernel⟩
theorem xs_M126 : xs_Mok 126 := ⟨q1984, q104, by decide +kernel, rfl, by decide +kernel, by decide +kernel, by decide +kernel, by decide +kernel⟩
theorem xs_M127 : xs_Mok 127 := ⟨q1988, q104, by decide +kernel, rfl, by decide +kernel, by decide +kernel, by decide +kernel, by decide +kernel⟩
theorem xs_M128 : xs_Mok 128 := ⟨q1992, q104, by decide +kernel, rfl, by decide +kernel, by decide +kernel, by decide +kernel, by decide +kernel⟩
theorem xs_M129 : xs_Mok 129 := ⟨q1996, q104, by decide +kernel, rfl, by decide +kernel, by decide +kernel, by decide +kernel, by decide +kernel⟩
theorem xs_M130 : xs_Mok 130 := ⟨q2000, q104, by decide +kernel, rfl, by decide +kernel, by decide +kernel, by decide +kernel, by decide +kernel⟩
theorem xs_M131 : xs_Mok 131 := ⟨q2004, q104, by decide +kernel, rfl, by decide +kernel, by decide +kernel, by decide +kernel, by decide +kernel⟩
theorem xs_M132 : xs_Mok 132 := ⟨q2008, q104, by decide +kernel, rfl, by decide +kernel, by decide +kernel, by decide +kernel, by decide +kernel⟩
theorem xs_M133 : xs_Mok 133 := ⟨q2012, q104, by decide +kernel, rfl, by decide +kernel, by decide +kernel, by decide +kernel, by decide +kernel⟩
theorem xs_M134 : xs_Mok 134 := ⟨q2016, q104, by decide +kernel, rfl, by decide +kernel, by decide +kernel, by decide +kernel, by decide +kernel⟩
theorem xs_M135 : xs_Mok 135 := ⟨q2020, q104, by decide +kernel, rfl, by decide +kernel, by decide +kernel, by decide +kernel, by decide +kernel⟩
theorem xs_M136 : xs_Mok 136 := ⟨q2024, q104, by decide +kernel, rfl, by decide +kernel, by decide +kernel, by decide +kernel, by decide +kernel⟩
theorem xs_M137 : xs_Mok 137 := ⟨q2028, q104, by decide +kernel, rfl, by decide +kernel, by decide +kernel, by decide +kernel, by decide +kernel⟩
theorem xs_M138 : xs_Mok 138 := ⟨q2031, q104, by decide +kernel, rfl, by decide +kernel, by decide +kernel, by decide +kernel, by decide +kernel⟩
theorem xs_M139 : xs_Mok 139 := ⟨q2035, q104, by decide +kernel, rfl, by decide +kernel, by decide +kernel, by decide +kernel, by decide +kernel⟩
theorem xs_M140 : xs_Mok 140 := ⟨q2039, q104, by decide +kernel, rfl, by decide +kernel, by decide +kernel, by decide +kernel, by decide +kernel⟩
theorem xs_M141 : xs_Mok 141 := ⟨q2043, q104, by decide +kernel, rfl, by decide +kernel, by decide +kernel, by decide +kernel, by decide +kernel⟩
theorem xs_M142 : xs_Mok 142 := ⟨q2047, q104, by decide +kernel, rfl, by decide +kernel, by decide +kernel, by decide +kernel, by decide +kernel⟩
theorem xs_M143 : xs_Mok 143 := ⟨q2051, q104, by decide +kernel, rfl, by decide +kernel, by decide +kernel, by decide +kernel, by decide +kernel⟩
theorem xs_M144 : xs_Mok 144 := ⟨q2055, q104, by decide +kernel, rfl, by decide +kernel, by decide +kernel, by decide +kernel, by decide +kernel⟩
theorem xs_M145 : xs_Mok 145 := ⟨q2059, q104, by decide +kernel, rfl, by decide +kernel, by decide +kernel, by decide +kernel, by decide +kernel⟩
theorem xs_M146 : xs_Mok 146 := ⟨q2063, q104, by decide +kernel, rfl, by decide +kernel, by decide +kernel, by decide +kernel, by decide +kernel⟩
theorem xs_M147 : xs_Mok 147 := ⟨q2067, q104, by decide +kernel, rfl, by decide +kernel, by decide +kernel, by decide +kernel, by decide +kernel⟩
theorem xs_M148 : xs_Mok 148 := ⟨q2071, q104, by decide +kernel, rfl, by decide +kernel, by decide +kernel, by decide +kernel, by decide +kernel⟩
theorem xs_M149 : xs_Mok 149 := ⟨q2075, q104, by decide +kernel, rfl, by decide +kernel, by decide +kernel, by decide +kernel, by decide +kernel⟩
theorem xs_M150 : xs_Mok 150 := ⟨q2079, q104, by decide +kernel, rfl, by decide +kernel, by decide +kernel, by decide +kernel, by decide +kernel⟩
theorem xs_M151 : xs_Mok 151 := ⟨q2083, q104, by decide +kernel, rfl, by decide +kernel, by decide +kernel, by decide +kernel, by decide +kernel⟩
theorem xs_M152 : xs_Mok 152 := ⟨q2087, q104, by decide +kernel, rfl, by decide +kernel, by decide +kernel, by decide +kernel, by decide +kernel⟩
theorem xs_M153 : xs_Mok 153 := ⟨q2091, q104, by decide +kernel, rfl, by decide +kernel, by decide +kernel, by decide +kernel, by decide +kernel⟩
theorem xs_M154 : xs_Mok 154 := ⟨q2095, q104, by decide +kernel, rfl, by decide +kernel, by decide +kernel, by decide +kernel, by decide +kernel⟩
theorem xs_M155 : xs_Mok 155 := ⟨q2099, q104, by decide +kernel, rfl, by decide +kernel, by decide +kernel, by decide +kernel, by decide +kernel⟩
theorem xs_M156 : xs_Mok 156 := ⟨q2103, q104, by decide +kernel, rfl, by decide +kernel, by decide +kernel, by decide +kernel, by decide +kernel⟩
theorem xs_M157 : xs_Mok 157 := ⟨q2107, q104, by decide +kernel, rfl, by decide +kernel, by decide +kernel, by decide +kernel, by decide +kernel⟩
theorem xs_M158 : xs_Mok 158 := ⟨q2111, q104, by decide +kernel, rfl, by decide +kernel, by decide +kernel, by decide +kernel, by decide +kernel⟩
theorem xs_M159 : xs_Mok 159 := ⟨q2115, q104, by decide +kernel, rfl, by decide +kernel, by decide +kernel, by decide +kernel, by decide +kernel⟩
theorem xs_M160 : xs_Mok 160 := ⟨q2119, q104, by decide +kernel, rfl, by decide +kernel, by decide +kernel, by decide +kernel, by decide +kernel⟩
theorem xs_M161 : xs_Mok 161 := ⟨q2123, q104, by decide +kernel, rfl, by decide +kernel, by decide +kernel, by decide +kernel, by decide +kernel⟩
theorem xs_M162 : xs_Mok 162 := ⟨q2127, q104, by decide +kernel, rfl, by decide +kernel, by decide +kernel, by decide +kernel, by decide +kernel⟩
theorem xs_M163 : xs_Mok 163 := ⟨q2131, q104, by decide +kernel, rfl, by decide +kernel, by decide +kernel, by decide +kernel, by decide +kernel⟩
theorem xs_M164 : xs_Mok 164 := ⟨q2135, q104, by decide +kernel, rfl, by decide +kernel, by decide +kernel, by decide +kernel, by decide +kernel⟩
theorem xs_M165 : xs_Mok 165 := ⟨q2138, q104, by decide +kernel, rfl, by decide +kernel, by decide +kernel, by decide +kernel, by decide +kernel⟩
theorem xs_M166 : xs_Mok 166 := ⟨q2142, q104, by decide +kernel, rfl, by decide +kernel, by decide +kernel, by decide +kernel, by decide +kernel⟩
theorem xs_M167 : xs_Mok 167 := ⟨q2146, q104, by decide +kernel, rfl, by decide +kernel, by decide +kernel, by decide +kernel, by decide +kernel⟩
theorem xs_M168 : xs_Mok 168 := ⟨q2151, q104, by decide +kernel, rfl, by decide +kernel, by decide +kernel, by decide +kernel, by decide +kernel⟩
theorem xs_M169 : xs_Mok 169 := ⟨q2155, q104, by decide +kernel, rfl, by decide +kernel, by decide +kernel, by decide +kernel, by decide +kernel⟩
theorem xs_M170 : xs_Mok 170 := ⟨q2159, q104, by decide +kernel, rfl, by decide +kernel, by decide +kernel, by decide +kernel, by decide +kernel⟩
theorem xs_M171 : xs_Mok 171 := ⟨q2163, q104, by decide +kernel, rfl, by decide +kernel, by decide +kernel, by decide +kernel, by decide +kernel⟩
theorem xs_M172 : xs_Mok 172 := ⟨q2167, q104, by decide +kernel, rfl, by decide +kernel, by decide +kernel, by decide +kernel, by decide +kernel⟩
theorem xs_M173 : xs_Mok 173 := ⟨q2171, q104, by decide +kernel, rfl, by decide +kernel, by decide +kernel, by decide +kernel, by decide +kernel⟩
theorem xs_M174 : xs_Mok 174 := ⟨q2175, q104, by decide +kernel, rfl, by decide +kernel, by decide +kernel, by decide +kernel, by decide +kernel⟩
theorem xs_M175 : xs_Mok 175 := ⟨q2179, q104, by decide +kernel, rfl, by decide +kernel, by decide +kernel, by decide +kernel, by decide +kernel⟩
theorem xs_M176 : xs_Mok 176 := ⟨q2183, q104, by decide +kernel, rfl, by decide +kernel, by decide +kernel, by decide +kernel, by decide +kernel⟩
theorem xs_M177 : xs_Mok 177 := ⟨q2187, q104, by decide +kernel, rfl, by decide +kernel, by decide +kernel, by decide +kernel, by decide +kernel⟩
theorem xs_M178 : xs_Mok 178 := ⟨q2191, q104, by decide +kernel, rfl, by decide +kernel, by decide +kernel, by decide +kernel, by decide +kernel⟩
theorem xs_M179 : xs_Mok 179 := ⟨q2195, q104, by decide +kernel, rfl, by decide +kernel, by decide +kernel, by decide +kernel, by decide +kernel⟩
theorem xs_M180 : xs_Mok 180 := ⟨q2199, q104, by decide +kernel, rfl, by decide +kernel, by decide +kernel, by decide +kernel, by decide +kernel⟩
theorem xs_M181 : xs_Mok 181 := ⟨q2203, q104, by decide +kernel, rfl, by decide +kernel, by decide +kernel, by decide +kernel, by decide +kernel⟩
theorem xs_M182 : xs_Mok 182 := ⟨q2207, q104, by decide +kernel, rfl, by decide +kernel, by decide +kernel, by decide +kernel, by decide +kernel⟩
theorem xs_M183 : xs_Mok 183 := ⟨q484, q105, by decide +kernel, rfl, by decide +kernel, by decide +kernel, by decide +kernel, by decide +kernel⟩
theorem xs_M184 : xs_Mok 184 := ⟨q561, q105, by decide +kernel, rfl, by decide +kernel, by decide +kernel, by decide +kernel, by decide +kernel⟩
theorem xs_M185 : xs_Mok 185 := ⟨q572, q105, by decide +kernel, rfl, by decide +kernel, by decide +kernel, by decide +kernel, by decide +kernel⟩
theorem xs_M186 : xs_Mok 186 := ⟨q576, q105, by decide +kernel, rfl, by decide +kernel, by decide +kernel, by decide +kernel, by decide +kernel⟩
theorem xs_M187 : xs_Mok 187 := ⟨q592, q105, by decide +kernel, rfl, by decide +kernel, by decide +kernel, by decide +kernel, by decide +kernel⟩
theorem xs_M188 : xs_Mok 188 := ⟨q1274, q105, by decide +kernel, rfl, by decide +kernel, by decide +kernel, by decide +kernel, by decide +kernel⟩
theorem xs_M189 : xs_Mok 189 := ⟨q1504, q105, by decide +kernel, rfl, by decide +kernel, by decide +kernel, by decide +kernel, by decide +kernel⟩
theorem xs_M190 : xs_Mok 190 := ⟨q946, q117, by decide +kernel, rfl, by decide +kernel, by decide +kernel, by decide +kernel, by decide +kernel⟩
theorem xs_M191 : xs_Mok 191 := ⟨q943, q118, by decide +kernel, rfl, by decide +kernel, by decide +kernel, by decide +kernel, by decide +kernel⟩
theorem xs_M192 : xs_Mok 192 := ⟨q1133, q118, by decide +kernel, rfl, by decide +kernel, by decide +kernel, by decide +kernel, by decide +kernel⟩
theorem xs_M193 : xs_Mok 193 := ⟨q956, q119, by decide +kernel, rfl, by decide +kernel, by decide +kernel, by decide +kernel, by decide +kernel⟩
theorem xs_M194 : xs_Mok 194 := ⟨q1139, q119, by decide +kernel, rfl, by decide +kernel, by decide +kernel, by decide +kernel, by decide +kernel⟩
theorem xs_M195 : xs_Mok 195 := ⟨q970, q120, by decide +kernel, rfl, by decide +kernel, by decide +kernel, by decide +kernel, by decide +kernel⟩
theorem xs_M196 : xs_Mok 196 := ⟨q1141, q120, by decide +kernel, rfl, by decide +kernel, by decide +kernel, by decide +kernel, by decide +kernel⟩
theorem xs_M197 : xs_Mok 197 := ⟨q1015, q121, by decide +kernel, rfl, by decide +kernel, by decide +kernel, by decide +kernel, by decide +kernel⟩
theorem xs_M198 : xs_Mok 198 := ⟨q1090, q121, by decide +kernel, rfl, by decide +kernel, by decide +kernel, by decide +kernel, by decide +kernel⟩
theorem xs_M199 : xs_Mok 199 := ⟨q1127, q121, by decide +kernel, rfl, by decide +kernel, by decide +kernel, by decide +kernel, by decide +kernel⟩
theorem xs_M200 : xs_Mok 200 := ⟨q1160, q121, by decide +kernel, rfl, by decide +kernel, by decide +kernel, by decide +kernel, by decide +kernel⟩
theorem xs_M201 : xs_Mok 201 := ⟨q1012, q122, by decide +kernel, rfl, by decide +kernel, by decide +kernel, by decide +kernel, by decide +kernel⟩
theorem xs_M202 : xs_Mok 202 := ⟨q1154, q122, by decide +kernel, rfl, by decide +kernel, by decide +kernel, by decide +kernel, by decide +kernel⟩
theorem xs_M203 : xs_Mok 203 := ⟨q1004, q123, by decide +kernel, rfl, by decide +kernel, by decide +kernel, by decide +kernel, by decide +kernel⟩
theorem xs_M204 : xs_Mok 204 := ⟨q1136, q123, by decide +kernel, rfl, by decide +kernel, by decide +kernel, by decide +kernel, by decide +kernel⟩
theorem xs_M205 : xs_Mok 205 := ⟨q1030, q124, by decide +kernel, rfl, by decide +kernel, by decide +kernel, by decide +kernel, by decide +kernel⟩
theorem xs_M206 : xs_Mok 206 := ⟨q1150, q124, by decide +kernel, rfl, by decide +kernel, by decide +kernel, by decide +kernel, by decide +kernel⟩
theorem xs_M207 : xs_Mok 207 := ⟨q1039, q125, by decide +kernel, rfl, by decide +kernel, by decide +kernel, by decide +kernel, by decide +kernel⟩
theorem xs_M208 : xs_Mok 208 := ⟨q1089, q125, by decide +kernel, rfl, by decide +kernel, by decide +kernel, by decide +kernel, by decide +kernel⟩
theorem xs_M209 : xs_Mok 209 := ⟨q1058, q126, by decide +kernel, rfl, by decide +kernel, by decide +kernel, by decide +kernel, by decide +kernel⟩
theorem xs_M210 : xs_Mok 210 := ⟨q1082, q126, by decide +kernel, rfl, by decide +kernel, by decide +kernel, by decide +kernel, by decide +kernel⟩
theorem xs_M211 : xs_Mok 211 := ⟨q1069, q127, by decide +kernel, rfl, by decide +kernel, by decide +kernel, by decide +kernel, by decide +kernel⟩
theorem xs_M212 : xs_Mok 212 := ⟨q1086, q127, by decide +kernel, rfl, by decide +kernel, by decide +kernel, by decide +kernel, by decide +kernel⟩
theorem xs_M213 : xs_Mok 213 := ⟨q1221, q128, by decide +kernel, rfl, by decide +kernel, by decide +kernel, by decide +kernel, by decide +kernel⟩
theorem xs_M214 : xs_Mok 214 := ⟨q1283, q129, by decide +kernel, rfl, by decide +kernel, by decide +kernel, by decide +kernel, by decide +kernel⟩
theorem xs_M215 : xs_Mok 215 := ⟨q1350, q129, by decide +kernel, rfl, by decide +kernel, by decide +kernel, by decide +kernel, by decide +kernel⟩
theorem xs_M216 : xs_Mok 216 := ⟨q1358, q129, by decide +kernel, rfl, by decide +kernel, by decide +kernel, by decide +kernel, by decide +kernel⟩
theorem xs_M217 : xs_Mok 217 := ⟨q1279, q130, by decide +kernel, rfl, by decide +kernel, by decide +kernel, by decide +kernel, by decide +kernel⟩
theorem xs_M218 : xs_Mok 218 := ⟨q1348, q130, by decide +kernel, rfl, by decide +kernel, by decide +kernel, by decide +kernel, by decide +kernel⟩
theorem xs_M219 : xs_Mok 219 := ⟨q1356, q130, by decide +kernel, rfl, by decide +kernel, by decide +kernel, by decide +kernel, by decide +kernel⟩
theorem xs_M220 : xs_Mok 220 := ⟨q1364, q130, by decide +kernel, rfl, by decide +kernel, by decide +kernel, by decide +kernel, by decide +kernel⟩
theorem xs_M221 : xs_Mok 221 := ⟨q1455, q130, by decide +kernel, rfl, by decide +kernel, by decide +kernel, by decide +kernel, by decide +kernel⟩
theorem xs_M222 : xs_Mok 222 := ⟨q1463, q130, by decide +kernel, rfl, by decide +kernel, by decide +kernel, by decide +kernel, by decide +kernel⟩
theorem xs_M223 : xs_Mok 223 := ⟨q1467, q130, by decide +kernel, rfl, by decide +kernel, by decide +kernel, by decide +kernel, by decide +kernel⟩
theorem xs_M224 : xs_Mok 224 := ⟨q1367, q131, by decide +kernel, rfl, by decide +kernel, by decide +kernel, by decide +kernel, by decide +kernel⟩
theorem xs_M225 : xs_Mok 225 := ⟨q1385, q131, by decide +kernel, rfl, by decide +kernel, by decide +kernel, by decide +kernel, by decide +kernel⟩
theorem xs_M226 : xs_Mok 226 := ⟨q1474, q131, by decide +kernel, rfl, by decide +kernel, by decide +kernel, by decide +kernel, by decide +kernel⟩
theorem xs_M227 : xs_Mok 227 := ⟨q1413, q132, by decide +kernel, rfl, by decide +kernel, by decide +kernel, by decide +kernel, by decide +kernel⟩
theorem xs_M228 : xs_Mok 228 := ⟨q1445, q132, by decide +kernel, rfl, by decide +kernel, by decide +kernel, by decide +kernel, by decide +kernel⟩
theorem xs_M230 : xs_Mok 230 := ⟨q188, q99, by decide +kernel, rfl, by decide +kernel, by decide +kernel, by decide +kernel, by decide +kernel⟩
theorem xs_M231 : xs_Mok 231 := ⟨q185, q100, by decide +kernel, rfl, by decide +kernel, by decide +kernel, by decide +kernel, by decide +kernel⟩
theorem xs_M235 : xs_Mok 235 := ⟨q647, q107, by decide +kernel, rfl, by decide +kernel, by decide +kernel, by decide +kernel, by decide +kernel⟩
theorem xs_M236 : xs_Mok 236 := ⟨q677, q107, by decide +kernel, rfl, by decide +kernel, by decide +kernel, by decide +kernel, by decide +kernel⟩
theorem xs_M237 : xs_Mok 237 := ⟨q684, q107, by decide +kernel, rfl, by decide +kernel, by decide +kernel, by decide +kernel, by decide +kernel⟩
theorem xs_M238 : xs_Mok 238 := ⟨q688, q107, by decide +kernel, rfl, by decide +kernel, by decide +kernel, by decide +kernel, by decide +kernel⟩
theorem xs_M240 : xs_Mok 240 := ⟨q720, q107, by decide +kernel, rfl, by decide +kernel, by decide +kernel, by decide +kernel, by decide +kernel⟩
theorem xs_M242 : xs_Mok 242 := ⟨q786, q107, by decide +kernel, rfl, by decide +kernel, by decide +kernel, by decide +kernel, by decide +kernel⟩
theorem xs_M243 : xs_Mok 243 := ⟨q644, q108, by decide +kernel, rfl, by decide +kernel, by decide +kernel, by decide +kernel, by decide +kernel⟩
theorem xs_M244 : xs_Mok 244 := ⟨q674, q108, by decide +kernel, rfl, by decide +kernel, by decide +kernel, by decide +kernel, by decide +kernel⟩
theorem xs_M245 : xs_Mok 245 := ⟨q681, q108, by decide +kernel, rfl, by decide +kernel, by decide +kernel, by decide +kernel, by decide +kernel⟩
theorem xs_M246 : xs_Mok 246 := ⟨q772, q108, by decide +kernel, rfl, by decide +kernel, by decide +kernel, by decide +kernel, by decide +kernel⟩
theorem xs_M247 : xs_Mok 247 := ⟨q742, q109, by decide +kernel, rfl, by decide +kernel, by decide +kernel, by decide +kernel, by decide +kernel⟩
theorem xs_M248 : xs_Mok 248 := ⟨q765, q109, by decide +kernel, rfl, by decide +kernel, by decide +kernel, by decide +kernel, by decide +kernel⟩
theorem xs_M249 : xs_Mok 249 := ⟨q777, q109, by decide +kernel, rfl, by decide +kernel, by decide +kernel, by decide +kernel, by decide +kernel⟩
theorem xs_M250 : xs_Mok 250 := ⟨q780, q109, by decide +kernel, rfl, by decide +kernel, by decide +kernel, by decide +kernel, by decide +kernel⟩
theorem xs_M251 : xs_Mok 251 := ⟨q826, q109, by decide +kernel, rfl, by decide +kernel, by decide +kernel, by decide +kernel, by decide +kernel⟩
theorem xs_M252 : xs_Mok 252 := ⟨q843, q109, by decide +kernel, rfl, by decide +kernel, by decide +kernel, by decide +kernel, by decide +kernel⟩
theorem xs_M253 : xs_Mok 253 := ⟨q847, q109, by decide +kernel, rfl, by decide +kernel, by decide +kernel, by decide +kernel, by decide +kernel⟩
theorem xs_M254 : xs_Mok 254 := ⟨q851, q109, by decide +kernel, rfl, by decide +kernel, by decide +kernel, by decide +kernel, by decide +kernel⟩
theorem xs_M255 : xs_Mok 255 := ⟨q855, q109, by decide +kernel, rfl, by decide +kernel, by decide +kernel, by decide +kernel, by decide +kernel⟩
theorem xs_M256 : xs_Mok 256 := ⟨q859, q109, by decide +kernel, rfl, by decide +kernel, by decide +kernel, by decide +kernel, by decide +kernel⟩
theorem xs_M257 : xs_Mok 257 := ⟨q885, q109, by decide +kernel, rfl, by decide +kernel, by decide +kernel, by decide +kernel, by decide +kernel⟩
theorem xs_M258 : xs_Mok 258 := ⟨q653, q110, by decide +kernel, rfl, by decide +kernel, by decide +kernel, by decide +kernel, by decide +kernel⟩
theorem xs_M259 : xs_Mok 259 := ⟨q656, q110, by decide +kernel, rfl, by decide +kernel, by decide +kernel, by decide +kernel, by decide +kernel⟩
theorem xs_M260 : xs_Mok 260 := ⟨q733, q110, by decide +kernel, rfl, by decide +kernel, by decide +kernel, by decide +kernel, by decide +kernel⟩
theorem xs_M261 : xs_Mok 261 := ⟨q736, q110, by decide +kernel, rfl, by decide +kernel, by decide +kernel, by decide +kernel, by decide +kernel⟩
theorem xs_M262 : xs_Mok 262 := ⟨q739, q110, by decide +kernel, rfl, by decide +kernel, by decide +kernel, by decide +kernel, by decide +kernel⟩
theorem xs_M263 : xs_Mok 263 := ⟨q750, q110, by decide +kernel, rfl, by decide +kernel, by decide +kernel, by decide +kernel, by decide +kernel⟩
theorem xs_M264 : xs_Mok 264 := ⟨q759, q110, by decide +kernel, rfl, by decide +kernel, by decide +kernel, by decide +kernel, by decide +kernel⟩
theorem xs_M265 : xs_Mok 265 := ⟨q762, q110, by decide +kernel, rfl, by decide +kernel, by decide +kernel, by decide +kernel, by decide +kernel⟩
theorem xs_M266 : xs_Mok 266 := ⟨q801, q110, by decide +kernel, rfl, by decide +kernel, by decide +kernel, by decide +kernel, by decide +kernel⟩
theorem xs_M267 : xs_Mok 267 := ⟨q804, q110, by decide +kernel, rfl, by decide +kernel, by decide +kernel, by decide +kernel, by decide +kernel⟩
theorem xs_M268 : xs_Mok 268 := ⟨q807, q110, by decide +kernel, rfl, by decide +kernel, by decide +kernel, by decide +kernel, by decide +kernel⟩
theorem xs_M269 : xs_Mok 269 := ⟨q811, q110, by decide +kernel, rfl, by decide +kernel, by decide +kernel, by decide +kernel, by decide +kernel⟩
theorem xs_M270 : xs_Mok 270 := ⟨q873, q110, by decide +kernel, rfl, by decide +kernel, by decide +kernel, by decide +kernel, by decide +kernel⟩
theorem xs_M271 : xs_Mok 271 := ⟨q879, q110, by decide +kernel, rfl, by decide +kernel, by decide +kernel, by decide +kernel, by decide +kernel⟩
theorem xs_M272 : xs_Mok 272 := ⟨q882, q110, by decide +kernel, rfl, by decide +kernel, by decide +kernel, by decide +kernel, by decide +kernel⟩
theorem xs_M273 : xs_Mok 273 := ⟨q891, q110, by decide +kernel, rfl, by decide +kernel, by decide +kernel, by decide +kernel, by decide +kernel⟩
theorem xs_M274 : xs_Mok 274 := ⟨q894, q110, by decide +kernel, rfl, by decide +kernel, by decide +kernel, by decide +kernel, by decide +kernel⟩
theorem xs_M275 : xs_Mok 275 := ⟨q695, q111, by decide +kernel, rfl, by decide +kernel, by decide +kernel, by decide +kernel, by decide +kernel⟩
theorem xs_M276 : xs_Mok 276 := ⟨q700, q111, by decide +kernel, rfl, by decide +kernel, by decide +kernel, by decide +kernel, by decide +kernel⟩
theorem xs_M277 : xs_Mok 277 := ⟨q704, q112, by decide +kernel, rfl, by decide +kernel, by decide +kernel, by decide +kernel, by decide +kernel⟩
theorem xs_M278 : xs_Mok 278 := ⟨q791, q112, by decide +kernel, rfl, by decide +kernel, by decide +kernel, by decide +kernel, by decide +kernel⟩
theorem xs_M279 : xs_Mok 279 := ⟨q794, q112, by decide +kernel, rfl, by decide +kernel, by decide +kernel, by decide +kernel, by decide +kernel⟩
theorem xs_M280 : xs_Mok 280 := ⟨q797, q112, by decide +kernel, rfl, by decide +kernel, by decide +kernel, by decide +kernel, by decide +kernel⟩
theorem xs_M281 : xs_Mok 281 := ⟨q723, q114, by decide +kernel, rfl, by decide +kernel, by decide +kernel, by decide +kernel, by decide +kernel⟩
theorem xs_M282 : xs_Mok 282 := ⟨q730, q114, by decide +kernel, rfl, by decide +kernel, by decide +kernel, by decide +kernel, by decide +kernel⟩
theorem xs_M283 : xs_Mok 283 := ⟨q830, q114, by decide +kernel, rfl, by decide +kernel, by decide +kernel, by decide +kernel, by decide +kernel⟩
theorem xs_M284 : xs_Mok 284 := ⟨q862, q114, by decide +kernel, rfl, by decide +kernel, by decide +kernel, by decide +kernel, by decide +kernel⟩
theorem xs_M285 : xs_Mok 285 := ⟨q865, q114, by decide +kernel, rfl, by decide +kernel, by decide +kernel, by decide +kernel, by decide +kernel⟩
theorem xs_M286 : xs_Mok 286 := ⟨q870, q114, by decide +kernel, rfl, by decide +kernel, by decide +kernel, by decide +kernel, by decide +kernel⟩
theorem xs_M287 : xs_Mok 287 := ⟨q747, q115, by decide +kernel, rfl, by decide +kernel, by decide +kernel, by decide +kernel, by decide +kernel⟩
theorem xs_M288 : xs_Mok 288 := ⟨q768, q115, by decide +kernel, rfl, by decide +kernel, by decide +kernel, by decide +kernel, by decide +kernel⟩
theorem xs_M289 : xs_Mok 289 := ⟨q888, q115, by decide +kernel, rfl, by decide +kernel, by decide +kernel, by decide +kernel, by decide +kernel⟩
theorem xs_M290 : xs_Mok 290 := ⟨q897, q116, by decide +kernel, rfl, by decide +kernel, by decide +kernel, by decide +kernel, by decide +kernel⟩
theorem xs_M291 : xs_Mok 291 := ⟨q900, q116, by decide +kernel, rfl, by decide +kernel, by decide +kernel, by decide +kernel, by decide +kernel⟩
theorem xs_M292 : xs_Mok 292 := ⟨q904, q116, by decide +kernel, rfl, by decide +kernel, by decide +kernel, by decide +kernel, by decide +kernel⟩
/-- a static call -/
def xs_Sok (o idx y : Nat) : Prop := xs_Mok y ∧ Cond.static (xm_mY y) ∈ lw_all ∧ (Cond.methodLink (xm_oN o) idx (xm_mY y) ∈ lw_all ∨ ∃ host, Cond.methodLinkNest (xm_oN o) idx (xm_mY y) host ∈ xs_nest)
theorem xs_S_0_0 : xs_Sok 0 190 10 := ⟨xs_M10, q556, Or.inl q555⟩
theorem xs_S_0_1 : xs_Sok 0 199 2 := ⟨xs_M2, q475, Or.inl q474⟩
theorem xs_S_0_2 : xs_Sok 0 238 9 := ⟨xs_M9, q553, Or.inl q552⟩
theorem xs_S_0_3 : xs_Sok 0 290 19 := ⟨xs_M19, q617, Or.inl q616⟩
theorem xs_S_0_4 : xs_Sok 0 340 28 := ⟨xs_M28, q1162, Or.inl q1161⟩
theorem xs_S_0 : ∀ q ∈ xm_lkS_0, xs_Sok 0 q.1 q.2 := List.forall_mem_cons.mpr ⟨xs_S_0_0, List.forall_mem_cons.mpr ⟨xs_S_0_1, List.forall_mem_cons.mpr ⟨xs_S_0_2, List.forall_mem_cons.mpr ⟨xs_S_0_3, List.forall_mem_cons.mpr ⟨xs_S_0_4, (fun _ h => absurd h List.not_mem_nil)⟩⟩⟩⟩⟩
theorem xs_S_2_0 : xs_Sok 2 92 2 := ⟨xs_M2, q475, Or.inr ⟨_, List.mem_of_getElem? (i := 22) rfl⟩⟩
theorem xs_S_2 : ∀ q ∈ xm_lkS_2, xs_Sok 2 q.1 q.2 := List.forall_mem_cons.mpr ⟨xs_S_2_0, (fun _ h => absurd h List.not_mem_nil)⟩
theorem xs_S_4_0 : xs_Sok 4 244 91 := ⟨xs_M91, q1827, Or.inl q1826⟩
theorem xs_S_4_1 : xs_Sok 4 261 104 := ⟨xs_M104, q1878, Or.inl q1877⟩
theorem xs_S_4_2 : xs_Sok 4 269 107 := ⟨xs_M107, q1889, Or.inl q1888⟩
theorem xs_S_4_3 : xs_Sok 4 354 115 := ⟨xs_M115, q1920, Or.inl q1919⟩
theorem xs_S_4_4 : xs_Sok 4 357 116 := ⟨xs_M116, q1923, Or.inl q1922⟩
theorem xs_S_4_5 : xs_Sok 4 361 117 := ⟨xs_M117, q1947, Or.inl q1946⟩
theorem xs_S_4_6 : xs_Sok 4 436 138 := ⟨xs_M138, q2030, Or.inl q2029⟩
theorem xs_S_4_7 : xs_Sok 4 512 165 := ⟨xs_M165, q2137, Or.inl q2136⟩
theorem xs_S_4 : ∀ q ∈ xm_lkS_4, xs_Sok 4 q.1 q.2 := List.forall_mem_cons.mpr ⟨xs_S_4_0, List.forall_mem_cons.mpr ⟨xs_S_4_1, List.forall_mem_cons.mpr ⟨xs_S_4_2, List.forall_mem_cons.mpr ⟨xs_S_4_3, List.forall_mem_cons.mpr ⟨xs_S_4_4, List.forall_mem_cons.mpr ⟨xs_S_4_5, List.forall_mem_cons.mpr ⟨xs_S_4_6, List.forall_mem_cons.mpr ⟨xs_S_4_7, (fun _ h => absurd h List.not_mem_nil)⟩⟩⟩⟩⟩⟩⟩⟩
theorem xs_S_5_0 : xs_Sok 5 50 12 := ⟨xs_M12, q578, Or.inr ⟨_, List.mem_of_getElem? (i := 17) rfl⟩⟩
theorem xs_S_5 : ∀ q ∈ xm_lkS_5, xs_Sok 5 q.1 q.2 := List.forall_mem_cons.mpr ⟨xs_S_5_0, (fun _ h => absurd h List.not_mem_nil)⟩
theorem xs_S_18_0 : xs_Sok 18 26 12 := ⟨xs_M12, q578, Or.inr ⟨_, List.mem_of_getElem? (i := 18) rfl⟩⟩
theorem xs_S_18 : ∀ q ∈ xm_lkS_18, xs_Sok 18 q.1 q.2 := List.forall_mem_cons.mpr ⟨xs_S_18_0, (fun _ h => absurd h List.not_mem_nil)⟩
theorem xs_S_25_0 : xs_Sok 25 26 258 := ⟨xs_M258, q652, Or.inl q651⟩
theorem xs_S_25_1 : xs_Sok 25 108 277 := ⟨xs_M277, q703, Or.inl q702⟩
theorem xs_S_25_2 : xs_Sok 25 114 275 := ⟨xs_M275, q694, Or.inl q693⟩
theorem xs_S_25_3 : xs_Sok 25 125 282 := ⟨xs_M282, q729, Or.inl q728⟩
theorem xs_S_25_4 : xs_Sok 25 191 281 := ⟨xs_M281, q722, Or.inl q721⟩
theorem xs_S_25_5 : xs_Sok 25 197 264 := ⟨xs_M264, q758, Or.inl q757⟩
theorem xs_S_25 : ∀ q ∈ xm_lkS_25, xs_Sok 25 q.1 q.2 := List.forall_mem_cons.mpr ⟨xs_S_25_0, List.forall_mem_cons.mpr ⟨xs_S_25_1, List.forall_mem_cons.mpr ⟨xs_S_25_2, List.forall_mem_cons.mpr ⟨xs_S_25_3, List.forall_mem_cons.mpr ⟨xs_S_25_4, List.forall_mem_cons.mpr ⟨xs_S_25_5, (fun _ h => absurd h List.not_mem_nil)⟩⟩⟩⟩⟩⟩
theorem xs_S_27_0 : xs_Sok 27 47 269 := ⟨xs_M269, q810, Or.inl q809⟩
theorem xs_S_27_1 : xs_Sok 27 54 278 := ⟨xs_M278, q790, Or.inl q789⟩
theorem xs_S_27_2 : xs_Sok 27 541 283 := ⟨xs_M283, q829, Or.inl q828⟩
theorem xs_S_27_3 : xs_Sok 27 637 284 := ⟨xs_M284, q861, Or.inl q860⟩
theorem xs_S_27_4 : xs_Sok 27 640 270 := ⟨xs_M270, q872, Or.inl q871⟩
theorem xs_S_27_5 : xs_Sok 27 1051 266 := ⟨xs_M266, q800, Or.inl q799⟩
theorem xs_S_27_6 : xs_Sok 27 1059 288 := ⟨xs_M288, q767, Or.inl q766⟩
theorem xs_S_27_7 : xs_Sok 27 1062 289 := ⟨xs_M289, q887, Or.inl q886⟩
theorem xs_S_27_8 : xs_Sok 27 1065 287 := ⟨xs_M287, q746, Or.inl q745⟩
theorem xs_S_27 : ∀ q ∈ xm_lkS_27, xs_Sok 27 q.1 q.2 := List.forall_mem_cons.mpr ⟨xs_S_27_0, List.forall_mem_cons.mpr ⟨xs_S_27_1, List.forall_mem_cons.mpr ⟨xs_S_27_2, List.forall_mem_cons.mpr ⟨xs_S_27_3, List.forall_mem_cons.mpr ⟨xs_S_27_4, List.forall_mem_cons.mpr ⟨xs_S_27_5, List.forall_mem_cons.mpr ⟨xs_S_27_6, List.forall_mem_cons.mpr ⟨xs_S_27_7, List.forall_mem_cons.mpr ⟨xs_S_27_8, (fun _ h => absurd h List.not_mem_nil)⟩⟩⟩⟩⟩⟩⟩⟩⟩
theorem xs_S_28_0 : xs_Sok 28 11 259 := ⟨xs_M259, q655, Or.inl q654⟩
theorem xs_S_28_1 : xs_Sok 28 48 262 := ⟨xs_M262, q738, Or.inl q737⟩
theorem xs_S_28_2 : xs_Sok 28 67 265 := ⟨xs_M265, q761, Or.inl q760⟩
theorem xs_S_28_3 : xs_Sok 28 71 268 := ⟨xs_M268, q806, Or.inl q805⟩
theorem xs_S_28_4 : xs_Sok 28 96 272 := ⟨xs_M272, q881, Or.inl q880⟩
theorem xs_S_28_5 : xs_Sok 28 111 263 := ⟨xs_M263, q749, Or.inl q748⟩
theorem xs_S_28_6 : xs_Sok 28 123 267 := ⟨xs_M267, q803, Or.inl q802⟩
theorem xs_S_28_7 : xs_Sok 28 126 278 := ⟨xs_M278, q790, Or.inl q808⟩
theorem xs_S_28_8 : xs_Sok 28 157 291 := ⟨xs_M291, q899, Or.inl q898⟩
theorem xs_S_28_9 : xs_Sok 28 161 292 := ⟨xs_M292, q903, Or.inl q902⟩
theorem xs_S_28_10 : xs_Sok 28 164 290 := ⟨xs_M290, q896, Or.inl q895⟩
theorem xs_S_28_11 : xs_Sok 28 173 261 := ⟨xs_M261, q735, Or.inl q734⟩
theorem xs_S_28_12 : xs_Sok 28 228 271 := ⟨xs_M271, q878, Or.inl q877⟩
theorem xs_S_28_13 : xs_Sok 28 232 274 := ⟨xs_M274, q893, Or.inl q892⟩
theorem xs_S_28_14 : xs_Sok 28 241 257 := ⟨xs_M257, q884, Or.inl q883⟩
theorem xs_S_28_15 : xs_Sok 28 244 273 := ⟨xs_M273, q890, Or.inl q889⟩
theorem xs_S_28_16 : xs_Sok 28 414 248 := ⟨xs_M248, q764, Or.inl q763⟩
theorem xs_S_28_17 : xs_Sok 28 419 247 := ⟨xs_M247, q741, Or.inl q740⟩
theorem xs_S_28 : ∀ q ∈ xm_lkS_28, xs_Sok 28 q.1 q.2 := List.forall_mem_cons.mpr ⟨xs_S_28_0, List.forall_mem_cons.mpr ⟨xs_S_28_1, List.forall_mem_cons.mpr ⟨xs_S_28_2, List.forall_mem_cons.mpr ⟨xs_S_28_3, List.forall_mem_cons.mpr ⟨xs_S_28_4, List.forall_mem_cons.mpr ⟨xs_S_28_5, List.forall_mem_cons.mpr ⟨xs_S_28_6, List.forall_mem_cons.mpr ⟨xs_S_28_7, List.forall_mem_cons.mpr ⟨xs_S_28_8, List.forall_mem_cons.mpr ⟨xs_S_28_9, List.forall_mem_cons.mpr ⟨xs_S_28_10, List.forall_mem_cons.mpr ⟨xs_S_28_11, List.forall_mem_cons.mpr ⟨xs_S_28_12, List.forall_mem_cons.mpr ⟨xs_S_28_13, List.forall_mem_cons.mpr ⟨xs_S_28_14, List.forall_mem_cons.mpr ⟨xs_S_28_15, List.forall_mem_cons.mpr ⟨xs_S_28_16, List.forall_mem_cons.mpr ⟨xs_S_28_17, (fun _ h => absurd h List.not_mem_nil)⟩⟩⟩⟩⟩⟩⟩⟩⟩⟩⟩⟩⟩⟩⟩⟩⟩⟩
theorem xs_S_29_0 : xs_Sok 29 201 276 := ⟨xs_M276, q699, Or.inl q698⟩
theorem xs_S_29 : ∀ q ∈ xm_lkS_29, xs_Sok 29 q.1 q.2 := List.forall_mem_cons.mpr ⟨xs_S_29_0, (fun _ h => absurd h List.not_mem_nil)⟩
theorem xs_S_30_0 : xs_Sok 30 339 279 := ⟨xs_M279, q793, Or.inl q792⟩
theorem xs_S_30_1 : xs_Sok 30 343 280 := ⟨xs_M280, q796, Or.inl q795⟩
theorem xs_S_30 : ∀ q ∈ xm_lkS_30, xs_Sok 30 q.1 q.2 := List.forall_mem_cons.mpr ⟨xs_S_30_0, List.forall_mem_cons.mpr ⟨xs_S_30_1, (fun _ h => absurd h List.not_mem_nil)⟩⟩
theorem xs_S_31_0 : xs_Sok 31 88 285 := ⟨xs_M285, q864, Or.inl q863⟩
theorem xs_S_31_1 : xs_Sok 31 95 286 := ⟨xs_M286, q869, Or.inl q868⟩
theorem xs_S_31_2 : xs_Sok 31 240 260 := ⟨xs_M260, q732, Or.inl q731⟩
theorem xs_S_31 : ∀ q ∈ xm_lkS_31, xs_Sok 31 q.1 q.2 := List.forall_mem_cons.mpr ⟨xs_S_31_0, List.forall_mem_cons.mpr ⟨xs_S_31_1, List.forall_mem_cons.mpr ⟨xs_S_31_2, (fun _ h => absurd h List.not_mem_nil)⟩⟩⟩
theorem xs_S {o idx : Nat} {v : Nat} (h : xm_lkS o idx = some v) : xs_Sok o idx v := by
  unfold xm_lkS at h
  split at h
  · exact xs_S_0 _ (lk_mem h)
  · exact xs_S_2 _ (lk_mem h)
  · exact xs_S_4 _ (lk_mem h)
  · exact xs_S_5 _ (lk_mem h)
  · exact xs_S_18 _ (lk_mem h)
  · exact xs_S_25 _ (lk_mem h)
  · exact xs_S_27 _ (lk_mem h)
  · exact xs_S_28 _ (lk_mem h)
  · exact xs_S_29 _ (lk_mem h)
  · exact xs_S_30 _ (lk_mem h)
  · exact xs_S_31 _ (lk_mem h)
  · cases h
/-- a call by invokespecial: a constructor, or super.m(..) -/
def xs_Pok (o idx y : Nat) : Prop := xs_Mok y ∧ Cond.instanceMethod (xm_mY y) ∈ lw_all ∧ (((xm_mY y).name = "<init>" ∧ xm_mT y = none ∧ (Cond.methodLink (xm_oN o) idx (xm_mY y) ∈ lw_all ∨ ∃ host, Cond.methodLinkNest (xm_oN o) idx (xm_mY y) host ∈ xs_nest)) ∨ (xm_lkZ o idx = true ∧ Cond.methodLink (xm_oN o) idx (xm_mY y) ∈ lw_all ∧ Cond.sameMethod (xm_mY y).cls (xm_mY y).cls (xm_mY y).name (xm_mY y).desc ∈ lw_all ∧ Cond.superclass (xm_oN o) (xm_mY y).cls ∈ lw_all ∧ (xm_mY y).name ≠ "<init>"))
theorem xs_P_0_0 : xs_Pok 0 41 66 := ⟨xs_M66, q181, Or.inl ⟨rfl, rfl, Or.inl q180⟩⟩
theorem xs_P_0_1 : xs_Pok 0 96 67 := ⟨xs_M67, q236, Or.inl ⟨rfl, rfl, Or.inr ⟨_, List.mem_of_getElem? (i := 12) rfl⟩⟩⟩
theorem xs_P_0_2 : xs_Pok 0 116 87 := ⟨xs_M87, q274, Or.inl ⟨rfl, rfl, Or.inr ⟨_, List.mem_of_getElem? (i := 13) rfl⟩⟩⟩
theorem xs_P_0_3 : xs_Pok 0 211 183 := ⟨xs_M183, q483, Or.inl ⟨rfl, rfl, Or.inl q482⟩⟩
theorem xs_P_0_4 : xs_Pok 0 402 213 := ⟨xs_M213, q1220, Or.inl ⟨rfl, rfl, Or.inl q1219⟩⟩
theorem xs_P_0_5 : xs_Pok 0 423 217 := ⟨xs_M217, q1278, Or.inl ⟨rfl, rfl, Or.inl q1277⟩⟩
theorem xs_P_0_6 : xs_Pok 0 454 225 := ⟨xs_M225, q1384, Or.inl ⟨rfl, rfl, Or.inl q1383⟩⟩
theorem xs_P_0_7 : xs_Pok 0 461 227 := ⟨xs_M227, q1412, Or.inl ⟨rfl, rfl, Or.inl q1411⟩⟩
theorem xs_P_0 : ∀ q ∈ xm_lkP_0, xs_Pok 0 q.1 q.2 := List.forall_mem_cons.mpr ⟨xs_P_0_0, List.forall_mem_cons.mpr ⟨xs_P_0_1, List.forall_mem_cons.mpr ⟨xs_P_0_2, List.forall_mem_cons.mpr ⟨xs_P_0_3, List.forall_mem_cons.mpr ⟨xs_P_0_4, List.forall_mem_cons.mpr ⟨xs_P_0_5, List.forall_mem_cons.mpr ⟨xs_P_0_6, List.forall_mem_cons.mpr ⟨xs_P_0_7, (fun _ h => absurd h List.not_mem_nil)⟩⟩⟩⟩⟩⟩⟩⟩
theorem xs_P_1_0 : xs_Pok 1 1 231 := ⟨xs_M231, q184, Or.inl ⟨rfl, rfl, Or.inl q183⟩⟩
theorem xs_P_1 : ∀ q ∈ xm_lkP_1, xs_Pok 1 q.1 q.2 := List.forall_mem_cons.mpr ⟨xs_P_1_0, (fun _ h => absurd h List.not_mem_nil)⟩
theorem xs_P_2_0 : xs_Pok 2 62 243 := ⟨xs_M243, q643, Or.inl ⟨rfl, rfl, Or.inl q642⟩⟩
theorem xs_P_2_1 : xs_Pok 2 130 201 := ⟨xs_M201, q1011, Or.inl ⟨rfl, rfl, Or.inl q1010⟩⟩
theorem xs_P_2_2 : xs_Pok 2 135 205 := ⟨xs_M205, q1029, Or.inl ⟨rfl, rfl, Or.inl q1028⟩⟩
theorem xs_P_2_3 : xs_Pok 2 144 207 := ⟨xs_M207, q1038, Or.inl ⟨rfl, rfl, Or.inl q1037⟩⟩
theorem xs_P_2_4 : xs_Pok 2 149 209 := ⟨xs_M209, q1057, Or.inl ⟨rfl, rfl, Or.inl q1056⟩⟩
theorem xs_P_2_5 : xs_Pok 2 152 211 := ⟨xs_M211, q1068, Or.inl ⟨rfl, rfl, Or.inl q1067⟩⟩
theorem xs_P_2_6 : xs_Pok 2 158 195 := ⟨xs_M195, q969, Or.inl ⟨rfl, rfl, Or.inl q968⟩⟩
theorem xs_P_2_7 : xs_Pok 2 169 203 := ⟨xs_M203, q1003, Or.inl ⟨rfl, rfl, Or.inl q1002⟩⟩
theorem xs_P_2_8 : xs_Pok 2 178 193 := ⟨xs_M193, q955, Or.inl ⟨rfl, rfl, Or.inl q954⟩⟩
theorem xs_P_2_9 : xs_Pok 2 181 191 := ⟨xs_M191, q942, Or.inl ⟨rfl, rfl, Or.inl q941⟩⟩
theorem xs_P_2 : ∀ q ∈ xm_lkP_2, xs_Pok 2 q.1 q.2 := List.forall_mem_cons.mpr ⟨xs_P_2_0, List.forall_mem_cons.mpr ⟨xs_P_2_1, List.forall_mem_cons.mpr ⟨xs_P_2_2, List.forall_mem_cons.mpr ⟨xs_P_2_3, List.forall_mem_cons.mpr ⟨xs_P_2_4, List.forall_mem_cons.mpr ⟨xs_P_2_5, List.forall_mem_cons.mpr ⟨xs_P_2_6, List.forall_mem_cons.mpr ⟨xs_P_2_7, List.forall_mem_cons.mpr ⟨xs_P_2_8, List.forall_mem_cons.mpr ⟨xs_P_2_9, (fun _ h => absurd h List.not_mem_nil)⟩⟩⟩⟩⟩⟩⟩⟩⟩⟩
theorem xs_P_7_0 : xs_Pok 7 1 190 := ⟨xs_M190, q945, Or.inl ⟨rfl, rfl, Or.inr ⟨_, List.mem_of_getElem? (i := 15) rfl⟩⟩⟩
theorem xs_P_7 : ∀ q ∈ xm_lkP_7, xs_Pok 7 q.1 q.2 := List.forall_mem_cons.mpr ⟨xs_P_7_0, (fun _ h => absurd h List.not_mem_nil)⟩
theorem xs_P_8_0 : xs_Pok 8 1 190 := ⟨xs_M190, q945, Or.inl ⟨rfl, rfl, Or.inr ⟨_, List.mem_of_getElem? (i := 20) rfl⟩⟩⟩
theorem xs_P_8 : ∀ q ∈ xm_lkP_8, xs_Pok 8 q.1 q.2 := List.forall_mem_cons.mpr ⟨xs_P_8_0, (fun _ h => absurd h List.not_mem_nil)⟩
theorem xs_P_9_0 : xs_Pok 9 1 190 := ⟨xs_M190, q945, Or.inl ⟨rfl, rfl, Or.inr ⟨_, List.mem_of_getElem? (i := 23) rfl⟩⟩⟩
theorem xs_P_9 : ∀ q ∈ xm_lkP_9, xs_Pok 9 q.1 q.2 := List.forall_mem_cons.mpr ⟨xs_P_9_0, (fun _ h => absurd h List.not_mem_nil)⟩
theorem xs_P_11_0 : xs_Pok 11 3 197 := ⟨xs_M197, q1014, Or.inl ⟨rfl, rfl, Or.inl q1013⟩⟩
theorem xs_P_11 : ∀ q ∈ xm_lkP_11, xs_Pok 11 q.1 q.2 := List.forall_mem_cons.mpr ⟨xs_P_11_0, (fun _ h => absurd h List.not_mem_nil)⟩
theorem xs_P_12_0 : xs_Pok 12 1 190 := ⟨xs_M190, q945, Or.inl ⟨rfl, rfl, Or.inr ⟨_, List.mem_of_getElem? (i := 19) rfl⟩⟩⟩
theorem xs_P_12 : ∀ q ∈ xm_lkP_12, xs_Pok 12 q.1 q.2 := List.forall_mem_cons.mpr ⟨xs_P_12_0, (fun _ h => absurd h List.not_mem_nil)⟩
theorem xs_P_13_0 : xs_Pok 13 1 197 := ⟨xs_M197, q1014, Or.inl ⟨rfl, rfl, Or.inl q1031⟩⟩
theorem xs_P_13 : ∀ q ∈ xm_lkP_13, xs_Pok 13 q.1 q.2 := List.forall_mem_cons.mpr ⟨xs_P_13_0, (fun _ h => absurd h List.not_mem_nil)⟩
theorem xs_P_14_0 : xs_Pok 14 1 197 := ⟨xs_M197, q1014, Or.inl ⟨rfl, rfl, Or.inl q1040⟩⟩
theorem xs_P_14 : ∀ q ∈ xm_lkP_14, xs_Pok 14 q.1 q.2 := List.forall_mem_cons.mpr ⟨xs_P_14_0, (fun _ h => absurd h List.not_mem_nil)⟩
theorem xs_P_15_0 : xs_Pok 15 3 207 := ⟨xs_M207, q1038, Or.inl ⟨rfl, rfl, Or.inl q1059⟩⟩
theorem xs_P_15 : ∀ q ∈ xm_lkP_15, xs_Pok 15 q.1 q.2 := List.forall_mem_cons.mpr ⟨xs_P_15_0, (fun _ h => absurd h List.not_mem_nil)⟩
theorem xs_P_16_0 : xs_Pok 16 3 207 := ⟨xs_M207, q1038, Or.inl ⟨rfl, rfl, Or.inl q1070⟩⟩
theorem xs_P_16 : ∀ q ∈ xm_lkP_16, xs_Pok 16 q.1 q.2 := List.forall_mem_cons.mpr ⟨xs_P_16_0, (fun _ h => absurd h List.not_mem_nil)⟩
theorem xs_P_19_0 : xs_Pok 19 11 214 := ⟨xs_M214, q1282, Or.inl ⟨rfl, rfl, Or.inl q1281⟩⟩
theorem xs_P_19 : ∀ q ∈ xm_lkP_19, xs_Pok 19 q.1 q.2 := List.forall_mem_cons.mpr ⟨xs_P_19_0, (fun _ h => absurd h List.not_mem_nil)⟩
theorem xs_P_20_0 : xs_Pok 20 28 214 := ⟨xs_M214, q1282, Or.inl ⟨rfl, rfl, Or.inl q1388⟩⟩
theorem xs_P_20 : ∀ q ∈ xm_lkP_20, xs_Pok 20 q.1 q.2 := List.forall_mem_cons.mpr ⟨xs_P_20_0, (fun _ h => absurd h List.not_mem_nil)⟩
theorem xs_P_23_0 : xs_Pok 23 16 230 := ⟨xs_M230, q187, Or.inl ⟨rfl, rfl, Or.inl q186⟩⟩
theorem xs_P_23 : ∀ q ∈ xm_lkP_23, xs_Pok 23 q.1 q.2 := List.forall_mem_cons.mpr ⟨xs_P_23_0, (fun _ h => absurd h List.not_mem_nil)⟩
theorem xs_P_26_0 : xs_Pok 26 1 235 := ⟨xs_M235, q646, Or.inl ⟨rfl, rfl, Or.inl q645⟩⟩
theorem xs_P_26_1 : xs_Pok 26 50 237 := ⟨xs_M237, q683, Or.inr ⟨by decide, q682, q2211, q670, by decide +kernel⟩⟩
theorem xs_P_26_2 : xs_Pok 26 137 249 := ⟨xs_M249, q776, Or.inl ⟨rfl, rfl, Or.inl q775⟩⟩
theorem xs_P_26_3 : xs_Pok 26 343 236 := ⟨xs_M236, q676, Or.inr ⟨by decide, q675, q2210, q670, by decide +kernel⟩⟩
theorem xs_P_26 : ∀ q ∈ xm_lkP_26, xs_Pok 26 q.1 q.2 := List.forall_mem_cons.mpr ⟨xs_P_26_0, List.forall_mem_cons.mpr ⟨xs_P_26_1, List.forall_mem_cons.mpr ⟨xs_P_26_2, List.forall_mem_cons.mpr ⟨xs_P_26_3, (fun _ h => absurd h List.not_mem_nil)⟩⟩⟩⟩
theorem xs_P_27_0 : xs_Pok 27 489 250 := ⟨xs_M250, q779, Or.inl ⟨rfl, rfl, Or.inl q778⟩⟩
theorem xs_P_27 : ∀ q ∈ xm_lkP_27, xs_Pok 27 q.1 q.2 := List.forall_mem_cons.mpr ⟨xs_P_27_0, (fun _ h => absurd h List.not_mem_nil)⟩
theorem xs_P_35_0 : xs_Pok 35 9 0 := ⟨xs_M0, q136, Or.inl ⟨rfl, rfl, Or.inl q135⟩⟩
theorem xs_P_35_1 : xs_Pok 35 12 89 := ⟨xs_M89, q1508, Or.inl ⟨rfl, rfl, Or.inl q1507⟩⟩
theorem xs_P_35 : ∀ q ∈ xm_lkP_35, xs_Pok 35 q.1 q.2 := List.forall_mem_cons.mpr ⟨xs_P_35_0, List.forall_mem_cons.mpr ⟨xs_P_35_1, (fun _ h => absurd h List.not_mem_nil)⟩⟩
theorem xs_P {o idx : Nat} {v : Nat} (h : xm_lkP o idx = some v) : xs_Pok o idx v := by
  unfold xm_lkP at h
  split at h
  · exact xs_P_0 _ (lk_mem h)
  · exact xs_P_1 _ (lk_mem h)
  · exact xs_P_2 _ (lk_mem h)
  · exact xs_P_7 _ (lk_mem h)
  · exact xs_P_8 _ (lk_mem h)
  · exact xs_P_9 _ (lk_mem h)
  · exact xs_P_11 _ (lk_mem h)
  · exact xs_P_12 _ (lk_mem h)
  · exact xs_P_13 _ (lk_mem h)
  · exact xs_P_14 _ (lk_mem h)
  · exact xs_P_15 _ (lk_mem h)
  · exact xs_P_16 _ (lk_mem h)
  · exact xs_P_19 _ (lk_mem h)
  · exact xs_P_20 _ (lk_mem h)
  · exact xs_P_23 _ (lk_mem h)
  · exact xs_P_26 _ (lk_mem h)
  · exact xs_P_27 _ (lk_mem h)
  · exact xs_P_35 _ (lk_mem h)
  · cases h
/-- a call by invokevirtual on an object of kind kd -/
def xs_Rok (o idx kd y : Nat) : Prop := ∃ sc, kd = sc + 1 ∧ xs_cc sc = true ∧ xs_Mok y ∧ Cond.instanceMethod (xm_mY y) ∈ lw_all ∧
  ((Cond.methodLink (xm_oN o) idx (xm_mY y) ∈ lw_all ∧ (Cond.selects (xm_oN sc) (xm_mY y) (xm_mY y) ∈ lw_all ∨ Cond.selects (xm_oN sc) (xm_mY y) (xm_mY y) ∈ xs_cst)) ∨
   (∃ host, Cond.methodLinkNest (xm_oN o) idx (xm_mY y) host ∈ xs_nest ∧ Cond.selects (xm_oN sc) (xm_mY y) (xm_mY y) ∈ lw_all) ∨
   (∃ x owner, Cond.methodLink (xm_oN o) idx x ∈ lw_all ∧ Cond.sameMethod x.cls owner x.name x.desc ∈ lw_all ∧ ((∃ b mL r, Cond.instanceMethod ⟨owner, x.name, x.desc⟩ ∈ lw_all ∧ Cond.code ⟨owner, x.name, x.desc⟩ b mL r ∈ lw_all) ∨ Cond.declares ⟨owner, x.name, x.desc⟩ ∈ xs_cst) ∧ Cond.selects (xm_oN sc) x (xm_mY y) ∈ lw_all ∧
     (owner ≠ "java/lang/invoke/MethodHandle" ∧ owner ≠ "java/lang/invoke/VarHandle" ∧ (parseMethodDescriptor x.desc).map (fun d => d.parameters.length) = some (xm_mP y))))
theorem xs_R0_27393 : xs_Rok 0 214 1 5 := ⟨0, rfl, by decide, xs_M5, q538, Or.inl ⟨q536, Or.inl qs1⟩⟩
theorem xs_R0_30854 : xs_Rok 0 241 6 184 := ⟨5, rfl, by decide, xs_M184, q559, Or.inl ⟨q558, Or.inl q560⟩⟩
theorem xs_R0_31366 : xs_Rok 0 245 6 187 := ⟨5, rfl, by decide, xs_M187, q590, Or.inl ⟨q589, Or.inl q591⟩⟩
theorem xs_R0_31878 : xs_Rok 0 249 6 185 := ⟨5, rfl, by decide, xs_M185, q570, Or.inl ⟨q569, Or.inl q571⟩⟩
theorem xs_R0_32257 : xs_Rok 0 252 1 13 := ⟨0, rfl, by decide, xs_M13, q587, Or.inl ⟨q585, Or.inl qs5⟩⟩
theorem xs_R0_32769 : xs_Rok 0 256 1 8 := ⟨0, rfl, by decide, xs_M8, q550, Or.inl ⟨q548, Or.inl qs2⟩⟩
theorem xs_R0_33281 : xs_Rok 0 260 1 11 := ⟨0, rfl, by decide, xs_M11, q567, Or.inl ⟨q565, Or.inl qs3⟩⟩
theorem xs_R0_33921 : xs_Rok 0 265 1 16 := ⟨0, rfl, by decide, xs_M16, q606, Or.inl ⟨q604, Or.inl qs6⟩⟩
theorem xs_R0_35841 : xs_Rok 0 280 1 17 := ⟨0, rfl, by decide, xs_M17, q610, Or.inl ⟨q608, Or.inl qs7⟩⟩
theorem xs_R0_37891 : xs_Rok 0 296 3 68 := ⟨2, rfl, by decide, xs_M68, q621, Or.inr (Or.inl ⟨_, List.mem_of_getElem? (i := 14) rfl, qs8⟩)⟩
theorem xs_R0_39180 : xs_Rok 0 306 12 198 := ⟨11, rfl, by decide, xs_M198, q1077, Or.inl ⟨q1076, Or.inl q1083⟩⟩
theorem xs_R0_39182 : xs_Rok 0 306 14 198 := ⟨13, rfl, by decide, xs_M198, q1077, Or.inl ⟨q1076, Or.inl q1079⟩⟩
theorem xs_R0_39183 : xs_Rok 0 306 15 208 := ⟨14, rfl, by decide, xs_M208, q1088, Or.inr (Or.inr ⟨_, _, q1076, q1078, Or.inl ⟨_, _, _, q1077, q1090⟩, q1087, by decide +kernel, by decide +kernel, by decide +kernel⟩)⟩
theorem xs_R0_39184 : xs_Rok 0 306 16 210 := ⟨15, rfl, by decide, xs_M210, q1081, Or.inr (Or.inr ⟨_, _, q1076, q1078, Or.inl ⟨_, _, _, q1077, q1090⟩, q1080, by decide +kernel, by decide +kernel, by decide +kernel⟩)⟩
theorem xs_R0_39185 : xs_Rok 0 306 17 212 := ⟨16, rfl, by decide, xs_M212, q1085, Or.inr (Or.inr ⟨_, _, q1076, q1078, Or.inl ⟨_, _, _, q1077, q1090⟩, q1084, by decide +kernel, by decide +kernel, by decide +kernel⟩)⟩
theorem xs_R0_40321 : xs_Rok 0 315 1 23 := ⟨0, rfl, by decide, xs_M23, q1101, Or.inl ⟨q1099, Or.inl qs28⟩⟩
theorem xs_R0_42508 : xs_Rok 0 332 12 199 := ⟨11, rfl, by decide, xs_M199, q1120, Or.inl ⟨q1119, Or.inl q1124⟩⟩
theorem xs_R0_42510 : xs_Rok 0 332 14 199 := ⟨13, rfl, by decide, xs_M199, q1120, Or.inl ⟨q1119, Or.inl q1122⟩⟩
theorem xs_R0_42511 : xs_Rok 0 332 15 199 := ⟨14, rfl, by decide, xs_M199, q1120, Or.inl ⟨q1119, Or.inl q1126⟩⟩
theorem xs_R0_42512 : xs_Rok 0 332 16 199 := ⟨15, rfl, by decide, xs_M199, q1120, Or.inl ⟨q1119, Or.inl q1123⟩⟩
theorem xs_R0_42513 : xs_Rok 0 332 17 199 := ⟨16, rfl, by decide, xs_M199, q1120, Or.inl ⟨q1119, Or.inl q1125⟩⟩
theorem xs_R0_43009 : xs_Rok 0 336 1 27 := ⟨0, rfl, by decide, xs_M27, q1117, Or.inl ⟨q1115, Or.inl qs29⟩⟩
theorem xs_R0_44417 : xs_Rok 0 347 1 31 := ⟨0, rfl, by decide, xs_M31, q1174, Or.inl ⟨q1172, Or.inl qs30⟩⟩
theorem xs_R0_44801 : xs_Rok 0 350 1 32 := ⟨0, rfl, by decide, xs_M32, q1178, Or.inl ⟨q1176, Or.inl qs31⟩⟩
theorem xs_R0_45569 : xs_Rok 0 356 1 35 := ⟨0, rfl, by decide, xs_M35, q1190, Or.inl ⟨q1188, Or.inl qs33⟩⟩
theorem xs_R0_45953 : xs_Rok 0 359 1 34 := ⟨0, rfl, by decide, xs_M34, q1186, Or.inl ⟨q1184, Or.inl qs32⟩⟩
theorem xs_R0_46721 : xs_Rok 0 365 1 36 := ⟨0, rfl, by decide, xs_M36, q1194, Or.inl ⟨q1192, Or.inl qs34⟩⟩
theorem xs_R0_49537 : xs_Rok 0 387 1 40 := ⟨0, rfl, by decide, xs_M40, q1212, Or.inl ⟨q1210, Or.inl qs37⟩⟩
theorem xs_R0_50049 : xs_Rok 0 391 1 39 := ⟨0, rfl, by decide, xs_M39, q1207, Or.inl ⟨q1205, Or.inl qs36⟩⟩
theorem xs_R0_50561 : xs_Rok 0 395 1 38 := ⟨0, rfl, by decide, xs_M38, q1203, Or.inl ⟨q1201, Or.inl qs35⟩⟩
theorem xs_R0_52097 : xs_Rok 0 407 1 44 := ⟨0, rfl, by decide, xs_M44, q1253, Or.inl ⟨q1251, Or.inl qs38⟩⟩
theorem xs_R0_52353 : xs_Rok 0 409 1 45 := ⟨0, rfl, by decide, xs_M45, q1257, Or.inl ⟨q1255, Or.inl qs39⟩⟩
theorem xs_R0_53510 : xs_Rok 0 418 6 188 := ⟨5, rfl, by decide, xs_M188, q1272, Or.inl ⟨q1271, Or.inl q1273⟩⟩
theorem xs_R0_54913 : xs_Rok 0 429 1 49 := ⟨0, rfl, by decide, xs_M49, q1337, Or.inl ⟨q1335, Or.inl qs40⟩⟩
theorem xs_R0_56596 : xs_Rok 0 442 20 218 := ⟨19, rfl, by decide, xs_M218, q1347, Or.inr (Or.inr ⟨_, _, q1343, q1345, Or.inl ⟨_, _, _, q1344, q1350⟩, q1346, by decide +kernel, by decide +kernel, by decide +kernel⟩)⟩
theorem xs_R0_56597 : xs_Rok 0 442 21 215 := ⟨20, rfl, by decide, xs_M215, q1344, Or.inl ⟨q1343, Or.inl q1349⟩⟩
theorem xs_R0_56852 : xs_Rok 0 444 20 219 := ⟨19, rfl, by decide, xs_M219, q1355, Or.inr (Or.inr ⟨_, _, q1351, q1353, Or.inl ⟨_, _, _, q1352, q1358⟩, q1354, by decide +kernel, by decide +kernel, by decide +kernel⟩)⟩
theorem xs_R0_56853 : xs_Rok 0 444 21 216 := ⟨20, rfl, by decide, xs_M216, q1352, Or.inl ⟨q1351, Or.inl q1357⟩⟩
theorem xs_R0_57108 : xs_Rok 0 446 20 220 := ⟨19, rfl, by decide, xs_M220, q1363, Or.inr (Or.inr ⟨_, _, q1359, q1361, Or.inr (List.mem_of_getElem? (i := 9) rfl), q1362, by decide +kernel, by decide +kernel, by decide +kernel⟩)⟩
theorem xs_R0_57109 : xs_Rok 0 446 21 224 := ⟨20, rfl, by decide, xs_M224, q1366, Or.inr (Or.inr ⟨_, _, q1359, q1361, Or.inr (List.mem_of_getElem? (i := 9) rfl), q1365, by decide +kernel, by decide +kernel, by decide +kernel⟩)⟩
theorem xs_R0_57601 : xs_Rok 0 450 1 52 := ⟨0, rfl, by decide, xs_M52, q1375, Or.inl ⟨q1373, Or.inl qs41⟩⟩
theorem xs_R0_60310 : xs_Rok 0 471 22 228 := ⟨21, rfl, by decide, xs_M228, q1443, Or.inl ⟨q1442, Or.inl q1444⟩⟩
theorem xs_R0_61569 : xs_Rok 0 481 1 57 := ⟨0, rfl, by decide, xs_M57, q1440, Or.inl ⟨q1438, Or.inl qs43⟩⟩
theorem xs_R0_61953 : xs_Rok 0 484 1 56 := ⟨0, rfl, by decide, xs_M56, q1436, Or.inl ⟨q1434, Or.inl qs42⟩⟩
theorem xs_R0_62356 : xs_Rok 0 487 20 221 := ⟨19, rfl, by decide, xs_M221, q1454, Or.inr (Or.inr ⟨_, _, q1450, q1452, Or.inr (List.mem_of_getElem? (i := 8) rfl), q1453, by decide +kernel, by decide +kernel, by decide +kernel⟩)⟩
theorem xs_R0_62357 : xs_Rok 0 487 21 226 := ⟨20, rfl, by decide, xs_M226, q1473, Or.inr (Or.inr ⟨_, _, q1450, q1452, Or.inr (List.mem_of_getElem? (i := 8) rfl), q1472, by decide +kernel, by decide +kernel, by decide +kernel⟩)⟩
theorem xs_R0_63105 : xs_Rok 0 493 1 59 := ⟨0, rfl, by decide, xs_M59, q1470, Or.inl ⟨q1488, Or.inl qs46⟩⟩
theorem xs_R0_63750 : xs_Rok 0 498 6 189 := ⟨5, rfl, by decide, xs_M189, q1502, Or.inl ⟨q1501, Or.inl q1503⟩⟩
theorem xs_Ro0 : ∀ q ∈ xm_lkQ_0, q.2 = 18 ∨ xs_Rok 0 (q.1 / 128) (q.1 % 128) q.2 := List.forall_mem_cons.mpr ⟨Or.inr xs_R0_27393, List.forall_mem_cons.mpr ⟨Or.inr xs_R0_30854, List.forall_mem_cons.mpr ⟨Or.inr xs_R0_31366, List.forall_mem_cons.mpr ⟨Or.inr xs_R0_31878, List.forall_mem_cons.mpr ⟨Or.inr xs_R0_32257, List.forall_mem_cons.mpr ⟨Or.inr xs_R0_32769, List.forall_mem_cons.mpr ⟨Or.inr xs_R0_33281, List.forall_mem_cons.mpr ⟨Or.inr xs_R0_33921, List.forall_mem_cons.mpr ⟨Or.inr xs_R0_35841, List.forall_mem_cons.mpr ⟨Or.inr xs_R0_37891, List.forall_mem_cons.mpr ⟨Or.inr xs_R0_39180, List.forall_mem_cons.mpr ⟨Or.inr xs_R0_39182, List.forall_mem_cons.mpr ⟨Or.inr xs_R0_39183, List.forall_mem_cons.mpr ⟨Or.inr xs_R0_39184, List.forall_mem_cons.mpr ⟨Or.inr xs_R0_39185, List.forall_mem_cons.mpr ⟨Or.inr xs_R0_40321, List.forall_mem_cons.mpr ⟨Or.inr xs_R0_42508, List.forall_mem_cons.mpr ⟨Or.inr xs_R0_42510, List.forall_mem_cons.mpr ⟨Or.inr xs_R0_42511, List.forall_mem_cons.mpr ⟨Or.inr xs_R0_42512, List.forall_mem_cons.mpr ⟨Or.inr xs_R0_42513, List.forall_mem_cons.mpr ⟨Or.inr xs_R0_43009, List.forall_mem_cons.mpr ⟨Or.inr xs_R0_44417, List.forall_mem_cons.mpr ⟨Or.inr xs_R0_44801, List.forall_mem_cons.mpr ⟨Or.inr xs_R0_45569, List.forall_mem_cons.mpr ⟨Or.inr xs_R0_45953, List.forall_mem_cons.mpr ⟨Or.inr xs_R0_46721, List.forall_mem_cons.mpr ⟨Or.inr xs_R0_49537, List.forall_mem_cons.mpr ⟨Or.inr xs_R0_50049, List.forall_mem_cons.mpr ⟨Or.inr xs_R0_50561, List.forall_mem_cons.mpr ⟨Or.inr xs_R0_52097, List.forall_mem_cons.mpr ⟨Or.inr xs_R0_52353, List.forall_mem_cons.mpr ⟨Or.inr xs_R0_53510, List.forall_mem_cons.mpr ⟨Or.inr xs_R0_54913, List.forall_mem_cons.mpr ⟨Or.inr xs_R0_56596, List.forall_mem_cons.mpr ⟨Or.inr xs_R0_56597, List.forall_mem_cons.mpr ⟨Or.inr xs_R0_56852, List.forall_mem_cons.mpr ⟨Or.inr xs_R0_56853, List.forall_mem_cons.mpr ⟨Or.inr xs_R0_57108, List.forall_mem_cons.mpr ⟨Or.inr xs_R0_57109, List.forall_mem_cons.mpr ⟨Or.inr xs_R0_57601, List.forall_mem_cons.mpr ⟨Or.inr xs_R0_60310, List.forall_mem_cons.mpr ⟨Or.inr xs_R0_61569, List.forall_mem_cons.mpr ⟨Or.inr xs_R0_61953, List.forall_mem_cons.mpr ⟨Or.inr xs_R0_62356, List.forall_mem_cons.mpr ⟨Or.inr xs_R0_62357, List.forall_mem_cons.mpr ⟨Or.inr xs_R0_63105, List.forall_mem_cons.mpr ⟨Or.inr xs_R0_63750, (fun _ h => absurd h List.not_mem_nil)⟩⟩⟩⟩⟩⟩⟩⟩⟩⟩⟩⟩⟩⟩⟩⟩⟩⟩⟩⟩⟩⟩⟩⟩⟩⟩⟩⟩⟩⟩⟩⟩⟩⟩⟩⟩⟩⟩⟩⟩⟩⟩⟩⟩⟩⟩⟩⟩
theorem xs_R2_3331 : xs_Rok 2 26 3 70 := ⟨2, rfl, by decide, xs_M70, q630, Or.inl ⟨q628, Or.inl qs10⟩⟩
theorem xs_R2_4611 : xs_Rok 2 36 3 71 := ⟨2, rfl, by decide, xs_M71, q634, Or.inl ⟨q632, Or.inl qs11⟩⟩
theorem xs_R2_5123 : xs_Rok 2 40 3 72 := ⟨2, rfl, by decide, xs_M72, q638, Or.inl ⟨q636, Or.inl qs12⟩⟩
theorem xs_R2_5507 : xs_Rok 2 43 3 73 := ⟨2, rfl, by decide, xs_M73, q833, Or.inl ⟨q831, Or.inl qs13⟩⟩
theorem xs_R2_5891 : xs_Rok 2 46 3 74 := ⟨2, rfl, by decide, xs_M74, q837, Or.inl ⟨q835, Or.inl qs14⟩⟩
theorem xs_R2_6556 : xs_Rok 2 51 28 252 := ⟨27, rfl, by decide, xs_M252, q841, Or.inl ⟨q840, Or.inl q842⟩⟩
theorem xs_R2_8347 : xs_Rok 2 65 27 244 := ⟨26, rfl, by decide, xs_M244, q672, Or.inl ⟨q671, Or.inl q673⟩⟩
theorem xs_R2_8731 : xs_Rok 2 68 27 245 := ⟨26, rfl, by decide, xs_M245, q679, Or.inl ⟨q678, Or.inl q680⟩⟩
theorem xs_R2_9243 : xs_Rok 2 72 27 246 := ⟨26, rfl, by decide, xs_M246, q770, Or.inl ⟨q769, Or.inl q771⟩⟩
theorem xs_R2_10268 : xs_Rok 2 80 28 251 := ⟨27, rfl, by decide, xs_M251, q824, Or.inl ⟨q823, Or.inl q825⟩⟩
theorem xs_R2_10753 : xs_Rok 2 84 1 20 := ⟨0, rfl, by decide, xs_M20, q909, Or.inr (Or.inl ⟨_, List.mem_of_getElem? (i := 21) rfl, qs15⟩)⟩
theorem xs_R2_11267 : xs_Rok 2 88 3 81 := ⟨2, rfl, by decide, xs_M81, q937, Or.inl ⟨q935, Or.inl qs22⟩⟩
theorem xs_R2_12291 : xs_Rok 2 96 3 69 := ⟨2, rfl, by decide, xs_M69, q626, Or.inl ⟨q624, Or.inl qs9⟩⟩
theorem xs_R2_14211 : xs_Rok 2 111 3 75 := ⟨2, rfl, by decide, xs_M75, q913, Or.inl ⟨q911, Or.inl qs16⟩⟩
theorem xs_R2_14723 : xs_Rok 2 115 3 79 := ⟨2, rfl, by decide, xs_M79, q929, Or.inl ⟨q927, Or.inl qs20⟩⟩
theorem xs_R2_15107 : xs_Rok 2 118 3 76 := ⟨2, rfl, by decide, xs_M76, q917, Or.inl ⟨q915, Or.inl qs17⟩⟩
theorem xs_R2_15875 : xs_Rok 2 124 3 83 := ⟨2, rfl, by decide, xs_M83, q986, Or.inl ⟨q984, Or.inl qs24⟩⟩
theorem xs_R2_16259 : xs_Rok 2 127 3 84 := ⟨2, rfl, by decide, xs_M84, q990, Or.inl ⟨q988, Or.inl qs25⟩⟩
theorem xs_R2_17923 : xs_Rok 2 140 3 82 := ⟨2, rfl, by decide, xs_M82, q966, Or.inl ⟨q964, Or.inl qs23⟩⟩
theorem xs_R2_19587 : xs_Rok 2 153 3 85 := ⟨2, rfl, by decide, xs_M85, q994, Or.inl ⟨q992, Or.inl qs26⟩⟩
theorem xs_R2_20611 : xs_Rok 2 161 3 86 := ⟨2, rfl, by decide, xs_M86, q998, Or.inl ⟨q996, Or.inl qs27⟩⟩
theorem xs_R2_20995 : xs_Rok 2 164 3 80 := ⟨2, rfl, by decide, xs_M80, q933, Or.inl ⟨q931, Or.inl qs21⟩⟩
theorem xs_R2_21763 : xs_Rok 2 170 3 77 := ⟨2, rfl, by decide, xs_M77, q921, Or.inl ⟨q919, Or.inl qs18⟩⟩
theorem xs_R2_22147 : xs_Rok 2 173 3 78 := ⟨2, rfl, by decide, xs_M78, q925, Or.inl ⟨q923, Or.inl qs19⟩⟩
theorem xs_Ro2 : ∀ q ∈ xm_lkQ_2, q.2 = 18 ∨ xs_Rok 2 (q.1 / 128) (q.1 % 128) q.2 := List.forall_mem_cons.mpr ⟨Or.inr xs_R2_3331, List.forall_mem_cons.mpr ⟨Or.inr xs_R2_4611, List.forall_mem_cons.mpr ⟨Or.inr xs_R2_5123, List.forall_mem_cons.mpr ⟨Or.inr xs_R2_5507, List.forall_mem_cons.mpr ⟨Or.inr xs_R2_5891, List.forall_mem_cons.mpr ⟨Or.inr xs_R2_6556, List.forall_mem_cons.mpr ⟨Or.inr xs_R2_8347, List.forall_mem_cons.mpr ⟨Or.inr xs_R2_8731, List.forall_mem_cons.mpr ⟨Or.inr xs_R2_9243, List.forall_mem_cons.mpr ⟨Or.inr xs_R2_10268, List.forall_mem_cons.mpr ⟨Or.inr xs_R2_10753, List.forall_mem_cons.mpr ⟨Or.inr xs_R2_11267, List.forall_mem_cons.mpr ⟨Or.inr xs_R2_12291, List.forall_mem_cons.mpr ⟨Or.inr xs_R2_14211, List.forall_mem_cons.mpr ⟨Or.inr xs_R2_14723, List.forall_mem_cons.mpr ⟨Or.inr xs_R2_15107, List.forall_mem_cons.mpr ⟨Or.inr xs_R2_15875, List.forall_mem_cons.mpr ⟨Or.inr xs_R2_16259, List.forall_mem_cons.mpr ⟨Or.inr xs_R2_17923, List.forall_mem_cons.mpr ⟨Or.inr xs_R2_19587, List.forall_mem_cons.mpr ⟨Or.inr xs_R2_20611, List.forall_mem_cons.mpr ⟨Or.inr xs_R2_20995, List.forall_mem_cons.mpr ⟨Or.inr xs_R2_21763, List.forall_mem_cons.mpr ⟨Or.inr xs_R2_22147, (fun _ h => absurd h List.not_mem_nil)⟩⟩⟩⟩⟩⟩⟩⟩⟩⟩⟩⟩⟩⟩⟩⟩⟩⟩⟩⟩⟩⟩⟩⟩
theorem xs_R4_30341 : xs_Rok 4 237 5 101 := ⟨4, rfl, by decide, xs_M101, q1867, Or.inl ⟨q1865, Or.inl qs52⟩⟩
theorem xs_R4_30853 : xs_Rok 4 241 5 102 := ⟨4, rfl, by decide, xs_M102, q1871, Or.inl ⟨q1869, Or.inl qs53⟩⟩
theorem xs_R4_32133 : xs_Rok 4 251 5 93 := ⟨4, rfl, by decide, xs_M93, q1835, Or.inl ⟨q1833, Or.inl qs47⟩⟩
theorem xs_R4_32645 : xs_Rok 4 255 5 95 := ⟨4, rfl, by decide, xs_M95, q1843, Or.inl ⟨q1841, Or.inl qs48⟩⟩
theorem xs_R4_33029 : xs_Rok 4 258 5 100 := ⟨4, rfl, by decide, xs_M100, q1863, Or.inl ⟨q1861, Or.inl qs51⟩⟩
theorem xs_R4_33925 : xs_Rok 4 265 5 105 := ⟨4, rfl, by decide, xs_M105, q1882, Or.inl ⟨q1880, Or.inl qs55⟩⟩
theorem xs_R4_34821 : xs_Rok 4 272 5 106 := ⟨4, rfl, by decide, xs_M106, q1886, Or.inl ⟨q1884, Or.inl qs56⟩⟩
theorem xs_R4_35333 : xs_Rok 4 276 5 99 := ⟨4, rfl, by decide, xs_M99, q1859, Or.inl ⟨q1857, Or.inl qs50⟩⟩
theorem xs_R4_35717 : xs_Rok 4 279 5 103 := ⟨4, rfl, by decide, xs_M103, q1875, Or.inl ⟨q1873, Or.inl qs54⟩⟩
theorem xs_R4_36101 : xs_Rok 4 282 5 98 := ⟨4, rfl, by decide, xs_M98, q1855, Or.inl ⟨q1853, Or.inl qs49⟩⟩
theorem xs_R4_44165 : xs_Rok 4 345 5 114 := ⟨4, rfl, by decide, xs_M114, q1917, Or.inl ⟨q1915, Or.inl qs58⟩⟩
theorem xs_R4_47749 : xs_Rok 4 373 5 119 := ⟨4, rfl, by decide, xs_M119, q1955, Or.inl ⟨q1953, Or.inl qs60⟩⟩
theorem xs_R4_48133 : xs_Rok 4 376 5 113 := ⟨4, rfl, by decide, xs_M113, q1913, Or.inl ⟨q1911, Or.inl qs57⟩⟩
theorem xs_R4_49285 : xs_Rok 4 385 5 122 := ⟨4, rfl, by decide, xs_M122, q1967, Or.inl ⟨q1965, Or.inl qs63⟩⟩
theorem xs_R4_49797 : xs_Rok 4 389 5 126 := ⟨4, rfl, by decide, xs_M126, q1983, Or.inl ⟨q1981, Or.inl qs67⟩⟩
theorem xs_R4_50309 : xs_Rok 4 393 5 123 := ⟨4, rfl, by decide, xs_M123, q1971, Or.inl ⟨q1969, Or.inl qs64⟩⟩
theorem xs_R4_50693 : xs_Rok 4 396 5 124 := ⟨4, rfl, by decide, xs_M124, q1975, Or.inl ⟨q1973, Or.inl qs65⟩⟩
theorem xs_R4_51077 : xs_Rok 4 399 5 121 := ⟨4, rfl, by decide, xs_M121, q1963, Or.inl ⟨q1961, Or.inl qs62⟩⟩
theorem xs_R4_51461 : xs_Rok 4 402 5 125 := ⟨4, rfl, by decide, xs_M125, q1979, Or.inl ⟨q1977, Or.inl qs66⟩⟩
theorem xs_R4_51845 : xs_Rok 4 405 5 128 := ⟨4, rfl, by decide, xs_M128, q1991, Or.inl ⟨q1989, Or.inl qs69⟩⟩
theorem xs_R4_52229 : xs_Rok 4 408 5 129 := ⟨4, rfl, by decide, xs_M129, q1995, Or.inl ⟨q1993, Or.inl qs70⟩⟩
theorem xs_R4_52997 : xs_Rok 4 414 5 127 := ⟨4, rfl, by decide, xs_M127, q1987, Or.inl ⟨q1985, Or.inl qs68⟩⟩
theorem xs_R4_53381 : xs_Rok 4 417 5 130 := ⟨4, rfl, by decide, xs_M130, q1999, Or.inl ⟨q1997, Or.inl qs71⟩⟩
theorem xs_R4_53765 : xs_Rok 4 420 5 120 := ⟨4, rfl, by decide, xs_M120, q1959, Or.inl ⟨q1957, Or.inl qs61⟩⟩
theorem xs_R4_54149 : xs_Rok 4 423 5 118 := ⟨4, rfl, by decide, xs_M118, q1951, Or.inl ⟨q1949, Or.inl qs59⟩⟩
theorem xs_R4_54917 : xs_Rok 4 429 5 131 := ⟨4, rfl, by decide, xs_M131, q2003, Or.inl ⟨q2001, Or.inl qs72⟩⟩
theorem xs_R4_55301 : xs_Rok 4 432 5 137 := ⟨4, rfl, by decide, xs_M137, q2027, Or.inl ⟨q2025, Or.inl qs75⟩⟩
theorem xs_R4_56197 : xs_Rok 4 439 5 136 := ⟨4, rfl, by decide, xs_M136, q2023, Or.inl ⟨q2021, Or.inl qs74⟩⟩
theorem xs_R4_56709 : xs_Rok 4 443 5 139 := ⟨4, rfl, by decide, xs_M139, q2034, Or.inl ⟨q2032, Or.inl qs76⟩⟩
theorem xs_R4_57093 : xs_Rok 4 446 5 135 := ⟨4, rfl, by decide, xs_M135, q2019, Or.inl ⟨q2017, Or.inl qs73⟩⟩
theorem xs_R4_57605 : xs_Rok 4 450 5 140 := ⟨4, rfl, by decide, xs_M140, q2038, Or.inl ⟨q2036, Or.inl qs77⟩⟩
theorem xs_R4_58373 : xs_Rok 4 456 5 144 := ⟨4, rfl, by decide, xs_M144, q2054, Or.inl ⟨q2052, Or.inl qs79⟩⟩
theorem xs_R4_58757 : xs_Rok 4 459 5 143 := ⟨4, rfl, by decide, xs_M143, q2050, Or.inl ⟨q2048, Or.inl qs78⟩⟩
theorem xs_R4_59141 : xs_Rok 4 462 5 145 := ⟨4, rfl, by decide, xs_M145, q2058, Or.inl ⟨q2056, Or.inl qs80⟩⟩
theorem xs_R4_59525 : xs_Rok 4 465 5 149 := ⟨4, rfl, by decide, xs_M149, q2074, Or.inl ⟨q2072, Or.inl qs83⟩⟩
theorem xs_R4_60037 : xs_Rok 4 469 5 147 := ⟨4, rfl, by decide, xs_M147, q2066, Or.inl ⟨q2064, Or.inl qs81⟩⟩
theorem xs_R4_60421 : xs_Rok 4 472 5 148 := ⟨4, rfl, by decide, xs_M148, q2070, Or.inl ⟨q2068, Or.inl qs82⟩⟩
theorem xs_R4_62725 : xs_Rok 4 490 5 152 := ⟨4, rfl, by decide, xs_M152, q2086, Or.inl ⟨q2084, Or.inl qs85⟩⟩
theorem xs_R4_63109 : xs_Rok 4 493 5 153 := ⟨4, rfl, by decide, xs_M153, q2090, Or.inl ⟨q2088, Or.inl qs86⟩⟩
theorem xs_R4_63493 : xs_Rok 4 496 5 151 := ⟨4, rfl, by decide, xs_M151, q2082, Or.inl ⟨q2080, Or.inl qs84⟩⟩
theorem xs_R4_64389 : xs_Rok 4 503 5 157 := ⟨4, rfl, by decide, xs_M157, q2106, Or.inl ⟨q2104, Or.inl qs87⟩⟩
theorem xs_R4_64773 : xs_Rok 4 506 5 161 := ⟨4, rfl, by decide, xs_M161, q2122, Or.inl ⟨q2120, Or.inl qs88⟩⟩
theorem xs_R4_65157 : xs_Rok 4 509 5 164 := ⟨4, rfl, by decide, xs_M164, q2134, Or.inl ⟨q2132, Or.inl qs89⟩⟩
theorem xs_R4_67205 : xs_Rok 4 525 5 170 := ⟨4, rfl, by decide, xs_M170, q2158, Or.inl ⟨q2156, Or.inl qs91⟩⟩
theorem xs_R4_67973 : xs_Rok 4 531 5 169 := ⟨4, rfl, by decide, xs_M169, q2154, Or.inl ⟨q2152, Or.inl qs90⟩⟩
theorem xs_R4_68357 : xs_Rok 4 534 5 172 := ⟨4, rfl, by decide, xs_M172, q2166, Or.inl ⟨q2164, Or.inl qs92⟩⟩
theorem xs_R4_68741 : xs_Rok 4 537 5 173 := ⟨4, rfl, by decide, xs_M173, q2170, Or.inl ⟨q2168, Or.inl qs93⟩⟩
theorem xs_R4_69125 : xs_Rok 4 540 5 174 := ⟨4, rfl, by decide, xs_M174, q2174, Or.inl ⟨q2172, Or.inl qs94⟩⟩
theorem xs_R4_69893 : xs_Rok 4 546 5 181 := ⟨4, rfl, by decide, xs_M181, q2202, Or.inl ⟨q2200, Or.inl qs95⟩⟩
theorem xs_R4_70405 : xs_Rok 4 550 5 182 := ⟨4, rfl, by decide, xs_M182, q2206, Or.inl ⟨q2204, Or.inl qs96⟩⟩
theorem xs_R4_70789 : xs_Rok 4 553 5 109 := ⟨4, rfl, by decide, xs_M109, q1896, Or.inl ⟨q2208, Or.inl q1897⟩⟩
theorem xs_Ro4 : ∀ q ∈ xm_lkQ_4, q.2 = 18 ∨ xs_Rok 4 (q.1 / 128) (q.1 % 128) q.2 := List.forall_mem_cons.mpr ⟨Or.inr xs_R4_30341, List.forall_mem_cons.mpr ⟨Or.inr xs_R4_30853, List.forall_mem_cons.mpr ⟨Or.inr xs_R4_32133, List.forall_mem_cons.mpr ⟨Or.inr xs_R4_32645, List.forall_mem_cons.mpr ⟨Or.inr xs_R4_33029, List.forall_mem_cons.mpr ⟨Or.inr xs_R4_33925, List.forall_mem_cons.mpr ⟨Or.inr xs_R4_34821, List.forall_mem_cons.mpr ⟨Or.inr xs_R4_35333, List.forall_mem_cons.mpr ⟨Or.inr xs_R4_35717, List.forall_mem_cons.mpr ⟨Or.inr xs_R4_36101, List.forall_mem_cons.mpr ⟨Or.inr xs_R4_44165, List.forall_mem_cons.mpr ⟨Or.inr xs_R4_47749, List.forall_mem_cons.mpr ⟨Or.inr xs_R4_48133, List.forall_mem_cons.mpr ⟨Or.inr xs_R4_49285, List.forall_mem_cons.mpr ⟨Or.inr xs_R4_49797, List.forall_mem_cons.mpr ⟨Or.inr xs_R4_50309, List.forall_mem_cons.mpr ⟨Or.inr xs_R4_50693, List.forall_mem_cons.mpr ⟨Or.inr xs_R4_51077, List.forall_mem_cons.mpr ⟨Or.inr xs_R4_51461, List.forall_mem_cons.mpr ⟨Or.inr xs_R4_51845, List.forall_mem_cons.mpr ⟨Or.inr xs_R4_52229, List.forall_mem_cons.mpr ⟨Or.inr xs_R4_52997, List.forall_mem_cons.mpr ⟨Or.inr xs_R4_53381, List.forall_mem_cons.mpr ⟨Or.inr xs_R4_53765, List.forall_mem_cons.mpr ⟨Or.inr xs_R4_54149, List.forall_mem_cons.mpr ⟨Or.inr xs_R4_54917, List.forall_mem_cons.mpr ⟨Or.inr xs_R4_55301, List.forall_mem_cons.mpr ⟨Or.inr xs_R4_56197, List.forall_mem_cons.mpr ⟨Or.inr xs_R4_56709, List.forall_mem_cons.mpr ⟨Or.inr xs_R4_57093, List.forall_mem_cons.mpr ⟨Or.inr xs_R4_57605, List.forall_mem_cons.mpr ⟨Or.inr xs_R4_58373, List.forall_mem_cons.mpr ⟨Or.inr xs_R4_58757, List.forall_mem_cons.mpr ⟨Or.inr xs_R4_59141, List.forall_mem_cons.mpr ⟨Or.inr xs_R4_59525, List.forall_mem_cons.mpr ⟨Or.inr xs_R4_60037, List.forall_mem_cons.mpr ⟨Or.inr xs_R4_60421, List.forall_mem_cons.mpr ⟨Or.inr xs_R4_62725, List.forall_mem_cons.mpr ⟨Or.inr xs_R4_63109, List.forall_mem_cons.mpr ⟨Or.inr xs_R4_63493, List.forall_mem_cons.mpr ⟨Or.inr xs_R4_64389, List.forall_mem_cons.mpr ⟨Or.inr xs_R4_64773, List.forall_mem_cons.mpr ⟨Or.inr xs_R4_65157, List.forall_mem_cons.mpr ⟨Or.inr xs_R4_67205, List.forall_mem_cons.mpr ⟨Or.inr xs_R4_67973, List.forall_mem_cons.mpr ⟨Or.inr xs_R4_68357, List.forall_mem_cons.mpr ⟨Or.inr xs_R4_68741, List.forall_mem_cons.mpr ⟨Or.inr xs_R4_69125, List.forall_mem_cons.mpr ⟨Or.inr xs_R4_69893, List.forall_mem_cons.mpr ⟨Or.inr xs_R4_70405, List.forall_mem_cons.mpr ⟨Or.inr xs_R4_70789, (fun _ h => absurd h List.not_mem_nil)⟩⟩⟩⟩⟩⟩⟩⟩⟩⟩⟩⟩⟩⟩⟩⟩⟩⟩⟩⟩⟩⟩⟩⟩⟩⟩⟩⟩⟩⟩⟩⟩⟩⟩⟩⟩⟩⟩⟩⟩⟩⟩⟩⟩⟩⟩⟩⟩⟩⟩⟩
theorem xs_R5_6918 : xs_Rok 5 54 6 186 := ⟨5, rfl, by decide, xs_M186, q575, Or.inl ⟨q573, Or.inl qs4⟩⟩
theorem xs_Ro5 : ∀ q ∈ xm_lkQ_5, q.2 = 18 ∨ xs_Rok 5 (q.1 / 128) (q.1 % 128) q.2 := List.forall_mem_cons.mpr ⟨Or.inr xs_R5_6918, (fun _ h => absurd h List.not_mem_nil)⟩
theorem xs_R9_2568 : xs_Rok 9 20 8 192 := ⟨7, rfl, by decide, xs_M192, q1132, Or.inr (Or.inr ⟨_, _, q1142, q1130, Or.inr (List.mem_of_getElem? (i := 10) rfl), q1131, by decide +kernel, by decide +kernel, by decide +kernel⟩)⟩
theorem xs_R9_2569 : xs_Rok 9 20 9 194 := ⟨8, rfl, by decide, xs_M194, q1138, Or.inr (Or.inr ⟨_, _, q1142, q1130, Or.inr (List.mem_of_getElem? (i := 10) rfl), q1143, by decide +kernel, by decide +kernel, by decide +kernel⟩)⟩
theorem xs_R9_2570 : xs_Rok 9 20 10 196 := ⟨9, rfl, by decide, xs_M196, q1140, Or.inr (Or.inr ⟨_, _, q1142, q1130, Or.inr (List.mem_of_getElem? (i := 10) rfl), q1144, by decide +kernel, by decide +kernel, by decide +kernel⟩)⟩
theorem xs_R9_2573 : xs_Rok 9 20 13 204 := ⟨12, rfl, by decide, xs_M204, q1135, Or.inr (Or.inr ⟨_, _, q1142, q1130, Or.inr (List.mem_of_getElem? (i := 10) rfl), q1134, by decide +kernel, by decide +kernel, by decide +kernel⟩)⟩
theorem xs_Ro9 : ∀ q ∈ xm_lkQ_9, q.2 = 18 ∨ xs_Rok 9 (q.1 / 128) (q.1 % 128) q.2 := List.forall_mem_cons.mpr ⟨Or.inr xs_R9_2568, List.forall_mem_cons.mpr ⟨Or.inr xs_R9_2569, List.forall_mem_cons.mpr ⟨Or.inr xs_R9_2570, List.forall_mem_cons.mpr ⟨Or.inr xs_R9_2573, (fun _ h => absurd h List.not_mem_nil)⟩⟩⟩⟩
theorem xs_R10_2056 : xs_Rok 10 16 8 192 := ⟨7, rfl, by decide, xs_M192, q1132, Or.inr (Or.inr ⟨_, _, q1128, q1130, Or.inr (List.mem_of_getElem? (i := 10) rfl), q1131, by decide +kernel, by decide +kernel, by decide +kernel⟩)⟩
theorem xs_R10_2057 : xs_Rok 10 16 9 194 := ⟨8, rfl, by decide, xs_M194, q1138, Or.inr (Or.inr ⟨_, _, q1128, q1130, Or.inr (List.mem_of_getElem? (i := 10) rfl), q1143, by decide +kernel, by decide +kernel, by decide +kernel⟩)⟩
theorem xs_R10_2058 : xs_Rok 10 16 10 196 := ⟨9, rfl, by decide, xs_M196, q1140, Or.inr (Or.inr ⟨_, _, q1128, q1130, Or.inr (List.mem_of_getElem? (i := 10) rfl), q1144, by decide +kernel, by decide +kernel, by decide +kernel⟩)⟩
theorem xs_R10_2061 : xs_Rok 10 16 13 204 := ⟨12, rfl, by decide, xs_M204, q1135, Or.inr (Or.inr ⟨_, _, q1128, q1130, Or.inr (List.mem_of_getElem? (i := 10) rfl), q1134, by decide +kernel, by decide +kernel, by decide +kernel⟩)⟩
theorem xs_R10_2828 : xs_Rok 10 22 12 202 := ⟨11, rfl, by decide, xs_M202, q1153, Or.inr (Or.inr ⟨_, _, q1145, q1147, Or.inl ⟨_, _, _, q1146, q1160⟩, q1152, by decide +kernel, by decide +kernel, by decide +kernel⟩)⟩
theorem xs_R10_2830 : xs_Rok 10 22 14 206 := ⟨13, rfl, by decide, xs_M206, q1149, Or.inr (Or.inr ⟨_, _, q1145, q1147, Or.inl ⟨_, _, _, q1146, q1160⟩, q1148, by decide +kernel, by decide +kernel, by decide +kernel⟩)⟩
theorem xs_R10_2831 : xs_Rok 10 22 15 200 := ⟨14, rfl, by decide, xs_M200, q1146, Or.inl ⟨q1145, Or.inl q1159⟩⟩
theorem xs_R10_2832 : xs_Rok 10 22 16 200 := ⟨15, rfl, by decide, xs_M200, q1146, Or.inl ⟨q1145, Or.inl q1151⟩⟩
theorem xs_R10_2833 : xs_Rok 10 22 17 200 := ⟨16, rfl, by decide, xs_M200, q1146, Or.inl ⟨q1145, Or.inl q1158⟩⟩
theorem xs_Ro10 : ∀ q ∈ xm_lkQ_10, q.2 = 18 ∨ xs_Rok 10 (q.1 / 128) (q.1 % 128) q.2 := List.forall_mem_cons.mpr ⟨Or.inr xs_R10_2056, List.forall_mem_cons.mpr ⟨Or.inr xs_R10_2057, List.forall_mem_cons.mpr ⟨Or.inr xs_R10_2058, List.forall_mem_cons.mpr ⟨Or.inr xs_R10_2061, List.forall_mem_cons.mpr ⟨Or.inr xs_R10_2828, List.forall_mem_cons.mpr ⟨Or.inr xs_R10_2830, List.forall_mem_cons.mpr ⟨Or.inr xs_R10_2831, List.forall_mem_cons.mpr ⟨Or.inr xs_R10_2832, List.forall_mem_cons.mpr ⟨Or.inr xs_R10_2833, (fun _ h => absurd h List.not_mem_nil)⟩⟩⟩⟩⟩⟩⟩⟩⟩
theorem xs_R11_2696 : xs_Rok 11 21 8 192 := ⟨7, rfl, by decide, xs_M192, q1132, Or.inr (Or.inr ⟨_, _, q1155, q1130, Or.inr (List.mem_of_getElem? (i := 10) rfl), q1131, by decide +kernel, by decide +kernel, by decide +kernel⟩)⟩
theorem xs_R11_2697 : xs_Rok 11 21 9 194 := ⟨8, rfl, by decide, xs_M194, q1138, Or.inr (Or.inr ⟨_, _, q1155, q1130, Or.inr (List.mem_of_getElem? (i := 10) rfl), q1143, by decide +kernel, by decide +kernel, by decide +kernel⟩)⟩
theorem xs_R11_2698 : xs_Rok 11 21 10 196 := ⟨9, rfl, by decide, xs_M196, q1140, Or.inr (Or.inr ⟨_, _, q1155, q1130, Or.inr (List.mem_of_getElem? (i := 10) rfl), q1144, by decide +kernel, by decide +kernel, by decide +kernel⟩)⟩
theorem xs_R11_2701 : xs_Rok 11 21 13 204 := ⟨12, rfl, by decide, xs_M204, q1135, Or.inr (Or.inr ⟨_, _, q1155, q1130, Or.inr (List.mem_of_getElem? (i := 10) rfl), q1134, by decide +kernel, by decide +kernel, by decide +kernel⟩)⟩
theorem xs_Ro11 : ∀ q ∈ xm_lkQ_11, q.2 = 18 ∨ xs_Rok 11 (q.1 / 128) (q.1 % 128) q.2 := List.forall_mem_cons.mpr ⟨Or.inr xs_R11_2696, List.forall_mem_cons.mpr ⟨Or.inr xs_R11_2697, List.forall_mem_cons.mpr ⟨Or.inr xs_R11_2698, List.forall_mem_cons.mpr ⟨Or.inr xs_R11_2701, (fun _ h => absurd h List.not_mem_nil)⟩⟩⟩⟩
theorem xs_R12_1672 : xs_Rok 12 13 8 192 := ⟨7, rfl, by decide, xs_M192, q1132, Or.inr (Or.inr ⟨_, _, q1137, q1130, Or.inr (List.mem_of_getElem? (i := 10) rfl), q1131, by decide +kernel, by decide +kernel, by decide +kernel⟩)⟩
theorem xs_R12_1673 : xs_Rok 12 13 9 194 := ⟨8, rfl, by decide, xs_M194, q1138, Or.inr (Or.inr ⟨_, _, q1137, q1130, Or.inr (List.mem_of_getElem? (i := 10) rfl), q1143, by decide +kernel, by decide +kernel, by decide +kernel⟩)⟩
theorem xs_R12_1674 : xs_Rok 12 13 10 196 := ⟨9, rfl, by decide, xs_M196, q1140, Or.inr (Or.inr ⟨_, _, q1137, q1130, Or.inr (List.mem_of_getElem? (i := 10) rfl), q1144, by decide +kernel, by decide +kernel, by decide +kernel⟩)⟩
theorem xs_R12_1677 : xs_Rok 12 13 13 204 := ⟨12, rfl, by decide, xs_M204, q1135, Or.inr (Or.inr ⟨_, _, q1137, q1130, Or.inr (List.mem_of_getElem? (i := 10) rfl), q1134, by decide +kernel, by decide +kernel, by decide +kernel⟩)⟩
theorem xs_Ro12 : ∀ q ∈ xm_lkQ_12, q.2 = 18 ∨ xs_Rok 12 (q.1 / 128) (q.1 % 128) q.2 := List.forall_mem_cons.mpr ⟨Or.inr xs_R12_1672, List.forall_mem_cons.mpr ⟨Or.inr xs_R12_1673, List.forall_mem_cons.mpr ⟨Or.inr xs_R12_1674, List.forall_mem_cons.mpr ⟨Or.inr xs_R12_1677, (fun _ h => absurd h List.not_mem_nil)⟩⟩⟩⟩
theorem xs_R19_4100 : xs_Rok 19 32 4 88 := ⟨3, rfl, by decide, xs_M88, q1457, Or.inl ⟨q1456, Or.inl q1458⟩⟩
theorem xs_R19_7188 : xs_Rok 19 56 20 222 := ⟨19, rfl, by decide, xs_M222, q1462, Or.inl ⟨q1460, Or.inl qs44⟩⟩
theorem xs_R19_7700 : xs_Rok 19 60 20 223 := ⟨19, rfl, by decide, xs_M223, q1466, Or.inl ⟨q1464, Or.inl qs45⟩⟩
theorem xs_R19_9985 : xs_Rok 19 78 1 59 := ⟨0, rfl, by decide, xs_M59, q1470, Or.inr (Or.inl ⟨_, List.mem_of_getElem? (i := 16) rfl, qs46⟩)⟩
theorem xs_Ro19 : ∀ q ∈ xm_lkQ_19, q.2 = 18 ∨ xs_Rok 19 (q.1 / 128) (q.1 % 128) q.2 := List.forall_mem_cons.mpr ⟨Or.inr xs_R19_4100, List.forall_mem_cons.mpr ⟨Or.inr xs_R19_7188, List.forall_mem_cons.mpr ⟨Or.inr xs_R19_7700, List.forall_mem_cons.mpr ⟨Or.inr xs_R19_9985, (fun _ h => absurd h List.not_mem_nil)⟩⟩⟩⟩
theorem xs_R20_5012 : xs_Rok 20 39 20 220 := ⟨19, rfl, by decide, xs_M220, q1363, Or.inr (Or.inr ⟨_, _, q1368, q1361, Or.inr (List.mem_of_getElem? (i := 9) rfl), q1362, by decide +kernel, by decide +kernel, by decide +kernel⟩)⟩
theorem xs_R20_5013 : xs_Rok 20 39 21 224 := ⟨20, rfl, by decide, xs_M224, q1366, Or.inr (Or.inr ⟨_, _, q1368, q1361, Or.inr (List.mem_of_getElem? (i := 9) rfl), q1365, by decide +kernel, by decide +kernel, by decide +kernel⟩)⟩
theorem xs_R20_5652 : xs_Rok 20 44 20 221 := ⟨19, rfl, by decide, xs_M221, q1454, Or.inr (Or.inr ⟨_, _, q1475, q1452, Or.inr (List.mem_of_getElem? (i := 8) rfl), q1453, by decide +kernel, by decide +kernel, by decide +kernel⟩)⟩
theorem xs_R20_5653 : xs_Rok 20 44 21 226 := ⟨20, rfl, by decide, xs_M226, q1473, Or.inr (Or.inr ⟨_, _, q1475, q1452, Or.inr (List.mem_of_getElem? (i := 8) rfl), q1472, by decide +kernel, by decide +kernel, by decide +kernel⟩)⟩
theorem xs_Ro20 : ∀ q ∈ xm_lkQ_20, q.2 = 18 ∨ xs_Rok 20 (q.1 / 128) (q.1 % 128) q.2 := List.forall_mem_cons.mpr ⟨Or.inr xs_R20_5012, List.forall_mem_cons.mpr ⟨Or.inr xs_R20_5013, List.forall_mem_cons.mpr ⟨Or.inr xs_R20_5652, List.forall_mem_cons.mpr ⟨Or.inr xs_R20_5653, (fun _ h => absurd h List.not_mem_nil)⟩⟩⟩⟩
theorem xs_R25_10651 : xs_Rok 25 83 27 240 := ⟨26, rfl, by decide, xs_M240, q717, Or.inl ⟨q716, Or.inl q719⟩⟩
theorem xs_R25_12827 : xs_Rok 25 100 27 238 := ⟨26, rfl, by decide, xs_M238, q687, Or.inl ⟨q685, Or.inr (List.mem_of_getElem? (i := 11) rfl)⟩⟩
theorem xs_Ro25 : ∀ q ∈ xm_lkQ_25, q.2 = 18 ∨ xs_Rok 25 (q.1 / 128) (q.1 % 128) q.2 := List.forall_mem_cons.mpr ⟨Or.inr xs_R25_10651, List.forall_mem_cons.mpr ⟨Or.inr xs_R25_12827, (fun _ h => absurd h List.not_mem_nil)⟩⟩
theorem xs_R27_42908 : xs_Rok 27 335 28 256 := ⟨27, rfl, by decide, xs_M256, q857, Or.inl ⟨q856, Or.inl q858⟩⟩
theorem xs_R27_63004 : xs_Rok 27 492 28 254 := ⟨27, rfl, by decide, xs_M254, q849, Or.inl ⟨q848, Or.inl q850⟩⟩
theorem xs_R27_64668 : xs_Rok 27 505 28 255 := ⟨27, rfl, by decide, xs_M255, q853, Or.inl ⟨q852, Or.inl q854⟩⟩
theorem xs_R27_70299 : xs_Rok 27 549 27 244 := ⟨26, rfl, by decide, xs_M244, q672, Or.inr (Or.inr ⟨_, _, q787, q2210, Or.inl ⟨_, _, _, q676, q677⟩, q2215, by decide +kernel, by decide +kernel, by decide +kernel⟩)⟩
theorem xs_R27_70683 : xs_Rok 27 552 27 242 := ⟨26, rfl, by decide, xs_M242, q783, Or.inl ⟨q782, Or.inl q785⟩⟩
theorem xs_R27_81052 : xs_Rok 27 633 28 253 := ⟨27, rfl, by decide, xs_M253, q845, Or.inl ⟨q844, Or.inl q846⟩⟩
theorem xs_R27_134043 : xs_Rok 27 1047 27 240 := ⟨26, rfl, by decide, xs_M240, q717, Or.inl ⟨q788, Or.inl q719⟩⟩
theorem xs_Ro27 : ∀ q ∈ xm_lkQ_27, q.2 = 18 ∨ xs_Rok 27 (q.1 / 128) (q.1 % 128) q.2 := List.forall_mem_cons.mpr ⟨Or.inr xs_R27_42908, List.forall_mem_cons.mpr ⟨Or.inr xs_R27_63004, List.forall_mem_cons.mpr ⟨Or.inr xs_R27_64668, List.forall_mem_cons.mpr ⟨Or.inr xs_R27_70299, List.forall_mem_cons.mpr ⟨Or.inr xs_R27_70683, List.forall_mem_cons.mpr ⟨Or.inr xs_R27_81052, List.forall_mem_cons.mpr ⟨Or.inr xs_R27_134043, (fun _ h => absurd h List.not_mem_nil)⟩⟩⟩⟩⟩⟩⟩
theorem xs_R35_1665 : xs_Rok 35 13 1 1 := ⟨0, rfl, by decide, xs_M1, q471, Or.inl ⟨q470, Or.inl q472⟩⟩
theorem xs_R35_2181 : xs_Rok 35 17 5 90 := ⟨4, rfl, by decide, xs_M90, q1823, Or.inl ⟨q1822, Or.inl q1824⟩⟩
theorem xs_R35_2305 : xs_Rok 35 18 1 3 := ⟨0, rfl, by decide, xs_M3, q478, Or.inl ⟨q477, Or.inl q479⟩⟩
theorem xs_R35_2821 : xs_Rok 35 22 5 92 := ⟨4, rfl, by decide, xs_M92, q1830, Or.inl ⟨q1829, Or.inl q1831⟩⟩
theorem xs_R35_2945 : xs_Rok 35 23 1 4 := ⟨0, rfl, by decide, xs_M4, q533, Or.inl ⟨q532, Or.inl q534⟩⟩
theorem xs_R35_3461 : xs_Rok 35 27 5 94 := ⟨4, rfl, by decide, xs_M94, q1838, Or.inl ⟨q1837, Or.inl q1839⟩⟩
theorem xs_R35_3585 : xs_Rok 35 28 1 6 := ⟨0, rfl, by decide, xs_M6, q541, Or.inl ⟨q540, Or.inl q542⟩⟩
theorem xs_R35_4101 : xs_Rok 35 32 5 96 := ⟨4, rfl, by decide, xs_M96, q1846, Or.inl ⟨q1845, Or.inl q1847⟩⟩
theorem xs_R35_4225 : xs_Rok 35 33 1 7 := ⟨0, rfl, by decide, xs_M7, q545, Or.inl ⟨q544, Or.inl q546⟩⟩
theorem xs_R35_4741 : xs_Rok 35 37 5 97 := ⟨4, rfl, by decide, xs_M97, q1850, Or.inl ⟨q1849, Or.inl q1851⟩⟩
theorem xs_R35_4865 : xs_Rok 35 38 1 14 := ⟨0, rfl, by decide, xs_M14, q597, Or.inl ⟨q596, Or.inl q598⟩⟩
theorem xs_R35_5253 : xs_Rok 35 41 5 108 := ⟨4, rfl, by decide, xs_M108, q1892, Or.inl ⟨q1891, Or.inl q1893⟩⟩
theorem xs_R35_5377 : xs_Rok 35 42 1 15 := ⟨0, rfl, by decide, xs_M15, q601, Or.inl ⟨q600, Or.inl q602⟩⟩
theorem xs_R35_5765 : xs_Rok 35 45 5 109 := ⟨4, rfl, by decide, xs_M109, q1896, Or.inl ⟨q1895, Or.inl q1897⟩⟩
theorem xs_R35_5889 : xs_Rok 35 46 1 22 := ⟨0, rfl, by decide, xs_M22, q1096, Or.inl ⟨q1095, Or.inl q1097⟩⟩
theorem xs_R35_6405 : xs_Rok 35 50 5 110 := ⟨4, rfl, by decide, xs_M110, q1900, Or.inl ⟨q1899, Or.inl q1901⟩⟩
theorem xs_R35_6529 : xs_Rok 35 51 1 24 := ⟨0, rfl, by decide, xs_M24, q1104, Or.inl ⟨q1103, Or.inl q1105⟩⟩
theorem xs_R35_6917 : xs_Rok 35 54 5 111 := ⟨4, rfl, by decide, xs_M111, q1904, Or.inl ⟨q1903, Or.inl q1905⟩⟩
theorem xs_R35_7429 : xs_Rok 35 58 5 112 := ⟨4, rfl, by decide, xs_M112, q1908, Or.inl ⟨q1907, Or.inl q1909⟩⟩
theorem xs_R35_7553 : xs_Rok 35 59 1 21 := ⟨0, rfl, by decide, xs_M21, q1092, Or.inl ⟨q1091, Or.inl q1093⟩⟩
theorem xs_R35_7941 : xs_Rok 35 62 5 132 := ⟨4, rfl, by decide, xs_M132, q2006, Or.inl ⟨q2005, Or.inl q2007⟩⟩
theorem xs_R35_8065 : xs_Rok 35 63 1 25 := ⟨0, rfl, by decide, xs_M25, q1108, Or.inl ⟨q1107, Or.inl q1109⟩⟩
theorem xs_R35_8453 : xs_Rok 35 66 5 133 := ⟨4, rfl, by decide, xs_M133, q2010, Or.inl ⟨q2009, Or.inl q2011⟩⟩
theorem xs_R35_8577 : xs_Rok 35 67 1 26 := ⟨0, rfl, by decide, xs_M26, q1112, Or.inl ⟨q1111, Or.inl q1113⟩⟩
theorem xs_R35_9093 : xs_Rok 35 71 5 134 := ⟨4, rfl, by decide, xs_M134, q2014, Or.inl ⟨q2013, Or.inl q2015⟩⟩
theorem xs_R35_9217 : xs_Rok 35 72 1 29 := ⟨0, rfl, by decide, xs_M29, q1165, Or.inl ⟨q1164, Or.inl q1166⟩⟩
theorem xs_R35_9605 : xs_Rok 35 75 5 141 := ⟨4, rfl, by decide, xs_M141, q2041, Or.inl ⟨q2040, Or.inl q2042⟩⟩
theorem xs_R35_9729 : xs_Rok 35 76 1 30 := ⟨0, rfl, by decide, xs_M30, q1169, Or.inl ⟨q1168, Or.inl q1170⟩⟩
theorem xs_R35_10117 : xs_Rok 35 79 5 142 := ⟨4, rfl, by decide, xs_M142, q2045, Or.inl ⟨q2044, Or.inl q2046⟩⟩
theorem xs_R35_10241 : xs_Rok 35 80 1 33 := ⟨0, rfl, by decide, xs_M33, q1181, Or.inl ⟨q1180, Or.inl q1182⟩⟩
theorem xs_R35_10629 : xs_Rok 35 83 5 146 := ⟨4, rfl, by decide, xs_M146, q2061, Or.inl ⟨q2060, Or.inl q2062⟩⟩
theorem xs_R35_10753 : xs_Rok 35 84 1 37 := ⟨0, rfl, by decide, xs_M37, q1198, Or.inl ⟨q1197, Or.inl q1199⟩⟩
theorem xs_R35_11141 : xs_Rok 35 87 5 150 := ⟨4, rfl, by decide, xs_M150, q2077, Or.inl ⟨q2076, Or.inl q2078⟩⟩
theorem xs_R35_11265 : xs_Rok 35 88 1 41 := ⟨0, rfl, by decide, xs_M41, q1215, Or.inl ⟨q1214, Or.inl q1216⟩⟩
theorem xs_R35_11653 : xs_Rok 35 91 5 154 := ⟨4, rfl, by decide, xs_M154, q2093, Or.inl ⟨q2092, Or.inl q2094⟩⟩
theorem xs_R35_11777 : xs_Rok 35 92 1 42 := ⟨0, rfl, by decide, xs_M42, q1244, Or.inl ⟨q1243, Or.inl q1245⟩⟩
theorem xs_R35_12293 : xs_Rok 35 96 5 155 := ⟨4, rfl, by decide, xs_M155, q2097, Or.inl ⟨q2096, Or.inl q2098⟩⟩
theorem xs_R35_12417 : xs_Rok 35 97 1 43 := ⟨0, rfl, by decide, xs_M43, q1248, Or.inl ⟨q1247, Or.inl q1249⟩⟩
theorem xs_R35_12805 : xs_Rok 35 100 5 156 := ⟨4, rfl, by decide, xs_M156, q2101, Or.inl ⟨q2100, Or.inl q2102⟩⟩
theorem xs_R35_12929 : xs_Rok 35 101 1 46 := ⟨0, rfl, by decide, xs_M46, q1260, Or.inl ⟨q1259, Or.inl q1261⟩⟩
theorem xs_R35_13317 : xs_Rok 35 104 5 158 := ⟨4, rfl, by decide, xs_M158, q2109, Or.inl ⟨q2108, Or.inl q2110⟩⟩
theorem xs_R35_13441 : xs_Rok 35 105 1 47 := ⟨0, rfl, by decide, xs_M47, q1264, Or.inl ⟨q1263, Or.inl q1265⟩⟩
theorem xs_R35_13829 : xs_Rok 35 108 5 159 := ⟨4, rfl, by decide, xs_M159, q2113, Or.inl ⟨q2112, Or.inl q2114⟩⟩
theorem xs_R35_13953 : xs_Rok 35 109 1 48 := ⟨0, rfl, by decide, xs_M48, q1268, Or.inl ⟨q1267, Or.inl q1269⟩⟩
theorem xs_R35_14341 : xs_Rok 35 112 5 160 := ⟨4, rfl, by decide, xs_M160, q2117, Or.inl ⟨q2116, Or.inl q2118⟩⟩
theorem xs_R35_14465 : xs_Rok 35 113 1 50 := ⟨0, rfl, by decide, xs_M50, q1340, Or.inl ⟨q1339, Or.inl q1341⟩⟩
theorem xs_R35_14853 : xs_Rok 35 116 5 162 := ⟨4, rfl, by decide, xs_M162, q2125, Or.inl ⟨q2124, Or.inl q2126⟩⟩
theorem xs_R35_14977 : xs_Rok 35 117 1 51 := ⟨0, rfl, by decide, xs_M51, q1370, Or.inl ⟨q1369, Or.inl q1371⟩⟩
theorem xs_R35_15365 : xs_Rok 35 120 5 163 := ⟨4, rfl, by decide, xs_M163, q2129, Or.inl ⟨q2128, Or.inl q2130⟩⟩
theorem xs_R35_15489 : xs_Rok 35 121 1 53 := ⟨0, rfl, by decide, xs_M53, q1378, Or.inl ⟨q1377, Or.inl q1379⟩⟩
theorem xs_R35_15877 : xs_Rok 35 124 5 166 := ⟨4, rfl, by decide, xs_M166, q2140, Or.inl ⟨q2139, Or.inl q2141⟩⟩
theorem xs_R35_16001 : xs_Rok 35 125 1 54 := ⟨0, rfl, by decide, xs_M54, q1406, Or.inl ⟨q1405, Or.inl q1407⟩⟩
theorem xs_R35_16389 : xs_Rok 35 128 5 167 := ⟨4, rfl, by decide, xs_M167, q2144, Or.inl ⟨q2143, Or.inl q2145⟩⟩
theorem xs_R35_16513 : xs_Rok 35 129 1 55 := ⟨0, rfl, by decide, xs_M55, q1431, Or.inl ⟨q1430, Or.inl q1432⟩⟩
theorem xs_R35_16901 : xs_Rok 35 132 5 168 := ⟨4, rfl, by decide, xs_M168, q2149, Or.inl ⟨q2148, Or.inl q2150⟩⟩
theorem xs_R35_17025 : xs_Rok 35 133 1 58 := ⟨0, rfl, by decide, xs_M58, q1447, Or.inl ⟨q1446, Or.inl q1448⟩⟩
theorem xs_R35_17541 : xs_Rok 35 137 5 171 := ⟨4, rfl, by decide, xs_M171, q2161, Or.inl ⟨q2160, Or.inl q2162⟩⟩
theorem xs_R35_17665 : xs_Rok 35 138 1 60 := ⟨0, rfl, by decide, xs_M60, q1477, Or.inl ⟨q1476, Or.inl q1478⟩⟩
theorem xs_R35_18053 : xs_Rok 35 141 5 175 := ⟨4, rfl, by decide, xs_M175, q2177, Or.inl ⟨q2176, Or.inl q2178⟩⟩
theorem xs_R35_18177 : xs_Rok 35 142 1 61 := ⟨0, rfl, by decide, xs_M61, q1481, Or.inl ⟨q1480, Or.inl q1482⟩⟩
theorem xs_R35_18565 : xs_Rok 35 145 5 176 := ⟨4, rfl, by decide, xs_M176, q2181, Or.inl ⟨q2180, Or.inl q2182⟩⟩
theorem xs_R35_18689 : xs_Rok 35 146 1 62 := ⟨0, rfl, by decide, xs_M62, q1485, Or.inl ⟨q1484, Or.inl q1486⟩⟩
theorem xs_R35_19077 : xs_Rok 35 149 5 177 := ⟨4, rfl, by decide, xs_M177, q2185, Or.inl ⟨q2184, Or.inl q2186⟩⟩
theorem xs_R35_19201 : xs_Rok 35 150 1 63 := ⟨0, rfl, by decide, xs_M63, q1490, Or.inl ⟨q1489, Or.inl q1491⟩⟩
theorem xs_R35_19589 : xs_Rok 35 153 5 178 := ⟨4, rfl, by decide, xs_M178, q2189, Or.inl ⟨q2188, Or.inl q2190⟩⟩
theorem xs_R35_19713 : xs_Rok 35 154 1 64 := ⟨0, rfl, by decide, xs_M64, q1494, Or.inl ⟨q1493, Or.inl q1495⟩⟩
theorem xs_R35_20101 : xs_Rok 35 157 5 179 := ⟨4, rfl, by decide, xs_M179, q2193, Or.inl ⟨q2192, Or.inl q2194⟩⟩
theorem xs_R35_20225 : xs_Rok 35 158 1 65 := ⟨0, rfl, by decide, xs_M65, q1498, Or.inl ⟨q1497, Or.inl q1499⟩⟩
theorem xs_R35_20613 : xs_Rok 35 161 5 180 := ⟨4, rfl, by decide, xs_M180, q2197, Or.inl ⟨q2196, Or.inl q2198⟩⟩
theorem xs_Ro35 : ∀ q ∈ xm_lkQ_35, q.2 = 18 ∨ xs_Rok 35 (q.1 / 128) (q.1 % 128) q.2 := List.forall_mem_cons.mpr ⟨Or.inr xs_R35_1665, List.forall_mem_cons.mpr ⟨Or.inr xs_R35_2181, List.forall_mem_cons.mpr ⟨Or.inr xs_R35_2305, List.forall_mem_cons.mpr ⟨Or.inr xs_R35_2821, List.forall_mem_cons.mpr ⟨Or.inr xs_R35_2945, List.forall_mem_cons.mpr ⟨Or.inr xs_R35_3461, List.forall_mem_cons.mpr ⟨Or.inr xs_R35_3585, List.forall_mem_cons.mpr ⟨Or.inr xs_R35_4101, List.forall_mem_cons.mpr ⟨Or.inr xs_R35_4225, List.forall_mem_cons.mpr ⟨Or.inr xs_R35_4741, List.forall_mem_cons.mpr ⟨Or.inr xs_R35_4865, List.forall_mem_cons.mpr ⟨Or.inr xs_R35_5253, List.forall_mem_cons.mpr ⟨Or.inr xs_R35_5377, List.forall_mem_cons.mpr ⟨Or.inr xs_R35_5765, List.forall_mem_cons.mpr ⟨Or.inr xs_R35_5889, List.forall_mem_cons.mpr ⟨Or.inr xs_R35_6405, List.forall_mem_cons.mpr ⟨Or.inr xs_R35_6529, List.forall_mem_cons.mpr ⟨Or.inr xs_R35_6917, List.forall_mem_cons.mpr ⟨Or.inl rfl, List.forall_mem_cons.mpr ⟨Or.inr xs_R35_7429, List.forall_mem_cons.mpr ⟨Or.inr xs_R35_7553, List.forall_mem_cons.mpr ⟨Or.inr xs_R35_7941, List.forall_mem_cons.mpr ⟨Or.inr xs_R35_8065, List.forall_mem_cons.mpr ⟨Or.inr xs_R35_8453, List.forall_mem_cons.mpr ⟨Or.inr xs_R35_8577, List.forall_mem_cons.mpr ⟨Or.inr xs_R35_9093, List.forall_mem_cons.mpr ⟨Or.inr xs_R35_9217, List.forall_mem_cons.mpr ⟨Or.inr xs_R35_9605, List.forall_mem_cons.mpr ⟨Or.inr xs_R35_9729, List.forall_mem_cons.mpr ⟨Or.inr xs_R35_10117, List.forall_mem_cons.mpr ⟨Or.inr xs_R35_10241, List.forall_mem_cons.mpr ⟨Or.inr xs_R35_10629, List.forall_mem_cons.mpr ⟨Or.inr xs_R35_10753, List.forall_mem_cons.mpr ⟨Or.inr xs_R35_11141, List.forall_mem_cons.mpr ⟨Or.inr xs_R35_11265, List.forall_mem_cons.mpr ⟨Or.inr xs_R35_11653, List.forall_mem_cons.mpr ⟨Or.inr xs_R35_11777, List.forall_mem_cons.mpr ⟨Or.inr xs_R35_12293, List.forall_mem_cons.mpr ⟨Or.inr xs_R35_12417, List.forall_mem_cons.mpr ⟨Or.inr xs_R35_12805, List.forall_mem_cons.mpr ⟨Or.inr xs_R35_12929, List.forall_mem_cons.mpr ⟨Or.inr xs_R35_13317, List.forall_mem_cons.mpr ⟨Or.inr xs_R35_13441, List.forall_mem_cons.mpr ⟨Or.inr xs_R35_13829, List.forall_mem_cons.mpr ⟨Or.inr xs_R35_13953, List.forall_mem_cons.mpr ⟨Or.inr xs_R35_14341, List.forall_mem_cons.mpr ⟨Or.inr xs_R35_14465, List.forall_mem_cons.mpr ⟨Or.inr xs_R35_14853, List.forall_mem_cons.mpr ⟨Or.inr xs_R35_14977, List.forall_mem_cons.mpr ⟨Or.inr xs_R35_15365, List.forall_mem_cons.mpr ⟨Or.inr xs_R35_15489, List.forall_mem_cons.mpr ⟨Or.inr xs_R35_15877, List.forall_mem_cons.mpr ⟨Or.inr xs_R35_16001, List.forall_mem_cons.mpr ⟨Or.inr xs_R35_16389, List.forall_mem_cons.mpr ⟨Or.inr xs_R35_16513, List.forall_mem_cons.mpr ⟨Or.inr xs_R35_16901, List.forall_mem_cons.mpr ⟨Or.inr xs_R35_17025, List.forall_mem_cons.mpr ⟨Or.inr xs_R35_17541, List.forall_mem_cons.mpr ⟨Or.inr xs_R35_17665, List.forall_mem_cons.mpr ⟨Or.inr xs_R35_18053, List.forall_mem_cons.mpr ⟨Or.inr xs_R35_18177, List.forall_mem_cons.mpr ⟨Or.inr xs_R35_18565, List.forall_mem_cons.mpr ⟨Or.inr xs_R35_18689, List.forall_mem_cons.mpr ⟨Or.inr xs_R35_19077, List.forall_mem_cons.mpr ⟨Or.inr xs_R35_19201, List.forall_mem_cons.mpr ⟨Or.inr xs_R35_19589, List.forall_mem_cons.mpr ⟨Or.inr xs_R35_19713, List.forall_mem_cons.mpr ⟨Or.inr xs_R35_20101, List.forall_mem_cons.mpr ⟨Or.inr xs_R35_20225, List.forall_mem_cons.mpr ⟨Or.inr xs_R35_20613, (fun _ h => absurd h List.not_mem_nil)⟩⟩⟩⟩⟩⟩⟩⟩⟩⟩⟩⟩⟩⟩⟩⟩⟩⟩⟩⟩⟩⟩⟩⟩⟩⟩⟩⟩⟩⟩⟩⟩⟩⟩⟩⟩⟩⟩⟩⟩⟩⟩⟩⟩⟩⟩⟩⟩⟩⟩⟩⟩⟩⟩⟩⟩⟩⟩⟩⟩⟩⟩⟩⟩⟩⟩⟩⟩⟩⟩
theorem xs_R {o idx kd y : Nat} (h : xm_lkR o idx kd = some y) : y = 18 ∨ xs_Rok o idx kd y := by
  unfold xm_lkR at h
  split at h
  · rename_i hk
    have e1 : (idx * 128 + kd) / 128 = idx := by omega
    have e2 : (idx * 128 + kd) % 128 = kd := by omega
    have key : y = 18 ∨ xs_Rok o ((idx * 128 + kd) / 128) ((idx * 128 + kd) % 128) y := by
      unfold xm_lkQ at h
      split at h
      · exact xs_Ro0 _ (lk_mem h)
      · exact xs_Ro2 _ (lk_mem h)
      · exact xs_Ro4 _ (lk_mem h)
      · exact xs_Ro5 _ (lk_mem h)
      · exact xs_Ro9 _ (lk_mem h)
      · exact xs_Ro10 _ (lk_mem h)
      · exact xs_Ro11 _ (lk_mem h)
      · exact xs_Ro12 _ (lk_mem h)
      · exact xs_Ro19 _ (lk_mem h)
      · exact xs_Ro20 _ (lk_mem h)
      · exact xs_Ro25 _ (lk_mem h)
      · exact xs_Ro27 _ (lk_mem h)
      · exact xs_Ro35 _ (lk_mem h)
      · cases h
    rw [e1, e2] at key
    exact key
  · cases h
