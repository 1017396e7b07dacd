/-! further links (made) -/
set_option maxRecDepth 100000
/-- the statics that are read, the String constants: their numbers among the constants -/
def xs_sts : List (String × String × String × Nat) := [("java/lang/String", "COMPACT_STRINGS", "Z", 100), ("java/lang/StringUTF16", "$assertionsDisabled", "Z", 101), ("java/lang/StringUTF16", "HI_BYTE_SHIFT", "I", 102), ("java/lang/StringUTF16", "LO_BYTE_SHIFT", "I", 103), ("java/lang/Throwable", "UNASSIGNED_STACK", "[Ljava/lang/StackTraceElement;", 104), ("java/lang/Throwable", "SUPPRESSED_SENTINEL", "Ljava/util/List;", 105), ("jdk/internal/util/Preconditions", "SIOOBE_FORMATTER", "Ljava/util/function/BiFunction;", 106)]
def xs_strs : List (String × Nat × String × Nat) := [("CliffHoney", 48, "day", 0), ("CliffHoney", 50, "month", 1), ("CliffHoney", 52, "moon", 2), ("CliffHoney", 54, "wind", 3), ("CliffHoney", 56, "height", 4), ("CliffHoney", 58, "strength", 5), ("CliffHoney", 60, "comb", 6), ("CliffHoney", 62, "season", 7), ("CliffHoney", 64, "cutter", 8), ("CliffHoney", 66, "rope", 9), ("CliffHoney", 68, "finder", 10), ("CliffHoney", 70, "land", 11), ("CliffHoney", 72, "leave", 12), ("CliffHoney", 74, "bar", 13), ("CliffHoney", 76, "share", 14), ("CliffHoney", 78, "learn", 15), ("CliffHoney", 80, "old", 16), ("CliffHoney", 82, "when", 17), ("CliffHoney", 84, "or", 18), ("CliffHoney", 86, "and", 19), ("CliffHoney", 88, "not", 20), ("CliffHoney$Reader", 49, ";+-*/()<=>", 21)]
def xs_Gok (o idx j : Nat) : Prop := ∃ C n d, (C, n, d, j) ∈ xs_sts ∧ Cond.fieldLink (xm_oN o) idx C n d ∈ lw_all
theorem xs_G_22 : ∀ q ∈ xm_lkG_22, xs_Gok 22 q.1 q.2 := List.forall_mem_cons.mpr ⟨⟨_, _, _, List.mem_of_getElem? (i := 4) rfl, q167⟩, List.forall_mem_cons.mpr ⟨⟨_, _, _, List.mem_of_getElem? (i := 5) rfl, q169⟩, (fun _ h => absurd h List.not_mem_nil)⟩⟩
theorem xs_G_25 : ∀ q ∈ xm_lkG_25, xs_Gok 25 q.1 q.2 := List.forall_mem_cons.mpr ⟨⟨_, _, _, List.mem_of_getElem? (i := 0) rfl, q649⟩, (fun _ h => absurd h List.not_mem_nil)⟩
theorem xs_G_27 : ∀ q ∈ xm_lkG_27, xs_Gok 27 q.1 q.2 := List.forall_mem_cons.mpr ⟨⟨_, _, _, List.mem_of_getElem? (i := 0) rfl, q798⟩, List.forall_mem_cons.mpr ⟨⟨_, _, _, List.mem_of_getElem? (i := 6) rfl, q743⟩, (fun _ h => absurd h List.not_mem_nil)⟩⟩
theorem xs_G_28 : ∀ q ∈ xm_lkG_28, xs_Gok 28 q.1 q.2 := List.forall_mem_cons.mpr ⟨⟨_, _, _, List.mem_of_getElem? (i := 1) rfl, q751⟩, List.forall_mem_cons.mpr ⟨⟨_, _, _, List.mem_of_getElem? (i := 2) rfl, q753⟩, List.forall_mem_cons.mpr ⟨⟨_, _, _, List.mem_of_getElem? (i := 3) rfl, q755⟩, (fun _ h => absurd h List.not_mem_nil)⟩⟩⟩
theorem xs_G {o idx : Nat} {v : Nat} (h : xm_lkG o idx = some v) : xs_Gok o idx v := by
  unfold xm_lkG at h
  split at h
  · exact xs_G_22 _ (lk_mem h)
  · exact xs_G_25 _ (lk_mem h)
  · exact xs_G_27 _ (lk_mem h)
  · exact xs_G_28 _ (lk_mem h)
  · cases h
def xs_Dok (o idx : Nat) (v : Value ⊕ Nat) : Prop := (∃ x, v = .inl (.int x) ∧ Cond.constant (xm_oN o) idx x ∈ lw_all) ∨ ∃ tx j, v = .inr j ∧ (xm_oN o, idx, tx, j) ∈ xs_strs
theorem xs_D_0 : ∀ q ∈ xm_lkD_0, xs_Dok 0 q.1 q.2 := List.forall_mem_cons.mpr ⟨Or.inr ⟨_, _, rfl, List.mem_of_getElem? (i := 0) rfl⟩, List.forall_mem_cons.mpr ⟨Or.inr ⟨_, _, rfl, List.mem_of_getElem? (i := 1) rfl⟩, List.forall_mem_cons.mpr ⟨Or.inr ⟨_, _, rfl, List.mem_of_getElem? (i := 2) rfl⟩, List.forall_mem_cons.mpr ⟨Or.inr ⟨_, _, rfl, List.mem_of_getElem? (i := 3) rfl⟩, List.forall_mem_cons.mpr ⟨Or.inr ⟨_, _, rfl, List.mem_of_getElem? (i := 4) rfl⟩, List.forall_mem_cons.mpr ⟨Or.inr ⟨_, _, rfl, List.mem_of_getElem? (i := 5) rfl⟩, List.forall_mem_cons.mpr ⟨Or.inr ⟨_, _, rfl, List.mem_of_getElem? (i := 6) rfl⟩, List.forall_mem_cons.mpr ⟨Or.inr ⟨_, _, rfl, List.mem_of_getElem? (i := 7) rfl⟩, List.forall_mem_cons.mpr ⟨Or.inr ⟨_, _, rfl, List.mem_of_getElem? (i := 8) rfl⟩, List.forall_mem_cons.mpr ⟨Or.inr ⟨_, _, rfl, List.mem_of_getElem? (i := 9) rfl⟩, List.forall_mem_cons.mpr ⟨Or.inr ⟨_, _, rfl, List.mem_of_getElem? (i := 10) rfl⟩, List.forall_mem_cons.mpr ⟨Or.inr ⟨_, _, rfl, List.mem_of_getElem? (i := 11) rfl⟩, List.forall_mem_cons.mpr ⟨Or.inr ⟨_, _, rfl, List.mem_of_getElem? (i := 12) rfl⟩, List.forall_mem_cons.mpr ⟨Or.inr ⟨_, _, rfl, List.mem_of_getElem? (i := 13) rfl⟩, List.forall_mem_cons.mpr ⟨Or.inr ⟨_, _, rfl, List.mem_of_getElem? (i := 14) rfl⟩, List.forall_mem_cons.mpr ⟨Or.inr ⟨_, _, rfl, List.mem_of_getElem? (i := 15) rfl⟩, List.forall_mem_cons.mpr ⟨Or.inr ⟨_, _, rfl, List.mem_of_getElem? (i := 16) rfl⟩, List.forall_mem_cons.mpr ⟨Or.inr ⟨_, _, rfl, List.mem_of_getElem? (i := 17) rfl⟩, List.forall_mem_cons.mpr ⟨Or.inr ⟨_, _, rfl, List.mem_of_getElem? (i := 18) rfl⟩, List.forall_mem_cons.mpr ⟨Or.inr ⟨_, _, rfl, List.mem_of_getElem? (i := 19) rfl⟩, List.forall_mem_cons.mpr ⟨Or.inr ⟨_, _, rfl, List.mem_of_getElem? (i := 20) rfl⟩, List.forall_mem_cons.mpr ⟨Or.inl ⟨_, rfl, q1409⟩, (fun _ h => absurd h List.not_mem_nil)⟩⟩⟩⟩⟩⟩⟩⟩⟩⟩⟩⟩⟩⟩⟩⟩⟩⟩⟩⟩⟩⟩
theorem xs_D_2 : ∀ q ∈ xm_lkD_2, xs_Dok 2 q.1 q.2 := List.forall_mem_cons.mpr ⟨Or.inr ⟨_, _, rfl, List.mem_of_getElem? (i := 21) rfl⟩, (fun _ h => absurd h List.not_mem_nil)⟩
theorem xs_D_4 : ∀ q ∈ xm_lkD_4, xs_Dok 4 q.1 q.2 := List.forall_mem_cons.mpr ⟨Or.inl ⟨_, rfl, q2147⟩, (fun _ h => absurd h List.not_mem_nil)⟩
theorem xs_D_25 : ∀ q ∈ xm_lkD_25, xs_Dok 25 q.1 q.2 := List.forall_mem_cons.mpr ⟨Or.inl ⟨_, rfl, q701⟩, (fun _ h => absurd h List.not_mem_nil)⟩
theorem xs_D_28 : ∀ q ∈ xm_lkD_28, xs_Dok 28 q.1 q.2 := List.forall_mem_cons.mpr ⟨Or.inl ⟨_, rfl, q657⟩, List.forall_mem_cons.mpr ⟨Or.inl ⟨_, rfl, q876⟩, (fun _ h => absurd h List.not_mem_nil)⟩⟩
theorem xs_D_29 : ∀ q ∈ xm_lkD_29, xs_Dok 29 q.1 q.2 := List.forall_mem_cons.mpr ⟨Or.inl ⟨_, rfl, q697⟩, (fun _ h => absurd h List.not_mem_nil)⟩
theorem xs_D_33 : ∀ q ∈ xm_lkD_33, xs_Dok 33 q.1 q.2 := List.forall_mem_cons.mpr ⟨Or.inl ⟨_, rfl, q905⟩, List.forall_mem_cons.mpr ⟨Or.inl ⟨_, rfl, q901⟩, (fun _ h => absurd h List.not_mem_nil)⟩⟩
theorem xs_D {o idx : Nat} {v : (Value ⊕ Nat)} (h : xm_lkD o idx = some v) : xs_Dok o idx v := by
  unfold xm_lkD at h
  split at h
  · exact xs_D_0 _ (lk_mem h)
  · exact xs_D_2 _ (lk_mem h)
  · exact xs_D_4 _ (lk_mem h)
  · exact xs_D_25 _ (lk_mem h)
  · exact xs_D_28 _ (lk_mem h)
  · exact xs_D_29 _ (lk_mem h)
  · exact xs_D_33 _ (lk_mem h)
  · cases h
def xs_Lok (o idx : Nat) (v : Int64) : Prop := Cond.constantLong (xm_oN o) idx v ∈ lw_all
theorem xs_L_4 : ∀ q ∈ xm_lkL_4, xs_Lok 4 q.1 q.2 := List.forall_mem_cons.mpr ⟨q1925, List.forall_mem_cons.mpr ⟨q1926, List.forall_mem_cons.mpr ⟨q1927, List.forall_mem_cons.mpr ⟨q1928, List.forall_mem_cons.mpr ⟨q1929, List.forall_mem_cons.mpr ⟨q1930, List.forall_mem_cons.mpr ⟨q1931, List.forall_mem_cons.mpr ⟨q1932, List.forall_mem_cons.mpr ⟨q1933, List.forall_mem_cons.mpr ⟨q1934, List.forall_mem_cons.mpr ⟨q1935, List.forall_mem_cons.mpr ⟨q1936, List.forall_mem_cons.mpr ⟨q1937, List.forall_mem_cons.mpr ⟨q1938, List.forall_mem_cons.mpr ⟨q1939, List.forall_mem_cons.mpr ⟨q1940, List.forall_mem_cons.mpr ⟨q1941, List.forall_mem_cons.mpr ⟨q1942, List.forall_mem_cons.mpr ⟨q1943, List.forall_mem_cons.mpr ⟨q1944, List.forall_mem_cons.mpr ⟨q1945, (fun _ h => absurd h List.not_mem_nil)⟩⟩⟩⟩⟩⟩⟩⟩⟩⟩⟩⟩⟩⟩⟩⟩⟩⟩⟩⟩⟩
theorem xs_L_19 : ∀ q ∈ xm_lkL_19, xs_Lok 19 q.1 q.2 := List.forall_mem_cons.mpr ⟨q1280, (fun _ h => absurd h List.not_mem_nil)⟩
theorem xs_L {o idx : Nat} {v : Int64} (h : xm_lkL o idx = some v) : xs_Lok o idx v := by
  unfold xm_lkL at h
  split at h
  · exact xs_L_4 _ (lk_mem h)
  · exact xs_L_19 _ (lk_mem h)
  · cases h
def xs_Cok (o idx c : Nat) : Prop := xs_cc c = true ∧ Cond.classLink (xm_oN o) idx (xm_oN c) ∈ lw_all
theorem xs_C_0 : ∀ q ∈ xm_lkC_0, xs_Cok 0 q.1 q.2 := List.forall_mem_cons.mpr ⟨⟨by decide, q141⟩, List.forall_mem_cons.mpr ⟨⟨by decide, q143⟩, List.forall_mem_cons.mpr ⟨⟨by decide, q210⟩, List.forall_mem_cons.mpr ⟨⟨by decide, q233⟩, List.forall_mem_cons.mpr ⟨⟨by decide, q270⟩, List.forall_mem_cons.mpr ⟨⟨by decide, q301⟩, List.forall_mem_cons.mpr ⟨⟨by decide, q305⟩, List.forall_mem_cons.mpr ⟨⟨by decide, q1275⟩, List.forall_mem_cons.mpr ⟨⟨by decide, q1381⟩, (fun _ h => absurd h List.not_mem_nil)⟩⟩⟩⟩⟩⟩⟩⟩⟩
theorem xs_C_2 : ∀ q ∈ xm_lkC_2, xs_Cok 2 q.1 q.2 := List.forall_mem_cons.mpr ⟨⟨by decide, q640⟩, List.forall_mem_cons.mpr ⟨⟨by decide, q982⟩, List.forall_mem_cons.mpr ⟨⟨by decide, q1026⟩, List.forall_mem_cons.mpr ⟨⟨by decide, q1035⟩, List.forall_mem_cons.mpr ⟨⟨by decide, q1054⟩, List.forall_mem_cons.mpr ⟨⟨by decide, q1065⟩, List.forall_mem_cons.mpr ⟨⟨by decide, q962⟩, List.forall_mem_cons.mpr ⟨⟨by decide, q1000⟩, List.forall_mem_cons.mpr ⟨⟨by decide, q952⟩, List.forall_mem_cons.mpr ⟨⟨by decide, q939⟩, (fun _ h => absurd h List.not_mem_nil)⟩⟩⟩⟩⟩⟩⟩⟩⟩⟩
theorem xs_C_26 : ∀ q ∈ xm_lkC_26, xs_Cok 26 q.1 q.2 := List.forall_mem_cons.mpr ⟨⟨by decide, q773⟩, (fun _ h => absurd h List.not_mem_nil)⟩
theorem xs_C_27 : ∀ q ∈ xm_lkC_27, xs_Cok 27 q.1 q.2 := List.forall_mem_cons.mpr ⟨⟨by decide, q827⟩, (fun _ h => absurd h List.not_mem_nil)⟩
theorem xs_C_35 : ∀ q ∈ xm_lkC_35, xs_Cok 35 q.1 q.2 := List.forall_mem_cons.mpr ⟨⟨by decide, q133⟩, List.forall_mem_cons.mpr ⟨⟨by decide, q1505⟩, (fun _ h => absurd h List.not_mem_nil)⟩⟩
theorem xs_C {o idx : Nat} {v : Nat} (h : xm_lkC o idx = some v) : xs_Cok o idx v := by
  unfold xm_lkC at h
  split at h
  · exact xs_C_0 _ (lk_mem h)
  · exact xs_C_2 _ (lk_mem h)
  · exact xs_C_26 _ (lk_mem h)
  · exact xs_C_27 _ (lk_mem h)
  · exact xs_C_35 _ (lk_mem h)
  · cases h
def xs_Aok (o idx kd : Nat) : Prop := ∃ C, xs_ety kd = some (.object C) ∧ C ∈ xs_arr ∧ 110 ≤ kd ∧ Cond.classLink (xm_oN o) idx C ∈ lw_all
theorem xs_A1_0 : ∀ q ∈ xm_lkA_0, xs_Aok 0 q.1 q.2 := List.forall_mem_cons.mpr ⟨⟨_, rfl, List.mem_of_getElem? (i := 0) rfl, by decide, q141⟩, List.forall_mem_cons.mpr ⟨⟨_, rfl, List.mem_of_getElem? (i := 1) rfl, by decide, q210⟩, List.forall_mem_cons.mpr ⟨⟨_, rfl, List.mem_of_getElem? (i := 3) rfl, by decide, q270⟩, List.forall_mem_cons.mpr ⟨⟨_, rfl, List.mem_of_getElem? (i := 4) rfl, by decide, q301⟩, List.forall_mem_cons.mpr ⟨⟨_, rfl, List.mem_of_getElem? (i := 5) rfl, by decide, q303⟩, List.forall_mem_cons.mpr ⟨⟨_, rfl, List.mem_of_getElem? (i := 6) rfl, by decide, q305⟩, (fun _ h => absurd h List.not_mem_nil)⟩⟩⟩⟩⟩⟩
theorem xs_A1_2 : ∀ q ∈ xm_lkA_2, xs_Aok 2 q.1 q.2 := List.forall_mem_cons.mpr ⟨⟨_, rfl, List.mem_of_getElem? (i := 2) rfl, by decide, q623⟩, (fun _ h => absurd h List.not_mem_nil)⟩
theorem xs_A1_26 : ∀ q ∈ xm_lkA_26, xs_Aok 26 q.1 q.2 := List.forall_mem_cons.mpr ⟨⟨_, rfl, List.mem_of_getElem? (i := 1) rfl, by decide, q773⟩, (fun _ h => absurd h List.not_mem_nil)⟩
theorem xs_A1_27 : ∀ q ∈ xm_lkA_27, xs_Aok 27 q.1 q.2 := List.forall_mem_cons.mpr ⟨⟨_, rfl, List.mem_of_getElem? (i := 1) rfl, by decide, q827⟩, (fun _ h => absurd h List.not_mem_nil)⟩
theorem xs_A1 {o idx : Nat} {v : Nat} (h : xm_lkA o idx = some v) : xs_Aok o idx v := by
  unfold xm_lkA at h
  split at h
  · exact xs_A1_0 _ (lk_mem h)
  · exact xs_A1_2 _ (lk_mem h)
  · exact xs_A1_26 _ (lk_mem h)
  · exact xs_A1_27 _ (lk_mem h)
  · cases h
def xs_Iok (o idx kd : Nat) : Prop := kd = 28 ∧ Cond.classLink (xm_oN o) idx "java/lang/String" ∈ lw_all
theorem xs_I1_0 : ∀ q ∈ xm_lkI_0, xs_Iok 0 q.1 q.2 := List.forall_mem_cons.mpr ⟨⟨rfl, q210⟩, (fun _ h => absurd h List.not_mem_nil)⟩
theorem xs_I1_26 : ∀ q ∈ xm_lkI_26, xs_Iok 26 q.1 q.2 := List.forall_mem_cons.mpr ⟨⟨rfl, q773⟩, (fun _ h => absurd h List.not_mem_nil)⟩
theorem xs_I1_27 : ∀ q ∈ xm_lkI_27, xs_Iok 27 q.1 q.2 := List.forall_mem_cons.mpr ⟨⟨rfl, q827⟩, (fun _ h => absurd h List.not_mem_nil)⟩
theorem xs_I1 {o idx : Nat} {v : Nat} (h : xm_lkI o idx = some v) : xs_Iok o idx v := by
  unfold xm_lkI at h
  split at h
  · exact xs_I1_0 _ (lk_mem h)
  · exact xs_I1_26 _ (lk_mem h)
  · exact xs_I1_27 _ (lk_mem h)
  · cases h
def xs_Nok (o idx f : Nat) : Prop := (f = 0 ∧ Cond.methodLink (xm_oN o) idx Lib.Math.max.name ∈ lw_all) ∨ (f = 1 ∧ Cond.methodLink (xm_oN o) idx Lib.Math.min.name ∈ lw_all) ∨ (f = 2 ∧ Cond.methodLink (xm_oN o) idx Lib.Math.abs.name ∈ lw_all)
theorem xs_N_0 : ∀ q ∈ xm_lkN_0, xs_Nok 0 q.1 q.2 := List.forall_mem_cons.mpr ⟨Or.inr (Or.inl ⟨rfl, q580⟩), List.forall_mem_cons.mpr ⟨Or.inl ⟨rfl, q581⟩, List.forall_mem_cons.mpr ⟨Or.inr (Or.inr ⟨rfl, q1196⟩), (fun _ h => absurd h List.not_mem_nil)⟩⟩⟩
theorem xs_N_5 : ∀ q ∈ xm_lkN_5, xs_Nok 5 q.1 q.2 := List.forall_mem_cons.mpr ⟨Or.inr (Or.inl ⟨rfl, q562⟩), List.forall_mem_cons.mpr ⟨Or.inl ⟨rfl, q584⟩, List.forall_mem_cons.mpr ⟨Or.inr (Or.inr ⟨rfl, q593⟩), (fun _ h => absurd h List.not_mem_nil)⟩⟩⟩
theorem xs_N_11 : ∀ q ∈ xm_lkN_11, xs_Nok 11 q.1 q.2 := List.forall_mem_cons.mpr ⟨Or.inr (Or.inl ⟨rfl, q1156⟩), List.forall_mem_cons.mpr ⟨Or.inl ⟨rfl, q1157⟩, (fun _ h => absurd h List.not_mem_nil)⟩⟩
theorem xs_N_20 : ∀ q ∈ xm_lkN_20, xs_Nok 20 q.1 q.2 := List.forall_mem_cons.mpr ⟨Or.inr (Or.inl ⟨rfl, q1386⟩), List.forall_mem_cons.mpr ⟨Or.inl ⟨rfl, q1387⟩, (fun _ h => absurd h List.not_mem_nil)⟩⟩
theorem xs_N_28 : ∀ q ∈ xm_lkN_28, xs_Nok 28 q.1 q.2 := List.forall_mem_cons.mpr ⟨Or.inr (Or.inl ⟨rfl, q875⟩), List.forall_mem_cons.mpr ⟨Or.inl ⟨rfl, q874⟩, (fun _ h => absurd h List.not_mem_nil)⟩⟩
theorem xs_N_29 : ∀ q ∈ xm_lkN_29, xs_Nok 29 q.1 q.2 := List.forall_mem_cons.mpr ⟨Or.inl ⟨rfl, q696⟩, (fun _ h => absurd h List.not_mem_nil)⟩
theorem xs_N_30 : ∀ q ∈ xm_lkN_30, xs_Nok 30 q.1 q.2 := List.forall_mem_cons.mpr ⟨Or.inr (Or.inl ⟨rfl, q712⟩), (fun _ h => absurd h List.not_mem_nil)⟩
theorem xs_N_31 : ∀ q ∈ xm_lkN_31, xs_Nok 31 q.1 q.2 := List.forall_mem_cons.mpr ⟨Or.inr (Or.inl ⟨rfl, q867⟩), List.forall_mem_cons.mpr ⟨Or.inl ⟨rfl, q866⟩, (fun _ h => absurd h List.not_mem_nil)⟩⟩
theorem xs_N {o idx : Nat} {v : Nat} (h : xm_lkN o idx = some v) : xs_Nok o idx v := by
  unfold xm_lkN at h
  split at h
  · exact xs_N_0 _ (lk_mem h)
  · exact xs_N_5 _ (lk_mem h)
  · exact xs_N_11 _ (lk_mem h)
  · exact xs_N_20 _ (lk_mem h)
  · exact xs_N_28 _ (lk_mem h)
  · exact xs_N_29 _ (lk_mem h)
  · exact xs_N_30 _ (lk_mem h)
  · exact xs_N_31 _ (lk_mem h)
  · cases h
theorem xs_O {o idx : Nat} (h : xm_lkO o idx = true) : Cond.methodLink (xm_oN o) idx Lib.objectInit ∈ lw_all := by
  have h : (o, idx) ∈ ([(0, 3), (2, 9), (3, 3), (4, 1), (5, 3), (6, 1), (10, 1), (17, 3), (18, 9), (21, 1), (22, 1), (25, 3), (27, 1)] : List (Nat × Nat)) := List.contains_iff_mem.mp h
  simp only [List.mem_cons, List.not_mem_nil, or_false, Prod.mk.injEq] at h
  rcases h with ⟨rfl, rfl⟩ | ⟨rfl, rfl⟩ | ⟨rfl, rfl⟩ | ⟨rfl, rfl⟩ | ⟨rfl, rfl⟩ | ⟨rfl, rfl⟩ | ⟨rfl, rfl⟩ | ⟨rfl, rfl⟩ | ⟨rfl, rfl⟩ | ⟨rfl, rfl⟩ | ⟨rfl, rfl⟩ | ⟨rfl, rfl⟩ | ⟨rfl, rfl⟩
  · exact q138
  · exact q238
  · exact q276
  · exact q1510
  · exact q485
  · exact q947
  · exact q1016
  · exact q1222
  · exact q1284
  · exact q1414
  · exact q166
  · exact q648
  · exact q781
theorem xs_Y {o idx : Nat} (h : xm_lkY o idx = true) : Cond.methodLink (xm_oN o) idx arraycopyName ∈ lw_all := by
  have h : (o, idx) ∈ ([(0, 381), (30, 150)] : List (Nat × Nat)) := List.contains_iff_mem.mp h
  simp only [List.mem_cons, List.not_mem_nil, or_false, Prod.mk.injEq] at h
  rcases h with ⟨rfl, rfl⟩ | ⟨rfl, rfl⟩
  · exact q1209
  · exact q713
theorem xs_W1 {o idx : Nat} (h : xm_lkW o idx = true) : Cond.classLink (xm_oN o) idx "[[LCliffHoney$Line;" ∈ lw_all := by
  have h : (o, idx) ∈ ([(0, 103)] : List (Nat × Nat)) := List.contains_iff_mem.mp h
  simp only [List.mem_cons, List.not_mem_nil, or_false, Prod.mk.injEq] at h
  rcases h with ⟨rfl, rfl⟩
  · exact q266
