/-! SOUNDNESS, second part: what holds of the machine's tables and constants all through -/
set_option maxRecDepth 100000
def xs_A (B : Nat) : Nat → Prop := fun q => B ≤ q
def xs_Ap (D : va_G) : Prop := ∀ c, xs_cc c = true → ∀ a b, a < xm_nf c → b < xm_nf c → a ≠ b → D.2 c a ≠ D.2 c b
def xs_K (D : va_G) (B : Nat) (cs : Nat → Value) (s : State) : Prop :=
  (∀ c, xs_cc c = true → u_Kn s (xm_oN c) (xm_T c) (xm_nf c) (D.1 c) (D.2 c)) ∧
  (∀ w ∈ xs_nest, va_Nw w s) ∧ (∀ w ∈ xs_cst, va_Nw w s) ∧ (∀ C ∈ xs_arr, va_AO C s) ∧ va_AOA s ∧
  (∀ z ∈ xs_sts, va_Z z.1 z.2.1 z.2.2.1 (cs z.2.2.2) (xs_A B) s s.heap) ∧
  (∀ z ∈ xs_strs, ∃ q, cs z.2.2.2 = .ref q ∧ vk_R z.1 z.2.1 z.2.2.1 q s) ∧ B ≤ s.heap.size
theorem xs_nest_warm {s U : State} (hW : s.WarmedH U.vm) : ∀ w ∈ xs_nest, va_Nw w s → va_Nw w U := by
  intro w hw hz
  unfold xs_nest at hw
  simp only [List.mem_cons, List.not_mem_nil, or_false] at hw
  rcases hw with rfl | rfl | rfl | rfl | rfl | rfl | rfl | rfl | rfl | rfl | rfl | rfl | rfl | rfl | rfl | rfl | rfl | rfl | rfl | rfl | rfl | rfl | rfl | rfl
  all_goals first | exact va_Nw.warmF hW hz | exact va_Nw.warmM hW hz
theorem xs_cst_warm {s U : State} (hW : s.WarmedH U.vm) : ∀ w ∈ xs_cst, va_Nw w s → va_Nw w U := by
  intro w hw hz
  unfold xs_cst at hw
  simp only [List.mem_cons, List.not_mem_nil, or_false] at hw
  rcases hw with rfl | rfl | rfl | rfl | rfl | rfl | rfl | rfl | rfl | rfl | rfl | rfl
  all_goals first | exact va_Nw.warmC hW hz | exact va_Nw.warmD hW hz | exact word_at hW (Or.inl rfl) hz
theorem xs_K.warm {D : va_G} {B : Nat} {cs : Nat → Value} {s U : State} {H : Heap} {locs : List Loc} (k : xs_K D B cs s) (hW : s.WarmedH U.vm) (hU : U.heap = H) (hS : va_S (xs_A B) s.heap H locs) : xs_K D B cs U := by
  obtain ⟨k1, k2, k3, k4, k5, k6, k7, k8⟩ := k
  refine ⟨fun c hc => u_Kn_moved hW.alike (k1 c hc), fun w hw => xs_nest_warm hW w hw (k2 w hw), fun w hw => xs_cst_warm hW w hw (k3 w hw), fun C hC => (k4 C hC).moved hW.alike, k5.moved hW.alike, fun z hz => ?_, fun z hz => ?_, by rw [hU]; exact Nat.le_trans k8 hS.1⟩
  · rw [hU]
    exact (va_Z.moved hW.alike (k6 z hz)).kept hS.2.1
  · obtain ⟨q, h1, h2⟩ := k7 z hz
    exact ⟨q, h1, h2.warm hW⟩
