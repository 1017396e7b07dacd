/-! objects that come, names -/
set_option maxRecDepth 100000
section GH
variable {h : xm_H} {a b k j p kd n s : Nat}
theorem g_K_sI {v : Int32} : xm_K (xm_sI h a k v) = xm_K h := Eq.trans (b := xm_K h) rfl rfl
theorem g_N_sI {v : Int32} : xm_N (xm_sI h a k v) = xm_N h := Eq.trans (b := xm_N h) rfl rfl
theorem g_B_sI {v : Int32} : xm_B (xm_sI h a k v) = xm_B h := Eq.trans (b := xm_B h) rfl rfl
theorem g_Z_sI {v : Int32} : xm_Z (xm_sI h a k v) = xm_Z h := Eq.trans (b := xm_Z h) rfl rfl
theorem g_K_sL {v : Int64} : xm_K (xm_sL h a k v) = xm_K h := Eq.trans (b := xm_K h) rfl rfl
theorem g_N_sL {v : Int64} : xm_N (xm_sL h a k v) = xm_N h := Eq.trans (b := xm_N h) rfl rfl
theorem g_B_sL {v : Int64} : xm_B (xm_sL h a k v) = xm_B h := Eq.trans (b := xm_B h) rfl rfl
theorem g_Z_sL {v : Int64} : xm_Z (xm_sL h a k v) = xm_Z h := Eq.trans (b := xm_Z h) rfl rfl
theorem g_K_sR {v : Option Nat} : xm_K (xm_sR h a k v) = xm_K h := Eq.trans (b := xm_K h) rfl rfl
theorem g_N_sR {v : Option Nat} : xm_N (xm_sR h a k v) = xm_N h := Eq.trans (b := xm_N h) rfl rfl
theorem g_B_sR {v : Option Nat} : xm_B (xm_sR h a k v) = xm_B h := Eq.trans (b := xm_B h) rfl rfl
theorem g_Z_sR {v : Option Nat} : xm_Z (xm_sR h a k v) = xm_Z h := Eq.trans (b := xm_Z h) rfl rfl
theorem g_L_sI {v : Int32} : xm_L (xm_sI h a k v) = xm_L h := Eq.trans (b := xm_L h) rfl rfl
theorem g_R_sI {v : Int32} : xm_R (xm_sI h a k v) = xm_R h := Eq.trans (b := xm_R h) rfl rfl
theorem g_I_sL {v : Int64} : xm_I (xm_sL h a k v) = xm_I h := Eq.trans (b := xm_I h) rfl rfl
theorem g_R_sL {v : Int64} : xm_R (xm_sL h a k v) = xm_R h := Eq.trans (b := xm_R h) rfl rfl
theorem g_I_sR {v : Option Nat} : xm_I (xm_sR h a k v) = xm_I h := Eq.trans (b := xm_I h) rfl rfl
theorem g_L_sR {v : Option Nat} : xm_L (xm_sR h a k v) = xm_L h := Eq.trans (b := xm_L h) rfl rfl
theorem g_R_sRv {v : Option Nat} : xm_R (xm_sR h a k v) b j = if b = a ∧ j = k then v else xm_R h b j := Eq.trans (b := if b = a ∧ j = k then v else xm_R h b j) rfl rfl
theorem g_I_sIv {v : Int32} : xm_I (xm_sI h a k v) b j = if b = a ∧ j = k then v else xm_I h b j := Eq.trans (b := if b = a ∧ j = k then v else xm_I h b j) rfl rfl
theorem g_K_nw : xm_K (xm_nw h kd n s) b = if b = xm_Z h then kd else xm_K h b := Eq.trans (b := if b = xm_Z h then kd else xm_K h b) rfl rfl
theorem g_N_nw : xm_N (xm_nw h kd n s) b = if b = xm_Z h then n else xm_N h b := Eq.trans (b := if b = xm_Z h then n else xm_N h b) rfl rfl
theorem g_B_nw : xm_B (xm_nw h kd n s) = xm_B h := Eq.trans (b := xm_B h) rfl rfl
theorem g_Z_nw : xm_Z (xm_nw h kd n s) = xm_Z h + 1 := Eq.trans (b := xm_Z h + 1) rfl rfl
end GH
theorem enm_mem : ∀ {L : List (Nat × Nat)} {i p : Nat} {x : Nat × Nat}, enm L i p = some x → x.2 = i ∧ (p, x.1) ∈ L
  | (s, o) :: L, i, p, x, e => by
    unfold enm at e
    by_cases c : p = s
    · rw [if_pos c] at e
      cases e
      exact ⟨rfl, by rw [c]; exact List.mem_cons_self⟩
    · rw [if_neg c] at e
      obtain ⟨a, b⟩ := enm_mem e
      exact ⟨a, List.mem_cons_of_mem _ b⟩
/-- slots of a list are apart, and so are its names -/
def lnd (L : List (Nat × Nat)) : Bool := L.all fun x => L.all fun y => decide ((x.1 = y.1) = (x.2 = y.2))
theorem enm_inj {L : List (Nat × Nat)} (hl : lnd L = true) {i p r : Nat} {x : Nat × Nat} (a : enm L i p = some x) (b : enm L i r = some x) : p = r := by
  have a1 := (enm_mem a).2
  have b1 := (enm_mem b).2
  have := List.all_eq_true.mp (List.all_eq_true.mp hl _ a1) _ b1
  have := of_decide_eq_true this
  exact this.mpr rfl
theorem enm_get {i : Nat} : ∀ {L : List (Nat × Nat)}, lnd L = true → ∀ y ∈ L, enm L i y.1 = some (y.2, i)
  | [], _, y, hy => absurd hy List.not_mem_nil
  | (s, o) :: L, hl, y, hy => by
    unfold enm
    by_cases c : y.1 = s
    · rw [if_pos c]
      have := List.all_eq_true.mp (List.all_eq_true.mp hl _ hy) (s, o) List.mem_cons_self
      have := of_decide_eq_true this
      rw [this.mp c]
    · rw [if_neg c]
      have hl' : lnd L = true := List.all_eq_true.mpr fun a ha => List.all_eq_true.mpr fun b hb => List.all_eq_true.mp (List.all_eq_true.mp hl a (List.mem_cons_of_mem _ ha)) b (List.mem_cons_of_mem _ hb)
      rcases List.mem_cons.mp hy with e | e
      · rw [e] at c
        exact absurd rfl c
      · exact enm_get hl' y e
/-- the shape with new places behind Z -/
def exE (D : xp_D) (Z : Nat) (e l : Nat → Nat → Option (Nat × Nat)) (A : Nat → Nat → Nat) (n : Nat → Nat) (m : Nat → Option (Nat × Nat)) : xp_D := (D.1, (fun a p => if a < Z then D.2.1 a p else e a p), (fun a p => if a < Z then D.2.2.1 a p else l a p), A, n, m)
/-- new names: apart, not had by the shape -/
def nNM (D : xp_D) (e l : Nat → Nat → Option (Nat × Nat)) : Prop := (∀ a p b r x, e a p = some x → e b r = some x → a = b ∧ p = r) ∧ (∀ a p b r x, l a p = some x → l b r = some x → a = b ∧ p = r) ∧ (∀ a p b r x, e a p = some x → l b r = some x → False) ∧ ∀ a p x, (e a p = some x ∨ l a p = some x) → ¬ nok (xd_n D 0) (xd_n D 1) (xd_n D 2) (xd_n D 3) x.1 x.2
section EX
variable {h h' : xm_H} {D : xp_D} {F G : xp_F} {z s Z : Nat} {e l : Nat → Nat → Option (Nat × Nat)} {A : Nat → Nat → Nat} {n : Nat → Nat} {m : Nat → Option (Nat × Nat)}
theorem ex_E {a p : Nat} : xd_E (exE D Z e l A n m) a p = if a < Z then xd_E D a p else e a p := rfl
theorem ex_L {a p : Nat} : xd_L (exE D Z e l A n m) a p = if a < Z then xd_L D a p else l a p := rfl
theorem ex_inj (q : xd_inj D) (v : VN D) (N : nNM D e l) : xd_inj (exE D Z e l A n m) := by
  obtain ⟨n1, n2, n3, n4⟩ := N
  refine ⟨fun a p b r x h1 h2 => ?_, fun a p b r x h1 h2 => ?_, fun a p b r x h1 h2 => ?_⟩
  · rw [ex_E] at h1 h2
    by_cases c1 : a < Z
    · rw [if_pos c1] at h1
      by_cases c2 : b < Z
      · rw [if_pos c2] at h2
        exact q.1 _ _ _ _ _ h1 h2
      · rw [if_neg c2] at h2
        exact absurd (v _ _ _ (Or.inl h1)) (n4 _ _ _ (Or.inl h2))
    · rw [if_neg c1] at h1
      by_cases c2 : b < Z
      · rw [if_pos c2] at h2
        exact absurd (v _ _ _ (Or.inl h2)) (n4 _ _ _ (Or.inl h1))
      · rw [if_neg c2] at h2
        exact n1 _ _ _ _ _ h1 h2
  · rw [ex_L] at h1 h2
    by_cases c1 : a < Z
    · rw [if_pos c1] at h1
      by_cases c2 : b < Z
      · rw [if_pos c2] at h2
        exact q.2.1 _ _ _ _ _ h1 h2
      · rw [if_neg c2] at h2
        exact absurd (v _ _ _ (Or.inr h1)) (n4 _ _ _ (Or.inr h2))
    · rw [if_neg c1] at h1
      by_cases c2 : b < Z
      · rw [if_pos c2] at h2
        exact absurd (v _ _ _ (Or.inr h2)) (n4 _ _ _ (Or.inr h1))
      · rw [if_neg c2] at h2
        exact n2 _ _ _ _ _ h1 h2
  · rw [ex_E] at h1
    rw [ex_L] at h2
    by_cases c1 : a < Z
    · rw [if_pos c1] at h1
      by_cases c2 : b < Z
      · rw [if_pos c2] at h2
        exact q.2.2 _ _ _ _ _ h1 h2
      · rw [if_neg c2] at h2
        exact absurd (v _ _ _ (Or.inl h1)) (n4 _ _ _ (Or.inr h2))
    · rw [if_neg c1] at h1
      by_cases c2 : b < Z
      · rw [if_pos c2] at h2
        exact absurd (v _ _ _ (Or.inr h2)) (n4 _ _ _ (Or.inl h1))
      · rw [if_neg c2] at h2
        exact n3 _ _ _ _ _ h1 h2
theorem nok_mono {a0 a1 a2 a3 b0 b1 b2 b3 o k : Nat} (h0 : a0 ≤ b0) (h1 : a1 ≤ b1) (h2 : a2 ≤ b2) (h3 : a3 ≤ b3) (x : nok a0 a1 a2 a3 o k) : nok b0 b1 b2 b3 o k := by
  obtain ⟨x1, x2, x3, x4, x5, x6⟩ := x
  exact ⟨x1, fun y => Nat.lt_of_lt_of_le (x2 y) h0, fun y => Nat.lt_of_lt_of_le (x3 y) h1, fun y => Nat.lt_of_lt_of_le (x4 y) h2, fun y => Nat.lt_of_lt_of_le (x5 y) (by omega), fun y => Nat.lt_of_lt_of_le (x6 y) h3⟩
theorem ex_VN (v : VN D) (h0 : xd_n D 0 ≤ n 0) (h1 : xd_n D 1 ≤ n 1) (h2 : xd_n D 2 ≤ n 2) (h3 : xd_n D 3 ≤ n 3) (N : ∀ a p x, (e a p = some x ∨ l a p = some x) → nok (n 0) (n 1) (n 2) (n 3) x.1 x.2) : VN (exE D Z e l A n m) := by
  intro a p x hx
  rw [ex_E, ex_L] at hx
  show nok (n 0) (n 1) (n 2) (n 3) x.1 x.2
  by_cases c : a < Z
  · rw [if_pos c, if_pos c] at hx
    exact nok_mono h0 h1 h2 h3 (v a p x hx)
  · rw [if_neg c, if_neg c] at hx
    exact N a p x hx
theorem ex_sE : sE h D (exE D (xm_Z h) e l A n m) := fun a p ha => by rw [ex_E, if_pos ha]
theorem ex_sL : ∀ a p, a < xm_Z h → xd_L (exE D (xm_Z h) e l A n m) a p = xd_L D a p := fun a p ha => by rw [ex_L, if_pos ha]
/-- the heap's ints by the new names -/
theorem ex_ren (v : VN D) (w : HW h D) (g : ∀ o k, nok (xd_n D 0) (xd_n D 1) (xd_n D 2) (xd_n D 3) o k → G o k = F o k) (ge : ∀ a p x, e a p = some x → G x.1 x.2 = xm_I h' a p) (gl : ∀ a p x, l a p = some x → (G x.1 x.2).toInt64 = xm_L h' a p) : xp_c h' D F = xp_c h' (exE D (xm_Z h) e l A n m) G := by
  refine xp_c_ren (fun a p => ?_) (fun a p => ?_)
  · rw [ex_E]
    by_cases c : a < xm_Z h
    · rw [if_pos c]
      cases hx : xd_E D a p with
      | none => rfl
      | some x => exact g _ _ (v a p x (Or.inl hx))
    · rw [if_neg c, (w.2.1 a p (by omega)).1]
      cases hx : e a p with
      | none => rfl
      | some x => exact ge a p x hx
  · rw [ex_L]
    by_cases c : a < xm_Z h
    · rw [if_pos c]
      cases hx : xd_L D a p with
      | none => rfl
      | some x => exact congrArg Int32.toInt64 (g _ _ (v a p x (Or.inr hx)))
    · rw [if_neg c, (w.2.1 a p (by omega)).2]
      cases hx : l a p with
      | none => rfl
      | some x => exact gl a p x hx
theorem ex_HW (w : HW h D) (x : gx z s h h') (k : ∀ a, xm_Z h' ≤ a → xm_K h' a = 0) (ne : ∀ a p, xm_Z h' ≤ a → e a p = none ∧ l a p = none) : HW h' (exE D (xm_Z h) e l A n m) := by
  refine ⟨by have := w.1; have := x.2.2.1; rw [x.1]; omega, fun a p ha => ?_, k⟩
  have : ¬ a < xm_Z h := by have := x.2.2.1; omega
  rw [ex_E, ex_L, if_neg this, if_neg this]
  exact ne a p ha
end EX
/-- a heap and its shape that have grown -/
def GX (z s : Nat) (h : xm_H) (D : xp_D) (h' : xm_H) (D' : xp_D) : Prop := CS h' D' ∧ HW h' D' ∧ VN D' ∧ gx z s h h' ∧ sE h D D' ∧ (∀ a p, a < xm_Z h → xd_L D' a p = xd_L D a p) ∧ xd_X D' = xd_X D ∧ (∀ k, xd_A D' 0 k = xd_A D 0 k) ∧ ∀ k r, 7 ≤ k → xd_A D' k r = xd_A D k r
theorem GX.rf {h : xm_H} {D : xp_D} (q : CS h D) (w : HW h D) (v : VN D) : GX 0 0 h D h D := ⟨q, w, v, (hx.rf (z := 0) (s := 0)).gx, fun _ _ _ => rfl, fun _ _ _ => rfl, rfl, fun _ => rfl, fun _ _ _ => rfl⟩
theorem GX.of {h h' : xm_H} {D : xp_D} {z s : Nat} (q : CS h D) (v : VN D) (w : HW h D) (x : hx z s h h') (w' : HW h' D) : GX z s h D h' D := ⟨q.hx w x, w', v, x.gx, fun _ _ _ => rfl, fun _ _ _ => rfl, rfl, fun _ => rfl, fun _ _ _ => rfl⟩
theorem GX.mono {h h' : xm_H} {D D' : xp_D} {z s z2 s2 : Nat} (a : GX z s h D h' D') (h1 : z ≤ z2) (h2 : s ≤ s2) : GX z2 s2 h D h' D' := ⟨a.1, a.2.1, a.2.2.1, a.2.2.2.1.mono h1 h2, a.2.2.2.2⟩
