/-! what a run comes to, whatever the fuel; its equation -/
set_option maxRecDepth 100000
/-- less said -/
def xm_le (a b : xm_V) : Prop := ∀ r, a = some r → b = some r
theorem xm_le.rf {a : xm_V} : xm_le a a := fun _ h => h
theorem xm_nox_le {y : Nat} {v1 v2 : xm_V} (h : xm_le v1 v2) : xm_le (xm_nox y v1) (xm_nox y v2) := by
  intro r hr
  cases v1 with
  | none => cases hr
  | some w =>
    rw [h w rfl]
    exact hr
theorem xm_aft_le {k1 k2 : Nat → List (Option Value) → List Value → xm_H → xm_V} (hk : ∀ pc ls st h, xm_le (k1 pc ls st h) (k2 pc ls st h)) {mi pc : Nat} {ls : List (Option Value)} {r : List Value} {v1 v2 : xm_V} (hv : xm_le v1 v2) : xm_le (xm_aft k1 mi pc ls r v1) (xm_aft k2 mi pc ls r v2) := by
  intro x hx
  cases v1 with
  | none => simp [xm_aft] at hx
  | some w =>
    rw [hv w rfl]
    obtain ⟨o, h⟩ := w
    cases o with
    | inl v => exact hk _ _ _ _ x hx
    | inr a =>
      simp only [xm_aft, xm_thr] at hx ⊢
      split at hx
      · rename_i hc
        rw [if_pos hc]
        split at hx
        · exact hk _ _ _ _ x hx
        · exact hx
      · cases hx
theorem xm_thr_le {k1 k2 : Nat → List (Option Value) → List Value → xm_H → xm_V} (hk : ∀ pc ls st h, xm_le (k1 pc ls st h) (k2 pc ls st h)) {mi pc : Nat} {ls : List (Option Value)} {h : xm_H} {a : Nat} : xm_le (xm_thr k1 mi pc ls h a) (xm_thr k2 mi pc ls h a) := by
  intro x hx
  simp only [xm_thr] at hx ⊢
  split at hx
  · rename_i hc
    rw [if_pos hc]
    split at hx
    · exact hk _ _ _ _ x hx
    · exact hx
  · cases hx
theorem xm_step_le {c1 c2 : Nat → Nat → List Value → xm_H → xm_V} {k1 k2 : Nat → List (Option Value) → List Value → xm_H → xm_V} {d mi pc : Nat} {ls : List (Option Value)} {st : List Value} {h : xm_H} (hc : ∀ d' y as h, d = d' + 1 → xm_le (c1 d' y as h) (c2 d' y as h)) (hk : ∀ pc ls st h, xm_le (k1 pc ls st h) (k2 pc ls st h)) : xm_le (xm_step c1 k1 d mi pc ls st h) (xm_step c2 k2 d mi pc ls st h) := by
  intro x hx
  unfold xm_step at hx ⊢
  cases hd : decode (xm_mC mi) pc with
  | error e => rw [hd] at hx; cases hx
  | ok p =>
    obtain ⟨i, len⟩ := p
    rw [hd] at hx
    simp only at hx ⊢
    by_cases hln : xm_ln i len = false
    · rw [if_pos hln] at hx
      cases hx
    rw [if_neg hln] at hx
    rw [if_neg hln]
    cases hs : xm_simple mi i pc ls st h with
    | some c =>
      obtain ⟨pc', ls', st', h'⟩ := c
      rw [hs] at hx
      exact hk _ _ _ _ x hx
    | none =>
      rw [hs] at hx
      simp only at hx ⊢
      cases hr : xm_ret mi i st with
      | some v => rw [hr] at hx; exact hx
      | none =>
        rw [hr] at hx
        simp only at hx ⊢
        cases d with
        | zero => cases hx
        | succ d =>
          simp only at hx ⊢
          cases hn : xm_nat mi i pc ls st h with
          | some c =>
            obtain ⟨pc', ls', st', h'⟩ := c
            rw [hn] at hx
            exact hk _ _ _ _ x hx
          | none =>
            rw [hn] at hx
            simp only at hx ⊢
            cases hcl : xm_cal mi i st h with
            | some c =>
              obtain ⟨y, as, r⟩ := c
              rw [hcl] at hx
              exact xm_aft_le hk (xm_nox_le (hc d y as h rfl)) x hx
            | none =>
              rw [hcl] at hx
              simp only at hx ⊢
              cases i with
              | athrow =>
                simp only at hx ⊢
                cases st with
                | nil => exact hx
                | cons v r =>
                  cases v with
                  | ref a => exact xm_thr_le hk x hx
                  | _ => exact hx
              | _ => exact hx
theorem xm_exec_succ : ∀ (n d mi pc : Nat) (ls : List (Option Value)) (st : List Value) (h : xm_H), xm_le (xm_exec n d mi pc ls st h) (xm_exec (n + 1) d mi pc ls st h) := by
  intro n
  induction n with
  | zero => intro d mi pc ls st h x hx; cases hx
  | succ n ih =>
    intro d mi pc ls st h
    show xm_le (xm_step _ _ d mi pc ls st h) (xm_step _ _ d mi pc ls st h)
    exact xm_step_le (fun d' y as h' _ => ih _ _ _ _ _ _) (fun pc ls st h => ih _ _ _ _ _ _)
theorem xm_exec_mono {n m : Nat} (hnm : n ≤ m) {d mi pc : Nat} {ls : List (Option Value)} {st : List Value} {h : xm_H} : xm_le (xm_exec n d mi pc ls st h) (xm_exec m d mi pc ls st h) := by
  induction hnm with
  | refl => exact xm_le.rf
  | step _ ih => exact fun x hx => xm_exec_succ _ _ _ _ _ _ _ x (ih x hx)
theorem xm_exec_depth : ∀ (n d d2 mi pc : Nat) (ls : List (Option Value)) (st : List Value) (h : xm_H), d ≤ d2 → xm_le (xm_exec n d mi pc ls st h) (xm_exec n d2 mi pc ls st h) := by
  intro n
  induction n with
  | zero => intro d d2 mi pc ls st h _ x hx; cases hx
  | succ n ih =>
    intro d d2 mi pc ls st h hd x hx
    have hx : xm_step (fun d' y as h' => xm_exec n d' y 0 (xm_ent as) [] h') (xm_exec n d mi) d mi pc ls st h = some x := hx
    show xm_step (fun d' y as h' => xm_exec n d' y 0 (xm_ent as) [] h') (xm_exec n d2 mi) d2 mi pc ls st h = some x
    have hk : ∀ pc ls st h, xm_le (xm_exec n d mi pc ls st h) (xm_exec n d2 mi pc ls st h) := fun pc ls st h => ih _ _ _ _ _ _ _ hd
    cases d with
    | zero =>
      unfold xm_step at hx ⊢
      split at hx
      · cases hx
      · split at hx
        · cases hx
        · rename_i hln
          rw [if_neg hln]
          split at hx
          · exact hk _ _ _ _ x hx
          · split at hx
            · exact hx
            · cases hx
    | succ d =>
      cases d2 with
      | zero => omega
      | succ d2 =>
        have h1 : xm_step (fun _ y as h' => xm_exec n d y 0 (xm_ent as) [] h') (xm_exec n (d + 1) mi) (d + 1) mi pc ls st h = some x := by
          refine xm_step_le (fun d' y as h' e => ?_) (fun _ _ _ _ => xm_le.rf) x hx
          cases e
          exact xm_le.rf
        have h2 : xm_step (fun _ y as h' => xm_exec n d2 y 0 (xm_ent as) [] h') (xm_exec n (d2 + 1) mi) (d + 1) mi pc ls st h = some x :=
          xm_step_le (fun d' y as h' _ => ih _ _ _ _ _ _ _ (by omega)) hk x h1
        unfold xm_step at h2 ⊢
        exact h2
/-- what a run comes to -/
noncomputable def xm_run (d mi pc : Nat) (ls : List (Option Value)) (st : List Value) (h : xm_H) : xm_V :=
  haveI := Classical.propDecidable (∃ r n, xm_exec n d mi pc ls st h = some r)
  if hx : ∃ r n, xm_exec n d mi pc ls st h = some r then some (Classical.choose hx) else none
theorem xm_run_iff {d mi pc : Nat} {ls : List (Option Value)} {st : List Value} {h : xm_H} {r : xm_O × xm_H} : xm_run d mi pc ls st h = some r ↔ ∃ n, xm_exec n d mi pc ls st h = some r := by
  unfold xm_run
  constructor
  · intro q
    split at q
    · rename_i hx
      have := Classical.choose_spec hx
      rw [Option.some.inj q] at this
      exact this
    · cases q
  · intro q
    have hx : ∃ r n, xm_exec n d mi pc ls st h = some r := ⟨r, q⟩
    rw [dif_pos hx]
    obtain ⟨n, hn⟩ := q
    obtain ⟨m, hm⟩ := Classical.choose_spec hx
    have a := xm_exec_mono (Nat.le_max_left n m) _ hn
    have b := xm_exec_mono (Nat.le_max_right n m) _ hm
    exact b.symm.trans a
theorem xm_run_le (n d mi pc : Nat) (ls : List (Option Value)) (st : List Value) (h : xm_H) : xm_le (xm_exec n d mi pc ls st h) (xm_run d mi pc ls st h) := fun _ hx => xm_run_iff.mpr ⟨n, hx⟩
/-- a method run whole -/
noncomputable def xm_met (d mi : Nat) (as : List Value) (h : xm_H) : xm_V := xm_run d mi 0 (xm_ent as) [] h
theorem xm_run_depth {d d2 mi pc : Nat} {ls : List (Option Value)} {st : List Value} {h : xm_H} (hd : d ≤ d2) : xm_le (xm_run d mi pc ls st h) (xm_run d2 mi pc ls st h) := by
  intro r hr
  obtain ⟨n, hn⟩ := xm_run_iff.mp hr
  exact xm_run_iff.mpr ⟨n, xm_exec_depth n _ _ _ _ _ _ _ hd r hn⟩
theorem xm_met_depth {d d2 mi : Nat} {as : List Value} {h : xm_H} {r : xm_O × xm_H} (hr : xm_met d mi as h = some r) (hd : d ≤ d2) : xm_met d2 mi as h = some r := xm_run_depth hd r hr
/-- one call and one going on at most: some fuel does -/
theorem xm_step_fin {d mi pc : Nat} {ls : List (Option Value)} {st : List Value} {h : xm_H} {x : xm_O × xm_H} (hx : xm_step (fun d' y as h' => xm_met d' y as h') (xm_run d mi) d mi pc ls st h = some x) : ∃ n, xm_step (fun d' y as h' => xm_exec n d' y 0 (xm_ent as) [] h') (xm_exec n d mi) d mi pc ls st h = some x := by
  have key : ∀ (pc : Nat) (ls : List (Option Value)) (st : List Value) (h : xm_H) (x : xm_O × xm_H), xm_run d mi pc ls st h = some x → ∃ n, xm_exec n d mi pc ls st h = some x := fun _ _ _ _ _ q => xm_run_iff.mp q
  unfold xm_step at hx ⊢
  cases hd : decode (xm_mC mi) pc with
  | error e => rw [hd] at hx; cases hx
  | ok p =>
    obtain ⟨i, len⟩ := p
    rw [hd] at hx
    simp only at hx ⊢
    by_cases hln : xm_ln i len = false
    · rw [if_pos hln] at hx
      cases hx
    rw [if_neg hln] at hx
    simp only [if_neg hln]
    cases hs : xm_simple mi i pc ls st h with
    | some c =>
      obtain ⟨pc', ls', st', h'⟩ := c
      rw [hs] at hx
      exact key _ _ _ _ _ hx
    | none =>
      rw [hs] at hx
      simp only at hx ⊢
      cases hr : xm_ret mi i st with
      | some v => rw [hr] at hx; exact ⟨0, hx⟩
      | none =>
        rw [hr] at hx
        simp only at hx ⊢
        cases d with
        | zero => cases hx
        | succ d =>
          simp only at hx ⊢
          cases hn : xm_nat mi i pc ls st h with
          | some c =>
            obtain ⟨pc', ls', st', h'⟩ := c
            rw [hn] at hx
            exact key _ _ _ _ _ hx
          | none =>
            rw [hn] at hx
            simp only at hx ⊢
            cases hcl : xm_cal mi i st h with
            | some c =>
              obtain ⟨y, as, r⟩ := c
              rw [hcl] at hx
              simp only at hx ⊢
              cases hm : xm_met d y as h with
              | none => rw [hm] at hx; simp [xm_aft, xm_nox] at hx
              | some w =>
                rw [hm] at hx
                obtain ⟨n1, h1⟩ := xm_run_iff.mp hm
                have e1 : ∀ m, n1 ≤ m → xm_exec m d y 0 (xm_ent as) [] h = some w := fun m hm => xm_exec_mono hm _ h1
                obtain ⟨o, h2⟩ := w
                cases o with
                | inl v =>
                  obtain ⟨n2, h3⟩ := key _ _ _ _ _ (show xm_run (d + 1) mi (pc + 3) ls (v.toList ++ r) h2 = some x from hx)
                  refine ⟨max n1 n2, ?_⟩
                  rw [e1 _ (Nat.le_max_left _ _)]
                  exact xm_exec_mono (Nat.le_max_right n1 n2) _ h3
                | inr a =>
                  by_cases h18 : y = 18
                  · simp only [xm_nox, if_pos h18] at hx
                    simp [xm_aft] at hx
                  have en : ∀ g : xm_H, xm_nox y (some (.inr a, g)) = some (.inr a, g) := fun g => by simp only [xm_nox, if_neg h18]
                  rw [en] at hx
                  simp only [xm_aft, xm_thr] at hx
                  split at hx
                  · rename_i hc
                    split at hx
                    · rename_i hp hhp
                      obtain ⟨n2, h3⟩ := key _ _ _ _ _ hx
                      refine ⟨max n1 n2, ?_⟩
                      rw [e1 _ (Nat.le_max_left _ _), en]
                      simp only [xm_aft, xm_thr]
                      rw [if_pos hc, hhp]
                      exact xm_exec_mono (Nat.le_max_right n1 n2) _ h3
                    · rename_i hhp
                      refine ⟨n1, ?_⟩
                      rw [h1, en]
                      simp only [xm_aft, xm_thr]
                      rw [if_pos hc, hhp]
                      exact hx
                  · cases hx
            | none =>
              rw [hcl] at hx
              simp only at hx ⊢
              cases i with
              | athrow =>
                simp only at hx ⊢
                cases st with
                | nil => cases hx
                | cons v r =>
                  cases v with
                  | ref a =>
                    simp only [xm_thr] at hx ⊢
                    split at hx
                    · rename_i hc
                      split at hx
                      · rename_i hp hhp
                        obtain ⟨n2, h3⟩ := key _ _ _ _ _ hx
                        exact ⟨n2, by rw [if_pos hc]; exact h3⟩
                      · rename_i hhp
                        exact ⟨0, by rw [if_pos hc]; exact hx⟩
                    · cases hx
                  | _ => cases hx
              | _ => cases hx
theorem xm_run_eq (d mi pc : Nat) (ls : List (Option Value)) (st : List Value) (h : xm_H) : xm_run d mi pc ls st h = xm_step (fun d' y as h' => xm_met d' y as h') (xm_run d mi) d mi pc ls st h := by
  have key : ∀ r, xm_run d mi pc ls st h = some r ↔ xm_step (fun d' y as h' => xm_met d' y as h') (xm_run d mi) d mi pc ls st h = some r := by
    intro r
    constructor
    · intro q
      obtain ⟨n, hn⟩ := xm_run_iff.mp q
      cases n with
      | zero => cases hn
      | succ n => exact xm_step_le (fun d' y as h' _ => xm_run_le n d' y 0 _ _ _) (fun _ _ _ _ => xm_run_le n d mi _ _ _ _) r hn
    · intro q
      obtain ⟨n, hn⟩ := xm_step_fin q
      exact xm_run_iff.mpr ⟨n + 1, hn⟩
  cases h1 : xm_run d mi pc ls st h with
  | some r => exact ((key r).mp h1).symm
  | none =>
    cases h2 : xm_step (fun d' y as h' => xm_met d' y as h') (xm_run d mi) d mi pc ls st h with
    | none => rfl
    | some r => exact absurd ((key r).mpr h2) (by rw [h1]; exact fun q => by cases q)
