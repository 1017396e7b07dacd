/-! SOUNDNESS: what the abstract machine comes to, the machine comes to -/
set_option maxRecDepth 100000
/-- sizes grow, base and constants stay -/
def xm_gr (h h' : xm_H) : Prop := xm_Z h ≤ xm_Z h' ∧ xm_S h ≤ xm_S h' ∧ xm_B h' = xm_B h ∧ xm_C h' = xm_C h
theorem xm_gr.rf {h : xm_H} : xm_gr h h := ⟨Nat.le_refl _, Nat.le_refl _, rfl, rfl⟩
theorem xm_gr.tr {a b c : xm_H} (h1 : xm_gr a b) (h2 : xm_gr b c) : xm_gr a c := ⟨Nat.le_trans h1.1 h2.1, Nat.le_trans h1.2.1 h2.2.1, h2.2.2.1.trans h1.2.2.1, h2.2.2.2.trans h1.2.2.2⟩
theorem xm_gr.nw {h : xm_H} {kd n w : Nat} : xm_gr h (xm_nw h kd n w) := ⟨Nat.le_succ _, Nat.le_add_right _ _, rfl, rfl⟩
theorem xm_gr.fs {ci k a : Nat} {v : Value} {h h' : xm_H} (hfs : xm_fs ci k h a v = some h') : xm_gr h h' := by
  obtain ⟨-, -, -, f4, f5, f6, f7, -⟩ := xs_fs_of hfs
  exact ⟨by rw [f6]; exact Nat.le_refl _, by rw [f7]; exact Nat.le_refl _, f4, f5⟩
set_option maxHeartbeats 4000000 in
theorem xm_gr.simple {mi pc pc' : Nat} {i : Instr} {ls ls' : List (Option Value)} {st st' : List Value} {h h' : xm_H} (hs : xm_simple mi i pc ls st h = some (pc', ls', st', h')) : xm_gr h h' := by
  cases i
  all_goals simp only [xm_simple, xm_ld, xm_st1, xm_st2, xm_i1, xm_i2, xm_l2, xm_br] at hs
  all_goals (repeat' (split at hs))
  all_goals first | (cases hs; exact xm_gr.rf) | (cases hs; exact xm_gr.nw) | (cases hs; exact ⟨Nat.le_refl _, Nat.le_refl _, rfl, rfl⟩) | (cases hs; exact xm_gr.fs (by assumption)) | cases hs
theorem xm_gr.nat {mi pc pc' : Nat} {i : Instr} {ls ls' : List (Option Value)} {st st' : List Value} {h h' : xm_H} (hs : xm_nat mi i pc ls st h = some (pc', ls', st', h')) : xm_gr h h' := by
  cases i
  all_goals simp only [xm_nat, xm_mth] at hs
  all_goals (repeat' (split at hs))
  all_goals first | (cases hs; exact xm_gr.rf) | (cases hs; exact ⟨by show xm_Z _ ≤ xm_Z _ + 1 + 1 + 1; omega, by show xm_S _ ≤ xm_S _ + 2 + _ + _; omega, rfl, rfl⟩) | (cases hs; exact ⟨Nat.le_refl _, Nat.le_refl _, rfl, rfl⟩) | cases hs
theorem xm_gr.exec : ∀ (n d mi pc : Nat) (ls : List (Option Value)) (st : List Value) (h : xm_H) (o : xm_O) (h' : xm_H), xm_exec n d mi pc ls st h = some (o, h') → xm_gr h h' := by
  intro n
  induction n with
  | zero => intro d mi pc ls st h o h' hx; cases hx
  | succ n ih =>
    intro d mi pc ls st h o h' hx
    have hx : xm_step (fun d' y as h' => xm_exec n d' y 0 (xm_ent as) [] h') (xm_exec n d mi) d mi pc ls st h = some (o, h') := hx
    have thr : ∀ (pc : Nat) (ls : List (Option Value)) (g : xm_H) (a : Nat), xm_thr (xm_exec n d mi) mi pc ls g a = some (o, h') → xm_gr g h' := by
      intro pc ls g a hq
      unfold xm_thr at hq
      split at hq
      · split at hq
        · exact ih _ _ _ _ _ _ _ _ hq
        · cases hq; exact xm_gr.rf
      · cases hq
    unfold xm_step at hx
    split at hx
    · cases hx
    · split at hx
      · cases hx
      · split at hx
        · rename_i hs
          exact (xm_gr.simple hs).tr (ih _ _ _ _ _ _ _ _ hx)
        · split at hx
          · cases hx; exact xm_gr.rf
          · split at hx
            · cases hx
            · split at hx
              · rename_i hs
                exact (xm_gr.nat hs).tr (ih _ _ _ _ _ _ _ _ hx)
              · split at hx
                · rename_i d1 _ _ _ _ y as r hcal
                  have hx : xm_aft (xm_exec n (d1 + 1) mi) mi pc ls r (xm_nox y (xm_exec n d1 y 0 (xm_ent as) [] h)) = some (o, h') := hx
                  cases hc : xm_exec n d1 y 0 (xm_ent as) [] h with
                  | none => rw [hc] at hx; simp [xm_aft, xm_nox] at hx
                  | some w =>
                    obtain ⟨o1, h1⟩ := w
                    have g1 := ih _ _ _ _ _ _ _ _ hc
                    rw [hc] at hx
                    cases o1 with
                    | inl v => exact g1.tr (ih _ _ _ _ _ _ _ _ hx)
                    | inr a =>
                      by_cases h18 : y = 18
                      · simp only [xm_nox, if_pos h18] at hx
                        simp [xm_aft] at hx
                      · simp only [xm_nox, if_neg h18] at hx
                        exact g1.tr (thr _ _ _ _ hx)
                · split at hx
                  · split at hx
                    · exact thr _ _ _ _ hx
                    · cases hx
                  · cases hx
/-- the locals at a method's entry -/
theorem xs_ent_sub : ∀ (vs : List Value) (k i : Nat) (u : Value), xm_lg (xm_ent vs) i = some u → (i + k, u) ∈ lv_args k vs
  | [], k, i, u, h => by
    rw [lg_ge (show (xm_ent []).length ≤ i from Nat.zero_le _)] at h
    cases h
  | v :: vs, k, i, u, h => by
    have one : v.category = 1 → xm_ent (v :: vs) = some v :: xm_ent vs → (i + k, u) ∈ lv_args k (v :: vs) := by
      intro hc he
      rw [he] at h
      show _ ∈ (k, v) :: lv_args (if v.category = 2 then k + 2 else k + 1) vs
      rw [if_neg (by rw [hc]; decide)]
      cases i with
      | zero =>
        have : v = u := Option.some.inj h
        rw [Nat.zero_add, this]
        exact List.mem_cons_self
      | succ i =>
        refine List.mem_cons_of_mem _ ?_
        have := xs_ent_sub vs (k + 1) i u h
        rw [show i + 1 + k = i + (k + 1) by omega]
        exact this
    have two : v.category = 2 → xm_ent (v :: vs) = some v :: none :: xm_ent vs → (i + k, u) ∈ lv_args k (v :: vs) := by
      intro hc he
      rw [he] at h
      show _ ∈ (k, v) :: lv_args (if v.category = 2 then k + 2 else k + 1) vs
      rw [if_pos hc]
      match i, h with
      | 0, h =>
        have : v = u := Option.some.inj h
        rw [Nat.zero_add, this]
        exact List.mem_cons_self
      | 1, h => cases h
      | i + 2, h =>
        refine List.mem_cons_of_mem _ ?_
        have := xs_ent_sub vs (k + 2) i u h
        rw [show i + 2 + k = i + (k + 2) by omega]
        exact this
    cases v with
    | long x => exact two rfl rfl
    | double x => exact two rfl rfl
    | _ => exact one rfl rfl
theorem xs_sl_len : ∀ (vs : List Value), (lg_sl vs).length = xm_w vs
  | [] => rfl
  | v :: vs => by
    have e : lg_sl (v :: vs) = (if v.category = 2 then [.val v, .second] else [.val v]) ++ lg_sl vs := rfl
    rw [e, List.length_append, xs_sl_len vs, w_cons]
    congr 1
    cases v <;> rfl
section SB
variable {D : va_G} {B : Nat} {cs : Nat → Value} {l : Launch}
/-- the statement for one fuel -/
def xs_Body (D : va_G) (B : Nat) (cs : Nat → Value) (l : Launch) (n : Nat) : Prop :=
  ∀ (d mi pc : Nat) (lsA : List (Option Value)) (st : List Value) (h : xm_H) (o : xm_O) (h' : xm_H), xm_exec n d mi pc lsA st h = some (o, h') →
  ∀ {p : Program} {e : Env} {R : Room} {s : State} {m : MethodId} {args : Array Value} {below : List Frame} {meth : Method} {c : Code} {H : Heap} {locs : List Loc} {Q : State → Prop} {ls : Array Slot} (z0 s0 : Nat),
    xs_Ctx D B cs p s m args meth c mi → xs_At D B cs s h H locs → lv_has ls (xm_mL mi) (xm_al lsA) → z0 ≤ xm_Z h → s0 ≤ xm_S h → xm_Z h' - z0 ≤ R.cells → xm_S h' - s0 ≤ R.slots → d ≤ R.frames → d * 60 ≤ R.locals →
    (∀ (pc' : Nat) (i' : Instr) (len' : Nat) (ls' : Array Slot) (st' : List Value) (H' : Heap) (locs' : List Loc) (v : Option Value), decode (xm_mC mi) pc' = .ok (i', len') → xm_ln i' len' = true → xm_ret mi i' st' = some v → o = .inl v → xs_At D B cs s h' H' locs' →
      W p l e R s m args below meth c H' locs' (xm_Z h' - z0) (xm_S h' - s0) Q (F0 m pc' ls' st')) →
    (∀ (pc' a : Nat) (ls' : Array Slot) (st' : List Value) (h2 : xm_H) (H' : Heap) (locs' : List Loc), xs_At D B cs s h2 H' locs' → xm_K h2 a = 2 → B ≤ a → (xm_hnd mi pc' = none → o = .inr a ∧ h2 = h') →
      (∀ hp, xm_hnd mi pc' = some hp → W p l e R s m args below meth c H' locs' (xm_Z h2 - z0) (xm_S h2 - s0) Q (F0 m hp ls' [.ref a])) →
      vx_W p l e R s m args below meth c H' locs' (xm_Z h2 - z0) (xm_S h2 - s0) Q (F0 m pc' ls' st') a) →
    W p l e R s m args below meth c H locs (xm_Z h - z0) (xm_S h - s0) Q (F0 m pc ls st)
/-- what a method's body owes, at its return -/
theorem xs_retW {p : Program} {e : Env} {R : Room} {s : State} {m : MethodId} {args : Array Value} {below : List Frame} {meth : Method} {c : Code} {H : Heap} {locs : List Loc} {cells slots : Nat} {mi pc len : Nat} {i : Instr} {ls : Array Slot} {st : List Value} {v : Option Value} {Qc : Array Value → State → Outcome → State → Prop} {free : Addr → Prop}
    (hx : p.tables.exec = Jvm.exec) (hb : c.code = xm_mC mi) (hr : meth.sig.returnType = xm_mT mi) (hlk : meth.locks = false) (hd : decode (xm_mC mi) pc = .ok (i, len)) (hln : xm_ln i len = true) (hs : xm_ret mi i st = some v) (hq : ∀ t : State, t.heap = H → s.WarmedH t.vm → Qc args s (.returned v) t) (hf : ∀ q ∈ locs, free q.base) :
    W p l e R s m args below meth c H locs cells slots (MQ below Qc args s cells slots free) (F0 m pc ls st) := by
  have L1 : ∀ n, (len == n) = true → len = n := fun n q => by simpa using q
  cases i with
  | return_ =>
    cases L1 _ hln
    simp only [xm_ret] at hs
    split at hs
    · split at hs
      · rename_i hT; cases hs; exact W.vret hx hb (hr.trans hT) hq hf hd hlk
      · cases hs
    · cases hs
  | ireturn =>
    cases L1 _ hln
    simp only [xm_ret] at hs
    split at hs
    · split at hs
      · rename_i hT
        split at hs
        · rename_i hok; cases hs; exact W.zret hx hb (hr.trans hT) (ok_nar hok) hq hf hd hlk
        · cases hs
      · cases hs
    · cases hs
  | lreturn =>
    cases L1 _ hln
    simp only [xm_ret] at hs
    split at hs
    · split at hs
      · rename_i hT; cases hs; exact W.lret hx hb (hr.trans hT) hq hf hd hlk
      · cases hs
    · cases hs
  | areturn =>
    cases L1 _ hln
    simp only [xm_ret] at hs
    split at hs
    · split at hs
      · rename_i hc
        cases hs
        have hrt : ∃ rt, xm_mT mi = some rt ∧ ((∃ n, rt = .object n) ∨ ∃ t, rt = .array t) := by
          have h2 := hc.2
          unfold xm_rt at h2
          split at h2
          · rename_i C hT; exact ⟨_, hT, Or.inl ⟨C, rfl⟩⟩
          · rename_i C hT; exact ⟨_, hT, Or.inr ⟨C, rfl⟩⟩
          · cases h2
        obtain ⟨rt, hT, hrt⟩ := hrt
        exact W.aret hx hb (hr.trans hT) hrt (isR_of hc.1) hq hf hd hlk
      · cases hs
    · cases hs
  | _ => cases hs
/-- a method meets its contract, if bodies of this fuel do -/
theorem xs_met_of {n d y : Nat} {as : List Value} {h h' : xm_H} {o : xm_O} (hB : xs_Body D B cs l n) (hap : xs_Ap D) (hb : xm_B h = B) (hc : xm_C h = cs) (hx : xm_exec n d y 0 (xm_ent as) [] h = some (o, h')) (hy : xs_Mok y) (hh : ∀ pc, xm_hnd y pc = none) (hw : xm_w as ≤ xm_mL y) :
    vx_Met l (xm_mY y) (ws_ (xm_mY y) (xm_mC y) (xm_mL y) (xm_mT y)) (xs_rm d (xm_Z h' - xm_Z h) (xm_S h' - xm_S h)) (xs_Pre D B cs h as) (xs_Post D B o h') (xs_PX D B o h') (xm_Z h' - xm_Z h) (xm_S h' - xm_S h) (xs_A B) := by
  obtain ⟨y1, y2, y3, y4, y5, y6, y7, y8⟩ := hy
  refine vx_ofW (cc := xm_mC y) (maxL := xm_mL y) (ret := xm_mT y) y3 rfl ?_
  intro p e s m args below meth c s₁ BL hml htab hPc
  obtain ⟨rfl, hK, hR⟩ := hPc
  have hts := atoms_spec (ws := ws_ (xm_mY y) (xm_mC y) (xm_mL y) (xm_mT y)) BL.pre
  have hts : ∀ w ∈ lw_all, w.before _ s = true := fun w h => hts w (List.mem_cons_of_mem _ h)
  have hown : s.vm.findClass (xm_oN (xm_mO y)) = some m.cls := by rw [← y4]; exact findClass_of_methodNamed BL.named
  have C : xs_Ctx D B cs p s m as.toArray meth c y := ⟨BL.exec, BL.bytes, hml, hown, hts, (name_of_methodNamed BL.named BL.method).1, hK, hap⟩
  have A : xs_At D B cs s h s.heap [] := ⟨hb, hc, hR, va_S.rf⟩
  have hl := lv_entry as (n := xm_mL y) (by rw [xs_sl_len]; exact hw)
  rw [lg_entry_eq]
  have hl : lv_has _ (xm_mL y) (xm_al (xm_ent as)) := al_sub hl (fun q hq => xs_ent_sub as 0 q.1 q.2 (al_mem.mp hq))
  have k := hB d y 0 (xm_ent as) [] h o h' hx (R := (headSpec (ws_ (xm_mY y) (xm_mC y) (xm_mL y) (xm_mT y)) (xs_rm d (xm_Z h' - xm_Z h) (xm_S h' - xm_S h))).room) (e := e) (below := below) (Q := vx_MQ below (xs_Post D B o h') (xs_PX D B o h') as.toArray s (xm_Z h' - xm_Z h) (xm_S h' - xm_S h) (xs_A B)) (xm_Z h) (xm_S h) C A hl (Nat.le_refl _) (Nat.le_refl _) (Nat.le_refl _) (Nat.le_refl _) (Nat.le_refl _) (Nat.le_refl _) ?_ ?_
  · rw [Nat.sub_self, Nat.sub_self] at k
    exact k
  · intro pc' i' len' ls' st' H' locs' v g1 g2 g3 g4 A'
    exact vx_ret (xs_retW BL.exec BL.bytes BL.returns BL.notSynchronized g1 g2 g3 (fun t ht hW => ⟨⟨v, g4, rfl, by rw [ht]; exact A'.2.2.1.moved hW.alike⟩, A'.2.2.2.F ht⟩) A'.2.2.2.2.2)
  · intro pc' a ls' st' h2 H' locs' A' hk hBa hno _
    obtain ⟨eo, rfl⟩ := hno (hh pc')
    obtain ⟨cell, hcell, hcl⟩ := A'.2.2.1.2.2 a (by omega)
    obtain ⟨-, hcls, -⟩ := hcl.2.2.2.1 (by omega)
    rw [hk] at hcls
    refine vx_out (E := "CliffHoney$Fault") (ce := cell) (fun x hx => (htab x hx).elim) BL.notSynchronized hcell (hcl.2.2.1 (by rw [A'.1]; exact hBa)) (by rw [hcls]; exact (hK.1 1 (by decide)).2.1) (fun t ht hvm => ⟨rfl, eo, by rw [ht]; exact A'.2.2.1.moved hvm, A'.2.2.2.F ht⟩) A'.2.2.2.2.2 (Nat.le_refl _) (Nat.le_refl _)
/-- the method with handlers, called by the law alone: it returns -/
def xs_Ru (D : va_G) (B : Nat) (cs : Nat → Value) (l : Launch) (n : Nat) : Prop :=
  ∀ {p : Program} {e : Env} {R : Room} {s : State} {m : MethodId} {args : Array Value} {below : List Frame} {meth : Method} {c : Code} {H : Heap} {locs : List Loc} {mi pc len : Nat} {ls : Array Slot} {st : List Value} {h : xm_H} {cells slots : Nat} {i : Instr} {d : Nat} {as r : List Value} {v : Option Value} {h1 : xm_H},
    xs_Body D B cs l n → xs_Ctx D B cs p s m args meth c mi → xs_At D B cs s h H locs → decode (xm_mC mi) pc = .ok (i, len) → xm_ln i len = true → ls.size = c.maxLocals → xm_cal mi i st h = some (18, as, r) → xm_exec n d 18 0 (xm_ent as) [] h = some (.inl v, h1) → d + 1 ≤ R.frames → (d + 1) * 60 ≤ R.locals → cells + (xm_Z h1 - xm_Z h) ≤ R.cells → slots + (xm_S h1 - xm_S h) ≤ R.slots →
    vx_Run p l e R s m args below meth c H locs cells slots (xm_Z h1 - xm_Z h) (xm_S h1 - xm_S h) (F0 m pc ls st) r (xs_Post D B (.inl v) h1 as.toArray) (xs_PX D B (.inl v) h1) (xs_A B)
theorem xs_cal_w {mi y : Nat} {i : Instr} {st as r : List Value} {h : xm_H} (hcal : xm_cal mi i st h = some (y, as, r)) : xm_w as ≤ xm_mL y := by
  cases i <;> simp only [xm_cal] at hcal
  all_goals (repeat' (split at hcal))
  all_goals first | (cases hcal; rename_i hc; first | exact hc.2.2 | exact hc.2.2.2) | cases hcal
theorem xs_cal_ok {mi y : Nat} {i : Instr} {st as r : List Value} {h : xm_H} (hcal : xm_cal mi i st h = some (y, as, r)) (h18 : ¬ y = 18) : xs_Mok y := by
  cases i <;> simp only [xm_cal] at hcal
  all_goals (repeat' (split at hcal))
  all_goals try (cases hcal; done)
  all_goals cases hcal
  · exact (xs_P (by assumption)).1
  · exact (xs_S (by assumption)).1
  · rcases xs_R (by assumption) with q | ⟨sc, e1, hcc, hy, -⟩
    · exact absurd q h18
    · exact hy
set_option maxHeartbeats 4000000 in
theorem xs_body (hap : xs_Ap D) (hru : ∀ n, xs_Ru D B cs l n) : ∀ n, xs_Body D B cs l n := by
  intro n
  induction n with
  | zero => intro d mi pc lsA st h o h' hx; cases hx
  | succ n ih =>
    intro d mi pc lsA st h o h' hx p e R s m args below meth c H locs Q ls z0 s0 C A hl hz hs0 hZ hS hfr hlo hret hthr
    have gr := xm_gr.exec _ _ _ _ _ _ _ _ _ hx
    have hx : xm_step (fun d' y as h' => xm_exec n d' y 0 (xm_ent as) [] h') (xm_exec n d mi) d mi pc lsA st h = some (o, h') := hx
    -- a throw at pc
    have thr : ∀ (pc : Nat) (lsA : List (Option Value)) (ls : Array Slot) (st : List Value) (g : xm_H) (a : Nat) (H : Heap) (locs : List Loc), lv_has ls (xm_mL mi) (xm_al lsA) → xs_At D B cs s g H locs → xm_gr h g → xm_thr (xm_exec n d mi) mi pc lsA g a = some (o, h') → vx_W p l e R s m args below meth c H locs (xm_Z g - z0) (xm_S g - s0) Q (F0 m pc ls st) a := by
      intro pc lsA ls st g a H locs hl A hg hq
      unfold xm_thr at hq
      split at hq
      · rename_i hc
        refine hthr pc a ls st g H locs A hc.1 (by rw [← A.1]; exact hc.2) (fun hn => ?_) (fun hp hh => ?_)
        · rw [hn] at hq
          cases hq
          exact ⟨rfl, rfl⟩
        · rw [hh] at hq
          exact ih d mi hp lsA [.ref a] g o h' hq z0 s0 C A hl (Nat.le_trans hz hg.1) (Nat.le_trans hs0 hg.2.1) hZ hS hfr hlo hret hthr
      · cases hq
    unfold xm_step at hx
    cases hd : decode (xm_mC mi) pc with
    | error e9 => rw [hd] at hx; cases hx
    | ok q9 =>
      obtain ⟨i, len⟩ := q9
      rw [hd] at hx
      simp only at hx
      cases hln : xm_ln i len with
      | false => rw [if_pos hln] at hx; cases hx
      | true =>
        rw [if_neg (by rw [hln]; decide)] at hx
        cases hs : xm_simple mi i pc lsA st h with
        | some q =>
          obtain ⟨pc', ls', st', h2⟩ := q
          rw [hs] at hx
          have g2 := xm_gr.simple hs
          have g3 := xm_gr.exec _ _ _ _ _ _ _ _ _ hx
          have gz := g2.1
          have gs := g2.2.1
          have gz3 := g3.1
          have gs3 := g3.2.1
          exact xs_simple C A hd hln hl hs hz hs0 (by omega) (by omega) (fun H' locs' lsr A' hl' => ih d mi pc' ls' st' h2 o h' hx z0 s0 C A' hl' (by omega) (by omega) hZ hS hfr hlo hret hthr)
        | none =>
          rw [hs] at hx
          simp only at hx
          cases hr : xm_ret mi i st with
          | some v =>
            rw [hr] at hx
            cases hx
            exact hret pc i len ls st H locs v hd hln hr rfl A
          | none =>
            rw [hr] at hx
            simp only at hx
            cases d with
            | zero => cases hx
            | succ d =>
              simp only at hx
              cases hn : xm_nat mi i pc lsA st h with
              | some q =>
                obtain ⟨pc', ls', st', h2⟩ := q
                rw [hn] at hx
                have g2 := xm_gr.nat hn
                have g3 := xm_gr.exec _ _ _ _ _ _ _ _ _ hx
                have gz := g2.1
                have gs := g2.2.1
                have gz3 := g3.1
                have gs3 := g3.2.1
                exact xs_native (d := d) C A hd hln hl hn hz hs0 (by omega) (by omega) hfr hlo (fun H' locs' lsr A' hl' => ih (d + 1) mi pc' ls' st' h2 o h' hx z0 s0 C A' hl' (by omega) (by omega) hZ hS hfr hlo hret hthr)
              | none =>
                rw [hn] at hx
                simp only at hx
                have hlsz : ls.size = c.maxLocals := by rw [C.2.2.1]; exact hl.1
                cases hcl : xm_cal mi i st h with
                | some q =>
                  obtain ⟨y, as, r⟩ := q
                  rw [hcl] at hx
                  simp only at hx
                  cases hm : xm_exec n d y 0 (xm_ent as) [] h with
                  | none => rw [hm] at hx; simp [xm_aft, xm_nox] at hx
                  | some w =>
                    obtain ⟨o1, h1⟩ := w
                    rw [hm] at hx
                    have g2 := xm_gr.exec _ _ _ _ _ _ _ _ _ hm
                    have gz := g2.1
                    have gs := g2.2.1
                    have hw := xs_cal_w hcl
                    -- the run of the call
                    have run : (¬ y = 18 ∨ ∃ v, o1 = .inl v) → xm_Z h1 ≤ xm_Z h' → xm_S h1 ≤ xm_S h' → vx_Run p l e R s m args below meth c H locs (xm_Z h - z0) (xm_S h - s0) (xm_Z h1 - xm_Z h) (xm_S h1 - xm_S h) (F0 m pc ls st) r (xs_Post D B o1 h1 as.toArray) (xs_PX D B o1 h1) (xs_A B) := by
                      intro hor b1 b2
                      by_cases h18 : y = 18
                      · subst h18
                        rcases hor with q | ⟨v, rfl⟩
                        · exact absurd rfl q
                        · exact hru n ih C A hd hln hlsz hcl hm hfr hlo (by omega) (by omega)
                      · have hy := xs_cal_ok hcl h18
                        have hM := xs_met_of ih hap A.1 A.2.1 hm hy (fun pc => by unfold xm_hnd; rw [if_neg h18]) hw
                        exact xs_callrun C A hd hln hlsz hcl h18 hM hfr hlo ⟨by omega, by omega⟩
                    cases o1 with
                    | inl v =>
                      have hx : xm_exec n (d + 1) mi (pc + 3) lsA (v.toList ++ r) h1 = some (o, h') := hx
                      have g3 := xm_gr.exec _ _ _ _ _ _ _ _ _ hx
                      have gz3 := g3.1
                      have gs3 := g3.2.1
                      have rn := run (Or.inr ⟨v, rfl⟩) gz3 gs3
                      intro T hT X
                      rcases rn T hT X with ⟨v2, st₀, t, T', L, h0, X', hL, e1, e2, ⟨⟨v3, ev, ev2, hR⟩, hF⟩, stp⟩ | ⟨q, st₀, t, T', L, E, ce, h0, X', hL, e1, e2, ⟨-, ex, -⟩, -⟩
                      · cases ev
                        cases ev2
                        have A' : xs_At D B cs s h1 T'.heap (locs ++ L) := by
                          have hvm : t.vm.Alike s.vm := by
                            have := X'.warmed.alike
                            rw [e2] at this
                            exact this.symm
                          unfold va_F at hF
                          rw [h0] at hF
                          refine ⟨g2.2.2.1.trans A.1, g2.2.2.2.trans A.2.1, by rw [e1]; exact hR.moved hvm, ?_, ?_, ?_⟩
                          · rw [e1]
                            exact Nat.le_trans A.2.2.2.1 hF.1
                          · intro q q1 q2
                            rw [e1, hF.2 q (Nat.lt_of_lt_of_le q1 A.2.2.2.1) q2]
                            exact A.2.2.2.2.1 q q1 q2
                          · intro q hq
                            rcases List.mem_append.mp hq with z | z
                            · exact A.2.2.2.2.2 q z
                            · exact hL q z
                        have kW := ih (d + 1) mi (pc + 3) lsA (v.toList ++ r) h1 o h' hx z0 s0 C A' hl (by omega) (by omega) hZ hS hfr hlo hret hthr
                        rw [show xm_Z h1 - z0 = xm_Z h - z0 + (xm_Z h1 - xm_Z h) by omega, show xm_S h1 - s0 = xm_S h - s0 + (xm_S h1 - xm_S h) by omega] at kW
                        obtain ⟨t2, a1, b1⟩ := kW T' rfl X'
                        exact ⟨t2, stp t2 a1, b1⟩
                      · cases ex
                    | inr a =>
                      by_cases h18 : y = 18
                      · simp only [xm_nox, if_pos h18] at hx
                        simp [xm_aft] at hx
                      · simp only [xm_nox, if_neg h18] at hx
                        have hx : xm_thr (xm_exec n (d + 1) mi) mi pc lsA h1 a = some (o, h') := hx
                        have g3 : xm_gr h1 h' := by
                          unfold xm_thr at hx
                          split at hx
                          · split at hx
                            · exact xm_gr.exec _ _ _ _ _ _ _ _ _ hx
                            · cases hx; exact xm_gr.rf
                          · cases hx
                        have gz3 := g3.1
                        have gs3 := g3.2.1
                        have rn := run (Or.inl h18) gz3 gs3
                        intro T hT X
                        rcases rn T hT X with ⟨v2, st₀, t, T', L, h0, X', hL, e1, e2, ⟨⟨v3, ev, -⟩, -⟩, -⟩ | ⟨q, st₀, t, T', L, E, ce, h0, X', hL, e1, e2, ⟨-, ex, hR, hF⟩, -, -, -, stp⟩
                        · cases ev
                        · cases ex
                          have A' : xs_At D B cs s h1 T'.heap (locs ++ L) := by
                            have hvm : t.vm.Alike s.vm := by
                              have := X'.warmed.alike
                              rw [e2] at this
                              exact this.symm
                            unfold va_F at hF
                            rw [h0] at hF
                            refine ⟨g2.2.2.1.trans A.1, g2.2.2.2.trans A.2.1, by rw [e1]; exact hR.moved hvm, ?_, ?_, ?_⟩
                            · rw [e1]
                              exact Nat.le_trans A.2.2.2.1 hF.1
                            · intro q q1 q2
                              rw [e1, hF.2 q (Nat.lt_of_lt_of_le q1 A.2.2.2.1) q2]
                              exact A.2.2.2.2.1 q q1 q2
                            · intro q hq
                              rcases List.mem_append.mp hq with z | z
                              · exact A.2.2.2.2.2 q z
                              · exact hL q z
                          have kW := thr pc lsA ls r h1 a T'.heap (locs ++ L) hl A' g2 hx
                          rw [show xm_Z h1 - z0 = xm_Z h - z0 + (xm_Z h1 - xm_Z h) by omega, show xm_S h1 - s0 = xm_S h - s0 + (xm_S h1 - xm_S h) by omega] at kW
                          obtain ⟨t2, a1, b1⟩ := kW T' rfl X'
                          exact ⟨t2, stp.trans a1, b1⟩
                | none =>
                  rw [hcl] at hx
                  simp only at hx
                  split at hx
                  · have el : len = 1 := by simpa [xm_ln] using hln
                    subst el
                    split at hx
                    · exact vx_athrow C.1 C.2.1 hd (thr pc lsA ls _ h _ H locs hl A xm_gr.rf hx)
                    · cases hx
                  · cases hx
end SB
