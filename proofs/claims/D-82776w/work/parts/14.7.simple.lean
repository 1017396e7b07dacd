/-! SOUNDNESS, fifth part: all plain instructions -/
set_option maxRecDepth 100000
theorem jmp_of {pc tg : Nat} {off : Int} (h : xm_jmp pc off = some tg) : (pc : Int) + off = (tg : Int) := by
  unfold xm_jmp at h
  split at h
  · cases h; omega
  · cases h
section SI
variable {D : va_G} {B : Nat} {cs : Nat → Value} {p : Program} {l : Launch} {e : Env} {R : Room} {s : State} {m : MethodId} {args : Array Value} {below : List Frame} {meth : Method} {c : Code} {H : Heap} {locs : List Loc} {Q : State → Prop}
variable {mi pc len : Nat} {lsA : List (Option Value)} {ls : Array Slot} {st : List Value} {h : xm_H}
theorem ld_of {f : Value → Bool} {k w : Nat} {pc' : Nat} {ls' : List (Option Value)} {st' : List Value} {h' : xm_H} (hs : xm_ld lsA k f pc w st h = some (pc', ls', st', h')) : ∃ v, xm_lg lsA k = some v ∧ f v = true ∧ pc' = pc + w ∧ ls' = lsA ∧ st' = v :: st ∧ h' = h := by
  unfold xm_ld at hs
  split at hs
  · rename_i v hv
    split at hs
    · rename_i hf
      cases hs
      exact ⟨v, hv, hf, rfl, rfl, rfl, rfl⟩
    · cases hs
  · cases hs
theorem isI_of {v : Value} (h : xm_isI v = true) : ∃ x, v = .int x := by
  cases v <;> first | exact ⟨_, rfl⟩ | cases h
theorem isL_of {v : Value} (h : xm_isL v = true) : ∃ x, v = .long x := by
  cases v <;> first | exact ⟨_, rfl⟩ | cases h
theorem isR_of {v : Value} (h : xm_isref v = true) : v = .null ∨ ∃ a, v = .ref a := by
  cases v <;> first | exact Or.inl rfl | exact Or.inr ⟨_, rfl⟩ | cases h
theorem st1_of {n w mL : Nat} {v : Value} {r : List Value} {pc' : Nat} {ls' : List (Option Value)} {st' : List Value} {h' : xm_H} (hs : xm_st1 lsA n pc w mL v r h = some (pc', ls', st', h')) : n < mL ∧ xm_two lsA n = false ∧ pc' = pc + w ∧ ls' = xm_ls lsA n (some v) ∧ st' = r ∧ h' = h := by
  unfold xm_st1 at hs
  split at hs
  · rename_i hc
    cases hs
    exact ⟨hc.1, hc.2, rfl, rfl, rfl, rfl⟩
  · cases hs
theorem st2_of {n w mL : Nat} {v : Value} {r : List Value} {pc' : Nat} {ls' : List (Option Value)} {st' : List Value} {h' : xm_H} (hs : xm_st2 lsA n pc w mL v r h = some (pc', ls', st', h')) : n + 1 < mL ∧ xm_two lsA n = false ∧ pc' = pc + w ∧ ls' = xm_ls (xm_ls lsA n (some v)) (n + 1) none ∧ st' = r ∧ h' = h := by
  unfold xm_st2 at hs
  split at hs
  · rename_i hc
    cases hs
    exact ⟨hc.1, hc.2, rfl, rfl, rfl, rfl⟩
  · cases hs
theorem br_of {b : Prop} [Decidable b] {off : Int} {pc' : Nat} {ls' : List (Option Value)} {st' : List Value} {h' : xm_H} (hs : xm_br b pc off lsA st h = some (pc', ls', st', h')) : ls' = lsA ∧ st' = st ∧ h' = h ∧ ∃ t : Nat, (pc : Int) + off = (t : Int) ∧ ((b ∧ pc' = t) ∨ (¬ b ∧ pc' = pc + 3)) := by
  unfold xm_br at hs
  split at hs
  · cases hs
  · rename_i t ht
    split at hs
    · rename_i hb
      cases hs
      exact ⟨rfl, rfl, rfl, pc', jmp_of ht, Or.inl ⟨hb, rfl⟩⟩
    · rename_i hb
      cases hs
      exact ⟨rfl, rfl, rfl, t, jmp_of ht, Or.inr ⟨hb, rfl⟩⟩
/-- the goal behind a step -/
abbrev xs_Kk (D : va_G) (B : Nat) (cs : Nat → Value) (p : Program) (l : Launch) (e : Env) (R : Room) (s : State) (m : MethodId) (args : Array Value) (below : List Frame) (meth : Method) (c : Code) (Q : State → Prop) (mi z0 s0 : Nat) (pc' : Nat) (ls' : List (Option Value)) (st' : List Value) (h' : xm_H) : Prop :=
  ∀ H' locs' lsr, xs_At D B cs s h' H' locs' → lv_has lsr (xm_mL mi) (xm_al ls') → W p l e R s m args below meth c H' locs' (xm_Z h' - z0) (xm_S h' - s0) Q (F0 m pc' lsr st')
set_option maxHeartbeats 4000000 in
theorem xs_simple {i : Instr} {z0 s0 : Nat} {pc' : Nat} {ls' : List (Option Value)} {st' : List Value} {h' : xm_H} (C : xs_Ctx D B cs p s m args meth c mi) (A : xs_At D B cs s h H locs) (hd : decode (xm_mC mi) pc = .ok (i, len)) (hln : xm_ln i len = true) (hl : lv_has ls (xm_mL mi) (xm_al lsA)) (hs : xm_simple mi i pc lsA st h = some (pc', ls', st', h'))
    (hz : z0 ≤ xm_Z h) (hs0 : s0 ≤ xm_S h) (hZ : xm_Z h' - z0 ≤ R.cells) (hS : xm_S h' - s0 ≤ R.slots)
    (kk : xs_Kk D B cs p l e R s m args below meth c Q mi z0 s0 pc' ls' st' h') : W p l e R s m args below meth c H locs (xm_Z h - z0) (xm_S h - s0) Q (F0 m pc ls st) := by
  have hx := C.1
  have hb := C.2.1
  have hown := C.2.2.2.1
  have hts := C.2.2.2.2.1
  have hK := C.2.2.2.2.2.2.1
  have L1 : ∀ n, (len == n) = true → len = n := fun n q => by simpa using q
  cases i with
  | aconst_null => cases L1 _ hln; cases hs; exact lv_null hx hb hd (kk _ _ _ A hl)
  | iconst v => cases L1 _ hln; cases hs; exact lv_iconst hx hb hd rfl (kk _ _ _ A hl)
  | bipush v => cases L1 _ hln; cases hs; exact lv_bipush hx hb hd rfl (kk _ _ _ A hl)
  | sipush v => cases L1 _ hln; cases hs; exact lv_sipush hx hb hd rfl (kk _ _ _ A hl)
  | lconst v => cases L1 _ hln; cases hs; exact lv_lconst hx hb hd rfl (kk _ _ _ A hl)
  | iload n =>
    cases L1 _ hln
    obtain ⟨v, g1, g2, rfl, rfl, rfl, rfl⟩ := ld_of hs
    obtain ⟨x, rfl⟩ := isI_of g2
    exact lv_iload hx hb hd (al_read hl g1) (kk _ _ _ A hl)
  | iload_n n =>
    cases L1 _ hln
    obtain ⟨v, g1, g2, rfl, rfl, rfl, rfl⟩ := ld_of hs
    obtain ⟨x, rfl⟩ := isI_of g2
    exact lv_iload_n hx hb hd rfl (al_read hl g1) (kk _ _ _ A hl)
  | lload n =>
    cases L1 _ hln
    obtain ⟨v, g1, g2, rfl, rfl, rfl, rfl⟩ := ld_of hs
    obtain ⟨x, rfl⟩ := isL_of g2
    exact lv_lload hx hb hd (al_read hl g1) (kk _ _ _ A hl)
  | lload_n n =>
    cases L1 _ hln
    obtain ⟨v, g1, g2, rfl, rfl, rfl, rfl⟩ := ld_of hs
    obtain ⟨x, rfl⟩ := isL_of g2
    exact lv_lload_n hx hb hd rfl (al_read hl g1) (kk _ _ _ A hl)
  | aload n =>
    cases L1 _ hln
    obtain ⟨v, g1, g2, rfl, rfl, rfl, rfl⟩ := ld_of hs
    rcases isR_of g2 with rfl | ⟨x, rfl⟩
    · exact lv_aloadN hx hb hd (al_read hl g1) (kk _ _ _ A hl)
    · exact lv_aload hx hb hd (al_read hl g1) (kk _ _ _ A hl)
  | aload_n n =>
    cases L1 _ hln
    obtain ⟨v, g1, g2, rfl, rfl, rfl, rfl⟩ := ld_of hs
    rcases isR_of g2 with rfl | ⟨x, rfl⟩
    · exact lv_aload_nN hx hb hd rfl (al_read hl g1) (kk _ _ _ A hl)
    · exact lv_aload_n hx hb hd rfl (al_read hl g1) (kk _ _ _ A hl)
  | istore n =>
    cases L1 _ hln
    simp only [xm_simple] at hs
    split at hs
    · obtain ⟨g1, g2, rfl, rfl, rfl, rfl⟩ := st1_of hs
      exact lv_istore hx hb hd hl g1 rfl (fun l2 h2 => kk _ _ _ A (al_store1 g2 h2))
    · cases hs
  | istore_n n =>
    cases L1 _ hln
    simp only [xm_simple] at hs
    split at hs
    · obtain ⟨g1, g2, rfl, rfl, rfl, rfl⟩ := st1_of hs
      exact lv_istore_n hx hb hd rfl hl g1 rfl (fun l2 h2 => kk _ _ _ A (al_store1 g2 h2))
    · cases hs
  | lstore n =>
    cases L1 _ hln
    simp only [xm_simple] at hs
    split at hs
    · obtain ⟨g1, g2, rfl, rfl, rfl, rfl⟩ := st2_of hs
      exact lv_lstore hx hb hd hl g1 rfl (fun l2 h2 => kk _ _ _ A (al_store2 g2 h2))
    · cases hs
  | lstore_n n =>
    cases L1 _ hln
    simp only [xm_simple] at hs
    split at hs
    · obtain ⟨g1, g2, rfl, rfl, rfl, rfl⟩ := st2_of hs
      exact lv_lstore_n hx hb hd rfl hl g1 rfl (fun l2 h2 => kk _ _ _ A (al_store2 g2 h2))
    · cases hs
  | astore n =>
    cases L1 _ hln
    simp only [xm_simple] at hs
    split at hs
    · split at hs
      · rename_i g0
        obtain ⟨g1, g2, rfl, rfl, rfl, rfl⟩ := st1_of hs
        rcases isR_of g0 with rfl | ⟨x, rfl⟩
        · exact lv_astoreN hx hb hd hl g1 rfl (fun l2 h2 => kk _ _ _ A (al_store1 g2 h2))
        · exact lv_astore hx hb hd hl g1 rfl (fun l2 h2 => kk _ _ _ A (al_store1 g2 h2))
      · cases hs
    · cases hs
  | astore_n n =>
    cases L1 _ hln
    simp only [xm_simple] at hs
    split at hs
    · split at hs
      · rename_i g0
        obtain ⟨g1, g2, rfl, rfl, rfl, rfl⟩ := st1_of hs
        rcases isR_of g0 with rfl | ⟨x, rfl⟩
        · exact lv_astore_nN hx hb hd rfl hl g1 rfl (fun l2 h2 => kk _ _ _ A (al_store1 g2 h2))
        · exact lv_astore_n hx hb hd rfl hl g1 rfl (fun l2 h2 => kk _ _ _ A (al_store1 g2 h2))
      · cases hs
    · cases hs
  | iinc n d =>
    cases L1 _ hln
    simp only [xm_simple] at hs
    split at hs
    · rename_i x g0
      obtain ⟨g1, g2, rfl, rfl, rfl, rfl⟩ := st1_of hs
      obtain ⟨k, hk⟩ := List.getElem?_of_mem (al_mem.mpr (show xm_lg lsA (n, Value.int x).1 = some (n, Value.int x).2 from g0))
      exact lv_iinc hx hb hd hl hk rfl g1 rfl (fun l2 h2 => kk _ _ _ A (al_store1 g2 h2))
    · cases hs
  | iadd => cases L1 _ hln; simp only [xm_simple, xm_i2] at hs; split at hs <;> cases hs; exact lv_iadd hx hb hd (kk _ _ _ A hl)
  | isub => cases L1 _ hln; simp only [xm_simple, xm_i2] at hs; split at hs <;> cases hs; exact lv_isub hx hb hd (kk _ _ _ A hl)
  | imul => cases L1 _ hln; simp only [xm_simple, xm_i2] at hs; split at hs <;> cases hs; exact lv_imul hx hb hd (kk _ _ _ A hl)
  | iand => cases L1 _ hln; simp only [xm_simple, xm_i2] at hs; split at hs <;> cases hs; exact lv_iand hx hb hd (kk _ _ _ A hl)
  | ior => cases L1 _ hln; simp only [xm_simple, xm_i2] at hs; split at hs <;> cases hs; exact lv_ior hx hb hd (kk _ _ _ A hl)
  | ixor => cases L1 _ hln; simp only [xm_simple, xm_i2] at hs; split at hs <;> cases hs; exact lv_ixor hx hb hd (kk _ _ _ A hl)
  | ishl => cases L1 _ hln; simp only [xm_simple, xm_i2] at hs; split at hs <;> cases hs; exact lv_ishl hx hb hd (kk _ _ _ A hl)
  | ishr => cases L1 _ hln; simp only [xm_simple, xm_i2] at hs; split at hs <;> cases hs; exact lv_ishr hx hb hd (kk _ _ _ A hl)
  | iushr => cases L1 _ hln; simp only [xm_simple, xm_i2] at hs; split at hs <;> cases hs; exact lv_iushr hx hb hd rfl (kk _ _ _ A hl)
  | ineg => cases L1 _ hln; simp only [xm_simple, xm_i1] at hs; split at hs <;> cases hs; exact lv_ineg hx hb hd (kk _ _ _ A hl)
  | i2b => cases L1 _ hln; simp only [xm_simple, xm_i1] at hs; split at hs <;> cases hs; exact lv_i2b hx hb hd rfl (kk _ _ _ A hl)
  | i2c => cases L1 _ hln; simp only [xm_simple, xm_i1] at hs; split at hs <;> cases hs; exact lv_i2c hx hb hd rfl (kk _ _ _ A hl)
  | idiv =>
    cases L1 _ hln
    simp only [xm_simple] at hs
    split at hs
    · split at hs
      · cases hs
      · rename_i g; cases hs; exact lv_idiv hx hb hd g (kk _ _ _ A hl)
    · cases hs
  | irem =>
    cases L1 _ hln
    simp only [xm_simple] at hs
    split at hs
    · split at hs
      · cases hs
      · rename_i g; cases hs; exact lv_irem hx hb hd g (kk _ _ _ A hl)
    · cases hs
  | ladd => cases L1 _ hln; simp only [xm_simple, xm_l2] at hs; split at hs <;> cases hs; exact lv_ladd hx hb hd (kk _ _ _ A hl)
  | lsub => cases L1 _ hln; simp only [xm_simple, xm_l2] at hs; split at hs <;> cases hs; exact lv_lsub hx hb hd (kk _ _ _ A hl)
  | lmul => cases L1 _ hln; simp only [xm_simple, xm_l2] at hs; split at hs <;> cases hs; exact lv_lmul hx hb hd (kk _ _ _ A hl)
  | lor => cases L1 _ hln; simp only [xm_simple, xm_l2] at hs; split at hs <;> cases hs; exact lv_lor hx hb hd (kk _ _ _ A hl)
  | ldiv =>
    cases L1 _ hln
    simp only [xm_simple] at hs
    split at hs
    · split at hs
      · cases hs
      · rename_i g; cases hs; exact lv_ldiv hx hb hd g (kk _ _ _ A hl)
    · cases hs
  | lshl => cases L1 _ hln; simp only [xm_simple] at hs; split at hs <;> cases hs; exact lv_lshl hx hb hd rfl (kk _ _ _ A hl)
  | lcmp => cases L1 _ hln; simp only [xm_simple] at hs; split at hs <;> cases hs; exact W.lcmp hx hb hd (kk _ _ _ A hl)
  | i2l => cases L1 _ hln; simp only [xm_simple] at hs; split at hs <;> cases hs; exact lv_i2l hx hb hd rfl (kk _ _ _ A hl)
  | l2i => cases L1 _ hln; simp only [xm_simple] at hs; split at hs <;> cases hs; exact lv_l2i hx hb hd rfl (kk _ _ _ A hl)
  | dup =>
    cases L1 _ hln
    simp only [xm_simple] at hs
    split at hs
    · split at hs
      · rename_i g; cases hs; exact lv_dup hx hb hd g (kk _ _ _ A hl)
      · cases hs
    · cases hs
  | dup_x1 =>
    cases L1 _ hln
    simp only [xm_simple] at hs
    split at hs
    · split at hs
      · rename_i g; cases hs; exact lv_dup_x1 hx hb hd g.1 g.2 (kk _ _ _ A hl)
      · cases hs
    · cases hs
  | dup2 =>
    cases L1 _ hln
    simp only [xm_simple] at hs
    split at hs
    · split at hs
      · rename_i g; cases hs; exact lv_dup2_11 hx hb hd g.1 g.2 (kk _ _ _ A hl)
      · cases hs
    · cases hs
  | pop =>
    cases L1 _ hln
    simp only [xm_simple] at hs
    split at hs
    · split at hs
      · rename_i g; cases hs; exact lv_pop hx hb hd g (kk _ _ _ A hl)
      · cases hs
    · cases hs
  | pop2 =>
    cases L1 _ hln
    simp only [xm_simple] at hs
    split at hs
    · split at hs
      · rename_i g; cases hs; exact lv_pop2_2 hx hb hd g (kk _ _ _ A hl)
      · split at hs
        · split at hs
          · rename_i g; cases hs; exact lv_pop2_11 hx hb hd g.1 g.2 (kk _ _ _ A hl)
          · cases hs
        · cases hs
    · cases hs
  | goto off =>
    cases L1 _ hln
    simp only [xm_simple] at hs
    split at hs
    · rename_i t g; cases hs; exact lv_goto hx hb hd (jmp_of g) (kk _ _ _ A hl)
    · cases hs
  | ifCond cd off =>
    cases L1 _ hln
    simp only [xm_simple] at hs
    split at hs
    · cases cd <;> (obtain ⟨rfl, rfl, rfl, t, g1, g2⟩ := br_of hs)
      · exact lv_if_eq hx hb hd g1 (fun q => by rcases g2 with ⟨g, rfl⟩ | ⟨g, rfl⟩ <;> first | exact kk _ _ _ A hl | exact absurd q g | exact absurd g q) (fun q => by rcases g2 with ⟨g, rfl⟩ | ⟨g, rfl⟩ <;> first | exact kk _ _ _ A hl | exact absurd g q | exact absurd q g)
      · exact lv_if_ne hx hb hd g1 (fun q => by rcases g2 with ⟨g, rfl⟩ | ⟨g, rfl⟩ <;> first | exact kk _ _ _ A hl | exact absurd q g | exact absurd g q) (fun q => by rcases g2 with ⟨g, rfl⟩ | ⟨g, rfl⟩ <;> first | exact kk _ _ _ A hl | exact absurd g q | exact absurd q g)
      · exact lv_if_lt hx hb hd g1 (fun q => by rcases g2 with ⟨g, rfl⟩ | ⟨g, rfl⟩ <;> first | exact kk _ _ _ A hl | exact absurd q g | exact absurd g q) (fun q => by rcases g2 with ⟨g, rfl⟩ | ⟨g, rfl⟩ <;> first | exact kk _ _ _ A hl | exact absurd g q | exact absurd q g)
      · exact lv_if_ge hx hb hd g1 (fun q => by rcases g2 with ⟨g, rfl⟩ | ⟨g, rfl⟩ <;> first | exact kk _ _ _ A hl | exact absurd q g | exact absurd g q) (fun q => by rcases g2 with ⟨g, rfl⟩ | ⟨g, rfl⟩ <;> first | exact kk _ _ _ A hl | exact absurd g q | exact absurd q g)
      · exact lv_if_gt hx hb hd g1 (fun q => by rcases g2 with ⟨g, rfl⟩ | ⟨g, rfl⟩ <;> first | exact kk _ _ _ A hl | exact absurd q g | exact absurd g q) (fun q => by rcases g2 with ⟨g, rfl⟩ | ⟨g, rfl⟩ <;> first | exact kk _ _ _ A hl | exact absurd g q | exact absurd q g)
      · exact lv_if_le hx hb hd g1 (fun q => by rcases g2 with ⟨g, rfl⟩ | ⟨g, rfl⟩ <;> first | exact kk _ _ _ A hl | exact absurd q g | exact absurd g q) (fun q => by rcases g2 with ⟨g, rfl⟩ | ⟨g, rfl⟩ <;> first | exact kk _ _ _ A hl | exact absurd g q | exact absurd q g)
    · cases hs
  | if_icmp cd off =>
    cases L1 _ hln
    simp only [xm_simple] at hs
    split at hs
    · cases cd <;> (obtain ⟨rfl, rfl, rfl, t, g1, g2⟩ := br_of hs)
      · exact lv_icmp_eq hx hb hd g1 (fun q => by rcases g2 with ⟨g, rfl⟩ | ⟨g, rfl⟩ <;> first | exact kk _ _ _ A hl | exact absurd q g | exact absurd g q) (fun q => by rcases g2 with ⟨g, rfl⟩ | ⟨g, rfl⟩ <;> first | exact kk _ _ _ A hl | exact absurd g q | exact absurd q g)
      · exact lv_icmp_ne hx hb hd g1 (fun q => by rcases g2 with ⟨g, rfl⟩ | ⟨g, rfl⟩ <;> first | exact kk _ _ _ A hl | exact absurd q g | exact absurd g q) (fun q => by rcases g2 with ⟨g, rfl⟩ | ⟨g, rfl⟩ <;> first | exact kk _ _ _ A hl | exact absurd g q | exact absurd q g)
      · exact lv_icmp_lt hx hb hd g1 (fun q => by rcases g2 with ⟨g, rfl⟩ | ⟨g, rfl⟩ <;> first | exact kk _ _ _ A hl | exact absurd q g | exact absurd g q) (fun q => by rcases g2 with ⟨g, rfl⟩ | ⟨g, rfl⟩ <;> first | exact kk _ _ _ A hl | exact absurd g q | exact absurd q g)
      · exact lv_icmp_ge hx hb hd g1 (fun q => by rcases g2 with ⟨g, rfl⟩ | ⟨g, rfl⟩ <;> first | exact kk _ _ _ A hl | exact absurd q g | exact absurd g q) (fun q => by rcases g2 with ⟨g, rfl⟩ | ⟨g, rfl⟩ <;> first | exact kk _ _ _ A hl | exact absurd g q | exact absurd q g)
      · exact lv_icmp_gt hx hb hd g1 (fun q => by rcases g2 with ⟨g, rfl⟩ | ⟨g, rfl⟩ <;> first | exact kk _ _ _ A hl | exact absurd q g | exact absurd g q) (fun q => by rcases g2 with ⟨g, rfl⟩ | ⟨g, rfl⟩ <;> first | exact kk _ _ _ A hl | exact absurd g q | exact absurd q g)
      · exact lv_icmp_le hx hb hd g1 (fun q => by rcases g2 with ⟨g, rfl⟩ | ⟨g, rfl⟩ <;> first | exact kk _ _ _ A hl | exact absurd q g | exact absurd g q) (fun q => by rcases g2 with ⟨g, rfl⟩ | ⟨g, rfl⟩ <;> first | exact kk _ _ _ A hl | exact absurd g q | exact absurd q g)
    · cases hs
  | if_acmp cd off =>
    cases L1 _ hln
    simp only [xm_simple] at hs
    split at hs
    · cases cd <;> (obtain ⟨rfl, rfl, rfl, t, g1, g2⟩ := br_of hs)
      · exact lv_acmp_eq (rx := some _) (ry := some _) hx hb hd g1 (fun q => by rcases g2 with ⟨g, rfl⟩ | ⟨g, rfl⟩ <;> first | exact kk _ _ _ A hl | exact absurd (Option.some.inj q) g) (fun q => by rcases g2 with ⟨g, rfl⟩ | ⟨g, rfl⟩ <;> first | exact kk _ _ _ A hl | exact absurd (congrArg some g) q)
      · exact lv_acmp_ne (rx := some _) (ry := some _) hx hb hd g1 (fun q => by rcases g2 with ⟨g, rfl⟩ | ⟨g, rfl⟩ <;> first | exact kk _ _ _ A hl | exact absurd (fun z => q (congrArg some z)) g | exact absurd g (fun z => q (congrArg some z))) (fun q => by rcases g2 with ⟨g, rfl⟩ | ⟨g, rfl⟩ <;> first | exact kk _ _ _ A hl | exact absurd (fun z => g (Option.some.inj z)) q | exact absurd (Option.some.inj q) g)
    · cases hs
  | ifnull off =>
    cases L1 _ hln
    simp only [xm_simple] at hs
    split at hs
    · split at hs
      · rename_i g0
        obtain ⟨rfl, rfl, rfl, t, g1, g2⟩ := br_of hs
        rcases isR_of g0 with rfl | ⟨x, rfl⟩
        · rcases g2 with ⟨g, rfl⟩ | ⟨g, rfl⟩
          · exact lv_ifnullN hx hb hd g1 (kk _ _ _ A hl)
          · exact absurd rfl g
        · rcases g2 with ⟨g, rfl⟩ | ⟨g, rfl⟩
          · cases g
          · exact lv_ifnull hx hb hd (kk _ _ _ A hl)
      · cases hs
    · cases hs
  | ifnonnull off =>
    cases L1 _ hln
    simp only [xm_simple] at hs
    split at hs
    · split at hs
      · rename_i g0
        obtain ⟨rfl, rfl, rfl, t, g1, g2⟩ := br_of hs
        rcases isR_of g0 with rfl | ⟨x, rfl⟩
        · rcases g2 with ⟨g, rfl⟩ | ⟨g, rfl⟩
          · exact absurd rfl g
          · exact lv_ifnonnullN hx hb hd (kk _ _ _ A hl)
        · rcases g2 with ⟨g, rfl⟩ | ⟨g, rfl⟩
          · exact lv_ifnonnull hx hb hd g1 (kk _ _ _ A hl)
          · exact absurd (fun z => by cases z) g
      · cases hs
    · cases hs
  | tableswitch dflt lo hi offs =>
    simp only [xm_simple] at hs
    split at hs
    · split at hs
      · rename_i g0
        split at hs
        · rename_i t g; cases hs; exact lv_tableOut hx hb hd g0 (jmp_of g) (kk _ _ _ A hl)
        · cases hs
      · rename_i g0
        split at hs
        · rename_i off g2
          split at hs
          · rename_i t g; cases hs; exact lv_tableIn hx hb hd (fun q => g0 (Or.inl q)) (fun q => g0 (Or.inr q)) g2 (jmp_of g) (kk _ _ _ A hl)
          · cases hs
        · cases hs
    · cases hs
  | ldc idx =>
    cases L1 _ hln
    simp only [xm_simple] at hs
    split at hs
    · rename_i v g; cases hs
      rcases xs_D g with ⟨x, e1, hw⟩ | ⟨tx, j, e1, hw⟩
      · cases e1
        exact lv_ldc hx hb hown (hts _ hw) hd (kk _ _ _ A hl)
      · cases e1
    · rename_i j g; cases hs
      rcases xs_D g with ⟨x, e1, hw⟩ | ⟨tx, j2, e1, hw⟩
      · cases e1
      · cases e1
        obtain ⟨q, h1, h2⟩ := hK.2.2.2.2.2.2.1 _ hw
        refine va_ldcS hx hb hown h2 hd ?_
        have e9 : xm_C h j = .ref q := by rw [A.2.1]; exact h1
        rw [← e9]
        exact kk _ _ _ A hl
    · cases hs
  | ldc_w idx =>
    cases L1 _ hln
    simp only [xm_simple] at hs
    split at hs
    · rename_i v g; cases hs
      rcases xs_D g with ⟨x, e1, hw⟩ | ⟨tx, j, e1, hw⟩
      · cases e1
        exact lv_ldcw hx hb hown (hts _ hw) hd (kk _ _ _ A hl)
      · cases e1
    · cases hs
  | ldc2_w idx =>
    cases L1 _ hln
    simp only [xm_simple] at hs
    split at hs
    · rename_i v g; cases hs
      exact lv_ldc2 hx hb hown (hts _ (xs_L g)) hd (kk _ _ _ A hl)
    · cases hs
  | getstatic idx =>
    cases L1 _ hln
    simp only [xm_simple] at hs
    split at hs
    · rename_i j g; cases hs
      obtain ⟨C1, n1, d1, h1, h2⟩ := xs_G g
      refine va_gets hx hb (hK.2.2.2.2.2.1 _ h1) A.2.2.2 hown (hts _ h2) (fun x z => z) hd ?_
      have e9 : xm_C h j = cs j := by rw [A.2.1]
      rw [← e9]
      exact kk _ _ _ A hl
    · cases hs
  | getfield idx =>
    cases L1 _ hln
    simp only [xm_simple] at hs
    split at hs
    · split at hs
      · rename_i g0
        split at hs
        · rename_i g1
          split at hs
          · rename_i v g2; cases hs
            exact xs_getfield C A hd g0 g1 g2 (kk _ _ _ A hl)
          · cases hs
        · cases hs
      · cases hs
    · cases hs
  | putfield idx =>
    cases L1 _ hln
    simp only [xm_simple] at hs
    split at hs
    · split at hs
      · rename_i g0
        split at hs
        · rename_i g1
          split at hs
          · rename_i h2 g2; cases hs
            obtain ⟨-, -, -, -, -, ez, es, -⟩ := xs_fs_of g2
            exact xs_putfield C A hd g0 g1.1 g1.2.1 g1.2.2 g2 (fun H' l' A' => by have := kk H' l' _ A' hl; rw [ez, es] at this; exact this)
          · cases hs
        · cases hs
      · cases hs
    · cases hs
  | iaload =>
    cases L1 _ hln
    simp only [xm_simple] at hs
    split at hs
    · split at hs
      · rename_i g; cases hs; exact xs_iald C A hd g.1 g.2 (kk _ _ _ A hl)
      · cases hs
    · cases hs
  | baload =>
    cases L1 _ hln
    simp only [xm_simple] at hs
    split at hs
    · split at hs
      · rename_i g; cases hs; exact xs_bald C A hd g.1 g.2 (kk _ _ _ A hl)
      · cases hs
    · cases hs
  | aaload =>
    cases L1 _ hln
    simp only [xm_simple] at hs
    split at hs
    · split at hs
      · rename_i g; cases hs; exact xs_aald C A hd g.1 g.2 (kk _ _ _ A hl)
      · cases hs
    · cases hs
  | arraylength =>
    cases L1 _ hln
    simp only [xm_simple] at hs
    split at hs
    · split at hs
      · rename_i g; cases hs; exact xs_alen C A hd g (kk _ _ _ A hl)
      · cases hs
    · cases hs
  | iastore =>
    cases L1 _ hln
    simp only [xm_simple] at hs
    split at hs
    · split at hs
      · rename_i g; cases hs; exact xs_iast C A hd g.1 g.2.1 g.2.2 (fun H' l' A' => kk _ _ _ A' hl)
      · cases hs
    · cases hs
  | bastore =>
    cases L1 _ hln
    simp only [xm_simple] at hs
    split at hs
    · split at hs
      · rename_i g
        split at hs
        · rename_i g1; cases hs; exact xs_bast C A hd g1 g.1 g.2 (fun H' l' A' => kk _ _ _ A' hl)
        · split at hs
          · rename_i g1; cases hs; exact xs_zast C A hd g1.1 g.1 g.2 g1.2 (fun H' l' A' => kk _ _ _ A' hl)
          · cases hs
      · cases hs
    · cases hs
  | aastore =>
    cases L1 _ hln
    simp only [xm_simple] at hs
    split at hs
    · split at hs
      · rename_i g; cases hs; exact xs_aast C A hd g.1 g.2.1 g.2.2 (fun H' l' A' => kk _ _ _ A' hl)
      · cases hs
    · cases hs
  | new idx =>
    cases L1 _ hln
    simp only [xm_simple] at hs
    split at hs
    · rename_i c0 g; cases hs
      rw [h_Z_nw] at hZ
      rw [h_S_nw] at hS
      refine xs_new C A hd g (by omega) (by omega) (fun H' A' => ?_)
      have k9 := kk H' locs _ A' hl
      rw [h_Z_nw, h_S_nw, show xm_Z h + 1 - z0 = xm_Z h - z0 + 1 by omega, show xm_S h + xm_ns c0 - s0 = xm_S h - s0 + xm_ns c0 by omega] at k9
      exact k9
    · cases hs
  | newarray t =>
    cases L1 _ hln
    simp only [xm_simple] at hs
    split at hs
    · rename_i n r
      split at hs
      · rename_i kd g
        split at hs
        · rename_i g1; cases hs
          rw [h_Z_nw] at hZ
          rw [h_S_nw] at hS
          refine xs_newarr C A hd g g1 (by omega) (by omega) (fun H' A' => ?_)
          have k9 := kk H' locs _ A' hl
          rw [h_Z_nw, h_S_nw, show xm_Z h + 1 - z0 = xm_Z h - z0 + 1 by omega, show xm_S h + n.toNatClampNeg - s0 = xm_S h - s0 + n.toNatClampNeg by omega] at k9
          exact k9
        · cases hs
      · cases hs
    · cases hs
  | anewarray idx =>
    cases L1 _ hln
    simp only [xm_simple] at hs
    split at hs
    · rename_i n r
      split at hs
      · rename_i kd g
        split at hs
        · rename_i g1; cases hs
          rw [h_Z_nw] at hZ
          rw [h_S_nw] at hS
          refine xs_anew C A hd g g1 (by omega) (by omega) (fun H' A' => ?_)
          have k9 := kk H' locs _ A' hl
          rw [h_Z_nw, h_S_nw, show xm_Z h + 1 - z0 = xm_Z h - z0 + 1 by omega, show xm_S h + n.toNatClampNeg - s0 = xm_S h - s0 + n.toNatClampNeg by omega] at k9
          exact k9
        · cases hs
      · cases hs
    · cases hs
  | instanceof idx =>
    cases L1 _ hln
    simp only [xm_simple] at hs
    split at hs
    · split at hs
      · rename_i g; cases hs; exact xs_instOf C A hd g (kk _ _ _ A hl)
      · cases hs
    · cases hs
  | checkcast idx =>
    cases L1 _ hln
    simp only [xm_simple] at hs
    split at hs
    · split at hs
      · rename_i g; cases hs; exact xs_castOf C A hd g (kk _ _ _ A hl)
      · cases hs
    · cases hs
  | _ => cases hs
end SI
