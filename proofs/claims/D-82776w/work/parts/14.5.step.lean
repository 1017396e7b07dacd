/-! SOUNDNESS, third part: one plain instruction of the abstract machine is one of the machine -/
set_option maxRecDepth 100000
/-- what stands still through a method's body -/
def xs_Ctx (D : va_G) (B : Nat) (cs : Nat → Value) (p : Program) (s : State) (m : MethodId) (args : Array Value) (meth : Method) (c : Code) (mi : Nat) : Prop :=
  p.tables.exec = Jvm.exec ∧ c.code = xm_mC mi ∧ c.maxLocals = xm_mL mi ∧ s.vm.findClass (xm_oN (xm_mO mi)) = some m.cls ∧ (∀ w ∈ lw_all, w.before args s = true) ∧ meth.name = (xm_mY mi).name ∧ xs_K D B cs s ∧ xs_Ap D
/-- .. and what changes -/
def xs_At (D : va_G) (B : Nat) (cs : Nat → Value) (s : State) (h : xm_H) (H : Heap) (locs : List Loc) : Prop := xm_B h = B ∧ xm_C h = cs ∧ xs_Rep D s h H ∧ va_S (xs_A B) s.heap H locs
section ST
variable {D : va_G} {B : Nat} {cs : Nat → Value} {p : Program} {l : Launch} {e : Env} {R : Room} {s : State} {m : MethodId} {args : Array Value} {below : List Frame} {meth : Method} {c : Code} {H : Heap} {locs : List Loc} {cells slots : Nat} {Q : State → Prop}
variable {mi pc len : Nat} {lsA : List (Option Value)} {ls : Array Slot} {st : List Value} {h : xm_H}
/-- the facts of an object's field, out of the tables -/
theorem xs_field {o idx ci k a : Nat} {cell : Cell} (hK : xs_K D B cs s) (hts : ∀ w ∈ lw_all, w.before args s = true) (hf : xm_lkF o idx = some (ci, k)) (hk : xm_is ci (xm_K h a) = true) (hc : xs_cell D s h a cell) :
    ∃ (sc : Nat) (ref : String) (cf : ClassId) (kf : Class) (fi : Nat) (f : Field) (cC : ClassId) (kC : Class), xm_K h a = sc + 1 ∧ xs_cc sc = true ∧ sc < 99 ∧ xm_ty sc k = xm_ty ci k ∧ (xm_T sc k).2.2.2 = (xm_T ci k).2.2.2 ∧ (xm_T sc k).1 = (xm_T ci k).1 ∧ k < xm_nf sc ∧
      ((Cond.fieldLink (xm_oN o) idx ref (xm_T sc k).2.1 (xm_T sc k).2.2.1).before args s = true ∨ ∃ host, (Cond.fieldLinkNest (xm_oN o) idx ref (xm_T sc k).2.1 (xm_T sc k).2.2.1 host).before args s = true) ∧
      s.fieldFound? ref (xm_T sc k).2.1 (xm_T sc k).2.2.1 = some (cf, kf, fi, f) ∧ s.fieldFound? (xm_T sc k).1 (xm_T sc k).2.1 (xm_T sc k).2.2.1 = some (cf, kf, fi, f) ∧ f.isStatic = false ∧ f.slot = D.2 sc k ∧ s.vm.findClass (xm_oN sc) = some cC ∧ s.vm.classes[cC]? = some kC ∧ kC.kind = .ordinary ∧ cell.cls = cC ∧ D.1 sc = cC ∧
      (∀ v, xm_fv sc k h a = some v → cell.slots[f.slot]? = some v) := by
  obtain ⟨sc, e1, hcc, ht, hfin, hdc, hkn, ref, hl, hr⟩ := xs_fld hf _ hk
  obtain ⟨k1, k2, -⟩ := hK
  obtain ⟨hS, hfc, kC, hkC, hkind⟩ := k1 sc hcc
  obtain ⟨cf, kf, fi, f, hi, hsl⟩ := hS k hkn
  have hsc : sc < 99 := by
    have h9 : sc ∈ ([0, 1, 2, 3, 4, 5, 7, 8, 9, 11, 12, 13, 14, 15, 16, 17, 19, 20, 21, 26, 27] : List Nat) := List.contains_iff_mem.mp hcc
    simp only [List.mem_cons, List.not_mem_nil, or_false] at h9
    omega
  obtain ⟨-, hcls, hsv⟩ := hc.2.2.2.1 (by omega)
  have es : xm_K h a - 1 = sc := by omega
  rw [es] at hcls hsv
  refine ⟨sc, ref, cf, kf, fi, f, D.1 sc, kC, e1, hcc, hsc, ht, hfin, hdc, hkn, ?_, ?_, hi, (u_facts hfc hkC (u_lays hts (xs_in sc hcc) hkn) hi).1, hsl, hfc, hkC, hkind, hcls, rfl, fun v hv => by rw [hsl]; exact hsv k v hkn hv⟩
  · rcases hl with hl | ⟨host, hl⟩
    · exact Or.inl (hts _ hl)
    · exact Or.inr ⟨host, va_Nw.use rfl (k2 _ hl)⟩
  · rcases hr with hr | hr
    · rw [hr]; exact hi
    · exact u_same (hts _ hr) _ hi
theorem xs_getfield {idx ci k a : Nat} {v : Value} {r : List Value} (C : xs_Ctx D B cs p s m args meth c mi) (A : xs_At D B cs s h H locs) (hd : decode (xm_mC mi) pc = .ok (.getfield idx, 3)) (hf : xm_lkF (xm_mO mi) idx = some (ci, k)) (hk : xm_is ci (xm_K h a) = true) (hv : xm_fv ci k h a = some v)
    (kk : W p l e R s m args below meth c H locs cells slots Q (F0 m (pc + 3) ls (v :: r))) : W p l e R s m args below meth c H locs cells slots Q (F0 m pc ls (.ref a :: r)) := by
  obtain ⟨hx, hb, -, hown, hts, -, hK, -⟩ := C
  have h0 : ¬ xm_K h a = 0 := by
    intro q
    rw [q] at hk
    obtain ⟨sc, e1, -⟩ := xs_fld hf _ hk
    omega
  obtain ⟨cell, hcell, hc⟩ := A.2.2.1.2.2 a h0
  obtain ⟨sc, ref, cf, kf, fi, f, cC, kC, e1, hcc, hsc, ht, hfin, hdc, hkn, hl, hi, hi2, hst, hsl, hfc, hkC, hkind, hcls, hD1, hsv⟩ := xs_field hK hts hf hk hc
  have hv2 : xm_fv sc k h a = some v := by
    rw [← hv]
    unfold xm_fv
    rw [ht]
  rcases hl with hl | ⟨host, hl⟩
  · exact W.getf hx hb hown hl hi hst hcell hc.1 (hsv v hv2) rfl rfl hd kk
  · exact va_Wgetf hx hb hown hl hi hst hcell hc.1 (hsv v hv2) rfl rfl hd kk
/-- what a field set comes to -/
theorem xs_fs_of {ci k a : Nat} {v : Value} {h' : xm_H} (hfs : xm_fs ci k h a v = some h') : narrow (xm_ty ci k) v = v ∧ fits (xm_ty ci k) v = true ∧ xm_fv ci k h' a = some v ∧ xm_B h' = xm_B h ∧ xm_C h' = xm_C h ∧ xm_Z h' = xm_Z h ∧ xm_S h' = xm_S h ∧ xm_K h' = xm_K h ∧ xm_N h' = xm_N h ∧ (∀ b, ¬ b = a → xs_eq h h' b) ∧ (∀ j, ¬ j = k → xm_I h' a j = xm_I h a j ∧ xm_L h' a j = xm_L h a j ∧ xm_R h' a j = xm_R h a j) ∧ ∃ w, xm_fv ci k h a = some w := by
  have key : ∀ (b j : Nat) (x : Int32), xm_I (xm_sI h a k x) b j = if b = a ∧ j = k then x else xm_I h b j := fun _ _ _ => rfl
  have keyL : ∀ (b j : Nat) (x : Int64), xm_L (xm_sL h a k x) b j = if b = a ∧ j = k then x else xm_L h b j := fun _ _ _ => rfl
  have keyR : ∀ (b j : Nat) (x : Option Nat), xm_R (xm_sR h a k x) b j = if b = a ∧ j = k then x else xm_R h b j := fun _ _ _ => rfl
  have mI : ∀ x : Int32, (xm_B (xm_sI h a k x) = xm_B h ∧ xm_C (xm_sI h a k x) = xm_C h ∧ xm_Z (xm_sI h a k x) = xm_Z h ∧ xm_S (xm_sI h a k x) = xm_S h ∧ xm_K (xm_sI h a k x) = xm_K h ∧ xm_N (xm_sI h a k x) = xm_N h ∧ (∀ b, ¬ b = a → xs_eq h (xm_sI h a k x) b) ∧ (∀ j, ¬ j = k → xm_I (xm_sI h a k x) a j = xm_I h a j ∧ xm_L (xm_sI h a k x) a j = xm_L h a j ∧ xm_R (xm_sI h a k x) a j = xm_R h a j)) := fun x =>
    ⟨rfl, rfl, rfl, rfl, rfl, rfl, fun b hb => ⟨rfl, rfl, by funext j; rw [key, if_neg (fun q => hb q.1)], rfl, rfl⟩, fun j hj => ⟨by rw [key, if_neg (fun q => hj q.2)], rfl, rfl⟩⟩
  have mL : ∀ x : Int64, (xm_B (xm_sL h a k x) = xm_B h ∧ xm_C (xm_sL h a k x) = xm_C h ∧ xm_Z (xm_sL h a k x) = xm_Z h ∧ xm_S (xm_sL h a k x) = xm_S h ∧ xm_K (xm_sL h a k x) = xm_K h ∧ xm_N (xm_sL h a k x) = xm_N h ∧ (∀ b, ¬ b = a → xs_eq h (xm_sL h a k x) b) ∧ (∀ j, ¬ j = k → xm_I (xm_sL h a k x) a j = xm_I h a j ∧ xm_L (xm_sL h a k x) a j = xm_L h a j ∧ xm_R (xm_sL h a k x) a j = xm_R h a j)) := fun x =>
    ⟨rfl, rfl, rfl, rfl, rfl, rfl, fun b hb => ⟨rfl, rfl, rfl, by funext j; rw [keyL, if_neg (fun q => hb q.1)], rfl⟩, fun j hj => ⟨rfl, by rw [keyL, if_neg (fun q => hj q.2)], rfl⟩⟩
  have mR : ∀ x : Option Nat, (xm_B (xm_sR h a k x) = xm_B h ∧ xm_C (xm_sR h a k x) = xm_C h ∧ xm_Z (xm_sR h a k x) = xm_Z h ∧ xm_S (xm_sR h a k x) = xm_S h ∧ xm_K (xm_sR h a k x) = xm_K h ∧ xm_N (xm_sR h a k x) = xm_N h ∧ (∀ b, ¬ b = a → xs_eq h (xm_sR h a k x) b) ∧ (∀ j, ¬ j = k → xm_I (xm_sR h a k x) a j = xm_I h a j ∧ xm_L (xm_sR h a k x) a j = xm_L h a j ∧ xm_R (xm_sR h a k x) a j = xm_R h a j)) := fun x =>
    ⟨rfl, rfl, rfl, rfl, rfl, rfl, fun b hb => ⟨rfl, rfl, rfl, rfl, by funext j; rw [keyR, if_neg (fun q => hb q.1)]⟩, fun j hj => ⟨rfl, rfl, by rw [keyR, if_neg (fun q => hj q.2)]⟩⟩
  have vI : ∀ x : Int32, xm_I (xm_sI h a k x) a k = x := fun x => by rw [key, if_pos ⟨rfl, rfl⟩]
  have vL : ∀ x : Int64, xm_L (xm_sL h a k x) a k = x := fun x => by rw [keyL, if_pos ⟨rfl, rfl⟩]
  have vR : ∀ x : Option Nat, xm_R (xm_sR h a k x) a k = x := fun x => by rw [keyR, if_pos ⟨rfl, rfl⟩]
  have rv : ∀ (o : Option Nat), xm_rv v = some o → v = va_rf o := by
    intro o q
    cases v <;> simp [xm_rv] at q <;> subst q <;> rfl
  unfold xm_fs at hfs
  cases hty : xm_ty ci k with
  | long =>
    rw [hty] at hfs
    cases v with
    | long x =>
      have e : xm_sL h a k x = h' := Option.some.inj hfs
      subst e
      obtain ⟨a1, a2, a3, a4, a5, a6, a7, a8⟩ := mL x
      exact ⟨rfl, rfl, by unfold xm_fv; rw [hty]; simp only [vL], a1, a2, a3, a4, a5, a6, a7, a8, ⟨_, by unfold xm_fv; rw [hty]⟩⟩
    | _ => cases hfs
  | object C =>
    rw [hty] at hfs
    cases hv : xm_rv v with
    | none => simp [hv] at hfs
    | some o =>
      simp only [hv] at hfs
      have e : xm_sR h a k o = h' := Option.some.inj hfs
      subst e
      obtain ⟨a1, a2, a3, a4, a5, a6, a7, a8⟩ := mR o
      have ev := rv o hv
      exact ⟨by rw [ev]; cases o <;> rfl, by rw [ev]; cases o <;> rfl, by unfold xm_fv; rw [hty]; simp only [vR, ev], a1, a2, a3, a4, a5, a6, a7, a8, ⟨_, by unfold xm_fv; rw [hty]⟩⟩
  | array C =>
    rw [hty] at hfs
    cases hv : xm_rv v with
    | none => simp [hv] at hfs
    | some o =>
      simp only [hv] at hfs
      have e : xm_sR h a k o = h' := Option.some.inj hfs
      subst e
      obtain ⟨a1, a2, a3, a4, a5, a6, a7, a8⟩ := mR o
      have ev := rv o hv
      exact ⟨by rw [ev]; cases o <;> rfl, by rw [ev]; cases o <;> rfl, by unfold xm_fv; rw [hty]; simp only [vR, ev], a1, a2, a3, a4, a5, a6, a7, a8, ⟨_, by unfold xm_fv; rw [hty]⟩⟩
  | float => rw [hty] at hfs; cases hfs
  | double => rw [hty] at hfs; cases hfs
  | _ =>
    rw [hty] at hfs
    cases v with
    | int x =>
      simp only at hfs
      split at hfs
      · rename_i hok
        have e : xm_sI h a k x = h' := Option.some.inj hfs
        subst e
        obtain ⟨a1, a2, a3, a4, a5, a6, a7, a8⟩ := mI x
        exact ⟨ok_nar hok, ok_fit hok, by unfold xm_fv; rw [hty]; simp only [vI], a1, a2, a3, a4, a5, a6, a7, a8, ⟨_, by unfold xm_fv; rw [hty]⟩⟩
      · cases hfs
    | _ => cases hfs
theorem xs_putfield {idx ci k a : Nat} {v : Value} {r : List Value} {h' : xm_H} (C : xs_Ctx D B cs p s m args meth c mi) (A : xs_At D B cs s h H locs) (hd : decode (xm_mC mi) pc = .ok (.putfield idx, 3)) (hf : xm_lkF (xm_mO mi) idx = some (ci, k)) (hk : xm_is ci (xm_K h a) = true) (hB : xm_B h ≤ a) (hpf : xm_pf mi ci k = true) (hfs : xm_fs ci k h a v = some h')
    (kk : ∀ H' locs', xs_At D B cs s h' H' locs' → W p l e R s m args below meth c H' locs' cells slots Q (F0 m (pc + 3) ls r)) : W p l e R s m args below meth c H locs cells slots Q (F0 m pc ls (v :: .ref a :: r)) := by
  obtain ⟨hx, hb, -, hown, hts, hname, hK, hap⟩ := C
  have h0 : ¬ xm_K h a = 0 := by
    intro q
    rw [q] at hk
    obtain ⟨sc, e1, -⟩ := xs_fld hf _ hk
    omega
  obtain ⟨cell, hcell, hc⟩ := A.2.2.1.2.2 a h0
  obtain ⟨sc, ref, cf, kf, fi, f, cC, kC, e1, hcc, hsc, ht, hfin, hdc, hkn, hl, hi, hi2, hst, hsl, hfc, hkC, hkind, hcls, hD1, hsv⟩ := xs_field hK hts hf hk hc
  obtain ⟨f1, f2, f3, f4, f5, f6, f7, f8, f9, f10, f11, w, f12⟩ := xs_fs_of hfs
  have fvt : ∀ (g : xm_H), xm_fv sc k g a = xm_fv ci k g a := fun g => by unfold xm_fv; rw [ht]
  have hlt : f.slot < cell.slots.size := k2_hasslot (hsv w (by rw [fvt]; exact f12))
  have hvm : cell.vm = .none := hc.2.2.1 hB
  have hty := xs_tyok sc hcc k hkn
  rw [← ht] at f1 f2
  have hfit := u_fits hfc hkC hkind (u_lays hts (xs_in sc hcc) hkn) hi2 hty f1 f2
  have hfinal : hasFlag f.accessFlags Acc.final = false ∨ (m.cls = cf ∧ meth.name = "<init>") := by
    have hlay := hts _ (xs_in sc hcc _ (u_in_lay hkn))
    unfold u_lay at hlay
    cases hfb : (xm_T sc k).2.2.2 with
    | false =>
      rw [if_neg (by rw [hfb]; decide)] at hlay
      exact Or.inl (u_store hfc hkC hkind hlay hi2 hty f1 f2).1
    | true =>
      rw [if_pos hfb] at hlay
      right
      rw [hfin] at hfb
      unfold xm_pf at hpf
      rw [hfb] at hpf
      simp only [Bool.not_true, Bool.false_or, Bool.and_eq_true, beq_iff_eq] at hpf
      refine ⟨?_, by rw [hname]; exact hpf.1⟩
      obtain ⟨_, _, c', _, _, _, -, -, hf', -, -, -, hown2, -⟩ := Cond.laysFinal_spec hlay
      have e9 : c' = cf := by have := hi2.symm.trans hf'; simp at this; exact this.1.symm
      rw [hdc, hpf.2] at hown2
      rw [← e9]
      exact Option.some.inj (hown.symm.trans hown2)
  have ha : a < H.size := (Array.getElem?_eq_some_iff.mp hcell).1
  have fin : ∀ (kk2 : W p l e R s m args below meth c (H.setIfInBounds a (cell.setSlot f.slot v)) (locs ++ [⟨a, f.slot⟩]) cells slots Q (F0 m (pc + 3) ls r)), W p l e R s m args below meth c H locs cells slots Q (F0 m pc ls (v :: .ref a :: r)) := by
    intro kk2
    rcases hl with hl | ⟨host, hl⟩
    · exact W.putf hx hb hown hl hi hst hfinal hcell hc.1 hlt hfit.1 (by rw [hvm, hcls]; exact hfit.2) rfl rfl hd kk2
    · exact va_Wputf hx hb hown hl hi hst hfinal hcell hc.1 hlt hfit.1 (by rw [hvm, hcls]; exact hfit.2) rfl rfl hd kk2
  refine fin (kk _ _ ⟨by rw [f4]; exact A.1, by rw [f5]; exact A.2.1, A.2.2.1.set f4 f6 f8 f10 (a := a) (cell := cell.setSlot f.slot v) (by simp [Array.getElem?_setIfInBounds, ha]) (by simp) (fun q hq => by simp [Array.getElem?_setIfInBounds, Ne.symm hq]) ?_, A.2.2.2.put (by simp) (fun q hq => by simp [Array.getElem?_setIfInBounds, Ne.symm hq]) (by rw [← A.1]; exact hB)⟩)
  refine ⟨hc.1, hc.2.1, fun _ => hvm, fun q => ?_, fun q => ?_⟩
  · rw [f8, e1] at q ⊢
    rw [Nat.add_sub_cancel]
    refine ⟨hcc, by rw [hD1]; exact hcls, fun j u hj hu => ?_⟩
    by_cases hjk : j = k
    · subst hjk
      rw [fvt, f3] at hu
      rw [← hsl, ← Option.some.inj hu]
      exact Cell.slots_setSlot_self _ hlt
    · have e5 : xm_fv sc j h a = some u := by
        rw [← hu]
        unfold xm_fv
        rw [(f11 j hjk).1, (f11 j hjk).2.1, (f11 j hjk).2.2]
      obtain ⟨-, -, hsv2⟩ := hc.2.2.2.1 (by omega)
      have es : xm_K h a - 1 = sc := by omega
      rw [es] at hsv2
      rw [hsl, slot_ne _ _ (hap sc hcc k j hkn hj (Ne.symm hjk))]
      exact hsv2 j u hj e5
  · rw [f8, e1] at q
    omega
end ST
