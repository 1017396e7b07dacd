/-! SOUNDNESS, sixth part: what the machine does itself -/
set_option maxRecDepth 100000
section SN
variable {D : va_G} {B : Nat} {cs : Nat → Value} {p : Program} {l : Launch} {e : Env} {R : Room} {s : State} {m : MethodId} {args : Array Value} {below : List Frame} {meth : Method} {c : Code} {H : Heap} {locs : List Loc} {cells slots : Nat} {Q : State → Prop}
variable {mi pc len : Nat} {lsA : List (Option Value)} {ls : Array Slot} {st : List Value} {h : xm_H}
theorem nn_int {z : Int32} (hz : ¬ z < 0) : z.toInt = (z.toNatClampNeg : Int) := by
  have hz0 : (0 : Int) ≤ z.toInt := by
    have := Int32.not_lt.mp hz
    simpa using Int32.le_iff_toInt_le.mp this
  show z.toInt = ((z.toInt.toNat : Nat) : Int)
  omega
theorem xs_copy {idx a b : Nat} {sp dp n : Int32} {r : List Value} (C : xs_Ctx D B cs p s m args meth c mi) (A : xs_At D B cs s h H locs) (hd : decode (xm_mC mi) pc = .ok (.invokestatic idx, 3)) (hlk : xm_lkY (xm_mO mi) idx = true) (hls : ls.size = c.maxLocals)
    (hc : (xm_K h a = 100 ∨ (xm_K h a = 101 ∧ (List.range n.toNatClampNeg).all (fun j => fits .byte (.int (xm_I h a (sp.toNatClampNeg + j)))) = true)) ∧ xm_K h b = xm_K h a ∧ xm_B h ≤ b ∧ ¬ a = b ∧ ¬ n < 0 ∧ ¬ sp < 0 ∧ ¬ dp < 0 ∧ sp.toNatClampNeg + n.toNatClampNeg ≤ xm_N h a ∧ dp.toNatClampNeg + n.toNatClampNeg ≤ xm_N h b ∧ xm_w r ≤ 8)
    (hfr : 1 ≤ R.frames) (hlo : 60 ≤ R.locals)
    (kk : ∀ H' locs', xs_At D B cs s (xm_cp h b dp.toNatClampNeg n.toNatClampNeg (fun j => xm_I h a (sp.toNatClampNeg + j))) H' locs' → W p l e R s m args below meth c H' locs' cells slots Q (F0 m (pc + 3) ls r)) : W p l e R s m args below meth c H locs cells slots Q (F0 m pc ls (.int n :: .int dp :: .ref b :: .int sp :: .ref a :: r)) := by
  obtain ⟨hx, hb, -, hown, hts, -, hK, -⟩ := C
  obtain ⟨hka, hkb, hBb, hab, h3, h1, h2, h4, h5, hw⟩ := hc
  obtain ⟨cS, tyS, hcS, hccS, t1, harS, -, hszS, hvS⟩ := xs_arr_of A (a := a) (by omega)
  obtain ⟨cD, tyD, hcD, hccD, t2, harD, -, hszD, hvD⟩ := xs_arr_of A (a := b) (by omega)
  have ety : tyD = tyS := by
    rw [hkb] at t2
    exact Option.some.inj (t2.symm.trans t1)
  subst ety
  have hlow : xm_K h a < 110 := by omega
  have hprim : refKind tyD = false ∧ ∀ i, i < n.toNatClampNeg → fits tyD (.int (xm_I h a (sp.toNatClampNeg + i))) = true := by
    rcases hka with q | ⟨q, hq⟩
    · rw [q] at t1
      cases t1
      exact ⟨rfl, fun _ _ => rfl⟩
    · rw [q] at t1
      cases t1
      exact ⟨rfl, fun i hi => List.all_eq_true.mp hq i (List.mem_range.mpr hi)⟩
  have nst : ∀ {cl : Cell}, cl.vm.isStatics = false → ∀ q, cl.vm ≠ .statics q := fun hz q e => by rw [e] at hz; cases hz
  obtain ⟨-, k0, hk0, cm0, hkk0⟩ := harS
  obtain ⟨-, k1, hk1, cm1, hkk1⟩ := harD
  have hread : ∀ i, i < n.toNatClampNeg → cS.slots.getD (sp.toNatClampNeg + i) .null = .int (xm_I h a (sp.toNatClampNeg + i)) := by
    intro i hi
    rw [Array.getD_eq_getD_getElem?, hvS _ (by omega)]
    unfold xs_av
    rw [if_neg (by omega)]
    rfl
  intro T hT X
  obtain ⟨vm', X', step⟩ := X.arraycopy hx hown (hts _ (xs_Y hlk)) (hts _ q715) (hts _ q714) (hts _ q113) (src := a) (dst := b) (cs := cS) (cd := cD) (srcPos := sp) (destPos := dp) (n := n) (by rw [hT]; exact hcS) (by rw [hT]; exact hcD)
    (nst hccS.2.1) (nst hccD.2.1) hccS.1 hccD.1 hk0 hk1 hkk0 hkk1 (by simp [hprim.1]) h1 h2 h3
    (by rw [nn_int h1, nn_int h3, hszS]; omega)
    (by rw [nn_int h2, nn_int h3, hszD]; omega)
    (fun vm₁ _ i hi => by
      refine ⟨?_, ?_⟩
      · rw [hread i hi]
        exact hprim.2 i hi
      · rw [hread i hi]
        exact trivial)
    (g := F0 m pc ls (.int n :: .int dp :: .ref b :: .int sp :: .ref a :: r)) rfl hls (rest := r) rfl (by rw [hb]; exact hd) hfr (by
      have e9 : nativeFrameWords "java/lang/System" "arraycopy" 5 = 7 := by decide +kernel
      have hw : (r.map fun v => v.category).sum ≤ 8 := hw
      show 2 * 0 + _ + _ ≤ _
      rw [e9]
      omega)
  generalize hcell : copied cS cD sp dp n = cN at X' step
  have hlen : (cS.stretch sp.toNatClampNeg n.toNatClampNeg).length = n.toNatClampNeg := by simp [Cell.stretch]
  have f := Cell.storeRun_facts cD dp.toNatClampNeg (cS.stretch sp.toNatClampNeg n.toNatClampNeg)
  have g := fun j => Cell.storeRun_get cD dp.toNatClampNeg (cS.stretch sp.toNatClampNeg n.toNatClampNeg) j (by rw [hlen, hszD]; exact h5)
  have hcell : cD.storeRun dp.toNatClampNeg (cS.stretch sp.toNatClampNeg n.toNatClampNeg) = cN := hcell
  rw [hcell, hlen] at g
  rw [hcell] at f
  have hl : b < H.size := (Array.getElem?_eq_some_iff.mp hcD).1
  have hheap : ((T.setVm vm').setCell b cN).heap = H.setIfInBounds b cN := by rw [← hT]; rfl
  have oq : ∀ q : Nat, q ≠ b → (H.setIfInBounds b cN)[q]? = H[q]? := fun q hq => by simp [Array.getElem?_setIfInBounds, Ne.symm hq]
  have hvm : cN.vm = cD.vm := f.2.1
  have hBB : B ≤ b := by rw [← A.1]; exact hBb
  obtain ⟨LL, hLL, X2⟩ : ∃ LL : List Loc, (∀ q ∈ LL, B ≤ q.base) ∧ Stand p l e R s m args below meth c ((T.setVm vm').setCell b cN) LL cells slots := by
    refine ⟨_, fun q hq => ?_, X'⟩
    rcases List.mem_append.mp hq with z | z
    · exact A.2.2.2.2.2 q z
    · obtain ⟨i, -, hi⟩ := List.mem_map.mp z
      rw [← hi]
      exact hBB
  have hcell9 : xs_cell D s (xm_cp h b dp.toNatClampNeg n.toNatClampNeg (fun j => xm_I h a (sp.toNatClampNeg + j))) b cN := by
    refine ⟨by rw [hvm]; exact hccD.1, by rw [hvm]; exact hccD.2.1, fun _ => by rw [hvm]; exact hccD.2.2.1 hBb, fun q => ?_, fun q => ?_⟩
    · have q : xm_K h b < 100 := q
      omega
    · refine ⟨tyD, t2, ⟨by rw [hvm]; exact nst hccD.2.1, k1, by rw [f.1]; exact hk1, cm1, hkk1⟩, fun hr => ?_, by rw [f.2.2.1]; exact hszD, fun j hj => ?_⟩
      · rcases hka with z | ⟨z, -⟩ <;> (rw [z] at t1; cases t1; cases hr)
      · rw [g j]
        have hj : j < xm_N h b := hj
        have nlow : ¬ 110 ≤ xm_K h b := by omega
        show _ = some (xs_av (xm_K h b) _ b j)
        unfold xs_av
        rw [if_neg nlow, h_I_cp]
        by_cases z : dp.toNatClampNeg ≤ j ∧ j < dp.toNatClampNeg + n.toNatClampNeg
        · rw [if_pos z, if_pos ⟨rfl, z⟩]
          have hi : j - dp.toNatClampNeg < n.toNatClampNeg := by omega
          rw [show (cS.stretch sp.toNatClampNeg n.toNatClampNeg)[j - dp.toNatClampNeg]? = some (cS.slots.getD (sp.toNatClampNeg + (j - dp.toNatClampNeg)) .null) by simp [Cell.stretch, hi]]
          rw [hread _ hi]
        · rw [if_neg z, if_neg (fun y => z y.2), hvD j hj]
          unfold xs_av
          rw [if_neg nlow]
  obtain ⟨t, a1, b1⟩ := kk (H.setIfInBounds b cN) LL ⟨A.1, A.2.1, A.2.2.1.set (a := b) (cell := cN) rfl rfl rfl (fun q hq => ⟨rfl, rfl, by funext j; rw [h_I_cp, if_neg (fun z => hq z.1)], rfl, rfl⟩) (by simp [Array.getElem?_setIfInBounds, hl]) (by simp) oq hcell9, ⟨by simp; exact A.2.2.2.1, fun q g1 g2 => by
    rw [oq q (fun e => g2 (by rw [e]; exact hBB))]
    exact A.2.2.2.2.1 q g1 g2, hLL⟩⟩ _ hheap X2
  exact ⟨t, step t a1, b1⟩
/-- the grid of lines -/
theorem xs_grid {idx : Nat} {k : Int32} {r : List Value} (C : xs_Ctx D B cs p s m args meth c mi) (A : xs_At D B cs s h H locs) (hd : decode (xm_mC mi) pc = .ok (.multianewarray idx 2, 4)) (hlk : xm_lkW (xm_mO mi) idx = true) (hk : ¬ k < 0 ∧ k.toNatClampNeg ≤ 1000)
    (hcells : cells + 3 ≤ R.cells) (hslots : slots + (2 + k.toNatClampNeg + k.toNatClampNeg) ≤ R.slots)
    (kk : ∀ H' locs', xs_At D B cs s (xm_sR (xm_sR (xm_nw (xm_nw (xm_nw h 112 2 2) 113 k.toNatClampNeg k.toNatClampNeg) 113 k.toNatClampNeg k.toNatClampNeg) (xm_Z h) 0 (some (xm_Z h + 1))) (xm_Z h) 1 (some (xm_Z h + 2))) H' locs' → W p l e R s m args below meth c H' locs' (cells + 3) (slots + (2 + k.toNatClampNeg + k.toNatClampNeg)) Q (F0 m (pc + 4) ls (.ref (xm_Z h) :: r))) : W p l e R s m args below meth c H locs cells slots Q (F0 m pc ls (.int k :: .int 2 :: r)) := by
  obtain ⟨hx, hb, -, hown, hts, -, hK, -⟩ := C
  have hao : va_AOA s := hK.2.2.2.2.1
  obtain ⟨comp1, c1, k1, o1, -, o3, o4, o5⟩ := arrOverA hao
  obtain ⟨comp2, c2, k2, i1, -, i3, i4, i5⟩ := Cond.arrayOver_spec (va_AO.use (A := args) (hK.2.2.2.1 "CliffHoney$Line" (List.mem_of_getElem? (i := 2) rfl)))
  intro T hT X
  obtain ⟨vm₁, cA, comp, hW, hfA, hfC, hO, hI, X', step⟩ := X.multianewarray2F hx (own := xm_oN (xm_mO mi)) (index := idx) (ty := .object "CliffHoney$Line") hown (hts _ (xs_W1 hlk)) hao (hts _ q269)
    (g := F0 m pc ls (.int k :: .int 2 :: r)) rfl (by rw [hb]; exact hd) (n := 2) (k := k) (rest := r) rfl (by decide) hk.1 (by decide) (by show _ * 4 ≤ _; have := hk.2; omega) (by have := hk.2; omega) rfl rfl hcells (by show _ + ((2 : Nat) + 2 * _) ≤ _; omega)
  have n2 : (2 : Int32).toNatClampNeg = 2 := by decide
  rw [n2] at X' step
  have ecA : c1 = cA := Option.some.inj (o5.symm.trans hfA)
  have ecI : c2 = comp := Option.some.inj (i5.symm.trans hfC)
  subst ecA
  subst ecI
  obtain ⟨f1, f2, -, -⟩ := Multi.fill_facts (T.setVm vm₁) c1 c2 2 k.toNatClampNeg .null 2
  have f3 := fun j hj => Multi.fill_inner (T.setVm vm₁) c1 c2 2 k.toNatClampNeg .null 2 j hj
  have f4 := fun {a : Addr} (ha : a < (T.setVm vm₁).heap.size) => Multi.fill_old (T.setVm vm₁) c1 c2 2 k.toNatClampNeg .null ha 2
  have hsz : (T.setVm vm₁).heap.size = xm_Z h := by show T.heap.size = _; rw [hT]; exact A.2.2.1.1
  rw [hsz] at f1 f2 f3
  have hTZ : T.heap.size = xm_Z h := by rw [hT]; exact A.2.2.1.1
  rw [hTZ] at step
  generalize hF : Multi.fill (T.setVm vm₁) c1 c2 2 k.toNatClampNeg (defaultValue (.object "CliffHoney$Line")) 2 = F at X' step
  have hF : Multi.fill (T.setVm vm₁) c1 c2 2 k.toNatClampNeg .null 2 = F := hF
  rw [hF] at f1 f2 f3 f4
  have cmpO : ∀ cl : Cell, cl.cls = c1 → xs_comp s cl (.array (.object "CliffHoney$Line")) := fun cl e _ => ⟨k1, comp1, by rw [e]; exact o3, o4, o1, by rw [e]; exact o5⟩
  have cmpI : ∀ cl : Cell, cl.cls = c2 → xs_comp s cl (.object "CliffHoney$Line") := fun cl e _ => ⟨k2, comp2, by rw [e]; exact i3, i4, i1, by rw [e]; exact i5⟩
  have hHZ := A.2.2.1.1
  -- the three cells, one after another
  have A1 : xs_At D B cs s (xm_nw h 112 2 2) (H.push (Multi.outerC c1 2 (xm_Z h) 0)) locs := by
    refine xs_mkarr (cell := Multi.outerC c1 2 (xm_Z h) 0) A rfl (by decide) rfl (hO 2 (xm_Z h) 0).1 (cmpO _ rfl) (by simp [Multi.outerC]) (fun j hj => ?_) (by rw [← hHZ]; simp) (by simp [hHZ]) (fun q hq => by rw [Array.getElem?_push, if_neg (by omega)])
    rw [Multi.outerC_slot _ _ _ _ _ hj]
    rfl
  have I : ∀ (g : xm_H) (G : Heap), xs_At D B cs s g G locs → xs_At D B cs s (xm_nw g 113 k.toNatClampNeg k.toNatClampNeg) (G.push (Multi.innerC c2 k.toNatClampNeg .null)) locs := by
    intro g G Ag
    have hg := Ag.2.2.1.1
    refine xs_mkarr (cell := Multi.innerC c2 k.toNatClampNeg .null) Ag rfl (by decide) rfl (hI _ _).1 (cmpI _ rfl) (by simp [Multi.innerC]) (fun j hj => ?_) (by rw [← hg]; simp) (by simp [hg]) (fun q hq => by rw [Array.getElem?_push, if_neg (by omega)])
    simp [Multi.innerC, hj]
  have A3 := I _ _ (I _ _ A1)
  generalize hG : (((H.push (Multi.outerC c1 2 (xm_Z h) 0)).push (Multi.innerC c2 k.toNatClampNeg .null)).push (Multi.innerC c2 k.toNatClampNeg .null)) = G at A3
  have g0 : G[xm_Z h]? = some (Multi.outerC c1 2 (xm_Z h) 0) := by
    rw [← hG, Array.getElem?_push, if_neg (by simp only [Array.size_push, hHZ]; omega), Array.getElem?_push, if_neg (by simp only [Array.size_push, hHZ]; omega), Array.getElem?_push, if_pos hHZ.symm]
  have g1 : G[xm_Z h + 1]? = some (Multi.innerC c2 k.toNatClampNeg .null) := by
    rw [← hG, Array.getElem?_push, if_neg (by simp only [Array.size_push, hHZ]; omega), Array.getElem?_push, if_pos (by simp [hHZ])]
  have g2 : G[xm_Z h + 2]? = some (Multi.innerC c2 k.toNatClampNeg .null) := by
    rw [← hG, Array.getElem?_push, if_pos (by simp [hHZ])]
  have g3 : ∀ q, q < xm_Z h → G[q]? = H[q]? := by
    intro q hq
    rw [← hG, Array.getElem?_push, if_neg (by simp; omega), Array.getElem?_push, if_neg (by simp; omega), Array.getElem?_push, if_neg (by omega)]
  have gz : G.size = xm_Z h + 3 := by
    rw [← hG]
    simp [hHZ]
  generalize hh3 : xm_nw (xm_nw (xm_nw h 112 2 2) 113 k.toNatClampNeg k.toNatClampNeg) 113 k.toNatClampNeg k.toNatClampNeg = h3 at A3 kk
  have kz : xm_K h3 (xm_Z h) = 112 := by
    rw [← hh3]
    simp only [h_K_nw, h_Z_nw]
    rw [if_neg (by omega), if_neg (by omega), if_pos trivial]
  have nz : xm_N h3 (xm_Z h) = 2 := by
    rw [← hh3]
    simp only [h_N_nw, h_Z_nw]
    rw [if_neg (by omega), if_neg (by omega), if_pos trivial]
  have bz : xm_B h3 = xm_B h := by rw [← hh3]; rfl
  have hBZ : xm_B h ≤ xm_Z h := A.2.2.1.2.1
  have step1 : ∀ (g : xm_H) (G G' : Heap) (ol : List Loc) (j : Nat) (x : Option Nat) (cell : Cell), xs_At D B cs s g G ol → xm_K g (xm_Z h) = 112 → xm_N g (xm_Z h) = 2 → xm_B g = xm_B h → j < 2 → G[xm_Z h]? = some cell → G'[xm_Z h]? = some (cell.setSlot j (va_rf x)) → G'.size = G.size → (∀ q, q ≠ xm_Z h → G'[q]? = G[q]?) → xs_At D B cs s (xm_sR g (xm_Z h) j x) G' (ol ++ [⟨xm_Z h, j⟩]) := by
    intro g G G' ol j x cell Ag e1 e2 e3 hj hc hc' hz ho
    obtain ⟨cell', hcell, hcc⟩ := Ag.2.2.1.2.2 (xm_Z h) (by omega)
    cases Option.some.inj (hc.symm.trans hcell)
    exact xs_aset_R Ag hc hcc (by omega) (by omega) (by omega) hc' hz ho
  have A4 := step1 h3 G (G.setIfInBounds (xm_Z h) ((Multi.outerC c1 2 (xm_Z h) 0).setSlot 0 (va_rf (some (xm_Z h + 1))))) locs 0 (some (xm_Z h + 1)) _ A3 kz nz bz (by decide) g0 (by simp [Array.getElem?_setIfInBounds, gz]) (by simp) (fun q hq => by simp [Array.getElem?_setIfInBounds, Ne.symm hq])
  have A5 := step1 (xm_sR h3 (xm_Z h) 0 (some (xm_Z h + 1))) _ F.heap _ 1 (some (xm_Z h + 2)) ((Multi.outerC c1 2 (xm_Z h) 0).setSlot 0 (va_rf (some (xm_Z h + 1)))) A4 kz nz bz (by decide) (by simp [Array.getElem?_setIfInBounds, gz]) (by rw [f2]; rfl) (by rw [f1]; simp [gz]) (fun q hq => by
    rw [Array.getElem?_setIfInBounds, if_neg (Ne.symm hq)]
    by_cases c1 : q < xm_Z h
    · rw [f4 (by rw [hsz]; exact c1), g3 q c1]
      show T.heap[q]? = _
      rw [hT]
    · by_cases c2 : q = xm_Z h + 1
      · rw [c2, g1]
        exact f3 0 (by decide)
      · by_cases c3 : q = xm_Z h + 2
        · rw [c3, g2]
          exact f3 1 (by decide)
        · rw [Array.getElem?_eq_none (by rw [f1]; omega), Array.getElem?_eq_none (by rw [gz]; omega)])
  have A6 : xs_At D B cs s (xm_sR (xm_sR h3 (xm_Z h) 0 (some (xm_Z h + 1))) (xm_Z h) 1 (some (xm_Z h + 2))) F.heap locs := ⟨A5.1, A5.2.1, A5.2.2.1, A5.2.2.2.1, A5.2.2.2.2.1, A.2.2.2.2.2⟩
  have X9 : Stand p l e R s m args below meth c F locs (cells + 3) (slots + (2 + k.toNatClampNeg + k.toNatClampNeg)) := by
    have e1 : cells + 1 + 2 = cells + 3 := by omega
    have e2 : slots + 2 + 2 * k.toNatClampNeg = slots + (2 + k.toNatClampNeg + k.toNatClampNeg) := by omega
    rw [e1, e2] at X'
    exact X'
  obtain ⟨t, a1, b1⟩ := kk _ locs A6 F rfl X9
  exact ⟨t, step t a1, b1⟩
theorem xs_native {i : Instr} {d z0 s0 : Nat} {pc' : Nat} {ls' : List (Option Value)} {st' : List Value} {h' : xm_H} (C : xs_Ctx D B cs p s m args meth c mi) (A : xs_At D B cs s h H locs) (hd : decode (xm_mC mi) pc = .ok (i, len)) (hln : xm_ln i len = true) (hl : lv_has ls (xm_mL mi) (xm_al lsA)) (hs : xm_nat mi i pc lsA st h = some (pc', ls', st', h'))
    (hz : z0 ≤ xm_Z h) (hs0 : s0 ≤ xm_S h) (hZ : xm_Z h' - z0 ≤ R.cells) (hS : xm_S h' - s0 ≤ R.slots) (hfr : d + 1 ≤ R.frames) (hlo : (d + 1) * 60 ≤ R.locals)
    (kk : xs_Kk D B cs p l e R s m args below meth c Q mi z0 s0 pc' ls' st' h') : W p l e R s m args below meth c H locs (xm_Z h - z0) (xm_S h - s0) Q (F0 m pc ls st) := by
  have hx := C.1
  have hb := C.2.1
  have hml := C.2.2.1
  have hown := C.2.2.2.1
  have hts := C.2.2.2.2.1
  have L1 : ∀ n, (len == n) = true → len = n := fun n q => by simpa using q
  have hlsz : ls.size = c.maxLocals := by rw [hml]; exact hl.1
  cases i with
  | invokespecial idx =>
    cases L1 _ hln
    simp only [xm_nat] at hs
    split at hs
    · rename_i g
      split at hs
      · split at hs
        · rename_i hw
          cases hs
          exact W.objInit hx hb hown (hts _ (xs_O g)) (hts _ q139) (hts _ q140) rfl hlsz rfl hd (by omega) (by have hw : (_ : Nat) ≤ 8 := hw; unfold xm_w at hw; show 2 * 0 + _ + 12 ≤ _; omega) (kk _ _ _ A hl)
        · cases hs
      · cases hs
    · cases hs
  | invokestatic idx =>
    cases L1 _ hln
    simp only [xm_nat] at hs
    split at hs
    · rename_i f g
      have hZ' : h' = h → xm_Z h - z0 ≤ R.cells ∧ xm_S h - s0 ≤ R.slots := fun q => by rw [← q]; exact ⟨hZ, hS⟩
      rcases xs_N g with ⟨rfl, hw1⟩ | ⟨rfl, hw1⟩ | ⟨rfl, hw1⟩
      · simp only [xm_mth] at hs
        split at hs
        · split at hs
          · rename_i hw
            cases hs
            exact va_mmax hx hb hlsz.symm hown (hts _ hw1) (hts _ q582) (hts _ q106) (hts _ q583) (by omega) (by unfold xm_w at hw; omega) (hZ' rfl).1 (hZ' rfl).2 hd (kk _ _ _ A hl)
          · cases hs
        · cases hs
      · simp only [xm_mth] at hs
        split at hs
        · split at hs
          · rename_i hw
            cases hs
            exact va_mmin hx hb hlsz.symm hown (hts _ hw1) (hts _ q563) (hts _ q106) (hts _ q564) (by omega) (by unfold xm_w at hw; omega) (hZ' rfl).1 (hZ' rfl).2 hd (kk _ _ _ A hl)
          · cases hs
        · cases hs
      · simp only [xm_mth] at hs
        split at hs
        · split at hs
          · rename_i hw
            cases hs
            exact va_mabs hx hb hlsz.symm hown (hts _ hw1) (hts _ q594) (hts _ q106) (hts _ q595) (by omega) (by unfold xm_w at hw; omega) (hZ' rfl).1 (hZ' rfl).2 hd (kk _ _ _ A hl)
          · cases hs
        · cases hs
    · split at hs
      · rename_i g
        split at hs
        · split at hs
          · rename_i hc
            cases hs
            exact xs_copy C A hd g hlsz hc (by omega) (by omega) (fun H' l' A' => kk _ _ _ A' hl)
          · cases hs
        · cases hs
      · cases hs
  | multianewarray idx dm =>
    cases L1 _ hln
    simp only [xm_nat] at hs
    split at hs
    · rename_i g0
      obtain ⟨g, hdm2⟩ := g0
      split at hs
      · rename_i mm nn r
        split at hs
        · rename_i hc
          cases hs
          obtain ⟨rfl, hc2⟩ := hc
          by_cases hdm : dm = 2
          · subst hdm
            have eZ : xm_Z (xm_sR (xm_sR (xm_nw (xm_nw (xm_nw h 112 2 2) 113 mm.toNatClampNeg mm.toNatClampNeg) 113 mm.toNatClampNeg mm.toNatClampNeg) (xm_Z h) 0 (some (xm_Z h + 1))) (xm_Z h) 1 (some (xm_Z h + 2))) = xm_Z h + 3 := rfl
            have eS : xm_S (xm_sR (xm_sR (xm_nw (xm_nw (xm_nw h 112 2 2) 113 mm.toNatClampNeg mm.toNatClampNeg) 113 mm.toNatClampNeg mm.toNatClampNeg) (xm_Z h) 0 (some (xm_Z h + 1))) (xm_Z h) 1 (some (xm_Z h + 2))) = xm_S h + (2 + mm.toNatClampNeg + mm.toNatClampNeg) := by
              show xm_S h + 2 + mm.toNatClampNeg + mm.toNatClampNeg = _
              omega
            rw [eZ] at hZ
            rw [eS] at hS
            refine xs_grid C A hd g hc2 (by omega) (by omega) (fun H' l' A' => ?_)
            have k9 := kk H' l' _ A' hl
            rw [eZ, eS, show xm_Z h + 3 - z0 = xm_Z h - z0 + 3 by omega, show xm_S h + (2 + mm.toNatClampNeg + mm.toNatClampNeg) - s0 = xm_S h - s0 + (2 + mm.toNatClampNeg + mm.toNatClampNeg) by omega] at k9
            exact k9
          · exact absurd hdm2 hdm
        · cases hs
      · cases hs
    · cases hs
  | _ => cases hs
end SN
