/-! SOUNDNESS, seventh part: calls, and the theorem -/
set_option maxRecDepth 100000
/-- a private method of a class above is the one that is selected -/
theorem xs_selp {C : String} {x y : MethodName} {s : State} {args : Array Value} (h : (Cond.selects C x x).before args s = true) (hp : (Cond.privateMethod y).before args s = true) (hi : (Cond.instanceMethod y).before args s = true) (hy : y.cls ≠ "java/lang/invoke/MethodHandle" ∧ y.cls ≠ "java/lang/invoke/VarHandle") (hc : y.cls = x.cls) : (Cond.selects C y y).before args s = true := by
  obtain ⟨c, r, m, h1, h2, h3, h4, mk0, h5, h6⟩ := Cond.selects_spec h
  obtain ⟨mk, methM, hnamed, hmethM, -, -⟩ := Cond.instanceMethod_spec hi
  have hfound : s.methodFound? y.cls y.name y.desc = some mk := State.methodFound?_of_named hnamed hy
  have e1 : mk.cls = m.cls := by
    have a1 := findClass_of_methodNamed hnamed
    have a2 := findClass_of_methodNamed h3
    rw [hc] at a1
    exact Option.some.inj (a1.symm.trans a2)
  have hsel : selectMethod {} s.vm c mk = .method mk := selectMethod_private hmethM (Cond.privateMethod_at hp mk methM hnamed hmethM)
  simp only [Cond.before, Cond.holds, Cond.value, h1, hfound, hnamed, hsel, e1, h5]
  simp
  exact h6
def xs_Pre (D : va_G) (B : Nat) (cs : Nat → Value) (h : xm_H) (as : List Value) : Array Value → State → Prop := va_Pc as (fun U => xs_K D B cs U ∧ xs_Rep D U h U.heap)
def xs_Post (D : va_G) (B : Nat) (o : xm_O) (h' : xm_H) : Array Value → State → Outcome → State → Prop := fun _ st oc t => (∃ v, o = .inl v ∧ oc = .returned v ∧ xs_Rep D t h' t.heap) ∧ va_F (xs_A B) st t
def xs_PX (D : va_G) (B : Nat) (o : xm_O) (h' : xm_H) : String → Addr → State → State → Prop := fun E q st t => E = "CliffHoney$Fault" ∧ o = .inr q ∧ xs_Rep D t h' t.heap ∧ va_F (xs_A B) st t
theorem xs_Pre.blind {D : va_G} {B : Nat} {cs : Nat → Value} {h : xm_H} {as : List Value} : FrameBlind (xs_Pre D B cs h as) := by
  intro a U g mk hp
  obtain ⟨e, hK, hR⟩ := hp
  refine ⟨e, ?_, ?_⟩
  · exact hK.warm (U := U.calling g mk a) (State.WarmedH.refl U) rfl va_S.rf
  · exact hR.moved (u := U) (U := U.calling g mk a) (Vm.Alike.refl U.vm)
/-- the room of a method at depth d -/
def xs_rm (d mc ms : Nat) : Room := { frames := d, cells := mc, slots := ms, locals := d * 60 }
section SC
variable {D : va_G} {B : Nat} {cs : Nat → Value} {p : Program} {l : Launch} {e : Env} {R : Room} {s : State} {m : MethodId} {args : Array Value} {below : List Frame} {meth : Method} {c : Code} {H : Heap} {locs : List Loc} {cells slots : Nat} {Q : State → Prop}
variable {mi pc len : Nat} {lsA : List (Option Value)} {ls : Array Slot} {st : List Value} {h : xm_H}
theorem xs_room {d mL : Nat} (h1 : d + 1 ≤ R.frames) (h2 : (d + 1) * 60 ≤ R.locals) (hm : mL ≤ 40) (mc ms : Nat) : (xs_rm d mc ms).frames + 1 ≤ R.frames ∧ 8 + (mL + 11) + (xs_rm d mc ms).locals ≤ R.locals := ⟨h1, by show _ + d * 60 ≤ _; omega⟩
theorem xs_callrun {i : Instr} {y d mc ms : Nat} {as r : List Value} {Qc : Array Value → State → Outcome → State → Prop} {XC : String → Addr → State → State → Prop} {free : Addr → Prop} (C : xs_Ctx D B cs p s m args meth c mi) (A : xs_At D B cs s h H locs) (hd : decode (xm_mC mi) pc = .ok (i, len)) (hln : xm_ln i len = true) (hlsz : ls.size = c.maxLocals) (hcal : xm_cal mi i st h = some (y, as, r)) (h18 : ¬ y = 18)
    (hM : vx_Met l (xm_mY y) (ws_ (xm_mY y) (xm_mC y) (xm_mL y) (xm_mT y)) (xs_rm d mc ms) (xs_Pre D B cs h as) Qc XC mc ms free) (hfr : d + 1 ≤ R.frames) (hlo : (d + 1) * 60 ≤ R.locals) (hf : cells + mc ≤ R.cells ∧ slots + ms ≤ R.slots) :
    vx_Run p l e R s m args below meth c H locs cells slots mc ms (F0 m pc ls st) r (Qc as.toArray) XC free := by
  obtain ⟨hx, hb, hml, hown, hts, hname, hK, hap⟩ := C
  have S : CallFix p m c (xm_mC mi) (xm_mL mi) s args lw_all (xm_oN (xm_mO mi)) := ⟨hx, hb, hml, hown, hts⟩
  have hpS : ∀ as, PreS s H (xs_Pre D B cs h as) as := fun as => ⟨xs_Pre.blind, fun U hU hW => ⟨rfl, hK.warm hW hU A.2.2.2, by rw [hU]; exact A.2.2.1.moved hW.alike⟩⟩
  have L1 : ∀ n, (len == n) = true → len = n := fun n q => by simpa using q
  have hnl : ls.size = xm_mL mi := hlsz.trans hml
  have cwB : ∀ {idx : Nat}, xs_Mok y → Cond.methodLink (xm_oN (xm_mO mi)) idx (xm_mY y) ∈ lw_all → CallB R s args (xm_oN (xm_mO mi)) idx (xm_mY y) (xm_mC y) (xm_mL y) (xm_mT y) (ws_ (xm_mY y) (xm_mC y) (xm_mL y) (xm_mT y)) (xs_rm d mc ms) mc ms (xm_mP y) := by
    intro idx hy hl
    obtain ⟨y1, y2, y3, y4, y5, y6, y7, y8⟩ := hy
    exact callB_of (xm_mP y) hts (lw_meth y1) rfl rfl rfl (hts _ y2) (hts _ hl) ⟨y6, y7, y8⟩ (xs_room hfr hlo y5 mc ms)
  have cwN : ∀ {idx : Nat} {host : String}, xs_Mok y → Cond.methodLinkNest (xm_oN (xm_mO mi)) idx (xm_mY y) host ∈ xs_nest → va_CN R s args (xm_oN (xm_mO mi)) idx (xm_mY y) host (xm_mC y) (xm_mL y) (xm_mT y) (ws_ (xm_mY y) (xm_mC y) (xm_mL y) (xm_mT y)) (xs_rm d mc ms) mc ms (xm_mP y) := by
    intro idx host hy hl
    obtain ⟨y1, y2, y3, y4, y5, y6, y7, y8⟩ := hy
    exact va_cnB (xm_mP y) hts (lw_meth y1) rfl rfl rfl (hK.2.1 _ hl) (hts _ y2) ⟨y6, y7, y8⟩ (xs_room hfr hlo y5 mc ms)
  cases i with
  | invokestatic idx =>
    cases L1 _ hln
    simp only [xm_cal] at hcal
    split at hcal
    · rename_i y9 g
      split at hcal
      · rename_i hc
        cases hcal
        obtain ⟨hy, hst, hl⟩ := xs_S g
        have hstk : st = (st.take (xm_mP y)).reverse.reverse ++ st.drop (xm_mP y) := by rw [List.reverse_reverse, List.take_append_drop]
        have hn : (st.take (xm_mP y)).reverse.length = xm_mP y := by rw [List.length_reverse, List.length_take]; omega
        have hw : 2 * (F0 m pc ls st).monitorRoom + ((st.drop (xm_mP y)).map fun v => v.category).sum ≤ 8 := by
          have := hc.2.1
          unfold xm_w at this
          show 2 * 0 + _ ≤ 8
          omega
        rcases hl with hl | ⟨host, hl⟩
        · exact vx_runS S hM ⟨cwB hy hl, hts _ hst⟩ (hpS _) rfl hn hnl hstk hw hd hf
        · exact vx_runSN S hM ⟨cwN hy hl, hts _ hst, trivial⟩ (hpS _) rfl hn hnl hstk hw hd hf
      · cases hcal
    · cases hcal
  | invokespecial idx =>
    cases L1 _ hln
    simp only [xm_cal] at hcal
    split at hcal
    · rename_i y9 g
      split at hcal
      · rename_i a r9 gd
        split at hcal
        · rename_i hc
          cases hcal
          obtain ⟨hy, hin, hl⟩ := xs_P g
          have hlen : xm_mP y ≤ st.length := by
            rcases Nat.lt_or_ge st.length (xm_mP y) with q | q
            · rw [List.drop_eq_nil_of_le (Nat.le_of_lt q)] at gd
              cases gd
            · exact q
          have hstk : st = (st.take (xm_mP y)).reverse.reverse ++ .ref a :: r := by rw [List.reverse_reverse, ← gd, List.take_append_drop]
          have hn : (st.take (xm_mP y)).reverse.length = xm_mP y := by rw [List.length_reverse, List.length_take]; omega
          have hw : 2 * (F0 m pc ls st).monitorRoom + (r.map fun v => v.category).sum ≤ 8 := by
            have := hc.1
            unfold xm_w at this
            show 2 * 0 + _ ≤ 8
            omega
          rcases hl with ⟨hnm, hT, hl⟩ | ⟨hz, hl, hsm, hsu, hnm⟩
          · rcases hl with hl | ⟨host, hl⟩
            · have cw := cwB hy hl
              rw [hT] at hM cw
              exact vx_runI S hM ⟨cw, hnm, hts _ hin⟩ (hpS _) rfl hn hnl hstk hw hd hf
            · have cw := cwN hy hl
              rw [hT] at hM cw
              exact vx_runIN S hM ⟨cw, hnm, hts _ hin⟩ (hpS _) rfl hn hnl hstk hw hd hf
          · have hk := hc.2.1 hz
            obtain ⟨cell, hcell, hcl⟩ := A.2.2.1.2.2 a (by omega)
            obtain ⟨-, hcls, -⟩ := hcl.2.2.2.1 (by omega)
            rw [hk] at hcls
            have hat := (hK.1 26 (by decide)).2
            obtain ⟨y1, y2, y3, y4, y5, y6, y7, y8⟩ := hy
            have hpV : PreV s H (xm_oN 26) a (xs_Pre D B cs h (.ref a :: (st.take (xm_mP y)).reverse)) (st.take (xm_mP y)).reverse := ⟨xs_Pre.blind, ⟨cell, hcell, hcl.2.1, by rw [hcls]; exact hat.1⟩, (hpS _).2⟩
            have cw : va_CS R s args (xm_oN (xm_mO mi)) idx (xm_mY y) (xm_mC y) (xm_mL y) (xm_mT y) (ws_ (xm_mY y) (xm_mC y) (xm_mL y) (xm_mT y)) (xs_rm d mc ms) mc ms (xm_mP y) := by
              refine ⟨⟨rfl, rfl, (xs_room hfr hlo y5 mc ms).1, (xs_room hfr hlo y5 mc ms).2, pay_in hts (lw_meth y1), List.mem_cons_self⟩, hts _ hl, hts _ hsm, hts _ hsu, hts _ hin, hts _ y2, hts _ y1, hnm, fun sig hsig => ?_⟩
              rw [hsig] at y8
              exact (Option.some.inj y8).symm
            exact vx_runSU hat S hM cw hpV rfl hn hnl hstk hw hd hf
        · cases hcal
      · cases hcal
    · cases hcal
  | invokevirtual idx =>
    cases L1 _ hln
    simp only [xm_cal] at hcal
    split at hcal
    · rename_i n g
      split at hcal
      · rename_i a r9 gd
        split at hcal
        · rename_i y9 gr
          split at hcal
          · rename_i hc
            cases hcal
            rcases xs_R gr with q | ⟨sc, e1, hcc, hy, hin, hl⟩
            · exact absurd q h18
            have hn0 := hc.2.1
            subst hn0
            have hlen : xm_mP y ≤ st.length := by
              rcases Nat.lt_or_ge st.length (xm_mP y) with q | q
              · rw [List.drop_eq_nil_of_le (Nat.le_of_lt q)] at gd
                cases gd
              · exact q
            have hstk : st = (st.take (xm_mP y)).reverse.reverse ++ .ref a :: r := by rw [List.reverse_reverse, ← gd, List.take_append_drop]
            have hn : (st.take (xm_mP y)).reverse.length = xm_mP y := by rw [List.length_reverse, List.length_take]; omega
            have hw : 2 * (F0 m pc ls st).monitorRoom + (r.map fun v => v.category).sum ≤ 8 := by
              have := hc.1
              unfold xm_w at this
              show 2 * 0 + _ ≤ 8
              omega
            have hsc : sc < 99 := by
              have h9 : sc ∈ ([0, 1, 2, 3, 4, 5, 7, 8, 9, 11, 12, 13, 14, 15, 16, 17, 19, 20, 21, 26, 27] : List Nat) := List.contains_iff_mem.mp hcc
              simp only [List.mem_cons, List.not_mem_nil, or_false] at h9
              omega
            obtain ⟨cell, hcell, hcl⟩ := A.2.2.1.2.2 a (by omega)
            obtain ⟨-, hcls, -⟩ := hcl.2.2.2.1 (by omega)
            have es : xm_K h a - 1 = sc := by omega
            rw [es] at hcls
            have hpV : PreV s H (xm_oN sc) a (xs_Pre D B cs h (.ref a :: (st.take (xm_mP y)).reverse)) (st.take (xm_mP y)).reverse := ⟨xs_Pre.blind, ⟨cell, hcell, hcl.2.1, by rw [hcls]; exact (hK.1 sc hcc).2.1⟩, (hpS _).2⟩
            rcases hl with ⟨hl, hse⟩ | ⟨host, hl, hse⟩ | ⟨x, owner, hl, hsm, hdc, hse, hno⟩
            · have hse2 : (Cond.selects (xm_oN sc) (xm_mY y) (xm_mY y)).before args s = true := by
                rcases hse with q | q
                · exact hts _ q
                · exact va_Nw.use rfl (hK.2.2.1 _ q)
              exact vx_runV S hM ⟨cwB hy hl, hts _ hin, hse2⟩ hpV rfl hn hnl hstk hw hd hf
            · exact vx_runVN S hM ⟨cwN hy hl, hts _ hin, hts _ hse⟩ hpV rfl hn hnl hstk hw hd hf
            · obtain ⟨y1, y2, y3, y4, y5, y6, y7, y8⟩ := hy
              have hdecl : va_Decl s ⟨owner, x.name, x.desc⟩ := by
                rcases hdc with ⟨b, mL, r9, d1, d2⟩ | d1
                · exact va_Decl.of (hts _ d1) (hts _ d2)
                · exact va_Decl.abs (hK.2.2.1 _ d1)
              have cw : va_CU R s args (xm_oN (xm_mO mi)) (xm_oN sc) owner idx x (xm_mY y) (xm_mC y) (xm_mL y) (xm_mT y) (ws_ (xm_mY y) (xm_mC y) (xm_mL y) (xm_mT y)) (xs_rm d mc ms) mc ms (xm_mP y) := by
                refine ⟨⟨rfl, rfl, (xs_room hfr hlo y5 mc ms).1, (xs_room hfr hlo y5 mc ms).2, pay_in hts (lw_meth y1), List.mem_cons_self⟩, hts _ y1, hts _ y2, ⟨hno.1, hno.2.1⟩, fun sig hsig => ?_, hts _ hl, hts _ hsm, hdecl, hts _ hse, hts _ hin⟩
                have h2 := hno.2.2
                rw [hsig] at h2
                exact (Option.some.inj h2).symm
              exact vx_runU S hM cw hpV rfl hn hnl hstk hw hd hf
          · cases hcal
        · cases hcal
      · cases hcal
    · cases hcal
  | _ => cases hcal
end SC
