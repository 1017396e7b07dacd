/-! SOUNDNESS, first part: locals, and what a real heap must hold to be an abstract one -/
set_option maxRecDepth 100000
def xm_al (l : List (Option Value)) : List (Nat × Value) := (List.range l.length).filterMap (fun i => (xm_lg l i).map (fun v => (i, v)))
theorem lg_ge {l : List (Option Value)} {k : Nat} (h : l.length ≤ k) : xm_lg l k = none := by
  unfold xm_lg
  rw [List.getD_eq_getElem?_getD, List.getElem?_eq_none h]
  rfl
theorem al_mem {l : List (Option Value)} {q : Nat × Value} : q ∈ xm_al l ↔ xm_lg l q.1 = some q.2 := by
  unfold xm_al
  simp only [List.mem_filterMap, List.mem_range]
  constructor
  · rintro ⟨i, hi, h⟩
    cases hv : xm_lg l i with
    | none => rw [hv] at h; cases h
    | some v => rw [hv] at h; cases h; exact hv
  · intro h
    refine ⟨q.1, ?_, by rw [h]; rfl⟩
    rcases Nat.lt_or_ge q.1 l.length with h1 | h1
    · exact h1
    · rw [lg_ge h1] at h
      cases h
theorem lg_ls : ∀ (l : List (Option Value)) (k : Nat) (v : Option Value) (j : Nat), xm_lg (xm_ls l k v) j = if j = k then v else xm_lg l j
  | [], 0, v, 0 => rfl
  | [], 0, v, j + 1 => by rw [if_neg (by omega)]; rfl
  | [], k + 1, v, 0 => by rw [if_neg (by omega)]; rfl
  | [], k + 1, v, j + 1 => by
    have h := lg_ls [] k v j
    show xm_lg (xm_ls [] k v) j = _
    rw [h]
    by_cases q : j = k
    · rw [if_pos q, if_pos (by omega)]
    · rw [if_neg q, if_neg (by omega)]
      rfl
  | x :: l, 0, v, 0 => rfl
  | x :: l, 0, v, j + 1 => by rw [if_neg (by omega)]; rfl
  | x :: l, k + 1, v, 0 => by rw [if_neg (by omega)]; rfl
  | x :: l, k + 1, v, j + 1 => by
    have h := lg_ls l k v j
    show xm_lg (xm_ls l k v) j = _
    rw [h]
    by_cases q : j = k
    · rw [if_pos q, if_pos (by omega)]
    · rw [if_neg q, if_neg (by omega)]
      rfl
theorem lk2_cat {v : Value} (h : xm_lk2 (some v) = false) : v.category = 1 := by
  cases v <;> first | rfl | cases h
theorem two_of {l : List (Option Value)} {i j : Nat} {v : Value} (h : xm_two l i = false) (hj : j + 1 = i) (hv : xm_lg l j = some v) : v.category = 1 := by
  subst hj
  have h : xm_lk2 (xm_lg l j) = false := h
  rw [hv] at h
  exact lk2_cat h
theorem al_sub {ls : Array Slot} {nL : Nat} {l l' : List (Nat × Value)} (h : lv_has ls nL l) (hs : ∀ q ∈ l', q ∈ l) : lv_has ls nL l' := ⟨h.1, h.2.1, fun q hq => h.2.2 q (hs q hq)⟩
theorem al_store1 {ls : Array Slot} {nL i : Nat} {v : Value} {l : List (Option Value)} (h2 : xm_two l i = false) (h : lv_has ls nL ((i, v) :: (xm_al l).filter (fun q => !(q.1 == i) && !(q.1 + 1 == i && q.2.category == 2)))) : lv_has ls nL (xm_al (xm_ls l i (some v))) := by
  refine al_sub h fun q hq => ?_
  have e := al_mem.mp hq
  rw [lg_ls] at e
  by_cases c : q.1 = i
  · rw [if_pos c] at e
    have : q = (i, v) := Prod.ext c (Option.some.inj e).symm
    rw [this]
    exact List.mem_cons_self
  · rw [if_neg c] at e
    refine List.mem_cons_of_mem _ (List.mem_filter.mpr ⟨al_mem.mpr e, ?_⟩)
    by_cases c2 : q.1 + 1 = i
    · have := two_of h2 c2 e
      simp [c, this]
    · simp [c, c2]
theorem al_store2 {ls : Array Slot} {nL i : Nat} {v : Value} {l : List (Option Value)} (h2 : xm_two l i = false) (h : lv_has ls nL ((i, v) :: (xm_al l).filter (fun q => !(q.1 == i) && (!(q.1 == i + 1) && !(q.1 + 1 == i && q.2.category == 2))))) : lv_has ls nL (xm_al (xm_ls (xm_ls l i (some v)) (i + 1) none)) := by
  refine al_sub h fun q hq => ?_
  have e := al_mem.mp hq
  rw [lg_ls] at e
  by_cases c1 : q.1 = i + 1
  · rw [if_pos c1] at e
    cases e
  · rw [if_neg c1, lg_ls] at e
    by_cases c : q.1 = i
    · rw [if_pos c] at e
      have : q = (i, v) := Prod.ext c (Option.some.inj e).symm
      rw [this]
      exact List.mem_cons_self
    · rw [if_neg c] at e
      refine List.mem_cons_of_mem _ (List.mem_filter.mpr ⟨al_mem.mpr e, ?_⟩)
      by_cases c2 : q.1 + 1 = i
      · have := two_of h2 c2 e
        simp [c, c1, this]
      · simp [c, c1, c2]
theorem al_read {ls : Array Slot} {nL k : Nat} {v : Value} {l : List (Option Value)} (h : lv_has ls nL (xm_al l)) (hv : xm_lg l k = some v) : ls[k]? = some (.val v) := h.2.2 (k, v) (al_mem.mpr hv)
/-! cells -/
def xs_ety (kd : Nat) : Option FieldType := match kd with
  | 100 => some .int
  | 101 => some .byte
  | 102 => some .boolean
  | 110 => some (.object "CliffHoney$Ledge")
  | 111 => some (.object "java/lang/String")
  | 112 => some (.array (.object "CliffHoney$Line"))
  | 113 => some (.object "CliffHoney$Line")
  | 114 => some (.object "CliffHoney$Custom")
  | 115 => some (.object "CliffHoney$Person")
  | 116 => some (.object "CliffHoney$Lot")
  | 117 => some (.object "CliffHoney$Buyer")
  | _ => none
def xs_enm (ty : FieldType) : String := match ty with
  | .object C => C
  | .array t => (FieldType.array t).toString
  | _ => ""
def xs_comp (s : State) (cell : Cell) (ty : FieldType) : Prop := ty.isReference = true → ∃ k comp, s.vm.classes[cell.cls]? = some k ∧ k.kind = .array comp ty ∧ s.vm.findClass (xs_enm ty) = some comp ∧ s.vm.findClass ("[" ++ ty.toString) = some cell.cls
def xs_av (kd : Nat) (h : xm_H) (a j : Nat) : Value := if 110 ≤ kd then va_rf (xm_R h a j) else .int (xm_I h a j)
def xs_cell (D : va_G) (s : State) (h : xm_H) (a : Nat) (cell : Cell) : Prop :=
  cell.vm ≠ .unknown ∧ cell.vm.isStatics = false ∧ (xm_B h ≤ a → cell.vm = .none) ∧
  (xm_K h a < 100 → xs_cc (xm_K h a - 1) = true ∧ cell.cls = D.1 (xm_K h a - 1) ∧ ∀ k v, k < xm_nf (xm_K h a - 1) → xm_fv (xm_K h a - 1) k h a = some v → cell.slots[D.2 (xm_K h a - 1) k]? = some v) ∧
  (100 ≤ xm_K h a → ∃ ty, xs_ety (xm_K h a) = some ty ∧ s.isArrayOf cell ty ∧ xs_comp s cell ty ∧ cell.slots.size = xm_N h a ∧ ∀ j, j < xm_N h a → cell.slots[j]? = some (xs_av (xm_K h a) h a j))
def xs_Rep (D : va_G) (s : State) (h : xm_H) (H : Heap) : Prop := H.size = xm_Z h ∧ xm_B h ≤ xm_Z h ∧ ∀ a, ¬ xm_K h a = 0 → ∃ cell, H[a]? = some cell ∧ xs_cell D s h a cell
/-- two abstract heaps alike at a -/
def xs_eq (h h' : xm_H) (a : Nat) : Prop := xm_K h' a = xm_K h a ∧ xm_N h' a = xm_N h a ∧ xm_I h' a = xm_I h a ∧ xm_L h' a = xm_L h a ∧ xm_R h' a = xm_R h a
theorem xs_eq.fv {h h' : xm_H} {a : Nat} (e : xs_eq h h' a) (c k : Nat) : xm_fv c k h' a = xm_fv c k h a := by
  obtain ⟨-, -, e1, e2, e3⟩ := e
  unfold xm_fv
  rw [e1, e2, e3]
theorem xs_cell.to {D : va_G} {s : State} {h h' : xm_H} {a : Nat} {cell : Cell} (c : xs_cell D s h a cell) (hB : xm_B h' = xm_B h) (e : xs_eq h h' a) : xs_cell D s h' a cell := by
  obtain ⟨c1, c2, c3, c4, c5⟩ := c
  refine ⟨c1, c2, by rw [hB]; exact c3, fun q => ?_, fun q => ?_⟩
  · rw [e.1] at q ⊢
    obtain ⟨d1, d2, d3⟩ := c4 q
    refine ⟨d1, d2, fun k v hk hv => d3 k v hk ?_⟩
    rw [← e.fv]
    exact hv
  · rw [e.1] at q ⊢
    rw [e.2.1]
    obtain ⟨ty, d1, d2, d3, d4, d5⟩ := c5 q
    refine ⟨ty, d1, d2, d3, d4, fun j hj => ?_⟩
    rw [d5 j hj]
    unfold xs_av
    rw [e.2.2.1, e.2.2.2.2]
theorem xs_cell.moved {D : va_G} {u U : State} {h : xm_H} {a : Nat} {cell : Cell} (hvm : u.vm.Alike U.vm) (c : xs_cell D u h a cell) : xs_cell D U h a cell := by
  obtain ⟨c1, c2, c3, c4, c5⟩ := c
  refine ⟨c1, c2, c3, c4, fun q => ?_⟩
  obtain ⟨ty, d1, d2, d3, d4, d5⟩ := c5 q
  refine ⟨ty, d1, State.isArrayOf_alike hvm d2, fun hr => ?_, d4, d5⟩
  obtain ⟨k, comp, h1, h2, h3, h4⟩ := d3 hr
  obtain ⟨k', hk', he⟩ := hvm.2.2 _ _ h1
  exact ⟨k', comp, hk', by rw [he]; exact h2, by rw [hvm.findClass]; exact h3, by rw [hvm.findClass]; exact h4⟩
theorem xs_Rep.moved {D : va_G} {u U : State} {h : xm_H} {H : Heap} (hvm : u.vm.Alike U.vm) (r : xs_Rep D u h H) : xs_Rep D U h H :=
  ⟨r.1, r.2.1, fun a ha => by obtain ⟨cell, h1, h2⟩ := r.2.2 a ha; exact ⟨cell, h1, h2.moved hvm⟩⟩
/-- one cell set -/
theorem xs_Rep.set {D : va_G} {s : State} {h h' : xm_H} {H H' : Heap} {a : Nat} {cell : Cell} (r : xs_Rep D s h H) (hB : xm_B h' = xm_B h) (hZ : xm_Z h' = xm_Z h) (hK : xm_K h' = xm_K h) (hq : ∀ b, ¬ b = a → xs_eq h h' b) (e1 : H'[a]? = some cell) (e2 : H'.size = H.size) (e3 : ∀ q, q ≠ a → H'[q]? = H[q]?) (hc : xs_cell D s h' a cell) : xs_Rep D s h' H' := by
  refine ⟨by rw [e2, hZ]; exact r.1, by rw [hB, hZ]; exact r.2.1, fun b hb => ?_⟩
  by_cases q : b = a
  · subst q
    exact ⟨cell, e1, hc⟩
  · rw [hK] at hb
    obtain ⟨c2, h1, h2⟩ := r.2.2 b hb
    exact ⟨c2, by rw [e3 b q]; exact h1, h2.to hB (hq b q)⟩
theorem xs_Rep.lt {D : va_G} {s : State} {h : xm_H} {H : Heap} (r : xs_Rep D s h H) {a : Nat} (ha : ¬ xm_K h a = 0) : a < xm_Z h := by
  obtain ⟨cell, h1, -⟩ := r.2.2 a ha
  rw [← r.1]
  exact (Array.getElem?_eq_some_iff.mp h1).1
/-- one cell made -/
theorem xs_Rep.new {D : va_G} {s : State} {h : xm_H} {H H' : Heap} {kd n w : Nat} {cell : Cell} (r : xs_Rep D s h H) (e1 : H'[xm_Z h]? = some cell) (e2 : H'.size = xm_Z h + 1) (e3 : ∀ q, q < xm_Z h → H'[q]? = H[q]?) (hc : xs_cell D s (xm_nw h kd n w) (xm_Z h) cell) : xs_Rep D s (xm_nw h kd n w) H' := by
  refine ⟨e2, by rw [h_B_nw, h_Z_nw]; exact Nat.le_succ_of_le r.2.1, fun b hb => ?_⟩
  by_cases q : b = xm_Z h
  · subst q
    exact ⟨cell, e1, hc⟩
  · rw [h_K_nw, if_neg q] at hb
    obtain ⟨c2, h1, h2⟩ := r.2.2 b hb
    refine ⟨c2, by rw [e3 b (r.lt hb)]; exact h1, h2.to rfl ⟨?_, ?_, ?_, ?_, ?_⟩⟩
    · rw [h_K_nw, if_neg q]
    · rw [h_N_nw, if_neg q]
    · funext j
      rw [h_I_nw, if_neg q]
    · funext j
      rw [h_L_nw, if_neg q]
    · funext j
      rw [h_R_nw, if_neg q]
theorem arrOverA {args : Array Value} {first s : State} {o : Option Outcome} {idx : List Nat} {t : FieldType} (h : (Cond.arrayOver (.array t)).holds args first o s idx = true) :
    ∃ comp c k, s.vm.findClass (FieldType.array t).toString = some comp ∧ (s.vm.classes.findIdx? fun x => match x.kind with | .array component _ => component == comp | _ => false) = some c ∧ s.vm.classes[c]? = some k ∧ k.kind = .array comp (.array t) ∧ s.vm.findClass ("[" ++ (FieldType.array t).toString) = some c := by
  simp only [Cond.holds, Cond.value, beq_iff_eq] at h
  cases hc : s.vm.findClass (FieldType.array t).toString with
  | none => simp [hc] at h
  | some comp =>
    simp only [hc, Option.bind_some, Option.bind_eq_some_iff, Option.map_eq_some_iff] at h
    obtain ⟨c, hi, k, hk, hb⟩ := h
    obtain ⟨hlt, hp, -⟩ := Array.findIdx?_eq_some_iff_getElem.mp hi
    have hkk : s.vm.classes[c] = k := (Array.getElem?_eq_some_iff.mp hk).2
    rw [hkk] at hp
    cases hkind : k.kind with
    | array component ty =>
      rw [hkind] at hb hp
      simp at hb hp
      exact ⟨comp, c, k, rfl, hi, hk, by rw [hkind, hp, hb.1], hb.2⟩
    | _ => rw [hkind] at hb; simp at hb
/-- an array of arrays of Line may be made -/
def va_AOA (U : State) : Prop := (Cond.arrayOver (.array (.object "CliffHoney$Line"))).before #[] U = true
def va_cf (comp : ClassId) : Class → Bool := fun x => match x.kind with | .array component _ => component == comp | _ => false
theorem va_cf_bare (vm : Vm) (comp : ClassId) : vm.bare.classes.findIdx? (va_cf comp) = vm.classes.findIdx? (va_cf comp) := va_idx_bare vm comp
theorem va_AOA.moved {u U : State} (hvm : u.vm.Alike U.vm) (h : va_AOA u) : va_AOA U := by
  obtain ⟨comp, c, k, h1, h2, h3, h4, h5⟩ := arrOverA h
  obtain ⟨k', hk', he⟩ := hvm.2.2 _ _ h3
  have h2 : u.vm.classes.findIdx? (va_cf comp) = some c := h2
  have hi : U.vm.classes.findIdx? (va_cf comp) = some c := by
    rw [← va_cf_bare]
    first | rw [hvm.bare_eq] | rw [← hvm.bare_eq]
    rw [va_cf_bare]
    exact h2
  have hkind : k'.kind = .array comp (.array (.object "CliffHoney$Line")) := by rw [he]; exact h4
  have f1 : U.vm.findClass (FieldType.array (.object "CliffHoney$Line")).toString = some comp := by rw [hvm.findClass]; exact h1
  have f2 : U.vm.findClass ("[" ++ (FieldType.array (.object "CliffHoney$Line")).toString) = some c := by rw [hvm.findClass]; exact h5
  unfold va_AOA Cond.before Cond.holds
  simp only [Cond.value]
  rw [f1, Option.bind_some]
  refine (congrArg (fun o : Option Nat => (o.bind (fun c => (U.vm.classes[c]?).map fun (k : Class) => match k.kind with | .array _ ty => decide (ty = FieldType.array (.object "CliffHoney$Line")) && decide (U.vm.findClass ("[" ++ (FieldType.array (.object "CliffHoney$Line")).toString) = some c) | _ => false) == some true)) hi).trans ?_
  simp [hk', hkind, f2]
