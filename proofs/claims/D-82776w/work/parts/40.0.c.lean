/-! what is fed -/
set_option maxRecDepth 100000
section FEED
variable {d : Nat} {h : xm_H} {D : xp_D} {F G : xp_F} {M : Nat}
theorem a255 {x : Int32} : 0 ≤ (x &&& 255).toInt ∧ (x &&& 255).toInt ≤ 255 := by
  have e : (x &&& 255).toInt = (x.toBitVec &&& 255#32).toInt := by
    show (x &&& 255).toBitVec.toInt = _
    rw [Int32.toBitVec_and]
    rfl
  have h : (x.toBitVec &&& 255#32).toNat ≤ 255 := by
    rw [BitVec.toNat_and]
    exact Nat.and_le_right
  rw [e, BitVec.toInt_eq_toNat_of_lt (by omega)]
  omega
theorem l255 : ∀ i : Fin 32, (255 : Int32).toBitVec.getLsbD i.val = decide (i.val < 8) := by decide
theorem b8_255 {x : Int32} : b8 x &&& 255 = x &&& 255 := by
  refine bit_ext fun j hj => ?_
  unfold bit b8
  rw [Int32.toBitVec_and, Int32.toBitVec_and, BitVec.getLsbD_and, BitVec.getLsbD_and, l255 ⟨j, hj⟩]
  by_cases c : j < 8
  · rw [Int8.toBitVec_toInt32, Int32.toBitVec_toInt8, BitVec.getLsbD_signExtend, if_pos c, BitVec.getLsbD_signExtend, if_pos hj]
    simp [c, hj]
  · simp [c]
/-- the word of a byte, how far it is moved -/
def fv2 (a b c e g : Int32) (k : Nat) : Int32 := if k < 4 then a else if k < 8 then b else if k < 12 then c else if k < 16 then e else g
def fz2 (k : Nat) : Int32 := Int32.ofNat (24 - 8 * (k % 4))
theorem fv_4 : ∀ k, k < 20 → (4 ≤ Int32.ofNat k ↔ 4 ≤ k) ∧ (8 ≤ Int32.ofNat k ↔ 8 ≤ k) ∧ (12 ≤ Int32.ofNat k ↔ 12 ≤ k) ∧ (16 ≤ Int32.ofNat k ↔ 16 ≤ k) ∧ 24 - 8 * (Int32.ofNat k - Int32.ofNat k / 4 * 4) = fz2 k := by decide
theorem fv_eq {a b c e g : Int32} {k : Nat} (hk : k < 20) : sp_fv a b c e g k = fv2 a b c e g k := by
  obtain ⟨e1, e2, e3, e4, -⟩ := fv_4 k hk
  unfold sp_fv fv2
  by_cases c1 : k < 4
  · rw [if_pos c1, if_neg (fun z => by have := e1.mp z; omega)]
  rw [if_neg c1, if_pos (e1.mpr (by omega))]
  by_cases c2 : k < 8
  · rw [if_pos c2, if_neg (fun z => by have := e2.mp z; omega)]
  rw [if_neg c2, if_pos (e2.mpr (by omega))]
  by_cases c3 : k < 12
  · rw [if_pos c3, if_neg (fun z => by have := e3.mp z; omega)]
  rw [if_neg c3, if_pos (e3.mpr (by omega))]
  by_cases c4 : k < 16
  · rw [if_pos c4, if_neg (fun z => by have := e4.mp z; omega)]
  rw [if_neg c4, if_pos (e4.mpr (by omega))]
/-- what one side's tape o is after k bytes -/
def fdS (o T : Nat) (w : Nat → Int32) (F : xp_F) (k : Nat) (G : xp_F) : Prop := G 0 36 = Int32.ofNat (T + k) ∧ (∀ i, G o i = if T ≤ i ∧ i < T + k then w (i - T) else F o i) ∧ ∀ x y, ¬ x = o → ¬ (x = 0 ∧ y = 36) → G x y = F x y
theorem fdS.z {o T : Nat} {w : Nat → Int32} (e : F 0 36 = Int32.ofNat T) : fdS o T w F 0 F := ⟨e, fun i => (if_neg (by omega)).symm, fun _ _ _ _ => rfl⟩
theorem fdS.s {o T k : Nat} {w : Nat → Int32} {v : Int32} (ho : ¬ o = 0) (hT : T + k ≤ 600) (a : fdS o T w F k G) (e : v = w k) : fdS o T w F (k + 1) (xm_u2 (xm_u2 G o (G 0 36).toNatClampNeg v) 0 36 (G 0 36 + 1)) := by
  obtain ⟨a1, a2, a3⟩ := a
  have t : (G 0 36).toNatClampNeg = T + k := by rw [a1, tc_nat (by omega)]
  refine ⟨?_, fun i => ?_, fun x y h1 h2 => ?_⟩
  · rw [u2_ap, if_pos ⟨rfl, rfl⟩, a1, nat_succ]
    rfl
  · rw [u2_ap, if_neg (fun z => ho z.1), u2_ap, t]
    by_cases c : i = T + k
    · rw [if_pos ⟨rfl, c⟩, if_pos (by omega), e, c, Nat.add_sub_cancel_left]
    · rw [if_neg (fun z => c z.2), a2]
      by_cases c2 : T ≤ i ∧ i < T + k
      · rw [if_pos c2, if_pos (by omega)]
      · rw [if_neg c2, if_neg (by omega)]
  · rw [u2_ap, if_neg h2, u2_ap, if_neg (fun z => h1 z.1)]
    exact a3 x y h1 h2
/-- the bytes -/
def fbm (a b c e g : Int32) (k : Nat) : Int32 := fv2 a b c e g k >>> (fz2 k &&& 31) &&& 255
def fbc (a b c e g : Int32) (k : Nat) : Int32 := b8 (fv2 a b c e g k >>> (fz2 k &&& 31))
theorem fed_m {a b c e g : Int32} {T : Nat} (hT : T + 20 ≤ 600) (eT : F 0 36 = Int32.ofNat T) : fdS 28 T (fbm a b c e g) F 20 (xp_it (sp_feed1 a b c e g) 0 20 F) :=
  it_up (f := sp_feed1 a b c e g) (n := 20) (fun k G => fdS 28 T (fbm a b c e g) F k G) (fun k G hk s => s.s (by decide) (by omega) (by
    rw [fv_eq hk, (fv_4 k hk).2.2.2.2]
    rfl)) 20 0 F (Nat.zero_add _) (fdS.z eT)
theorem fed_p {a b c e g v : Int32} {T k : Nat} (hT : T + k + 4 ≤ 600) (s : fdS 81 T (fbc a b c e g) F k G) (e0 : v = fv2 a b c e g k ∧ v = fv2 a b c e g (k + 1) ∧ v = fv2 a b c e g (k + 2) ∧ v = fv2 a b c e g (k + 3)) (z : k % 4 = 0) : fdS 81 T (fbc a b c e g) F (k + 4) (sq_puts v G) := by
  obtain ⟨e0, e1, e2, e3⟩ := e0
  have z0 : fz2 k = 24 := by
    unfold fz2
    rw [z]
    rfl
  have z1 : fz2 (k + 1) = 16 := by
    unfold fz2
    rw [show (k + 1) % 4 = 1 by omega]
    rfl
  have z2 : fz2 (k + 2) = 8 := by
    unfold fz2
    rw [show (k + 2) % 4 = 2 by omega]
    rfl
  have z3 : fz2 (k + 3) = 0 := by
    unfold fz2
    rw [show (k + 3) % 4 = 3 by omega]
    rfl
  have s0 : fdS 81 T (fbc a b c e g) F (k + 1) (sq_put1 v 24 G) := s.s (by decide) (by omega) (by
    unfold fbc
    rw [z0, ← e0])
  have s1 : fdS 81 T (fbc a b c e g) F (k + 1 + 1) (sq_put1 v 16 (sq_put1 v 24 G)) := s0.s (by decide) (by omega) (by
    unfold fbc
    rw [z1, ← e1])
  have s2 : fdS 81 T (fbc a b c e g) F (k + 1 + 1 + 1) (sq_put1 v 8 (sq_put1 v 16 (sq_put1 v 24 G))) := s1.s (by decide) (by omega) (by
    unfold fbc
    rw [show k + 1 + 1 = k + 2 from rfl, z2, ← e2])
  exact s2.s (by decide) (by omega) (by
    unfold fbc
    rw [show k + 1 + 1 + 1 = k + 3 from rfl, z3, ← e3])
theorem fed_c {a b c e g : Int32} {T : Nat} (hT : T + 20 ≤ 600) (eT : F 0 36 = Int32.ofNat T) : fdS 81 T (fbc a b c e g) F 20 (sq_feed F a b c e g) := by
  have s0 := fed_p (v := a) (a := a) (b := b) (c := c) (e := e) (g := g) (T := T) (k := 0) (by omega) (fdS.z eT) ⟨rfl, rfl, rfl, rfl⟩ rfl
  have s1 := fed_p (v := b) (by omega) s0 ⟨rfl, rfl, rfl, rfl⟩ rfl
  have s2 := fed_p (v := c) (by omega) s1 ⟨rfl, rfl, rfl, rfl⟩ rfl
  have s3 := fed_p (v := e) (by omega) s2 ⟨rfl, rfl, rfl, rfl⟩ rfl
  exact fed_p (v := g) (by omega) s3 ⟨rfl, rfl, rfl, rfl⟩ rfl
theorem fb_255 {a b c e g : Int32} {k : Nat} : fbc a b c e g k &&& 255 = fbm a b c e g k := b8_255
theorem t_7 (iv : IV M h D F) {a b c e g : Int32} : RG M (d + 1000) h D F 22 110 [.int a, .int b, .int c, .int e, .int g] := by
  obtain ⟨cn, ha, hz, hf, hp, ⟨t, T, ⟨⟨t1, t2, t3⟩, t4, t5⟩, -, -, t6⟩, hw, hh, hb, hr, hl, hu, hy, pw, hs, hn, ti, hd⟩ := iv.2.2
  have rT : rg (F 0 36) 600 := by
    rw [t4]
    exact ⟨by rw [ti_nat (by omega)]; omega, by rw [ti_nat (by omega)]; omega⟩
  have eT : (F 0 36 + 20).toInt = T + 20 := by
    rw [ti_add (b := 20) (by rw [t4, ti_nat (by omega), show (20 : Int32).toInt = 20 from rfl]; omega), t4, ti_nat (by omega), show (20 : Int32).toInt = 20 from rfl]
  by_cases c1 : F 0 36 + 20 ≤ 600
  case neg =>
    refine st_read (v := -1) iv (fun _ q _ => ?_) fun _ ms => ?_
    · exact (c22 (d := d + 999) q rT).trans (if_neg c1)
    · refine (c110 (d := d + 1000) ms rT).trans ?_
      unfold sp_feed
      rw [if_neg c1]
  have le := Int32.le_iff_toInt_le.mp c1
  rw [eT, show (600 : Int32).toInt = 600 from rfl] at le
  obtain ⟨m1, m2, m3⟩ := @fed_m F a b c e g T (by omega) t4
  obtain ⟨p1, p2, p3⟩ := @fed_c F a b c e g T (by omega) t4
  have eS : (sp_feed F a b c e g) = (xp_it (sp_feed1 a b c e g) 0 20 F 0 36, xp_it (sp_feed1 a b c e g) 0 20 F) := if_pos c1
  have ta : TA (fun i => if i < T then t i else if i < T + 20 then fbm a b c e g (i - T) else -1) (T + 20) := by
    refine ⟨by omega, fun i hi => ?_, fun i hi => ?_⟩
    · show (if i < T then t i else if i < T + 20 then fbm a b c e g (i - T) else -1) = -1
      rw [if_neg (by omega), if_neg (by omega)]
    · show 0 ≤ (if i < T then t i else if i < T + 20 then fbm a b c e g (i - T) else -1).toInt ∧ (if i < T then t i else if i < T + 20 then fbm a b c e g (i - T) else -1).toInt ≤ 255
      by_cases q : i < T
      · rw [if_pos q]
        exact t3 i q
      · rw [if_neg q, if_pos hi]
        exact a255
  refine st_flat (v := Int32.ofNat (T + 20)) (P := fun F1 => F1 = sq_feed F a b c e g) (Q := fun F2 => F2 = xp_it (sp_feed1 a b c e g) 0 20 F) iv (fun hh q v _ => ⟨_, ?_, rfl⟩) (fun hb ms => ⟨_, ?_, rfl⟩) (fun F1 F2 x y o k nk ho => ?_) fun F1 F2 x y => ?_
  · refine ((c22 (d := d + 999) q rT).trans (if_pos c1)).trans ?_
    rw [p1]
  · refine (c110 (d := d + 1000) ms rT).trans ?_
    rw [eS, m1]
  · have nm := nk.1
    rw [x, y]
    by_cases q : o = 0 ∧ k = 36
    · rw [q.1, q.2, p1, m1]
    · rw [p3 o k (by omega) q, m3 o k (by omega) q]
  · rw [x, y]
    have lo : ∀ o k, o ≤ 70 → ¬ o = 28 → ¬ (o = 0 ∧ k = 36) → mrg (sq_feed F a b c e g) (xp_it (sp_feed1 a b c e g) 0 20 F) o k = F o k := fun o k h1 h2 h3 => by
      rw [mrg_lo h1]
      exact m3 o k h2 h3
    have hi : ∀ o k, ¬ o ≤ 70 → ¬ o = 81 → mrg (sq_feed F a b c e g) (xp_it (sp_feed1 a b c e g) 0 20 F) o k = F o k := fun o k h1 h2 => by
      rw [mrg_hi h1]
      exact p3 o k h2 (by omega)
    have k36 : mrg (sq_feed F a b c e g) (xp_it (sp_feed1 a b c e g) 0 20 F) 0 36 = Int32.ofNat (T + 20) := by
      rw [mrg_lo (by decide)]
      exact m1
    have k28 : ∀ i, mrg (sq_feed F a b c e g) (xp_it (sp_feed1 a b c e g) 0 20 F) 28 i = if T ≤ i ∧ i < T + 20 then fbm a b c e g (i - T) else F 28 i := fun i => by
      rw [mrg_lo (by decide)]
      exact m2 i
    have k81 : ∀ i, mrg (sq_feed F a b c e g) (xp_it (sp_feed1 a b c e g) 0 20 F) 81 i = if T ≤ i ∧ i < T + 20 then fbc a b c e g (i - T) else F 81 i := fun i => by
      rw [mrg_hi (by decide)]
      exact p2 i
    generalize mrg (sq_feed F a b c e g) (xp_it (sp_feed1 a b c e g) 0 20 F) = K at lo hi k36 k28 k81 ⊢
    have eK : K = fun o k => if o = 28 ∨ (o = 0 ∧ k = 36) ∨ o = 81 then K o k else F o k := by
      funext o k
      by_cases q : o = 28 ∨ (o = 0 ∧ k = 36) ∨ o = 81
      · rw [if_pos q]
      · rw [if_neg q]
        by_cases r : o ≤ 70
        · exact lo o k r (by omega) (by omega)
        · exact hi o k r (by omega)
    have bt : ivT K := by
      refine ⟨_, T + 20, ⟨ta, k36, fun i hi => ?_⟩, ta, k36, fun i hi => ?_⟩
      · show K 28 i = if i < T then t i else if i < T + 20 then fbm a b c e g (i - T) else -1
        rw [k28]
        by_cases q : i < T
        · rw [if_neg (by omega), if_pos q]
          exact t5 i q
        · rw [if_pos (by omega), if_neg q, if_pos hi]
      · show K 81 i &&& 255 = if i < T then t i else if i < T + 20 then fbm a b c e g (i - T) else -1
        rw [k81]
        by_cases q : i < T
        · rw [if_neg (by omega), if_pos q]
          exact t6 i q
        · rw [if_pos (by omega), if_neg q, if_pos hi]
          exact fb_255
    refine ⟨fun r n L m => by
      rw [eK]
      exact m, ?_⟩
    rw [eK] at bt ⊢
    exact ⟨cn, ha, hz, hf, hp, bt, hw, hh, hb, hr, hl, hu, hy, pw, hs, hn, ti, hd⟩
end FEED
