/-! the calls that change nothing or little -/
set_option maxRecDepth 100000
section ST1
variable {d : Nat} {h : xm_H} {D : xp_D} {F G : xp_F} {M : Nat}
theorem IV.q (iv : IV M h D F) : CS h D := iv.1.1
theorem IV.n (iv : IV M h D F) : CN D F := iv.2.2.1
theorem IV.ld (iv : IV M h D F) : rg (F 0 46) 4 := iv.2.2.2.2.2.2.2.2.2.2.2.2.2.2.2.2.2.2.2
theorem IV.gc (iv : IV M h D F) : rg (F 0 95) 100 := iv.2.2.2.2.2.2.2.2.2.2.2.2.2.2.2.1.1
/-- it reads alone -/
theorem st_read {X mi mj : Nat} {as : List Value} {v : Int32} (iv : IV M h D F) (hc : ∀ hh, CS hh D → VN D → xm_met X mi (.ref (xd_X D) :: as) (xp_c hh D F) = some (.inl (some (.int v)), xp_c hh D F))
    (hm : ∀ hb, MS hb M → xm_met X mj (.ref M :: as) (xp_m hb M F) = some (.inl (some (.int v)), xp_m hb M F)) : RG M X h D F mi mj as := st_same iv hc hm (fun _ _ _ m => m) iv.2.2
theorem t_2 (iv : IV M h D F) {l w : Int32} : RG M (d + 1000) h D F 4 94 [.int l, .int w] := st_read iv (fun _ q _ => c4 (d := d + 999) q iv.n) fun _ ms => c94 (d := d + 998) ms (iv.n.l iv.q)
theorem t_6 (iv : IV M h D F) {w : Int32} : RG M (d + 1000) h D F 15 109 [.int w] := st_read iv (fun _ q _ => c15 (d := d + 999) q iv.n) fun _ ms => c109 (d := d + 998) ms (iv.n.l iv.q) (iv.n.i iv.q)
theorem t_10 (iv : IV M h D F) {w : Int32} : RG M (d + 1000) h D F 21 132 [.int w] := st_read iv (fun _ q _ => c21 (d := d + 1000) q) fun _ ms => c132 (d := d + 1000) ms
theorem t_11 (iv : IV M h D F) {r w : Int32} : RG M (d + 1000) h D F 25 133 [.int r, .int w] := st_read iv (fun _ q _ => c25 (d := d + 999) q) fun _ ms => c133 (d := d + 999) ms
theorem t_14 (iv : IV M h D F) {k w : Int32} : RG M (d + 1000) h D F 30 142 [.int k, .int w] := st_read iv (fun _ q _ => c30 (d := d + 998) q iv.ld) fun _ ms => c142 (d := d + 997) ms iv.ld
theorem t_21 (iv : IV M h D F) {p w : Int32} : RG M (d + 1000) h D F 47 159 [.int p, .int w] := st_read iv (fun _ q _ => c47 (d := d + 999) q iv.n) fun _ ms => c159 (d := d + 998) ms (iv.n.p iv.q)
theorem t_23 (iv : IV M h D F) {p w : Int32} : RG M (d + 1000) h D F 50 162 [.int p, .int w] := st_read iv (fun _ q _ => c50 (d := d + 959) q iv.n iv.2.2.2.2.2.2.2.2.2.2.2.2.1.2.1) fun _ ms => c162 (d := d + 999) ms (iv.n.i iv.q)
theorem t_29 (iv : IV M h D F) {v : Int32} : RG M (d + 1000) h D F 60 175 [.int v] := st_read iv (fun _ q _ => c60 (d := d + 999) q) fun _ ms => c175 (d := d + 999) ms
theorem t_31 (iv : IV M h D F) {l s w : Int32} : RG M (d + 1000) h D F 62 177 [.int l, .int s, .int w] := st_read iv (fun _ q _ => c62 (d := d + 999) q iv.n iv.gc) fun _ ms => c177 (d := d + 998) ms iv.gc
theorem t_33 (iv : IV M h D F) {l w : Int32} : RG M (d + 1000) h D F 64 179 [.int l, .int w] := st_read iv (fun _ q _ => c64 (d := d + 999) q iv.n) fun _ ms => c179 (d := d + 998) ms (iv.n.l iv.q)
end ST1
section ST2
variable {d : Nat} {h : xm_H} {D : xp_D} {F G : xp_F} {M : Nat}
theorem rg_le {x y : Int32} {n : Nat} (h0 : 0 ≤ x) (h1 : x ≤ y) (hy : y.toInt = n) : rg x n := by
  have a := Int32.le_iff_toInt_le.mp h0
  have b := Int32.le_iff_toInt_le.mp h1
  rw [show (0 : Int32).toInt = 0 from rfl] at a
  exact ⟨a, by omega⟩
theorem if_flowers (i : IF D F) {m g v : Int32} : IF D (sp_flowers F m g v).2 := by
  unfold sp_flowers
  split
  case isFalse => exact i
  case isTrue c =>
  obtain ⟨cn, ⟨a1, a2, a3, a4⟩, hz, hf, hp, ht, hw, hh, hb, hr, hl, hu, hy, pw, hs, hn, ti, hd⟩ := i
  have g9 : rg g 9 := rg_le c.2.1.1 c.2.1.2 rfl
  have v9 : rg v 9 := rg_le c.2.2.1 c.2.2.2 rfl
  show IF D (xm_u2 (xm_u2 F 1 m.toNatClampNeg g) 2 m.toNatClampNeg v)
  refine ⟨cn, ⟨a1, fun k hk => ?_, a3, a4⟩, hz, hf, hp, ht, hw, hh, hb, hr, hl, hu, hy, pw, hs, hn, ti, hd⟩
  obtain ⟨b1, b2⟩ := a2 k hk
  simp only [u2_ap, Nat.reduceEqDiff, false_and, true_and, ↓reduceIte]
  refine ⟨?_, ?_⟩
  · split
    · exact g9
    · exact b1
  · split
    · exact v9
    · exact b2
theorem mr_flowers {m g v : Int32} {r n : Nat} {L : Nat → Ln} (a : MR F r n L) : MR (sp_flowers F m g v).2 r n L := by
  unfold sp_flowers
  split <;> exact a
theorem t_0 (iv : IV M h D F) {m g v : Int32} : RG M (d + 1000) h D F 1 90 [.int m, .int g, .int v] := st_same iv (fun _ q _ => c1 (d := d + 999) q) (fun _ ms => c90 (d := d + 999) ms) (fun _ _ _ => mr_flowers) (if_flowers iv.2.2)
theorem if_spray (i : IF D F) (q : CS h D) {l : Int32} : IF D (sp_spray F l).2 := by
  unfold sp_spray
  split
  case isFalse => exact i
  case isTrue c =>
  obtain ⟨cn, ha, hz, hf, hp, ht, hw, hh, hb, hr, hl, hu, hy, pw, hs, hn, ti, hd⟩ := i
  have lt := cn.ll q c.1
  show IF D (xm_u2 F 13 l.toNatClampNeg 1)
  refine ⟨cn, ha, fun k hk h12 => ?_, hf, hp, ht, hw, hh, hb, hr, hl, hu, hy, pw, hs, fun k hk => ?_, ti, hd⟩
  · obtain ⟨z1, z2, z3, z4, z5⟩ := hz k hk h12
    refine ⟨z1, z2, z3, z4, ?_⟩
    rw [u2_ap, if_neg (by omega)]
    exact z5
  · refine ⟨(hn k hk).1, ?_⟩
    rw [u2_ap]
    split
    · exact Eq.refl true
    · exact (hn k hk).2
theorem mr_spray {l : Int32} {r n : Nat} {L : Nat → Ln} (a : MR F r n L) : MR (sp_spray F l).2 r n L := by
  unfold sp_spray
  split <;> exact a
theorem t_3 (iv : IV M h D F) {l : Int32} : RG M (d + 1000) h D F 6 96 [.int l] := st_same iv (fun _ q _ => c6 (d := d + 999) q iv.n) (fun _ ms => c96 (d := d + 998) ms (iv.n.l iv.q)) (fun _ _ _ => mr_spray) (if_spray iv.2.2 iv.q)
theorem if_weather (i : IF D F) {w s b : Int32} : IF D (sp_weather F w s b).2 := by
  unfold sp_weather
  split
  case isFalse => exact i
  case isTrue c =>
  obtain ⟨cn, ha, hz, hf, hp, ht, hw, hh, hb, hr, hl, hu, hy, pw, hs, hn, ti, hd⟩ := i
  refine ⟨cn, ha, hz, hf, hp, ht, ⟨rg_le c.2.1.1 c.2.1.2 rfl, ?_⟩, hh, hb, hr, hl, hu, hy, pw, hs, hn, ti, hd⟩
  exact Int32.le_iff_toInt_le.mp c.2.2.1
theorem mr_weather {w s b : Int32} {r n : Nat} {L : Nat → Ln} (a : MR F r n L) : MR (sp_weather F w s b).2 r n L := by
  unfold sp_weather
  split <;> exact a
theorem t_5 (iv : IV M h D F) {w s b : Int32} : RG M (d + 1000) h D F 14 108 [.int w, .int s, .int b] := st_same iv (fun _ q _ => c14 (d := d + 999) q) (fun _ ms => c108 (d := d + 999) ms) (fun _ _ _ => mr_weather) (if_weather iv.2.2)
theorem if_end (i : IF D F) {n : Int32} : IF D (sp_end F n).2 := by
  unfold sp_end
  split
  case isFalse => exact i
  case isTrue c =>
  obtain ⟨cn, ha, hz, hf, hp, ⟨t, T, ⟨⟨t1, t2, t3⟩, t4, t5⟩, -, -, t6⟩, hw, hh, hb, hr, hl, hu, hy, pw, hs, hn, ti, hd⟩ := i
  show IF D (xm_u2 F 0 36 n)
  have nT : rg n T := rg_le c.1 c.2 (by rw [t4, ti_nat (by omega)])
  have en := rg_nat (N := T) nT
  have nn : n.toNatClampNeg ≤ T := by show n.toInt.toNat ≤ T; have := nT.2; omega
  have ta : TA (fun i => if i < n.toNatClampNeg then t i else -1) n.toNatClampNeg := ⟨by omega, fun i hi => if_neg (by omega), fun i hi => by
    show 0 ≤ (if i < n.toNatClampNeg then t i else -1).toInt ∧ (if i < n.toNatClampNeg then t i else -1).toInt ≤ 255
    rw [if_pos hi]
    exact t3 i (by omega)⟩
  refine ⟨cn, ha, hz, hf, hp, ⟨_, n.toNatClampNeg, ⟨ta, en, fun i hi => ?_⟩, ta, en, fun i hi => ?_⟩, hw, hh, hb, hr, hl, hu, hy, pw, hs, hn, ti, hd⟩
  · show F 28 i = if i < n.toNatClampNeg then t i else -1
    rw [if_pos hi]
    exact t5 i (by omega)
  · show F 81 i &&& 255 = if i < n.toNatClampNeg then t i else -1
    rw [if_pos hi]
    exact t6 i (by omega)
theorem mr_end {n' : Int32} {r n : Nat} {L : Nat → Ln} (a : MR F r n L) : MR (sp_end F n').2 r n L := by
  unfold sp_end
  split <;> exact a
theorem t_8 (iv : IV M h D F) {n : Int32} : RG M (d + 1000) h D F 24 111 [.int n] := st_same iv (fun _ q _ => c24 (d := d + 1000) q) (fun _ ms => c111 (d := d + 999) ms) (fun _ _ _ => mr_end) (if_end iv.2.2)
theorem if_ladder (i : IF D F) {n s : Int32} : IF D (sp_ladder F n s).2 := by
  unfold sp_ladder
  split
  case isFalse => exact i
  case isTrue c =>
  obtain ⟨cn, ha, hz, hf, hp, ht, hw, hh, hb, hr, hl, hu, hy, pw, hs, hn, ti, hd⟩ := i
  refine ⟨cn, ha, hz, hf, hp, ht, hw, hh, hb, hr, hl, hu, hy, pw, hs, hn, ti, ?_⟩
  have ne : ¬ (F 0 46).toInt = 4 := fun e => c.2.2 (Int32.toInt_inj.mp (e.trans rfl))
  have e : (F 0 46 + 1).toInt = (F 0 46).toInt + 1 := ti_add (b := 1) (by have := hd.1; have := hd.2; rw [show (1 : Int32).toInt = 1 from rfl]; omega)
  obtain ⟨d1, d2⟩ := hd
  exact ⟨by show 0 ≤ (F 0 46 + 1).toInt; omega, by show (F 0 46 + 1).toInt ≤ 4; omega⟩
theorem mr_ladder {n' s : Int32} {r n : Nat} {L : Nat → Ln} (a : MR F r n L) : MR (sp_ladder F n' s).2 r n L := by
  unfold sp_ladder
  split <;> exact a
theorem t_13 (iv : IV M h D F) {n s : Int32} : RG M (d + 1000) h D F 29 141 [.int n, .int s] := st_same iv (fun _ q _ => c29 (d := d + 999) q iv.ld) (fun _ ms => c141 (d := d + 999) ms iv.ld) (fun _ _ _ => mr_ladder) (if_ladder iv.2.2)
end ST2
