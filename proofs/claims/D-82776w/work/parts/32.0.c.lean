/-! texts: tokens -/
set_option maxRecDepth 100000
def sp_word (w : Int64) : Int32 := if w = 465557354085 then 3 else if w = 6447474 then 4 else if w = 495672455781 then 5 else if w = 465557353070 then 6 else if w = 7302244 then 7 else if w = 2003330414 then 8 else if w = 28530 then 9 else if w = 6385252 then 10 else if w = 7237492 then 11 else if w = 109356116108658 then 150 else if w = 1919905893 then 151 else if w = 112603009672562 then 152 else if w = 1818324580 then 153 else if w = 6578553 then 201 else if w = 470020945000 then 202 else if w = 1836019566 then 203 else if w = 2003398244 then 204 else if w = 114784769370228 then 205 else if w = 8319400191629685864 then 206 else if w = 1668246882 then 207 else if w = 126879263846254 then 208 else 1
abbrev tS (x : Int32) : Prop := x = 32 ∨ x = 10
abbrev tL (x : Int32) : Prop := (97 ≤ x ∧ x ≤ 122) ∨ (65 ≤ x ∧ x ≤ 90)
abbrev tD (x : Int32) : Prop := 48 ≤ x ∧ x ≤ 57
abbrev tG (x : Int32) : Prop := x = 59 ∨ x = 43 ∨ x = 45 ∨ x = 42 ∨ x = 47 ∨ x = 40 ∨ x = 41 ∨ x = 60 ∨ x = 61 ∨ x = 62
/-- how far signs of a sort go, n at most -/
def rn (P : Int32 → Prop) [DecidablePred P] (c : Nat → Int32) : Nat → Nat → Nat
  | 0, p => p
  | n + 1, p => if P (c p) then rn P c n (p + 1) else p
def pkv (c : Nat → Int32) (s : Nat) : Nat → Int64
  | 0 => 0
  | n + 1 => (pkv c s n) <<< 8 ||| (c (s + n)).toInt64
def dgv (c : Nat → Int32) (s : Nat) : Nat → Int32
  | 0 => 0
  | n + 1 => 10 * dgv c s n + c (s + n) - 48
/-- a token: where it begins, ends; which; of what value -/
def lS (c : Nat → Int32) (T q : Nat) : Nat := rn tS c (T - q) q
def lE (c : Nat → Int32) (T q : Nat) : Nat := if c (lS c T q) = -1 then lS c T q else if tL (c (lS c T q)) then rn tL c (T - lS c T q) (lS c T q) else if tD (c (lS c T q)) then rn tD c (T - lS c T q) (lS c T q) else lS c T q + 1
def lK (c : Nat → Int32) (T q : Nat) : Int32 := if c (lS c T q) = -1 then 0 else if tL (c (lS c T q)) then (if lE c T q - lS c T q < 9 then sp_word (pkv c (lS c T q) (lE c T q - lS c T q)) else 1) else if tD (c (lS c T q)) then (if lE c T q - lS c T q < 5 then 2 else 1) else if tG (c (lS c T q)) then c (lS c T q) else 1
def lV (c : Nat → Int32) (T q : Nat) : Int32 := dgv c (lS c T q) (min (lE c T q - lS c T q) 4)
/-- a tape of T signs -/
def TA (c : Nat → Int32) (T : Nat) : Prop := T ≤ 600 ∧ (∀ i, T ≤ i → c i = -1) ∧ ∀ i, i < T → 0 ≤ (c i).toInt ∧ (c i).toInt ≤ 255
section TOK
variable {c : Nat → Int32} {T : Nat}
theorem rn_le {P : Int32 → Prop} [DecidablePred P] : ∀ n p, p ≤ rn P c n p ∧ rn P c n p ≤ p + n
  | 0, p => ⟨Nat.le_refl _, Nat.le_refl _⟩
  | n + 1, p => by
    unfold rn
    split
    · have := rn_le (P := P) n (p + 1)
      omega
    · omega
theorem TA.nL (a : TA c T) {i : Nat} (h : ¬ i < T) : ¬ tS (c i) ∧ ¬ tL (c i) ∧ ¬ tD (c i) := by
  rw [a.2.1 i (by omega)]
  decide
theorem TA.end (a : TA c T) {i : Nat} : c i = -1 ↔ T ≤ i := by
  constructor
  · intro e
    false_or_by_contra
    have := (a.2.2 i (by omega)).1
    rw [e] at this
    exact absurd this (by decide)
  · exact a.2.1 i
theorem lS_le (a : TA c T) {q : Nat} (hq : q ≤ T) : q ≤ lS c T q ∧ lS c T q ≤ T := by
  have := rn_le (P := tS) (c := c) (T - q) q
  unfold lS
  omega
theorem lE_le (a : TA c T) {q : Nat} (hq : q ≤ T) : lS c T q ≤ lE c T q ∧ lE c T q ≤ T ∧ (¬ lK c T q = 0 → lS c T q < lE c T q) := by
  obtain ⟨s1, s2⟩ := lS_le a hq
  by_cases c1 : c (lS c T q) = -1
  · have e1 : lE c T q = lS c T q := if_pos c1
    have e2 : lK c T q = 0 := if_pos c1
    rw [e1, e2]
    exact ⟨Nat.le_refl _, s2, fun z => absurd rfl z⟩
  have lt : lS c T q < T := by
    false_or_by_contra
    exact c1 (a.2.1 _ (by omega))
  have go : ∀ (P : Int32 → Prop) [DecidablePred P], P (c (lS c T q)) → lS c T q < rn P c (T - lS c T q) (lS c T q) ∧ rn P c (T - lS c T q) (lS c T q) ≤ T := by
    intro P _ h
    obtain ⟨m, em⟩ : ∃ m, T - lS c T q = m + 1 := ⟨T - lS c T q - 1, by omega⟩
    rw [em]
    unfold rn
    rw [if_pos h]
    have := rn_le (P := P) (c := c) m (lS c T q + 1)
    omega
  have lk : lE c T q = if tL (c (lS c T q)) then rn tL c (T - lS c T q) (lS c T q) else if tD (c (lS c T q)) then rn tD c (T - lS c T q) (lS c T q) else lS c T q + 1 := if_neg c1
  rw [lk]
  split
  · rename_i h
    have := go tL h
    omega
  · split
    · rename_i h
      have := go tD h
      omega
    · omega
end TOK
section M113
variable {d : Nat} {h : xm_H} {M : Nat} {F : xp_F}
theorem lgc0 {x y : Int64} : (lg_cmp x y = 0) = (x = y) := by
  unfold lg_cmp
  apply propext
  constructor
  · intro z
    split at z
    · exact absurd z (by decide)
    · split at z
      · assumption
      · exact absurd z (by decide)
  · intro z
    split
    · rename_i g
      subst z
      exact absurd g Int64.lt_irrefl
    · first | rfl | rw [if_pos z]
theorem c116 {w : Int64} : xm_met d 116 [.long w] h = some (.inl (some (.int (sp_word w))), h) := by
  unfold xm_met sp_word
  simp only [ite_not, ite_self, w8_nil, ok01, ite10, rf_rv, rf_ref, rf_cat, rf_lk2, rf_some, rf_none, w_add, w_cons, cr_int, cr_long, cr_ref, cr_null, is_ref, is_null, l2_int, l2_ref, l2_null, l2_none, ent_nil, ent_int, ent_ref, ent_null, ent_rf, ent_long, ok_0, ok_1, af_ret, af_void, List.tail_cons, List.tail_nil, Nat.reduceAdd, Nat.reduceLeDiff, not_false_eq_true, not_true_eq_false, and_self, and_true, true_and, ne_eq, or_true, true_or, or_false, false_or, eq_self, Nat.reduceEqDiff, ↓reduceIte, false_and, and_false, Nat.le_refl, Nat.zero_le, nz_1, nz_2, nz_3, nz_4, nz_5, nz_6, nz_8, nz_10, nz_12, nz_20, nz_30, nz_60, nz_100, mp_B, mp_Z, mp_S, mp_C, mp_K, mp_N, mp_L, mp_R, mp_I, mp_I0, mp_s, mp_s0, u2_ap, sp_isLedge, sp_isLadder, sp_isPerson, sp_isLiving, sp_isLot, sp_isThere, sp_isSpan, r116_0, r116_1, r116_4, r116_8, r116_9, r116_10, r116_11, r116_14, r116_18, r116_19, r116_20, r116_21, r116_24, r116_28, r116_29, r116_30, r116_31, r116_34, r116_38, r116_40, r116_41, r116_42, r116_45, r116_49, r116_51, r116_52, r116_53, r116_56, r116_60, r116_62, r116_63, r116_64, r116_67, r116_71, r116_73, r116_74, r116_75, r116_78, r116_82, r116_84, r116_85, r116_86, r116_89, r116_93, r116_95, r116_96, r116_97, r116_100, r116_104, r116_107, r116_108, r116_109, r116_112, r116_116, r116_119, r116_120, r116_121, r116_124, r116_128, r116_131, r116_132, r116_133, r116_136, r116_140, r116_143, r116_144, r116_145, r116_148, r116_152, r116_155, r116_156, r116_157, r116_160, r116_164, r116_167, r116_168, r116_169, r116_172, r116_176, r116_179, r116_180, r116_181, r116_184, r116_188, r116_191, r116_192, r116_193, r116_196, r116_200, r116_203, r116_204, r116_205, r116_208, r116_212, r116_215, r116_216, r116_217, r116_220, r116_224, r116_227, r116_228, r116_229, r116_232, r116_236, r116_239, r116_242, r116_243, r116_5, r116_15, r116_25, r116_35, r116_46, r116_57, r116_68, r116_79, r116_90, r116_101, r116_113, r116_125, r116_137, r116_149, r116_161, r116_173, r116_185, r116_197, r116_209, r116_221, r116_233, lgc0]
  by_cases w0 : w = 465557354085
  · rw [if_pos w0, if_pos w0]
  rw [if_neg w0, if_neg w0]
  by_cases w1 : w = 6447474
  · rw [if_pos w1, if_pos w1]
  rw [if_neg w1, if_neg w1]
  by_cases w2 : w = 495672455781
  · rw [if_pos w2, if_pos w2]
  rw [if_neg w2, if_neg w2]
  by_cases w3 : w = 465557353070
  · rw [if_pos w3, if_pos w3]
  rw [if_neg w3, if_neg w3]
  by_cases w4 : w = 7302244
  · rw [if_pos w4, if_pos w4]
  rw [if_neg w4, if_neg w4]
  by_cases w5 : w = 2003330414
  · rw [if_pos w5, if_pos w5]
  rw [if_neg w5, if_neg w5]
  by_cases w6 : w = 28530
  · rw [if_pos w6, if_pos w6]
  rw [if_neg w6, if_neg w6]
  by_cases w7 : w = 6385252
  · rw [if_pos w7, if_pos w7]
  rw [if_neg w7, if_neg w7]
  by_cases w8 : w = 7237492
  · rw [if_pos w8, if_pos w8]
  rw [if_neg w8, if_neg w8]
  by_cases w9 : w = 109356116108658
  · rw [if_pos w9, if_pos w9]
  rw [if_neg w9, if_neg w9]
  by_cases w10 : w = 1919905893
  · rw [if_pos w10, if_pos w10]
  rw [if_neg w10, if_neg w10]
  by_cases w11 : w = 112603009672562
  · rw [if_pos w11, if_pos w11]
  rw [if_neg w11, if_neg w11]
  by_cases w12 : w = 1818324580
  · rw [if_pos w12, if_pos w12]
  rw [if_neg w12, if_neg w12]
  by_cases w13 : w = 6578553
  · rw [if_pos w13, if_pos w13]
  rw [if_neg w13, if_neg w13]
  by_cases w14 : w = 470020945000
  · rw [if_pos w14, if_pos w14]
  rw [if_neg w14, if_neg w14]
  by_cases w15 : w = 1836019566
  · rw [if_pos w15, if_pos w15]
  rw [if_neg w15, if_neg w15]
  by_cases w16 : w = 2003398244
  · rw [if_pos w16, if_pos w16]
  rw [if_neg w16, if_neg w16]
  by_cases w17 : w = 114784769370228
  · rw [if_pos w17, if_pos w17]
  rw [if_neg w17, if_neg w17]
  by_cases w18 : w = 8319400191629685864
  · rw [if_pos w18, if_pos w18]
  rw [if_neg w18, if_neg w18]
  by_cases w19 : w = 1668246882
  · rw [if_pos w19, if_pos w19]
  rw [if_neg w19, if_neg w19]
  by_cases w20 : w = 126879263846254
  · rw [if_pos w20, if_pos w20]
  rw [if_neg w20, if_neg w20]
end M113
