/-! THE ABSTRACT MACHINE: a deterministic big-step reading of the bytecode over typed maps (ints, longs, references by address and place). Everything else is proved over it. -/
set_option maxRecDepth 100000
/-- (base, size, slots made, constants), kind, length, ints, longs, references -/
abbrev xm_H : Type := (Nat × Nat × Nat × (Nat → Value)) × (Nat → Nat) × (Nat → Nat) × (Nat → Nat → Int32) × (Nat → Nat → Int64) × (Nat → Nat → Option Nat)
def xm_B (h : xm_H) : Nat := h.1.1
def xm_Z (h : xm_H) : Nat := h.1.2.1
def xm_S (h : xm_H) : Nat := h.1.2.2.1
def xm_C (h : xm_H) : Nat → Value := h.1.2.2.2
def xm_K (h : xm_H) : Nat → Nat := h.2.1
def xm_N (h : xm_H) : Nat → Nat := h.2.2.1
def xm_I (h : xm_H) : Nat → Nat → Int32 := h.2.2.2.1
def xm_L (h : xm_H) : Nat → Nat → Int64 := h.2.2.2.2.1
def xm_R (h : xm_H) : Nat → Nat → Option Nat := h.2.2.2.2.2
def xm_u1 {α : Type} (f : Nat → α) (a : Nat) (v : α) : Nat → α := fun a' => if a' = a then v else f a'
def xm_u2 {α : Type} (f : Nat → Nat → α) (a k : Nat) (v : α) : Nat → Nat → α := fun a' k' => if a' = a ∧ k' = k then v else f a' k'
/-- one int, long, reference set -/
def xm_sI (h : xm_H) (a k : Nat) (v : Int32) : xm_H := (h.1, h.2.1, h.2.2.1, xm_u2 h.2.2.2.1 a k v, h.2.2.2.2.1, h.2.2.2.2.2)
def xm_sL (h : xm_H) (a k : Nat) (v : Int64) : xm_H := (h.1, h.2.1, h.2.2.1, h.2.2.2.1, xm_u2 h.2.2.2.2.1 a k v, h.2.2.2.2.2)
def xm_sR (h : xm_H) (a k : Nat) (v : Option Nat) : xm_H := (h.1, h.2.1, h.2.2.1, h.2.2.2.1, h.2.2.2.2.1, xm_u2 h.2.2.2.2.2 a k v)
/-- a new cell of kind kd, length n, counting s slots -/
def xm_nw (h : xm_H) (kd n s : Nat) : xm_H :=
  ((h.1.1, h.1.2.1 + 1, h.1.2.2.1 + s, h.1.2.2.2), xm_u1 h.2.1 h.1.2.1 kd, xm_u1 h.2.2.1 h.1.2.1 n, xm_u1 h.2.2.2.1 h.1.2.1 (fun _ => 0), xm_u1 h.2.2.2.2.1 h.1.2.1 (fun _ => 0), xm_u1 h.2.2.2.2.2 h.1.2.1 (fun _ => none))
/-- ints of the cell a, from place p on for n places, set to f -/
def xm_cp (h : xm_H) (a p n : Nat) (f : Nat → Int32) : xm_H := (h.1, h.2.1, h.2.2.1, (fun a' k' => if a' = a ∧ p ≤ k' ∧ k' < p + n then f (k' - p) else h.2.2.2.1 a' k'), h.2.2.2.2.1, h.2.2.2.2.2)
/-- what a method comes to: an answer, or a thrown object -/
abbrev xm_O : Type := Option Value ⊕ Nat
abbrev xm_V : Type := Option (xm_O × xm_H)
/-! locals -/
def xm_lg (l : List (Option Value)) (k : Nat) : Option Value := l.getD k none
def xm_ls : List (Option Value) → Nat → Option Value → List (Option Value)
  | [], 0, v => [v]
  | [], k + 1, v => none :: xm_ls [] k v
  | _ :: l, 0, v => v :: l
  | x :: l, k + 1, v => x :: xm_ls l k v
def xm_lk2 (v : Option Value) : Bool := match v with
  | some (.long _) => true
  | some (.double _) => true
  | _ => false
def xm_two (l : List (Option Value)) (k : Nat) : Bool := match k with
  | 0 => false
  | k + 1 => xm_lk2 (xm_lg l k)
/-- the locals with which a method begins -/
def xm_ent : List Value → List (Option Value)
  | [] => []
  | .long x :: r => some (.long x) :: none :: xm_ent r
  | .double x :: r => some (.double x) :: none :: xm_ent r
  | v :: r => some v :: xm_ent r
def xm_jmp (pc : Nat) (off : Int) : Option Nat := if 0 ≤ (pc : Int) + off then some ((pc : Int) + off).toNat else none
def xm_isref (v : Value) : Bool := match v with
  | .null => true
  | .ref _ => true
  | _ => false
/-- null or a reference, as an address or none -/
def xm_rv (v : Value) : Option (Option Nat) := match v with
  | .null => some none
  | .ref a => some (some a)
  | _ => none
def xm_st1 (ls : List (Option Value)) (n pc len mL : Nat) (v : Value) (r : List Value) (h : xm_H) : Option (Nat × List (Option Value) × List Value × xm_H) :=
  if n < mL ∧ xm_two ls n = false then some (pc + len, xm_ls ls n (some v), r, h) else none
def xm_st2 (ls : List (Option Value)) (n pc len mL : Nat) (v : Value) (r : List Value) (h : xm_H) : Option (Nat × List (Option Value) × List Value × xm_H) :=
  if n + 1 < mL ∧ xm_two ls n = false then some (pc + len, xm_ls (xm_ls ls n (some v)) (n + 1) none, r, h) else none
abbrev xm_X : Type := Option (Nat × List (Option Value) × List Value × xm_H)
/-- a branch -/
def xm_br (b : Prop) [Decidable b] (pc : Nat) (off : Int) (ls : List (Option Value)) (st : List Value) (h : xm_H) : xm_X :=
  match xm_jmp pc off with
  | none => none
  | some t => if b then some (t, ls, st, h) else some (pc + 3, ls, st, h)
/-- is the place i within n -/
def xm_in (i : Int32) (n : Nat) : Bool := decide (¬ (i < 0 ∨ n ≤ i.toNatClampNeg))
/-- narrowing of an int field or component -/
def xm_ok (ty : FieldType) (x : Int32) : Bool := match ty with
  | .int => true
  | t => decide (narrow t (.int x) = .int x) && fits t (.int x)
/-- a field's value by its type -/
def xm_fv (c k : Nat) (h : xm_H) (a : Nat) : Option Value := match xm_ty c k with
  | .long => some (.long (xm_L h a k))
  | .object _ => some (va_rf (xm_R h a k))
  | .array _ => some (va_rf (xm_R h a k))
  | .float => none
  | .double => none
  | _ => some (.int (xm_I h a k))
/-- a field set -/
def xm_fs (c k : Nat) (h : xm_H) (a : Nat) (v : Value) : Option xm_H := match xm_ty c k with
  | .long => match v with
    | .long x => some (xm_sL h a k x)
    | _ => none
  | .object _ => match xm_rv v with
    | some o => some (xm_sR h a k o)
    | none => none
  | .array _ => match xm_rv v with
    | some o => some (xm_sR h a k o)
    | none => none
  | .float => none
  | .double => none
  | t => match v with
    | .int x => if xm_ok t x = true then some (xm_sI h a k x) else none
    | _ => none
/-- may the method mi write the field k of class c: it isn't final, or this is its class's constructor -/
def xm_pf (mi c k : Nat) : Bool := !(xm_T c k).2.2.2 || ((xm_mY mi).name == "<init>" && (xm_T c k).1 == xm_oN (xm_mO mi))
def xm_at (t : ArrayType) : Option Nat := match t with
  | .int => some 100
  | .byte => some 101
  | .boolean => some 102
  | _ => none
def xm_ld (l : List (Option Value)) (k : Nat) (f : Value → Bool) (pc len : Nat) (st : List Value) (h : xm_H) : xm_X := match xm_lg l k with
  | some v => if f v = true then some (pc + len, l, v :: st, h) else none
  | none => none
def xm_isI (v : Value) : Bool := match v with
  | .int _ => true
  | _ => false
def xm_isL (v : Value) : Bool := match v with
  | .long _ => true
  | _ => false
def xm_i1 (f : Int32 → Int32) (pc : Nat) (ls : List (Option Value)) (st : List Value) (h : xm_H) : xm_X := match st with
  | .int x :: r => some (pc + 1, ls, .int (f x) :: r, h)
  | _ => none
def xm_i2 (f : Int32 → Int32 → Int32) (pc : Nat) (ls : List (Option Value)) (st : List Value) (h : xm_H) : xm_X := match st with
  | .int y :: .int x :: r => some (pc + 1, ls, .int (f x y) :: r, h)
  | _ => none
def xm_l2 (f : Int64 → Int64 → Int64) (pc : Nat) (ls : List (Option Value)) (st : List Value) (h : xm_H) : xm_X := match st with
  | .long y :: .long x :: r => some (pc + 1, ls, .long (f x y) :: r, h)
  | _ => none
/-- the instructions that stay in the method and throw nothing -/
def xm_simple (mi : Nat) (i : Instr) (pc : Nat) (ls : List (Option Value)) (st : List Value) (h : xm_H) : xm_X := match i with
  | .aconst_null => some (pc + 1, ls, .null :: st, h)
  | .iconst v => some (pc + 1, ls, .int (Int32.ofInt v) :: st, h)
  | .bipush v => some (pc + 2, ls, .int (Int8.ofInt v).toInt32 :: st, h)
  | .sipush v => some (pc + 3, ls, .int (Int16.ofInt v).toInt32 :: st, h)
  | .lconst v => some (pc + 1, ls, .long (Int64.ofNat (v : Nat)) :: st, h)
  | .iload n => xm_ld ls n xm_isI pc 2 st h
  | .iload_n n => xm_ld ls n xm_isI pc 1 st h
  | .lload n => xm_ld ls n xm_isL pc 2 st h
  | .lload_n n => xm_ld ls n xm_isL pc 1 st h
  | .aload n => xm_ld ls n xm_isref pc 2 st h
  | .aload_n n => xm_ld ls n xm_isref pc 1 st h
  | .istore n => match st with
    | .int x :: r => xm_st1 ls n pc 2 (xm_mL mi) (.int x) r h
    | _ => none
  | .istore_n n => match st with
    | .int x :: r => xm_st1 ls n pc 1 (xm_mL mi) (.int x) r h
    | _ => none
  | .lstore n => match st with
    | .long x :: r => xm_st2 ls n pc 2 (xm_mL mi) (.long x) r h
    | _ => none
  | .lstore_n n => match st with
    | .long x :: r => xm_st2 ls n pc 1 (xm_mL mi) (.long x) r h
    | _ => none
  | .astore n => match st with
    | v :: r => if xm_isref v = true then xm_st1 ls n pc 2 (xm_mL mi) v r h else none
    | _ => none
  | .astore_n n => match st with
    | v :: r => if xm_isref v = true then xm_st1 ls n pc 1 (xm_mL mi) v r h else none
    | _ => none
  | .iinc n d => match xm_lg ls n with
    | some (.int x) => xm_st1 ls n pc 3 (xm_mL mi) (.int (x + Int32.ofInt d)) st h
    | _ => none
  | .iadd => xm_i2 (fun x y => x + y) pc ls st h
  | .isub => xm_i2 (fun x y => x - y) pc ls st h
  | .imul => xm_i2 (fun x y => x * y) pc ls st h
  | .iand => xm_i2 (fun x y => x &&& y) pc ls st h
  | .ior => xm_i2 (fun x y => x ||| y) pc ls st h
  | .ixor => xm_i2 (fun x y => x ^^^ y) pc ls st h
  | .ishl => xm_i2 (fun x y => x <<< (y &&& 31)) pc ls st h
  | .ishr => xm_i2 (fun x y => x >>> (y &&& 31)) pc ls st h
  | .iushr => xm_i2 (fun x y => (x.toUInt32 >>> (y.toUInt32 &&& Int32.toUInt32 31)).toInt32) pc ls st h
  | .ineg => xm_i1 (fun x => -x) pc ls st h
  | .i2b => xm_i1 (fun x => x.toInt8.toInt32) pc ls st h
  | .i2c => xm_i1 (fun x => (x.toUInt32 % 65536).toInt32) pc ls st h
  | .idiv => match st with
    | .int y :: .int x :: r => if y = 0 then none else some (pc + 1, ls, .int (x / y) :: r, h)
    | _ => none
  | .irem => match st with
    | .int y :: .int x :: r => if y = 0 then none else some (pc + 1, ls, .int (x - x / y * y) :: r, h)
    | _ => none
  | .ladd => xm_l2 (fun x y => x + y) pc ls st h
  | .lsub => xm_l2 (fun x y => x - y) pc ls st h
  | .lmul => xm_l2 (fun x y => x * y) pc ls st h
  | .lor => xm_l2 (fun x y => x ||| y) pc ls st h
  | .ldiv => match st with
    | .long y :: .long x :: r => if y = 0 then none else some (pc + 1, ls, .long (x / y) :: r, h)
    | _ => none
  | .lshl => match st with
    | .int y :: .long x :: r => some (pc + 1, ls, .long (x <<< (y.toInt64 &&& 63)) :: r, h)
    | _ => none
  | .lcmp => match st with
    | .long y :: .long x :: r => some (pc + 1, ls, .int (lg_cmp x y) :: r, h)
    | _ => none
  | .i2l => match st with
    | .int x :: r => some (pc + 1, ls, .long x.toInt64 :: r, h)
    | _ => none
  | .l2i => match st with
    | .long x :: r => some (pc + 1, ls, .int x.toInt32 :: r, h)
    | _ => none
  | .dup => match st with
    | v :: r => if v.category = 1 then some (pc + 1, ls, v :: v :: r, h) else none
    | _ => none
  | .dup_x1 => match st with
    | v :: w :: r => if v.category = 1 ∧ w.category = 1 then some (pc + 1, ls, v :: w :: v :: r, h) else none
    | _ => none
  | .dup2 => match st with
    | v :: w :: r => if v.category = 1 ∧ w.category = 1 then some (pc + 1, ls, v :: w :: v :: w :: r, h) else none
    | _ => none
  | .pop => match st with
    | v :: r => if v.category = 1 then some (pc + 1, ls, r, h) else none
    | _ => none
  | .pop2 => match st with
    | v :: r => if v.category = 2 then some (pc + 1, ls, r, h) else match r with
      | w :: r2 => if v.category = 1 ∧ w.category = 1 then some (pc + 1, ls, r2, h) else none
      | _ => none
    | _ => none
  | .goto off => match xm_jmp pc off with
    | some t => some (t, ls, st, h)
    | none => none
  | .ifCond c off => match st with
    | .int x :: r => match c with
      | .eq => xm_br (x = 0) pc off ls r h
      | .ne => xm_br (¬ x = 0) pc off ls r h
      | .lt => xm_br (x < 0) pc off ls r h
      | .ge => xm_br (0 ≤ x) pc off ls r h
      | .gt => xm_br (0 < x) pc off ls r h
      | .le => xm_br (x ≤ 0) pc off ls r h
    | _ => none
  | .if_icmp c off => match st with
    | .int y :: .int x :: r => match c with
      | .eq => xm_br (x = y) pc off ls r h
      | .ne => xm_br (¬ x = y) pc off ls r h
      | .lt => xm_br (x < y) pc off ls r h
      | .ge => xm_br (y ≤ x) pc off ls r h
      | .gt => xm_br (y < x) pc off ls r h
      | .le => xm_br (x ≤ y) pc off ls r h
    | _ => none
  | .if_acmp c off => match st with
    | .ref y :: .ref x :: r => match c with
      | .eq => xm_br (x = y) pc off ls r h
      | .ne => xm_br (¬ x = y) pc off ls r h
    | _ => none
  | .ifnull off => match st with
    | v :: r => if xm_isref v = true then xm_br (v = .null) pc off ls r h else none
    | _ => none
  | .ifnonnull off => match st with
    | v :: r => if xm_isref v = true then xm_br (¬ v = .null) pc off ls r h else none
    | _ => none
  | .tableswitch dflt lo hi offs => match st with
    | .int x :: r => if x.toInt < lo ∨ hi < x.toInt then
        match xm_jmp pc dflt with
        | some t => some (t, ls, r, h)
        | none => none
      else match offs[(x.toInt - lo).toNat]? with
        | some off => match xm_jmp pc off with
          | some t => some (t, ls, r, h)
          | none => none
        | none => none
    | _ => none
  | .ldc idx => match xm_lkD (xm_mO mi) idx with
    | some (.inl v) => some (pc + 2, ls, v :: st, h)
    | some (.inr j) => some (pc + 2, ls, xm_C h j :: st, h)
    | none => none
  | .ldc_w idx => match xm_lkD (xm_mO mi) idx with
    | some (.inl v) => some (pc + 3, ls, v :: st, h)
    | _ => none
  | .ldc2_w idx => match xm_lkL (xm_mO mi) idx with
    | some v => some (pc + 3, ls, .long v :: st, h)
    | none => none
  | .getstatic idx => match xm_lkG (xm_mO mi) idx with
    | some j => some (pc + 3, ls, xm_C h j :: st, h)
    | none => none
  | .getfield idx => match st with
    | .ref a :: r => match xm_lkF (xm_mO mi) idx with
      | some (c, k) => if xm_is c (xm_K h a) = true then
          match xm_fv c k h a with
          | some v => some (pc + 3, ls, v :: r, h)
          | none => none
        else none
      | none => none
    | _ => none
  | .putfield idx => match st with
    | v :: .ref a :: r => match xm_lkF (xm_mO mi) idx with
      | some (c, k) => if xm_is c (xm_K h a) = true ∧ xm_B h ≤ a ∧ xm_pf mi c k = true then
          match xm_fs c k h a v with
          | some h' => some (pc + 3, ls, r, h')
          | none => none
        else none
      | none => none
    | _ => none
  | .iaload => match st with
    | .int i :: .ref a :: r => if xm_K h a = 100 ∧ xm_in i (xm_N h a) = true then some (pc + 1, ls, .int (xm_I h a i.toNatClampNeg) :: r, h) else none
    | _ => none
  | .baload => match st with
    | .int i :: .ref a :: r => if (xm_K h a = 101 ∨ xm_K h a = 102) ∧ xm_in i (xm_N h a) = true then some (pc + 1, ls, .int (xm_I h a i.toNatClampNeg) :: r, h) else none
    | _ => none
  | .aaload => match st with
    | .int i :: .ref a :: r => if 110 ≤ xm_K h a ∧ xm_in i (xm_N h a) = true then some (pc + 1, ls, va_rf (xm_R h a i.toNatClampNeg) :: r, h) else none
    | _ => none
  | .arraylength => match st with
    | .ref a :: r => if 100 ≤ xm_K h a then some (pc + 1, ls, .int (Int32.ofNat (xm_N h a)) :: r, h) else none
    | _ => none
  | .iastore => match st with
    | .int x :: .int i :: .ref a :: r => if xm_K h a = 100 ∧ xm_B h ≤ a ∧ xm_in i (xm_N h a) = true then some (pc + 1, ls, r, xm_sI h a i.toNatClampNeg x) else none
    | _ => none
  | .bastore => match st with
    | .int x :: .int i :: .ref a :: r => if xm_B h ≤ a ∧ xm_in i (xm_N h a) = true then
        if xm_K h a = 101 then some (pc + 1, ls, r, xm_sI h a i.toNatClampNeg x.toInt8.toInt32)
        else if xm_K h a = 102 ∧ xm_ok .boolean x = true then some (pc + 1, ls, r, xm_sI h a i.toNatClampNeg x) else none
      else none
    | _ => none
  | .aastore => match st with
    | .ref v :: .int i :: .ref a :: r => if xm_el (xm_K h a) (xm_K h v) = true ∧ xm_B h ≤ a ∧ xm_in i (xm_N h a) = true then some (pc + 1, ls, r, xm_sR h a i.toNatClampNeg (some v)) else none
    | _ => none
  | .new idx => match xm_lkC (xm_mO mi) idx with
    | some c => some (pc + 3, ls, .ref (xm_Z h) :: st, xm_nw h (c + 1) 0 (xm_ns c))
    | none => none
  | .newarray t => match st with
    | .int n :: r => match xm_at t with
      | some kd => if ¬ n < 0 ∧ n.toNatClampNeg ≤ 100000 then some (pc + 2, ls, .ref (xm_Z h) :: r, xm_nw h kd n.toNatClampNeg n.toNatClampNeg) else none
      | none => none
    | _ => none
  | .anewarray idx => match st with
    | .int n :: r => match xm_lkA (xm_mO mi) idx with
      | some kd => if ¬ n < 0 ∧ n.toNatClampNeg ≤ 100000 then some (pc + 3, ls, .ref (xm_Z h) :: r, xm_nw h kd n.toNatClampNeg n.toNatClampNeg) else none
      | none => none
    | _ => none
  | .instanceof idx => match st with
    | .ref a :: r => if xm_lkI (xm_mO mi) idx = some (xm_K h a) then some (pc + 3, ls, .int 1 :: r, h) else none
    | _ => none
  | .checkcast idx => match st with
    | .ref a :: r => if xm_lkI (xm_mO mi) idx = some (xm_K h a) then some (pc + 3, ls, .ref a :: r, h) else none
    | _ => none
  | _ => none
/-- the instructions that end a method -/
def xm_ret (mi : Nat) (i : Instr) (st : List Value) : Option (Option Value) := match i with
  | .return_ => match st with
    | [] => if xm_mT mi = none then some none else none
    | _ => none
  | .ireturn => match st with
    | [.int x] => match xm_mT mi with
      | some t => if xm_ok t x = true then some (some (.int x)) else none
      | none => none
    | _ => none
  | .lreturn => match st with
    | [.long x] => if xm_mT mi = some .long then some (some (.long x)) else none
    | _ => none
  | .areturn => match st with
    | [v] => if xm_isref v = true ∧ xm_rt (xm_mT mi) = true then some (some v) else none
    | _ => none
  | _ => none
/-- the words of what stays on the stack -/
def xm_w (r : List Value) : Nat := (r.map fun v => v.category).sum
/-- a call: the method that runs, its arguments, what stays on the stack -/
def xm_cal (mi : Nat) (i : Instr) (st : List Value) (h : xm_H) : Option (Nat × List Value × List Value) := match i with
  | .invokestatic idx => match xm_lkS (xm_mO mi) idx with
    | some y => if xm_mP y ≤ st.length ∧ xm_w (st.drop (xm_mP y)) ≤ 8 ∧ xm_w (st.take (xm_mP y)).reverse ≤ xm_mL y then some (y, (st.take (xm_mP y)).reverse, st.drop (xm_mP y)) else none
    | none => none
  | .invokespecial idx => match xm_lkP (xm_mO mi) idx with
    | some y => match st.drop (xm_mP y) with
      | .ref a :: r => if xm_w r ≤ 8 ∧ (xm_lkZ (xm_mO mi) idx = true → xm_K h a = 27) ∧ xm_w (.ref a :: (st.take (xm_mP y)).reverse) ≤ xm_mL y then some (y, .ref a :: (st.take (xm_mP y)).reverse, r) else none
      | _ => none
    | none => none
  | .invokevirtual idx => match xm_lkV (xm_mO mi) idx with
    | some n => match st.drop n with
      | .ref a :: r => match xm_lkR (xm_mO mi) idx (xm_K h a) with
        | some y => if xm_w r ≤ 8 ∧ xm_mP y = n ∧ xm_w (.ref a :: (st.take n).reverse) ≤ xm_mL y then some (y, .ref a :: (st.take n).reverse, r) else none
        | none => none
      | _ => none
    | none => none
  | _ => none
/-- Math.max, min, abs -/
def xm_mth (f : Nat) (pc : Nat) (ls : List (Option Value)) (st : List Value) (h : xm_H) : xm_X := match f with
  | 0 => match st with
    | .int y :: .int x :: r => if xm_w r ≤ 8 then some (pc + 3, ls, .int (if x < y then y else x) :: r, h) else none
    | _ => none
  | 1 => match st with
    | .int y :: .int x :: r => if xm_w r ≤ 8 then some (pc + 3, ls, .int (if y < x then y else x) :: r, h) else none
    | _ => none
  | _ => match st with
    | .int x :: r => if xm_w r ≤ 8 then some (pc + 3, ls, .int (if 0 ≤ x then x else 0 - x) :: r, h) else none
    | _ => none
def xm_nat (mi : Nat) (i : Instr) (pc : Nat) (ls : List (Option Value)) (st : List Value) (h : xm_H) : xm_X := match i with
  | .invokespecial idx => if xm_lkO (xm_mO mi) idx = true then
      match st with
      | .ref _ :: r => if xm_w r ≤ 8 then some (pc + 3, ls, r, h) else none
      | _ => none
    else none
  | .invokestatic idx => match xm_lkN (xm_mO mi) idx with
    | some f => xm_mth f pc ls st h
    | none => if xm_lkY (xm_mO mi) idx = true then
      match st with
      | .int n :: .int dp :: .ref b :: .int sp :: .ref a :: r =>
        if (xm_K h a = 100 ∨ (xm_K h a = 101 ∧ (List.range n.toNatClampNeg).all (fun j => fits .byte (.int (xm_I h a (sp.toNatClampNeg + j)))) = true)) ∧ xm_K h b = xm_K h a ∧ xm_B h ≤ b ∧ ¬ a = b ∧ ¬ n < 0 ∧ ¬ sp < 0 ∧ ¬ dp < 0 ∧ sp.toNatClampNeg + n.toNatClampNeg ≤ xm_N h a ∧ dp.toNatClampNeg + n.toNatClampNeg ≤ xm_N h b ∧ xm_w r ≤ 8 then
          some (pc + 3, ls, r, xm_cp h b dp.toNatClampNeg n.toNatClampNeg (fun j => xm_I h a (sp.toNatClampNeg + j)))
        else none
      | _ => none
    else none
  | .multianewarray idx dm => if xm_lkW (xm_mO mi) idx = true ∧ dm = 2 then
      match st with
      | .int m :: .int n :: r => if n = 2 ∧ ¬ m < 0 ∧ m.toNatClampNeg ≤ 1000 then
          some (pc + 4, ls, .ref (xm_Z h) :: r, xm_sR (xm_sR (xm_nw (xm_nw (xm_nw h 112 2 2) 113 m.toNatClampNeg m.toNatClampNeg) 113 m.toNatClampNeg m.toNatClampNeg) (xm_Z h) 0 (some (xm_Z h + 1))) (xm_Z h) 1 (some (xm_Z h + 2)))
        else none
      | _ => none
    else none
  | _ => none
/-- an object thrown at pc: the method's own handler, or out -/
def xm_thr (k : Nat → List (Option Value) → List Value → xm_H → xm_V) (mi pc : Nat) (ls : List (Option Value)) (h : xm_H) (a : Nat) : xm_V :=
  if xm_K h a = 2 ∧ xm_B h ≤ a then
    match xm_hnd mi pc with
    | some hp => k hp ls [.ref a] h
    | none => some (.inr a, h)
  else none
/-- what comes behind a call -/
def xm_aft (k : Nat → List (Option Value) → List Value → xm_H → xm_V) (mi pc : Nat) (ls : List (Option Value)) (r : List Value) : xm_V → xm_V
  | some (.inl v, h) => k (pc + 3) ls (v.toList ++ r) h
  | some (.inr a, h) => xm_thr k mi pc ls h a
  | none => none
/-- the method with handlers lets nothing out -/
def xm_nox (y : Nat) (v : xm_V) : xm_V := match v with
  | some (.inr a, h) => if y = 18 then none else some (.inr a, h)
  | v => v
/-- the length of an instruction -/
def xm_ln (i : Instr) (len : Nat) : Bool := match i with
  | .bipush _ => len == 2
  | .iload _ => len == 2
  | .lload _ => len == 2
  | .aload _ => len == 2
  | .istore _ => len == 2
  | .lstore _ => len == 2
  | .astore _ => len == 2
  | .ldc _ => len == 2
  | .newarray _ => len == 2
  | .sipush _ => len == 3
  | .iinc _ _ => len == 3
  | .goto _ => len == 3
  | .ifCond _ _ => len == 3
  | .if_icmp _ _ => len == 3
  | .if_acmp _ _ => len == 3
  | .ifnull _ => len == 3
  | .ifnonnull _ => len == 3
  | .ldc_w _ => len == 3
  | .ldc2_w _ => len == 3
  | .getstatic _ => len == 3
  | .getfield _ => len == 3
  | .putfield _ => len == 3
  | .invokestatic _ => len == 3
  | .invokespecial _ => len == 3
  | .invokevirtual _ => len == 3
  | .new _ => len == 3
  | .anewarray _ => len == 3
  | .instanceof _ => len == 3
  | .checkcast _ => len == 3
  | .multianewarray _ _ => len == 4
  | .tableswitch _ _ _ _ => true
  | _ => len == 1
/-- one step: 'call' runs a method one level down, 'k' goes on in this one -/
def xm_step (call : Nat → Nat → List Value → xm_H → xm_V) (k : Nat → List (Option Value) → List Value → xm_H → xm_V) (d mi pc : Nat) (ls : List (Option Value)) (st : List Value) (h : xm_H) : xm_V :=
  match decode (xm_mC mi) pc with
  | .error _ => none
  | .ok (i, len) => if xm_ln i len = false then none else
    match xm_simple mi i pc ls st h with
    | some (pc', ls', st', h') => k pc' ls' st' h'
    | none => match xm_ret mi i st with
      | some v => some (.inl v, h)
      | none => match d with
        | 0 => none
        | d + 1 => match xm_nat mi i pc ls st h with
          | some (pc', ls', st', h') => k pc' ls' st' h'
          | none => match xm_cal mi i st h with
            | some (y, as, r) => xm_aft k mi pc ls r (xm_nox y (call d y as h))
            | none => match i with
              | .athrow => match st with
                | .ref a :: _ => xm_thr k mi pc ls h a
                | _ => none
              | _ => none
def xm_exec : Nat → Nat → Nat → Nat → List (Option Value) → List Value → xm_H → xm_V
  | 0, _, _, _, _, _, _ => none
  | n + 1, d, mi, pc, ls, st, h => xm_step (fun d' y as h' => xm_exec n d' y 0 (xm_ent as) [] h') (xm_exec n d mi) d mi pc ls st h
