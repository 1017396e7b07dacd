/-! the component's contracts, 17: the least seven -/
set_option maxRecDepth 100000
/-- set and what is left, step by step -/
def sq_low7 : Nat → Int32 → Int32 → Int32
  | 0, s, _ => s
  | n + 1, s, x => if x = 0 then s else sq_low7 n (s ||| (x &&& -x)) (x &&& (x - 1))
def sq_mask (S : List Nat) : Int32 := S.foldl (fun a l => a ||| 1 <<< (Int32.ofNat l &&& 31)) 0
theorem low7_dec : ∀ x : Fin 4096, sq_low7 7 0 (Int32.ofNat x.val) = sq_mask (sp_lows (Int32.ofNat x.val) 12) := by decide +kernel
