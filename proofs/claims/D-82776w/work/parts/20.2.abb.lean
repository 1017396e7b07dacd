/-! what the operations ask first -/
set_option maxRecDepth 100000
abbrev sp_isLedge (F : xp_F) (l : Int32) : Prop := 0 ≤ l ∧ l ≤ F 0 6 - 1
abbrev sp_isLadder (F : xp_F) (k : Int32) : Prop := 0 ≤ k ∧ k ≤ F 0 46 - 1
abbrev sp_isPerson (F : xp_F) (k : Int32) : Prop := 0 ≤ k ∧ k ≤ F 0 61 - 1
abbrev sp_isLiving (F : xp_F) (k : Int32) : Prop := sp_isPerson F k ∧ ¬ F 43 k.toNatClampNeg = 0
abbrev sp_isLot (F : xp_F) (k : Int32) : Prop := 0 ≤ k ∧ k ≤ F 0 68 - 1
abbrev sp_isThere (F : xp_F) (k : Int32) : Prop := sp_isLot F k ∧ ¬ F 54 k.toNatClampNeg = 0
abbrev sp_isSpan (a b : Int32) : Prop := (0 ≤ a ∧ a ≤ 90) ∧ (a ≤ b ∧ b ≤ 90)
