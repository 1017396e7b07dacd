set_option maxRecDepth 100000
/-! the words of the arrays, of casts, of abstract methods, that ride with the state -/
def xs_arr : List String := ["CliffHoney$Ledge", "java/lang/String", "CliffHoney$Line", "CliffHoney$Custom", "CliffHoney$Person", "CliffHoney$Lot", "CliffHoney$Buyer"]
def xs_cst : List Cond := [.castable "CliffHoney$Leave" "CliffHoney$Line", .castable "CliffHoney$Bar" "CliffHoney$Line", .castable "CliffHoney$Share" "CliffHoney$Line", .castable "CliffHoney$Learn" "CliffHoney$Line", .castable "CliffHoney$Old" "CliffHoney$Line", .castable "CliffHoney$Cut" "CliffHoney$Lot", .castable "CliffHoney$Mix" "CliffHoney$Lot", .castable "CliffHoney$Fault" "CliffHoney$Fault",
  .declares ⟨"CliffHoney$Lot", "pays", "(I)V"⟩, .declares ⟨"CliffHoney$Lot", "set", "()I"⟩, .declares ⟨"CliffHoney$Term", "of", "([I)I"⟩,
  .selects "java/lang/StringBuilder" ⟨"java/lang/AbstractStringBuilder", "ensureCapacityInternal", "(I)V"⟩ ⟨"java/lang/AbstractStringBuilder", "ensureCapacityInternal", "(I)V"⟩]
