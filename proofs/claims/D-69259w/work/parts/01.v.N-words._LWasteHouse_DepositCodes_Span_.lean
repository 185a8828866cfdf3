theorem q9725 : (Jvm.Cond.castable "[LWasteHouse$DepositCodes$Span;" "java/lang/Object") ∈ lw_tbl := lw_at lw_m39 213 rfl
set_option maxRecDepth 100000
