theorem q9722 : (Jvm.Cond.castable "[LWasteHouse$ApartCost$Act;" "java/lang/Object") ∈ lw_tbl := lw_at lw_m39 210 rfl
set_option maxRecDepth 100000
