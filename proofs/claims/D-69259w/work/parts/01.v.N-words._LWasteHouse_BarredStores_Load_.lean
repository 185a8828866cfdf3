theorem q9718 : (Jvm.Cond.castable "[LWasteHouse$BarredStores$Load;" "java/lang/Object") ∈ lw_tbl := lw_at lw_m39 206 rfl
set_option maxRecDepth 100000
