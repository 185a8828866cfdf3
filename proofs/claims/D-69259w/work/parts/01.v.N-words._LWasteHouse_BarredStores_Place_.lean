theorem q9717 : (Jvm.Cond.castable "[LWasteHouse$BarredStores$Place;" "java/lang/Object") ∈ lw_tbl := lw_at lw_m39 205 rfl
set_option maxRecDepth 100000
