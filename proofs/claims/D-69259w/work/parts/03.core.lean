/-! THE WALK's OWN WORLD: a machine whose numbers are integers and whose cells are numbered; each row is shown by the kit's rows. A value is a tag (0 int, 1 long, 2 reference, 3 float, 4 double) and a number; a reference is the number of its cell, 0 for null. -/
set_option maxRecDepth 100000
def aw_tg (ty : FieldType) : Nat := match ty with
  | .int => 0
  | .boolean => 0
  | .byte => 0
  | .short => 0
  | .char => 0
  | .long => 1
  | .float => 3
  | .double => 4
  | _ => 2
def aw_val (ad : Nat → Nat) (v : aw_V) : Value := match v.1 with
  | 0 => .int (Int32.ofInt v.2)
  | 1 => .long (Int64.ofInt v.2)
  | 2 => if v.2 ≤ 0 then .null else .ref (ad v.2.toNat)
  | 3 => if v.2 < 0 then .ref (-v.2 - 1).toNat else .float (UInt32.ofNat v.2.toNat)
  | _ => .double (aw_dv v.2)
/-- the kind of a thing that is known: an object of a class, an array, one of the constants apart -/
def aw_real (z : Int) (p : Nat × Int) : Prop := (p.1 < aw_cls.length ∧ p.2 = 0) ∨ (1000 ≤ p.1 ∧ p.1 < 1000 + aw_ats.length ∧ p.1 ≠ 1005) ∨ (z < 4096 ∧ (p = (900, 0) ∨ p = (901, 0) ∨ p = (997, 0)))
theorem aw_real_ne {z : Int} {p : Nat × Int} (h : aw_real z p) : p ≠ (9999, 0) := by
  have h1 : aw_cls.length ≤ 200 := by decide
  have h2 : aw_ats.length ≤ 200 := by decide
  intro e
  subst e
  rcases h with h | h | h
  · have := h.1; omega
  · have := h.2; omega
  · rcases h.2 with h | h | h <;> cases h
/-- a reference that can stand in the world: null, or a thing whose kind is known -/
def aw_va (K : Int → Nat × Int) (z : Int) : Prop := 0 ≤ z ∧ (z = 0 ∨ aw_real z (K z))
theorem aw_va0 {K : Int → Nat × Int} : aw_va K 0 := ⟨Int.le_refl 0, Or.inl rfl⟩
def aw_ok (K : Int → Nat × Int) (v : aw_V) : Prop := match v.1 with
  | 0 => R32 v.2
  | 1 => R64 v.2
  | 2 => aw_va K v.2
  | 3 => v.2 < 4294967296
  | _ => R64 v.2
def aw_okT (K : Int → Nat × Int) (ty : FieldType) (z : Int) : Prop := match ty with
  | .boolean => 0 ≤ z ∧ z < 2
  | .byte => -128 ≤ z ∧ z < 128
  | .short => -32768 ≤ z ∧ z < 32768
  | .char => 0 ≤ z ∧ z < 65536
  | .float => 0 ≤ z ∧ z < 4294967296
  | t => aw_ok K (aw_tg t, z)
theorem aw_okT_ok {K : Int → Nat × Int} {ty : FieldType} {z : Int} (h : aw_okT K ty z) : aw_ok K (aw_tg ty, z) := by
  cases ty <;> first | exact h | (simp only [aw_okT, aw_ok, aw_tg, R32] at *; omega)
theorem aw_ok_mono {K K' : Int → Nat × Int} (h : ∀ x, K x ≠ (9999, 0) → K' x = K x) {v : aw_V} (hv : aw_ok K v) : aw_ok K' v := by
  obtain ⟨t, z⟩ := v
  match t with
  | 0 => exact hv
  | 1 => exact hv
  | 2 =>
    have h2 : aw_va K z := hv
    show aw_va K' z
    refine ⟨h2.1, h2.2.elim Or.inl (fun q => Or.inr ?_)⟩
    rw [h z (aw_real_ne q)]
    exact q
  | 3 => exact hv
  | n + 4 => exact hv
theorem aw_okT_mono {K K' : Int → Nat × Int} (h : ∀ x, K x ≠ (9999, 0) → K' x = K x) {ty : FieldType} {z : Int} (hv : aw_okT K ty z) : aw_okT K' ty z := by
  cases ty <;> first | exact hv | exact (aw_ok_mono (K := K) (K' := K') (v := (2, z)) h (show aw_ok K (2, z) from hv) : aw_ok K' (2, z))
/-- what is fixed: classes' numbers and places of fields, array classes' numbers, addresses of constants, where new cells begin, the script's length and ints -/
abbrev aw_G : Type := (Nat → ClassId) × (Nat → Nat → Nat) × (Nat → ClassId) × (Nat → Nat) × Nat × Nat × (Nat → Int)
def aw_NC : Nat := 4096
def aw_ad (G : aw_G) (k : Nat) : Nat := if k < aw_NC then G.2.2.2.1 k else G.2.2.2.2.1 + (k - aw_NC)
/-- of an int that goes into a narrow place -/
def aw_okS (ty : FieldType) (z : Int) : Prop := match ty with
  | .boolean => 0 ≤ z ∧ z < 2
  | .byte => -128 ≤ z ∧ z < 128
  | .short => -32768 ≤ z ∧ z < 32768
  | .char => 0 ≤ z ∧ z < 65536
  | .float => 0 ≤ z ∧ z < 4294967296
  | _ => True
theorem aw_okS_T {K : Int → Nat × Int} {ty : FieldType} {z : Int} (h : aw_okS ty z) (h2 : aw_ok K (aw_tg ty, z)) : aw_okT K ty z := by
  cases ty <;> first | exact h | exact h2
def aw_b (G : aw_G) : Nat := G.2.2.2.2.1
/-- words of the tables that don't ride in lw_all, but are the same at every state of a run -/
def aw_nk : Cond → Bool
  | .fieldLinkNest .. => true
  | .methodLinkNest .. => true
  | .declares _ => true
  | .castable .. => true
  | .publicMethod _ => true
  | .privateMethod _ => true
  | .unhidden .. => true
  | _ => false
theorem aw_nk_t {w : Cond} (h : aw_nk w = true) : w.onTables = true := by
  cases w <;> first | rfl | (simp [aw_nk] at h)
theorem aw_nk_warm {w : Cond} (h : aw_nk w = true) {s U : State} (hW : s.WarmedH U.vm) (hZ : va_Nw w s) : va_Nw w U := by
  cases w with
  | fieldLinkNest a i b n d h => exact va_Nw.warmF hW hZ
  | methodLinkNest a i x h => exact va_Nw.warmM hW hZ
  | declares x => exact va_Nw.warmD hW hZ
  | castable C T => exact va_Nw.warmC hW hZ
  | publicMethod x => exact va_tabs rfl (rfl : (s.setVm U.vm).vm = U.vm) (by rw [Cond.publicMethod_setVm hW.alike]; exact hZ)
  | privateMethod x => exact va_tabs rfl (rfl : (s.setVm U.vm).vm = U.vm) (by rw [Cond.privateMethod_setVm hW.alike]; exact hZ)
  | unhidden C n d => exact va_tabs rfl (rfl : (s.setVm U.vm).vm = U.vm) (by rw [Cond.unhidden_setVm hW.alike]; exact hZ)
  | _ => simp [aw_nk] at h
/-- what holds of the tables at every state -/
def aw_K (G : aw_G) (U : State) : Prop :=
  (∀ (c : Nat) (q : aw_Q), aw_cls[c]? = some q → u_Kn U q.1 (aw_T q) q.2.length (G.1 c) (G.2.1 c)) ∧
  (∀ (t : Nat) (ty : FieldType), aw_ats[t]? = some ty → ArrOfT U (G.2.2.1 t) ty ∧ va_RA U (G.2.2.1 t) ty) ∧
  (∀ w ∈ lw_tbl, aw_nk w = true → va_Nw w U) ∧
  (∀ C ∈ aw_aos, va_AO C U) ∧
  (∀ q ∈ aw_ims, va_Nw (Cond.interfaceMethod q.cls q.cls q.name q.desc) U)
theorem aw_K.moved {G : aw_G} {u U : State} (hW : u.WarmedH U.vm) (h : aw_K G u) : aw_K G U := by
  refine ⟨fun c q hq => u_Kn_moved hW.alike (h.1 c q hq), fun t ty ht => ⟨arrOfT_moved hW.alike (h.2.1 t ty ht).1, (h.2.1 t ty ht).2.moved hW.alike⟩, fun w hw hk => aw_nk_warm hk hW (h.2.2.1 w hw hk), fun C hC => (h.2.2.2.1 C hC).moved hW.alike, fun q hq => ?_⟩
  have h2 := h.2.2.2.2 q hq
  obtain ⟨r, meth, hn, -⟩ := Cond.declares_spec (args := #[]) (h.2.2.1 (.declares q) (aw_imd q hq).1 rfl)
  exact va_tabs rfl (rfl : (u.setVm U.vm).vm = U.vm) (by rw [Cond.interfaceMethod_setVm hW.alike (r := r) hn (aw_imd q hq).2]; exact h2)
theorem aw_K.same {G : aw_G} {u U : State} (hv : u.vm = U.vm) (h : aw_K G u) : aw_K G U := by
  have hal : u.vm.Alike U.vm := by rw [hv]; exact Vm.Alike.refl _
  refine ⟨fun c q hq => u_Kn_moved hal (h.1 c q hq), fun t ty ht => ⟨arrOfT_moved hal (h.2.1 t ty ht).1, (h.2.1 t ty ht).2.moved hal⟩, fun w hw hk => va_Nw.same (aw_nk_t hk) hv (h.2.2.1 w hw hk), fun C hC => (h.2.2.2.1 C hC).moved hal, fun q hq => va_tabs rfl hv (h.2.2.2.2 q hq)⟩
/-! what stands on the heap before the law begins: the constants' cells (1..4095), statics, strings -/
def aw_K0 (x : Int) : Nat × Int := if 0 ≤ x ∧ x < 4096 then ga_K x else (9999, 0)
def aw_A (G : aw_G) : Nat → Prop := fun q => aw_b G ≤ q
def aw_e900 : List (String × String × String × FieldType) := [("java/lang/Enum", "ordinal", "I", .int), ("WasteHouse$HazardRules$Word", "text", "Ljava/lang/String;", .object "java/lang/String")]
def aw_e901 : List (String × String × String × FieldType) := [("java/lang/Enum", "ordinal", "I", .int), ("WasteHouse$PartGraphs$Sentence", "word", "Ljava/lang/String;", .object "java/lang/String"), ("WasteHouse$PartGraphs$Sentence", "numbers", "I", .int)]
def aw_en (e : Nat) : String := if e = 900 then "WasteHouse$HazardRules$Word" else "WasteHouse$PartGraphs$Sentence"
def aw_ef (e : Nat) : List (String × String × String × FieldType) := if e = 900 then aw_e900 else aw_e901
def aw_sts : List ((String × String × String) × aw_V) := [(("java/lang/String", "COMPACT_STRINGS", "Z"), (0, 1)), (("java/lang/StringUTF16", "$assertionsDisabled", "Z"), (0, 1)), (("java/lang/StringUTF16", "HI_BYTE_SHIFT", "I"), (0, 0)), (("java/lang/StringUTF16", "LO_BYTE_SHIFT", "I"), (0, 8)), (("java/lang/Integer$IntegerCache", "high", "I"), (0, 127)), (("jdk/internal/misc/Unsafe", "ARRAY_BYTE_BASE_OFFSET", "I"), (0, 16)), (("jdk/internal/util/ArraysSupport", "LOG2_ARRAY_BYTE_INDEX_SCALE", "I"), (0, 0)), (("jdk/internal/util/ArraysSupport", "LOG2_ARRAY_LONG_INDEX_SCALE", "I"), (0, 3)), (("jdk/internal/misc/UnsafeConstants", "BIG_ENDIAN", "Z"), (0, 0)), (("jdk/internal/util/ArraysSupport", "BIG_ENDIAN", "Z"), (0, 0)), (("jdk/internal/util/ArraysSupport", "LOG2_BYTE_BIT_SIZE", "I"), (0, 3)), (("jdk/internal/util/ArraysSupport", "LOG2_ARRAY_INT_INDEX_SCALE", "I"), (0, 2)), (("java/util/HashMap$TreeNode", "$assertionsDisabled", "Z"), (0, 1)), (("WasteHouse$HazardRules$Word", "NUMBER", "LWasteHouse$HazardRules$Word;"), (2, 117)), (("WasteHouse$HazardRules$Word", "OTHER", "LWasteHouse$HazardRules$Word;"), (2, 118)), (("WasteHouse$HazardRules$Word", "FROM", "LWasteHouse$HazardRules$Word;"), (2, 100)), (("WasteHouse$HazardRules$Word", "CLASS", "LWasteHouse$HazardRules$Word;"), (2, 101)), (("WasteHouse$HazardRules$Word", "WHEN", "LWasteHouse$HazardRules$Word;"), (2, 102)), (("WasteHouse$HazardRules$Word", "TEST", "LWasteHouse$HazardRules$Word;"), (2, 105)), (("WasteHouse$HazardRules$Word", "IS", "LWasteHouse$HazardRules$Word;"), (2, 106)), (("WasteHouse$HazardRules$Word", "NOT", "LWasteHouse$HazardRules$Word;"), (2, 107)), (("WasteHouse$HazardRules$Word", "HOLDS", "LWasteHouse$HazardRules$Word;"), (2, 108)), (("WasteHouse$HazardRules$Word", "SUM", "LWasteHouse$HazardRules$Word;"), (2, 109)), (("WasteHouse$HazardRules$Word", "MINUS", "LWasteHouse$HazardRules$Word;"), (2, 113)), (("WasteHouse$HazardRules$Word", "PLUS", "LWasteHouse$HazardRules$Word;"), (2, 112)), (("WasteHouse$HazardRules$Word", "OF", "LWasteHouse$HazardRules$Word;"), (2, 114)), (("WasteHouse$HazardRules$Word", "CUT", "LWasteHouse$HazardRules$Word;"), (2, 115)), (("WasteHouse$HazardRules$Word", "BY", "LWasteHouse$HazardRules$Word;"), (2, 116)), (("WasteHouse$HazardRules$Word", "OVER", "LWasteHouse$HazardRules$Word;"), (2, 110)), (("WasteHouse$HazardRules$Word", "UNDER", "LWasteHouse$HazardRules$Word;"), (2, 111)), (("WasteHouse$HazardRules$Word", "AND", "LWasteHouse$HazardRules$Word;"), (2, 104)), (("WasteHouse$HazardRules$Word", "END", "LWasteHouse$HazardRules$Word;"), (2, 103)), (("WasteHouse$PartGraphs$Sentence", "PART", "LWasteHouse$PartGraphs$Sentence;"), (2, 130)), (("WasteHouse$PartGraphs$Sentence", "OPTION", "LWasteHouse$PartGraphs$Sentence;"), (2, 135)), (("WasteHouse$PartGraphs$Sentence", "DAMAGE", "LWasteHouse$PartGraphs$Sentence;"), (2, 136)), (("WasteHouse$PartGraphs$Sentence", "FASTEN", "LWasteHouse$PartGraphs$Sentence;"), (2, 133)), (("WasteHouse$PartGraphs$Sentence", "COVER", "LWasteHouse$PartGraphs$Sentence;"), (2, 131)), (("WasteHouse$PartGraphs$Sentence", "WAY", "LWasteHouse$PartGraphs$Sentence;"), (2, 132)), (("WasteHouse$PartGraphs$Sentence", "HAZARD", "LWasteHouse$PartGraphs$Sentence;"), (2, 134)), (("java/util/ArrayList", "DEFAULTCAPACITY_EMPTY_ELEMENTDATA", "[Ljava/lang/Object;"), (2, 157)), (("WasteHouse$HazardRules$Word", "$VALUES", "[LWasteHouse$HazardRules$Word;"), (2, 150)), (("WasteHouse$PartGraphs$Sentence", "$VALUES", "[LWasteHouse$PartGraphs$Sentence;"), (2, 151)), (("java/lang/Integer", "DigitOnes", "[B"), (2, 152)), (("java/lang/Integer", "DigitTens", "[B"), (2, 153)), (("WasteHouse$DepositCodes$Bars", "PATTERNS", "[I"), (2, 154)), (("java/util/HashSet", "PRESENT", "Ljava/lang/Object;"), (2, 158))]
def aw_txs : List (String × Int) := [("", 1000), ("\n", 1002), (" > ", 1004), (" VOID ", 1006), ("Sorry, deque too big", 1008), ("account", 1010), ("act", 1012), ("alike", 1014), ("and", 1016), ("apart", 1018), ("at", 1020), ("b", 1022), ("back", 1024), ("bar", 1026), ("basin", 1028), ("before", 1030), ("best", 1032), ("bin", 1034), ("bound", 1036), ("branch", 1038), ("breaks", 1040), ("bring", 1042), ("brought", 1044), ("by", 1046), ("byte", 1048), ("change", 1050), ("check", 1052), ("class", 1054), ("clear", 1056), ("cleared", 1058), ("closed", 1060), ("column", 1062), ("columns", 1064), ("correct", 1066), ("count", 1068), ("coupon", 1070), ("cover", 1072), ("crush", 1074), ("cut", 1076), ("cuts", 1078), ("damage", 1080), ("deposits", 1082), ("digest", 1084), ("digit", 1086), ("double", 1088), ("drill", 1090), ("dropped", 1092), ("dry", 1094), ("dual", 1096), ("edition", 1098), ("end", 1100), ("entries", 1102), ("entry", 1104), ("explain", 1106), ("family", 1108), ("fasten", 1110), ("fee", 1112), ("feed", 1114), ("find", 1116), ("first", 1118), ("follows", 1120), ("fraud", 1122), ("free", 1124), ("from", 1126), ("full", 1128), ("gain", 1130), ("gap", 1132), ("give", 1134), ("good", 1136), ("hazard", 1138), ("hazards", 1140), ("holds", 1142), ("house", 1144), ("i", 1146), ("ib", 1148), ("ii", 1150), ("iib", 1152), ("iid", 1154), ("iie", 1156), ("iii", 1158), ("iiiii", 1160), ("iiil", 1162), ("iiili", 1164), ("iiill", 1166), ("iil", 1168), ("iili", 1170), ("iillli", 1172), ("il", 1174), ("iliil", 1176), ("ill", 1178), ("illi", 1180), ("illll", 1182), ("inspect", 1184), ("is", 1186), ("join", 1188), ("keep", 1190), ("kept", 1192), ("key", 1194), ("l", 1196), ("li", 1198), ("lii", 1200), ("limit", 1202), ("line", 1204), ("ll", 1206), ("lll", 1208), ("load", 1210), ("loose", 1212), ("lot", 1214), ("machine", 1216), ("made", 1218), ("mark", 1220), ("minus", 1222), ("missing", 1224), ("mix", 1226), ("moisture", 1228), ("most", 1230), ("moves", 1232), ("moving", 1234), ("no room", 1236), ("no such item", 1238), ("no such part", 1240), ("no such way", 1242), ("not", 1244), ("not so many", 1246), ("number", 1248), ("odds", 1250), ("of", 1252), ("open", 1254), ("option", 1256), ("other", 1258), ("out", 1260), ("over", 1262), ("part", 1264), ("piece", 1266), ("place", 1268), ("plain", 1270), ("plan", 1272), ("plus", 1274), ("poke", 1276), ("port", 1278), ("power", 1280), ("price", 1282), ("print", 1284), ("product", 1286), ("proved", 1288), ("purity", 1290), ("put", 1292), ("read", 1294), ("reason", 1296), ("redeem", 1298), ("refund", 1300), ("repeats", 1302), ("rest", 1304), ("ring", 1306), ("risk", 1308), ("root", 1310), ("rounds", 1312), ("rows", 1314), ("run", 1316), ("samples", 1318), ("sell", 1320), ("shape", 1322), ("share", 1324), ("shop", 1326), ("slope", 1328), ("solve", 1330), ("sort", 1332), ("sound", 1334), ("span", 1336), ("spent", 1338), ("split", 1340), ("states", 1342), ("station", 1344), ("stations", 1346), ("step", 1348), ("steps", 1350), ("stops", 1352), ("store", 1354), ("sum", 1356), ("sure", 1358), ("t", 1360), ("table", 1362), ("test", 1364), ("third", 1366), ("ticket", 1368), ("tickets", 1370), ("trend", 1372), ("trial", 1374), ("turn", 1376), ("under", 1378), ("undo", 1380), ("unrecognized basic type: ", 1382), ("used", 1384), ("vehicle", 1386), ("voids", 1388), ("walk", 1390), ("way", 1392), ("weight", 1394), ("when", 1396), ("width", 1398), ("worth", 1400), ("write", 1402), ("x", 1404)]
def aw_Zo (G : aw_G) (U : State) (H : Heap) : Prop := ∀ (k c : Nat) (q : aw_Q), k < aw_NC → ga_K k = (c, 0) → aw_cls[c]? = some q → va_O q.1 (aw_ad G k) (aw_A G) U H ∧
  ∀ j : Nat, j < q.2.length → ∃ z : Int, ga_C0 k j = some z ∧ aw_okT aw_K0 (aw_ty c j) z ∧ va_OF (aw_T q j).1 (aw_T q j).2.1 (aw_T q j).2.2.1 (aw_val (aw_ad G) (aw_tg (aw_ty c j), z)) (aw_ad G k) (aw_A G) U H
def aw_Za (G : aw_G) (U : State) (H : Heap) : Prop := ∀ (k t : Nat) (n : Int) (ty : FieldType), k < aw_NC → ga_K k = (1000 + t, n) → aw_ats[t]? = some ty → 0 ≤ n ∧ n < 2147483648 ∧
  ∃ f : Nat → Int, (∀ j : Nat, (j : Int) < n → ga_C0 k j = some (f j) ∧ aw_okT aw_K0 ty (f j)) ∧ va_T ty (aw_ad G k) n.toNat (fun j => aw_val (aw_ad G) (aw_tg ty, f j)) (aw_A G) U H ∧ ∃ cell : Cell, H[aw_ad G k]? = some cell ∧ cell.cls = G.2.2.1 t ∧ ¬ aw_A G (aw_ad G k)
def aw_Ze (G : aw_G) (U : State) (H : Heap) : Prop := ∀ (k e : Nat), k < aw_NC → ga_K k = (e, 0) → e = 900 ∨ e = 901 → va_O (aw_en e) (aw_ad G k) (aw_A G) U H ∧
  ∀ (j : Nat) (q : String × String × String × FieldType), (aw_ef e)[j]? = some q → ∃ z : Int, ga_C0 k j = some z ∧ aw_okT aw_K0 q.2.2.2 z ∧ va_OF q.1 q.2.1 q.2.2.1 (aw_val (aw_ad G) (aw_tg q.2.2.2, z)) (aw_ad G k) (aw_A G) U H
def aw_Zs (G : aw_G) (U : State) (H : Heap) : Prop := ∀ q ∈ aw_sts, va_Z q.1.1 q.1.2.1 q.1.2.2 (aw_val (aw_ad G) q.2) (aw_A G) U H ∧ aw_ok aw_K0 q.2
def aw_Zt (G : aw_G) (U : State) : Prop := ∀ (own tx : String) (i : Nat) (z : Int), Cond.stringRef own i tx ∈ lw_tbl → (tx, z) ∈ aw_txs → vk_R own i tx (aw_ad G z.toNat) U
def aw_Zu (G : aw_G) (U : State) (H : Heap) : Prop :=
  (va_Z "jdk/internal/util/Preconditions" "SIOOBE_FORMATTER" "Ljava/util/function/BiFunction;" .null (aw_A G) U H ∨ va_Z "jdk/internal/util/Preconditions" "SIOOBE_FORMATTER" "Ljava/util/function/BiFunction;" (.ref (aw_ad G 161)) (aw_A G) U H) ∧
  vx_Zq "java/lang/Throwable" "UNASSIGNED_STACK" "[Ljava/lang/StackTraceElement;" (aw_A G) U H ∧ vx_Zq "java/lang/Throwable" "SUPPRESSED_SENTINEL" "Ljava/util/List;" (aw_A G) U H
/-- the caches of small boxes, the thing that stands for presence in a set -/
def aw_Zp (G : aw_G) (U : State) (H : Heap) : Prop := va_O "java/lang/Object" (aw_ad G 158) (aw_A G) U H ∧
  (va_Z "java/lang/Integer$IntegerCache" "cache" "[Ljava/lang/Integer;" (.ref (aw_ad G 155)) (aw_A G) U H ∧ va_T (.object "java/lang/Integer") (aw_ad G 155) 256 (fun j => .ref (aw_ad G (200 + j))) (aw_A G) U H) ∧
  (va_Z "java/lang/Long$LongCache" "cache" "[Ljava/lang/Long;" (.ref (aw_ad G 156)) (aw_A G) U H ∧ va_T (.object "java/lang/Long") (aw_ad G 156) 256 (fun j => .ref (aw_ad G (500 + j))) (aw_A G) U H)
/-- an instanceof that fails -/
def aw_ncl : List (String × String) := ("java/lang/IllegalStateException", "java/lang/ArrayIndexOutOfBoundsException") :: ("java/util/HashMap$Node", "java/util/HashMap$TreeNode") :: ["WasteHouse$HouseRoom", "WasteHouse$TicketRoom", "WasteHouse$LineRoom", "WasteHouse$RoundRoom", "WasteHouse$StoreRoom", "WasteHouse$ProductRoom", "WasteHouse$ApartRoom", "WasteHouse$SampleRoom", "WasteHouse$DepositRoom"].map (fun C => (C, "WasteHouse$HazardRoom"))
def aw_Zn (G : aw_G) (U : State) : Prop := (∀ q ∈ aw_ncl, va_Nc q.1 q.2 U) ∧ va_Mi "[Ljava/lang/Object;" (aw_ad G 162) U
/-- constants of one kind are told apart -/
def aw_Zd (G : aw_G) : Prop := ∀ a b : Nat, a < aw_NC → b < aw_NC → ga_K a = ga_K b → (ga_K a).1 = 900 ∨ (ga_K a).1 = 901 ∨ (ga_K a).1 = 69 → aw_ad G a = aw_ad G b → a = b
/-- the script -/
def aw_Zx (G : aw_G) (U : State) (H : Heap) : Prop := G.2.2.2.2.2.1 < 2147483648 ∧ (∀ j : Nat, R32 (G.2.2.2.2.2.2 j)) ∧ va_T .int (aw_ad G 1) G.2.2.2.2.2.1 (fun j => aw_val (aw_ad G) (0, G.2.2.2.2.2.2 j)) (aw_A G) U H
def aw_Z (G : aw_G) (U : State) (H : Heap) : Prop := (aw_Zo G U H ∧ aw_Za G U H ∧ aw_Ze G U H) ∧ (aw_Zs G U H ∧ aw_Zt G U ∧ aw_Zu G U H ∧ aw_Zp G U H ∧ aw_Zn G U) ∧ aw_Zd G ∧ aw_Zx G U H
theorem aw_Z.go {G : aw_G} {u U : State} {H H1 : Heap} (hal : u.vm.Alike U.vm) (hs : ∀ (own tx : String) (i a : Nat), vk_R own i tx a u → vk_R own i tx a U) (hq : ∀ a : Nat, a < H.size → ¬ aw_A G a → H1[a]? = H[a]?) (h : aw_Z G u H) : aw_Z G U H1 := by
  obtain ⟨⟨h1, h2, h3⟩, ⟨h4, h5, h6, hp, hn⟩, h7, h8, h9, h10⟩ := h
  refine ⟨⟨fun k c q a1 a2 a3 => ?_, fun k t n ty a1 a2 a3 => ?_, fun k e a1 a2 a3 => ?_⟩, ⟨fun q hm => ⟨((h4 q hm).1.moved hal).kept hq, (h4 q hm).2⟩, fun own tx i z a1 a2 => hs own tx i _ (h5 own tx i z a1 a2), ⟨?_, (h6.2.1.moved hal).kept hq, (h6.2.2.moved hal).kept hq⟩, ⟨(hp.1.moved hal).kept hq, ⟨(hp.2.1.1.moved hal).kept hq, (hp.2.1.2.moved hal).kept hq⟩, (hp.2.2.1.moved hal).kept hq, (hp.2.2.2.moved hal).kept hq⟩, ⟨fun q hm => (hn.1 q hm).moved hal, hn.2.moved hal⟩⟩, h7, h8, h9, (h10.moved hal).kept hq⟩
  · obtain ⟨b1, b2⟩ := h1 k c q a1 a2 a3
    refine ⟨(b1.moved hal).kept hq, fun j hj => ?_⟩
    obtain ⟨z, c1, c2, c3⟩ := b2 j hj
    exact ⟨z, c1, c2, (c3.moved hal).kept hq⟩
  · obtain ⟨b1, b2, f, b3, b4, cell, b5, b6, b7⟩ := h2 k t n ty a1 a2 a3
    exact ⟨b1, b2, f, b3, (b4.moved hal).kept hq, cell, by rw [hq _ (Array.getElem?_eq_some_iff.mp b5).1 b7]; exact b5, b6, b7⟩
  · obtain ⟨b1, b2⟩ := h3 k e a1 a2 a3
    refine ⟨(b1.moved hal).kept hq, fun j q hj => ?_⟩
    obtain ⟨z, c1, c2, c3⟩ := b2 j q hj
    exact ⟨z, c1, c2, (c3.moved hal).kept hq⟩
  · rcases h6.1 with h | h
    · exact Or.inl ((h.moved hal).kept hq)
    · exact Or.inr ((h.moved hal).kept hq)
theorem aw_Z.warm {G : aw_G} {u U : State} {H H1 : Heap} (hW : u.WarmedH U.vm) (hq : ∀ a : Nat, a < aw_b G → H1[a]? = H[a]?) (h : aw_Z G u H) : aw_Z G U H1 :=
  h.go hW.alike (fun _ _ _ _ z => vk_R.warm hW z) (fun a _ ha => hq a (Nat.lt_of_not_le ha))
theorem aw_Z.same {G : aw_G} {u U : State} {H H1 : Heap} (hv : u.vm = U.vm) (hq : ∀ a : Nat, a < aw_b G → H1[a]? = H[a]?) (h : aw_Z G u H) : aw_Z G U H1 :=
  h.go (by rw [hv]; exact Vm.Alike.refl _) (fun _ _ _ _ z => vk_R.same hv.symm z) (fun a _ ha => hq a (Nat.lt_of_not_le ha))
/-- a cell is as the memory says -/
def aw_cell (G : aw_G) (M : aw_M) (H : Heap) (k : Nat) : Prop :=
  (∀ (c : Nat) (q : aw_Q), aw_k M k = (c, 0) → aw_cls[c]? = some q →
    t_OB (aw_ad G k) (G.1 c) q.2.length (G.2.1 c) H (fun j => aw_val (aw_ad G) (aw_tg (aw_ty c j), aw_d M k j)) ∧ ∀ j : Nat, j < q.2.length → aw_okT (aw_k M) (aw_ty c j) (aw_d M k j)) ∧
  (∀ (t : Nat) (n : Int) (ty : FieldType), aw_k M k = (1000 + t, n) → aw_ats[t]? = some ty →
    0 ≤ n ∧ n < 2147483648 ∧ H[aw_ad G k]? = some (arrV (G.2.2.1 t) n.toNat (fun j => aw_val (aw_ad G) (aw_tg ty, aw_d M k j))) ∧ ∀ j : Int, 0 ≤ j → j < n → aw_okT (aw_k M) ty (aw_d M k j))
/-- the constants' cells are as the layout says -/
def aw_cn (M : aw_M) : Prop := ∀ k : Nat, k < aw_NC → aw_k M k = ga_K k ∧ ∀ j z : Int, ga_C0 k j = some z → aw_d M k j = z
theorem aw_cnK {M : aw_M} (h : aw_cn M) (x : Int) (hx : aw_K0 x ≠ (9999, 0)) : aw_k M x = aw_K0 x := by
  by_cases e : 0 ≤ x ∧ x < 4096
  · obtain ⟨k, rfl⟩ := Int.eq_ofNat_of_zero_le e.1
    have h1 : aw_K0 (k : Int) = ga_K (k : Int) := if_pos e
    rw [h1]
    exact (h k (by show k < 4096; omega)).1
  · exact absurd (if_neg e) hx
def aw_rep (G : aw_G) (M : aw_M) (H : Heap) : Prop :=
  (aw_NC : Int) ≤ aw_n M ∧ (H.size : Int) = aw_b G + (aw_n M - aw_NC) ∧ ((∀ k : Nat, k < aw_NC → aw_ad G k < aw_b G) ∧ aw_cn M) ∧ (∀ k : Nat, aw_NC ≤ k → (k : Int) < aw_n M → aw_cell G M H k) ∧ ∀ x : Int, x ≤ 0 ∨ aw_n M ≤ x → aw_k M x = (9999, 0)
/-- the memory only grows, and no kind changes -/
def aw_ext (M M' : aw_M) : Prop := aw_n M ≤ aw_n M' ∧ ∀ k : Int, aw_k M k ≠ (9999, 0) → aw_k M' k = aw_k M k
theorem aw_ext.rf {M : aw_M} : aw_ext M M := ⟨Int.le_refl _, fun _ _ => rfl⟩
theorem aw_ext.tr {M M' M'' : aw_M} (h : aw_ext M M') (h' : aw_ext M' M'') : aw_ext M M'' :=
  ⟨Int.le_trans h.1 h'.1, fun k hk => (h'.2 k (by rw [h.2 k hk]; exact hk)).trans (h.2 k hk)⟩
theorem aw_kx {M M' : aw_M} (h : aw_ext M M') {x : Int} {c : Nat} {n : Int} (hk : aw_k M x = (c, n)) (hc : c ≠ 9999) : aw_k M' x = (c, n) :=
  (h.2 x (fun q => hc (congrArg Prod.fst (hk.symm.trans q)))).trans hk
def aw_PC (G : aw_G) (as : List aw_V) (M : aw_M) : Array Value → State → Prop := fun av U =>
  av = (as.map (aw_val (aw_ad G))).toArray ∧ (∀ v ∈ as, aw_ok (aw_k M) v) ∧ aw_rep G M U.heap ∧ aw_K G U ∧ aw_Z G U U.heap
def aw_old (G : aw_G) (H0 H : Heap) : Prop := ∀ q : Nat, q < aw_b G → H[q]? = H0[q]?
def aw_QC (G : aw_G) (M : aw_M) (Q : Option aw_V → aw_M → Prop) : Array Value → State → Outcome → State → Prop := fun _ st oc t =>
  ∃ (r : Option aw_V) (M' : aw_M), oc = .returned (r.map (aw_val (aw_ad G))) ∧ (∀ v, r = some v → aw_ok (aw_k M') v) ∧ Q r M' ∧ aw_ext M M' ∧ aw_rep G M' t.heap ∧ aw_old G st.heap t.heap
def aw_XC (G : aw_G) (M : aw_M) (X : String → aw_M → Prop) : String → State → State → Prop := fun E st t =>
  ∃ M' : aw_M, X E M' ∧ aw_ext M M' ∧ aw_rep G M' t.heap ∧ aw_old G st.heap t.heap
def aw_rm (d c sl : Nat) : Room := { frames := d, cells := c, slots := sl, locals := d * 600 }
/-- a method's contract: from memory M with these arguments it returns as Q says, or throws as X says; at most c cells of sl slots are made, d frames used -/
def aw_Runs (y : MethodName) (cc : ByteArray) (nL : Nat) (ret : Option FieldType) (d c sl : Nat) (G : aw_G) (as : List aw_V) (M : aw_M) (Q : Option aw_V → aw_M → Prop) (X : String → aw_M → Prop) : Prop :=
  ∀ l : Launch, l.flags = flags0 → vx_Met l y (ws_ y cc nL ret) (aw_rm d c sl) (aw_PC G as M) (aw_QC G M Q) (aw_XC G M X) c sl (fun q => aw_b G ≤ q)
/-- the methods of the program that have handlers -/
def aw_hs (cc : ByteArray) : Prop := cc = cX1_answer ∨ cc = cX0_feed ∨ cc = cX0_end
theorem aw_hsn {cc : ByteArray} (h : (decide (cc = cX1_answer) || decide (cc = cX0_feed) || decide (cc = cX0_end)) = false) : ¬ aw_hs cc := by
  intro q
  rcases q with q | q | q <;> (rw [decide_eq_true q] at h; simp at h)
/-- their tables -/
def aw_hh (cc : ByteArray) : List (Nat × Nat × Nat × Nat) := if cc = cX1_answer then [(7, 17, 20, 293), (7, 17, 28, 170)] else if cc = cX0_feed then [(0, 11, 14, 13)] else [(0, 9, 12, 19)]
/-- a method with handlers: its contract -/
def aw_RunsH (y : MethodName) (cc : ByteArray) (nL : Nat) (ret : Option FieldType) (hh : List (Nat × Nat × Nat × Nat)) (d c sl : Nat) (G : aw_G) (as : List aw_V) (M : aw_M) (Q : Option aw_V → aw_M → Prop) (X : String → aw_M → Prop) : Prop :=
  ∀ l : Launch, l.flags = flags0 → vx_Met l y (wsW_ y cc nL ret hh) (aw_rm d c sl) (aw_PC G as M) (aw_QC G M Q) (aw_XC G M X) c sl (fun q => aw_b G ≤ q)
/-- what a method's frame stands on -/
def aw_Cx (G : aw_G) (own : String) (cc : ByteArray) (ret : Option FieldType) (nL d : Nat) (ini : Bool) (p : Program) (l : Launch) (R : Room) (s : State) (m : MethodId) (args : Array Value) (meth : Method) (c : Code) : Prop :=
  p.tables.exec = Jvm.exec ∧ c.code = cc ∧ meth.sig.returnType = ret ∧ meth.locks = false ∧ c.maxLocals = nL ∧ s.vm.findClass own = some m.cls ∧ (∀ w ∈ lw_all, w.before args s = true) ∧ aw_K G s ∧
  R.frames = d ∧ R.locals = d * 600 ∧ (ini = true → meth.name = "<init>") ∧ l.flags = flags0 ∧ ((∀ x ∈ c.exceptionTable.toList, aw_hs cc) ∧ (aw_hs cc → c.exceptionTable.toList = tableOf (aw_hh cc))) ∧ aw_b G ≤ s.heap.size ∧ aw_Z G s s.heap
/-- the judgement: from here the method comes to its end as Q (or X) says -/
def aw_W (G : aw_G) (own : String) (cc : ByteArray) (ret : Option FieldType) (nL d : Nat) (ini : Bool) (M0 : aw_M) (Q : Option aw_V → aw_M → Prop) (X : String → aw_M → Prop) (c sl pc : Nat) (ls : List (Nat × aw_V)) (st : List aw_V) (M : aw_M) : Prop :=
  ∀ (p : Program) {l : Launch} {e : Env} {R : Room} {s : State} {m : MethodId} {args : Array Value} {below : List Frame} {meth : Method} {cd : Code} {H : Heap} {locs : List Loc} {cells slots : Nat},
    aw_Cx G own cc ret nL d ini p l R s m args meth cd → aw_rep G M H → aw_ext M0 M → aw_old G s.heap H → (∀ z ∈ locs, aw_b G ≤ z.base) → cells + c ≤ R.cells → slots + sl ≤ R.slots →
    ∀ lsA : Array Slot, lv_has lsA nL (ls.map fun q => (q.1, aw_val (aw_ad G) q.2)) → (∀ q ∈ ls, aw_ok (aw_k M) q.2) → (∀ v ∈ st, aw_ok (aw_k M) v) →
    W p l e R s m args below meth cd H locs cells slots (vx_MQ below (aw_QC G M0 Q) (aw_XC G M0 X) args s R.cells R.slots (fun q => aw_b G ≤ q)) (F0 m pc lsA (st.map (aw_val (aw_ad G))))
section AW
variable {G : aw_G} {own : String} {cc : ByteArray} {ret : Option FieldType} {nL d : Nat} {ini : Bool} {M0 M : aw_M} {Q : Option aw_V → aw_M → Prop} {X : String → aw_M → Prop} {c sl pc : Nat} {ls : List (Nat × aw_V)} {st : List aw_V}
/-- a row of the kit that touches the stack alone -/
theorem aw_st {pc' : Nat} {st' : List aw_V} (hk : ∀ {p : Program} {l : Launch} {e : Env} {R : Room} {s : State} {m : MethodId} {args : Array Value} {below : List Frame} {meth : Method} {cd : Code} {H : Heap} {locs : List Loc} {cells slots : Nat} {Z : State → Prop} {lsA : Array Slot},
      p.tables.exec = Jvm.exec → cd.code = cc → s.vm.findClass own = some m.cls → (∀ w ∈ lw_all, w.before args s = true) → lv_has lsA nL (ls.map fun q => (q.1, aw_val (aw_ad G) q.2)) → (∀ v ∈ st, aw_ok (aw_k M) v) → (∀ q ∈ ls, aw_ok (aw_k M) q.2) →
      (∀ v ∈ st', aw_ok (aw_k M) v) ∧ (W p l e R s m args below meth cd H locs cells slots Z (F0 m pc' lsA (st'.map (aw_val (aw_ad G)))) → W p l e R s m args below meth cd H locs cells slots Z (F0 m pc lsA (st.map (aw_val (aw_ad G))))))
    (k : aw_W G own cc ret nL d ini M0 Q X c sl pc' ls st' M) : aw_W G own cc ret nL d ini M0 Q X c sl pc ls st M := by
  intro p l e R s m args below meth cd H locs cells slots C hr he ho hz hc hs lsA hl hlo hso
  obtain ⟨h1, h2⟩ := hk (p := p) (l := l) (e := e) (R := R) (s := s) (m := m) (args := args) (below := below) (meth := meth) (cd := cd) (H := H) (locs := locs) (cells := cells) (slots := slots) (Z := vx_MQ below (aw_QC G M0 Q) (aw_XC G M0 X) args s R.cells R.slots (fun q => aw_b G ≤ q)) C.1 C.2.1 C.2.2.2.2.2.1 C.2.2.2.2.2.2.1 hl hso hlo
  exact h2 (k _ C hr he ho hz hc hs lsA hl hlo h1)
theorem aw_c1 {K : Int → Nat × Int} {v : aw_V} {st : List aw_V} (h : aw_ok K v) (hs : ∀ v ∈ st, aw_ok K v) : ∀ w ∈ v :: st, aw_ok K w := List.forall_mem_cons.mpr ⟨h, hs⟩
theorem aw_h {K : Int → Nat × Int} {v : aw_V} {st : List aw_V} (h : ∀ w ∈ v :: st, aw_ok K w) : aw_ok K v := h v List.mem_cons_self
theorem aw_t {K : Int → Nat × Int} {v : aw_V} {st : List aw_V} (h : ∀ w ∈ v :: st, aw_ok K w) : ∀ w ∈ st, aw_ok K w := fun w hw => h w (List.mem_cons_of_mem _ hw)
end AW
