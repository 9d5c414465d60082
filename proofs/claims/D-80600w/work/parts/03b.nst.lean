/-! words that do not ride in lw_all: nest mates' links, castables, declares, as lists of their own -/
set_option maxRecDepth 100000
def gNFt : List (String × Nat × String × String × String × String) := [("BombFamilies", (147 : Nat), "BombFamilies$Bytes", "all", "[B", "BombFamilies"), ("BombFamilies", (17 : Nat), "BombFamilies$Bytes", "many", "I", "BombFamilies"), ("BombFamilies$Scope", (47 : Nat), "BombFamilies$Bytes", "many", "I", "BombFamilies"), ("BombFamilies$Scope", (142 : Nat), "BombFamilies$Table", "symbols", "[I", "BombFamilies"), ("BombFamilies$Scope", (145 : Nat), "BombFamilies$Table", "lengths", "[I", "BombFamilies"), ("BombFamilies$Scope", (139 : Nat), "BombFamilies$Table", "many", "I", "BombFamilies"), ("BombFamilies", (61 : Nat), "BombFamilies$Fault", "kind", "I", "BombFamilies"), ("BombFamilies", (64 : Nat), "BombFamilies$Fault", "place", "I", "BombFamilies"), ("BombFamilies$Scope", (29 : Nat), "BombFamilies", "tape", "LBombFamilies$Bytes;", "BombFamilies"), ("BombFamilies$Scope", (93 : Nat), "BombFamilies", "kinds", "[LBombFamilies$Kind;", "BombFamilies"), ("BombFamilies$Scope", (135 : Nat), "BombFamilies", "table", "LBombFamilies$Table;", "BombFamilies"), ("BombFamilies$Scope", (129 : Nat), "BombFamilies", "scopes", "[LBombFamilies$Scope;", "BombFamilies"), ("BombFamilies$Scope", (83 : Nat), "BombFamilies", "ends", "[I", "BombFamilies"), ("BombFamilies$Scope", (53 : Nat), "BombFamilies", "ended", "I", "BombFamilies"), ("BombFamilies$Scope", (106 : Nat), "BombFamilies", "items", "[I", "BombFamilies"), ("BombFamilies$Scope", (103 : Nat), "BombFamilies", "itemMany", "I", "BombFamilies"), ("BombFamilies$Scope", (44 : Nat), "BombFamilies", "out", "LBombFamilies$Bytes;", "BombFamilies"), ("BombFamilies$Scope", (109 : Nat), "BombFamilies", "most", "I", "BombFamilies"), ("BombFamilies$Scope", (41 : Nat), "BombFamilies", "limit", "I", "BombFamilies"), ("BombFamilies$Scope", (126 : Nat), "BombFamilies", "deepest", "I", "BombFamilies"), ("BombFamilies$Scope", (38 : Nat), "BombFamilies", "steps", "I", "BombFamilies"), ("BombFamilies$Scope", (66 : Nat), "BombFamilies", "deep", "I", "BombFamilies"), ("BombFamilies$Scope", (63 : Nat), "BombFamilies", "packs", "I", "BombFamilies")]
def gNF : List Cond := gNFt.map (fun t => .fieldLinkNest t.1 t.2.1 t.2.2.1 t.2.2.2.1 t.2.2.2.2.1 t.2.2.2.2.2)
theorem gNF_warm {s U : State} (hW : s.WarmedH U.vm) : ∀ w ∈ gNF, va_Nw w s → va_Nw w U := by
  intro w hw h
  obtain ⟨t, -, rfl⟩ := List.mem_map.mp hw
  exact va_Nw.warmF hW h
theorem gNF_tbl : ∀ w ∈ gNF, w ∈ lw_tbl := by
  intro w hw
  simp only [gNF, gNFt, List.map_cons, List.map_nil, List.mem_cons, List.not_mem_nil, or_false] at hw
  rcases hw with h | h | h | h | h | h | h | h | h | h | h | h | h | h | h | h | h | h | h | h | h | h | h
  · exact h ▸ q68
  · exact h ▸ q70
  · exact h ▸ q71
  · exact h ▸ q199
  · exact h ▸ q201
  · exact h ▸ q203
  · exact h ▸ q263
  · exact h ▸ q264
  · exact h ▸ q310
  · exact h ▸ q315
  · exact h ▸ q317
  · exact h ▸ q320
  · exact h ▸ q322
  · exact h ▸ q324
  · exact h ▸ q326
  · exact h ▸ q328
  · exact h ▸ q330
  · exact h ▸ q332
  · exact h ▸ q334
  · exact h ▸ q336
  · exact h ▸ q338
  · exact h ▸ q340
  · exact h ▸ q342
theorem q68n : (Cond.fieldLinkNest "BombFamilies" (147 : Nat) "BombFamilies$Bytes" "all" "[B" "BombFamilies") ∈ gNF := List.mem_of_getElem? (i := 0) rfl
theorem q70n : (Cond.fieldLinkNest "BombFamilies" (17 : Nat) "BombFamilies$Bytes" "many" "I" "BombFamilies") ∈ gNF := List.mem_of_getElem? (i := 1) rfl
theorem q71n : (Cond.fieldLinkNest "BombFamilies$Scope" (47 : Nat) "BombFamilies$Bytes" "many" "I" "BombFamilies") ∈ gNF := List.mem_of_getElem? (i := 2) rfl
theorem q199n : (Cond.fieldLinkNest "BombFamilies$Scope" (142 : Nat) "BombFamilies$Table" "symbols" "[I" "BombFamilies") ∈ gNF := List.mem_of_getElem? (i := 3) rfl
theorem q201n : (Cond.fieldLinkNest "BombFamilies$Scope" (145 : Nat) "BombFamilies$Table" "lengths" "[I" "BombFamilies") ∈ gNF := List.mem_of_getElem? (i := 4) rfl
theorem q203n : (Cond.fieldLinkNest "BombFamilies$Scope" (139 : Nat) "BombFamilies$Table" "many" "I" "BombFamilies") ∈ gNF := List.mem_of_getElem? (i := 5) rfl
theorem q263n : (Cond.fieldLinkNest "BombFamilies" (61 : Nat) "BombFamilies$Fault" "kind" "I" "BombFamilies") ∈ gNF := List.mem_of_getElem? (i := 6) rfl
theorem q264n : (Cond.fieldLinkNest "BombFamilies" (64 : Nat) "BombFamilies$Fault" "place" "I" "BombFamilies") ∈ gNF := List.mem_of_getElem? (i := 7) rfl
theorem q310n : (Cond.fieldLinkNest "BombFamilies$Scope" (29 : Nat) "BombFamilies" "tape" "LBombFamilies$Bytes;" "BombFamilies") ∈ gNF := List.mem_of_getElem? (i := 8) rfl
theorem q315n : (Cond.fieldLinkNest "BombFamilies$Scope" (93 : Nat) "BombFamilies" "kinds" "[LBombFamilies$Kind;" "BombFamilies") ∈ gNF := List.mem_of_getElem? (i := 9) rfl
theorem q317n : (Cond.fieldLinkNest "BombFamilies$Scope" (135 : Nat) "BombFamilies" "table" "LBombFamilies$Table;" "BombFamilies") ∈ gNF := List.mem_of_getElem? (i := 10) rfl
theorem q320n : (Cond.fieldLinkNest "BombFamilies$Scope" (129 : Nat) "BombFamilies" "scopes" "[LBombFamilies$Scope;" "BombFamilies") ∈ gNF := List.mem_of_getElem? (i := 11) rfl
theorem q322n : (Cond.fieldLinkNest "BombFamilies$Scope" (83 : Nat) "BombFamilies" "ends" "[I" "BombFamilies") ∈ gNF := List.mem_of_getElem? (i := 12) rfl
theorem q324n : (Cond.fieldLinkNest "BombFamilies$Scope" (53 : Nat) "BombFamilies" "ended" "I" "BombFamilies") ∈ gNF := List.mem_of_getElem? (i := 13) rfl
theorem q326n : (Cond.fieldLinkNest "BombFamilies$Scope" (106 : Nat) "BombFamilies" "items" "[I" "BombFamilies") ∈ gNF := List.mem_of_getElem? (i := 14) rfl
theorem q328n : (Cond.fieldLinkNest "BombFamilies$Scope" (103 : Nat) "BombFamilies" "itemMany" "I" "BombFamilies") ∈ gNF := List.mem_of_getElem? (i := 15) rfl
theorem q330n : (Cond.fieldLinkNest "BombFamilies$Scope" (44 : Nat) "BombFamilies" "out" "LBombFamilies$Bytes;" "BombFamilies") ∈ gNF := List.mem_of_getElem? (i := 16) rfl
theorem q332n : (Cond.fieldLinkNest "BombFamilies$Scope" (109 : Nat) "BombFamilies" "most" "I" "BombFamilies") ∈ gNF := List.mem_of_getElem? (i := 17) rfl
theorem q334n : (Cond.fieldLinkNest "BombFamilies$Scope" (41 : Nat) "BombFamilies" "limit" "I" "BombFamilies") ∈ gNF := List.mem_of_getElem? (i := 18) rfl
theorem q336n : (Cond.fieldLinkNest "BombFamilies$Scope" (126 : Nat) "BombFamilies" "deepest" "I" "BombFamilies") ∈ gNF := List.mem_of_getElem? (i := 19) rfl
theorem q338n : (Cond.fieldLinkNest "BombFamilies$Scope" (38 : Nat) "BombFamilies" "steps" "I" "BombFamilies") ∈ gNF := List.mem_of_getElem? (i := 20) rfl
theorem q340n : (Cond.fieldLinkNest "BombFamilies$Scope" (66 : Nat) "BombFamilies" "deep" "I" "BombFamilies") ∈ gNF := List.mem_of_getElem? (i := 21) rfl
theorem q342n : (Cond.fieldLinkNest "BombFamilies$Scope" (63 : Nat) "BombFamilies" "packs" "I" "BombFamilies") ∈ gNF := List.mem_of_getElem? (i := 22) rfl
def gNMt : List (String × Nat × MethodName × String) := [("BombFamilies$Scope", (25 : Nat), ({ cls := "BombFamilies", name := "need", desc := "(ZII)V" } : Jvm.MethodName), "BombFamilies"), ("BombFamilies$Scope", (122 : Nat), ({ cls := "BombFamilies", name := "in", desc := "(III)Z" } : Jvm.MethodName), "BombFamilies"), ("BombFamilies", (99 : Nat), ({ cls := "BombFamilies$Table", name := "<init>", desc := "()V" } : Jvm.MethodName), "BombFamilies"), ("BombFamilies", (104 : Nat), ({ cls := "BombFamilies$Fault", name := "<init>", desc := "()V" } : Jvm.MethodName), "BombFamilies")]
def gNM : List Cond := gNMt.map (fun t => .methodLinkNest t.1 t.2.1 t.2.2.1 t.2.2.2)
theorem gNM_warm {s U : State} (hW : s.WarmedH U.vm) : ∀ w ∈ gNM, va_Nw w s → va_Nw w U := by
  intro w hw h
  obtain ⟨t, -, rfl⟩ := List.mem_map.mp hw
  exact va_Nw.warmM hW h
theorem gNM_tbl : ∀ w ∈ gNM, w ∈ lw_tbl := by
  intro w hw
  simp only [gNM, gNMt, List.map_cons, List.map_nil, List.mem_cons, List.not_mem_nil, or_false] at hw
  rcases hw with h | h | h | h
  · exact h ▸ q93
  · exact h ▸ q129
  · exact h ▸ q194
  · exact h ▸ q251
theorem q93n : (Cond.methodLinkNest "BombFamilies$Scope" (25 : Nat) ({ cls := "BombFamilies", name := "need", desc := "(ZII)V" } : Jvm.MethodName) "BombFamilies") ∈ gNM := List.mem_of_getElem? (i := 0) rfl
theorem q129n : (Cond.methodLinkNest "BombFamilies$Scope" (122 : Nat) ({ cls := "BombFamilies", name := "in", desc := "(III)Z" } : Jvm.MethodName) "BombFamilies") ∈ gNM := List.mem_of_getElem? (i := 1) rfl
theorem q194n : (Cond.methodLinkNest "BombFamilies" (99 : Nat) ({ cls := "BombFamilies$Table", name := "<init>", desc := "()V" } : Jvm.MethodName) "BombFamilies") ∈ gNM := List.mem_of_getElem? (i := 2) rfl
theorem q251n : (Cond.methodLinkNest "BombFamilies" (104 : Nat) ({ cls := "BombFamilies$Fault", name := "<init>", desc := "()V" } : Jvm.MethodName) "BombFamilies") ∈ gNM := List.mem_of_getElem? (i := 3) rfl
def gNC : List Cond := [.castable "BombFamilies$Fault" "BombFamilies$Fault", .interfaceMethod "BombFamilies$Kind" "BombFamilies$Kind" "read" "(LBombFamilies$Scope;)V"]
theorem gNC_warm {s U : State} (hW : s.WarmedH U.vm) : ∀ w ∈ gNC, va_Nw w s → va_Nw w U := by
  intro w hw h
  simp only [gNC, List.mem_cons, List.not_mem_nil, or_false] at hw
  rcases hw with rfl | rfl
  · exact va_Nw.warmC hW h
  · obtain ⟨-, -, m, -, -, -, -, hn⟩ := Cond.interfaceMethod_spec h
    exact va_tabs rfl (rfl : (s.setVm U.vm).vm = U.vm) (by rw [Cond.interfaceMethod_setVm hW.alike hn ⟨by decide, by decide⟩]; exact h)
theorem gNC_tbl : ∀ w ∈ gNC, w ∈ lw_tbl := by
  intro w hw
  simp only [gNC, List.mem_cons, List.not_mem_nil, or_false] at hw
  rcases hw with h | h
  · exact h ▸ q214
  · exact h ▸ q151
theorem q214n : (Cond.castable "BombFamilies$Fault" "BombFamilies$Fault") ∈ gNC := List.mem_of_getElem? (i := 0) rfl
theorem q151n : (Cond.interfaceMethod "BombFamilies$Kind" "BombFamilies$Kind" "read" "(LBombFamilies$Scope;)V") ∈ gNC := List.mem_of_getElem? (i := 1) rfl
def gNDt : List (MethodName) := [({ cls := "BombFamilies$Kind", name := "read", desc := "(LBombFamilies$Scope;)V" } : Jvm.MethodName), ({ cls := "java/lang/RuntimeException", name := "<init>", desc := "()V" } : Jvm.MethodName), ({ cls := "java/lang/RuntimeException", name := "<init>", desc := "(Ljava/lang/String;)V" } : Jvm.MethodName), ({ cls := "java/lang/Exception", name := "<init>", desc := "()V" } : Jvm.MethodName), ({ cls := "java/lang/Exception", name := "<init>", desc := "(Ljava/lang/String;)V" } : Jvm.MethodName), ({ cls := "java/lang/Throwable", name := "<init>", desc := "()V" } : Jvm.MethodName), ({ cls := "java/lang/Throwable", name := "<init>", desc := "(Ljava/lang/String;)V" } : Jvm.MethodName)]
def gND : List Cond := gNDt.map (fun t => .declares t)
theorem gND_warm {s U : State} (hW : s.WarmedH U.vm) : ∀ w ∈ gND, va_Nw w s → va_Nw w U := by
  intro w hw h
  obtain ⟨t, -, rfl⟩ := List.mem_map.mp hw
  exact va_Nw.warmD hW h
theorem gND_tbl : ∀ w ∈ gND, w ∈ lw_tbl := by
  intro w hw
  simp only [gND, gNDt, List.map_cons, List.map_nil, List.mem_cons, List.not_mem_nil, or_false] at hw
  rcases hw with h | h | h | h | h | h | h
  · exact h ▸ q152
  · exact h ▸ q215
  · exact h ▸ q216
  · exact h ▸ q217
  · exact h ▸ q218
  · exact h ▸ q219
  · exact h ▸ q220
theorem q152n : (Cond.declares ({ cls := "BombFamilies$Kind", name := "read", desc := "(LBombFamilies$Scope;)V" } : Jvm.MethodName)) ∈ gND := List.mem_of_getElem? (i := 0) rfl
theorem q215n : (Cond.declares ({ cls := "java/lang/RuntimeException", name := "<init>", desc := "()V" } : Jvm.MethodName)) ∈ gND := List.mem_of_getElem? (i := 1) rfl
theorem q216n : (Cond.declares ({ cls := "java/lang/RuntimeException", name := "<init>", desc := "(Ljava/lang/String;)V" } : Jvm.MethodName)) ∈ gND := List.mem_of_getElem? (i := 2) rfl
theorem q217n : (Cond.declares ({ cls := "java/lang/Exception", name := "<init>", desc := "()V" } : Jvm.MethodName)) ∈ gND := List.mem_of_getElem? (i := 3) rfl
theorem q218n : (Cond.declares ({ cls := "java/lang/Exception", name := "<init>", desc := "(Ljava/lang/String;)V" } : Jvm.MethodName)) ∈ gND := List.mem_of_getElem? (i := 4) rfl
theorem q219n : (Cond.declares ({ cls := "java/lang/Throwable", name := "<init>", desc := "()V" } : Jvm.MethodName)) ∈ gND := List.mem_of_getElem? (i := 5) rfl
theorem q220n : (Cond.declares ({ cls := "java/lang/Throwable", name := "<init>", desc := "(Ljava/lang/String;)V" } : Jvm.MethodName)) ∈ gND := List.mem_of_getElem? (i := 6) rfl
