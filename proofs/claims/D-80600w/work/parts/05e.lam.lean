/-! a lambda's object is called: the run -/
set_option maxRecDepth 100000
section LAM3
variable {p : Program} {l : Launch} {e : Env} {R : Room} {s : State} {m : MethodId} {args : Array Value} {below : List Frame} {meth : Method} {c : Code} {H : Heap} {locs : List Loc} {cells slots : Nat}
abbrev yKind : MethodName := ⟨"BombFamilies$Kind", "read", lDs⟩
abbrev yLam (k : Nat) : MethodName := ⟨"BombFamilies", gNms.getD k "", lDs⟩
theorem lam_run {k : Nat} (hk8 : k < 8) {bytes cc : ByteArray} {maxL nL mc ms index count : Nat} {ws : List Cond} {rm : Room} {Pc : Array Value → State → Prop} {Qc : Array Value → State → Outcome → State → Prop} {XC : String → Addr → State → State → Prop} {free : Addr → Prop} {Ts : List Cond} {own : String} {cK : ClassId} {a b : Addr} {rest : List Value} {pc : Nat} {ls : Array Slot} {px ix : Nat}
    (S : CallFix p m c cc nL s args Ts own) (hM : vx_Met l (yLam k) ws rm Pc Qc XC mc ms free) (hG : GoodIn Ts ws) (hcw : Cond.code (yLam k) bytes maxL none ∈ ws) (hrc : rm.cells = mc) (hrs : rm.slots = ms)
    (hlam : s.lambdaAt? yX1_init px ix (gSh k) = some (cK, some a)) (hHa : H[a]? = s.heap[a]?)
    (hlink : (Cond.methodLink own index yKind).before args s = true) (hdecl : (Cond.declares yKind).before args s = true) (hface : (Cond.interfaceMethod "BombFamilies$Kind" "BombFamilies$Kind" "read" lDs).before args s = true)
    (hstt : (Cond.static (yLam k)).before args s = true) (hini : (Cond.initialized "BombFamilies").before args s = true)
    (hp : PreS s H Pc [.ref b]) (hnone : ∀ st v t, Qc #[.ref b] st (.returned v) t → v = none)
    (hsize : ls.size = nL) (hW : (rest.map fun v => v.category).sum ≤ 8) (hdg : decode cc pc = .ok (.invokeinterface index count, 5)) (hf : cells + mc ≤ R.cells ∧ slots + ms ≤ R.slots)
    (hR : rm.frames + 2 ≤ R.frames ∧ 8 + (2 + 11) + (8 + (maxL + 11) + rm.locals) ≤ R.locals) :
    vx_Run5 p l e R s m args below meth c H locs cells slots mc ms (F0 m pc ls (.ref b :: .ref a :: rest)) rest (Qc #[.ref b]) XC free := by
  obtain ⟨hx, hb, hml, ho, hts⟩ := S
  intro T hT X
  obtain ⟨r0, r, hn, hrm, hstR, hsigR⟩ := Cond.declares_spec hdecl
  obtain ⟨cL, kL, r1, hcL, hkL, hiL, hfoundL, hn1⟩ := Cond.interfaceMethod_spec hface
  cases hn.symm.trans hn1
  have hr0cls : r0.cls = cL := Option.some.inj ((findClass_of_methodNamed hn).symm.trans hcL)
  obtain ⟨hnameR, hdescR⟩ := name_of_methodNamed hn hrm
  obtain ⟨kc, tk, file, methk, ck, t, iface, target, found, cell, h1, h2, h3, h4, h5, h6, h7, h8, h9, h10, h11, h12, h13, h14, h15, h16, h17, h18, h19, h20, h21, h22, h23, h24, h25⟩ := lam_facts hk8 hlam
  subst h2
  cases hcL.symm.trans h21
  have hfr : found = r0 := by
    simp only [State.methodFound?, hcL, hkL, Option.bind_eq_bind, Option.bind_some, hiL] at hfoundL
    rw [show ((methodIn cL "read" lDs true none).ask { classPath := fun _ => none } s.vm).1 = .ok found from h22] at hfoundL
    exact Option.some.inj hfoundL
  subst hfr
  have hselP : selectMethod e.platform s.vm cell.cls found = .method ⟨cell.cls, 1⟩ := by rw [Launch.admits_selectMethod X.admits]; exact h23
  have hlenR : ([.ref b] : List Value).length = r.sig.parameters.length := by
    have : parseMethodDescriptor lDs = some r.sig := hsigR
    rw [show parseMethodDescriptor lDs = some ⟨[.object "BombFamilies$Scope"], none⟩ by decide +kernel] at this
    have e9 := Option.some.inj this
    rw [← e9]
    rfl
  obtain ⟨vm₁, X₁, hstep₁⟩ := X.invokeinterface hx ho hlink hn hrm hstR (by rw [hr0cls]; exact hkL) hiL ⟨by decide, by decide⟩ (a := a) (cell := cell) (kcell := kc) (by rw [hT, hHa]; exact h1)
    (fun z h => by rw [h3] at h; cases h) h4 (by rw [hr0cls]; exact h24) hselP h8 (by rw [hnameR, hdescR]; exact h25) (by rw [h14]; decide) (by simp [Method.isAbstract, h14, hasFlag, Acc.abstract])
    (g := F0 m pc ls (.ref b :: .ref a :: rest)) rfl (argsL := [.ref b]) (rest := rest) hlenR rfl (by rw [hb]; exact hdg)
  have hal := X₁.warmed.alike
  have hvm : (T.setVm vm₁).vm = vm₁ := rfl
  let g' : JFrame := F0 m pc ls rest
  let aa : Array Value := #[.ref a, .ref b]
  let R' : Room := { frames := rm.frames + 1, cells := mc, slots := ms, locals := 8 + (maxL + 11) + rm.locals }
  have hlamU : (T.setVm vm₁).lambdaAt? yX1_init px ix (gSh k) = some (cell.cls, some a) := lamAt_at X₁.warmed (by show T.heap[a]? = _; rw [hT, hHa]) hlam
  obtain ⟨kc', tk', file', methk', ck', t', iface', target', found', cell', u1, u2, u3, u4, u5, u6, u7, u8, u9, u10, u11, u12, u13, u14, u15, u16, u17, u18, u19, u20, u21, u22, u23, u24, u25⟩ := lam_facts hk8 hlamU
  obtain ⟨Y₀, hin⟩ := X₁.into (g := g') rfl (hsize.trans hml.symm) (by rw [hb]; exact hdg) (mk := ⟨cell.cls, 1⟩) (methk := methk') (ck := ck') aa (R' := R') u8 u9 u13
    (State.plainMethod.of_name (fun k' hk' => by cases u4.symm.trans hk'; rw [u5]; decide)) (by show rm.frames + 1 + 1 ≤ _; omega) (by show 2 * 0 + (rest.map fun v => v.category).sum + (ck'.maxLocals + 11) + (8 + (maxL + 11) + rm.locals) ≤ _; rw [u11]; omega) hf.1 hf.2
  have hmkK : ck'.maxLocals = 2 := u11
  generalize hU : ((T.setVm vm₁).setTop g').pushFrame (.java (entryFrame ⟨cell.cls, 1⟩ aa ck'.maxLocals)) = U at Y₀ hin
  have hUvm : U.vm = vm₁ := by rw [← hU]; rfl
  have hUh : U.heap = H := by rw [← hU]; exact hT
  have hcode : (Cond.code (yLam k) bytes maxL none).before args s = true := hts _ (hG _ hcw).1
  obtain ⟨mk2, hn2⟩ := Cond.code_named hcode
  obtain ⟨metht, cT, hmt, hcT, -, -, -, -, -, hsigT⟩ := Cond.code_spec hn2 hcode
  have hn2U : (T.setVm vm₁).methodNamed? (yLam k) = some mk2 := by
    have := State.methodNamed?_setVm (s := s) hal (yLam k)
    rw [hn2] at this
    exact this
  have htm : target' = mk2 := by
    have h := State.methodFound?_of_named hn2U ⟨show "BombFamilies" ≠ _ by decide, show "BombFamilies" ≠ _ by decide⟩
    simp only [State.methodFound?, u16, u17, Option.bind_eq_bind, Option.bind_some] at h
    rw [u18] at h
    exact Option.some.inj h
  subst htm
  have hcls2 : target'.cls = t' := Option.some.inj ((findClass_of_methodNamed hn2U).symm.trans u16)
  obtain ⟨kx, hkx, hnx⟩ := className_of_methodNamed hn2U
  have hkxt : kx = tk' := by rw [hcls2] at hkx; exact Option.some.inj (hkx.symm.trans u17)
  subst hkxt
  have hpolyA : ∀ z, signaturePolymorphic kx z = false := fun z => signaturePolymorphic_of_name ⟨by rw [hnx]; show "BombFamilies" ≠ _; decide, by rw [hnx]; show "BombFamilies" ≠ _; decide⟩ z
  have hmtU : U.vm.method? target' = some metht := by rw [hUvm]; exact (hal.method? _).trans hmt
  have hstT : metht.isStatic = true := Cond.static_spec hn2 hmt hstt
  have hiniU : kx.init = .initialized := Cond.initialized_spec (s := T.setVm vm₁) (args := args) u16 u17 (word_at X₁.warmed (Or.inl (by first | rfl | simp [Cond.onTables, Cond.keeps, Cond.steady])) hini)
  have hparT : ([.ref b] : List Value).length = metht.sig.parameters.length := by
    have : parseMethodDescriptor lDs = some metht.sig := hsigT
    rw [show parseMethodDescriptor lDs = some ⟨[.object "BombFamilies$Scope"], none⟩ by decide +kernel] at this
    have e9 := Option.some.inj this
    rw [← e9]
    rfl
  have f17 := of_decide_eq_true (l_at l_17 hk8)
  obtain ⟨bb, hmem⟩ := memberRef_ask' (e := e) (vm := vm₁) (d := cell.cls) (index := 17) u4 u6 (Or.inl (by rw [u7]; exact f17.1)) (by rw [u7]; exact f17.2.2)
  have href : plainRef U e cell.cls 17 := ⟨14, _, _, bb, t', kx, by rw [hUvm]; exact hmem, by rw [hUvm]; exact u20, by rw [hUvm]; exact u17, by simp [hpolyA]⟩
  let g2 : JFrame := { method := ⟨cell.cls, 1⟩, pc := 1, locals := #[.val (.ref a), .val (.ref b)], stack := [], locked := none }
  have hK : vx_Back l R' p e (.java g' :: below) ((T.setVm vm₁).calling g' ⟨cell.cls, 1⟩ aa) aa (yLam k) 3 8 (PreOf R' mc ms Pc) (PostOf Qc mc ms free) (vx_Post XC mc ms free) :=
    vx_back (bytes := bytes) (maxL := maxL) (ret := none) hM hp.1 hrc hrs (Nat.le_refl _) (Nat.le_refl _) (fun w hw a' U' hW' => word_at (State.WarmedH.trans X₁.warmed hW') (hG w hw).2 (hts w (hG w hw).1)) hcw
      (fun a' U' hW' => word_at (State.WarmedH.trans X₁.warmed hW') (Or.inl (by first | rfl | simp [Cond.onTables, Cond.keeps, Cond.steady])) hini)
  have hs : U.topJava?.isSome := Y₀.here.top
  have hgo : ∀ tg, Steps p.tables e (.java g' :: below) (doInvoke e (U.setTop g2) [] target' #[.ref b]).1 tg → Steps p.tables e (.java g' :: below) (U.setTop (entryFrame ⟨cell.cls, 1⟩ aa ck'.maxLocals)) tg := by
    intro tg htg
    have hloc : entryFrame ⟨cell.cls, 1⟩ aa ck'.maxLocals = { method := ⟨cell.cls, 1⟩, pc := 0, locals := #[.val (.ref a), .val (.ref b)], stack := [], locked := none } := by rw [u11]; rfl
    rw [hloc]
    jvm_step Y₀.here [hx, u10, lB0]
    refine ⟨rfl, ?_⟩
    jvm_step Y₀.here [hx, u10, lB1, invokestatic.wp_ready (e := e) (s := U) (m := target') (k := kx) (meth := metht) (args := [.ref b]) (rest := [])
      (f := { method := ⟨cell.cls, 1⟩, pc := 1, locals := #[.val (.ref a), .val (.ref b)], stack := [.ref b], locked := none }) hs href (by rw [hUvm]; exact u19) (by rw [hUvm]; exact hkx) hmtU (hpolyA _) hstT hiniU hparT rfl]
    intro acts'
    rw [doInvoke_state]
    exact htg
  have hheap : ∀ {B T' : State} {fs : List Frame} {gg : JFrame} {z : List Frame}, B.setFrames fs = T'.setTop gg → T'.heap = B.heap := fun h => (congrArg State.heap h).symm
  rcases hK ⟨cell.cls, 1⟩ methk' ck' ⟨U, [], 0, 0⟩ g2 (.invokestatic 17) target' #[.ref b] Y₀ rfl (by show 2 = ck'.maxLocals; rw [u11]) (by rw [u10]; exact lB1) (by show 2 * 0 + 0 ≤ 8; omega)
    (by show U.methodNamed? (yLam k) = some target'; rw [← hU]; exact hn2U) ⟨by show 0 + mc ≤ mc; omega, by show 0 + ms ≤ ms; omega, hp.2 U hUh (by rw [hUvm]; exact X₁.warmed)⟩ with ⟨v, ⟨B, l2, c2, s2⟩, Y', ⟨gx, mkx, tx, L, e1, e2, hq, hl1, hL, hl2, hl3⟩, hsteps⟩ | ⟨q, ⟨B, l2, c2, s2⟩, Y', ⟨gx, mkx, tx, L, E, ce, e1, e2, hq, hce, hcv, hcl, hl1, hL, hl2, hl3⟩, hsteps⟩
  · dsimp only [Pt.U, Pt.locs, Pt.cells, Pt.slots] at Y' e1 e2 hq hl1 hl2 hl3 hsteps
    have hv := hnone _ _ _ hq
    subst hv
    rw [List.nil_append] at hl1
    rw [Nat.zero_add] at hl2 hl3
    subst hl1 hl2 hl3
    obtain ⟨fs, hleave, -, hended, hWe, hsame⟩ := Y'.leave (v := none) (fun _ => rfl) u13
    obtain ⟨T', X', hW', hsm, ht⟩ := X₁.outOf (g := g') rfl (by rw [hb]; exact hdg) hended hWe hsame
    have hTh : T'.heap = B.heap := (congrArg State.heap ht).symm
    have hTv : T'.vm = B.vm := (congrArg State.vm ht).symm
    refine Or.inl ⟨none, U.calling gx mkx #[.ref b], tx, T', l2, hUh, X', hL, hTh.trans e1, hTv.trans e2, hq, fun tg hg => hstep₁ _ fun acts => ?_⟩
    rw [show (doInvoke e ((T.setVm vm₁).setTop { F0 m pc ls (.ref b :: .ref a :: rest) with stack := rest }) acts ⟨cell.cls, 1⟩ (.ref a :: [.ref b]).toArray).1 = _ from hin acts]
    refine Steps.trans (Steps.weaken (mid := [.java g']) (hgo _ (hsteps.trans ?_))) (?_ : Steps p.tables e below (B.setFrames fs) tg)
    · show Steps p.tables e (.java g' :: below) (B.setTop { method := ⟨cell.cls, 1⟩, pc := 4, locals := #[.val (.ref a), .val (.ref b)], stack := [], locked := none }) _
      jvm_step Y'.here [Y'.here.top, hx, u10, lB4, Y'.method', u15, narrow]
      intro acts''
      rw [hleave { method := ⟨cell.cls, 1⟩, pc := 4, locals := #[.val (.ref a), .val (.ref b)], stack := [], locked := none } acts'' rfl rfl rfl]
      exact Steps.refl _
    · rw [ht]; exact hg
  · dsimp only [Pt.U, Pt.locs, Pt.cells, Pt.slots] at Y' e1 e2 hq hl1 hl2 hl3 hsteps hcl
    rw [List.nil_append] at hl1
    rw [Nat.zero_add] at hl2 hl3
    subst hl1 hl2 hl3
    obtain ⟨st9, -, hended, hWe, hsame⟩ := Y'.leaveThrown q (g := g2) rfl rfl rfl (by rw [u12]; intro x hx; cases hx) u13
    obtain ⟨T', X', hW', hsm, ht⟩ := X₁.outOfThrown (g := g') rfl hended hWe hsame
    have hTh : T'.heap = B.heap := (congrArg State.heap ht).symm
    have hTv : T'.vm = B.vm := (congrArg State.vm ht).symm
    refine Or.inr ⟨q, U.calling gx mkx #[.ref b], tx, T', l2, E, ce, hUh, X', hL, hTh.trans e1, hTv.trans e2, hq, hce, hcv, ?_, hstep₁ _ fun acts => ?_⟩
    · have h9 : (T.setVm vm₁).vm.findClass E = some ce.cls := by show vm₁.findClass E = _; rw [← hUvm]; exact hcl
      rw [hal.findClass] at h9
      exact h9
    rw [show (doInvoke e ((T.setVm vm₁).setTop { F0 m pc ls (.ref b :: .ref a :: rest) with stack := rest }) acts ⟨cell.cls, 1⟩ (.ref a :: [.ref b]).toArray).1 = _ from hin acts]
    refine Steps.weaken (mid := [.java g']) (hgo _ (hsteps.trans ?_))
    rw [← ht]
    exact st9
end LAM3
