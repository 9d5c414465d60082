/-! GO: a walk's place as a world of cells, listed locals and a stack; ints as whole numbers. -/
set_option maxRecDepth 100000
abbrev iR (z : Int) : Prop := -2147483648 ≤ z ∧ z < 2147483648
def iI (z : Int) : Int32 := Int32.ofInt z
theorem iI_add (a b : Int) : iI a + iI b = iI (a + b) := (Int32.ofInt_add a b).symm
theorem iI_sub (a b : Int) : iI a - iI b = iI (a - b) := (Int32.ofInt_sub a b).symm
theorem iI_mul (a b : Int) : iI a * iI b = iI (a * b) := (Int32.ofInt_mul a b).symm
theorem iI_int {z : Int} (h : iR z) : (iI z).toInt = z := Int32.toInt_ofInt_of_le (by have := h.1; omega) (by have := h.2; omega)
theorem iI_of (x : Int32) : iI x.toInt = x := Int32.ofInt_toInt x
theorem iI_rng (x : Int32) : iR x.toInt := ⟨by have := x.le_toInt; omega, by have := x.toInt_lt; omega⟩
theorem iI_le {a b : Int} (ha : iR a) (hb : iR b) : iI a ≤ iI b ↔ a ≤ b := by rw [Int32.le_iff_toInt_le, iI_int ha, iI_int hb]
theorem iI_lt {a b : Int} (ha : iR a) (hb : iR b) : iI a < iI b ↔ a < b := by rw [Int32.lt_iff_toInt_lt, iI_int ha, iI_int hb]
theorem iI_eq {a b : Int} (ha : iR a) (hb : iR b) : iI a = iI b ↔ a = b := by rw [← Int32.toInt_inj, iI_int ha, iI_int hb]
theorem iI_0 : (0 : Int32) = iI 0 := rfl
theorem iI_cl {k : Int} (h : 0 ≤ k ∧ k < 2147483648) : (iI k).toNatClampNeg = k.toNat := by
  show (iI k).toInt.toNat = _
  rw [iI_int ⟨by omega, h.2⟩]
theorem iI_in {k : Int} {n : Nat} (h : 0 ≤ k ∧ k < n) (hn : n ≤ 2147483648) : vp_in (iI k) n := by
  have h2 : 0 ≤ k ∧ k < 2147483648 := ⟨h.1, by omega⟩
  rw [vp_in_iff, iI_int ⟨by omega, h2.2⟩]
  exact h
theorem iI_tb (z : Int) : (iI z).toBitVec.toNat = (z % 4294967296).toNat := by
  show (BitVec.ofInt 32 z).toNat = _
  rw [BitVec.toNat_ofInt]
  rfl
theorem iI_nI (n : Nat) : nI n = iI (n : Int) := Int32.ofInt_eq_ofNat.symm
theorem iI_and (z : Int) {m : Int32} (k : Nat) (hk : k ≤ 31) (hm : m.toBitVec.toNat = 2 ^ k - 1) : iI z &&& m = iI (z % 2 ^ k) := by
  rw [pk_and (iI z) k hm, iI_tb, iI_nI]
  congr 1
  have hd : ((2 : Int) ^ k) ∣ 4294967296 := ⟨2 ^ (32 - k), by rw [← Int.pow_add, show k + (32 - k) = 32 by omega]; rfl⟩
  have h0 : 0 ≤ z % 4294967296 := Int.emod_nonneg _ (by decide)
  have e : (((z % 4294967296).toNat % 2 ^ k : Nat) : Int) = (z % 4294967296) % 2 ^ k := by
    rw [Int.natCast_emod, Int.toNat_of_nonneg h0]
    push_cast
    rfl
  rw [e, Int.emod_emod_of_dvd _ hd]
theorem iI_255 (z : Int) : iI z &&& iI 255 = iI (z % 256) := iI_and z 8 (by decide) (by decide +kernel)
theorem iI_15 (z : Int) : iI z &&& iI 15 = iI (z % 16) := iI_and z 4 (by decide) (by decide +kernel)
theorem iI_1 (z : Int) : iI z &&& iI 1 = iI (z % 2) := iI_and z 1 (by decide) (by decide +kernel)
/-- the signed byte of a whole number -/
def sB (z : Int) : Int := (z + 128) % 256 - 128
theorem sB_mod (z : Int) : sB z % 256 = z % 256 := by unfold sB; omega
theorem sB_rng (z : Int) : -128 ≤ sB z ∧ sB z < 128 := by unfold sB; omega
theorem sB_eq {x y : Int} (h : x % 256 = y % 256) : sB x = sB y := by unfold sB; omega
theorem iI_b (z : Int) : (iI z).toInt8.toInt32 = iI (sB z) := by
  rw [← Int32.toInt_inj, iI_int ⟨by have := sB_rng z; omega, by have := sB_rng z; omega⟩]
  unfold iI
  rw [Int32.toInt8_ofInt, Int8.toInt_toInt32, Int8.toInt_ofInt]
  show z.bmod 256 = sB z
  unfold Int.bmod sB
  dsimp only
  split <;> omega
theorem iI_bb (z : Int) : iI (sB z) = (iI (sB z)).toInt8.toInt32 := by rw [iI_b]; congr 1; unfold sB; omega
theorem iI_vb (z : Int) : vp_nar .byte (iI (sB z)) = iI (sB z) := by rw [iI_bb, pk_vb]
theorem iI_sm : ∀ s : Nat, s < 32 → ((nI s).toBitVec.smod 32).toNat = s := by decide +kernel
theorem iI_31 {s : Nat} (hs : s < 32) : iI (s : Int) &&& 31 = nI s := by
  have h1 := iI_and (s : Int) (m := 31) 5 (by decide) (by decide +kernel)
  rw [h1, iI_nI]
  congr 1
  omega
theorem iI_shr {a : Int} {s : Nat} (ha : 0 ≤ a ∧ a < 2147483648) (hs : s < 32) : iI a >>> (iI (s : Int) &&& 31) = iI (a / 2 ^ s) := by
  obtain ⟨n, rfl⟩ := Int.eq_ofNat_of_zero_le ha.1
  rw [iI_31 hs, ← iI_nI, pk_shrN (by omega) (nI s) s (iI_sm s hs), iI_nI]
  congr 1
theorem iI_shl {a : Int} {s : Nat} (ha : 0 ≤ a) (hs : s < 32) (h : a * 2 ^ s < 4294967296) : iI a <<< (iI (s : Int) &&& 31) = iI (a * 2 ^ s) := by
  obtain ⟨n, rfl⟩ := Int.eq_ofNat_of_zero_le ha
  have h2 : ((n * 2 ^ s : Nat) : Int) < 4294967296 := by push_cast; exact h
  rw [iI_31 hs, ← iI_nI, pk_shlN (nI s) s (iI_sm s hs) (by omega), iI_nI]
  congr 1
theorem iI_div {a b : Int} (ha : 0 ≤ a ∧ a < 2147483648) (hb : 0 < b ∧ b < 2147483648) : iI a / iI b = iI (a / b) := by
  obtain ⟨n, rfl⟩ := Int.eq_ofNat_of_zero_le ha.1
  obtain ⟨m, rfl⟩ := Int.eq_ofNat_of_zero_le (Int.le_of_lt hb.1)
  rw [← iI_nI, ← iI_nI, pk_div (by omega) (by omega) (by omega), iI_nI]
  rfl
theorem iI_rem {a b : Int} (ha : 0 ≤ a ∧ a < 2147483648) (hb : 0 < b ∧ b < 2147483648) : iI a - iI a / iI b * iI b = iI (a % b) := by
  obtain ⟨n, rfl⟩ := Int.eq_ofNat_of_zero_le ha.1
  obtain ⟨m, rfl⟩ := Int.eq_ofNat_of_zero_le (Int.le_of_lt hb.1)
  rw [← iI_nI, ← iI_nI, pk_rem (by omega) (by omega) (by omega), iI_nI]
  rfl
theorem iI_ne0 {b : Int} (hb : iR b) (h : b ≠ 0) : ¬ iI b = 0 := by
  rw [iI_0, iI_eq hb (by decide)]
  exact h
/-- contents of arrays -/
abbrev iA (n : Nat) (g : Nat → Int) : vp_A := (n, .inl (fun j => iI (g j)))
abbrev bA (n : Nat) (g : Nat → Int) : vp_A := (n, .inl (fun j => iI (sB (g j))))
abbrev qA (n : Nat) (g : Nat → Option Nat) : vp_A := (n, .inr (.inr (.inr (.inr g))))
theorem iA_up (g : Nat → Int) (k : Nat) (x : Int) : upd (fun j => iI (g j)) k (iI x) = fun j => iI (va_up g k x j) := by
  funext j
  unfold upd va_up
  by_cases h : j = k
  · simp [h]
  · simp [h]
theorem bA_up (g : Nat → Int) (k : Nat) (x : Int) : upd (fun j => iI (sB (g j))) k (iI (sB x)) = fun j => iI (sB (va_up g k x j)) := by
  funext j
  unfold upd va_up
  by_cases h : j = k
  · simp [h]
  · simp [h]
abbrev vwCl : List vw_C := [(RX1, TX1, 21), (RX2, TX2, 2), (RX3, TX3, 3), (RX4, TX4, 8), (RX5, TX5, 7), (RX6, TX6, 31)]
/-- what is fixed all through: the launch, the classes, the array classes (int, byte, Scope, Kind), the lambdas' objects and classes -/
abbrev Gz : Type := Launch × va_G × (Nat → ClassId) × (Nat → Nat) × (Nat → ClassId)
abbrev zL (Z : Gz) : Launch := Z.1
abbrev zD (Z : Gz) : va_G := Z.2.1
abbrev zC (Z : Gz) : Nat → ClassId := Z.2.2.1
abbrev zA (Z : Gz) : Nat → Nat := Z.2.2.2.1
abbrev zK (Z : Gz) : Nat → ClassId := Z.2.2.2.2
abbrev zt (Z : Gz) : List (ClassId × FieldType) := [(zC Z 0, .int), (zC Z 1, .byte), (zC Z 2, .object "BombFamilies$Scope"), (zC Z 3, .object "BombFamilies$Kind")]
/-- the method's own frame -/
abbrev Gx : Type := Program × Env × Room × State × MethodId × Array Value × List Frame × Method × Code × (Nat → Prop) × (State → Prop)
abbrev xp (X : Gx) : Program := X.1
abbrev xe (X : Gx) : Env := X.2.1
abbrev xR (X : Gx) : Room := X.2.2.1
abbrev xs (X : Gx) : State := X.2.2.2.1
abbrev xm (X : Gx) : MethodId := X.2.2.2.2.1
abbrev xa (X : Gx) : Array Value := X.2.2.2.2.2.1
abbrev xb (X : Gx) : List Frame := X.2.2.2.2.2.2.1
abbrev xk (X : Gx) : Method := X.2.2.2.2.2.2.2.1
abbrev xc (X : Gx) : Code := X.2.2.2.2.2.2.2.2.1
abbrev xA (X : Gx) : Nat → Prop := X.2.2.2.2.2.2.2.2.2.1
abbrev xQ (X : Gx) : State → Prop := X.2.2.2.2.2.2.2.2.2.2
def gPcs : List Nat := [40, 48, 56, 64, 72, 80, 89, 98]
def gIxs : List Nat := [83, 86, 87, 88, 89, 90, 91, 92]
def gNms : List String := ["lambda$new$0", "lambda$new$1", "lambda$new$2", "lambda$new$3", "lambda$new$4", "lambda$new$5", "lambda$new$6", "lambda$new$7"]
def gSh (k : Nat) : Lambda.Shape := { iface := "BombFamilies$Kind", name := "read", sam := ⟨[.object "BombFamilies$Scope"], none⟩, captured := [], kind := 6, implClass := "BombFamilies", implName := gNms.getD k "", implDesc := ⟨[.object "BombFamilies$Scope"], none⟩, implItf := false, inst := ⟨[.object "BombFamilies$Scope"], none⟩ }
def gLam (Z : Gz) (k : Nat) (s : State) : Prop := s.lambdaAt? yX1_init (gPcs.getD k 0) (gIxs.getD k 0) (gSh k) = some (zK Z k, some (zA Z k))
/-- what holds of the tables, the lambdas' objects and the statics all through -/
def GG (Z : Gz) (A : Nat → Prop) (s : State) : Prop :=
  (∀ w ∈ gNF, va_Nw w s) ∧ (∀ w ∈ gNM, va_Nw w s) ∧ (∀ w ∈ gNC, va_Nw w s) ∧ (∀ w ∈ gND, va_Nw w s) ∧ (∀ k, k < 8 → gLam Z k s ∧ ¬ A (zA Z k) ∧ zA Z k < s.heap.size) ∧
  va_Zq "java/lang/Throwable" "UNASSIGNED_STACK" "[Ljava/lang/StackTraceElement;" A s s.heap ∧ va_Zq "java/lang/Throwable" "SUPPRESSED_SENTINEL" "Ljava/util/List;" A s s.heap
theorem lamAt_at {s U : State} {x : MethodName} {pc index : Nat} {σ : Lambda.Shape} {c : ClassId} {a : Addr} (hW : s.WarmedH U.vm) (hq : U.heap[a]? = s.heap[a]?) (h0 : s.lambdaAt? x pc index σ = some (c, some a)) : U.lambdaAt? x pc index σ = some (c, some a) := by
  obtain ⟨m, kc, cf, i0, p0, l, hm, hk, hcf, hsh, hin, hfind, hmade, hcall, hl⟩ := State.lambdaAt?_spec h0
  have hcall' : U.lambdaCallable σ c = true := by
    have hA := hW.alike
    simp only [State.lambdaCallable, hA.findClass, hA.assignable, hA.superclasses, hA.declaredIn] at hcall ⊢
    exact hcall
  obtain ⟨kc', hk', he⟩ := hW.alike.2.2 _ _ hk
  have hm' : U.methodNamed? x = some m := by
    have := State.methodNamed?_setVm (s := s) hW.alike x
    rw [hm] at this
    exact this
  have hcf' : kc'.cf = some cf := by rw [he]; exact hcf
  have hin' : (m.idx, pc, index, σ) ∈ Lambda.sitesOf kc' := by rw [he]; exact hin
  have hfind' : (kc'.callSites.find? fun y => y.1 == m.idx && y.2.1 == pc) = some (i0, p0, l) := by rw [he]; exact hfind
  have hmade' := Lambda.isMade_warmer hW hmade
  obtain ⟨m2, k2, hm2, hk2, hjdk, howes⟩ := State.lambdaAt?_road h0
  cases hm.symm.trans hm2
  cases hk.symm.trans hk2
  have hjdk' : jdkName kc'.name = false := by rw [he]; exact hjdk
  have howes' : (U.vm.findClass σ.iface).bind (Lambda.owesInit U.vm) = none := by
    rw [hW.alike.findClass]
    cases hfi : s.vm.findClass σ.iface with
    | none => rfl
    | some i => rw [hfi] at howes; simpa [Lambda.owesInit_alike hW.alike] using howes
  have hany : ((Lambda.sitesOf kc').any fun y => decide (y = (m.idx, pc, index, σ))) = true := by simpa using hin'
  rcases hl with ⟨a', cell, rfl, ha, hcap, hcell, hcls, hvm, hslots⟩ | ⟨-, h2, -⟩
  · cases ha
    have hc' : U.heap[a]? = some cell := hq.trans hcell
    simp [State.lambdaAt?, guard, hjdk', howes', hm', hk', hcf', hsh, hany, hfind', hc', hcap, hcls, hmade', hcall', hvm, hslots]
  · cases h2
theorem gLam_at {Z : Gz} {k : Nat} {s U : State} (hW : s.WarmedH U.vm) (hq : U.heap[zA Z k]? = s.heap[zA Z k]?) (h : gLam Z k s) : gLam Z k U := lamAt_at hW hq h
theorem GG.moved {Z : Gz} {A A' : Nat → Prop} {s U : State} {H : Heap} {locs : List Loc} (h : GG Z A s) (hW : s.WarmedH U.vm) (hS : va_S A s.heap H locs) (hU : U.heap = H) (hA : ∀ q, A' q → A q) : GG Z A' U := by
  obtain ⟨h1, h2, h3, h4, h5, h6, h7⟩ := h
  subst hU
  refine ⟨fun w hw => ?_, fun w hw => ?_, fun w hw => ?_, fun w hw => ?_, fun k hk => ?_, ?_, ?_⟩
  · exact gNF_warm hW w hw (h1 w hw)
  · exact gNM_warm hW w hw (h2 w hw)
  · exact gNC_warm hW w hw (h3 w hw)
  · exact gND_warm hW w hw (h4 w hw)
  · obtain ⟨a1, a2, a3⟩ := h5 k hk
    exact ⟨gLam_at hW (hS.2.1 _ a3 a2) a1, fun q => a2 (hA _ q), Nat.lt_of_lt_of_le a3 hS.1⟩
  · exact (((h6.moved hW.alike).kept (fun a ha hn => hS.2.1 a ha hn)).narrow hA)
  · exact (((h7.moved hW.alike).kept (fun a ha hn => hS.2.1 a ha hn)).narrow hA)
theorem GG.same {Z : Gz} {A : Nat → Prop} {s U : State} (h : GG Z A s) (hv : s.vm = U.vm) (hU : U.heap = s.heap) (hW : s.WarmedH U.vm) : GG Z A U := h.moved hW (va_S.rf) hU (fun _ q => q)
def GO (Z : Gz) (X : Gx) (ws : va_W) (k n pc : Nat) (lo : List (Nat × Value)) (st : List Value) : Prop :=
  ∀ (H : Heap) (locs : List Loc) (ls : Array Slot), va_P (zD Z) vwCl ws H → va_D (xA X) ws → va_S (xA X) (xs X).heap H locs → lv_has ls (xc X).maxLocals lo →
    W (xp X) (zL Z) (xe X) (xR X) (xs X) (xm X) (xa X) (xb X) (xk X) (xc X) H locs k n (xQ X) (F0 (xm X) pc ls st)
/-- the method's facts -/
def GK (Z : Gz) (X : Gx) (y : MethodName) (cc : ByteArray) (nL : Nat) (ret : Option FieldType) (R : Room) : Prop :=
  (xp X).tables.exec = Jvm.exec ∧ (xc X).code = cc ∧ (xc X).maxLocals = nL ∧ (xs X).vm.findClass y.cls = some (xm X).cls ∧ (∀ w ∈ lw_all, w.before (xa X) (xs X) = true) ∧ va_K (zD Z) vwCl (zt Z) (xs X) ∧
  (∀ q, (xs X).heap.size ≤ q → xA X q) ∧ (xk X).locks = false ∧ (xk X).sig.returnType = ret ∧ GG Z (xA X) (xs X) ∧ xR X = R ∧ (xk X).name = y.name ∧ (xs X).methodNamed? y = some (xm X)
def gPc (Z : Gz) (av : List Value) (w0 : va_W) (sz : Nat) : Array Value → State → Prop :=
  va_Pc av (fun U => U.heap.size = sz ∧ va_P (zD Z) vwCl w0 U.heap ∧ va_K (zD Z) vwCl (zt Z) U ∧ va_D (fun _ => True) w0 ∧ GG Z (va_A w0 sz) U)
def gQc (Z : Gz) (w0 : va_W) (post : Option Value → va_W → Prop) (A : Nat → Prop) : Array Value → State → Outcome → State → Prop := fun _ st oc t =>
  (∃ (v : Option Value) (w1 : va_W) (nw : List Nat), oc = .returned v ∧ post v w1 ∧ w1.map Prod.fst = w0.map Prod.fst ++ nw ∧ va_P (zD Z) vwCl w1 t.heap ∧ va_D A w1) ∧ va_F A st t
def gXC (Z : Gz) (w0 : va_W) (px : Nat → va_W → Prop) (A : Nat → Prop) : String → Addr → State → State → Prop := fun E q st t =>
  (E = "BombFamilies$Fault" ∧ ∃ (w1 : va_W) (nw : List Nat), px q w1 ∧ w1.map Prod.fst = w0.map Prod.fst ++ nw ∧ va_P (zD Z) vwCl w1 t.heap ∧ va_D A w1) ∧ va_F A st t
/-- what is owed at the method's end -/
def GQ (Z : Gz) (X : Gx) (w0 : va_W) (post : Option Value → va_W → Prop) (px : Nat → va_W → Prop) (R : Room) : Prop :=
  xQ X = vx_MQ (xb X) (gQc Z w0 post (xA X)) (gXC Z w0 px (xA X)) (xa X) (xs X) R.cells R.slots (xA X)
def GR (Z : Gz) (X : Gx) (w0 : va_W) (post : Option Value → va_W → Prop) (px : Nat → va_W → Prop) (R : Room) : Prop :=
  GQ Z X w0 post px R ∧ ∀ x ∈ (xc X).exceptionTable.toList, False
/-- A CONTRACT: over the world w0, with the arguments av, the method returns v over the world w1 with post v w1, or throws the Fault q over w1 with px q w1 -/
def CT (Z : Gz) (y : MethodName) (cc : ByteArray) (nL : Nat) (ret : Option FieldType) (rm : Room) (av : List Value) (w0 : va_W) (post : Option Value → va_W → Prop) (px : Nat → va_W → Prop) : Prop :=
  ∀ sz : Nat, vx_Met (zL Z) y (ws_ y cc nL ret) rm (gPc Z av w0 sz) (gQc Z w0 post (va_A w0 sz)) (gXC Z w0 px (va_A w0 sz)) rm.cells rm.slots (va_A w0 sz)
def CTW (Z : Gz) (y : MethodName) (cc : ByteArray) (nL : Nat) (ret : Option FieldType) (hh : List (Nat × Nat × Nat × Nat)) (rm : Room) (av : List Value) (w0 : va_W) (post : Option Value → va_W → Prop) (px : Nat → va_W → Prop) : Prop :=
  ∀ sz : Nat, vx_Met (zL Z) y (wsW_ y cc nL ret hh) rm (gPc Z av w0 sz) (gQc Z w0 post (va_A w0 sz)) (gXC Z w0 px (va_A w0 sz)) rm.cells rm.slots (va_A w0 sz)
theorem gPc_blind {Z : Gz} {av : List Value} {w0 : va_W} {sz : Nat} : FrameBlind (gPc Z av w0 sz) := by
  intro a U g mk q
  obtain ⟨q0, q1, qP, qK, qD, qG⟩ := q
  exact ⟨q0, q1, qP, va_K.moved (u := U) (U := U.calling g mk a) (Vm.Alike.refl U.vm) qK, qD, qG.same rfl rfl (State.WarmedH.refl U)⟩
theorem ct_of {Z : Gz} {y : MethodName} {cc : ByteArray} {nL : Nat} {ret : Option FieldType} {rm : Room} {av : List Value} {w0 : va_W} {post : Option Value → va_W → Prop} {px : Nat → va_W → Prop} (hy : plainName y.cls = true) (hl : (lg_sl av).length ≤ nL)
    (body : ∀ X : Gx, GK Z X y cc nL ret rm → GR Z X w0 post px rm → GO Z X w0 0 0 0 (lv_args 0 av) []) : CT Z y cc nL ret rm av w0 post px := by
  intro sz
  refine vx_ofW (cc := cc) (maxL := nL) (ret := ret) hy rfl ?_
  intro p e s m args below meth c s₁ B hml ht hv
  obtain ⟨rfl, hsz, hP, hK, hD, hG⟩ := hv
  subst hsz
  have hts := atoms_spec (ws := ws_ y cc nL ret) B.pre
  have hnm := name_of_methodNamed B.named B.method
  rw [lg_entry_eq]
  refine body (p, e, rm, s, m, av.toArray, below, meth, c, va_A w0 s.heap.size, vx_MQ below (gQc Z w0 post (va_A w0 s.heap.size)) (gXC Z w0 px (va_A w0 s.heap.size)) av.toArray s rm.cells rm.slots (va_A w0 s.heap.size))
    ⟨B.exec, B.bytes, hml, findClass_of_methodNamed B.named, fun w h => hts w (List.mem_cons_of_mem _ h), hK, fun q h => Or.inr h, B.notSynchronized, B.returns, hG, rfl, hnm.1, B.named⟩ ⟨rfl, ht⟩ s.heap [] _ hP hD.self va_S.rf ?_
  show lv_has _ c.maxLocals _
  rw [hml]
  exact lv_entry av hl
theorem ctw_of {Z : Gz} {y : MethodName} {cc : ByteArray} {nL : Nat} {ret : Option FieldType} {hh : List (Nat × Nat × Nat × Nat)} {rm : Room} {av : List Value} {w0 : va_W} {post : Option Value → va_W → Prop} {px : Nat → va_W → Prop} (hy : plainName y.cls = true) (hl : (lg_sl av).length ≤ nL)
    (body : ∀ X : Gx, GK Z X y cc nL ret rm → GQ Z X w0 post px rm → (xc X).exceptionTable.toList = tableOf hh → GO Z X w0 0 0 0 (lv_args 0 av) []) : CTW Z y cc nL ret hh rm av w0 post px := by
  intro sz
  refine vx_ofWH (cc := cc) (maxL := nL) (ret := ret) (hh := hh) hy rfl ?_
  intro p e s m args below meth c s₁ B hml hv
  obtain ⟨rfl, hsz, hP, hK, hD, hG⟩ := hv
  subst hsz
  have hts := atoms_spec (ws := wsW_ y cc nL ret hh) B.pre
  have hnm := name_of_methodNamed B.named B.method
  have ht := vx_table (x := y) B (hts _ List.mem_cons_self)
  rw [lg_entry_eq]
  refine body (p, e, rm, s, m, av.toArray, below, meth, c, va_A w0 s.heap.size, vx_MQ below (gQc Z w0 post (va_A w0 s.heap.size)) (gXC Z w0 px (va_A w0 s.heap.size)) av.toArray s rm.cells rm.slots (va_A w0 s.heap.size))
    ⟨B.exec, B.bytes, hml, findClass_of_methodNamed B.named, fun w h => hts w (List.mem_cons_of_mem _ h), hK, fun q h => Or.inr h, B.notSynchronized, B.returns, hG, rfl, hnm.1, B.named⟩ rfl ht s.heap [] _ hP hD.self va_S.rf ?_
  show lv_has _ c.maxLocals _
  rw [hml]
  exact lv_entry av hl
