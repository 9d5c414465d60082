/-! more rows for GO: longs, switches, arrays made, objects made, copies, athrow -/
set_option maxRecDepth 100000
def lI (z : Int) : Int64 := Int64.ofInt z
theorem lI_int {z : Int} (h : iR z) : (lI z).toInt = z := Int64.toInt_ofInt_of_le (by have := h.1; omega) (by have := h.2; omega)
theorem lI_i {z : Int} (h : iR z) : (iI z).toInt64 = lI z := by
  rw [← Int64.toInt_inj, Int32.toInt_toInt64, iI_int h, lI_int h]
theorem lI_lN (n : Nat) : lI (n : Int) = lN n := Int64.ofInt_eq_ofNat
/-- how two compare: -1, 0, 1 -/
def cmpZ (a b : Int) : Int := if b < a then 1 else if a = b then 0 else -1
theorem cmpZ_R (a b : Int) : iR (cmpZ a b) := by unfold cmpZ iR; split <;> (try split) <;> omega
theorem cmpZ_lt {a b : Int} : cmpZ a b < 0 ↔ a < b := by unfold cmpZ; split <;> (try split) <;> omega
theorem cmpZ_gt {a b : Int} : 0 < cmpZ a b ↔ b < a := by unfold cmpZ; split <;> (try split) <;> omega
theorem lg_cmpZ {a b : Int} (ha : iR a) (hb : iR b) : lg_cmp (lI a) (lI b) = iI (cmpZ a b) := by
  unfold lg_cmp cmpZ
  have e1 : lI a > lI b ↔ b < a := by rw [gt_iff_lt, Int64.lt_iff_toInt_lt, lI_int ha, lI_int hb]
  have e2 : lI a = lI b ↔ a = b := by rw [← Int64.toInt_inj, lI_int ha, lI_int hb]
  by_cases h1 : b < a
  · rw [if_pos (e1.mpr h1), if_pos h1]; rfl
  · rw [if_neg (fun q => h1 (e1.mp q)), if_neg h1]
    by_cases h2 : a = b
    · rw [if_pos (e2.mpr h2), if_pos h2]; rfl
    · rw [if_neg (fun q => h2 (e2.mp q)), if_neg h2]; rfl
/-- a byte of a long -/
def by8L (w : Int64) (k : Int) : Int := ((w >>> ((iI (8 * k)).toInt64 &&& 63)).toInt32).toInt % 256
theorem iI_by8 (w : Int64) (k : Int) : ((w >>> ((iI (8 * k)).toInt64 &&& 63)) &&& 255).toInt32 = iI (by8L w k) := by
  rw [Int64.toInt32_and]
  have h := iI_255 ((w >>> ((iI (8 * k)).toInt64 &&& 63)).toInt32).toInt
  rw [iI_of] at h
  exact h
/-- the generator of numbers -/
def sdN (s : Int64) : Int64 := s * 6364136223846793005 + 1442695040888963407
def rn (s : Int64) (n : Int) : Int := ((uN (sdN s) / 2147483648 % n.toNat : Nat) : Int)
theorem rn_rng (s : Int64) {n : Int} (h : 0 < n) : 0 ≤ rn s n ∧ rn s n < n := by
  unfold rn
  have := Nat.mod_lt (uN (sdN s) / 2147483648) (show 0 < n.toNat by omega)
  omega
theorem uN_lN (x : Int64) : lN (uN x) = x := by
  refine wb_inj ?_
  rw [lN_bv]
  show BitVec.ofNat 64 x.toBitVec.toNat = x.toBitVec
  simp
theorem rn_ok (s : Int64) {n : Int} (h : 0 < n ∧ n < 2147483648) : ((((sdN s).toUInt64 >>> ((iI 31).toInt64.toUInt64 &&& Int64.toUInt64 63)).toInt64) - (((sdN s).toUInt64 >>> ((iI 31).toInt64.toUInt64 &&& Int64.toUInt64 63)).toInt64) / (lI n) * (lI n)).toInt32 = iI (rn s n) := by
  obtain ⟨m, rfl⟩ := Int.eq_ofNat_of_zero_le (Int.le_of_lt h.1)
  have hu := uN_lt (sdN s)
  have e1 : ((sdN s).toUInt64 >>> ((iI 31).toInt64.toUInt64 &&& Int64.toUInt64 63)).toInt64 = lN (uN (sdN s) / 2147483648) := by
    have h1 := wb_shr (n := uN (sdN s)) (k := 31) hu (by decide)
    rw [uN_lN] at h1
    exact h1
  rw [e1, lI_lN, pk_lRem (by omega) (by omega) (by omega), lN_i, iI_nI]
  rfl
section GR2
variable {Z : Gz} {X : Gx} {ws : va_W} {k n pc : Nat} {lo : List (Nat × Value)} {st rest : List Value} {y : MethodName} {cc : ByteArray} {nL : Nat} {ret : Option FieldType} {R : Room}
theorem go_lconst (hK : GK Z X y cc nL ret R) (pc : Nat) {j : Fin 2} {v : Int64} (hd : decode cc pc = .ok (.lconst j, 1)) (hv : Int64.ofNat (j : Nat) = v) (g : GO Z X ws k n (pc + 1) lo (.long v :: st)) : GO Z X ws k n pc lo st :=
  fun H locs ls hP hD hS hl => lv_lconst hK.1 hK.2.1 hd hv (g H locs ls hP hD hS hl)
theorem go_ldc2 (hK : GK Z X y cc nL ret R) (pc : Nat) {idx : Nat} {v v2 : Int64} (hc : Cond.constantLong y.cls idx v ∈ lw_all) (hd : decode cc pc = .ok (.ldc2_w idx, 3)) (hv : v = v2) (g : GO Z X ws k n (pc + 3) lo (.long v2 :: st)) : GO Z X ws k n pc lo st := by
  subst hv
  exact fun H locs ls hP hD hS hl => lv_ldc2 hK.1 hK.2.1 hK.2.2.2.1 (hK.2.2.2.2.1 _ hc) hd (g H locs ls hP hD hS hl)
theorem go_i2l (hK : GK Z X y cc nL ret R) (pc : Nat) {a : Int} (hd : decode cc pc = .ok (.i2l, 1)) (ha : iR a) (g : GO Z X ws k n (pc + 1) lo (.long (lI a) :: st)) : GO Z X ws k n pc lo (.int (iI a) :: st) :=
  fun H locs ls hP hD hS hl => lv_i2l hK.1 hK.2.1 hd (lI_i ha) (g H locs ls hP hD hS hl)
theorem go_l2i (hK : GK Z X y cc nL ret R) (pc : Nat) {x : Int64} {z : Int} (hd : decode cc pc = .ok (.l2i, 1)) (he : x.toInt32 = iI z) (g : GO Z X ws k n (pc + 1) lo (.int (iI z) :: st)) : GO Z X ws k n pc lo (.long x :: st) :=
  fun H locs ls hP hD hS hl => lv_l2i hK.1 hK.2.1 hd he (g H locs ls hP hD hS hl)
theorem go_lcmp (hK : GK Z X y cc nL ret R) (pc : Nat) {a b : Int} (hd : decode cc pc = .ok (.lcmp, 1)) (ha : iR a) (hb : iR b) (g : GO Z X ws k n (pc + 1) lo (.int (iI (cmpZ a b)) :: st)) : GO Z X ws k n pc lo (.long (lI b) :: .long (lI a) :: st) :=
  fun H locs ls hP hD hS hl => W.lcmp hK.1 hK.2.1 hd (by rw [lg_cmpZ ha hb]; exact g H locs ls hP hD hS hl)
theorem go_lmul (hK : GK Z X y cc nL ret R) (pc : Nat) {a b : Int64} (hd : decode cc pc = .ok (.lmul, 1)) (g : GO Z X ws k n (pc + 1) lo (.long (a * b) :: st)) : GO Z X ws k n pc lo (.long b :: .long a :: st) :=
  fun H locs ls hP hD hS hl => lv_lmul hK.1 hK.2.1 hd (g H locs ls hP hD hS hl)
theorem go_ladd (hK : GK Z X y cc nL ret R) (pc : Nat) {a b : Int64} (hd : decode cc pc = .ok (.ladd, 1)) (g : GO Z X ws k n (pc + 1) lo (.long (a + b) :: st)) : GO Z X ws k n pc lo (.long b :: .long a :: st) :=
  fun H locs ls hP hD hS hl => lv_ladd hK.1 hK.2.1 hd (g H locs ls hP hD hS hl)
theorem go_land (hK : GK Z X y cc nL ret R) (pc : Nat) {a b : Int64} (hd : decode cc pc = .ok (.land, 1)) (g : GO Z X ws k n (pc + 1) lo (.long (a &&& b) :: st)) : GO Z X ws k n pc lo (.long b :: .long a :: st) :=
  fun H locs ls hP hD hS hl => lv_land hK.1 hK.2.1 hd (g H locs ls hP hD hS hl)
theorem go_lor (hK : GK Z X y cc nL ret R) (pc : Nat) {a b : Int64} (hd : decode cc pc = .ok (.lor, 1)) (g : GO Z X ws k n (pc + 1) lo (.long (a ||| b) :: st)) : GO Z X ws k n pc lo (.long b :: .long a :: st) :=
  fun H locs ls hP hD hS hl => lv_lor hK.1 hK.2.1 hd (g H locs ls hP hD hS hl)
theorem go_lrem (hK : GK Z X y cc nL ret R) (pc : Nat) {a b : Int64} (hd : decode cc pc = .ok (.lrem, 1)) (hb : ¬ b = 0) (g : GO Z X ws k n (pc + 1) lo (.long (a - a / b * b) :: st)) : GO Z X ws k n pc lo (.long b :: .long a :: st) :=
  fun H locs ls hP hD hS hl => lv_lrem hK.1 hK.2.1 hd hb (g H locs ls hP hD hS hl)
theorem go_lushr (hK : GK Z X y cc nL ret R) (pc : Nat) {a : Int64} {b : Int32} (hd : decode cc pc = .ok (.lushr, 1)) (g : GO Z X ws k n (pc + 1) lo (.long ((a.toUInt64 >>> (b.toInt64.toUInt64 &&& Int64.toUInt64 63)).toInt64) :: st)) : GO Z X ws k n pc lo (.int b :: .long a :: st) :=
  fun H locs ls hP hD hS hl => lv_lushr hK.1 hK.2.1 hd rfl (g H locs ls hP hD hS hl)
theorem go_lshr (hK : GK Z X y cc nL ret R) (pc : Nat) {a : Int64} {b : Int32} (hd : decode cc pc = .ok (.lshr, 1)) (g : GO Z X ws k n (pc + 1) lo (.long (a >>> (b.toInt64 &&& 63)) :: st)) : GO Z X ws k n pc lo (.int b :: .long a :: st) :=
  fun H locs ls hP hD hS hl => lv_lshr hK.1 hK.2.1 hd rfl (g H locs ls hP hD hS hl)
theorem go_lshl (hK : GK Z X y cc nL ret R) (pc : Nat) {a : Int64} {b : Int32} (hd : decode cc pc = .ok (.lshl, 1)) (g : GO Z X ws k n (pc + 1) lo (.long (a <<< (b.toInt64 &&& 63)) :: st)) : GO Z X ws k n pc lo (.int b :: .long a :: st) :=
  fun H locs ls hP hD hS hl => lv_lshl hK.1 hK.2.1 hd rfl (g H locs ls hP hD hS hl)
theorem go_tabOut (hK : GK Z X y cc nL ret R) (pc : Nat) {dflt lw hg : Int} {offs : Array Int} {len tgt : Nat} {a : Int} (hd : decode cc pc = .ok (.tableswitch dflt lw hg offs, len)) (ha : iR a) (h : a < lw ∨ hg < a) (ht : (pc : Int) + dflt = (tgt : Int)) (g : GO Z X ws k n tgt lo st) : GO Z X ws k n pc lo (.int (iI a) :: st) :=
  fun H locs ls hP hD hS hl => lv_tableOut hK.1 hK.2.1 hd (by rw [iI_int ha]; exact h) ht (g H locs ls hP hD hS hl)
theorem go_tabIn (hK : GK Z X y cc nL ret R) (pc : Nat) {dflt lw hg : Int} {offs : Array Int} {len tgt : Nat} {off : Int} {a c : Int} (hd : decode cc pc = .ok (.tableswitch dflt lw hg offs, len)) (he : a = c) (hc : iR c) (h1 : lw ≤ c) (h2 : c ≤ hg) (ho : offs[(c - lw).toNat]? = some off) (ht : (pc : Int) + off = (tgt : Int)) (g : GO Z X ws k n tgt lo st) : GO Z X ws k n pc lo (.int (iI a) :: st) := by
  subst he
  exact fun H locs ls hP hD hS hl => lv_tableIn hK.1 hK.2.1 hd (by rw [iI_int hc]; omega) (by rw [iI_int hc]; omega) (by rw [iI_int hc]; exact ho) ht (g H locs ls hP hD hS hl)
theorem va_K_arr {D : va_G} {cl : List vw_C} {tys : List (ClassId × FieldType)} {U : State} (h : va_K D cl tys U) {t0 : Nat} {cA cB : ClassId} {ty : FieldType} (ht : tys[t0]? = some (cA, ty)) (hnq : ∀ C, ty ≠ .object C) (h2 : va_RA U cB ty) : cB = cA := by
  have h1 := (h.2 t0 _ ht).2
  cases ty with
  | object C => exact absurd rfl (hnq C)
  | _ => exact Option.some.inj (h2.symm.trans h1)
theorem go_newi (hK : GK Z X y cc nL ret R) (pc : Nat) {i : Int} {N : Nat} {w' : va_W} (hd : decode cc pc = .ok (.newarray .int, 2)) (hi : i = (N : Int)) (hN : N ≤ 100000) (hc : k + 1 ≤ R.cells) (hs : n + N ≤ R.slots) (g : ∀ q : Nat, GO Z X (ws ++ [(q, .inl (zC Z 0, iA N (fun _ => 0)))]) (k + 1) (n + N) (pc + 2) lo (.ref q :: st)) : GO Z X ws k n pc lo (.int (iI i) :: st) := by
  subst hi
  rw [← hK.2.2.2.2.2.2.2.2.2.2.1] at hc hs
  refine fun H locs ls hP hD hS hl => va_newa (atype := .int) (a0 := iA N (fun _ => 0)) hK.1 hK.2.1 (hK.2.2.2.2.1 _ q211) rfl hK.2.2.2.2.2.1 hP hD hS hK.2.2.2.2.2.2.1 (fun cA => rfl) ?_ ?_ (by show N * 4 ≤ _; omega) hc hs hd (fun q cA H1 hK1 hP1 hD1 hS1 => ?_)
  · rw [iI_0, iI_lt ⟨by omega, by omega⟩ (by decide)]; omega
  · rw [iI_cl ⟨by omega, by omega⟩]; rfl
  · have e : cA = zC Z 0 := va_K_arr hK.2.2.2.2.2.1 (t0 := 0) rfl (fun C q => by cases q) ((hK1.2 4 (cA, .int) rfl).2)
    subst e
    exact g q H1 locs ls hP1 hD1 hS1 hl
theorem go_newb (hK : GK Z X y cc nL ret R) (pc : Nat) {i : Int} {N : Nat} (hd : decode cc pc = .ok (.newarray .byte, 2)) (hi : i = (N : Int)) (hN : N ≤ 100000) (hc : k + 1 ≤ R.cells) (hs : n + N ≤ R.slots) (g : ∀ q : Nat, GO Z X (ws ++ [(q, .inl (zC Z 1, bA N (fun _ => 0)))]) (k + 1) (n + N) (pc + 2) lo (.ref q :: st)) : GO Z X ws k n pc lo (.int (iI i) :: st) := by
  subst hi
  rw [← hK.2.2.2.2.2.2.2.2.2.2.1] at hc hs
  refine fun H locs ls hP hD hS hl => va_newa (atype := .byte) (a0 := bA N (fun _ => 0)) hK.1 hK.2.1 (hK.2.2.2.2.1 _ q77) rfl hK.2.2.2.2.2.1 hP hD hS hK.2.2.2.2.2.2.1 (fun cA => rfl) ?_ ?_ (by show N * 1 ≤ _; omega) hc hs hd (fun q cA H1 hK1 hP1 hD1 hS1 => ?_)
  · rw [iI_0, iI_lt ⟨by omega, by omega⟩ (by decide)]; omega
  · rw [iI_cl ⟨by omega, by omega⟩]; rfl
  · have e : cA = zC Z 1 := va_K_arr hK.2.2.2.2.2.1 (t0 := 1) rfl (fun C q => by cases q) ((hK1.2 4 (cA, .byte) rfl).2)
    subst e
    exact g q H1 locs ls hP1 hD1 hS1 hl
theorem go_aald (hK : GK Z X y cc nL ret R) (pc : Nat) {a N t0 : Nat} {C : String} {f : Nat → Option Nat} {i : Int} {b : Nat} (hd : decode cc pc = .ok (.aaload, 1)) (q0 : Nat) (ht : (zt Z)[t0]? = some (zC Z t0, .object C)) (he : ws[q0]? = some (a, .inl (zC Z t0, qA N f))) (hi : 0 ≤ i ∧ i < N) (hN : N ≤ 2147483648) (hb : f i.toNat = some b) (g : GO Z X ws k n (pc + 1) lo (.ref b :: st)) : GO Z X ws k n pc lo (.int (iI i) :: .ref a :: st) :=
  fun H locs ls hP hD hS h => va_aldq hK.1 hK.2.1 hK.2.2.2.2.2.1 hP q0 t0 he ht (iI_in hi hN) hd (by rw [iI_cl ⟨hi.1, by omega⟩, hb]; exact g H locs ls hP hD hS h)
theorem go_mmax (hK : GK Z X y cc nL ret R) (pc : Nat) {idx : Nat} {a b : Int} (hl1 : Cond.methodLink y.cls idx Lib.Math.max.name ∈ lw_all) (h2 : Cond.static Lib.Math.max.name ∈ lw_all) (h3 : Cond.initialized "java/lang/Math" ∈ lw_all) (h4 : Cond.code Lib.Math.max.name Lib.Math.max.code 2 (some .int) ∈ lw_all) (hd : decode cc pc = .ok (.invokestatic idx, 3)) (hf : 1 ≤ R.frames) (hlo : (st.map fun v => v.category).sum + 13 ≤ R.locals) (hc : k ≤ R.cells) (hs : n ≤ R.slots) (ha : iR a) (hb : iR b) (g : GO Z X ws k n (pc + 3) lo (.int (iI (if a < b then b else a)) :: st)) : GO Z X ws k n pc lo (.int (iI b) :: .int (iI a) :: st) := by
  rw [← hK.2.2.2.2.2.2.2.2.2.2.1] at hf hlo hc hs
  have hts := hK.2.2.2.2.1
  refine fun H locs ls hP hD hS hl => va_mmax hK.1 hK.2.1 hl.1.symm hK.2.2.2.1 (hts _ hl1) (hts _ h2) (hts _ h3) (hts _ h4) hf hlo hc hs hd ?_
  have e : (if iI a < iI b then iI b else iI a) = iI (if a < b then b else a) := by
    by_cases q : a < b
    · rw [if_pos q, if_pos ((iI_lt ha hb).mpr q)]
    · rw [if_neg q, if_neg (fun z => q ((iI_lt ha hb).mp z))]
  rw [e]
  exact g H locs ls hP hD hS hl
theorem bA_cpy (f g : Nat → Int) (sp dp m : Nat) : va_cpy (fun j => iI (sB (f j))) (fun j => iI (sB (g j))) sp dp m = fun j => iI (sB (va_cpy f g sp dp m j)) := by
  funext j
  unfold va_cpy
  split <;> rfl
theorem go_copyB (hK : GK Z X y cc nL ret R) (pc : Nat) {idx a0 a n0 n1 : Nat} {f g : Nat → Int} {sp dp m : Int} {w' : va_W} (h1 : Cond.methodLink y.cls idx arraycopyName ∈ lw_all) (h2 : Cond.native arraycopyName ∈ lw_all) (h3 : Cond.static arraycopyName ∈ lw_all) (h4 : Cond.initialized "java/lang/System" ∈ lw_all) (hd : decode cc pc = .ok (.invokestatic idx, 3)) (q0 q1 : Nat) (he0 : ws[q0]? = some (a0, .inl (zC Z 1, bA n0 f))) (he1 : ws[q1]? = some (a, .inl (zC Z 1, bA n1 g)))
    (hsp : 0 ≤ sp ∧ sp < 1000000) (hdp : 0 ≤ dp ∧ dp < 1000000) (hm : 0 ≤ m ∧ m < 1000000) (ha : sp + m ≤ n0) (hb : dp + m ≤ n1) (hf : 1 ≤ R.frames) (hlo : (st.map fun v => v.category).sum + (nativeFrameWords "java/lang/System" "arraycopy" 5 + 11) ≤ R.locals) (hw' : ws.set q1 (a, .inl (zC Z 1, bA n1 (va_cpy f g sp.toNat dp.toNat m.toNat))) = w')
    (gg : GO Z X w' k n (pc + 3) lo st) : GO Z X ws k n pc lo (.int (iI m) :: .int (iI dp) :: .ref a :: .int (iI sp) :: .ref a0 :: st) := by
  rw [← hK.2.2.2.2.2.2.2.2.2.2.1] at hf hlo
  have hts := hK.2.2.2.2.1
  subst hw'
  have pos : ∀ z : Int, 0 ≤ z ∧ z < 1000000 → ¬ iI z < 0 := fun z hz => by rw [iI_0, iI_lt ⟨by omega, by omega⟩ (by decide)]; omega
  have cl9 : ∀ z : Int, 0 ≤ z ∧ z < 1000000 → (iI z).toNatClampNeg = z.toNat := fun z hz => iI_cl ⟨hz.1, by omega⟩
  refine fun H locs ls hP hD hS hl => va_copyi (n0 := n0) (n1 := n1) (ty := .byte) hK.1 hK.2.1 hl.1.symm hK.2.2.2.1 (hts _ h1) (hts _ h2) (hts _ h3) (hts _ h4) hK.2.2.2.2.2.1 hP hD hS q0 q1 1 1 he0 he1 rfl rfl rfl (pos _ hsp) (pos _ hdp) (pos _ hm) ?_ ?_ ?_ hf hlo hd ?_
  · rw [cl9 _ hsp, cl9 _ hm]; omega
  · rw [cl9 _ hdp, cl9 _ hm]; omega
  · intro i _
    rw [iI_bb]
    exact pk_fb _
  · rw [cl9 _ hsp, cl9 _ hdp, cl9 _ hm, bA_cpy]
    exact fun H locs hP hD hS => gg H locs ls hP hD hS hl
/-- the Fault thrown leaves the method -/
theorem go_athrow {w0 : va_W} {post : Option Value → va_W → Prop} {px : Nat → va_W → Prop} (hK : GK Z X y cc nL ret R) (hR : GR Z X w0 post px R) (pc : Nat) {q : Nat} {fs : List Value} (nw : List Nat) (hd : decode cc pc = .ok (.athrow, 1)) (h1 : k ≤ R.cells) (h2 : n ≤ R.slots) (q0 : Nat) (he : ws[q0]? = some (q, .inr (3, fs))) (hx : ws.map Prod.fst = w0.map Prod.fst ++ nw) (hp : px q ws) : GO Z X ws k n pc lo (.ref q :: st) := by
  refine fun H locs ls hP hD hS hl => vx_athrow hK.1 hK.2.1 hd ?_
  rw [show xQ X = _ from hR.1]
  obtain ⟨r, hc, cell, g1, g2, g3, -⟩ := hP q0 _ he
  cases Option.some.inj hc
  refine vx_out (E := "BombFamilies$Fault") (ce := cell) (fun x hx => (hR.2 x hx).elim) hK.2.2.2.2.2.2.2.1 g1 g3 ?_ (fun t9 ht9 hA9 => ⟨⟨rfl, ws, nw, hp, hx, by rw [ht9]; exact hP, hD⟩, hS.F ht9⟩) hS.2.2 h1 h2
  rw [g2]
  exact (hK.2.2.2.2.2.1.1 3 _ rfl).2.1
/-- a new object; its fields as the class lays them -/
theorem go_new (hK : GK Z X y cc nL ret R) (pc : Nat) {idx ci N : Nat} {C : String} {T : u_T} {ty : Nat → FieldType} {fs : List Value} (hc : vwCl[ci]? = some (C, T, N)) (hin : ∀ w ∈ u_ws C T N, w ∈ lw_all) (hty : ∀ k, k < N → parseFieldDescriptor (T k).2.2.1 = some (ty k)) (hl1 : Cond.classLink y.cls idx C ∈ lw_all) (hl2 : Cond.instantiable C N ∈ lw_all) (hl3 : Cond.initialized C ∈ lw_all) (hfs : ∀ j, j < N → defaultValue (ty j) = vp_V fs j) (hd : decode cc pc = .ok (.new idx, 3)) (hcl : k + 1 ≤ R.cells) (hs : n + N ≤ R.slots) (g : ∀ q : Nat, GO Z X (ws ++ [(q, .inr (ci, fs))]) (k + 1) (n + N) (pc + 3) lo (.ref q :: st)) : GO Z X ws k n pc lo st := by
  rw [← hK.2.2.2.2.2.2.2.2.2.2.1] at hcl hs
  have hts := hK.2.2.2.2.1
  exact fun H locs ls hP hD hS hl => va_new (c0 := xc X) hK.1 hK.2.1 hts hin ty hty hK.2.2.2.1 (hts _ hl1) (hts _ hl2) (hts _ hl3) hK.2.2.2.2.2.1 hP hD hS hK.2.2.2.2.2.2.1 hc hfs hcl hs hd (fun q H1 hP1 hD1 hS1 => g q H1 locs ls hP1 hD1 hS1 hl)
theorem go_objInit (hK : GK Z X y cc nL ret R) (pc : Nat) {idx a : Nat} (h1 : Cond.methodLink y.cls idx objectInit ∈ lw_all) (h2 : Cond.instanceMethod objectInit ∈ lw_all) (h3 : Cond.code objectInit ⟨#[0xb1]⟩ 1 none ∈ lw_all) (hd : decode cc pc = .ok (.invokespecial idx, 3)) (hf : 1 ≤ R.frames) (hlo : 12 ≤ R.locals) (hst : st = []) (g : GO Z X ws k n (pc + 3) lo st) : GO Z X ws k n pc lo (.ref a :: st) := by
  subst hst
  rw [← hK.2.2.2.2.2.2.2.2.2.2.1] at hf hlo
  have hts := hK.2.2.2.2.1
  refine fun H locs ls hP hD hS hl => W.objInit hK.1 hK.2.1 hK.2.2.2.1 (hts _ h1) (hts _ h2) (hts _ h3) rfl hl.1 rfl hd hf hlo ?_
  exact W.eq rfl (g H locs ls hP hD hS hl)
end GR2
