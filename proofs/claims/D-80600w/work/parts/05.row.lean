/-! rows for GO -/
set_option maxRecDepth 100000
def lk : List (Nat × Value) → Nat → Option Value
  | [], _ => none
  | q :: r, i => bif Nat.beq q.1 i then some q.2 else lk r i
theorem lk_mem : ∀ (lo : List (Nat × Value)) (i : Nat) (v : Value), lk lo i = some v → (i, v) ∈ lo
  | [], _, _, h => by cases h
  | q :: r, i, v, h => by
    unfold lk at h
    cases hb : Nat.beq q.1 i with
    | true =>
      rw [hb] at h
      have e1 : q.2 = v := Option.some.inj h
      have e2 : q.1 = i := Nat.eq_of_beq_eq_true hb
      rw [← e1, ← e2]
      exact List.mem_cons_self
    | false =>
      rw [hb] at h
      exact List.mem_cons_of_mem _ (lk_mem r i v h)
theorem lk_at {ls : Array Slot} {nL : Nat} {lo : List (Nat × Value)} (h : lv_has ls nL lo) {i : Nat} {v : Value} (e : lk lo i = some v) : ls[i]? = some (.val v) := h.2.2 (i, v) (lk_mem lo i v e)
/-- the locals with one stored (a value of one slot) -/
def ls1 (i : Nat) (v : Value) (lo : List (Nat × Value)) : List (Nat × Value) := (i, v) :: lo.filter (fun q => !(q.1 == i) && !(q.1 + 1 == i && q.2.category == 2))
def va_rep : va_W → List Nat → va_W → va_W
  | ws, [], w1 => ws ++ w1
  | ws, i :: is, q :: w1 => va_rep (ws.set i q) is w1
  | ws, _ :: _, [] => ws
theorem va_rep_mem : ∀ (isC : List Nat) (ws w1 : va_W), isC.length ≤ w1.length → ∀ x ∈ va_rep ws isC w1, x ∈ w1 ∨ ∃ j, j ∉ isC ∧ ws[j]? = some x
  | [], ws, w1, _, x, hx => by
    unfold va_rep at hx
    rcases List.mem_append.mp hx with h | h
    · obtain ⟨j, hj⟩ := List.getElem?_of_mem h
      exact Or.inr ⟨j, by simp, hj⟩
    · exact Or.inl h
  | i :: is, ws, [], h, _, _ => by simp at h
  | i :: is, ws, q :: w1, h, x, hx => by
    unfold va_rep at hx
    rcases va_rep_mem is (ws.set i q) w1 (by simpa using h) x hx with h1 | ⟨j, h1, h2⟩
    · exact Or.inl (List.mem_cons_of_mem _ h1)
    · by_cases hji : j = i
      · subst hji
        rw [List.getElem?_set] at h2
        simp only [if_true] at h2
        split at h2
        · cases h2
          exact Or.inl List.mem_cons_self
        · cases h2
      · rw [List.getElem?_set_ne (fun e => hji e.symm)] at h2
        exact Or.inr ⟨j, by simp [hji, h1], h2⟩
theorem va_rep_fst : ∀ (isC : List Nat) (ws w0 w1 : va_W) (nw : List Nat), isC.map (fun i => ws[i]?) = w0.map some → w1.map Prod.fst = w0.map Prod.fst ++ nw → va_nd isC = true → (va_rep ws isC w1).map Prod.fst = ws.map Prod.fst ++ nw
  | [], ws, w0, w1, nw, h1, h2, _ => by
    cases w0 with
    | nil =>
      unfold va_rep
      rw [List.map_append, h2]
      rfl
    | cons a b => simp at h1
  | i :: is, ws, w0, w1, nw, h1, h2, h3 => by
    cases w0 with
    | nil => simp at h1
    | cons a w0 =>
      cases w1 with
      | nil => simp at h2
      | cons q w1 =>
        simp only [List.map_cons, List.cons_append, List.cons.injEq] at h1 h2
        simp only [va_nd, Bool.and_eq_true, decide_eq_true_eq] at h3
        unfold va_rep
        have e1 : (ws.set i q).map Prod.fst = ws.map Prod.fst := by
          rw [List.map_set]
          refine List.ext_getElem? (fun j => ?_)
          rw [List.getElem?_set]
          split
          · rename_i hj
            subst hj
            split
            · rw [List.getElem?_map, h1.1, Option.map_some, h2.1]
            · rename_i hj
              rw [List.getElem?_map, h1.1] 
              simp at hj
              rw [List.getElem?_eq_none hj] at h1
              cases h1.1
          · rfl
        rw [va_rep_fst is (ws.set i q) w0 w1 nw ?_ h2.2 h3.2, e1]
        rw [← h1.2]
        refine List.map_congr_left (fun j hj => ?_)
        rw [List.getElem?_set_ne (fun e => h3.1 (by rw [e]; exact hj))]
theorem va_D_of {A : Nat → Prop} {ws : va_W} (h1 : (ws.map Prod.fst).Nodup) (h2 : ∀ x ∈ ws, A x.1) : va_D A ws := by
  refine ⟨fun i j p q hi hj hpq => ?_, fun k q hk => h2 q (List.mem_of_getElem? hk)⟩
  have a1 : (ws.map Prod.fst)[i]? = some p.1 := by rw [List.getElem?_map, hi]; rfl
  have a2 : (ws.map Prod.fst)[j]? = some p.1 := by rw [List.getElem?_map, hj, hpq]; rfl
  have hl := (List.getElem?_eq_some_iff.mp a1).1
  exact (List.getElem?_inj hl h1).mp (a1.trans a2.symm)
theorem va_D_nd {A : Nat → Prop} {ws : va_W} (h : va_D A ws) : (ws.map Prod.fst).Nodup := by
  refine List.pairwise_iff_getElem.mpr (fun i j hi hj hij hc => ?_)
  rw [List.length_map] at hi hj
  have e1 : ws[i]? = some ws[i] := List.getElem?_eq_getElem hi
  have e2 : ws[j]? = some ws[j] := List.getElem?_eq_getElem hj
  rw [List.getElem_map, List.getElem_map] at hc
  have := h.1 i j _ _ e1 e2 hc
  omega
theorem va_rep_ok {A : Nat → Prop} {D : va_G} {cl : List vw_C} {ws w0 w1 : va_W} {H H1 : Heap} {isC nw : List Nat} (hP : va_P D cl ws H) (hD : va_D A ws) (hsel : isC.map (fun i => ws[i]?) = w0.map some) (hnd : va_nd isC = true) (hnw : w1.map Prod.fst = w0.map Prod.fst ++ nw)
    (hk : ∀ q : Nat, q < H.size → ¬ va_A w0 H.size q → H1[q]? = H[q]?) (hF : ∀ q, va_A w0 H.size q → A q) (hP1 : va_P D cl w1 H1) (hD1 : va_D (va_A w0 H.size) w1) : va_P D cl (va_rep ws isC w1) H1 ∧ va_D A (va_rep ws isC w1) := by
  have hlen : isC.length ≤ w1.length := by
    have a := congrArg List.length hsel
    have b := congrArg List.length hnw
    simp only [List.length_map, List.length_append] at a b
    omega
  have hm := va_rep_mem isC ws w1 hlen
  have apart : ∀ (j : Nat) (x : Nat × va_E), j ∉ isC → ws[j]? = some x → x.1 < H.size ∧ ¬ va_A w0 H.size x.1 := by
    intro j x hj hx
    have hl := (hP j x hx).lt
    refine ⟨hl, fun h => ?_⟩
    rcases h with ⟨k2, e, h⟩ | h
    · have h1 : (isC.map (fun i => ws[i]?))[k2]? = some (some (x.1, e)) := by rw [hsel, List.getElem?_map, h]; rfl
      rw [List.getElem?_map] at h1
      cases hi : isC[k2]? with
      | none => rw [hi] at h1; cases h1
      | some i =>
        rw [hi] at h1
        have h4 := Option.some.inj h1
        have hij := hD.1 j i x (x.1, e) hx h4 rfl
        subst hij
        exact hj (List.mem_of_getElem? hi)
    · omega
  refine ⟨fun k q hq => ?_, va_D_of ?_ (fun x hx => ?_)⟩
  · rcases hm q (List.mem_of_getElem? hq) with h | ⟨j, h1, h2⟩
    · obtain ⟨i, hi⟩ := List.getElem?_of_mem h
      exact hP1 i q hi
    · obtain ⟨g1, g2⟩ := apart j q h1 h2
      exact (hP j q h2).kept (hk q.1 g1 g2)
  · rw [va_rep_fst isC ws w0 w1 nw hsel hnw hnd]
    have n1 := va_D_nd hD
    have n2 := va_D_nd hD1
    rw [hnw] at n2
    rw [List.nodup_append] at n2 ⊢
    refine ⟨n1, n2.2.1, fun a ha b hb hab => ?_⟩
    subst hab
    obtain ⟨x, hx, hxa⟩ := List.mem_map.mp ha
    obtain ⟨j, hj⟩ := List.getElem?_of_mem hx
    by_cases hjc : j ∈ isC
    · obtain ⟨k2, hk2⟩ := List.getElem?_of_mem hjc
      have h1 : (w0.map some)[k2]? = some (some x) := by rw [← hsel, List.getElem?_map, hk2, Option.map_some, hj]
      rw [List.getElem?_map] at h1
      cases hi : w0[k2]? with
      | none => rw [hi] at h1; cases h1
      | some x' =>
        rw [hi] at h1
        have h4 : x' = x := Option.some.inj (Option.some.inj h1)
        subst h4
        exact n2.2.2 a (List.mem_map.mpr ⟨x', List.mem_of_getElem? hi, hxa⟩) a hb rfl
    · obtain ⟨g1, g2⟩ := apart j x hjc hj
      rw [hxa] at g2
      have hw : a ∈ w1.map Prod.fst := by rw [hnw]; exact List.mem_append_right _ hb
      obtain ⟨y, hy, hya⟩ := List.mem_map.mp hw
      obtain ⟨i, hi⟩ := List.getElem?_of_mem hy
      have := hD1.2 i y hi
      rw [hya] at this
      exact g2 this
  · rcases hm x hx with h | ⟨j, h1, h2⟩
    · obtain ⟨i, hi⟩ := List.getElem?_of_mem h
      exact hF _ (hD1.2 i x hi)
    · exact hD.2 j x h2
/-- a callee's world within ours: f puts what came back in its place -/
def gSel (ws w0 : va_W) (f : va_W → va_W) : Prop := ∃ isC : List Nat, isC.map (fun i => ws[i]?) = w0.map some ∧ va_nd isC = true ∧ ∀ (w1 : va_W) (nw : List Nat), w1.map Prod.fst = w0.map Prod.fst ++ nw → va_rep ws isC w1 = f w1
theorem gSel_at {ws w0 : va_W} (isC : List Nat) (h : isC.map (fun i => ws[i]?) = w0.map some) (hn : va_nd isC = true) : gSel ws w0 (va_rep ws isC) := ⟨isC, h, hn, fun _ _ _ => rfl⟩
theorem va_nd_iff : ∀ l : List Nat, l.Nodup → va_nd l = true
  | [], _ => rfl
  | a :: l, h => by
    rw [List.nodup_cons] at h
    unfold va_nd
    rw [va_nd_iff l h.2]
    simp [h.1]
theorem va_rep_all : ∀ (pre ws w1 : va_W), ws.length ≤ w1.length → va_rep (pre ++ ws) (List.range' pre.length ws.length) w1 = pre ++ w1
  | pre, [], w1, _ => by simp [va_rep]
  | pre, x :: ws, [], h => by simp at h
  | pre, x :: ws, q :: w1, h => by
    rw [List.length_cons, List.range'_succ]
    unfold va_rep
    have e : (pre ++ x :: ws).set pre.length q = (pre ++ [q]) ++ ws := by
      rw [List.set_append_right _ _ (Nat.le_refl _), Nat.sub_self, List.set_cons_zero, List.append_assoc]
      rfl
    rw [e]
    have := va_rep_all (pre ++ [q]) ws w1 (by simpa using h)
    rw [List.length_append] at this
    rw [show pre.length + 1 = pre.length + [q].length from rfl, this, List.append_assoc]
    rfl
theorem gSel_all {ws : va_W} : gSel ws ws (fun w => w) := by
  refine ⟨List.range' 0 ws.length, ?_, va_nd_iff _ List.nodup_range', fun w1 nw h => ?_⟩
  · refine List.ext_getElem? (fun i => ?_)
    rw [List.getElem?_map, List.getElem?_map]
    by_cases hi : i < ws.length
    · rw [List.getElem?_range' (by simpa using hi), List.getElem?_eq_getElem hi]
      simp [List.getElem?_eq_getElem hi]
    · rw [List.getElem?_eq_none (by simp; omega), List.getElem?_eq_none (by omega)]
      rfl
  · have hl : ws.length ≤ w1.length := by
      have := congrArg List.length h
      simp only [List.length_map, List.length_append] at this
      omega
    exact va_rep_all [] ws w1 hl
section GR1
variable {Z : Gz} {X : Gx} {ws : va_W} {k n pc : Nat} {lo : List (Nat × Value)} {st rest : List Value} {y : MethodName} {cc : ByteArray} {nL : Nat} {ret : Option FieldType} {R : Room}
theorem GO.eq {k2 n2 pc2 : Nat} {ws2 : va_W} {lo2 : List (Nat × Value)} {st2 : List Value} (g : GO Z X ws2 k2 n2 pc2 lo2 st2) (e1 : ws2 = ws := by rfl) (e2 : k2 = k := by rfl) (e3 : n2 = n := by rfl) (e4 : pc2 = pc := by rfl) (e5 : lo2 = lo := by rfl) (e6 : st2 = st := by rfl) : GO Z X ws k n pc lo st := by
  subst e1; subst e2; subst e3; subst e4; subst e5; subst e6
  exact g
/-- fewer listed locals, in any order -/
theorem go_lo (ks : List Nat) {lo' : List (Nat × Value)} (e : lv_pick lo ks = lo') (g : GO Z X ws k n pc lo' st) : GO Z X ws k n pc lo st := fun H locs ls hP hD hS hl => g H locs ls hP hD hS (lv_sub hl ks e)
/-- the room taken may be counted higher -/
theorem go_wid {k2 n2 : Nat} (h1 : k ≤ k2) (h2 : n ≤ n2) (g : GO Z X ws k2 n2 pc lo st) : GO Z X ws k n pc lo st := fun H locs ls hP hD hS hl => W.widen h1 h2 (g H locs ls hP hD hS hl)
theorem go_iconst (hK : GK Z X y cc nL ret R) (pc : Nat) {z : Int} (hd : decode cc pc = .ok (.iconst z, 1)) (g : GO Z X ws k n (pc + 1) lo (.int (iI z) :: st)) : GO Z X ws k n pc lo st :=
  fun H locs ls hP hD hS hl => lv_iconst hK.1 hK.2.1 hd rfl (g H locs ls hP hD hS hl)
theorem go_bipush (hK : GK Z X y cc nL ret R) (pc : Nat) {z : Int} (hd : decode cc pc = .ok (.bipush z, 2)) (hz : -128 ≤ z ∧ z < 128) (g : GO Z X ws k n (pc + 2) lo (.int (iI z) :: st)) : GO Z X ws k n pc lo st :=
  fun H locs ls hP hD hS hl => lv_bipush hK.1 hK.2.1 hd (v := iI z) (by rw [← Int32.toInt_inj, iI_int ⟨by omega, by omega⟩, Int8.toInt_toInt32, Int8.toInt_ofInt_of_le (by omega) (by omega)]) (g H locs ls hP hD hS hl)
theorem go_sipush (hK : GK Z X y cc nL ret R) (pc : Nat) {z : Int} (hd : decode cc pc = .ok (.sipush z, 3)) (hz : -32768 ≤ z ∧ z < 32768) (g : GO Z X ws k n (pc + 3) lo (.int (iI z) :: st)) : GO Z X ws k n pc lo st :=
  fun H locs ls hP hD hS hl => lv_sipush hK.1 hK.2.1 hd (v := iI z) (by rw [← Int32.toInt_inj, iI_int ⟨by omega, by omega⟩, Int16.toInt_toInt32, Int16.toInt_ofInt_of_le (by omega) (by omega)]) (g H locs ls hP hD hS hl)
theorem go_iload_n (hK : GK Z X y cc nL ret R) (pc i : Nat) {j : Fin 4} {x : Int32} (hd : decode cc pc = .ok (.iload_n j, 1)) (hi : (j : Nat) = i) (hl : lk lo i = some (.int x)) (g : GO Z X ws k n (pc + 1) lo (.int x :: st)) : GO Z X ws k n pc lo st :=
  fun H locs ls hP hD hS h => lv_iload_n hK.1 hK.2.1 hd hi (lk_at h hl) (g H locs ls hP hD hS h)
theorem go_iload (hK : GK Z X y cc nL ret R) (pc i : Nat) {x : Int32} (hd : decode cc pc = .ok (.iload i, 2)) (hl : lk lo i = some (.int x)) (g : GO Z X ws k n (pc + 2) lo (.int x :: st)) : GO Z X ws k n pc lo st :=
  fun H locs ls hP hD hS h => lv_iload hK.1 hK.2.1 hd (lk_at h hl) (g H locs ls hP hD hS h)
theorem go_lload_n (hK : GK Z X y cc nL ret R) (pc i : Nat) {j : Fin 4} {x : Int64} (hd : decode cc pc = .ok (.lload_n j, 1)) (hi : (j : Nat) = i) (hl : lk lo i = some (.long x)) (g : GO Z X ws k n (pc + 1) lo (.long x :: st)) : GO Z X ws k n pc lo st :=
  fun H locs ls hP hD hS h => lv_lload_n hK.1 hK.2.1 hd hi (lk_at h hl) (g H locs ls hP hD hS h)
theorem go_lload (hK : GK Z X y cc nL ret R) (pc i : Nat) {x : Int64} (hd : decode cc pc = .ok (.lload i, 2)) (hl : lk lo i = some (.long x)) (g : GO Z X ws k n (pc + 2) lo (.long x :: st)) : GO Z X ws k n pc lo st :=
  fun H locs ls hP hD hS h => lv_lload hK.1 hK.2.1 hd (lk_at h hl) (g H locs ls hP hD hS h)
theorem go_aload_n (hK : GK Z X y cc nL ret R) (pc i : Nat) {j : Fin 4} {x : Nat} (hd : decode cc pc = .ok (.aload_n j, 1)) (hi : (j : Nat) = i) (hl : lk lo i = some (.ref x)) (g : GO Z X ws k n (pc + 1) lo (.ref x :: st)) : GO Z X ws k n pc lo st :=
  fun H locs ls hP hD hS h => lv_aload_n hK.1 hK.2.1 hd hi (lk_at h hl) (g H locs ls hP hD hS h)
theorem go_aload (hK : GK Z X y cc nL ret R) (pc i : Nat) {x : Nat} (hd : decode cc pc = .ok (.aload i, 2)) (hl : lk lo i = some (.ref x)) (g : GO Z X ws k n (pc + 2) lo (.ref x :: st)) : GO Z X ws k n pc lo st :=
  fun H locs ls hP hD hS h => lv_aload hK.1 hK.2.1 hd (lk_at h hl) (g H locs ls hP hD hS h)
theorem go_istore_n (hK : GK Z X y cc nL ret R) (pc i : Nat) {j : Fin 4} {x : Int32} {lo' : List (Nat × Value)} (hd : decode cc pc = .ok (.istore_n j, 1)) (hi : (j : Nat) = i) (hn : i < nL) (hl : ls1 i (.int x) lo = lo') (g : GO Z X ws k n (pc + 1) lo' st) : GO Z X ws k n pc lo (.int x :: st) :=
  fun H locs ls hP hD hS h => lv_istore_n hK.1 hK.2.1 hd hi h (by rw [hK.2.2.1]; exact hn) hl (fun ls' h' => g H locs ls' hP hD hS h')
theorem go_istore (hK : GK Z X y cc nL ret R) (pc i : Nat) {x : Int32} {lo' : List (Nat × Value)} (hd : decode cc pc = .ok (.istore i, 2)) (hn : i < nL) (hl : ls1 i (.int x) lo = lo') (g : GO Z X ws k n (pc + 2) lo' st) : GO Z X ws k n pc lo (.int x :: st) :=
  fun H locs ls hP hD hS h => lv_istore hK.1 hK.2.1 hd h (by rw [hK.2.2.1]; exact hn) hl (fun ls' h' => g H locs ls' hP hD hS h')
theorem go_astore_n (hK : GK Z X y cc nL ret R) (pc i : Nat) {j : Fin 4} {x : Nat} {lo' : List (Nat × Value)} (hd : decode cc pc = .ok (.astore_n j, 1)) (hi : (j : Nat) = i) (hn : i < nL) (hl : ls1 i (.ref x) lo = lo') (g : GO Z X ws k n (pc + 1) lo' st) : GO Z X ws k n pc lo (.ref x :: st) :=
  fun H locs ls hP hD hS h => lv_astore_n hK.1 hK.2.1 hd hi h (by rw [hK.2.2.1]; exact hn) hl (fun ls' h' => g H locs ls' hP hD hS h')
theorem go_astore (hK : GK Z X y cc nL ret R) (pc i : Nat) {x : Nat} {lo' : List (Nat × Value)} (hd : decode cc pc = .ok (.astore i, 2)) (hn : i < nL) (hl : ls1 i (.ref x) lo = lo') (g : GO Z X ws k n (pc + 2) lo' st) : GO Z X ws k n pc lo (.ref x :: st) :=
  fun H locs ls hP hD hS h => lv_astore hK.1 hK.2.1 hd h (by rw [hK.2.2.1]; exact hn) hl (fun ls' h' => g H locs ls' hP hD hS h')
theorem go_iinc (hK : GK Z X y cc nL ret R) (pc i : Nat) {z x : Int} {lo' : List (Nat × Value)} (q0 : Nat) (hd : decode cc pc = .ok (.iinc i z, 3)) (hq : lo[q0]? = some (i, .int (iI x))) (hn : i < nL) (hl : ls1 i (.int (iI (x + z))) lo = lo') (g : GO Z X ws k n (pc + 3) lo' st) : GO Z X ws k n pc lo st :=
  fun H locs ls hP hD hS h => lv_iinc (v := iI (x + z)) hK.1 hK.2.1 hd h hq (iI_add x z) (by rw [hK.2.2.1]; exact hn) hl (fun ls' h' => g H locs ls' hP hD hS h')
theorem go_iadd (hK : GK Z X y cc nL ret R) (pc : Nat) {a b : Int} (hd : decode cc pc = .ok (.iadd, 1)) (g : GO Z X ws k n (pc + 1) lo (.int (iI (a + b)) :: st)) : GO Z X ws k n pc lo (.int (iI b) :: .int (iI a) :: st) :=
  fun H locs ls hP hD hS hl => lv_iadd hK.1 hK.2.1 hd (by rw [iI_add]; exact g H locs ls hP hD hS hl)
theorem go_isub (hK : GK Z X y cc nL ret R) (pc : Nat) {a b : Int} (hd : decode cc pc = .ok (.isub, 1)) (g : GO Z X ws k n (pc + 1) lo (.int (iI (a - b)) :: st)) : GO Z X ws k n pc lo (.int (iI b) :: .int (iI a) :: st) :=
  fun H locs ls hP hD hS hl => lv_isub hK.1 hK.2.1 hd (by rw [iI_sub]; exact g H locs ls hP hD hS hl)
theorem go_imul (hK : GK Z X y cc nL ret R) (pc : Nat) {a b : Int} (hd : decode cc pc = .ok (.imul, 1)) (g : GO Z X ws k n (pc + 1) lo (.int (iI (a * b)) :: st)) : GO Z X ws k n pc lo (.int (iI b) :: .int (iI a) :: st) :=
  fun H locs ls hP hD hS hl => lv_imul hK.1 hK.2.1 hd (by rw [iI_mul]; exact g H locs ls hP hD hS hl)
theorem go_idiv (hK : GK Z X y cc nL ret R) (pc : Nat) {a b : Int} (hd : decode cc pc = .ok (.idiv, 1)) (ha : 0 ≤ a ∧ a < 2147483648) (hb : 0 < b ∧ b < 2147483648) (g : GO Z X ws k n (pc + 1) lo (.int (iI (a / b)) :: st)) : GO Z X ws k n pc lo (.int (iI b) :: .int (iI a) :: st) :=
  fun H locs ls hP hD hS hl => lv_idiv hK.1 hK.2.1 hd (iI_ne0 ⟨by omega, hb.2⟩ (by omega)) (by rw [iI_div ha hb]; exact g H locs ls hP hD hS hl)
theorem go_irem (hK : GK Z X y cc nL ret R) (pc : Nat) {a b : Int} (hd : decode cc pc = .ok (.irem, 1)) (ha : 0 ≤ a ∧ a < 2147483648) (hb : 0 < b ∧ b < 2147483648) (g : GO Z X ws k n (pc + 1) lo (.int (iI (a % b)) :: st)) : GO Z X ws k n pc lo (.int (iI b) :: .int (iI a) :: st) :=
  fun H locs ls hP hD hS hl => lv_irem hK.1 hK.2.1 hd (iI_ne0 ⟨by omega, hb.2⟩ (by omega)) (by rw [iI_rem ha hb]; exact g H locs ls hP hD hS hl)
/-- and with a mask whose result is shown -/
theorem go_iand (hK : GK Z X y cc nL ret R) (pc : Nat) {a b c : Int} (hd : decode cc pc = .ok (.iand, 1)) (he : iI a &&& iI b = iI c) (g : GO Z X ws k n (pc + 1) lo (.int (iI c) :: st)) : GO Z X ws k n pc lo (.int (iI b) :: .int (iI a) :: st) :=
  fun H locs ls hP hD hS hl => lv_iand hK.1 hK.2.1 hd (by rw [he]; exact g H locs ls hP hD hS hl)
theorem go_ior (hK : GK Z X y cc nL ret R) (pc : Nat) {a b c : Int} (hd : decode cc pc = .ok (.ior, 1)) (he : iI a ||| iI b = iI c) (g : GO Z X ws k n (pc + 1) lo (.int (iI c) :: st)) : GO Z X ws k n pc lo (.int (iI b) :: .int (iI a) :: st) :=
  fun H locs ls hP hD hS hl => lv_ior hK.1 hK.2.1 hd (by rw [he]; exact g H locs ls hP hD hS hl)
theorem go_ishr (hK : GK Z X y cc nL ret R) (pc : Nat) {a b c : Int} (hd : decode cc pc = .ok (.ishr, 1)) (he : iI a >>> (iI b &&& 31) = iI c) (g : GO Z X ws k n (pc + 1) lo (.int (iI c) :: st)) : GO Z X ws k n pc lo (.int (iI b) :: .int (iI a) :: st) :=
  fun H locs ls hP hD hS hl => lv_ishr hK.1 hK.2.1 hd (by rw [he]; exact g H locs ls hP hD hS hl)
theorem go_ishl (hK : GK Z X y cc nL ret R) (pc : Nat) {a b c : Int} (hd : decode cc pc = .ok (.ishl, 1)) (he : iI a <<< (iI b &&& 31) = iI c) (g : GO Z X ws k n (pc + 1) lo (.int (iI c) :: st)) : GO Z X ws k n pc lo (.int (iI b) :: .int (iI a) :: st) :=
  fun H locs ls hP hD hS hl => lv_ishl hK.1 hK.2.1 hd (by rw [he]; exact g H locs ls hP hD hS hl)
theorem go_i2b (hK : GK Z X y cc nL ret R) (pc : Nat) {a : Int} (hd : decode cc pc = .ok (.i2b, 1)) (g : GO Z X ws k n (pc + 1) lo (.int (iI (sB a)) :: st)) : GO Z X ws k n pc lo (.int (iI a) :: st) :=
  fun H locs ls hP hD hS hl => lv_i2b hK.1 hK.2.1 hd (iI_b a) (g H locs ls hP hD hS hl)
theorem go_dup (hK : GK Z X y cc nL ret R) (pc : Nat) {v : Value} (hd : decode cc pc = .ok (.dup, 1)) (hc : v.category = 1) (g : GO Z X ws k n (pc + 1) lo (v :: v :: st)) : GO Z X ws k n pc lo (v :: st) :=
  fun H locs ls hP hD hS hl => lv_dup hK.1 hK.2.1 hd hc (g H locs ls hP hD hS hl)
theorem go_pop (hK : GK Z X y cc nL ret R) (pc : Nat) {v : Value} (hd : decode cc pc = .ok (.pop, 1)) (hc : v.category = 1) (g : GO Z X ws k n (pc + 1) lo st) : GO Z X ws k n pc lo (v :: st) :=
  fun H locs ls hP hD hS hl => lv_pop hK.1 hK.2.1 hd hc (g H locs ls hP hD hS hl)
theorem go_dup_x1 (hK : GK Z X y cc nL ret R) (pc : Nat) {v w : Value} (hd : decode cc pc = .ok (.dup_x1, 1)) (hc : v.category = 1) (hw : w.category = 1) (g : GO Z X ws k n (pc + 1) lo (v :: w :: v :: st)) : GO Z X ws k n pc lo (v :: w :: st) :=
  fun H locs ls hP hD hS hl => lv_dup_x1 hK.1 hK.2.1 hd hc hw (g H locs ls hP hD hS hl)
theorem go_dup2 (hK : GK Z X y cc nL ret R) (pc : Nat) {v w : Value} (hd : decode cc pc = .ok (.dup2, 1)) (hc : v.category = 1) (hw : w.category = 1) (g : GO Z X ws k n (pc + 1) lo (v :: w :: v :: w :: st)) : GO Z X ws k n pc lo (v :: w :: st) :=
  fun H locs ls hP hD hS hl => lv_dup2_11 hK.1 hK.2.1 hd hc hw (g H locs ls hP hD hS hl)
theorem go_goto (hK : GK Z X y cc nL ret R) (pc : Nat) {off : Int} {tgt : Nat} (hd : decode cc pc = .ok (.goto off, 3)) (ht : (pc : Int) + off = (tgt : Int)) (g : GO Z X ws k n tgt lo st) : GO Z X ws k n pc lo st :=
  fun H locs ls hP hD hS hl => lv_goto hK.1 hK.2.1 hd ht (g H locs ls hP hD hS hl)
theorem go_icmp_eq (hK : GK Z X y cc nL ret R) (pc : Nat) {off : Int} {tgt : Nat} {a b : Int} (hd : decode cc pc = .ok (.if_icmp .eq off, 3)) (ht : (pc : Int) + off = (tgt : Int)) (ha : iR a) (hb : iR b) (kt : a = b → GO Z X ws k n tgt lo st) (kf : a ≠ b → GO Z X ws k n (pc + 3) lo st) : GO Z X ws k n pc lo (.int (iI b) :: .int (iI a) :: st) :=
  fun H locs ls hP hD hS hl => lv_icmp_eq hK.1 hK.2.1 hd ht (fun h => kt ((iI_eq ha hb).mp h) H locs ls hP hD hS hl) (fun h => kf ((fun h => h) (fun q => h ((iI_eq ha hb).mpr q))) H locs ls hP hD hS hl)
theorem go_icmp_ne (hK : GK Z X y cc nL ret R) (pc : Nat) {off : Int} {tgt : Nat} {a b : Int} (hd : decode cc pc = .ok (.if_icmp .ne off, 3)) (ht : (pc : Int) + off = (tgt : Int)) (ha : iR a) (hb : iR b) (kt : a ≠ b → GO Z X ws k n tgt lo st) (kf : a = b → GO Z X ws k n (pc + 3) lo st) : GO Z X ws k n pc lo (.int (iI b) :: .int (iI a) :: st) :=
  fun H locs ls hP hD hS hl => lv_icmp_ne hK.1 hK.2.1 hd ht (fun h => kt ((not_congr (iI_eq ha hb)).mp h) H locs ls hP hD hS hl) (fun h => kf ((iI_eq ha hb).mp h) H locs ls hP hD hS hl)
theorem go_icmp_lt (hK : GK Z X y cc nL ret R) (pc : Nat) {off : Int} {tgt : Nat} {a b : Int} (hd : decode cc pc = .ok (.if_icmp .lt off, 3)) (ht : (pc : Int) + off = (tgt : Int)) (ha : iR a) (hb : iR b) (kt : a < b → GO Z X ws k n tgt lo st) (kf : b ≤ a → GO Z X ws k n (pc + 3) lo st) : GO Z X ws k n pc lo (.int (iI b) :: .int (iI a) :: st) :=
  fun H locs ls hP hD hS hl => lv_icmp_lt hK.1 hK.2.1 hd ht (fun h => kt ((iI_lt ha hb).mp h) H locs ls hP hD hS hl) (fun h => kf ((fun h => Int.not_lt.mp h) (fun q => h ((iI_lt ha hb).mpr q))) H locs ls hP hD hS hl)
theorem go_icmp_ge (hK : GK Z X y cc nL ret R) (pc : Nat) {off : Int} {tgt : Nat} {a b : Int} (hd : decode cc pc = .ok (.if_icmp .ge off, 3)) (ht : (pc : Int) + off = (tgt : Int)) (ha : iR a) (hb : iR b) (kt : b ≤ a → GO Z X ws k n tgt lo st) (kf : a < b → GO Z X ws k n (pc + 3) lo st) : GO Z X ws k n pc lo (.int (iI b) :: .int (iI a) :: st) :=
  fun H locs ls hP hD hS hl => lv_icmp_ge hK.1 hK.2.1 hd ht (fun h => kt ((iI_le hb ha).mp h) H locs ls hP hD hS hl) (fun h => kf ((fun h => Int.not_le.mp h) (fun q => h ((iI_le hb ha).mpr q))) H locs ls hP hD hS hl)
theorem go_icmp_gt (hK : GK Z X y cc nL ret R) (pc : Nat) {off : Int} {tgt : Nat} {a b : Int} (hd : decode cc pc = .ok (.if_icmp .gt off, 3)) (ht : (pc : Int) + off = (tgt : Int)) (ha : iR a) (hb : iR b) (kt : b < a → GO Z X ws k n tgt lo st) (kf : a ≤ b → GO Z X ws k n (pc + 3) lo st) : GO Z X ws k n pc lo (.int (iI b) :: .int (iI a) :: st) :=
  fun H locs ls hP hD hS hl => lv_icmp_gt hK.1 hK.2.1 hd ht (fun h => kt ((iI_lt hb ha).mp h) H locs ls hP hD hS hl) (fun h => kf ((fun h => Int.not_lt.mp h) (fun q => h ((iI_lt hb ha).mpr q))) H locs ls hP hD hS hl)
theorem go_icmp_le (hK : GK Z X y cc nL ret R) (pc : Nat) {off : Int} {tgt : Nat} {a b : Int} (hd : decode cc pc = .ok (.if_icmp .le off, 3)) (ht : (pc : Int) + off = (tgt : Int)) (ha : iR a) (hb : iR b) (kt : a ≤ b → GO Z X ws k n tgt lo st) (kf : b < a → GO Z X ws k n (pc + 3) lo st) : GO Z X ws k n pc lo (.int (iI b) :: .int (iI a) :: st) :=
  fun H locs ls hP hD hS hl => lv_icmp_le hK.1 hK.2.1 hd ht (fun h => kt ((iI_le ha hb).mp h) H locs ls hP hD hS hl) (fun h => kf ((fun h => Int.not_le.mp h) (fun q => h ((iI_le ha hb).mpr q))) H locs ls hP hD hS hl)
theorem go_if_eq (hK : GK Z X y cc nL ret R) (pc : Nat) {off : Int} {tgt : Nat} {a : Int} (hd : decode cc pc = .ok (.ifCond .eq off, 3)) (ht : (pc : Int) + off = (tgt : Int)) (ha : iR a) (kt : a = 0 → GO Z X ws k n tgt lo st) (kf : a ≠ 0 → GO Z X ws k n (pc + 3) lo st) : GO Z X ws k n pc lo (.int (iI a) :: st) :=
  fun H locs ls hP hD hS hl => have i0 : iR 0 := by decide
    lv_if_eq hK.1 hK.2.1 hd ht (fun h => kt ((iI_eq ha i0).mp h) H locs ls hP hD hS hl) (fun h => kf ((fun h => h) (fun q => h ((iI_eq ha i0).mpr q))) H locs ls hP hD hS hl)
theorem go_if_ne (hK : GK Z X y cc nL ret R) (pc : Nat) {off : Int} {tgt : Nat} {a : Int} (hd : decode cc pc = .ok (.ifCond .ne off, 3)) (ht : (pc : Int) + off = (tgt : Int)) (ha : iR a) (kt : a ≠ 0 → GO Z X ws k n tgt lo st) (kf : a = 0 → GO Z X ws k n (pc + 3) lo st) : GO Z X ws k n pc lo (.int (iI a) :: st) :=
  fun H locs ls hP hD hS hl => have i0 : iR 0 := by decide
    lv_if_ne hK.1 hK.2.1 hd ht (fun h => kt ((not_congr (iI_eq ha i0)).mp h) H locs ls hP hD hS hl) (fun h => kf ((iI_eq ha i0).mp h) H locs ls hP hD hS hl)
theorem go_if_lt (hK : GK Z X y cc nL ret R) (pc : Nat) {off : Int} {tgt : Nat} {a : Int} (hd : decode cc pc = .ok (.ifCond .lt off, 3)) (ht : (pc : Int) + off = (tgt : Int)) (ha : iR a) (kt : a < 0 → GO Z X ws k n tgt lo st) (kf : 0 ≤ a → GO Z X ws k n (pc + 3) lo st) : GO Z X ws k n pc lo (.int (iI a) :: st) :=
  fun H locs ls hP hD hS hl => have i0 : iR 0 := by decide
    lv_if_lt hK.1 hK.2.1 hd ht (fun h => kt ((iI_lt ha i0).mp h) H locs ls hP hD hS hl) (fun h => kf ((fun h => Int.not_lt.mp h) (fun q => h ((iI_lt ha i0).mpr q))) H locs ls hP hD hS hl)
theorem go_if_ge (hK : GK Z X y cc nL ret R) (pc : Nat) {off : Int} {tgt : Nat} {a : Int} (hd : decode cc pc = .ok (.ifCond .ge off, 3)) (ht : (pc : Int) + off = (tgt : Int)) (ha : iR a) (kt : 0 ≤ a → GO Z X ws k n tgt lo st) (kf : a < 0 → GO Z X ws k n (pc + 3) lo st) : GO Z X ws k n pc lo (.int (iI a) :: st) :=
  fun H locs ls hP hD hS hl => have i0 : iR 0 := by decide
    lv_if_ge hK.1 hK.2.1 hd ht (fun h => kt ((iI_le i0 ha).mp h) H locs ls hP hD hS hl) (fun h => kf ((fun h => Int.not_le.mp h) (fun q => h ((iI_le i0 ha).mpr q))) H locs ls hP hD hS hl)
theorem go_if_gt (hK : GK Z X y cc nL ret R) (pc : Nat) {off : Int} {tgt : Nat} {a : Int} (hd : decode cc pc = .ok (.ifCond .gt off, 3)) (ht : (pc : Int) + off = (tgt : Int)) (ha : iR a) (kt : 0 < a → GO Z X ws k n tgt lo st) (kf : a ≤ 0 → GO Z X ws k n (pc + 3) lo st) : GO Z X ws k n pc lo (.int (iI a) :: st) :=
  fun H locs ls hP hD hS hl => have i0 : iR 0 := by decide
    lv_if_gt hK.1 hK.2.1 hd ht (fun h => kt ((iI_lt i0 ha).mp h) H locs ls hP hD hS hl) (fun h => kf ((fun h => Int.not_lt.mp h) (fun q => h ((iI_lt i0 ha).mpr q))) H locs ls hP hD hS hl)
theorem go_if_le (hK : GK Z X y cc nL ret R) (pc : Nat) {off : Int} {tgt : Nat} {a : Int} (hd : decode cc pc = .ok (.ifCond .le off, 3)) (ht : (pc : Int) + off = (tgt : Int)) (ha : iR a) (kt : a ≤ 0 → GO Z X ws k n tgt lo st) (kf : 0 < a → GO Z X ws k n (pc + 3) lo st) : GO Z X ws k n pc lo (.int (iI a) :: st) :=
  fun H locs ls hP hD hS hl => have i0 : iR 0 := by decide
    lv_if_le hK.1 hK.2.1 hd ht (fun h => kt ((iI_le ha i0).mp h) H locs ls hP hD hS hl) (fun h => kf ((fun h => Int.not_le.mp h) (fun q => h ((iI_le ha i0).mpr q))) H locs ls hP hD hS hl)
/-- a field's link, from the class of y, for the class number ci and its field number j -/
def FL (own : String) (idx ci j : Nat) : Prop := ∃ (C : String) (T : u_T) (N : Nat), vwCl[ci]? = some (C, T, N) ∧ j < N ∧ (∀ w ∈ u_ws C T N, w ∈ lw_all) ∧ Cond.fieldLink own idx (T j).1 (T j).2.1 (T j).2.2.1 ∈ lw_all
def FLN (own : String) (idx ci j : Nat) : Prop := ∃ (C : String) (T : u_T) (N : Nat) (host : String), vwCl[ci]? = some (C, T, N) ∧ j < N ∧ (∀ w ∈ u_ws C T N, w ∈ lw_all) ∧ Cond.fieldLinkNest own idx (T j).1 (T j).2.1 (T j).2.2.1 host ∈ gNF
/-- what a write asks beside -/
def FW (ci j : Nat) (ty : FieldType) : Prop := ∃ (C : String) (T : u_T) (N : Nat) (ty0 : Nat → FieldType), vwCl[ci]? = some (C, T, N) ∧ (∀ k, k < N → parseFieldDescriptor (T k).2.2.1 = some (ty0 k)) ∧ (∀ a, a < N → ∀ b, b < N → a ≠ b → (T a).2.1 ≠ (T b).2.1) ∧ (T j).2.2.2 = false ∧ parseFieldDescriptor (T j).2.2.1 = some ty
def FWF (own : String) (ci j : Nat) (ty : FieldType) : Prop := ∃ (C : String) (T : u_T) (N : Nat) (ty0 : Nat → FieldType), vwCl[ci]? = some (C, T, N) ∧ (∀ k, k < N → parseFieldDescriptor (T k).2.2.1 = some (ty0 k)) ∧ (∀ a, a < N → ∀ b, b < N → a ≠ b → (T a).2.1 ≠ (T b).2.1) ∧ (T j).2.2.2 = true ∧ (T j).1 = own ∧ parseFieldDescriptor (T j).2.2.1 = some ty
theorem go_get (hK : GK Z X y cc nL ret R) (pc : Nat) {idx ci j a : Nat} {fs : List Value} {v : Value} (hf : FL y.cls idx ci j) (hd : decode cc pc = .ok (.getfield idx, 3)) (q0 : Nat) (he : ws[q0]? = some (a, .inr (ci, fs))) (hv : fs[j]? = some v) (g : GO Z X ws k n (pc + 3) lo (v :: st)) : GO Z X ws k n pc lo (.ref a :: st) := by
  obtain ⟨C, T, N, hc, hj, hin, hl⟩ := hf
  exact fun H locs ls hP hD hS h => va_get hK.1 hK.2.1 hK.2.2.2.2.1 hin hK.2.2.2.1 hK.2.2.2.2.2.1 hP q0 he hc j hj (hK.2.2.2.2.1 _ hl) (fun _ h9 => h9) hv hd (g H locs ls hP hD hS h)
theorem go_getN (hK : GK Z X y cc nL ret R) (pc : Nat) {idx ci j a : Nat} {fs : List Value} {v : Value} (hf : FLN y.cls idx ci j) (hd : decode cc pc = .ok (.getfield idx, 3)) (q0 : Nat) (he : ws[q0]? = some (a, .inr (ci, fs))) (hv : fs[j]? = some v) (g : GO Z X ws k n (pc + 3) lo (v :: st)) : GO Z X ws k n pc lo (.ref a :: st) := by
  obtain ⟨C, T, N, host, hc, hj, hin, hl⟩ := hf
  exact fun H locs ls hP hD hS h => va_getN (host := host) hK.1 hK.2.1 hK.2.2.2.2.1 hin hK.2.2.2.1 hK.2.2.2.2.2.1 hP q0 he hc j hj (va_Nw.use rfl (hK.2.2.2.2.2.2.2.2.2.1.1 _ hl)) (fun _ h9 => h9) hv hd (g H locs ls hP hD hS h)
theorem go_put (hK : GK Z X y cc nL ret R) (pc : Nat) {idx ci j a : Nat} {fs : List Value} {v : Value} {ty : FieldType} {w' : va_W} (hf : FL y.cls idx ci j) (hw : FW ci j ty) (hd : decode cc pc = .ok (.putfield idx, 3)) (q0 : Nat) (he : ws[q0]? = some (a, .inr (ci, fs))) (hn : narrow ty v = v) (hfit : fits ty v = true) (hlen : j < fs.length) (hw' : ws.set q0 (a, .inr (ci, fs.set j v)) = w') (g : GO Z X w' k n (pc + 3) lo st) : GO Z X ws k n pc lo (v :: .ref a :: st) := by
  obtain ⟨C, T, N, hc, hj, hin, hl⟩ := hf
  obtain ⟨C2, T2, N2, ty0, hc2, h1, h2, h3, h4⟩ := hw
  cases hc.symm.trans hc2
  subst hw'
  exact fun H locs ls hP hD hS h => va_put hK.1 hK.2.1 hK.2.2.2.2.1 hin ty0 h1 h2 hK.2.2.2.1 hK.2.2.2.2.2.1 hP hD hS q0 he hc j hj (hK.2.2.2.2.1 _ hl) (fun _ h9 => h9) h3 h4 hn hfit hlen hd (fun H locs hP hD hS => g H locs ls hP hD hS h)
theorem go_putN (hK : GK Z X y cc nL ret R) (pc : Nat) {idx ci j a : Nat} {fs : List Value} {v : Value} {ty : FieldType} {w' : va_W} (hf : FLN y.cls idx ci j) (hw : FW ci j ty) (hd : decode cc pc = .ok (.putfield idx, 3)) (q0 : Nat) (he : ws[q0]? = some (a, .inr (ci, fs))) (hn : narrow ty v = v) (hfit : fits ty v = true) (hlen : j < fs.length) (hw' : ws.set q0 (a, .inr (ci, fs.set j v)) = w') (g : GO Z X w' k n (pc + 3) lo st) : GO Z X ws k n pc lo (v :: .ref a :: st) := by
  obtain ⟨C, T, N, host, hc, hj, hin, hl⟩ := hf
  obtain ⟨C2, T2, N2, ty0, hc2, h1, h2, h3, h4⟩ := hw
  cases hc.symm.trans hc2
  subst hw'
  exact fun H locs ls hP hD hS h => va_putN (host := host) hK.1 hK.2.1 hK.2.2.2.2.1 hin ty0 h1 h2 hK.2.2.2.1 hK.2.2.2.2.2.1 hP hD hS q0 he hc j hj (va_Nw.use rfl (hK.2.2.2.2.2.2.2.2.2.1.1 _ hl)) (fun _ h9 => h9) h3 h4 hn hfit hlen hd (fun H locs hP hD hS => g H locs ls hP hD hS h)
theorem go_putF (hK : GK Z X y cc nL ret R) (pc : Nat) {idx ci j a : Nat} {fs : List Value} {v : Value} {ty : FieldType} {w' : va_W} (hy : y.name = "<init>") (hf : FL y.cls idx ci j) (hw : FWF y.cls ci j ty) (hd : decode cc pc = .ok (.putfield idx, 3)) (q0 : Nat) (he : ws[q0]? = some (a, .inr (ci, fs))) (hn : narrow ty v = v) (hfit : fits ty v = true) (hlen : j < fs.length) (hw' : ws.set q0 (a, .inr (ci, fs.set j v)) = w') (g : GO Z X w' k n (pc + 3) lo st) : GO Z X ws k n pc lo (v :: .ref a :: st) := by
  obtain ⟨C, T, N, hc, hj, hin, hl⟩ := hf
  obtain ⟨C2, T2, N2, ty0, hc2, h1, h2, h3, h4, h5⟩ := hw
  cases hc.symm.trans hc2
  subst hw'
  exact fun H locs ls hP hD hS h => va_putF hK.1 hK.2.1 hK.2.2.2.2.1 hin ty0 h1 h2 hK.2.2.2.1 hK.2.2.2.2.2.1 hP hD hS q0 he hc j hj (hK.2.2.2.2.1 _ hl) (fun _ h9 => h9) h3 (hK.2.2.2.2.2.2.2.2.2.2.2.1.trans hy) h4 h5 hn hfit hlen hd (fun H locs hP hD hS => g H locs ls hP hD hS h)
theorem go_iald (hK : GK Z X y cc nL ret R) (pc : Nat) {a N : Nat} {f : Nat → Int} {i : Int} (hd : decode cc pc = .ok (.iaload, 1)) (q0 : Nat) (he : ws[q0]? = some (a, .inl (zC Z 0, iA N f))) (hi : 0 ≤ i ∧ i < N) (hN : N ≤ 2147483648) (g : GO Z X ws k n (pc + 1) lo (.int (iI (f i.toNat)) :: st)) : GO Z X ws k n pc lo (.int (iI i) :: .ref a :: st) :=
  fun H locs ls hP hD hS h => va_iald hK.1 hK.2.1 hK.2.2.2.2.2.1 hP q0 0 he rfl (iI_in hi hN) hd (by rw [iI_cl ⟨hi.1, by omega⟩]; exact g H locs ls hP hD hS h)
theorem go_bald (hK : GK Z X y cc nL ret R) (pc : Nat) {a N : Nat} {f : Nat → Int} {i : Int} (hd : decode cc pc = .ok (.baload, 1)) (q0 : Nat) (he : ws[q0]? = some (a, .inl (zC Z 1, bA N f))) (hi : 0 ≤ i ∧ i < N) (hN : N ≤ 2147483648) (g : GO Z X ws k n (pc + 1) lo (.int (iI (sB (f i.toNat))) :: st)) : GO Z X ws k n pc lo (.int (iI i) :: .ref a :: st) :=
  fun H locs ls hP hD hS h => va_bald hK.1 hK.2.1 hK.2.2.2.2.2.1 hP q0 1 he rfl (iI_in hi hN) hd (by rw [iI_cl ⟨hi.1, by omega⟩]; exact g H locs ls hP hD hS h)
theorem go_iast (hK : GK Z X y cc nL ret R) (pc : Nat) {a N : Nat} {f : Nat → Int} {i x : Int} {w' : va_W} (hd : decode cc pc = .ok (.iastore, 1)) (q0 : Nat) (he : ws[q0]? = some (a, .inl (zC Z 0, iA N f))) (hi : 0 ≤ i ∧ i < N) (hN : N ≤ 2147483648) (hw' : ws.set q0 (a, .inl (zC Z 0, iA N (va_up f i.toNat x))) = w') (g : GO Z X w' k n (pc + 1) lo st) : GO Z X ws k n pc lo (.int (iI x) :: .int (iI i) :: .ref a :: st) := by
  subst hw'
  refine fun H locs ls hP hD hS h => va_iast hK.1 hK.2.1 hK.2.2.2.2.2.1 hP hD hS q0 0 he rfl (iI_in hi hN) hd ?_
  rw [iI_cl ⟨hi.1, by omega⟩, iA_up]
  exact fun H locs hP hD hS => g H locs ls hP hD hS h
theorem go_bast (hK : GK Z X y cc nL ret R) (pc : Nat) {a N : Nat} {f : Nat → Int} {i x : Int} {w' : va_W} (hd : decode cc pc = .ok (.bastore, 1)) (q0 : Nat) (he : ws[q0]? = some (a, .inl (zC Z 1, bA N f))) (hi : 0 ≤ i ∧ i < N) (hN : N ≤ 2147483648) (hw' : ws.set q0 (a, .inl (zC Z 1, bA N (va_up f i.toNat x))) = w') (g : GO Z X w' k n (pc + 1) lo st) : GO Z X ws k n pc lo (.int (iI (sB x)) :: .int (iI i) :: .ref a :: st) := by
  subst hw'
  refine fun H locs ls hP hD hS h => va_bast hK.1 hK.2.1 hK.2.2.2.2.2.1 hP hD hS q0 1 he rfl (iI_in hi hN) hd ?_
  rw [iI_cl ⟨hi.1, by omega⟩, iI_vb, bA_up]
  exact fun H locs hP hD hS => g H locs ls hP hD hS h
theorem go_alen (hK : GK Z X y cc nL ret R) (pc : Nat) {a : Nat} {cA : ClassId} {x : vp_A} {ty : FieldType} (hd : decode cc pc = .ok (.arraylength, 1)) (q0 t0 : Nat) (he : ws[q0]? = some (a, .inl (cA, x))) (ht : (zt Z)[t0]? = some (cA, ty)) (g : GO Z X ws k n (pc + 1) lo (.int (iI (x.1 : Int)) :: st)) : GO Z X ws k n pc lo (.ref a :: st) :=
  fun H locs ls hP hD hS h => va_alen hK.1 hK.2.1 hK.2.2.2.2.2.1 hP q0 t0 he ht (v := iI (x.1 : Int)) (iI_nI x.1) hd (g H locs ls hP hD hS h)
/-- ends -/
theorem go_iret {w0 : va_W} {post : Option Value → va_W → Prop} {px : Nat → va_W → Prop} (hK : GK Z X y cc nL (some .int) R) (hR : GQ Z X w0 post px R) (pc : Nat) {v : Int32} (nw : List Nat) (hd : decode cc pc = .ok (.ireturn, 1)) (h1 : k ≤ R.cells) (h2 : n ≤ R.slots) (hx : ws.map Prod.fst = w0.map Prod.fst ++ nw) (hp : post (some (.int v)) ws) : GO Z X ws k n pc lo [.int v] := by
  intro H locs ls hP hD hS hl
  rw [show xQ X = _ from hR]
  refine vx_ret (W.widen h1 h2 ?_)
  exact W.iret hK.1 hK.2.1 hK.2.2.2.2.2.2.2.2.1 (fun t ht hW => ⟨⟨_, ws, nw, rfl, hp, hx, by rw [ht]; exact hP, hD⟩, hS.F ht⟩) hS.2.2 hd hK.2.2.2.2.2.2.2.1
theorem go_zret {w0 : va_W} {post : Option Value → va_W → Prop} {px : Nat → va_W → Prop} {ty : FieldType} (hK : GK Z X y cc nL (some ty) R) (hR : GQ Z X w0 post px R) (pc : Nat) {v : Int32} (nw : List Nat) (hd : decode cc pc = .ok (.ireturn, 1)) (h1 : k ≤ R.cells) (h2 : n ≤ R.slots) (hn : narrow ty (.int v) = .int v) (hx : ws.map Prod.fst = w0.map Prod.fst ++ nw) (hp : post (some (.int v)) ws) : GO Z X ws k n pc lo [.int v] := by
  intro H locs ls hP hD hS hl
  rw [show xQ X = _ from hR]
  refine vx_ret (W.widen h1 h2 ?_)
  exact W.zret hK.1 hK.2.1 hK.2.2.2.2.2.2.2.2.1 hn (fun t ht hW => ⟨⟨_, ws, nw, rfl, hp, hx, by rw [ht]; exact hP, hD⟩, hS.F ht⟩) hS.2.2 hd hK.2.2.2.2.2.2.2.1
theorem go_vret {w0 : va_W} {post : Option Value → va_W → Prop} {px : Nat → va_W → Prop} (hK : GK Z X y cc nL none R) (hR : GQ Z X w0 post px R) (pc : Nat) (nw : List Nat) (hd : decode cc pc = .ok (.return_, 1)) (h1 : k ≤ R.cells) (h2 : n ≤ R.slots) (hx : ws.map Prod.fst = w0.map Prod.fst ++ nw) (hp : post none ws) : GO Z X ws k n pc lo [] := by
  intro H locs ls hP hD hS hl
  rw [show xQ X = _ from hR]
  refine vx_ret (W.widen h1 h2 ?_)
  exact W.vret hK.1 hK.2.1 hK.2.2.2.2.2.2.2.2.1 (fun t ht hW => ⟨⟨_, ws, nw, rfl, hp, hx, by rw [ht]; exact hP, hD⟩, hS.F ht⟩) hS.2.2 hd hK.2.2.2.2.2.2.2.1
/-- calls -/
theorem gPc_call {av : List Value} {w0 : va_W} {H : Heap} {locs : List Loc} {isC : List Nat} (hK : GK Z X y cc nL ret R) (hP : va_P (zD Z) vwCl ws H) (hD : va_D (xA X) ws) (hS : va_S (xA X) (xs X).heap H locs) (hsel : isC.map (fun i => ws[i]?) = w0.map some) (hnd : va_nd isC = true) :
    ∀ U : State, U.heap = H → (xs X).WarmedH U.vm → gPc Z av w0 H.size av.toArray U := by
  intro U hU hW
  have hF := va_free hD hS hK.2.2.2.2.2.2.1 isC hsel
  refine ⟨rfl, by rw [hU], fun k q hk => ?_, hK.2.2.2.2.2.1.moved hW.alike, (hD.sub isC hnd hsel).weaken (fun _ _ _ _ => trivial), hK.2.2.2.2.2.2.2.2.2.1.moved hW hS hU hF⟩
  have h1 : (isC.map (fun i => ws[i]?))[k]? = some (some q) := by rw [hsel, List.getElem?_map, hk]; rfl
  rw [List.getElem?_map] at h1
  cases hi : isC[k]? with
  | none => rw [hi] at h1; cases h1
  | some i =>
    rw [hi] at h1
    rw [hU]
    exact hP i q (Option.some.inj h1)
theorem go_run {w00 : va_W} {post0 : Option Value → va_W → Prop} {px0 : Nat → va_W → Prop} (hK : GK Z X y cc nL ret R) (hR : GR Z X w00 post0 px0 R) {w0 : va_W} {post : Option Value → va_W → Prop} {px : Nat → va_W → Prop} {mc ms : Nat} {a : Array Value} {f : va_W → va_W} (hs : gSel ws w0 f)
    (hr : ∀ (H : Heap) (locs : List Loc) (ls : Array Slot), va_P (zD Z) vwCl ws H → va_D (xA X) ws → va_S (xA X) (xs X).heap H locs → lv_has ls (xc X).maxLocals lo → vx_Run (xp X) (zL Z) (xe X) (xR X) (xs X) (xm X) (xa X) (xb X) (xk X) (xc X) H locs k n mc ms (F0 (xm X) pc ls st) rest (gQc Z w0 post (va_A w0 H.size) a) (gXC Z w0 px (va_A w0 H.size)) (va_A w0 H.size))
    (hcl : k + mc ≤ R.cells ∧ n + ms ≤ R.slots)
    (kx : ∀ (q : Nat) (w1 : va_W) (nw : List Nat), px q w1 → w1.map Prod.fst = w0.map Prod.fst ++ nw → (∃ nw', (f w1).map Prod.fst = w00.map Prod.fst ++ nw') ∧ px0 q (f w1))
    (kk : ∀ (v : Option Value) (w1 : va_W), post v w1 → GO Z X (f w1) (k + mc) (n + ms) (pc + 3) lo (v.toList ++ rest)) : GO Z X ws k n pc lo st := by
  obtain ⟨isC, hsel, hnd, hf9⟩ := hs
  intro H locs ls hP hD hS hl T hT X'
  have hFr := va_free hD hS hK.2.2.2.2.2.2.1 isC hsel
  rcases hr H locs ls hP hD hS hl T hT X' with ⟨v, st₀, t, T', L, h0, X2, hL, e1, e2, ⟨⟨v', w1, nw, hv, hp, hnw, hP1, hD1⟩, hF⟩, go⟩ | ⟨q, st₀, t, T', L, E, ce, h0, X2, hL, e1, e2, ⟨⟨hE, w1, nw, hp, hnw, hP1, hD1⟩, hF⟩, hce, hcv, hcl9, go⟩
  · cases hv
    obtain ⟨k1, k2, k3⟩ := vx_keep h0 e1 hS (fun q _ h => hFr q h) hFr hL hF
    rw [← e1] at hP1
    obtain ⟨hP2, hD2⟩ := va_rep_ok hP hD hsel hnd hnw k2 hFr hP1 hD1
    rw [hf9 w1 nw hnw] at hP2 hD2
    obtain ⟨t2, a1, b1⟩ := kk v w1 hp T'.heap (locs ++ L) ls hP2 hD2 k3 hl T' rfl X2
    exact ⟨t2, go t2 a1, b1⟩
  · obtain ⟨k1, k2, k3⟩ := vx_keep h0 e1 hS (fun q _ h => hFr q h) hFr hL hF
    rw [← e1] at hP1
    obtain ⟨hP2, hD2⟩ := va_rep_ok hP hD hsel hnd hnw k2 hFr hP1 hD1
    rw [hf9 w1 nw hnw] at hP2 hD2
    obtain ⟨⟨nw', hx⟩, hpx⟩ := kx q w1 nw hp hnw
    have ho : vx_W (xp X) (zL Z) (xe X) (xR X) (xs X) (xm X) (xa X) (xb X) (xk X) (xc X) T'.heap (locs ++ L) (k + mc) (n + ms) (xQ X) (F0 (xm X) pc ls rest) q := by
      rw [show xQ X = _ from hR.1]
      exact vx_out (E := E) (ce := ce) (fun x hx => (hR.2 x hx).elim) hK.2.2.2.2.2.2.2.1 (by rw [e1]; exact hce) hcv hcl9 (fun t9 ht9 hA9 => ⟨⟨hE, _, nw', hpx, hx, by rw [ht9]; exact hP2, hD2⟩, k3.F ht9⟩) k3.2.2 hcl.1 hcl.2
    obtain ⟨t2, a1, b1⟩ := ho T' rfl X2
    exact ⟨t2, go.trans a1, b1⟩
/-- what is asked of the callee's name and room -/
def gFit (rm R : Room) (L : Nat) : Bool := Nat.ble (rm.frames + 1) R.frames && Nat.ble (8 + (L + 11) + rm.locals) R.locals
theorem gFit_ok {rm R : Room} {L : Nat} (h : gFit rm R L = true) : rm.frames + 1 ≤ R.frames ∧ 8 + (L + 11) + rm.locals ≤ R.locals := by
  unfold gFit at h
  rw [Bool.and_eq_true] at h
  exact ⟨Nat.le_of_ble_eq_true h.1, Nat.le_of_ble_eq_true h.2⟩
def gNamed (y : MethodName) (n : Nat) : Prop := y.cls ≠ "java/lang/invoke/MethodHandle" ∧ y.cls ≠ "java/lang/invoke/VarHandle" ∧ (parseMethodDescriptor y.desc).map (fun d => d.parameters.length) = some n
def gRecv (w0 : va_W) (a : Nat) (C : String) : Prop := ∃ (q0 ci : Nat) (fs : List Value) (T : u_T) (N : Nat), w0[q0]? = some (a, .inr (ci, fs)) ∧ vwCl[ci]? = some (C, T, N)
theorem gRecv_ok {w0 : va_W} {a : Nat} {C : String} {H : Heap} {isC : List Nat} (h : gRecv w0 a C) (hK : GK Z X y cc nL ret R) (hP : va_P (zD Z) vwCl ws H) (hsel : isC.map (fun i => ws[i]?) = w0.map some) : ∃ cell : Cell, H[a]? = some cell ∧ cell.vm.isStatics = false ∧ (xs X).vm.findClass C = some cell.cls := by
  obtain ⟨q0, ci, fs, T, N, h1, h2⟩ := h
  have e1 : (isC.map (fun i => ws[i]?))[q0]? = some (some (a, .inr (ci, fs))) := by rw [hsel, List.getElem?_map, h1]; rfl
  rw [List.getElem?_map] at e1
  cases hi : isC[q0]? with
  | none => rw [hi] at e1; cases e1
  | some i =>
    rw [hi] at e1
    exact va_recv (q := (C, T, N)) hK.2.2.2.2.2.1 hP h2 (Option.some.inj e1)
theorem go_callV {w00 : va_W} {post0 : Option Value → va_W → Prop} {px0 : Nat → va_W → Prop} (hK : GK Z X y cc nL ret R) (hR : GR Z X w00 post0 px0 R) (pc : Nat) {x : MethodName} {b : ByteArray} {L idx a : Nat} {r : Option FieldType} {rm : Room} {As : List Value} {w0 : va_W} {post : Option Value → va_W → Prop} {px : Nat → va_W → Prop}
    (hC : CT Z x b L r rm (.ref a :: As) w0 post px) (hT : GoodIn lw_all (wsV y.cls idx x.cls x (ws_ x b L r))) (hx : gNamed x As.length) (hf : gFit rm R L = true) (hd : decode cc pc = .ok (.invokevirtual idx, 3)) {f : va_W → va_W} (hs : gSel ws w0 f) (hrv : gRecv w0 a x.cls)
    (hst : st = As.reverse ++ .ref a :: rest) (hsm : (rest.map fun v => v.category).sum ≤ 8) (hcl : k + rm.cells ≤ R.cells ∧ n + rm.slots ≤ R.slots)
    (kx : ∀ (q : Nat) (w1 : va_W) (nw : List Nat), px q w1 → w1.map Prod.fst = w0.map Prod.fst ++ nw → (∃ nw', (f w1).map Prod.fst = w00.map Prod.fst ++ nw') ∧ px0 q (f w1))
    (kk : ∀ (v : Option Value) (w1 : va_W), post v w1 → GO Z X (f w1) (k + rm.cells) (n + rm.slots) (pc + 3) lo (v.toList ++ rest)) : GO Z X ws k n pc lo st := by
  refine go_run hK hR (mc := rm.cells) (ms := rm.slots) (a := (Value.ref a :: As).toArray) hs (fun H locs ls hP hD hS hl => ?_) hcl kx kk
  obtain ⟨isC, hsel, hnd, -⟩ := hs
  have hf' := gFit_ok hf
  rw [← hK.2.2.2.2.2.2.2.2.2.2.1] at hf' hcl
  exact vx_runV (As := As) (rest := rest) ⟨hK.1, hK.2.1, hK.2.2.1, hK.2.2.2.1, hK.2.2.2.2.1⟩ (hC H.size) (cwV As.length hK.2.2.2.2.1 hT rfl rfl rfl ⟨rfl, hx⟩ hf') ⟨gPc_blind, gRecv_ok hrv hK hP hsel, gPc_call hK hP hD hS hsel hnd⟩ rfl rfl (hl.1.trans hK.2.2.1) hst (lv_room hsm) hd hcl
theorem go_callVW {w00 : va_W} {post0 : Option Value → va_W → Prop} {px0 : Nat → va_W → Prop} (hK : GK Z X y cc nL ret R) (hR : GR Z X w00 post0 px0 R) (pc : Nat) {x : MethodName} {b : ByteArray} {L idx a : Nat} {r : Option FieldType} {hh : List (Nat × Nat × Nat × Nat)} {rm : Room} {As : List Value} {w0 : va_W} {post : Option Value → va_W → Prop} {px : Nat → va_W → Prop}
    (hC : CTW Z x b L r hh rm (.ref a :: As) w0 post px) (hT : GoodIn lw_all (wsV y.cls idx x.cls x (wsW_ x b L r hh))) (hx : gNamed x As.length) (hf : gFit rm R L = true) (hd : decode cc pc = .ok (.invokevirtual idx, 3)) {f : va_W → va_W} (hs : gSel ws w0 f) (hrv : gRecv w0 a x.cls)
    (hst : st = As.reverse ++ .ref a :: rest) (hsm : (rest.map fun v => v.category).sum ≤ 8) (hcl : k + rm.cells ≤ R.cells ∧ n + rm.slots ≤ R.slots)
    (kx : ∀ (q : Nat) (w1 : va_W) (nw : List Nat), px q w1 → w1.map Prod.fst = w0.map Prod.fst ++ nw → (∃ nw', (f w1).map Prod.fst = w00.map Prod.fst ++ nw') ∧ px0 q (f w1))
    (kk : ∀ (v : Option Value) (w1 : va_W), post v w1 → GO Z X (f w1) (k + rm.cells) (n + rm.slots) (pc + 3) lo (v.toList ++ rest)) : GO Z X ws k n pc lo st := by
  refine go_run hK hR (mc := rm.cells) (ms := rm.slots) (a := (Value.ref a :: As).toArray) hs (fun H locs ls hP hD hS hl => ?_) hcl kx kk
  obtain ⟨isC, hsel, hnd, -⟩ := hs
  have hf' := gFit_ok hf
  rw [← hK.2.2.2.2.2.2.2.2.2.2.1] at hf' hcl
  exact vx_runVX (As := As) (rest := rest) ⟨hK.1, hK.2.1, hK.2.2.1, hK.2.2.2.1, hK.2.2.2.2.1⟩ (hC H.size) (vx_cwVW As.length hK.2.2.2.2.1 hT rfl rfl rfl ⟨rfl, hx⟩ hf') ⟨gPc_blind, gRecv_ok hrv hK hP hsel, gPc_call hK hP hD hS hsel hnd⟩ rfl rfl (hl.1.trans hK.2.2.1) hst (lv_room hsm) hd hcl
theorem go_callS {w00 : va_W} {post0 : Option Value → va_W → Prop} {px0 : Nat → va_W → Prop} (hK : GK Z X y cc nL ret R) (hR : GR Z X w00 post0 px0 R) (pc : Nat) {x : MethodName} {b : ByteArray} {L idx : Nat} {r : Option FieldType} {rm : Room} {As : List Value} {w0 : va_W} {post : Option Value → va_W → Prop} {px : Nat → va_W → Prop}
    (hC : CT Z x b L r rm As w0 post px) (hT : GoodIn lw_all (va_wsS y.cls idx x (ws_ x b L r))) (hx : gNamed x As.length) (hf : gFit rm R L = true) (hd : decode cc pc = .ok (.invokestatic idx, 3)) {f : va_W → va_W} (hs : gSel ws w0 f)
    (hst : st = As.reverse ++ rest) (hsm : (rest.map fun v => v.category).sum ≤ 8) (hcl : k + rm.cells ≤ R.cells ∧ n + rm.slots ≤ R.slots)
    (kx : ∀ (q : Nat) (w1 : va_W) (nw : List Nat), px q w1 → w1.map Prod.fst = w0.map Prod.fst ++ nw → (∃ nw', (f w1).map Prod.fst = w00.map Prod.fst ++ nw') ∧ px0 q (f w1))
    (kk : ∀ (v : Option Value) (w1 : va_W), post v w1 → GO Z X (f w1) (k + rm.cells) (n + rm.slots) (pc + 3) lo (v.toList ++ rest)) : GO Z X ws k n pc lo st := by
  refine go_run hK hR (mc := rm.cells) (ms := rm.slots) (a := As.toArray) hs (fun H locs ls hP hD hS hl => ?_) hcl kx kk
  obtain ⟨isC, hsel, hnd, -⟩ := hs
  have hf' := gFit_ok hf
  rw [← hK.2.2.2.2.2.2.2.2.2.2.1] at hf' hcl
  exact vx_runS (As := As) (rest := rest) ⟨hK.1, hK.2.1, hK.2.2.1, hK.2.2.2.1, hK.2.2.2.2.1⟩ (hC H.size) (va_cwS As.length hK.2.2.2.2.1 hT rfl rfl rfl hx hf') ⟨gPc_blind, gPc_call hK hP hD hS hsel hnd⟩ rfl rfl (hl.1.trans hK.2.2.1) hst (lv_room hsm) hd hcl
theorem go_callI {w00 : va_W} {post0 : Option Value → va_W → Prop} {px0 : Nat → va_W → Prop} (hK : GK Z X y cc nL ret R) (hR : GR Z X w00 post0 px0 R) (pc : Nat) {x : MethodName} {b : ByteArray} {L idx a : Nat} {rm : Room} {As : List Value} {w0 : va_W} {post : Option Value → va_W → Prop} {px : Nat → va_W → Prop}
    (hC : CT Z x b L none rm (.ref a :: As) w0 post px) (hT : Cond.code x b L none ∈ lw_all) (hini : Cond.initialized x.cls ∈ lw_all) (hlk : Cond.methodLink y.cls idx x ∈ lw_all) (hin : Cond.instanceMethod x ∈ lw_all) (hx1 : x.name = "<init>") (hx : gNamed x As.length) (hf : gFit rm R L = true) (hd : decode cc pc = .ok (.invokespecial idx, 3)) {f : va_W → va_W} (hs : gSel ws w0 f)
    (hst : st = As.reverse ++ .ref a :: rest) (hsm : (rest.map fun v => v.category).sum ≤ 8) (hcl : k + rm.cells ≤ R.cells ∧ n + rm.slots ≤ R.slots)
    (kx : ∀ (q : Nat) (w1 : va_W) (nw : List Nat), px q w1 → w1.map Prod.fst = w0.map Prod.fst ++ nw → (∃ nw', (f w1).map Prod.fst = w00.map Prod.fst ++ nw') ∧ px0 q (f w1))
    (kk : ∀ (v : Option Value) (w1 : va_W), post v w1 → GO Z X (f w1) (k + rm.cells) (n + rm.slots) (pc + 3) lo (v.toList ++ rest)) : GO Z X ws k n pc lo st := by
  refine go_run hK hR (mc := rm.cells) (ms := rm.slots) (a := (Value.ref a :: As).toArray) hs (fun H locs ls hP hD hS hl => ?_) hcl kx kk
  obtain ⟨isC, hsel, hnd, -⟩ := hs
  have hf' := gFit_ok hf
  have hts := hK.2.2.2.2.1
  rw [← hK.2.2.2.2.2.2.2.2.2.2.1] at hf' hcl
  exact vx_runI (As := As) (rest := rest) ⟨hK.1, hK.2.1, hK.2.2.1, hK.2.2.2.1, hts⟩ (hC H.size) (cwI As.length hts (lw_meth hT) rfl rfl rfl (hts _ hini) (hts _ hlk) (hts _ hin) hx1 hx hf') ⟨gPc_blind, gPc_call hK hP hD hS hsel hnd⟩ rfl rfl (hl.1.trans hK.2.2.1) hst (lv_room hsm) hd hcl
theorem go_callIN {w00 : va_W} {post0 : Option Value → va_W → Prop} {px0 : Nat → va_W → Prop} (hK : GK Z X y cc nL ret R) (hR : GR Z X w00 post0 px0 R) (pc : Nat) {x : MethodName} {b : ByteArray} {L idx a : Nat} {host : String} {rm : Room} {As : List Value} {w0 : va_W} {post : Option Value → va_W → Prop} {px : Nat → va_W → Prop}
    (hC : CT Z x b L none rm (.ref a :: As) w0 post px) (hT : Cond.code x b L none ∈ lw_all) (hini : Cond.initialized x.cls ∈ lw_all) (hlk : Cond.methodLinkNest y.cls idx x host ∈ gNM) (hin : Cond.instanceMethod x ∈ lw_all) (hx1 : x.name = "<init>") (hx : gNamed x As.length) (hf : gFit rm R L = true) (hd : decode cc pc = .ok (.invokespecial idx, 3)) {f : va_W → va_W} (hs : gSel ws w0 f)
    (hst : st = As.reverse ++ .ref a :: rest) (hsm : (rest.map fun v => v.category).sum ≤ 8) (hcl : k + rm.cells ≤ R.cells ∧ n + rm.slots ≤ R.slots)
    (kx : ∀ (q : Nat) (w1 : va_W) (nw : List Nat), px q w1 → w1.map Prod.fst = w0.map Prod.fst ++ nw → (∃ nw', (f w1).map Prod.fst = w00.map Prod.fst ++ nw') ∧ px0 q (f w1))
    (kk : ∀ (v : Option Value) (w1 : va_W), post v w1 → GO Z X (f w1) (k + rm.cells) (n + rm.slots) (pc + 3) lo (v.toList ++ rest)) : GO Z X ws k n pc lo st := by
  refine go_run hK hR (mc := rm.cells) (ms := rm.slots) (a := (Value.ref a :: As).toArray) hs (fun H locs ls hP hD hS hl => ?_) hcl kx kk
  obtain ⟨isC, hsel, hnd, -⟩ := hs
  have hf' := gFit_ok hf
  have hts := hK.2.2.2.2.1
  rw [← hK.2.2.2.2.2.2.2.2.2.2.1] at hf' hcl
  exact vx_runIN (As := As) (rest := rest) ⟨hK.1, hK.2.1, hK.2.2.1, hK.2.2.2.1, hts⟩ (hC H.size) ⟨va_cnB As.length hts (lw_meth hT) rfl rfl rfl (hK.2.2.2.2.2.2.2.2.2.1.2.1 _ hlk) (hts _ hini) hx hf', hx1, hts _ hin⟩ ⟨gPc_blind, gPc_call hK hP hD hS hsel hnd⟩ rfl rfl (hl.1.trans hK.2.2.1) hst (lv_room hsm) hd hcl
theorem go_callVN {w00 : va_W} {post0 : Option Value → va_W → Prop} {px0 : Nat → va_W → Prop} (hK : GK Z X y cc nL ret R) (hR : GR Z X w00 post0 px0 R) (pc : Nat) {x : MethodName} {b : ByteArray} {L idx a : Nat} {host : String} {r : Option FieldType} {rm : Room} {As : List Value} {w0 : va_W} {post : Option Value → va_W → Prop} {px : Nat → va_W → Prop}
    (hC : CT Z x b L r rm (.ref a :: As) w0 post px) (hT : Cond.code x b L r ∈ lw_all) (hini : Cond.initialized x.cls ∈ lw_all) (hlk : Cond.methodLinkNest y.cls idx x host ∈ gNM) (hin : Cond.instanceMethod x ∈ lw_all) (hse : Cond.selects x.cls x x ∈ lw_all) (hx : gNamed x As.length) (hf : gFit rm R L = true) (hd : decode cc pc = .ok (.invokevirtual idx, 3)) {f : va_W → va_W} (hs : gSel ws w0 f) (hrv : gRecv w0 a x.cls)
    (hst : st = As.reverse ++ .ref a :: rest) (hsm : (rest.map fun v => v.category).sum ≤ 8) (hcl : k + rm.cells ≤ R.cells ∧ n + rm.slots ≤ R.slots)
    (kx : ∀ (q : Nat) (w1 : va_W) (nw : List Nat), px q w1 → w1.map Prod.fst = w0.map Prod.fst ++ nw → (∃ nw', (f w1).map Prod.fst = w00.map Prod.fst ++ nw') ∧ px0 q (f w1))
    (kk : ∀ (v : Option Value) (w1 : va_W), post v w1 → GO Z X (f w1) (k + rm.cells) (n + rm.slots) (pc + 3) lo (v.toList ++ rest)) : GO Z X ws k n pc lo st := by
  refine go_run hK hR (mc := rm.cells) (ms := rm.slots) (a := (Value.ref a :: As).toArray) hs (fun H locs ls hP hD hS hl => ?_) hcl kx kk
  obtain ⟨isC, hsel, hnd, -⟩ := hs
  have hf' := gFit_ok hf
  have hts := hK.2.2.2.2.1
  rw [← hK.2.2.2.2.2.2.2.2.2.2.1] at hf' hcl
  exact vx_runVN (C := x.cls) (As := As) (rest := rest) ⟨hK.1, hK.2.1, hK.2.2.1, hK.2.2.2.1, hts⟩ (hC H.size) ⟨va_cnB As.length hts (lw_meth hT) rfl rfl rfl (hK.2.2.2.2.2.2.2.2.2.1.2.1 _ hlk) (hts _ hini) hx hf', hts _ hin, hts _ hse⟩ ⟨gPc_blind, gRecv_ok hrv hK hP hsel, gPc_call hK hP hD hS hsel hnd⟩ rfl rfl (hl.1.trans hK.2.2.1) hst (lv_room hsm) hd hcl
theorem go_callSN {w00 : va_W} {post0 : Option Value → va_W → Prop} {px0 : Nat → va_W → Prop} (hK : GK Z X y cc nL ret R) (hR : GR Z X w00 post0 px0 R) (pc : Nat) {x : MethodName} {b : ByteArray} {L idx : Nat} {host : String} {r : Option FieldType} {rm : Room} {As : List Value} {w0 : va_W} {post : Option Value → va_W → Prop} {px : Nat → va_W → Prop}
    (hC : CT Z x b L r rm As w0 post px) (hT : Cond.code x b L r ∈ lw_all) (hini : Cond.initialized x.cls ∈ lw_all) (hlk : Cond.methodLinkNest y.cls idx x host ∈ gNM) (hstc : Cond.static x ∈ lw_all) (hx : gNamed x As.length) (hf : gFit rm R L = true) (hd : decode cc pc = .ok (.invokestatic idx, 3)) {f : va_W → va_W} (hs : gSel ws w0 f)
    (hst : st = As.reverse ++ rest) (hsm : (rest.map fun v => v.category).sum ≤ 8) (hcl : k + rm.cells ≤ R.cells ∧ n + rm.slots ≤ R.slots)
    (kx : ∀ (q : Nat) (w1 : va_W) (nw : List Nat), px q w1 → w1.map Prod.fst = w0.map Prod.fst ++ nw → (∃ nw', (f w1).map Prod.fst = w00.map Prod.fst ++ nw') ∧ px0 q (f w1))
    (kk : ∀ (v : Option Value) (w1 : va_W), post v w1 → GO Z X (f w1) (k + rm.cells) (n + rm.slots) (pc + 3) lo (v.toList ++ rest)) : GO Z X ws k n pc lo st := by
  refine go_run hK hR (mc := rm.cells) (ms := rm.slots) (a := As.toArray) hs (fun H locs ls hP hD hS hl => ?_) hcl kx kk
  obtain ⟨isC, hsel, hnd, -⟩ := hs
  have hf' := gFit_ok hf
  have hts := hK.2.2.2.2.1
  rw [← hK.2.2.2.2.2.2.2.2.2.2.1] at hf' hcl
  exact vx_runSN (As := As) (rest := rest) ⟨hK.1, hK.2.1, hK.2.2.1, hK.2.2.2.1, hts⟩ (hC H.size) ⟨va_cnB As.length hts (lw_meth hT) rfl rfl rfl (hK.2.2.2.2.2.2.2.2.2.1.2.1 _ hlk) (hts _ hini) hx hf', hts _ hstc, trivial⟩ ⟨gPc_blind, gPc_call hK hP hD hS hsel hnd⟩ rfl rfl (hl.1.trans hK.2.2.1) hst (lv_room hsm) hd hcl
end GR1
