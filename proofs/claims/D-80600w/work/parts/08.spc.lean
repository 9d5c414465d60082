/-! what is shared by the class and its reference: lists of bytes, the generator, the families -/
set_option maxRecDepth 100000
/-- a list in a row of ints, exactly -/
def pM (T : List Nat) (m : Int) (g : Nat → Int) : Prop := m = T.length ∧ ∀ j, j < T.length → g j = ((T.getD j 0 : Nat) : Int)
/-- a list in a row of bytes -/
def pB (T : List Nat) (m : Int) (g : Nat → Int) : Prop := m = T.length ∧ ∀ j, j < T.length → g j % 256 = ((T.getD j 0 : Nat) : Int)
theorem getD_add (T : List Nat) (c j : Nat) : (T ++ [c]).getD j 0 = if j < T.length then T.getD j 0 else if j = T.length then c else 0 := by
  by_cases h : j < T.length
  · rw [if_pos h, List.getD_eq_getElem?_getD, List.getElem?_append_left h, ← List.getD_eq_getElem?_getD]
  · rw [if_neg h, List.getD_eq_getElem?_getD, List.getElem?_append_right (by omega)]
    by_cases h2 : j = T.length
    · rw [if_pos h2, h2]; simp
    · rw [if_neg h2, List.getElem?_eq_none (by simp; omega)]; rfl
theorem va_up_s {α : Type} {f : Nat → α} {k : Nat} {v : α} {j : Nat} (h : j = k) : va_up f k v j = v := by unfold va_up; rw [if_pos h]
theorem va_up_n {α : Type} {f : Nat → α} {k : Nat} {v : α} {j : Nat} (h : j ≠ k) : va_up f k v j = f j := by unfold va_up; rw [if_neg h]
theorem pM_add {T : List Nat} {m : Int} {g : Nat → Int} (h : pM T m g) {x : Int} (c : Nat) (hx : x = c) : pM (T ++ [c]) (m + 1) (va_up g m.toNat x) := by
  obtain ⟨h1, h2⟩ := h
  have e : m.toNat = T.length := by omega
  refine ⟨by rw [List.length_append]; simp; omega, fun j hj => ?_⟩
  rw [List.length_append] at hj
  simp at hj
  rw [e, getD_add]
  by_cases q : j < T.length
  · rw [va_up_n (by omega), if_pos q, h2 j q]
  · have q2 : j = T.length := by omega
    rw [va_up_s q2, if_neg q, if_pos q2, hx]
theorem pB_add {T : List Nat} {m : Int} {g : Nat → Int} (h : pB T m g) {x : Int} (c : Nat) (hx : x % 256 = c) : pB (T ++ [c]) (m + 1) (va_up g m.toNat x) := by
  obtain ⟨h1, h2⟩ := h
  have e : m.toNat = T.length := by omega
  refine ⟨by rw [List.length_append]; simp; omega, fun j hj => ?_⟩
  rw [List.length_append] at hj
  simp at hj
  rw [e, getD_add]
  by_cases q : j < T.length
  · rw [va_up_n (by omega), if_pos q, h2 j q]
  · have q2 : j = T.length := by omega
    rw [va_up_s q2, if_neg q, if_pos q2, hx]
/-- the sum of n places of a list from a on -/
def smN (T : List Nat) (a : Nat) : Nat → Nat
  | 0 => 0
  | n + 1 => smN T a n + T.getD (a + n) 0
theorem smA_M {T : List Nat} {m : Int} {g : Nat → Int} (h : pM T m g) (a : Nat) : ∀ n, a + n ≤ T.length → smA g a n = ((smN T a n : Nat) : Int)
  | 0, _ => rfl
  | n + 1, hn => by
    unfold smA smN
    rw [smA_M h a n (by omega), h.2 (a + n) (by omega)]
    rfl
theorem smA_B {T : List Nat} {m : Int} {g : Nat → Int} (h : pB T m g) (a : Nat) : ∀ n, a + n ≤ T.length → smA (fun j => g j % 256) a n = ((smN T a n : Nat) : Int)
  | 0, _ => rfl
  | n + 1, hn => by
    unfold smA smN
    rw [smA_B h a n (by omega)]
    show _ + g (a + n) % 256 = _
    rw [h.2 (a + n) (by omega)]
    rfl
theorem rnN_ex (s : Int64) (n : Nat) : ∃ x : Nat, x = uN (sdN s) / 2147483648 % n := ⟨_, rfl⟩
/-- the number drawn below n; chosen, so that nothing tries to compute it -/
noncomputable def rnN (s : Int64) (n : Nat) : Nat := Classical.choose (rnN_ex s n)
theorem rnN_eq (s : Int64) (n : Nat) : rnN s n = uN (sdN s) / 2147483648 % n := Classical.choose_spec (rnN_ex s n)
theorem rnN_lt (s : Int64) {n : Nat} (h : 0 < n) : rnN s n < n := by rw [rnN_eq]; exact Nat.mod_lt _ h
theorem rn_N (s : Int64) (n : Nat) : rn s (n : Int) = ((rnN s n : Nat) : Int) := by rw [rnN_eq]; rfl
abbrev Pr : Type := Int64 × List Nat
/-- n random bytes (below b) -/
noncomputable def drB (b : Nat) : Nat → Pr → Pr
  | 0, p => p
  | n + 1, p => (sdN (drB b n p).1, (drB b n p).2 ++ [rnN (drB b n p).1 b])
theorem drB_len (b n : Nat) (p : Pr) : (drB b n p).2.length = p.2.length + n := by
  induction n with
  | zero => rfl
  | succ n ih => unfold drB; rw [List.length_append, ih]; simp; omega
/-- the end of a pack that begins at a -/
def spEnd (a : Nat) (T : List Nat) : List Nat := (T ++ [0]) ++ [smN (T ++ [0]) a ((T ++ [0]).length - a) % 256]
theorem spEnd_len (a : Nat) (T : List Nat) : (spEnd a T).length = T.length + 2 := by unfold spEnd; simp
noncomputable def spItem (k : Nat) (p : Pr) : Pr :=
  if rnN p.1 6 = 0 then drB 256 (1 + rnN (sdN p.1) 6) (sdN (sdN p.1), p.2 ++ [1] ++ [1 + rnN (sdN p.1) 6])
  else if rnN p.1 6 = 1 then drB 256 1 (sdN (sdN p.1), p.2 ++ [2] ++ [rnN (sdN p.1) 20])
  else if rnN p.1 6 = 2 then (sdN (sdN (sdN p.1)), p.2 ++ [3] ++ [1 + rnN (sdN p.1) 4] ++ [rnN (sdN (sdN p.1)) 12])
  else if rnN p.1 6 = 3 then drB 256 (rnN (sdN p.1) 4) (sdN (sdN p.1), p.2 ++ [5] ++ [rnN (sdN p.1) 4])
  else if rnN p.1 6 = 4 then (if 0 < k then (sdN (sdN p.1), p.2 ++ [6] ++ [rnN (sdN p.1) k]) else drB 256 1 (sdN p.1, p.2 ++ [1] ++ [1]))
  else ((drB 256 (rnN (sdN p.1) 5) (sdN (sdN p.1), p.2 ++ [4] ++ [0] ++ [rnN (sdN p.1) 5 + 6] ++ [80] ++ [75] ++ [1] ++ [rnN (sdN p.1) 5])).1,
    spEnd (p.2.length + 3) (drB 256 (rnN (sdN p.1) 5) (sdN (sdN p.1), p.2 ++ [4] ++ [0] ++ [rnN (sdN p.1) 5 + 6] ++ [80] ++ [75] ++ [1] ++ [rnN (sdN p.1) 5])).2)
theorem spItem_len (k : Nat) (p : Pr) : (spItem k p).2.length ≤ p.2.length + 13 := by
  have h1 := rnN_lt (sdN p.1) (n := 6) (by omega)
  have h2 := rnN_lt (sdN p.1) (n := 4) (by omega)
  have h3 := rnN_lt (sdN p.1) (n := 5) (by omega)
  unfold spItem
  split
  · rw [drB_len]; simp; omega
  split
  · rw [drB_len]; simp
  split
  · simp
  split
  · rw [drB_len]; simp; omega
  split
  · split
    · simp
    · rw [drB_len]; simp
  · rw [spEnd_len, drB_len]; simp; omega
noncomputable def spItems : Nat → Pr → Pr
  | 0, p => p
  | k + 1, p => spItem k (spItems k p)
theorem spItems_len (k : Nat) (p : Pr) : (spItems k p).2.length ≤ p.2.length + 13 * k := by
  induction k with
  | zero => simp [spItems]
  | succ k ih => unfold spItems; have := spItem_len k (spItems k p); omega
/-- the nested packs' heads, from the outermost -/
def nestA (size : Nat) : Nat → List Nat → List Nat
  | 0, T => T
  | i + 1, T => nestA size i T ++ [80] ++ [75] ++ [4] ++ [7 * (size - i) / 256] ++ [7 * (size - i) % 256]
theorem nestA_len (size i : Nat) (T : List Nat) : (nestA size i T).length = T.length + 5 * i := by
  induction i with
  | zero => rfl
  | succ i ih => unfold nestA; simp [ih]; omega
/-- the ends, from the innermost -/
def nestE (size : Nat) : Nat → List Nat → List Nat
  | 0, T => T
  | i + 1, T => spEnd (5 * (size - i)) (nestE size i T)
theorem nestE_len (size i : Nat) (T : List Nat) : (nestE size i T).length = T.length + 2 * i := by
  induction i with
  | zero => rfl
  | succ i ih => unfold nestE; rw [spEnd_len, ih]; omega
noncomputable def spNest (size : Nat) (s : Int64) : Pr := (sdN s, nestE size (size + 1) (nestA size size [] ++ [80] ++ [75] ++ [1] ++ [1] ++ [rnN s 256]))
/-- the same bytes n times -/
def rpL (xs : List Nat) : Nat → List Nat → List Nat
  | 0, T => T
  | n + 1, T => rpL xs n T ++ xs
theorem rpL_len (xs : List Nat) (n : Nat) (T : List Nat) : (rpL xs n T).length = T.length + xs.length * n := by
  induction n with
  | zero => simp [rpL]
  | succ n ih => unfold rpL; rw [List.length_append, ih, Nat.mul_succ]; omega
/-- family 1: runs of drawn bytes -/
noncomputable def fam1 : Nat → Pr → Pr
  | 0, p => p
  | n + 1, p => (sdN (fam1 n p).1, (fam1 n p).2 ++ [2] ++ [255] ++ [rnN (fam1 n p).1 256])
theorem fam1_len (n : Nat) (p : Pr) : (fam1 n p).2.length = p.2.length + 3 * n := by
  induction n with
  | zero => rfl
  | succ n ih => unfold fam1; simp [ih]; omega
/-- family 5: the numbers from 0 -/
def fam5 : Nat → List Nat → List Nat
  | 0, T => T
  | n + 1, T => fam5 n T ++ [6] ++ [n]
theorem fam5_len (n : Nat) (T : List Nat) : (fam5 n T).length = T.length + 2 * n := by
  induction n with
  | zero => rfl
  | succ n ih => unfold fam5; simp [ih]; omega
/-- what lies between the head and the end -/
noncomputable def spFam (f size : Nat) (p : Pr) : Pr :=
  if f = 0 then drB 256 size (p.1, p.2 ++ [1] ++ [255])
  else if f = 1 then fam1 size p
  else if f = 2 then (sdN p.1, rpL [3, 1, 255] size (p.2 ++ [1] ++ [1] ++ [rnN p.1 256]))
  else if f = 4 then (p.1, rpL [5, 0] size p.2)
  else if f = 5 then (sdN p.1, fam5 size (p.2 ++ [2] ++ [1] ++ [rnN p.1 256]))
  else if f = 6 then ((drB 8 8 (p.1, p.2 ++ [7] ++ [8] ++ [0] ++ [1] ++ [2] ++ [3] ++ [4] ++ [5] ++ [6] ++ [7])).1, rpL [5, 0] size ((drB 8 8 (p.1, p.2 ++ [7] ++ [8] ++ [0] ++ [1] ++ [2] ++ [3] ++ [4] ++ [5] ++ [6] ++ [7])).2 ++ [0]))
  else spItems size p
theorem spFam_len (f size : Nat) (p : Pr) (h : size ≤ 60) : (spFam f size p).2.length ≤ p.2.length + 780 := by
  have h1 := spItems_len size p
  unfold spFam
  split
  · rw [drB_len]; simp; omega
  split
  · rw [fam1_len]; omega
  split
  · rw [rpL_len]; simp; omega
  split
  · rw [rpL_len]; simp; omega
  split
  · rw [fam5_len]; simp; omega
  split
  · rw [rpL_len]; simp [drB_len]; omega
  · omega
/-- the family f of a size, drawn anew -/
noncomputable def spDraw (f size : Nat) (s : Int64) : Pr :=
  if f = 3 then spNest size s
  else if f = 7 then (sdN (spFam f size (s, [80] ++ [75])).1, (spEnd 0 (spFam f size (s, [80] ++ [75])).2).take ((spEnd 0 (spFam f size (s, [80] ++ [75])).2).length - (1 + rnN (spFam f size (s, [80] ++ [75])).1 4)))
  else if f = 8 then ((spFam f size (s, [80] ++ [75])).1, (spEnd 0 (spFam f size (s, [80] ++ [75])).2).set ((spEnd 0 (spFam f size (s, [80] ++ [75])).2).length - 1) (((spEnd 0 (spFam f size (s, [80] ++ [75])).2).getD ((spEnd 0 (spFam f size (s, [80] ++ [75])).2).length - 1) 0 + 1) % 256))
  else ((spFam f size (s, [80] ++ [75])).1, spEnd 0 (spFam f size (s, [80] ++ [75])).2)
