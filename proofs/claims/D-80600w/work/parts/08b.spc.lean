/-! the face over the tape -/
set_option maxRecDepth 100000
theorem pM_take {T : List Nat} {m : Int} {g : Nat → Int} (h : pM T m g) {k : Nat} (hk : k ≤ T.length) {x : Int} (hx : x = k) : pM (T.take k) x g := by
  refine ⟨by rw [List.length_take]; omega, fun j hj => ?_⟩
  rw [List.length_take] at hj
  rw [h.2 j (by omega), List.getD_eq_getElem?_getD, List.getD_eq_getElem?_getD, List.getElem?_take, if_pos (by omega)]
theorem pB_take {T : List Nat} {m : Int} {g : Nat → Int} (h : pB T m g) {k : Nat} (hk : k ≤ T.length) {x : Int} (hx : x = k) : pB (T.take k) x g := by
  refine ⟨by rw [List.length_take]; omega, fun j hj => ?_⟩
  rw [List.length_take] at hj
  rw [h.2 j (by omega), List.getD_eq_getElem?_getD, List.getD_eq_getElem?_getD, List.getElem?_take, if_pos (by omega)]
theorem getD_set (T : List Nat) (i c j : Nat) : (T.set i c).getD j 0 = if j = i ∧ i < T.length then c else T.getD j 0 := by
  rw [List.getD_eq_getElem?_getD, List.getElem?_set]
  by_cases h : i = j
  · subst h
    by_cases hl : i < T.length
    · rw [if_pos rfl, if_pos hl, if_pos ⟨rfl, hl⟩]; rfl
    · rw [if_pos rfl, if_neg hl, if_neg (fun q => hl q.2), List.getD_eq_getElem?_getD, List.getElem?_eq_none (by omega)]
  · rw [if_neg h, if_neg (fun q => h q.1.symm), List.getD_eq_getElem?_getD]
theorem pM_set {T : List Nat} {m : Int} {g : Nat → Int} (h : pM T m g) {i : Int} {x : Int} (c k : Nat) (hi : i = k) (hx : x = c) : pM (T.set k c) m (va_up g i.toNat x) := by
  refine ⟨by rw [List.length_set]; exact h.1, fun j hj => ?_⟩
  rw [List.length_set] at hj
  rw [getD_set, show i.toNat = k by omega]
  by_cases q : j = k
  · rw [va_up_s q, if_pos ⟨q, by omega⟩, hx]
  · rw [va_up_n q, if_neg (fun z => q z.1), h.2 j hj]
theorem pB_set {T : List Nat} {m : Int} {g : Nat → Int} (h : pB T m g) {i : Int} {x : Int} (c k : Nat) (hi : i = k) (hx : x % 256 = c) : pB (T.set k c) m (va_up g i.toNat x) := by
  refine ⟨by rw [List.length_set]; exact h.1, fun j hj => ?_⟩
  rw [List.length_set] at hj
  rw [getD_set, show i.toNat = k by omega]
  by_cases q : j = k
  · rw [va_up_s q, if_pos ⟨q, by omega⟩, hx]
  · rw [va_up_n q, if_neg (fun z => q z.1), h.2 j hj]
/-- the bytes of w, from the n-th down: i of them -/
def fdB (w : Int64) (n : Nat) : Nat → List Nat → List Nat
  | 0, T => T
  | i + 1, T => fdB w n i T ++ [(by8L w ((n - 1 - i : Nat) : Int)).toNat]
theorem fdB_len (w : Int64) (n i : Nat) (T : List Nat) : (fdB w n i T).length = T.length + i := by
  induction i with
  | zero => rfl
  | succ i ih => unfold fdB; simp [ih]; omega
theorem by8L_rng (w : Int64) (k : Int) : 0 ≤ by8L w k ∧ by8L w k < 256 := by unfold by8L; omega
def spFeed (n : Int) (w : Int64) (T : List Nat) : Int × List Nat := if ¬ (1 ≤ n ∧ n ≤ 8) then (-2, T) else if 1200 < (T.length : Int) + n then (-4, T) else ((T.length : Int) + n, fdB w n.toNat n.toNat T)
def spCut (n : Int) (T : List Nat) : Int × List Nat := if ¬ (0 ≤ n ∧ n ≤ T.length) then (-2, T) else ((T.length : Int) - n, T.take n.toNat)
def spAlter (i c : Int) (T : List Nat) : Int × List Nat := if ¬ (0 ≤ i ∧ i ≤ (T.length : Int) - 1) ∨ ¬ (0 ≤ c ∧ c ≤ 255) then (-2, T) else (((T.getD i.toNat 0 : Nat) : Int), T.set i.toNat c.toNat)
def spAt (i : Int) (T : List Nat) : Int := if 0 ≤ i ∧ i ≤ (T.length : Int) - 1 then ((T.getD i.toNat 0 : Nat) : Int) else -1
def spMend (T : List Nat) : Int × List Nat := if T.length = 0 then (-3, T) else (((smN T 0 (T.length - 1) % 256 : Nat) : Int), T.set (T.length - 1) (smN T 0 (T.length - 1) % 256))
noncomputable def spDr (f n : Int) (s : Int64) (T : List Nat) : Int × Pr := if ¬ (0 ≤ f ∧ f ≤ 9) ∨ ¬ (0 ≤ n ∧ n ≤ 60) then (-2, (s, T)) else (((spDraw f.toNat n.toNat s).2.length : Int), spDraw f.toNat n.toNat s)
theorem spNest_len (n : Nat) (s : Int64) : (spNest n s).2.length = 7 * n + 7 := by
  unfold spNest
  dsimp only
  rw [nestE_len]
  simp [nestA_len]
  omega
theorem spDraw_len (f n : Nat) (s : Int64) (h : n ≤ 60) : (spDraw f n s).2.length ≤ 1200 := by
  have h1 := spFam_len f n (s, [80] ++ [75]) h
  have h2 := spEnd_len 0 (spFam f n (s, [80] ++ [75])).2
  dsimp only at h1
  simp at h1
  unfold spDraw
  split
  · rw [spNest_len]; omega
  split
  · simp only [List.length_take]; simp at h2 ⊢; omega
  split
  · simp only [List.length_set]; simp at h2 ⊢; omega
  · simp at h2 ⊢; omega
theorem spItem_ge (k : Nat) (p : Pr) : p.2.length ≤ (spItem k p).2.length := by
  unfold spItem
  split
  · rw [drB_len]; simp; omega
  split
  · rw [drB_len]; simp; omega
  split
  · simp
  split
  · rw [drB_len]; simp; omega
  split
  · split
    · simp
    · rw [drB_len]; simp; omega
  · rw [spEnd_len, drB_len]; simp; omega
theorem spItems_ge (k : Nat) (p : Pr) : p.2.length ≤ (spItems k p).2.length := by
  induction k with
  | zero => simp [spItems]
  | succ k ih => unfold spItems; have := spItem_ge k (spItems k p); omega
theorem spFam_ge (f size : Nat) (p : Pr) : p.2.length ≤ (spFam f size p).2.length := by
  have h1 := spItems_ge size p
  unfold spFam
  split
  · rw [drB_len]; simp; omega
  split
  · rw [fam1_len]; omega
  split
  · rw [rpL_len]; simp; omega
  split
  · rw [rpL_len]; simp
  split
  · rw [fam5_len]; simp; omega
  split
  · rw [rpL_len]; simp [drB_len]; omega
  · omega
