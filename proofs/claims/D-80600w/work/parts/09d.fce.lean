/-! the face: what is read is kept, and asked for -/
set_option maxRecDepth 100000
/-- the last reading: fault, place, what was read -/
abbrev Rx : Type := Int × Int × Rd
def rdX (T : List Nat) (M L Dp : Nat) : Rx := match rdS T M L Dp with
  | .error (k, p, r) => ((k : Int), (p : Int), r)
  | .ok r => (0, -1, r)
abbrev bndP (m l d : Int) : Prop := (0 ≤ m ∧ m ≤ 4000) ∧ (0 ≤ l ∧ l ≤ 20000) ∧ (0 ≤ d ∧ d ≤ 8)
def spOut (i : Int) (O : List Nat) : Int := if 0 ≤ i ∧ i ≤ (O.length : Int) - 1 then ((O.getD i.toNat 0 : Nat) : Int) else -1
def spIt (i a : Int) (I : List It) : Int :=
  if i = -1 then ((I.length : Nat) : Int)
  else if ¬ (0 ≤ i ∧ i ≤ (I.length : Int) - 1) then -1
  else if a = 0 then ((iK (I.getD i.toNat z0) : Nat) : Int)
  else if a = 1 then ((iQ (I.getD i.toNat z0) : Nat) : Int)
  else if a = 2 then ((iC (I.getD i.toNat z0) : Nat) : Int)
  else if a = 3 then ((iU (I.getD i.toNat z0) : Nat) : Int)
  else -1
def spCnt (a : Int) (T : List Nat) (rc : Int) (x : Rx) : Int :=
  if a = 0 then ((T.length : Nat) : Int)
  else if a = 1 then (((rO x.2.2).length : Nat) : Int)
  else if a = 2 then ((rU x.2.2 : Nat) : Int)
  else if a = 3 then ((rD x.2.2 : Nat) : Int)
  else if a = 4 then ((rP x.2.2 : Nat) : Int)
  else if a = 5 then x.1
  else if a = 6 then rc
  else -1
/-- without n from a on -/
def cutT (T : List Nat) (a n : Nat) : List Nat := T.take a ++ T.drop (a + n)
/-- the first n items are tried: what is left, how much has gone -/
def shrN (T : List Nat) (M L Dp : Nat) (kf : Int) (I : List It) : Nat → List Nat × Nat
  | 0 => (T, 0)
  | n + 1 => if (rdX (cutT (shrN T M L Dp kf I n).1 (iQ (I.getD n z0) - (shrN T M L Dp kf I n).2) (iE (I.getD n z0) - iQ (I.getD n z0))) M L Dp).1 = kf
    then (cutT (shrN T M L Dp kf I n).1 (iQ (I.getD n z0) - (shrN T M L Dp kf I n).2) (iE (I.getD n z0) - iQ (I.getD n z0)), (shrN T M L Dp kf I n).2 + (iE (I.getD n z0) - iQ (I.getD n z0)))
    else shrN T M L Dp kf I n
theorem shrN_y {T : List Nat} {M L Dp : Nat} {kf : Int} {I : List It} {n : Nat} {T1 : List Nat} {g : Nat} (h : shrN T M L Dp kf I n = (T1, g)) (hr : (rdX (cutT T1 (iQ (I.getD n z0) - g) (iE (I.getD n z0) - iQ (I.getD n z0))) M L Dp).1 = kf) : shrN T M L Dp kf I (n + 1) = (cutT T1 (iQ (I.getD n z0) - g) (iE (I.getD n z0) - iQ (I.getD n z0)), g + (iE (I.getD n z0) - iQ (I.getD n z0))) := by
  rw [shrN, h]
  exact if_pos hr
theorem shrN_n {T : List Nat} {M L Dp : Nat} {kf : Int} {I : List It} {n : Nat} {T1 : List Nat} {g : Nat} (h : shrN T M L Dp kf I n = (T1, g)) (hr : (rdX (cutT T1 (iQ (I.getD n z0) - g) (iE (I.getD n z0) - iQ (I.getD n z0))) M L Dp).1 ≠ kf) : shrN T M L Dp kf I (n + 1) = (T1, g) := by
  rw [shrN, h]
  exact if_neg hr
theorem cutT_len (T : List Nat) (a n : Nat) (h : a + n ≤ T.length) : (cutT T a n).length = T.length - n := by
  unfold cutT
  rw [List.length_append, List.length_take, List.length_drop]
  omega
theorem cutT_get (T : List Nat) (a n j : Nat) (h : a + n ≤ T.length) : (cutT T a n).getD j 0 = if j < a then T.getD j 0 else T.getD (j + n) 0 := by
  unfold cutT
  have hl : (T.take a).length = a := by rw [List.length_take]; omega
  by_cases c : j < a
  · rw [if_pos c, List.getD_eq_getElem?_getD, List.getElem?_append_left (by omega), List.getElem?_take, if_pos c, ← List.getD_eq_getElem?_getD]
  · rw [if_neg c, List.getD_eq_getElem?_getD, List.getElem?_append_right (by omega), List.getElem?_drop, hl, show a + n + (j - a) = j + n by omega, ← List.getD_eq_getElem?_getD]
