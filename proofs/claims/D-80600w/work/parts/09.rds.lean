/-! how packs are read: the items, the packs, as pure functions; fault: (kind, place) -/
set_option maxRecDepth 100000
/-- n places of a list from a on -/
def tkN (T : List Nat) (a : Nat) : Nat → List Nat
  | 0 => []
  | n + 1 => tkN T a n ++ [T.getD (a + n) 0]
theorem tkN_len (T : List Nat) (a n : Nat) : (tkN T a n).length = n := by
  induction n with
  | zero => rfl
  | succ n ih => unfold tkN; simp [ih]
/-- n bytes copied from d behind -/
def cpN (d : Nat) : Nat → List Nat → List Nat
  | 0, O => O
  | n + 1, O => cpN d n O ++ [(cpN d n O).getD ((cpN d n O).length - d) 0]
theorem cpN_len (d n : Nat) (O : List Nat) : (cpN d n O).length = O.length + n := by
  induction n with
  | zero => rfl
  | succ n ih => unfold cpN; simp [ih]; omega
abbrev Rs : Type := Except (Nat × Nat × List Nat × Nat) (Nat × List Nat × Nat)
def spStore (T : List Nat) (M L e q : Nat) (O : List Nat) (u : Nat) : Rs :=
  if e ≤ q + 1 then .error (3, e, O, u)
  else if e < q + 2 + T.getD (q + 1) 0 then .error (3, e, O, u)
  else if M < O.length + T.getD (q + 1) 0 then .error (11, q, O, u)
  else if L < u + (2 + 2 * T.getD (q + 1) 0) then .error (12, q, O, u)
  else .ok (q + 2 + T.getD (q + 1) 0, O ++ tkN T (q + 2) (T.getD (q + 1) 0), u + (2 + 2 * T.getD (q + 1) 0))
def spNote (T : List Nat) (M L e q : Nat) (O : List Nat) (u : Nat) : Rs :=
  if e ≤ q + 1 then .error (3, e, O, u)
  else if e < q + 2 + T.getD (q + 1) 0 then .error (3, e, O, u)
  else if M < O.length then .error (11, q, O, u)
  else if L < u + (2 + T.getD (q + 1) 0) then .error (12, q, O, u)
  else .ok (q + 2 + T.getD (q + 1) 0, O, u + (2 + T.getD (q + 1) 0))
def spRun (T : List Nat) (M L e q : Nat) (O : List Nat) (u : Nat) : Rs :=
  if e ≤ q + 2 then .error (3, e, O, u)
  else if M < O.length + T.getD (q + 1) 0 then .error (11, q, O, u)
  else if L < u + (3 + T.getD (q + 1) 0) then .error (12, q, O, u)
  else .ok (q + 3, O ++ List.replicate (T.getD (q + 1) 0) (T.getD (q + 2) 0), u + (3 + T.getD (q + 1) 0))
def spCopy (T : List Nat) (M L e q o0 : Nat) (O : List Nat) (u : Nat) : Rs :=
  if e ≤ q + 1 then .error (3, e, O, u)
  else if T.getD (q + 1) 0 = 0 ∨ O.length - o0 < T.getD (q + 1) 0 then .error (4, q + 1, O, u)
  else if e ≤ q + 2 then .error (3, e, O, u)
  else if M < O.length + T.getD (q + 2) 0 then .error (11, q, O, u)
  else if L < u + (3 + T.getD (q + 2) 0) then .error (12, q, O, u)
  else .ok (q + 3, cpN (T.getD (q + 1) 0) (T.getD (q + 2) 0) O, u + (3 + T.getD (q + 2) 0))
def spAgain (T : List Nat) (M L e q o0 : Nat) (C : List Nat) (O : List Nat) (u : Nat) : Rs :=
  if e ≤ q + 1 then .error (3, e, O, u)
  else if C.length ≤ T.getD (q + 1) 0 then .error (5, q + 1, O, u)
  else if M < O.length + C.getD (T.getD (q + 1) 0) 0 then .error (11, q, O, u)
  else if L < u + (2 + C.getD (T.getD (q + 1) 0) 0) then .error (12, q, O, u)
  else .ok (q + 2, O ++ tkN O o0 (C.getD (T.getD (q + 1) 0) 0), u + (2 + C.getD (T.getD (q + 1) 0) 0))
/-- the bit number bp of the tape, the high ones first -/
def bitT (T : List Nat) (bp : Nat) : Nat := T.getD (bp / 8) 0 / 2 ^ (7 - bp % 8) % 2
/-- how many of n lengths from a on are l -/
def cntL (T : List Nat) (a l : Nat) : Nat → Nat
  | 0 => 0
  | n + 1 => cntL T a l n + if T.getD (a + n) 0 = l then 1 else 0
/-- the first code of a length -/
def basC (T : List Nat) (a m : Nat) : Nat → Nat
  | 0 => 0
  | l + 1 => 2 * (basC T a m l + if l = 0 then 0 else cntL T a l m)
/-- the symbol with a code of a length, among the first n -/
def fndN (T : List Nat) (a m len code : Nat) : Nat → Option Nat
  | 0 => none
  | n + 1 => match fndN T a m len code n with
    | some k => some k
    | none => if T.getD (a + n) 0 = len ∧ basC T a m len + cntL T a len n = code then some n else none
/-- is one of the first n longer -/
def lngN (T : List Nat) (a len : Nat) : Nat → Bool
  | 0 => false
  | n + 1 => lngN T a len n || decide (len < T.getD (a + n) 0)
def sumK (T : List Nat) (a : Nat) : Nat → Nat
  | 0 => 0
  | n + 1 => sumK T a n + if 0 < T.getD (a + n) 0 then 128 / 2 ^ T.getD (a + n) 0 else 0
def useK (T : List Nat) (a : Nat) : Nat → Nat
  | 0 => 0
  | n + 1 => useK T a n + if 0 < T.getD (a + n) 0 then 1 else 0
abbrev goodT (T : List Nat) (a m : Nat) : Prop := sumK T a m = 128 ∨ useK T a m = 1 ∧ sumK T a m = 64
/-- the lengths as they are read: the first that can't be -/
def spLen (T : List Nat) (e a : Nat) : Nat → Option (Nat × Nat)
  | 0 => none
  | n + 1 => match spLen T e a n with
    | some x => some x
    | none => if e ≤ a + n then some (3, e) else if 7 < T.getD (a + n) 0 then some (6, a + n) else none
/-- a symbol is read: which, and the next bit -/
def spSym (T : List Nat) (e a m : Nat) : Nat → Nat → Nat → Nat → Nat → Except (Nat × Nat) (Nat × Nat)
  | 0, _, _, _, _ => .error (99, 0)
  | f + 1, fst, bp, len, code =>
    if e ≤ bp / 8 then .error (3, e)
    else match fndN T a m (len + 1) (2 * code + bitT T bp) m with
      | some k => .ok (k, bp + 1)
      | none => if lngN T a (len + 1) m = true then spSym T e a m f fst (bp + 1) (len + 1) (2 * code + bitT T bp) else .error (7, fst)
def spBitN (T : List Nat) (e sy a m : Nat) : Nat → Nat → List Nat → Except (Nat × Nat × List Nat) (Nat × List Nat)
  | 0, bp, O => .ok (bp, O)
  | n + 1, bp, O => match spSym T e a m 9 (bp / 8) bp 0 0 with
    | .error (k, p) => .error (k, p, O)
    | .ok (k, bp') => spBitN T e sy a m n bp' (O ++ [T.getD (sy + k) 0])
/-- the bits that are left -/
def spTail (T : List Nat) (bp : Nat) : Option (Nat × Nat) := if bp % 8 ≠ 0 ∧ T.getD (bp / 8) 0 % 2 ^ (8 - bp % 8) ≠ 0 then some (8, bp / 8) else none
def spBits (T : List Nat) (e sy a m n bp : Nat) (O : List Nat) (u : Nat) : Rs :=
  match spBitN T e sy a m n bp O with
  | .error (k, p, O') => .error (k, p, O', u)
  | .ok (bp', O') => match spTail T bp' with
    | some (k, p) => .error (k, p, O', u)
    | none => .ok ((bp' + 7) / 8, O', u)
def spCoded (T : List Nat) (M L e q : Nat) (O : List Nat) (u : Nat) : Rs :=
  if e ≤ q + 1 then .error (3, e, O, u)
  else if T.getD (q + 1) 0 = 0 ∨ 8 < T.getD (q + 1) 0 then .error (6, q + 1, O, u)
  else if e < q + 2 + T.getD (q + 1) 0 then .error (3, e, O, u)
  else match spLen T e (q + 2 + T.getD (q + 1) 0) (T.getD (q + 1) 0) with
    | some (k, p) => .error (k, p, O, u)
    | none =>
      if ¬ goodT T (q + 2 + T.getD (q + 1) 0) (T.getD (q + 1) 0) then .error (6, q + 2 + T.getD (q + 1) 0, O, u)
      else if e ≤ q + 2 + 2 * T.getD (q + 1) 0 then .error (3, e, O, u)
      else if M < O.length + T.getD (q + 2 + 2 * T.getD (q + 1) 0) 0 then .error (11, q, O, u)
      else if L < u + (3 + 2 * T.getD (q + 1) 0 + 2 * T.getD (q + 2 + 2 * T.getD (q + 1) 0) 0) then .error (12, q, O, u)
      else spBits T e (q + 2) (q + 2 + T.getD (q + 1) 0) (T.getD (q + 1) 0) (T.getD (q + 2 + 2 * T.getD (q + 1) 0) 0) (8 * (q + 3 + 2 * T.getD (q + 1) 0)) O (u + (3 + 2 * T.getD (q + 1) 0 + 2 * T.getD (q + 2 + 2 * T.getD (q + 1) 0) 0))
/-- an item that is no pack and no end -/
def spBody (T : List Nat) (M L kd e q o0 : Nat) (C O : List Nat) (u : Nat) : Rs :=
  if kd = 1 then spStore T M L e q O u
  else if kd = 2 then spRun T M L e q O u
  else if kd = 3 then spCopy T M L e q o0 O u
  else if kd = 5 then spNote T M L e q O u
  else if kd = 6 then spAgain T M L e q o0 C O u
  else spCoded T M L e q O u
/-- a pack in a pack: its length -/
def spNe (T : List Nat) (L Dp d e q u : Nat) : Except (Nat × Nat) Nat :=
  if e ≤ q + 2 then .error (3, e)
  else if e < q + 3 + (256 * T.getD (q + 1) 0 + T.getD (q + 2) 0) then .error (3, e)
  else if L < u + 3 then .error (12, q)
  else if Dp ≤ d then .error (13, q)
  else .ok (256 * T.getD (q + 1) 0 + T.getD (q + 2) 0)
/-- what came, what was spent, packs, the deepest, the items of the pack on the tape: kind, place, end, came, cost -/
abbrev It : Type := Nat × Nat × Nat × Nat × Nat
abbrev Rd : Type := List Nat × Nat × Nat × Nat × List It
abbrev rO (r : Rd) : List Nat := r.1
abbrev rU (r : Rd) : Nat := r.2.1
abbrev rP (r : Rd) : Nat := r.2.2.1
abbrev rD (r : Rd) : Nat := r.2.2.2.1
abbrev rI (r : Rd) : List It := r.2.2.2.2
/-- a pack's head at a depth d -/
def spHd (T : List Nat) (L f e d : Nat) (r : Rd) : Except (Nat × Nat × Rd) Rd :=
  if L < rU r + 4 then .error (12, f, r)
  else if e ≤ f then .error (3, e, (rO r, rU r + 4, rP r + 1, max (rD r) d, rI r))
  else if T.getD f 0 ≠ 80 then .error (1, f, (rO r, rU r + 4, rP r + 1, max (rD r) d, rI r))
  else if e ≤ f + 1 then .error (3, e, (rO r, rU r + 4, rP r + 1, max (rD r) d, rI r))
  else if T.getD (f + 1) 0 ≠ 75 then .error (1, f + 1, (rO r, rU r + 4, rP r + 1, max (rD r) d, rI r))
  else .ok (rO r, rU r + 4, rP r + 1, max (rD r) d, rI r)
/-- a pack's end -/
def spCl (T : List Nat) (f e q : Nat) : Option (Nat × Nat) :=
  if e ≤ q + 1 then some (3, e)
  else if T.getD (q + 1) 0 ≠ smN T f (q + 1 - f) % 256 then some (9, q + 1)
  else if q + 2 < e then some (10, q + 2)
  else none
/-- behind an item: it is noted at depth 0 -/
def adI (d kd q q' : Nat) (O0 : List Nat) (u0 : Nat) (r : Rd) : Rd := (rO r, rU r, rP r, rD r, if d = 0 then rI r ++ [(kd, q, q', (rO r).length - O0.length, rU r - u0)] else rI r)
/-- the items of a pack at depth d from q on, to its end -/
def itS (T : List Nat) (M L Dp : Nat) : Nat → Nat → Nat → Nat → Nat → List Nat → Nat → Rd → Except (Nat × Nat × Rd) Rd
  | 0, _, _, _, _, _, _, r => .error (99, 0, r)
  | fu + 1, d, f, e, o0, C, q, r =>
    if e ≤ q then .error (3, e, r)
    else if 7 < T.getD q 0 then .error (2, q, r)
    else if T.getD q 0 = 0 then (match spCl T f e q with
      | some (k, p) => .error (k, p, r)
      | none => .ok r)
    else if T.getD q 0 = 4 then (match spNe T L Dp d e q (rU r) with
      | .error (k, p) => .error (k, p, r)
      | .ok n => match spHd T L (q + 3) (q + 3 + n) (d + 1) (rO r, rU r + 3, rP r, rD r, rI r) with
        | .error x => .error x
        | .ok r1 => match itS T M L Dp fu (d + 1) (q + 3) (q + 3 + n) (rO r).length [] (q + 5) r1 with
          | .error x => .error x
          | .ok r2 => itS T M L Dp fu d f e o0 (C ++ [(rO r2).length - o0]) (q + 3 + n) (adI d 4 q (q + 3 + n) (rO r) (rU r) r2))
    else (match spBody T M L (T.getD q 0) e q o0 C (rO r) (rU r) with
      | .error (k, p, O', u') => .error (k, p, (O', u', rP r, rD r, rI r))
      | .ok (q', O', u') => itS T M L Dp fu d f e o0 (C ++ [O'.length - o0]) q' (adI d (T.getD q 0) q q' (rO r) (rU r) (O', u', rP r, rD r, rI r)))
/-- the tape is read -/
def rdS (T : List Nat) (M L Dp : Nat) : Except (Nat × Nat × Rd) Rd :=
  match spHd T L 0 T.length 0 ([], 0, 0, 0, []) with
  | .error x => .error x
  | .ok r => itS T M L Dp (T.length + 1) 0 0 T.length 0 [] 2 r
