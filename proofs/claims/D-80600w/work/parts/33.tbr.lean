/-! the table of codes: rows and laws of its own -/
set_option maxRecDepth 100000
theorem iI_sh1 : ∀ s, s < 9 → iI 1 <<< (iI ((s : Nat) : Int) &&& 31) = iI (((2 ^ s : Nat) : Nat) : Int) := by decide +kernel
theorem iI_dbl : ∀ x, x < 4096 → iI ((x : Nat) : Int) <<< (iI 1 &&& 31) = iI (((2 * x : Nat) : Nat) : Int) := by decide +kernel
theorem iI_msk {z : Int} : ∀ {b : Nat}, b < 9 → iI z &&& iI (((2 ^ b - 1 : Nat) : Nat) : Int) = iI (z % ((2 ^ b : Nat) : Int))
  | 0, _ => iI_and z 0 (by decide) (by decide +kernel)
  | 1, _ => iI_and z 1 (by decide) (by decide +kernel)
  | 2, _ => iI_and z 2 (by decide) (by decide +kernel)
  | 3, _ => iI_and z 3 (by decide) (by decide +kernel)
  | 4, _ => iI_and z 4 (by decide) (by decide +kernel)
  | 5, _ => iI_and z 5 (by decide) (by decide +kernel)
  | 6, _ => iI_and z 6 (by decide) (by decide +kernel)
  | 7, _ => iI_and z 7 (by decide) (by decide +kernel)
  | 8, _ => iI_and z 8 (by decide) (by decide +kernel)
  | b + 9, h => absurd h (by omega)
def b01 (b : Bool) : Int := if b = true then 1 else 0
theorem b01_z (b : Bool) : b01 b = 0 ∨ b01 b = 1 := by cases b <;> simp [b01]
theorem iI_or01 : ∀ (a b : Bool), iI (b01 a) ||| iI (b01 b) = iI (b01 (a || b)) := by decide +kernel
theorem shl_of {l : Nat} (h1 : 0 < l) (h2 : l ≤ 7) : 2 ^ (7 - l) = 128 / 2 ^ l := by
  rcases (show l = 1 ∨ l = 2 ∨ l = 3 ∨ l = 4 ∨ l = 5 ∨ l = 6 ∨ l = 7 by omega) with h | h | h | h | h | h | h <;> subst h <;> rfl
/-- the symbol that find gives -/
def fndZ (T : List Nat) (sy a m len code : Nat) : Int := match fndN T a m len code m with
  | some k => ((T.getD (sy + k) 0 : Nat) : Int)
  | none => -1
theorem fndN_up {T : List Nat} {a m len code k n : Nat} (h : fndN T a m len code n = some k) : ∀ d, fndN T a m len code (n + d) = some k
  | 0 => h
  | d + 1 => by
    rw [← Nat.add_assoc]
    unfold fndN
    rw [fndN_up h d]
