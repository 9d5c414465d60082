/-! Bytes: its world (the object, its array), contracts (printed by gen/m1.py) -/
set_option maxRecDepth 100000
abbrev nopx : Nat → va_W → Prop := fun _ _ => False
abbrev wB (Z : Gz) (h0 h1 N : Nat) (m : Int) (g : Nat → Int) : va_W := [(h0, .inr (1, [.ref h1, .int (iI m)])), (h1, .inl (zC Z 1, bA N g))]
/-- the sum of n places from a on -/
def smA (f : Nat → Int) (a : Nat) : Nat → Int
  | 0 => 0
  | n + 1 => smA f a n + f (a + n)
abbrev rmA : Room := { frames := 0, cells := 0, slots := 0, locals := 0 }
abbrev rmB : Room := { frames := 1, cells := 0, slots := 0, locals := 40 }
set_option maxHeartbeats 4000000 in
theorem ct_X2_add (Z : Gz) (h0 h1 N : Nat) (m : Int) (g : Nat → Int) (b : Int) (hm : 0 ≤ m ∧ m < N) (hN : N ≤ 2147483648) : CT Z yX2_add cX2_add 2 none rmA [.ref h0, .int (iI b)] (wB Z h0 h1 N m g) (fun v w => v = none ∧ w = wB Z h0 h1 N (m + 1) (va_up g m.toNat b)) nopx := by
  refine ct_of (by decide) (Nat.le_of_ble_eq_true rfl) (fun X hK hR => ?_)
  show GO Z X (wB Z h0 h1 N m g) 0 0 0 [(0, .ref h0), (1, .int (iI b))] []
  refine go_aload_n hK 0 0 dX2_add_0 rfl rfl ?_
  refine go_get hK 1 fl_X2_7 dX2_add_1 0 rfl rfl ?_
  refine go_aload_n hK 4 0 dX2_add_4 rfl rfl ?_
  refine go_dup hK 5 dX2_add_5 rfl ?_
  refine go_get hK 6 fl_X2_13 dX2_add_6 0 rfl rfl ?_
  refine go_dup_x1 hK 9 dX2_add_9 rfl rfl ?_
  refine go_iconst hK 10 dX2_add_10 ?_
  refine go_iadd hK 11 dX2_add_11 ?_
  refine go_put (w' := (wB Z h0 h1 N (m + 1) g)) hK 12 fl_X2_13 fw_X2_1 dX2_add_12 0 rfl rfl rfl (Nat.le_of_ble_eq_true rfl) rfl ?_
  refine go_iload_n hK 15 1 dX2_add_15 rfl rfl ?_
  refine go_i2b hK 16 dX2_add_16 ?_
  refine go_bast (w' := (wB Z h0 h1 N (m + 1) (va_up g m.toNat b))) hK 17 dX2_add_17 1 rfl (by omega) (by omega) rfl ?_
  exact go_vret hK hR.1 18 [] dX2_add_18 (by decide) (by decide) rfl ⟨rfl, rfl⟩

set_option maxHeartbeats 4000000 in
theorem ct_X2_at (Z : Gz) (h0 h1 N : Nat) (m : Int) (g : Nat → Int) (k : Int) (hk : 0 ≤ k ∧ k < N) (hN : N ≤ 2147483648) : CT Z yX2_at cX2_at 2 (some .int) rmA [.ref h0, .int (iI k)] (wB Z h0 h1 N m g) (fun v w => v = some (.int (iI (g k.toNat % 256))) ∧ w = wB Z h0 h1 N m g) nopx := by
  refine ct_of (by decide) (Nat.le_of_ble_eq_true rfl) (fun X hK hR => ?_)
  show GO Z X (wB Z h0 h1 N m g) 0 0 0 [(0, .ref h0), (1, .int (iI k))] []
  refine go_aload_n hK 0 0 dX2_at_0 rfl rfl ?_
  refine go_get hK 1 fl_X2_7 dX2_at_1 0 rfl rfl ?_
  refine go_iload_n hK 4 1 dX2_at_4 rfl rfl ?_
  refine go_bald hK 5 dX2_at_5 1 rfl (by omega) (by omega) ?_
  refine go_sipush hK 6 dX2_at_6 (by decide) ?_
  refine go_iand hK 9 dX2_at_9 (iI_255 _) ?_
  exact go_iret hK hR.1 10 [] dX2_at_10 (by decide) (by decide) rfl ⟨by rw [sB_mod], rfl⟩

set_option maxHeartbeats 4000000 in
theorem ct_X2_check (Z : Gz) (h0 h1 N : Nat) (m : Int) (g : Nat → Int) (a b : Nat) (hab : a ≤ b ∧ b ≤ N) (hN : N < 2147483648) : CT Z yX2_check cX2_check 5 (some .int) rmB [.ref h0, .int (iI (a : Int)), .int (iI (b : Int))] (wB Z h0 h1 N m g) (fun v w => v = some (.int (iI (smA (fun j => g j % 256) a (b - a) % 256))) ∧ w = wB Z h0 h1 N m g) nopx := by
  refine ct_of (by decide) (Nat.le_of_ble_eq_true rfl) (fun X hK hR => ?_)
  show GO Z X (wB Z h0 h1 N m g) 0 0 0 [(0, .ref h0), (1, .int (iI (a : Int))), (2, .int (iI (b : Int)))] []
  refine go_iconst hK 0 dX2_check_0 ?_
  refine go_istore_n (lo' := [(3, .int (iI 0)), (0, .ref h0), (1, .int (iI (a : Int))), (2, .int (iI (b : Int)))]) hK 1 3 dX2_check_1 rfl (by decide) rfl ?_
  refine go_iload_n hK 2 1 dX2_check_2 rfl rfl ?_
  refine go_istore (lo' := [(4, .int (iI (a : Int))), (3, .int (iI 0)), (0, .ref h0), (1, .int (iI (a : Int))), (2, .int (iI (b : Int)))]) hK 3 4 dX2_check_3 (by decide) rfl ?_
  refine go_lo (lo' := [(0, .ref h0), (1, .int (iI (a : Int))), (2, .int (iI (b : Int))), (3, .int (iI 0)), (4, .int (iI (a : Int)))]) [2, 3, 4, 1, 0] rfl ?_
  have lp : ∀ (fu : Nat) (i : Nat) (s : Int) (k : Int), i ≤ b - a → k = (a : Int) + i → s = smA (fun j => g j % 256) a i → (b - a) - i < fu → GO Z X (wB Z h0 h1 N m g) 0 0 5 [(0, .ref h0), (1, .int (iI (a : Int))), (2, .int (iI (b : Int))), (3, .int (iI s)), (4, .int (iI k))] [] := by
    intro fu
    induction fu with
    | zero => intro i s k hi hk hs hm; exact absurd hm (Nat.not_lt_zero _)
    | succ fu ih =>
      intro i s k hi hk hs hm
      refine go_iload hK 5 4 dX2_check_5 rfl ?_
      refine go_iload_n hK 7 2 dX2_check_7 rfl rfl ?_
      refine go_icmp_ge (tgt := 26) hK 8 dX2_check_8 (by decide) (by omega) (by omega) (fun c1 => ?_) (fun c1 => ?_)
      · refine go_iload_n hK 26 3 dX2_check_26 rfl rfl ?_
        refine go_sipush hK 27 dX2_check_27 (by decide) ?_
        refine go_iand hK 30 dX2_check_30 (iI_255 _) ?_
        exact go_iret hK hR.1 31 [] dX2_check_31 (by decide) (by decide) rfl ⟨by rw [hs, show i = b - a by omega], rfl⟩
      · refine go_iload_n hK 11 3 dX2_check_11 rfl rfl ?_
        refine go_aload_n hK 12 0 dX2_check_12 rfl rfl ?_
        refine go_iload hK 13 4 dX2_check_13 rfl ?_
        refine go_callV (As := [.int (iI k)]) (rest := [.int (iI s)]) hK hR 15 (ct_X2_at Z h0 h1 N m g k (by omega) (by omega)) cw_X2_17 gn_X2_at rfl dX2_check_15 gSel_all ⟨0, 1, _, _, _, rfl, rfl⟩ rfl (Nat.le_of_ble_eq_true rfl) ⟨(by decide), (by decide)⟩ (fun _ _ _ h => h.elim) (fun v w1 h => ?_)
        obtain ⟨rfl, rfl⟩ := h
        show GO Z X (wB Z h0 h1 N m g) 0 0 18 [(0, .ref h0), (1, .int (iI (a : Int))), (2, .int (iI (b : Int))), (3, .int (iI s)), (4, .int (iI k))] [.int (iI (g k.toNat % 256)), .int (iI s)]
        refine go_iadd hK 18 dX2_check_18 ?_
        refine go_istore_n (lo' := [(3, .int (iI (s + (g k.toNat % 256)))), (0, .ref h0), (1, .int (iI (a : Int))), (2, .int (iI (b : Int))), (4, .int (iI k))]) hK 19 3 dX2_check_19 rfl (by decide) rfl ?_
        refine go_iinc (lo' := [(4, .int (iI (k + 1))), (3, .int (iI (s + (g k.toNat % 256)))), (0, .ref h0), (1, .int (iI (a : Int))), (2, .int (iI (b : Int)))]) hK 20 4 4 dX2_check_20 rfl (by decide) rfl ?_
        refine go_goto (tgt := 5) hK 23 dX2_check_23 (by decide) ?_
        refine go_lo [2, 3, 4, 1, 0] rfl ?_
        exact ih (i + 1) (s + (g k.toNat % 256)) (k + 1) (by omega) (by omega) (by rw [hs, show k.toNat = a + i by omega]; rfl) (by omega)
  exact lp _ 0 0 (a : Int) (by omega) (by omega) rfl (Nat.lt_succ_self _)

