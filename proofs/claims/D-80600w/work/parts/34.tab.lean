/-! the table of codes (printed by gen/c4.py) -/
set_option maxRecDepth 100000
abbrev wT (Z : Gz) (h0 h1 h2 : Nat) (tm : Int) (gY gW : Nat → Int) : va_W := [(h0, .inr (2, [.ref h1, .ref h2, .int (iI tm)])), (h1, .inl (zC Z 0, iA 8 gY)), (h2, .inl (zC Z 0, iA 8 gW))]
abbrev rm_X3_isGood : Room := { frames := 0, cells := 0, slots := 0, locals := 0 }
set_option maxHeartbeats 8000000 in
theorem ct_X3_isGood (Z : Gz) (h0 h1 h2 : Nat) {gY gW : Nat → Int} {T : List Nat} {sy a m : Nat} (hm8 : m ≤ 8) (hW : ∀ k, k < m → gW k = ((T.getD (a + k) 0 : Nat) : Int)) (hls : ∀ k, k < m → T.getD (a + k) 0 ≤ 7) : CT Z yX3_isGood cX3_isGood 4 (some .boolean) rm_X3_isGood [.ref h0] (wT Z h0 h1 h2 (m : Int) gY gW) (fun v w => (∃ r : Int, v = some (.int (iI r)) ∧ (r = 1 ∧ goodT T a m ∨ r = 0 ∧ ¬ goodT T a m)) ∧ w = (wT Z h0 h1 h2 (m : Int) gY gW)) nopx := by
  refine ct_of (by decide) (Nat.le_of_ble_eq_true rfl) (fun X hK hR => ?_)
  show GO Z X (wT Z h0 h1 h2 (m : Int) gY gW) 0 0 0 [(0, .ref h0)] []
  refine go_iconst hK 0 dX3_isGood_0 ?_
  refine go_istore_n (lo' := [(1, .int (iI 0)), (0, .ref h0)]) hK 1 1 dX3_isGood_1 rfl (by decide) rfl ?_
  refine go_iconst hK 2 dX3_isGood_2 ?_
  refine go_istore_n (lo' := [(2, .int (iI 0)), (1, .int (iI 0)), (0, .ref h0)]) hK 3 2 dX3_isGood_3 rfl (by decide) rfl ?_
  refine go_iconst hK 4 dX3_isGood_4 ?_
  refine go_istore_n (lo' := [(3, .int (iI 0)), (2, .int (iI 0)), (1, .int (iI 0)), (0, .ref h0)]) hK 5 3 dX3_isGood_5 rfl (by decide) rfl ?_
  refine go_lo [3, 2, 1, 0] rfl ?_
  have lp : ∀ (fu : Nat) (i : Nat) (s1 : Int) (n1 : Int) (k : Int), (i ≤ m) → (k = i) → (s1 = ((sumK T a i : Nat) : Int)) → (n1 = ((useK T a i : Nat) : Int)) → m - i < fu → GO Z X (wT Z h0 h1 h2 (m : Int) gY gW) 0 0 6 [(0, .ref h0), (1, .int (iI s1)), (2, .int (iI n1)), (3, .int (iI k))] [] := by
    intro fu
    induction fu with
    | zero => intro i s1 n1 k hi hk hs1 hn1 hm; exact absurd hm (Nat.not_lt_zero _)
    | succ fu ih =>
      intro i s1 n1 k hi hk hs1 hn1 hm
      have hsb : sumK T a i ≤ 2048 := sumK_le T a i (by omega)
      have hub : useK T a i ≤ i := useK_le T a i
      refine go_iload_n hK 6 3 dX3_isGood_6 rfl rfl ?_
      refine go_aload_n hK 7 0 dX3_isGood_7 rfl rfl ?_
      refine go_get hK 8 fl_X3_18 dX3_isGood_8 0 rfl rfl ?_
      refine go_icmp_ge (tgt := 64) hK 11 dX3_isGood_11 (by decide) (by omega) (by omega) (fun c1 => ?_) (fun c1 => ?_)
      · obtain rfl : i = m := by omega
        refine go_iload_n hK 64 1 dX3_isGood_64 rfl rfl ?_
        refine go_sipush hK 65 dX3_isGood_65 (by decide) ?_
        refine go_icmp_eq (tgt := 82) hK 68 dX3_isGood_68 (by decide) (by omega) (by decide) (fun c2 => ?_) (fun c2 => ?_)
        · refine go_iconst hK 82 dX3_isGood_82 ?_
          refine go_goto (tgt := 87) hK 83 dX3_isGood_83 (by decide) ?_
          exact go_zret hK hR.1 87 [] dX3_isGood_87 (by decide) (by decide) rfl rfl ⟨⟨1, rfl, Or.inl ⟨rfl, Or.inl (by omega)⟩⟩, rfl⟩
        · refine go_iload_n hK 71 2 dX3_isGood_71 rfl rfl ?_
          refine go_iconst hK 72 dX3_isGood_72 ?_
          refine go_icmp_ne (tgt := 86) hK 73 dX3_isGood_73 (by decide) (by omega) (by decide) (fun c3 => ?_) (fun c3 => ?_)
          · refine go_iconst hK 86 dX3_isGood_86 ?_
            exact go_zret hK hR.1 87 [] dX3_isGood_87 (by decide) (by decide) rfl rfl ⟨⟨0, rfl, Or.inr ⟨rfl, fun q => (by rcases q with z | z <;> omega)⟩⟩, rfl⟩
          · refine go_iload_n hK 76 1 dX3_isGood_76 rfl rfl ?_
            refine go_bipush hK 77 dX3_isGood_77 (by decide) ?_
            refine go_icmp_ne (tgt := 86) hK 79 dX3_isGood_79 (by decide) (by omega) (by decide) (fun c4 => ?_) (fun c4 => ?_)
            · refine go_iconst hK 86 dX3_isGood_86 ?_
              exact go_zret hK hR.1 87 [] dX3_isGood_87 (by decide) (by decide) rfl rfl ⟨⟨0, rfl, Or.inr ⟨rfl, fun q => (by rcases q with z | z <;> omega)⟩⟩, rfl⟩
            · refine go_iconst hK 82 dX3_isGood_82 ?_
              refine go_goto (tgt := 87) hK 83 dX3_isGood_83 (by decide) ?_
              exact go_zret hK hR.1 87 [] dX3_isGood_87 (by decide) (by decide) rfl rfl ⟨⟨1, rfl, Or.inl ⟨rfl, Or.inr ⟨by omega, by omega⟩⟩⟩, rfl⟩
      · have h9 := hls i (by omega)
        refine go_iload_n hK 14 1 dX3_isGood_14 rfl rfl ?_
        refine go_aload_n hK 15 0 dX3_isGood_15 rfl rfl ?_
        refine go_get hK 16 fl_X3_15 dX3_isGood_16 0 rfl rfl ?_
        refine go_iload_n hK 19 3 dX3_isGood_19 rfl rfl ?_
        refine go_iald hK 20 dX3_isGood_20 2 rfl (by omega) (by decide) ?_
        rw [show gW k.toNat = ((T.getD (a + i) 0 : Nat) : Int) by rw [show k.toNat = i by omega]; exact hW i (by omega)]
        have jn0 : GO Z X (wT Z h0 h1 h2 (m : Int) gY gW) 0 0 39 [(0, .ref h0), (1, .int (iI s1)), (2, .int (iI n1)), (3, .int (iI k))] [.int (iI ((if 0 < T.getD (a + i) 0 then 128 / 2 ^ T.getD (a + i) 0 else 0 : Nat) : Int)), .int (iI s1)] := by
          refine go_iadd hK 39 dX3_isGood_39 ?_
          refine go_istore_n (lo' := [(1, .int (iI (s1 + ((if 0 < T.getD (a + i) 0 then 128 / 2 ^ T.getD (a + i) 0 else 0 : Nat) : Int)))), (0, .ref h0), (2, .int (iI n1)), (3, .int (iI k))]) hK 40 1 dX3_isGood_40 rfl (by decide) rfl ?_
          refine go_iload_n hK 41 2 dX3_isGood_41 rfl rfl ?_
          refine go_aload_n hK 42 0 dX3_isGood_42 rfl rfl ?_
          refine go_get hK 43 fl_X3_15 dX3_isGood_43 0 rfl rfl ?_
          refine go_iload_n hK 46 3 dX3_isGood_46 rfl rfl ?_
          refine go_iald hK 47 dX3_isGood_47 2 rfl (by omega) (by decide) ?_
          rw [show gW k.toNat = ((T.getD (a + i) 0 : Nat) : Int) by rw [show k.toNat = i by omega]; exact hW i (by omega)]
          have jn5 : GO Z X (wT Z h0 h1 h2 (m : Int) gY gW) 0 0 56 [(1, .int (iI (s1 + ((if 0 < T.getD (a + i) 0 then 128 / 2 ^ T.getD (a + i) 0 else 0 : Nat) : Int)))), (0, .ref h0), (2, .int (iI n1)), (3, .int (iI k))] [.int (iI ((if 0 < T.getD (a + i) 0 then 1 else 0 : Nat) : Int)), .int (iI n1)] := by
            refine go_iadd hK 56 dX3_isGood_56 ?_
            refine go_istore_n (lo' := [(2, .int (iI (n1 + ((if 0 < T.getD (a + i) 0 then 1 else 0 : Nat) : Int)))), (1, .int (iI (s1 + ((if 0 < T.getD (a + i) 0 then 128 / 2 ^ T.getD (a + i) 0 else 0 : Nat) : Int)))), (0, .ref h0), (3, .int (iI k))]) hK 57 2 dX3_isGood_57 rfl (by decide) rfl ?_
            refine go_iinc (lo' := [(3, .int (iI (k + 1))), (2, .int (iI (n1 + ((if 0 < T.getD (a + i) 0 then 1 else 0 : Nat) : Int)))), (1, .int (iI (s1 + ((if 0 < T.getD (a + i) 0 then 128 / 2 ^ T.getD (a + i) 0 else 0 : Nat) : Int)))), (0, .ref h0)]) hK 58 3 3 dX3_isGood_58 rfl (by decide) rfl ?_
            refine go_goto (tgt := 6) hK 61 dX3_isGood_61 (by decide) ?_
            refine go_lo [3, 2, 1, 0] rfl ?_
            exact ih (i + 1) (s1 + ((if 0 < T.getD (a + i) 0 then 128 / 2 ^ T.getD (a + i) 0 else 0 : Nat) : Int)) (n1 + ((if 0 < T.getD (a + i) 0 then 1 else 0 : Nat) : Int)) (k + 1) (by omega) (by omega) (by rw [hs1, sumK_s, Int.natCast_add]) (by rw [hn1, useK_s, Int.natCast_add]) (by omega)
          refine go_if_le (tgt := 55) hK 48 dX3_isGood_48 (by decide) (by omega) (fun cj6 => ?_) (fun cj6 => ?_)
          · refine go_iconst hK 55 dX3_isGood_55 ?_
            rw [show ((if 0 < T.getD (a + i) 0 then 1 else 0 : Nat) : Int) = 0 from (by rw [if_neg (by omega)]; rfl)] at jn5
            exact jn5
          · refine go_iconst hK 51 dX3_isGood_51 ?_
            refine go_goto (tgt := 56) hK 52 dX3_isGood_52 (by decide) ?_
            rw [show ((if 0 < T.getD (a + i) 0 then 1 else 0 : Nat) : Int) = 1 from (by rw [if_pos (by omega)]; rfl)] at jn5
            exact jn5
        refine go_if_le (tgt := 38) hK 21 dX3_isGood_21 (by decide) (by omega) (fun c7 => ?_) (fun c7 => ?_)
        · refine go_iconst hK 38 dX3_isGood_38 ?_
          rw [if_neg (by omega)] at jn0
          exact jn0
        · refine go_iconst hK 24 dX3_isGood_24 ?_
          refine go_bipush hK 25 dX3_isGood_25 (by decide) ?_
          refine go_aload_n hK 27 0 dX3_isGood_27 rfl rfl ?_
          refine go_get hK 28 fl_X3_15 dX3_isGood_28 0 rfl rfl ?_
          refine go_iload_n hK 31 3 dX3_isGood_31 rfl rfl ?_
          refine go_iald hK 32 dX3_isGood_32 2 rfl (by omega) (by decide) ?_
          rw [show gW k.toNat = ((T.getD (a + i) 0 : Nat) : Int) by rw [show k.toNat = i by omega]; exact hW i (by omega)]
          refine go_isub hK 33 dX3_isGood_33 ?_
          refine go_ishl (c := ((128 / 2 ^ T.getD (a + i) 0 : Nat) : Int)) hK 34 dX3_isGood_34 (by rw [show ((7 : Int) - ((T.getD (a + i) 0 : Nat) : Int)) = ((7 - T.getD (a + i) 0 : Nat) : Int) by omega, iI_sh1 _ (by omega), shl_of (by omega) h9]) ?_
          refine go_goto (tgt := 39) hK 35 dX3_isGood_35 (by decide) ?_
          rw [if_pos (by omega)] at jn0
          exact jn0
  exact lp _ 0 0 0 0 (by omega) rfl rfl rfl (Nat.lt_succ_self _)

abbrev rm_X3_hasLonger : Room := { frames := 0, cells := 0, slots := 0, locals := 0 }
set_option maxHeartbeats 8000000 in
theorem ct_X3_hasLonger (Z : Gz) (h0 h1 h2 : Nat) {gY gW : Nat → Int} {T : List Nat} {sy a m : Nat} (hm8 : m ≤ 8) (hW : ∀ k, k < m → gW k = ((T.getD (a + k) 0 : Nat) : Int)) (hls : ∀ k, k < m → T.getD (a + k) 0 ≤ 7) {len : Nat} (hln : len ≤ 100) : CT Z yX3_hasLonger cX3_hasLonger 4 (some .boolean) rm_X3_hasLonger [.ref h0, .int (iI (len : Int))] (wT Z h0 h1 h2 (m : Int) gY gW) (fun v w => v = some (.int (iI (b01 (lngN T a len m)))) ∧ w = (wT Z h0 h1 h2 (m : Int) gY gW)) nopx := by
  refine ct_of (by decide) (Nat.le_of_ble_eq_true rfl) (fun X hK hR => ?_)
  show GO Z X (wT Z h0 h1 h2 (m : Int) gY gW) 0 0 0 [(0, .ref h0), (1, .int (iI (len : Int)))] []
  refine go_iconst hK 0 dX3_hasLonger_0 ?_
  refine go_istore_n (lo' := [(2, .int (iI 0)), (0, .ref h0), (1, .int (iI (len : Int)))]) hK 1 2 dX3_hasLonger_1 rfl (by decide) rfl ?_
  refine go_iconst hK 2 dX3_hasLonger_2 ?_
  refine go_istore_n (lo' := [(3, .int (iI 0)), (2, .int (iI 0)), (0, .ref h0), (1, .int (iI (len : Int)))]) hK 3 3 dX3_hasLonger_3 rfl (by decide) rfl ?_
  refine go_lo [2, 3, 1, 0] rfl ?_
  show GO Z X (wT Z h0 h1 h2 (m : Int) gY gW) 0 0 4 [(0, .ref h0), (1, .int (iI (len : Int))), (2, .int (iI (b01 (lngN T a len 0)))), (3, .int (iI 0))] []
  have lp : ∀ (fu : Nat) (i : Nat) (k : Int), (i ≤ m) → (k = i) → m - i < fu → GO Z X (wT Z h0 h1 h2 (m : Int) gY gW) 0 0 4 [(0, .ref h0), (1, .int (iI (len : Int))), (2, .int (iI (b01 (lngN T a len i)))), (3, .int (iI k))] [] := by
    intro fu
    induction fu with
    | zero => intro i k hi hk hm; exact absurd hm (Nat.not_lt_zero _)
    | succ fu ih =>
      intro i k hi hk hm
      refine go_iload_n hK 4 3 dX3_hasLonger_4 rfl rfl ?_
      refine go_aload_n hK 5 0 dX3_hasLonger_5 rfl rfl ?_
      refine go_get hK 6 fl_X3_18 dX3_hasLonger_6 0 rfl rfl ?_
      refine go_icmp_ge (tgt := 36) hK 9 dX3_hasLonger_9 (by decide) (by omega) (by omega) (fun c1 => ?_) (fun c1 => ?_)
      · obtain rfl : i = m := by omega
        refine go_iload_n hK 36 2 dX3_hasLonger_36 rfl rfl ?_
        exact go_zret hK hR.1 37 [] dX3_hasLonger_37 (by decide) (by decide) (iI_z (by have := b01_z (lngN T a len i); omega)) rfl ⟨rfl, rfl⟩
      · have h9 := hls i (by omega)
        refine go_iload_n hK 12 2 dX3_hasLonger_12 rfl rfl ?_
        refine go_aload_n hK 13 0 dX3_hasLonger_13 rfl rfl ?_
        refine go_get hK 14 fl_X3_15 dX3_hasLonger_14 0 rfl rfl ?_
        refine go_iload_n hK 17 3 dX3_hasLonger_17 rfl rfl ?_
        refine go_iald hK 18 dX3_hasLonger_18 2 rfl (by omega) (by decide) ?_
        rw [show gW k.toNat = ((T.getD (a + i) 0 : Nat) : Int) by rw [show k.toNat = i by omega]; exact hW i (by omega)]
        refine go_iload_n hK 19 1 dX3_hasLonger_19 rfl rfl ?_
        have jn2 : GO Z X (wT Z h0 h1 h2 (m : Int) gY gW) 0 0 28 [(0, .ref h0), (1, .int (iI (len : Int))), (2, .int (iI (b01 (lngN T a len i)))), (3, .int (iI k))] [.int (iI (b01 (decide (len < T.getD (a + i) 0)))), .int (iI (b01 (lngN T a len i)))] := by
          refine go_ior (c := b01 (lngN T a len (i + 1))) hK 28 dX3_hasLonger_28 (iI_or01 (lngN T a len i) (decide (len < T.getD (a + i) 0))) ?_
          refine go_istore_n (lo' := [(2, .int (iI (b01 (lngN T a len (i + 1))))), (0, .ref h0), (1, .int (iI (len : Int))), (3, .int (iI k))]) hK 29 2 dX3_hasLonger_29 rfl (by decide) rfl ?_
          refine go_iinc (lo' := [(3, .int (iI (k + 1))), (2, .int (iI (b01 (lngN T a len (i + 1))))), (0, .ref h0), (1, .int (iI (len : Int)))]) hK 30 3 3 dX3_hasLonger_30 rfl (by decide) rfl ?_
          refine go_goto (tgt := 4) hK 33 dX3_hasLonger_33 (by decide) ?_
          refine go_lo [2, 3, 1, 0] rfl ?_
          exact ih (i + 1) (k + 1) (by omega) (by omega) (by omega)
        refine go_icmp_le (tgt := 27) hK 20 dX3_hasLonger_20 (by decide) (by omega) (by omega) (fun cj3 => ?_) (fun cj3 => ?_)
        · refine go_iconst hK 27 dX3_hasLonger_27 ?_
          rw [show (b01 (decide (len < T.getD (a + i) 0))) = 0 from (by rw [decide_eq_false (by omega)]; rfl)] at jn2
          exact jn2
        · refine go_iconst hK 23 dX3_hasLonger_23 ?_
          refine go_goto (tgt := 28) hK 24 dX3_hasLonger_24 (by decide) ?_
          rw [show (b01 (decide (len < T.getD (a + i) 0))) = 1 from (by rw [decide_eq_true (by omega)]; rfl)] at jn2
          exact jn2
  exact lp _ 0 0 (by omega) rfl (Nat.lt_succ_self _)

abbrev rm_X3_find : Room := { frames := 0, cells := 0, slots := 0, locals := 0 }
set_option maxHeartbeats 8000000 in
theorem ct_X3_find (Z : Gz) (h0 h1 h2 : Nat) {gY gW : Nat → Int} {T : List Nat} {sy a m : Nat} (hm8 : m ≤ 8) (hW : ∀ k, k < m → gW k = ((T.getD (a + k) 0 : Nat) : Int)) (hls : ∀ k, k < m → T.getD (a + k) 0 ≤ 7) (hY : ∀ k, k < m → gY k = ((T.getD (sy + k) 0 : Nat) : Int)) {code len : Nat} (hln : 1 ≤ len ∧ len ≤ 7) (hcd : code ≤ 100000) : CT Z yX3_find cX3_find 6 (some .int) rm_X3_find [.ref h0, .int (iI (code : Int)), .int (iI (len : Int))] (wT Z h0 h1 h2 (m : Int) gY gW) (fun v w => v = some (.int (iI (fndZ T sy a m len code))) ∧ w = (wT Z h0 h1 h2 (m : Int) gY gW)) nopx := by
  refine ct_of (by decide) (Nat.le_of_ble_eq_true rfl) (fun X hK hR => ?_)
  show GO Z X (wT Z h0 h1 h2 (m : Int) gY gW) 0 0 0 [(0, .ref h0), (1, .int (iI (code : Int))), (2, .int (iI (len : Int)))] []
  have hbc := basC_le T a m hm8
  refine go_iconst hK 0 dX3_find_0 ?_
  refine go_istore_n (lo' := [(3, .int (iI 0)), (0, .ref h0), (1, .int (iI (code : Int))), (2, .int (iI (len : Int)))]) hK 1 3 dX3_find_1 rfl (by decide) rfl ?_
  refine go_iconst hK 2 dX3_find_2 ?_
  refine go_istore (lo' := [(4, .int (iI 1)), (3, .int (iI 0)), (0, .ref h0), (1, .int (iI (code : Int))), (2, .int (iI (len : Int)))]) hK 3 4 dX3_find_3 (by decide) rfl ?_
  refine go_lo [2, 3, 4, 1, 0] rfl ?_
  have lp : ∀ (fu : Nat) (j : Nat) (nx : Nat) (l : Int), (1 ≤ j ∧ j ≤ len + 1) → (l = j) → (2 * nx = basC T a m j) → (j = len + 1 → fndN T a m len code m = none) → len + 1 - j < fu → GO Z X (wT Z h0 h1 h2 (m : Int) gY gW) 0 0 5 [(0, .ref h0), (1, .int (iI (code : Int))), (2, .int (iI (len : Int))), (3, .int (iI (nx : Int))), (4, .int (iI l))] [] := by
    intro fu
    induction fu with
    | zero => intro j nx l hj hl hc1 hf1 hm; exact absurd hm (Nat.not_lt_zero _)
    | succ fu ih =>
      intro j nx l hj hl hc1 hf1 hm
      refine go_iload hK 5 4 dX3_find_5 rfl ?_
      refine go_iload_n hK 7 2 dX3_find_7 rfl rfl ?_
      refine go_icmp_gt (tgt := 73) hK 8 dX3_find_8 (by decide) (by omega) (by omega) (fun c1 => ?_) (fun c1 => ?_)
      · refine go_iconst hK 73 dX3_find_73 ?_
        exact go_iret hK hR.1 74 [] dX3_find_74 (by decide) (by decide) rfl ⟨by rw [show fndZ T sy a m len code = -1 by unfold fndZ; rw [hf1 (by omega)]], rfl⟩
      · have hbj := hbc j
        have hpj : 2 ^ j ≤ 2 ^ 7 := Nat.pow_le_pow_right (by omega) (by omega)
        refine go_iload_n hK 11 3 dX3_find_11 rfl rfl ?_
        refine go_iconst hK 12 dX3_find_12 ?_
        refine go_ishl (c := ((2 * nx : Nat) : Int)) hK 13 dX3_find_13 (iI_dbl nx (by omega)) ?_
        refine go_istore_n (lo' := [(3, .int (iI ((2 * nx : Nat) : Int))), (0, .ref h0), (1, .int (iI (code : Int))), (2, .int (iI (len : Int))), (4, .int (iI l))]) hK 14 3 dX3_find_14 rfl (by decide) rfl ?_
        refine go_iconst hK 15 dX3_find_15 ?_
        refine go_istore (lo' := [(5, .int (iI 0)), (3, .int (iI ((2 * nx : Nat) : Int))), (0, .ref h0), (1, .int (iI (code : Int))), (2, .int (iI (len : Int))), (4, .int (iI l))]) hK 16 5 dX3_find_16 (by decide) rfl ?_
        rw [hc1]
        refine go_lo [2, 3, 4, 1, 5, 0] rfl ?_
        have lp2 : ∀ (fu : Nat) (i : Nat) (k : Int), (i ≤ m) → (k = i) → (j = len → fndN T a m len code i = none) → m - i < fu → GO Z X (wT Z h0 h1 h2 (m : Int) gY gW) 0 0 18 [(0, .ref h0), (1, .int (iI (code : Int))), (2, .int (iI (len : Int))), (3, .int (iI ((basC T a m j + cntL T a j i : Nat) : Int))), (4, .int (iI l)), (5, .int (iI k))] [] := by
          intro fu
          induction fu with
          | zero => intro i k hi hk hf2 hm; exact absurd hm (Nat.not_lt_zero _)
          | succ fu ih2 =>
            intro i k hi hk hf2 hm
            refine go_iload hK 18 5 dX3_find_18 rfl ?_
            refine go_aload_n hK 20 0 dX3_find_20 rfl rfl ?_
            refine go_get hK 21 fl_X3_18 dX3_find_21 0 rfl rfl ?_
            have hci := cntL_le T a j i
            refine go_icmp_ge (tgt := 67) hK 24 dX3_find_24 (by decide) (by omega) (by omega) (fun c2 => ?_) (fun c2 => ?_)
            · obtain rfl : i = m := by omega
              refine go_iinc (lo' := [(4, .int (iI (l + 1))), (0, .ref h0), (1, .int (iI (code : Int))), (2, .int (iI (len : Int))), (3, .int (iI ((basC T a i j + cntL T a j i : Nat) : Int))), (5, .int (iI k))]) hK 67 4 4 dX3_find_67 rfl (by decide) rfl ?_
              refine go_goto (tgt := 5) hK 70 dX3_find_70 (by decide) ?_
              refine go_lo [1, 2, 3, 4, 0] rfl ?_
              exact ih (j + 1) (basC T a i j + cntL T a j i) (l + 1) (by omega) (by omega) (by rw [basC_succ]; unfold endC; rw [if_neg (by omega)]) (fun z => hf2 (by omega)) (by omega)
            · have h9 := hls i (by omega)
              refine go_aload_n hK 27 0 dX3_find_27 rfl rfl ?_
              refine go_get hK 28 fl_X3_15 dX3_find_28 0 rfl rfl ?_
              refine go_iload hK 31 5 dX3_find_31 rfl ?_
              refine go_iald hK 33 dX3_find_33 2 rfl (by omega) (by decide) ?_
              rw [show gW k.toNat = ((T.getD (a + i) 0 : Nat) : Int) by rw [show k.toNat = i by omega]; exact hW i (by omega)]
              refine go_iload hK 34 4 dX3_find_34 rfl ?_
              refine go_icmp_ne (tgt := 61) hK 36 dX3_find_36 (by decide) (by omega) (by omega) (fun c3 => ?_) (fun c3 => ?_)
              · refine go_iinc (lo' := [(5, .int (iI (k + 1))), (0, .ref h0), (1, .int (iI (code : Int))), (2, .int (iI (len : Int))), (3, .int (iI ((basC T a m j + cntL T a j i : Nat) : Int))), (4, .int (iI l))]) hK 61 5 5 dX3_find_61 rfl (by decide) rfl ?_
                refine go_goto (tgt := 18) hK 64 dX3_find_64 (by decide) ?_
                refine go_lo [1, 2, 3, 4, 5, 0] rfl ?_
                rw [show ((basC T a m j + cntL T a j i : Nat) : Int) = ((basC T a m j + cntL T a j (i + 1) : Nat) : Int) by show _ = ((basC T a m j + (cntL T a j i + if T.getD (a + i) 0 = j then 1 else 0) : Nat) : Int); rw [if_neg (by omega)]; omega]
                exact ih2 (i + 1) (k + 1) (by omega) (by omega) (fun z => by unfold fndN; rw [hf2 z]; dsimp only; rw [if_neg (fun y => by omega)]) (by omega)
              · refine go_iload hK 39 4 dX3_find_39 rfl ?_
                refine go_iload_n hK 41 2 dX3_find_41 rfl rfl ?_
                refine go_icmp_ne (tgt := 58) hK 42 dX3_find_42 (by decide) (by omega) (by omega) (fun c4 => ?_) (fun c4 => ?_)
                · refine go_iinc (lo' := [(3, .int (iI (((basC T a m j + cntL T a j i : Nat) : Int) + 1))), (0, .ref h0), (1, .int (iI (code : Int))), (2, .int (iI (len : Int))), (4, .int (iI l)), (5, .int (iI k))]) hK 58 3 3 dX3_find_58 rfl (by decide) rfl ?_
                  refine go_iinc (lo' := [(5, .int (iI (k + 1))), (3, .int (iI (((basC T a m j + cntL T a j i : Nat) : Int) + 1))), (0, .ref h0), (1, .int (iI (code : Int))), (2, .int (iI (len : Int))), (4, .int (iI l))]) hK 61 5 5 dX3_find_61 rfl (by decide) rfl ?_
                  refine go_goto (tgt := 18) hK 64 dX3_find_64 (by decide) ?_
                  refine go_lo [2, 3, 4, 1, 5, 0] rfl ?_
                  rw [show ((basC T a m j + cntL T a j i : Nat) : Int) + 1 = ((basC T a m j + cntL T a j (i + 1) : Nat) : Int) by show _ = ((basC T a m j + (cntL T a j i + if T.getD (a + i) 0 = j then 1 else 0) : Nat) : Int); rw [if_pos (by omega)]; omega]
                  exact ih2 (i + 1) (k + 1) (by omega) (by omega) (fun z => absurd z (by omega)) (by omega)
                · refine go_iload_n hK 45 3 dX3_find_45 rfl rfl ?_
                  refine go_iload_n hK 46 1 dX3_find_46 rfl rfl ?_
                  refine go_icmp_ne (tgt := 58) hK 47 dX3_find_47 (by decide) (by omega) (by omega) (fun c5 => ?_) (fun c5 => ?_)
                  · refine go_iinc (lo' := [(3, .int (iI (((basC T a m j + cntL T a j i : Nat) : Int) + 1))), (0, .ref h0), (1, .int (iI (code : Int))), (2, .int (iI (len : Int))), (4, .int (iI l)), (5, .int (iI k))]) hK 58 3 3 dX3_find_58 rfl (by decide) rfl ?_
                    refine go_iinc (lo' := [(5, .int (iI (k + 1))), (3, .int (iI (((basC T a m j + cntL T a j i : Nat) : Int) + 1))), (0, .ref h0), (1, .int (iI (code : Int))), (2, .int (iI (len : Int))), (4, .int (iI l))]) hK 61 5 5 dX3_find_61 rfl (by decide) rfl ?_
                    refine go_goto (tgt := 18) hK 64 dX3_find_64 (by decide) ?_
                    refine go_lo [2, 3, 4, 1, 5, 0] rfl ?_
                    rw [show ((basC T a m j + cntL T a j i : Nat) : Int) + 1 = ((basC T a m j + cntL T a j (i + 1) : Nat) : Int) by show _ = ((basC T a m j + (cntL T a j i + if T.getD (a + i) 0 = j then 1 else 0) : Nat) : Int); rw [if_pos (by omega)]; omega]
                    exact ih2 (i + 1) (k + 1) (by omega) (by omega) (fun z => by unfold fndN; rw [hf2 z]; dsimp only; rw [if_neg (fun y => by obtain ⟨y1, y2⟩ := y; subst z; omega)]) (by omega)
                  · obtain rfl : j = len := by omega
                    have hf4 : fndN T a m j code (i + 1) = some i := by unfold fndN; rw [hf2 rfl]; dsimp only; rw [if_pos ⟨by omega, by omega⟩]
                    have hf5 := fndN_up hf4 (m - (i + 1))
                    rw [show i + 1 + (m - (i + 1)) = m by omega] at hf5
                    have hz : fndZ T sy a m j code = ((T.getD (sy + i) 0 : Nat) : Int) := by unfold fndZ; rw [hf5]
                    refine go_aload_n hK 50 0 dX3_find_50 rfl rfl ?_
                    refine go_get hK 51 fl_X3_9 dX3_find_51 0 rfl rfl ?_
                    refine go_iload hK 54 5 dX3_find_54 rfl ?_
                    refine go_iald hK 56 dX3_find_56 1 rfl (by omega) (by decide) ?_
                    rw [show gY k.toNat = ((T.getD (sy + i) 0 : Nat) : Int) by rw [show k.toNat = i by omega]; exact hY i (by omega)]
                    exact go_iret hK hR.1 57 [] dX3_find_57 (by decide) (by decide) rfl ⟨by rw [hz], rfl⟩
        exact lp2 _ 0 0 (by omega) rfl (fun _ => rfl) (Nat.lt_succ_self _)
  exact lp _ 1 0 1 (by omega) rfl rfl (fun z => absurd z (by omega)) (Nat.lt_succ_self _)

