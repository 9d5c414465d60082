/-! a scope's coded items (printed by gen/c5.py) -/
set_option maxRecDepth 100000
abbrev rm_X5_bits : Room := { frames := 2, cells := 0, slots := 0, locals := 43 }
set_option maxHeartbeats 8000000 in
theorem ct_X5_bits (Z : Gz) (p : Nat → Nat) {sd : Int64} {ed im de re pk fa pl rd sz s2 os tk tp : Int} {gT gS gO gY gW gE gI : Nat → Int} {sc : Nat → Sc} {d : Nat} {T O : List Nat} {u2 M L E q o0 b0 sy a m bg n : Nat} (hd8 : d ≤ 8) (hRS : RSc T O u2 M L sz os gT gO) (heT : E ≤ T.length) (hbg : q < bg ∧ bg ≤ E) (hm8 : m ≤ 8) (hW : ∀ k, k < m → gW k = ((T.getD (a + k) 0 : Nat) : Int)) (hY : ∀ k, k < m → gY k = ((T.getD (sy + k) 0 : Nat) : Int)) (hls : ∀ k, k < m → T.getD (a + k) 0 ≤ 7) (hn : O.length + n ≤ M) : CT Z yX5_bits cX5_bits 9 none rm_X5_bits [.ref (p (15 + d)), .int (iI (n : Int))] (wS Z p sd ed im (M : Int) (L : Int) de (u2 : Int) re pk fa pl rd sz s2 os (m : Int) tk tp gT gS gO gY gW gE gI sc d (E : Int) (o0 : Int) (b0 : Int) (bg : Int) (q : Int)) (fun v w => v = none ∧ cRes Z p sd ed im (M : Int) (L : Int) de (u2 : Int) re pk fa pl rd sz s2 os (m : Int) tk tp gT gS gO gY gW gE gI sc d (E : Int) (o0 : Int) (b0 : Int) (bg : Int) (q : Int) (spBits T E sy a m n (8 * bg) O u2) w) (fun qx w => qx = p 11 ∧ cErr Z p sd ed im (M : Int) (L : Int) de (u2 : Int) re pk fa pl rd sz s2 os (m : Int) tk tp gT gS gO gY gW gE gI sc d (E : Int) (o0 : Int) (b0 : Int) (bg : Int) (q : Int) (spBits T E sy a m n (8 * bg) O u2) w) := by
  refine ct_of (by decide) (Nat.le_of_ble_eq_true rfl) (fun X hK hR => ?_)
  show GO Z X (wS Z p sd ed im (M : Int) (L : Int) de (u2 : Int) re pk fa pl rd sz s2 os (m : Int) tk tp gT gS gO gY gW gE gI sc d (E : Int) (o0 : Int) (b0 : Int) (bg : Int) (q : Int)) 0 0 0 [(0, .ref (p (15 + d))), (1, .int (iI (n : Int)))] []
  obtain ⟨hT, hTl, hT8, hO, hOM, hM4, huL, hL2⟩ := hRS
  have hOl := hO.1
  refine go_iconst hK 0 dX5_bits_0 ?_
  refine go_istore_n (lo' := [(2, .int (iI 0)), (0, .ref (p (15 + d))), (1, .int (iI (n : Int)))]) hK 1 2 dX5_bits_1 rfl (by decide) rfl ?_
  refine go_iconst hK 2 dX5_bits_2 ?_
  refine go_istore_n (lo' := [(3, .int (iI 0)), (2, .int (iI 0)), (0, .ref (p (15 + d))), (1, .int (iI (n : Int)))]) hK 3 3 dX5_bits_3 rfl (by decide) rfl ?_
  refine go_iconst hK 4 dX5_bits_4 ?_
  refine go_istore (lo' := [(4, .int (iI 0)), (3, .int (iI 0)), (2, .int (iI 0)), (0, .ref (p (15 + d))), (1, .int (iI (n : Int)))]) hK 5 4 dX5_bits_5 (by decide) rfl ?_
  refine go_lo [3, 4, 2, 1, 0] rfl ?_
  have lp : ∀ (fu : Nat) (i : Nat) (bp : Nat) (hl : Nat) (ki : Int) (O1 : List Nat) (os1 : Int) (gO1 : Nat → Int), (i ≤ n) → (ki = i) → (O1.length = O.length + i) → (8 * bg ≤ bp ∧ bp ≤ 8 * E) → (hl < 256) → (bp % 8 ≠ 0 → hl = T.getD (bp / 8) 0) → (pB O1 os1 gO1) → (spBitN T E sy a m n (8 * bg) O = spBitN T E sy a m (n - i) bp O1) → n - i < fu → GO Z X (wS Z p sd ed im (M : Int) (L : Int) de (u2 : Int) re pk fa pl rd sz s2 os1 (m : Int) tk tp gT gS gO1 gY gW gE gI sc d (E : Int) (o0 : Int) (b0 : Int) (((bp + 7) / 8 : Nat) : Int) (q : Int)) 0 0 7 [(0, .ref (p (15 + d))), (1, .int (iI (n : Int))), (2, .int (iI (((8 - bp % 8) % 8 : Nat) : Int))), (3, .int (iI (hl : Int))), (4, .int (iI ki))] [] := by
    intro fu
    induction fu with
    | zero => intro i bp hl ki O1 os1 gO1 hi hki hO1 hbp hl8 hhl hp1 hB hm; exact absurd hm (Nat.not_lt_zero _)
    | succ fu ih =>
      intro i bp hl ki O1 os1 gO1 hi hki hO1 hbp hl8 hhl hp1 hB hm
      have hz1 := hp1.1
      refine go_iload hK 7 4 dX5_bits_7 rfl ?_
      refine go_iload_n hK 9 1 dX5_bits_9 rfl rfl ?_
      refine go_icmp_ge (tgt := 151) hK 10 dX5_bits_10 (by decide) (by omega) (by omega) (fun c1 => ?_) (fun c1 => ?_)
      · have hn0 : n - i = 0 := by omega
        rw [hn0] at hB
        have hB2 : spBitN T E sy a m n (8 * bg) O = .ok (bp, O1) := hB
        refine go_aload_n hK 151 0 dX5_bits_151 rfl rfl ?_
        refine go_get hK 152 fl_X5_3 dX5_bits_152 (15 + d) (wS_sc hd8) rfl ?_
        refine go_iload_n hK 155 3 dX5_bits_155 rfl rfl ?_
        refine go_iconst hK 156 dX5_bits_156 ?_
        refine go_iload_n hK 157 2 dX5_bits_157 rfl rfl ?_
        refine go_ishl (c := ((2 ^ ((8 - bp % 8) % 8) : Nat) : Int)) hK 158 dX5_bits_158 (iI_sh1 _ (by omega)) ?_
        have hpp := Nat.two_pow_pos ((8 - bp % 8) % 8)
        refine go_iconst hK 159 dX5_bits_159 ?_
        refine go_isub hK 160 dX5_bits_160 ?_
        rw [show ((2 ^ ((8 - bp % 8) % 8) : Nat) : Int) - 1 = ((2 ^ ((8 - bp % 8) % 8) - 1 : Nat) : Int) by omega]
        refine go_iand (c := (hl : Int) % ((2 ^ ((8 - bp % 8) % 8) : Nat) : Int)) hK 161 dX5_bits_161 (iI_msk (by omega)) ?_
        rw [show (hl : Int) % ((2 ^ ((8 - bp % 8) % 8) : Nat) : Int) = ((hl % 2 ^ ((8 - bp % 8) % 8) : Nat) : Int) by rw [Int.natCast_emod]]
        have hmm := Nat.mod_le hl (2 ^ ((8 - bp % 8) % 8))
        refine go_if_ne (tgt := 169) hK 162 dX5_bits_162 (by decide) (by omega) (fun c9 => ?_) (fun c9 => ?_)
        · refine go_iconst hK 169 dX5_bits_169 ?_
          refine go_bipush hK 170 dX5_bits_170 (by decide) ?_
          refine go_aload_n hK 172 0 dX5_bits_172 rfl rfl ?_
          refine go_get hK 173 fl_X5_19 dX5_bits_173 (15 + d) (wS_sc hd8) rfl ?_
          refine go_iconst hK 176 dX5_bits_176 ?_
          refine go_isub hK 177 dX5_bits_177 ?_
          refine go_callVN (As := [.int (iI 0), .int (iI 8), .int (iI ((((bp + 7) / 8 : Nat) : Int) - 1))]) (rest := []) hK hR 178 (ct_need0 Z p) q96 q42 q93n q95 qs1 gn_X1_need rfl dX5_bits_178 gSel_all ⟨0, 0, _, _, _, rfl, rfl⟩ rfl (Nat.le_of_ble_eq_true rfl) ⟨(by decide), (by decide)⟩ (fun _ _ _ hx hm => by obtain ⟨rfl, rfl⟩ := hx; exact ⟨⟨[], (List.append_nil _).symm⟩, (by have q1 : bp % 8 ≠ 0 := fun z => (by rw [show (8 - bp % 8) % 8 = 0 by omega] at c9; simp [Nat.mod_one] at c9); rw [show (8 - bp % 8) % 8 = 8 - bp % 8 by omega, hhl q1] at c9; exact ⟨rfl, cErr_er (k := 8) (p' := bp / 8) (by unfold spBits; rw [hB2]; dsimp only; rw [show spTail T bp = some (8, bp / 8) by unfold spTail; rw [if_pos ⟨q1, by omega⟩]]) ⟨_, _, _, _, _, _, hp1, (by rw [show ((((bp + 7) / 8 : Nat) : Int)) - 1 = ((bp / 8 : Nat) : Int) by omega]; rfl)⟩⟩)⟩) (fun v w1 h => ?_)
          exact h.elim
        · refine go_iconst hK 165 dX5_bits_165 ?_
          refine go_goto (tgt := 170) hK 166 dX5_bits_166 (by decide) ?_
          refine go_bipush hK 170 dX5_bits_170 (by decide) ?_
          refine go_aload_n hK 172 0 dX5_bits_172 rfl rfl ?_
          refine go_get hK 173 fl_X5_19 dX5_bits_173 (15 + d) (wS_sc hd8) rfl ?_
          refine go_iconst hK 176 dX5_bits_176 ?_
          refine go_isub hK 177 dX5_bits_177 ?_
          refine go_callVN (As := [.int (iI 1), .int (iI 8), .int (iI ((((bp + 7) / 8 : Nat) : Int) - 1))]) (rest := []) hK hR 178 (ct_need1 Z p) q96 q42 q93n q95 qs1 gn_X1_need rfl dX5_bits_178 gSel_all ⟨0, 0, _, _, _, rfl, rfl⟩ rfl (Nat.le_of_ble_eq_true rfl) ⟨(by decide), (by decide)⟩ (fun _ _ _ h => h.elim) (fun v w1 h => ?_)
          obtain ⟨rfl, rfl⟩ := h
          show GO Z X (wS Z p sd ed im (M : Int) (L : Int) de (u2 : Int) re pk fa pl rd sz s2 os1 (m : Int) tk tp gT gS gO1 gY gW gE gI sc d (E : Int) (o0 : Int) (b0 : Int) (((bp + 7) / 8 : Nat) : Int) (q : Int)) 0 0 181 [(0, .ref (p (15 + d))), (1, .int (iI (n : Int))), (2, .int (iI (((8 - bp % 8) % 8 : Nat) : Int))), (3, .int (iI (hl : Int))), (4, .int (iI ki))] []
          have ht9 : spTail T bp = none := by unfold spTail; rw [if_neg]; rintro ⟨q1, q2⟩; rw [show (8 - bp % 8) % 8 = 8 - bp % 8 by omega, hhl q1] at c9; omega
          exact go_vret hK hR.1 181 [] dX5_bits_181 (by decide) (by decide) rfl ⟨rfl, cRes_ok (q' := (bp + 7) / 8) (O' := O1) (u' := u2) (by unfold spBits; rw [hB2]; dsimp only; rw [ht9]) ⟨_, _, _, _, _, hp1, rfl⟩⟩
      · obtain ⟨r, hr⟩ : ∃ r, n - i = r + 1 := ⟨n - i - 1, by omega⟩
        rw [hr] at hB
        have hB2 : spBitN T E sy a m n (8 * bg) O = (match spSym T E a m 9 (bp / 8) bp 0 0 with | .error (k, p) => .error (k, p, O1) | .ok (k, bp') => spBitN T E sy a m r bp' (O1 ++ [T.getD (sy + k) 0])) := hB
        refine go_iconst hK 13 dX5_bits_13 ?_
        refine go_istore (lo' := [(5, .int (iI 0)), (0, .ref (p (15 + d))), (1, .int (iI (n : Int))), (2, .int (iI (((8 - bp % 8) % 8 : Nat) : Int))), (3, .int (iI (hl : Int))), (4, .int (iI ki))]) hK 14 5 dX5_bits_14 (by decide) rfl ?_
        refine go_iconst hK 16 dX5_bits_16 ?_
        refine go_istore (lo' := [(6, .int (iI 0)), (5, .int (iI 0)), (0, .ref (p (15 + d))), (1, .int (iI (n : Int))), (2, .int (iI (((8 - bp % 8) % 8 : Nat) : Int))), (3, .int (iI (hl : Int))), (4, .int (iI ki))]) hK 17 6 dX5_bits_17 (by decide) rfl ?_
        refine go_iconst hK 19 dX5_bits_19 ?_
        refine go_istore (lo' := [(7, .int (iI (-1))), (6, .int (iI 0)), (5, .int (iI 0)), (0, .ref (p (15 + d))), (1, .int (iI (n : Int))), (2, .int (iI (((8 - bp % 8) % 8 : Nat) : Int))), (3, .int (iI (hl : Int))), (4, .int (iI ki))]) hK 20 7 dX5_bits_20 (by decide) rfl ?_
        refine go_iload_n hK 22 2 dX5_bits_22 rfl rfl ?_
        have jn2 : GO Z X (wS Z p sd ed im (M : Int) (L : Int) de (u2 : Int) re pk fa pl rd sz s2 os1 (m : Int) tk tp gT gS gO1 gY gW gE gI sc d (E : Int) (o0 : Int) (b0 : Int) (((bp + 7) / 8 : Nat) : Int) (q : Int)) 0 0 39 [(7, .int (iI (-1))), (6, .int (iI 0)), (5, .int (iI 0)), (0, .ref (p (15 + d))), (1, .int (iI (n : Int))), (2, .int (iI (((8 - bp % 8) % 8 : Nat) : Int))), (3, .int (iI (hl : Int))), (4, .int (iI ki))] [.int (iI ((bp / 8 : Nat) : Int))] := by
          refine go_istore (lo' := [(8, .int (iI ((bp / 8 : Nat) : Int))), (7, .int (iI (-1))), (6, .int (iI 0)), (5, .int (iI 0)), (0, .ref (p (15 + d))), (1, .int (iI (n : Int))), (2, .int (iI (((8 - bp % 8) % 8 : Nat) : Int))), (3, .int (iI (hl : Int))), (4, .int (iI ki))]) hK 39 8 dX5_bits_39 (by decide) rfl ?_
          refine go_lo [4, 5, 8, 6, 7, 3, 2, 1, 0] rfl ?_
          have lp2 : ∀ (fu : Nat) (cu : Nat) (cd : Nat) (len : Nat) (f : Nat) (h2 : Nat), (f + 1 + len = 9) → (len ≤ 6) → (bp ≤ cu ∧ cu ≤ 8 * E) → (h2 < 256) → (cu % 8 ≠ 0 → h2 = T.getD (cu / 8) 0) → (cd < 2 ^ len) → (spSym T E a m 9 (bp / 8) bp 0 0 = spSym T E a m (f + 1) (bp / 8) cu len cd) → 7 - len < fu → GO Z X (wS Z p sd ed im (M : Int) (L : Int) de (u2 : Int) re pk fa pl rd sz s2 os1 (m : Int) tk tp gT gS gO1 gY gW gE gI sc d (E : Int) (o0 : Int) (b0 : Int) (((cu + 7) / 8 : Nat) : Int) (q : Int)) 0 0 41 [(0, .ref (p (15 + d))), (1, .int (iI (n : Int))), (4, .int (iI ki)), (2, .int (iI (((8 - cu % 8) % 8 : Nat) : Int))), (3, .int (iI (h2 : Int))), (5, .int (iI (cd : Int))), (6, .int (iI (len : Int))), (7, .int (iI (-1))), (8, .int (iI ((bp / 8 : Nat) : Int)))] [] := by
            intro fu
            induction fu with
            | zero => intro cu cd len f h2 hf hlen hcu hh8 hh2 hcd hS hm; exact absurd hm (Nat.not_lt_zero _)
            | succ fu ih2 =>
              intro cu cd len f h2 hf hlen hcu hh8 hh2 hcd hS hm
              refine go_iload hK 41 7 dX5_bits_41 rfl ?_
              refine go_iconst hK 43 dX5_bits_43 ?_
              refine go_icmp_ne (tgt := 133) hK 44 dX5_bits_44 (by decide) (by decide) (by decide) (fun q => absurd q (by decide)) (fun _ => ?_)
              refine go_iload_n hK 47 2 dX5_bits_47 rfl rfl ?_
              have jn : cu / 8 < E → GO Z X (wS Z p sd ed im (M : Int) (L : Int) de (u2 : Int) re pk fa pl rd sz s2 os1 (m : Int) tk tp gT gS gO1 gY gW gE gI sc d (E : Int) (o0 : Int) (b0 : Int) ((cu / 8 + 1 : Nat) : Int) (q : Int)) 0 0 59 [(0, .ref (p (15 + d))), (1, .int (iI (n : Int))), (4, .int (iI ki)), (2, .int (iI ((8 - cu % 8 : Nat) : Int))), (3, .int (iI ((T.getD (cu / 8) 0 : Nat) : Int))), (5, .int (iI (cd : Int))), (6, .int (iI (len : Int))), (7, .int (iI (-1))), (8, .int (iI ((bp / 8 : Nat) : Int)))] [] := by
                intro hcE
                have h89 := hT8 (cu / 8)
                have hbt := bitT_lt T cu
                refine go_iinc (lo' := [(2, .int (iI (((8 - cu % 8 : Nat) : Int) + (-1)))), (0, .ref (p (15 + d))), (1, .int (iI (n : Int))), (4, .int (iI ki)), (3, .int (iI ((T.getD (cu / 8) 0 : Nat) : Int))), (5, .int (iI (cd : Int))), (6, .int (iI (len : Int))), (7, .int (iI (-1))), (8, .int (iI ((bp / 8 : Nat) : Int)))]) hK 59 2 3 dX5_bits_59 rfl (by decide) rfl ?_
                refine go_iconst hK 62 dX5_bits_62 ?_
                refine go_iload hK 63 5 dX5_bits_63 rfl ?_
                refine go_imul hK 65 dX5_bits_65 ?_
                refine go_iload_n hK 66 3 dX5_bits_66 rfl rfl ?_
                refine go_iload_n hK 67 2 dX5_bits_67 rfl rfl ?_
                refine go_ishr (c := ((T.getD (cu / 8) 0 / 2 ^ (7 - cu % 8) : Nat) : Int)) hK 68 dX5_bits_68 (by rw [show ((8 - cu % 8 : Nat) : Int) + (-1) = ((7 - cu % 8 : Nat) : Int) by omega, iI_shr ⟨by omega, by omega⟩ (by omega)]; rfl) ?_
                refine go_iconst hK 69 dX5_bits_69 ?_
                refine go_iand hK 70 dX5_bits_70 (iI_1 _) ?_
                show GO Z X (wS Z p sd ed im (M : Int) (L : Int) de (u2 : Int) re pk fa pl rd sz s2 os1 (m : Int) tk tp gT gS gO1 gY gW gE gI sc d (E : Int) (o0 : Int) (b0 : Int) ((cu / 8 + 1 : Nat) : Int) (q : Int)) 0 0 71 [(2, .int (iI (((8 - cu % 8 : Nat) : Int) + (-1)))), (0, .ref (p (15 + d))), (1, .int (iI (n : Int))), (4, .int (iI ki)), (3, .int (iI ((T.getD (cu / 8) 0 : Nat) : Int))), (5, .int (iI (cd : Int))), (6, .int (iI (len : Int))), (7, .int (iI (-1))), (8, .int (iI ((bp / 8 : Nat) : Int)))] [.int (iI ((bitT T cu : Nat) : Int)), .int (iI (2 * (cd : Int)))]
                refine go_iadd hK 71 dX5_bits_71 ?_
                rw [show 2 * (cd : Int) + ((bitT T cu : Nat) : Int) = ((2 * cd + bitT T cu : Nat) : Int) by push_cast; rfl]
                refine go_istore (lo' := [(5, .int (iI ((2 * cd + bitT T cu : Nat) : Int))), (2, .int (iI (((8 - cu % 8 : Nat) : Int) + (-1)))), (0, .ref (p (15 + d))), (1, .int (iI (n : Int))), (4, .int (iI ki)), (3, .int (iI ((T.getD (cu / 8) 0 : Nat) : Int))), (6, .int (iI (len : Int))), (7, .int (iI (-1))), (8, .int (iI ((bp / 8 : Nat) : Int)))]) hK 72 5 dX5_bits_72 (by decide) rfl ?_
                refine go_iinc (lo' := [(6, .int (iI ((len : Int) + 1))), (5, .int (iI ((2 * cd + bitT T cu : Nat) : Int))), (2, .int (iI (((8 - cu % 8 : Nat) : Int) + (-1)))), (0, .ref (p (15 + d))), (1, .int (iI (n : Int))), (4, .int (iI ki)), (3, .int (iI ((T.getD (cu / 8) 0 : Nat) : Int))), (7, .int (iI (-1))), (8, .int (iI ((bp / 8 : Nat) : Int)))]) hK 74 6 6 dX5_bits_74 rfl (by decide) rfl ?_
                refine go_aload_n hK 77 0 dX5_bits_77 rfl rfl ?_
                refine go_get hK 78 fl_X5_3 dX5_bits_78 (15 + d) (wS_sc hd8) rfl ?_
                refine go_getN hK 81 fl_X5_135 dX5_bits_81 0 rfl rfl ?_
                refine go_iload hK 84 5 dX5_bits_84 rfl ?_
                refine go_iload hK 86 6 dX5_bits_86 rfl ?_
                obtain ⟨cd2, hcd2⟩ : ∃ x, x = 2 * cd + bitT T cu := ⟨_, rfl⟩
                rw [← hcd2]
                rw [show (len : Int) + 1 = ((len + 1 : Nat) : Int) by omega]
                show GO Z X (wS Z p sd ed im (M : Int) (L : Int) de (u2 : Int) re pk fa pl rd sz s2 os1 (m : Int) tk tp gT gS gO1 gY gW gE gI sc d (E : Int) (o0 : Int) (b0 : Int) ((cu / 8 + 1 : Nat) : Int) (q : Int)) 0 0 88 [(6, .int (iI ((len + 1 : Nat) : Int))), (5, .int (iI (cd2 : Int))), (2, .int (iI (((8 - cu % 8 : Nat) : Int) + (-1)))), (0, .ref (p (15 + d))), (1, .int (iI (n : Int))), (4, .int (iI ki)), (3, .int (iI ((T.getD (cu / 8) 0 : Nat) : Int))), (7, .int (iI (-1))), (8, .int (iI ((bp / 8 : Nat) : Int)))] [.int (iI ((len + 1 : Nat) : Int)), .int (iI (cd2 : Int)), .ref (p 8)]
                have hc2 : cd2 < 2 ^ (len + 1) := by rw [Nat.pow_succ]; omega
                have hp7 : 2 ^ (len + 1) ≤ 2 ^ 7 := Nat.pow_le_pow_right (by omega) (by omega)
                refine go_callV (As := [.int (iI (cd2 : Int)), .int (iI ((len + 1 : Nat) : Int))]) (rest := []) hK hR 88 (ct_X3_find Z (p 8) (p 9) (p 10) (T := T) (sy := sy) (a := a) (m := m) (code := cd2) (len := len + 1) hm8 hW hls hY ⟨by omega, by omega⟩ (by omega)) cw_X5_154 gn_X3_find rfl dX5_bits_88 (gSel_at [8, 9, 10] rfl rfl) ⟨0, 2, _, _, _, rfl, rfl⟩ rfl (Nat.le_of_ble_eq_true rfl) ⟨(by decide), (by decide)⟩ (fun _ _ _ h => h.elim) (fun v w1 h => ?_)
                obtain ⟨rfl, rfl⟩ := h
                show GO Z X (wS Z p sd ed im (M : Int) (L : Int) de (u2 : Int) re pk fa pl rd sz s2 os1 (m : Int) tk tp gT gS gO1 gY gW gE gI sc d (E : Int) (o0 : Int) (b0 : Int) ((cu / 8 + 1 : Nat) : Int) (q : Int)) 0 0 91 [(6, .int (iI ((len + 1 : Nat) : Int))), (5, .int (iI (cd2 : Int))), (2, .int (iI (((8 - cu % 8 : Nat) : Int) + (-1)))), (0, .ref (p (15 + d))), (1, .int (iI (n : Int))), (4, .int (iI ki)), (3, .int (iI ((T.getD (cu / 8) 0 : Nat) : Int))), (7, .int (iI (-1))), (8, .int (iI ((bp / 8 : Nat) : Int)))] [.int (iI (fndZ T sy a m (len + 1) cd2))]
                cases hf3 : fndN T a m (len + 1) cd2 m with
                | some k0 =>
                  have hk0 := fndN_some hf3
                  have hsb := hT8 (sy + k0)
                  rw [show fndZ T sy a m (len + 1) cd2 = ((T.getD (sy + k0) 0 : Nat) : Int) by unfold fndZ; rw [hf3]]
                  replace hS := hS.trans (spSym_k (by omega) (by rw [← hcd2]; exact hf3))
                  rw [hS] at hB2
                  refine go_istore (lo' := [(7, .int (iI ((T.getD (sy + k0) 0 : Nat) : Int))), (6, .int (iI ((len + 1 : Nat) : Int))), (5, .int (iI (cd2 : Int))), (2, .int (iI (((8 - cu % 8 : Nat) : Int) + (-1)))), (0, .ref (p (15 + d))), (1, .int (iI (n : Int))), (4, .int (iI ki)), (3, .int (iI ((T.getD (cu / 8) 0 : Nat) : Int))), (8, .int (iI ((bp / 8 : Nat) : Int)))]) hK 91 7 dX5_bits_91 (by decide) rfl ?_
                  refine go_aload_n hK 93 0 dX5_bits_93 rfl rfl ?_
                  refine go_get hK 94 fl_X5_3 dX5_bits_94 (15 + d) (wS_sc hd8) rfl ?_
                  refine go_iload hK 97 7 dX5_bits_97 rfl ?_
                  refine go_iconst hK 99 dX5_bits_99 ?_
                  refine go_icmp_ne (tgt := 118) hK 100 dX5_bits_100 (by decide) (by omega) (by decide) (fun c7 => ?_) (fun c7 => ?_)
                  · refine go_iconst hK 118 dX5_bits_118 ?_
                    refine go_goto (tgt := 123) hK 119 dX5_bits_119 (by decide) ?_
                    refine go_bipush hK 123 dX5_bits_123 (by decide) ?_
                    refine go_iload hK 125 8 dX5_bits_125 rfl ?_
                    refine go_callVN (As := [.int (iI 1), .int (iI 7), .int (iI ((bp / 8 : Nat) : Int))]) (rest := []) hK hR 127 (ct_need1 Z p) q96 q42 q93n q95 qs1 gn_X1_need rfl dX5_bits_127 gSel_all ⟨0, 0, _, _, _, rfl, rfl⟩ rfl (Nat.le_of_ble_eq_true rfl) ⟨(by decide), (by decide)⟩ (fun _ _ _ h => h.elim) (fun v w1 h => ?_)
                    obtain ⟨rfl, rfl⟩ := h
                    show GO Z X (wS Z p sd ed im (M : Int) (L : Int) de (u2 : Int) re pk fa pl rd sz s2 os1 (m : Int) tk tp gT gS gO1 gY gW gE gI sc d (E : Int) (o0 : Int) (b0 : Int) ((cu / 8 + 1 : Nat) : Int) (q : Int)) 0 0 130 [(7, .int (iI ((T.getD (sy + k0) 0 : Nat) : Int))), (6, .int (iI ((len + 1 : Nat) : Int))), (5, .int (iI (cd2 : Int))), (2, .int (iI (((8 - cu % 8 : Nat) : Int) + (-1)))), (0, .ref (p (15 + d))), (1, .int (iI (n : Int))), (4, .int (iI ki)), (3, .int (iI ((T.getD (cu / 8) 0 : Nat) : Int))), (8, .int (iI ((bp / 8 : Nat) : Int)))] []
                    refine go_goto (tgt := 41) hK 130 dX5_bits_130 (by decide) ?_
                    refine go_iload hK 41 7 dX5_bits_41 rfl ?_
                    refine go_iconst hK 43 dX5_bits_43 ?_
                    refine go_icmp_ne (tgt := 133) hK 44 dX5_bits_44 (by decide) (by omega) (by decide) (fun _ => ?_) (fun z => absurd z (by omega))
                    refine go_aload_n hK 133 0 dX5_bits_133 rfl rfl ?_
                    refine go_get hK 134 fl_X5_3 dX5_bits_134 (15 + d) (wS_sc hd8) rfl ?_
                    refine go_getN hK 137 fl_X5_44 dX5_bits_137 0 rfl rfl ?_
                    refine go_iload hK 140 7 dX5_bits_140 rfl ?_
                    refine go_callV (As := [.int (iI ((T.getD (sy + k0) 0 : Nat) : Int))]) (rest := []) hK hR 142 (ct_X2_add Z (p 5) (p 6) 4000 os1 gO1 ((T.getD (sy + k0) 0 : Nat) : Int) (by omega) (by decide)) cw_X5_119 gn_X2_add rfl dX5_bits_142 (gSel_at [5, 6] rfl rfl) ⟨0, 1, _, _, _, rfl, rfl⟩ rfl (Nat.le_of_ble_eq_true rfl) ⟨(by decide), (by decide)⟩ (fun _ _ _ h => h.elim) (fun v w1 h => ?_)
                    obtain ⟨rfl, rfl⟩ := h
                    show GO Z X (wS Z p sd ed im (M : Int) (L : Int) de (u2 : Int) re pk fa pl rd sz s2 (os1 + 1) (m : Int) tk tp gT gS (va_up gO1 os1.toNat ((T.getD (sy + k0) 0 : Nat) : Int)) gY gW gE gI sc d (E : Int) (o0 : Int) (b0 : Int) ((cu / 8 + 1 : Nat) : Int) (q : Int)) 0 0 145 [(7, .int (iI ((T.getD (sy + k0) 0 : Nat) : Int))), (6, .int (iI ((len + 1 : Nat) : Int))), (5, .int (iI (cd2 : Int))), (2, .int (iI (((8 - cu % 8 : Nat) : Int) + (-1)))), (0, .ref (p (15 + d))), (1, .int (iI (n : Int))), (4, .int (iI ki)), (3, .int (iI ((T.getD (cu / 8) 0 : Nat) : Int))), (8, .int (iI ((bp / 8 : Nat) : Int)))] []
                    have hp2 := pB_add (x := ((T.getD (sy + k0) 0 : Nat) : Int)) hp1 (T.getD (sy + k0) 0) (by omega)
                    refine go_iinc (lo' := [(4, .int (iI (ki + 1))), (7, .int (iI ((T.getD (sy + k0) 0 : Nat) : Int))), (6, .int (iI ((len + 1 : Nat) : Int))), (5, .int (iI (cd2 : Int))), (2, .int (iI (((8 - cu % 8 : Nat) : Int) + (-1)))), (0, .ref (p (15 + d))), (1, .int (iI (n : Int))), (3, .int (iI ((T.getD (cu / 8) 0 : Nat) : Int))), (8, .int (iI ((bp / 8 : Nat) : Int)))]) hK 145 4 6 dX5_bits_145 rfl (by decide) rfl ?_
                    refine go_goto (tgt := 7) hK 148 dX5_bits_148 (by decide) ?_
                    refine go_lo [5, 6, 4, 7, 0] rfl ?_
                    rw [show ((8 - cu % 8 : Nat) : Int) + (-1) = (((8 - (cu + 1) % 8) % 8 : Nat) : Int) by omega, show ((cu / 8 + 1 : Nat) : Int) = (((cu + 1 + 7) / 8 : Nat) : Int) by omega]
                    exact ih (i + 1) (cu + 1) (T.getD (cu / 8) 0) (ki + 1) (O1 ++ [T.getD (sy + k0) 0]) (os1 + 1) (va_up gO1 os1.toNat ((T.getD (sy + k0) 0 : Nat) : Int)) (by omega) (by omega) (by rw [List.length_append]; simp; omega) ⟨by omega, by omega⟩ h89 (fun z => by rw [show (cu + 1) / 8 = cu / 8 by omega]) hp2 (by rw [hB2, show n - (i + 1) = r by omega]) (by omega)
                  · exact absurd c7 (by omega)
                | none =>
                  rw [show fndZ T sy a m (len + 1) cd2 = -1 by unfold fndZ; rw [hf3]]
                  refine go_istore (lo' := [(7, .int (iI (-1))), (6, .int (iI ((len + 1 : Nat) : Int))), (5, .int (iI (cd2 : Int))), (2, .int (iI (((8 - cu % 8 : Nat) : Int) + (-1)))), (0, .ref (p (15 + d))), (1, .int (iI (n : Int))), (4, .int (iI ki)), (3, .int (iI ((T.getD (cu / 8) 0 : Nat) : Int))), (8, .int (iI ((bp / 8 : Nat) : Int)))]) hK 91 7 dX5_bits_91 (by decide) rfl ?_
                  refine go_aload_n hK 93 0 dX5_bits_93 rfl rfl ?_
                  refine go_get hK 94 fl_X5_3 dX5_bits_94 (15 + d) (wS_sc hd8) rfl ?_
                  refine go_iload hK 97 7 dX5_bits_97 rfl ?_
                  refine go_iconst hK 99 dX5_bits_99 ?_
                  refine go_icmp_ne (tgt := 118) hK 100 dX5_bits_100 (by decide) (by decide) (by decide) (fun q => absurd q (by decide)) (fun _ => ?_)
                  refine go_aload_n hK 103 0 dX5_bits_103 rfl rfl ?_
                  refine go_get hK 104 fl_X5_3 dX5_bits_104 (15 + d) (wS_sc hd8) rfl ?_
                  refine go_getN hK 107 fl_X5_135 dX5_bits_107 0 rfl rfl ?_
                  refine go_iload hK 110 6 dX5_bits_110 rfl ?_
                  refine go_callV (As := [.int (iI ((len + 1 : Nat) : Int))]) (rest := [.ref (p 0)]) hK hR 112 (ct_X3_hasLonger Z (p 8) (p 9) (p 10) (T := T) (sy := sy) (a := a) (m := m) (len := len + 1) hm8 hW hls (by omega)) cw_X5_157 gn_X3_hasLonger rfl dX5_bits_112 (gSel_at [8, 9, 10] rfl rfl) ⟨0, 2, _, _, _, rfl, rfl⟩ rfl (Nat.le_of_ble_eq_true rfl) ⟨(by decide), (by decide)⟩ (fun _ _ _ h => h.elim) (fun v w1 h => ?_)
                  obtain ⟨rfl, rfl⟩ := h
                  show GO Z X (wS Z p sd ed im (M : Int) (L : Int) de (u2 : Int) re pk fa pl rd sz s2 os1 (m : Int) tk tp gT gS gO1 gY gW gE gI sc d (E : Int) (o0 : Int) (b0 : Int) ((cu / 8 + 1 : Nat) : Int) (q : Int)) 0 0 115 [(7, .int (iI (-1))), (6, .int (iI ((len + 1 : Nat) : Int))), (5, .int (iI (cd2 : Int))), (2, .int (iI (((8 - cu % 8 : Nat) : Int) + (-1)))), (0, .ref (p (15 + d))), (1, .int (iI (n : Int))), (4, .int (iI ki)), (3, .int (iI ((T.getD (cu / 8) 0 : Nat) : Int))), (8, .int (iI ((bp / 8 : Nat) : Int)))] [.int (iI (b01 (lngN T a (len + 1) m))), .ref (p 0)]
                  refine go_if_eq (tgt := 122) hK 115 dX5_bits_115 (by decide) (by have := b01_z (lngN T a (len + 1) m); omega) (fun cl => ?_) (fun cl => ?_)
                  · have hl9 : lngN T a (len + 1) m = false := by cases hq : lngN T a (len + 1) m with | false => rfl | true => rw [hq] at cl; exact absurd cl (by decide)
                    replace hS := hS.trans (spSym_x (by omega) (by rw [← hcd2]; exact hf3) hl9)
                    rw [hS] at hB2
                    refine go_iconst hK 122 dX5_bits_122 ?_
                    refine go_bipush hK 123 dX5_bits_123 (by decide) ?_
                    refine go_iload hK 125 8 dX5_bits_125 rfl ?_
                    refine go_callVN (As := [.int (iI 0), .int (iI 7), .int (iI ((bp / 8 : Nat) : Int))]) (rest := []) hK hR 127 (ct_need0 Z p) q96 q42 q93n q95 qs1 gn_X1_need rfl dX5_bits_127 gSel_all ⟨0, 0, _, _, _, rfl, rfl⟩ rfl (Nat.le_of_ble_eq_true rfl) ⟨(by decide), (by decide)⟩ (fun _ _ _ hx hm => by obtain ⟨rfl, rfl⟩ := hx; exact ⟨⟨[], (List.append_nil _).symm⟩, ⟨rfl, cErr_er (k := 7) (p' := bp / 8) (by unfold spBits; rw [hB2]) ⟨_, _, _, _, _, _, hp1, rfl⟩⟩⟩) (fun v w1 h => ?_)
                    exact h.elim
                  · have hl9 : lngN T a (len + 1) m = true := by cases hq : lngN T a (len + 1) m with | true => rfl | false => rw [hq] at cl; exact absurd rfl cl
                    obtain ⟨kl, kl1, kl2⟩ := lngN_iff.mp hl9
                    have hkl7 := hls kl kl1
                    replace hS := hS.trans (spSym_n (by omega) (by rw [← hcd2]; exact hf3) hl9)
                    rw [← hcd2] at hS
                    refine go_iconst hK 118 dX5_bits_118 ?_
                    refine go_goto (tgt := 123) hK 119 dX5_bits_119 (by decide) ?_
                    refine go_bipush hK 123 dX5_bits_123 (by decide) ?_
                    refine go_iload hK 125 8 dX5_bits_125 rfl ?_
                    refine go_callVN (As := [.int (iI 1), .int (iI 7), .int (iI ((bp / 8 : Nat) : Int))]) (rest := []) hK hR 127 (ct_need1 Z p) q96 q42 q93n q95 qs1 gn_X1_need rfl dX5_bits_127 gSel_all ⟨0, 0, _, _, _, rfl, rfl⟩ rfl (Nat.le_of_ble_eq_true rfl) ⟨(by decide), (by decide)⟩ (fun _ _ _ h => h.elim) (fun v w1 h => ?_)
                    obtain ⟨rfl, rfl⟩ := h
                    show GO Z X (wS Z p sd ed im (M : Int) (L : Int) de (u2 : Int) re pk fa pl rd sz s2 os1 (m : Int) tk tp gT gS gO1 gY gW gE gI sc d (E : Int) (o0 : Int) (b0 : Int) ((cu / 8 + 1 : Nat) : Int) (q : Int)) 0 0 130 [(7, .int (iI (-1))), (6, .int (iI ((len + 1 : Nat) : Int))), (5, .int (iI (cd2 : Int))), (2, .int (iI (((8 - cu % 8 : Nat) : Int) + (-1)))), (0, .ref (p (15 + d))), (1, .int (iI (n : Int))), (4, .int (iI ki)), (3, .int (iI ((T.getD (cu / 8) 0 : Nat) : Int))), (8, .int (iI ((bp / 8 : Nat) : Int)))] []
                    refine go_goto (tgt := 41) hK 130 dX5_bits_130 (by decide) ?_
                    refine go_lo [4, 5, 6, 3, 7, 2, 1, 0, 8] rfl ?_
                    rw [show ((8 - cu % 8 : Nat) : Int) + (-1) = (((8 - (cu + 1) % 8) % 8 : Nat) : Int) by omega, show ((cu / 8 + 1 : Nat) : Int) = (((cu + 1 + 7) / 8 : Nat) : Int) by omega]
                    obtain ⟨f2, rfl⟩ : ∃ f2, f = f2 + 1 := ⟨f - 1, by omega⟩
                    exact ih2 (cu + 1) cd2 (len + 1) f2 (T.getD (cu / 8) 0) (by omega) (by omega) ⟨by omega, by omega⟩ h89 (fun z => by rw [show (cu + 1) / 8 = cu / 8 by omega]) hc2 hS (by omega)
              refine go_if_ne (tgt := 59) hK 48 dX5_bits_48 (by decide) (by omega) (fun c3 => ?_) (fun c3 => ?_)
              · rw [show (((8 - cu % 8) % 8 : Nat) : Int) = ((8 - cu % 8 : Nat) : Int) by omega, show h2 = T.getD (cu / 8) 0 from hh2 (by omega), show (((cu + 7) / 8 : Nat) : Int) = ((cu / 8 + 1 : Nat) : Int) by omega]
                refine go_lo [0, 1, 2, 3, 4, 5, 6, 7, 8] rfl ?_
                exact jn (by omega)
              · refine go_aload_n hK 51 0 dX5_bits_51 rfl rfl ?_
                rw [show (((cu + 7) / 8 : Nat) : Int) = ((cu / 8 : Nat) : Int) by omega]
                show GO Z X (wS Z p sd ed im (M : Int) (L : Int) de (u2 : Int) re pk fa pl rd sz s2 os1 (m : Int) tk tp gT gS gO1 gY gW gE gI sc d (E : Int) (o0 : Int) (b0 : Int) ((cu / 8 : Nat) : Int) (q : Int)) 0 0 52 [(0, .ref (p (15 + d))), (1, .int (iI (n : Int))), (4, .int (iI ki)), (2, .int (iI (((8 - cu % 8) % 8 : Nat) : Int))), (3, .int (iI (h2 : Int))), (5, .int (iI (cd : Int))), (6, .int (iI (len : Int))), (7, .int (iI (-1))), (8, .int (iI ((bp / 8 : Nat) : Int)))] [.ref (p (15 + d))]
                refine go_callV (As := []) (rest := []) hK hR 52 (ct_X5_next Z p (q := cu / 8) (E := E) hd8 hT ⟨by omega, by omega, by omega⟩) cw_X5_75 gn_X5_next rfl dX5_bits_52 gSel_all ⟨15 + d, 4, _, _, _, wS_sc hd8, rfl⟩ rfl (Nat.le_of_ble_eq_true rfl) ⟨(by decide), (by decide)⟩ (fun _ _ _ hx hm => by obtain ⟨rfl, hle, rfl⟩ := hx; exact ⟨⟨[], (List.append_nil _).symm⟩, (by rw [hS.trans (spSym_e (by omega))] at hB2; exact ⟨rfl, cErr_er (k := 3) (p' := E) (by unfold spBits; rw [hB2]) ⟨_, _, _, _, _, _, hp1, rfl⟩⟩)⟩) (fun v w1 h => ?_)
                obtain ⟨rfl, hlt5, rfl⟩ := h
                show GO Z X (wS Z p sd ed im (M : Int) (L : Int) de (u2 : Int) re pk fa pl rd sz s2 os1 (m : Int) tk tp gT gS gO1 gY gW gE gI sc d (E : Int) (o0 : Int) (b0 : Int) ((cu / 8 + 1 : Nat) : Int) (q : Int)) 0 0 55 [(0, .ref (p (15 + d))), (1, .int (iI (n : Int))), (4, .int (iI ki)), (2, .int (iI (((8 - cu % 8) % 8 : Nat) : Int))), (3, .int (iI (h2 : Int))), (5, .int (iI (cd : Int))), (6, .int (iI (len : Int))), (7, .int (iI (-1))), (8, .int (iI ((bp / 8 : Nat) : Int)))] [.int (iI ((T.getD (cu / 8) 0 : Nat) : Int))]
                have hb4 := hT8 (cu / 8)
                refine go_istore_n (lo' := [(3, .int (iI ((T.getD (cu / 8) 0 : Nat) : Int))), (0, .ref (p (15 + d))), (1, .int (iI (n : Int))), (4, .int (iI ki)), (2, .int (iI (((8 - cu % 8) % 8 : Nat) : Int))), (5, .int (iI (cd : Int))), (6, .int (iI (len : Int))), (7, .int (iI (-1))), (8, .int (iI ((bp / 8 : Nat) : Int)))]) hK 55 3 dX5_bits_55 rfl (by decide) rfl ?_
                refine go_bipush hK 56 dX5_bits_56 (by decide) ?_
                refine go_istore_n (lo' := [(2, .int (iI 8)), (3, .int (iI ((T.getD (cu / 8) 0 : Nat) : Int))), (0, .ref (p (15 + d))), (1, .int (iI (n : Int))), (4, .int (iI ki)), (5, .int (iI (cd : Int))), (6, .int (iI (len : Int))), (7, .int (iI (-1))), (8, .int (iI ((bp / 8 : Nat) : Int)))]) hK 58 2 dX5_bits_58 rfl (by decide) rfl ?_
                refine go_lo [2, 3, 4, 0, 1, 5, 6, 7, 8] rfl ?_
                rw [show ((8 - cu % 8 : Nat) : Int) = 8 by omega] at jn
                exact jn (by omega)
          exact lp2 _ bp 0 0 8 hl (by omega) (by omega) (by omega) hl8 hhl (by decide) rfl (Nat.lt_succ_self _)
        refine go_if_ne (tgt := 33) hK 23 dX5_bits_23 (by decide) (by omega) (fun cj6 => ?_) (fun cj6 => ?_)
        · refine go_aload_n hK 33 0 dX5_bits_33 rfl rfl ?_
          refine go_get hK 34 fl_X5_19 dX5_bits_34 (15 + d) (wS_sc hd8) rfl ?_
          refine go_iconst hK 37 dX5_bits_37 ?_
          refine go_isub hK 38 dX5_bits_38 ?_
          rw [show ((bp / 8 : Nat) : Int) = ((((bp + 7) / 8 : Nat) : Int) - 1) from (by omega)] at jn2
          exact jn2
        · refine go_aload_n hK 26 0 dX5_bits_26 rfl rfl ?_
          refine go_get hK 27 fl_X5_19 dX5_bits_27 (15 + d) (wS_sc hd8) rfl ?_
          refine go_goto (tgt := 39) hK 30 dX5_bits_30 (by decide) ?_
          rw [show ((bp / 8 : Nat) : Int) = (((bp + 7) / 8 : Nat) : Int) from (by omega)] at jn2
          exact jn2
  have hlp := lp _ 0 (8 * bg) 0 0 O _ _ (by omega) rfl rfl ⟨by omega, by omega⟩ (by decide) (fun z => absurd z (by omega)) hO rfl (Nat.lt_succ_self _)
  rw [show (((8 * bg + 7) / 8 : Nat) : Int) = (bg : Int) by omega, show (((8 - 8 * bg % 8) % 8 : Nat) : Int) = 0 by omega] at hlp
  exact hlp

