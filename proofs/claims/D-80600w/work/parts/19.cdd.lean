/-! the reference: coded items (printed by gen/m11.py) -/
set_option maxRecDepth 100000
theorem spLen_s {T : List Nat} {e a n : Nat} (h : spLen T e a n = none) : spLen T e a (n + 1) = if e ≤ a + n then some (3, e) else if 7 < T.getD (a + n) 0 then some (6, a + n) else none := by rw [spLen, h]
theorem spLen_m {T : List Nat} {e a n : Nat} {x : Nat × Nat} (h : spLen T e a n = some x) : ∀ d, spLen T e a (n + d) = some x
  | 0 => h
  | d + 1 => by rw [← Nat.add_assoc, spLen, spLen_m h d]
theorem spLen_n {T : List Nat} {e a : Nat} : ∀ {n : Nat}, spLen T e a n = none → ∀ k, k < n → a + k < e ∧ T.getD (a + k) 0 ≤ 7
  | 0, _, k, hk => absurd hk (Nat.not_lt_zero _)
  | n + 1, h, k, hk => by
    cases h2 : spLen T e a n with
    | some x => rw [spLen, h2] at h; cases h
    | none =>
      rw [spLen_s h2] at h
      by_cases q : k = n
      · subst q
        by_cases c1 : e ≤ a + k
        · rw [if_pos c1] at h; cases h
        · rw [if_neg c1] at h
          by_cases c2 : 7 < T.getD (a + k) 0
          · rw [if_pos c2] at h; cases h
          · exact ⟨by omega, by omega⟩
      · exact spLen_n h2 k (by omega)
abbrev rm_X6_coded : Room := { frames := 3, cells := 0, slots := 0, locals := 78 }
set_option maxHeartbeats 8000000 in
theorem ct_X6_coded (Z : Gz) (b : Nat → Nat) {sd : Int64} {sz os pl re pk rd : Int} {gT gO gF gE gN gQ gM gC gA gI gU gK gP gS gX gD gH gL : Nat → Int} {T O C : List Nat} {u M L Dp t f e q o0 : Nat} (hRS : RS T O u M L Dp sz os gT gO) (hSC : SCp T O C u t f e q o0 os gF gE gQ gM gC gA gI gU) : CT Z yX6_coded cX6_coded 6 none rm_X6_coded [.ref (b 0), .int (iI (t : Int)), .int (iI (q : Int))] (wM Z b sd sz os (M : Int) (L : Int) (Dp : Int) 0 pl (u : Int) re pk rd ((t : Int) + 1) gT gO gF gE gN gQ gM gC gA gI gU gK gP gS gX gD gH gL) (fun v w => v = none ∧ mRes Z b sd sz os (M : Int) (L : Int) (Dp : Int) 0 pl (u : Int) re pk rd ((t : Int) + 1) gT gO gF gE gN gQ gM gC gA gI gU gK gP gS gX gD gH gL t C.length o0 q (spCoded T M L e q O u) w) nopx := by
  refine ct_of (by decide) (Nat.le_of_ble_eq_true rfl) (fun X hK hR => ?_)
  show GO Z X (wM Z b sd sz os (M : Int) (L : Int) (Dp : Int) 0 pl (u : Int) re pk rd ((t : Int) + 1) gT gO gF gE gN gQ gM gC gA gI gU gK gP gS gX gD gH gL) 0 0 0 [(0, .ref (b 0)), (1, .int (iI (t : Int))), (2, .int (iI (q : Int)))] []
  obtain ⟨hT, hTl, hT8, hO, hOM, hM4, huL, hL2, hD8⟩ := hRS
  obtain ⟨ht8, hF, hE, hQ, hM, hC, hfq, hqe, heT, ho0, hA, hI, hU⟩ := hSC
  have hOl := hO.1
  have hE' : gE ((t : Int) + 1 - 1).toNat = (e : Int) := by rw [show ((t : Int) + 1 - 1).toNat = t by omega]; exact hE
  refine go_aload_n hK 0 0 dX6_coded_0 rfl rfl ?_
  refine go_iload_n hK 1 2 dX6_coded_1 rfl rfl ?_
  refine go_iconst hK 2 dX6_coded_2 ?_
  refine go_callV (As := [.int (iI (q : Int)), .int (iI 2)]) (rest := []) hK hR 3 (ct_X6_has Z b rfl (by omega) hE' (by omega) (by omega)) cw_X6_149 gn_X6_has rfl dX6_coded_3 gSel_all ⟨0, 5, _, _, _, rfl, rfl⟩ rfl (Nat.le_of_ble_eq_true rfl) ⟨(by decide), (by decide)⟩ (fun _ _ _ h => h.elim) (fun v w1 h => ?_)
  rcases h with ⟨rfl, ch1, rfl⟩ | ⟨rfl, ch1, rfl⟩
  · show GO Z X (wM Z b sd sz os (M : Int) (L : Int) (Dp : Int) 0 pl (u : Int) re pk rd ((t : Int) + 1) gT gO gF gE gN gQ gM gC gA gI gU gK gP gS gX gD gH gL) 0 0 6 [(0, .ref (b 0)), (1, .int (iI (t : Int))), (2, .int (iI (q : Int)))] [.int (iI 1)]
    refine go_if_ne (tgt := 10) hK 6 dX6_coded_6 (by decide) (by decide) (fun _ => ?_) (fun q => absurd q (by decide))
    refine go_aload_n hK 10 0 dX6_coded_10 rfl rfl ?_
    refine go_get hK 11 fl_X6_7 dX6_coded_11 0 rfl rfl ?_
    refine go_iload_n hK 14 2 dX6_coded_14 rfl rfl ?_
    refine go_iconst hK 15 dX6_coded_15 ?_
    refine go_iadd hK 16 dX6_coded_16 ?_
    refine go_iald hK 17 dX6_coded_17 1 rfl (by omega) (by decide) ?_
    have hb2 := hT8 (q + 1)
    rw [show gT ((q : Int) + 1).toNat = ((T.getD (q + 1) 0 : Nat) : Int) from hT.2 (q + 1) (by omega)]
    obtain ⟨m, hm9⟩ : ∃ m, m = T.getD (q + 1) 0 := ⟨_, rfl⟩
    refine go_istore_n (lo' := [(3, .int (iI ((T.getD (q + 1) 0 : Nat) : Int))), (0, .ref (b 0)), (1, .int (iI (t : Int))), (2, .int (iI (q : Int)))]) hK 18 3 dX6_coded_18 rfl (by decide) rfl ?_
    refine go_iload_n hK 19 3 dX6_coded_19 rfl rfl ?_
    refine go_i2l hK 20 dX6_coded_20 (by omega) ?_
    refine go_lconst (v := lI 1) hK 21 dX6_coded_21 rfl ?_
    refine go_ldc2 (v2 := lI 8) hK 22 q597 dX6_coded_22 rfl ?_
    refine go_callS (As := [.long (lI ((T.getD (q + 1) 0 : Nat) : Int)), .long (lI 1), .long (lI 8)]) (rest := []) hK hR 25 (ct_X6_in Z ((T.getD (q + 1) 0 : Nat) : Int) 1 8 (by omega) (by omega) (by omega)) cw_X6_74 gn_X6_in rfl dX6_coded_25 gSel_nil  rfl (Nat.le_of_ble_eq_true rfl) ⟨(by decide), (by decide)⟩ (fun _ _ _ h => h.elim) (fun v w1 h => ?_)
    obtain ⟨⟨r3, rfl, hr4⟩, rfl⟩ := h
    rw [List.append_nil]
    show GO Z X (wM Z b sd sz os (M : Int) (L : Int) (Dp : Int) 0 pl (u : Int) re pk rd ((t : Int) + 1) gT gO gF gE gN gQ gM gC gA gI gU gK gP gS gX gD gH gL) 0 0 28 [(3, .int (iI ((T.getD (q + 1) 0 : Nat) : Int))), (0, .ref (b 0)), (1, .int (iI (t : Int))), (2, .int (iI (q : Int)))] [.int (iI r3)]
    refine go_if_ne (tgt := 41) hK 28 dX6_coded_28 (by decide) (by omega) (fun c5 => ?_) (fun c5 => ?_)
    · refine go_aload_n hK 41 0 dX6_coded_41 rfl rfl ?_
      refine go_iload_n hK 42 2 dX6_coded_42 rfl rfl ?_
      refine go_iconst hK 43 dX6_coded_43 ?_
      refine go_iload_n hK 44 3 dX6_coded_44 rfl rfl ?_
      refine go_iadd hK 45 dX6_coded_45 ?_
      refine go_callV (As := [.int (iI (q : Int)), .int (iI (2 + ((T.getD (q + 1) 0 : Nat) : Int)))]) (rest := []) hK hR 46 (ct_X6_has Z b rfl (by omega) hE' (by omega) (by omega)) cw_X6_149 gn_X6_has rfl dX6_coded_46 gSel_all ⟨0, 5, _, _, _, rfl, rfl⟩ rfl (Nat.le_of_ble_eq_true rfl) ⟨(by decide), (by decide)⟩ (fun _ _ _ h => h.elim) (fun v w1 h => ?_)
      rcases h with ⟨rfl, ch6, rfl⟩ | ⟨rfl, ch6, rfl⟩
      · show GO Z X (wM Z b sd sz os (M : Int) (L : Int) (Dp : Int) 0 pl (u : Int) re pk rd ((t : Int) + 1) gT gO gF gE gN gQ gM gC gA gI gU gK gP gS gX gD gH gL) 0 0 49 [(3, .int (iI ((T.getD (q + 1) 0 : Nat) : Int))), (0, .ref (b 0)), (1, .int (iI (t : Int))), (2, .int (iI (q : Int)))] [.int (iI 1)]
        refine go_if_ne (tgt := 53) hK 49 dX6_coded_49 (by decide) (by decide) (fun _ => ?_) (fun q => absurd q (by decide))
        refine go_iload_n hK 53 2 dX6_coded_53 rfl rfl ?_
        refine go_iconst hK 54 dX6_coded_54 ?_
        refine go_iadd hK 55 dX6_coded_55 ?_
        refine go_iload_n hK 56 3 dX6_coded_56 rfl rfl ?_
        refine go_iadd hK 57 dX6_coded_57 ?_
        refine go_istore (lo' := [(4, .int (iI (((q : Int) + 2) + ((T.getD (q + 1) 0 : Nat) : Int)))), (3, .int (iI ((T.getD (q + 1) 0 : Nat) : Int))), (0, .ref (b 0)), (1, .int (iI (t : Int))), (2, .int (iI (q : Int)))]) hK 58 4 dX6_coded_58 (by decide) rfl ?_
        refine go_iconst hK 60 dX6_coded_60 ?_
        refine go_istore (lo' := [(5, .int (iI 0)), (4, .int (iI (((q : Int) + 2) + ((T.getD (q + 1) 0 : Nat) : Int)))), (3, .int (iI ((T.getD (q + 1) 0 : Nat) : Int))), (0, .ref (b 0)), (1, .int (iI (t : Int))), (2, .int (iI (q : Int)))]) hK 61 5 dX6_coded_61 (by decide) rfl ?_
        rw [show (q : Int) + 2 + ((T.getD (q + 1) 0 : Nat) : Int) = ((q + 2 + T.getD (q + 1) 0 : Nat) : Int) by omega]
        refine go_lo [3, 4, 5, 2, 1, 0] rfl ?_
        have lp : ∀ (fu : Nat) (i : Nat) (k : Int), (i ≤ T.getD (q + 1) 0) → (k = i) → (spLen T e (q + 2 + T.getD (q + 1) 0) i = none) → T.getD (q + 1) 0 - i < fu → GO Z X (wM Z b sd sz os (M : Int) (L : Int) (Dp : Int) 0 pl (u : Int) re pk rd ((t : Int) + 1) gT gO gF gE gN gQ gM gC gA gI gU gK gP gS gX gD gH gL) 0 0 63 [(0, .ref (b 0)), (1, .int (iI (t : Int))), (2, .int (iI (q : Int))), (3, .int (iI ((T.getD (q + 1) 0 : Nat) : Int))), (4, .int (iI ((q + 2 + T.getD (q + 1) 0 : Nat) : Int))), (5, .int (iI k))] [] := by
          intro fu
          induction fu with
          | zero => intro i k hi hk hsl hm; exact absurd hm (Nat.not_lt_zero _)
          | succ fu ih =>
            intro i k hi hk hsl hm
            refine go_iload hK 63 5 dX6_coded_63 rfl ?_
            refine go_iload_n hK 65 3 dX6_coded_65 rfl rfl ?_
            refine go_icmp_ge (tgt := 116) hK 66 dX6_coded_66 (by decide) (by omega) (by omega) (fun c7 => ?_) (fun c7 => ?_)
            · obtain rfl : i = T.getD (q + 1) 0 := by omega
              have hls := fun k hk => (spLen_n hsl k hk).2
              have hle := spLen_n hsl
              have hle2 : q + 2 + T.getD (q + 1) 0 + T.getD (q + 1) 0 ≤ e := by have := (hle (T.getD (q + 1) 0 - 1) (by omega)).1; omega
              refine go_aload_n hK 116 0 dX6_coded_116 rfl rfl ?_
              refine go_iload hK 117 4 dX6_coded_117 rfl ?_
              refine go_iload_n hK 119 3 dX6_coded_119 rfl rfl ?_
              refine go_callV (As := [.int (iI ((q + 2 + T.getD (q + 1) 0 : Nat) : Int)), .int (iI ((T.getD (q + 1) 0 : Nat) : Int))]) (rest := []) hK hR 120 (ct_X6_codesOf Z b (m := T.getD (q + 1) 0) (a := q + 2 + T.getD (q + 1) 0) hT hTl (by omega) (by omega) hls) cw_X6_184 gn_X6_codesOf rfl dX6_coded_120 gSel_all ⟨0, 5, _, _, _, rfl, rfl⟩ rfl (Nat.le_of_ble_eq_true rfl) ⟨(by decide), (by decide)⟩ (fun _ _ _ h => h.elim) (fun v w1 h => ?_)
              obtain ⟨rc, rfl, hg9, gD9, hD9, rfl⟩ := h
              show GO Z X (wM Z b sd sz os (M : Int) (L : Int) (Dp : Int) 0 pl (u : Int) re pk rd ((t : Int) + 1) gT gO gF gE gN gQ gM gC gA gI gU gK gP gS gX gD9 gH gL) 0 0 123 [(0, .ref (b 0)), (1, .int (iI (t : Int))), (2, .int (iI (q : Int))), (3, .int (iI ((T.getD (q + 1) 0 : Nat) : Int))), (4, .int (iI ((q + 2 + T.getD (q + 1) 0 : Nat) : Int))), (5, .int (iI k))] [.int (iI rc)]
              refine go_if_ne (tgt := 137) hK 123 dX6_coded_123 (by decide) (by rcases hg9 with z | z <;> (rw [z.1]; decide)) (fun c8 => ?_) (fun c8 => ?_)
              · have hgd : goodT T (q + 2 + T.getD (q + 1) 0) (T.getD (q + 1) 0) := by rcases hg9 with z | z; exact z.2; exact absurd z.1 (by omega)
                refine go_aload_n hK 137 0 dX6_coded_137 rfl rfl ?_
                refine go_iload hK 138 4 dX6_coded_138 rfl ?_
                refine go_iload_n hK 140 3 dX6_coded_140 rfl rfl ?_
                refine go_iadd hK 141 dX6_coded_141 ?_
                refine go_iconst hK 142 dX6_coded_142 ?_
                refine go_callV (As := [.int (iI (((q + 2 + T.getD (q + 1) 0 : Nat) : Int) + ((T.getD (q + 1) 0 : Nat) : Int))), .int (iI 1)]) (rest := []) hK hR 143 (ct_X6_has Z b rfl (by omega) hE' (by omega) (by omega)) cw_X6_149 gn_X6_has rfl dX6_coded_143 gSel_all ⟨0, 5, _, _, _, rfl, rfl⟩ rfl (Nat.le_of_ble_eq_true rfl) ⟨(by decide), (by decide)⟩ (fun _ _ _ h => h.elim) (fun v w1 h => ?_)
                rcases h with ⟨rfl, ch9, rfl⟩ | ⟨rfl, ch9, rfl⟩
                · show GO Z X (wM Z b sd sz os (M : Int) (L : Int) (Dp : Int) 0 pl (u : Int) re pk rd ((t : Int) + 1) gT gO gF gE gN gQ gM gC gA gI gU gK gP gS gX gD9 gH gL) 0 0 146 [(0, .ref (b 0)), (1, .int (iI (t : Int))), (2, .int (iI (q : Int))), (3, .int (iI ((T.getD (q + 1) 0 : Nat) : Int))), (4, .int (iI ((q + 2 + T.getD (q + 1) 0 : Nat) : Int))), (5, .int (iI k))] [.int (iI 1)]
                  refine go_if_eq (tgt := 207) hK 146 dX6_coded_146 (by decide) (by decide) (fun q => absurd q (by decide)) (fun _ => ?_)
                  have hb8 := hT8 (q + 2 + 2 * T.getD (q + 1) 0)
                  refine go_aload_n hK 149 0 dX6_coded_149 rfl rfl ?_
                  refine go_iload_n hK 150 2 dX6_coded_150 rfl rfl ?_
                  refine go_iconst hK 151 dX6_coded_151 ?_
                  refine go_iconst hK 152 dX6_coded_152 ?_
                  refine go_iload_n hK 153 3 dX6_coded_153 rfl rfl ?_
                  refine go_imul hK 154 dX6_coded_154 ?_
                  refine go_iadd hK 155 dX6_coded_155 ?_
                  refine go_iconst hK 156 dX6_coded_156 ?_
                  refine go_aload_n hK 157 0 dX6_coded_157 rfl rfl ?_
                  refine go_get hK 158 fl_X6_7 dX6_coded_158 0 rfl rfl ?_
                  refine go_iload hK 161 4 dX6_coded_161 rfl ?_
                  refine go_iload_n hK 163 3 dX6_coded_163 rfl rfl ?_
                  refine go_iadd hK 164 dX6_coded_164 ?_
                  refine go_iald hK 165 dX6_coded_165 1 rfl (by omega) (by decide) ?_
                  rw [show gT (((q + 2 + T.getD (q + 1) 0 : Nat) : Int) + ((T.getD (q + 1) 0 : Nat) : Int)).toNat = ((T.getD (q + 2 + 2 * T.getD (q + 1) 0) 0 : Nat) : Int) by rw [show (((q + 2 + T.getD (q + 1) 0 : Nat) : Int) + ((T.getD (q + 1) 0 : Nat) : Int)).toNat = q + 2 + 2 * T.getD (q + 1) 0 by omega]; exact hT.2 (q + 2 + 2 * T.getD (q + 1) 0) (by omega)]
                  refine go_imul hK 166 dX6_coded_166 ?_
                  refine go_iadd hK 167 dX6_coded_167 ?_
                  refine go_aload_n hK 168 0 dX6_coded_168 rfl rfl ?_
                  refine go_get hK 169 fl_X6_7 dX6_coded_169 0 rfl rfl ?_
                  refine go_iload hK 172 4 dX6_coded_172 rfl ?_
                  refine go_iload_n hK 174 3 dX6_coded_174 rfl rfl ?_
                  refine go_iadd hK 175 dX6_coded_175 ?_
                  refine go_iald hK 176 dX6_coded_176 1 rfl (by omega) (by decide) ?_
                  rw [show gT (((q + 2 + T.getD (q + 1) 0 : Nat) : Int) + ((T.getD (q + 1) 0 : Nat) : Int)).toNat = ((T.getD (q + 2 + 2 * T.getD (q + 1) 0) 0 : Nat) : Int) by rw [show (((q + 2 + T.getD (q + 1) 0 : Nat) : Int) + ((T.getD (q + 1) 0 : Nat) : Int)).toNat = q + 2 + 2 * T.getD (q + 1) 0 by omega]; exact hT.2 (q + 2 + 2 * T.getD (q + 1) 0) (by omega)]
                  refine go_callV (As := [.int (iI (q : Int)), .int (iI ((3 + (2 * ((T.getD (q + 1) 0 : Nat) : Int))) + (2 * ((T.getD (q + 2 + 2 * T.getD (q + 1) 0) 0 : Nat) : Int)))), .int (iI ((T.getD (q + 2 + 2 * T.getD (q + 1) 0) 0 : Nat) : Int))]) (rest := []) hK hR 177 (ct_X6_pays Z b rfl (by omega) (by omega)) cw_X6_156 gn_X6_pays rfl dX6_coded_177 gSel_all ⟨0, 5, _, _, _, rfl, rfl⟩ rfl (Nat.le_of_ble_eq_true rfl) ⟨(by decide), (by decide)⟩ (fun _ _ _ h => h.elim) (fun v w1 h => ?_)
                  rcases h with ⟨rfl, cp10, rfl⟩ | ⟨rfl, cp10, cp11, rfl⟩ | ⟨rfl, cp10, cp11, rfl⟩
                  · show GO Z X (wM Z b sd sz os (M : Int) (L : Int) (Dp : Int) 11 (q : Int) (u : Int) re pk rd ((t : Int) + 1) gT gO gF gE gN gQ gM gC gA gI gU gK gP gS gX gD9 gH gL) 0 0 180 [(0, .ref (b 0)), (1, .int (iI (t : Int))), (2, .int (iI (q : Int))), (3, .int (iI ((T.getD (q + 1) 0 : Nat) : Int))), (4, .int (iI ((q + 2 + T.getD (q + 1) 0 : Nat) : Int))), (5, .int (iI k))] [.int (iI 0)]
                    refine go_if_eq (tgt := 207) hK 180 dX6_coded_180 (by decide) (by decide) (fun _ => ?_) (fun q => absurd q (by decide))
                    exact go_vret hK hR.1 207 [] dX6_coded_207 (by decide) (by decide) rfl ⟨rfl, mRes_er (by unfold spCoded; rw [if_neg (by omega), if_neg (by omega), if_neg (by omega), hsl]; dsimp only; rw [if_neg (fun z => z hgd), if_neg (by omega), if_pos (by omega)]) ⟨_, _, _, hO, rfl⟩⟩
                  · show GO Z X (wM Z b sd sz os (M : Int) (L : Int) (Dp : Int) 12 (q : Int) (u : Int) re pk rd ((t : Int) + 1) gT gO gF gE gN gQ gM gC gA gI gU gK gP gS gX gD9 gH gL) 0 0 180 [(0, .ref (b 0)), (1, .int (iI (t : Int))), (2, .int (iI (q : Int))), (3, .int (iI ((T.getD (q + 1) 0 : Nat) : Int))), (4, .int (iI ((q + 2 + T.getD (q + 1) 0 : Nat) : Int))), (5, .int (iI k))] [.int (iI 0)]
                    refine go_if_eq (tgt := 207) hK 180 dX6_coded_180 (by decide) (by decide) (fun _ => ?_) (fun q => absurd q (by decide))
                    exact go_vret hK hR.1 207 [] dX6_coded_207 (by decide) (by decide) rfl ⟨rfl, mRes_er (by unfold spCoded; rw [if_neg (by omega), if_neg (by omega), if_neg (by omega), hsl]; dsimp only; rw [if_neg (fun z => z hgd), if_neg (by omega), if_neg (by omega), if_pos (by omega)]) ⟨_, _, _, hO, rfl⟩⟩
                  · show GO Z X (wM Z b sd sz os (M : Int) (L : Int) (Dp : Int) 0 pl ((u : Int) + ((3 + (2 * ((T.getD (q + 1) 0 : Nat) : Int))) + (2 * ((T.getD (q + 2 + 2 * T.getD (q + 1) 0) 0 : Nat) : Int)))) re pk rd ((t : Int) + 1) gT gO gF gE gN gQ gM gC gA gI gU gK gP gS gX gD9 gH gL) 0 0 180 [(0, .ref (b 0)), (1, .int (iI (t : Int))), (2, .int (iI (q : Int))), (3, .int (iI ((T.getD (q + 1) 0 : Nat) : Int))), (4, .int (iI ((q + 2 + T.getD (q + 1) 0 : Nat) : Int))), (5, .int (iI k))] [.int (iI 1)]
                    rw [show (u : Int) + ((3 + (2 * ((T.getD (q + 1) 0 : Nat) : Int))) + (2 * ((T.getD (q + 2 + 2 * T.getD (q + 1) 0) 0 : Nat) : Int))) = ((u + (3 + 2 * T.getD (q + 1) 0 + 2 * T.getD (q + 2 + 2 * T.getD (q + 1) 0) 0) : Nat) : Int) by omega]
                    refine go_if_eq (tgt := 207) hK 180 dX6_coded_180 (by decide) (by decide) (fun q => absurd q (by decide)) (fun _ => ?_)
                    refine go_aload_n hK 183 0 dX6_coded_183 rfl rfl ?_
                    refine go_iload_n hK 184 1 dX6_coded_184 rfl rfl ?_
                    refine go_iload_n hK 185 2 dX6_coded_185 rfl rfl ?_
                    refine go_iconst hK 186 dX6_coded_186 ?_
                    refine go_iadd hK 187 dX6_coded_187 ?_
                    refine go_iload_n hK 188 3 dX6_coded_188 rfl rfl ?_
                    refine go_iload hK 189 4 dX6_coded_189 rfl ?_
                    refine go_iload_n hK 191 3 dX6_coded_191 rfl rfl ?_
                    refine go_iadd hK 192 dX6_coded_192 ?_
                    refine go_iconst hK 193 dX6_coded_193 ?_
                    refine go_iadd hK 194 dX6_coded_194 ?_
                    refine go_aload_n hK 195 0 dX6_coded_195 rfl rfl ?_
                    refine go_get hK 196 fl_X6_7 dX6_coded_196 0 rfl rfl ?_
                    refine go_iload hK 199 4 dX6_coded_199 rfl ?_
                    refine go_iload_n hK 201 3 dX6_coded_201 rfl rfl ?_
                    refine go_iadd hK 202 dX6_coded_202 ?_
                    refine go_iald hK 203 dX6_coded_203 1 rfl (by omega) (by decide) ?_
                    rw [show gT (((q + 2 + T.getD (q + 1) 0 : Nat) : Int) + ((T.getD (q + 1) 0 : Nat) : Int)).toNat = ((T.getD (q + 2 + 2 * T.getD (q + 1) 0) 0 : Nat) : Int) by rw [show (((q + 2 + T.getD (q + 1) 0 : Nat) : Int) + ((T.getD (q + 1) 0 : Nat) : Int)).toNat = q + 2 + 2 * T.getD (q + 1) 0 by omega]; exact hT.2 (q + 2 + 2 * T.getD (q + 1) 0) (by omega)]
                    rw [show (q : Int) + 2 = ((q + 2 : Nat) : Int) by omega, show ((q + 2 + T.getD (q + 1) 0 : Nat) : Int) + ((T.getD (q + 1) 0 : Nat) : Int) + 1 = ((q + 3 + 2 * T.getD (q + 1) 0 : Nat) : Int) by omega]
                    show GO Z X (wM Z b sd sz os (M : Int) (L : Int) (Dp : Int) 0 pl ((u + (3 + 2 * T.getD (q + 1) 0 + 2 * T.getD (q + 2 + 2 * T.getD (q + 1) 0) 0) : Nat) : Int) re pk rd ((t : Int) + 1) gT gO gF gE gN gQ gM gC gA gI gU gK gP gS gX gD9 gH gL) 0 0 204 [(0, .ref (b 0)), (1, .int (iI (t : Int))), (2, .int (iI (q : Int))), (3, .int (iI ((T.getD (q + 1) 0 : Nat) : Int))), (4, .int (iI ((q + 2 + T.getD (q + 1) 0 : Nat) : Int))), (5, .int (iI k))] [.int (iI ((T.getD (q + 2 + 2 * T.getD (q + 1) 0) 0 : Nat) : Int)), .int (iI ((q + 3 + 2 * T.getD (q + 1) 0 : Nat) : Int)), .int (iI ((T.getD (q + 1) 0 : Nat) : Int)), .int (iI ((q + 2 : Nat) : Int)), .int (iI (t : Int)), .ref (b 0)]
                    refine go_callV (As := [.int (iI (t : Int)), .int (iI ((q + 2 : Nat) : Int)), .int (iI ((T.getD (q + 1) 0 : Nat) : Int)), .int (iI ((q + 3 + 2 * T.getD (q + 1) 0 : Nat) : Int)), .int (iI ((T.getD (q + 2 + 2 * T.getD (q + 1) 0) 0 : Nat) : Int))]) (rest := []) hK hR 204 (ct_X6_bits Z b (u2 := u + (3 + 2 * T.getD (q + 1) 0 + 2 * T.getD (q + 2 + 2 * T.getD (q + 1) 0) 0)) (sy := q + 2) (a := q + 2 + T.getD (q + 1) 0) (m := T.getD (q + 1) 0) (bg := q + 3 + 2 * T.getD (q + 1) 0) (n := T.getD (q + 2 + 2 * T.getD (q + 1) 0) 0) ⟨hT, hTl, hT8, hO, hOM, hM4, huL, hL2, hD8⟩ ⟨ht8, hF, hE, hQ, hM, hC, hfq, hqe, heT, ho0, hA, hI, hU⟩ ⟨by omega, by omega⟩ (by omega) hls hgd ⟨by omega, by omega⟩ (by omega) hD9) cw_X6_187 gn_X6_bits rfl dX6_coded_204 gSel_all ⟨0, 5, _, _, _, rfl, rfl⟩ rfl (Nat.le_of_ble_eq_true rfl) ⟨(by decide), (by decide)⟩ (fun _ _ _ h => h.elim) (fun v w1 h => ?_)
                    obtain ⟨rfl, hw9⟩ := h
                    show GO Z X w1 0 0 207 [(0, .ref (b 0)), (1, .int (iI (t : Int))), (2, .int (iI (q : Int))), (3, .int (iI ((T.getD (q + 1) 0 : Nat) : Int))), (4, .int (iI ((q + 2 + T.getD (q + 1) 0 : Nat) : Int))), (5, .int (iI k))] []
                    exact go_vret hK hR.1 207 [] dX6_coded_207 (by decide) (by decide) ((mRes_fst hw9).trans rfl) ⟨rfl, (by unfold spCoded; rw [if_neg (by omega), if_neg (by omega), if_neg (by omega), hsl]; dsimp only; rw [if_neg (fun z => z hgd), if_neg (by omega), if_neg (by omega), if_neg (by omega)]; exact hw9)⟩
                · show GO Z X (wM Z b sd sz os (M : Int) (L : Int) (Dp : Int) 3 (e : Int) (u : Int) re pk rd ((t : Int) + 1) gT gO gF gE gN gQ gM gC gA gI gU gK gP gS gX gD9 gH gL) 0 0 146 [(0, .ref (b 0)), (1, .int (iI (t : Int))), (2, .int (iI (q : Int))), (3, .int (iI ((T.getD (q + 1) 0 : Nat) : Int))), (4, .int (iI ((q + 2 + T.getD (q + 1) 0 : Nat) : Int))), (5, .int (iI k))] [.int (iI 0)]
                  refine go_if_eq (tgt := 207) hK 146 dX6_coded_146 (by decide) (by decide) (fun _ => ?_) (fun q => absurd q (by decide))
                  exact go_vret hK hR.1 207 [] dX6_coded_207 (by decide) (by decide) rfl ⟨rfl, mRes_er (by unfold spCoded; rw [if_neg (by omega), if_neg (by omega), if_neg (by omega), hsl]; dsimp only; rw [if_neg (fun z => z hgd), if_pos (by omega)]) ⟨_, _, _, hO, rfl⟩⟩
              · have hgd : ¬ goodT T (q + 2 + T.getD (q + 1) 0) (T.getD (q + 1) 0) := by rcases hg9 with z | z; exact absurd z.1 (by omega); exact z.2
                refine go_aload_n hK 126 0 dX6_coded_126 rfl rfl ?_
                refine go_bipush hK 127 dX6_coded_127 (by decide) ?_
                refine go_iload hK 129 4 dX6_coded_129 rfl ?_
                refine go_callV (As := [.int (iI 6), .int (iI ((q + 2 + T.getD (q + 1) 0 : Nat) : Int))]) (rest := []) hK hR 131 (ct_X6_fails Z b) cw_X6_131 gn_X6_fails rfl dX6_coded_131 gSel_all ⟨0, 5, _, _, _, rfl, rfl⟩ rfl (Nat.le_of_ble_eq_true rfl) ⟨(by decide), (by decide)⟩ (fun _ _ _ h => h.elim) (fun v w1 h => ?_)
                obtain ⟨rfl, rfl⟩ := h
                show GO Z X (wM Z b sd sz os (M : Int) (L : Int) (Dp : Int) 6 ((q + 2 + T.getD (q + 1) 0 : Nat) : Int) (u : Int) re pk rd ((t : Int) + 1) gT gO gF gE gN gQ gM gC gA gI gU gK gP gS gX gD9 gH gL) 0 0 134 [(0, .ref (b 0)), (1, .int (iI (t : Int))), (2, .int (iI (q : Int))), (3, .int (iI ((T.getD (q + 1) 0 : Nat) : Int))), (4, .int (iI ((q + 2 + T.getD (q + 1) 0 : Nat) : Int))), (5, .int (iI k))] []
                refine go_goto (tgt := 207) hK 134 dX6_coded_134 (by decide) ?_
                exact go_vret hK hR.1 207 [] dX6_coded_207 (by decide) (by decide) rfl ⟨rfl, mRes_er (by unfold spCoded; rw [if_neg (by omega), if_neg (by omega), if_neg (by omega), hsl]; dsimp only; rw [if_pos hgd]) ⟨_, _, _, hO, rfl⟩⟩
            · refine go_aload_n hK 69 0 dX6_coded_69 rfl rfl ?_
              refine go_iload hK 70 4 dX6_coded_70 rfl ?_
              refine go_iload hK 72 5 dX6_coded_72 rfl ?_
              refine go_iadd hK 74 dX6_coded_74 ?_
              refine go_iconst hK 75 dX6_coded_75 ?_
              have hfl : ∀ {x : Nat × Nat}, spLen T e (q + 2 + T.getD (q + 1) 0) (i + 1) = some x → spLen T e (q + 2 + T.getD (q + 1) 0) (T.getD (q + 1) 0) = some x := fun h => by have := spLen_m h (T.getD (q + 1) 0 - (i + 1)); rw [show i + 1 + (T.getD (q + 1) 0 - (i + 1)) = T.getD (q + 1) 0 by omega] at this; exact this
              refine go_callV (As := [.int (iI (((q + 2 + T.getD (q + 1) 0 : Nat) : Int) + k)), .int (iI 1)]) (rest := []) hK hR 76 (ct_X6_has Z b rfl (by omega) hE' (by omega) (by omega)) cw_X6_149 gn_X6_has rfl dX6_coded_76 gSel_all ⟨0, 5, _, _, _, rfl, rfl⟩ rfl (Nat.le_of_ble_eq_true rfl) ⟨(by decide), (by decide)⟩ (fun _ _ _ h => h.elim) (fun v w1 h => ?_)
              rcases h with ⟨rfl, ch12, rfl⟩ | ⟨rfl, ch12, rfl⟩
              · show GO Z X (wM Z b sd sz os (M : Int) (L : Int) (Dp : Int) 0 pl (u : Int) re pk rd ((t : Int) + 1) gT gO gF gE gN gQ gM gC gA gI gU gK gP gS gX gD gH gL) 0 0 79 [(0, .ref (b 0)), (1, .int (iI (t : Int))), (2, .int (iI (q : Int))), (3, .int (iI ((T.getD (q + 1) 0 : Nat) : Int))), (4, .int (iI ((q + 2 + T.getD (q + 1) 0 : Nat) : Int))), (5, .int (iI k))] [.int (iI 1)]
                refine go_if_ne (tgt := 83) hK 79 dX6_coded_79 (by decide) (by decide) (fun _ => ?_) (fun q => absurd q (by decide))
                refine go_aload_n hK 83 0 dX6_coded_83 rfl rfl ?_
                refine go_get hK 84 fl_X6_7 dX6_coded_84 0 rfl rfl ?_
                refine go_iload hK 87 4 dX6_coded_87 rfl ?_
                refine go_iload hK 89 5 dX6_coded_89 rfl ?_
                refine go_iadd hK 91 dX6_coded_91 ?_
                refine go_iald hK 92 dX6_coded_92 1 rfl (by omega) (by decide) ?_
                have hb9 := hT8 (q + 2 + T.getD (q + 1) 0 + i)
                rw [show gT (((q + 2 + T.getD (q + 1) 0 : Nat) : Int) + k).toNat = ((T.getD (q + 2 + T.getD (q + 1) 0 + i) 0 : Nat) : Int) by rw [show (((q + 2 + T.getD (q + 1) 0 : Nat) : Int) + k).toNat = q + 2 + T.getD (q + 1) 0 + i by omega]; exact hT.2 (q + 2 + T.getD (q + 1) 0 + i) (by omega)]
                refine go_bipush hK 93 dX6_coded_93 (by decide) ?_
                refine go_icmp_le (tgt := 110) hK 95 dX6_coded_95 (by decide) (by omega) (by decide) (fun c13 => ?_) (fun c13 => ?_)
                · refine go_iinc (lo' := [(5, .int (iI (k + 1))), (0, .ref (b 0)), (1, .int (iI (t : Int))), (2, .int (iI (q : Int))), (3, .int (iI ((T.getD (q + 1) 0 : Nat) : Int))), (4, .int (iI ((q + 2 + T.getD (q + 1) 0 : Nat) : Int)))]) hK 110 5 5 dX6_coded_110 rfl (by decide) rfl ?_
                  refine go_goto (tgt := 63) hK 113 dX6_coded_113 (by decide) ?_
                  refine go_lo [1, 2, 3, 4, 5, 0] rfl ?_
                  exact ih (i + 1) (k + 1) (by omega) (by omega) ((spLen_s hsl).trans (by rw [if_neg (by omega), if_neg (by omega)])) (by omega)
                · refine go_aload_n hK 98 0 dX6_coded_98 rfl rfl ?_
                  refine go_bipush hK 99 dX6_coded_99 (by decide) ?_
                  refine go_iload hK 101 4 dX6_coded_101 rfl ?_
                  refine go_iload hK 103 5 dX6_coded_103 rfl ?_
                  refine go_iadd hK 105 dX6_coded_105 ?_
                  rw [show ((q + 2 + T.getD (q + 1) 0 : Nat) : Int) + k = ((q + 2 + T.getD (q + 1) 0 + i : Nat) : Int) by omega]
                  show GO Z X (wM Z b sd sz os (M : Int) (L : Int) (Dp : Int) 0 pl (u : Int) re pk rd ((t : Int) + 1) gT gO gF gE gN gQ gM gC gA gI gU gK gP gS gX gD gH gL) 0 0 106 [(0, .ref (b 0)), (1, .int (iI (t : Int))), (2, .int (iI (q : Int))), (3, .int (iI ((T.getD (q + 1) 0 : Nat) : Int))), (4, .int (iI ((q + 2 + T.getD (q + 1) 0 : Nat) : Int))), (5, .int (iI k))] [.int (iI ((q + 2 + T.getD (q + 1) 0 + i : Nat) : Int)), .int (iI 6), .ref (b 0)]
                  refine go_callV (As := [.int (iI 6), .int (iI ((q + 2 + T.getD (q + 1) 0 + i : Nat) : Int))]) (rest := []) hK hR 106 (ct_X6_fails Z b) cw_X6_131 gn_X6_fails rfl dX6_coded_106 gSel_all ⟨0, 5, _, _, _, rfl, rfl⟩ rfl (Nat.le_of_ble_eq_true rfl) ⟨(by decide), (by decide)⟩ (fun _ _ _ h => h.elim) (fun v w1 h => ?_)
                  obtain ⟨rfl, rfl⟩ := h
                  show GO Z X (wM Z b sd sz os (M : Int) (L : Int) (Dp : Int) 6 ((q + 2 + T.getD (q + 1) 0 + i : Nat) : Int) (u : Int) re pk rd ((t : Int) + 1) gT gO gF gE gN gQ gM gC gA gI gU gK gP gS gX gD gH gL) 0 0 109 [(0, .ref (b 0)), (1, .int (iI (t : Int))), (2, .int (iI (q : Int))), (3, .int (iI ((T.getD (q + 1) 0 : Nat) : Int))), (4, .int (iI ((q + 2 + T.getD (q + 1) 0 : Nat) : Int))), (5, .int (iI k))] []
                  exact go_vret hK hR.1 109 [] dX6_coded_109 (by decide) (by decide) rfl ⟨rfl, mRes_er (by unfold spCoded; rw [if_neg (by omega), if_neg (by omega), if_neg (by omega), hfl ((spLen_s hsl).trans (by rw [if_neg (by omega), if_pos (by omega)]))]) ⟨_, _, _, hO, rfl⟩⟩
              · show GO Z X (wM Z b sd sz os (M : Int) (L : Int) (Dp : Int) 3 (e : Int) (u : Int) re pk rd ((t : Int) + 1) gT gO gF gE gN gQ gM gC gA gI gU gK gP gS gX gD gH gL) 0 0 79 [(0, .ref (b 0)), (1, .int (iI (t : Int))), (2, .int (iI (q : Int))), (3, .int (iI ((T.getD (q + 1) 0 : Nat) : Int))), (4, .int (iI ((q + 2 + T.getD (q + 1) 0 : Nat) : Int))), (5, .int (iI k))] [.int (iI 0)]
                refine go_if_ne (tgt := 83) hK 79 dX6_coded_79 (by decide) (by decide) (fun q => absurd q (by decide)) (fun _ => ?_)
                exact go_vret hK hR.1 82 [] dX6_coded_82 (by decide) (by decide) rfl ⟨rfl, mRes_er (by unfold spCoded; rw [if_neg (by omega), if_neg (by omega), if_neg (by omega), hfl ((spLen_s hsl).trans (if_pos (by omega)))]) ⟨_, _, _, hO, rfl⟩⟩
        exact lp _ 0 0 (by omega) rfl rfl (Nat.lt_succ_self _)
      · show GO Z X (wM Z b sd sz os (M : Int) (L : Int) (Dp : Int) 3 (e : Int) (u : Int) re pk rd ((t : Int) + 1) gT gO gF gE gN gQ gM gC gA gI gU gK gP gS gX gD gH gL) 0 0 49 [(3, .int (iI ((T.getD (q + 1) 0 : Nat) : Int))), (0, .ref (b 0)), (1, .int (iI (t : Int))), (2, .int (iI (q : Int)))] [.int (iI 0)]
        refine go_if_ne (tgt := 53) hK 49 dX6_coded_49 (by decide) (by decide) (fun q => absurd q (by decide)) (fun _ => ?_)
        exact go_vret hK hR.1 52 [] dX6_coded_52 (by decide) (by decide) rfl ⟨rfl, mRes_er (by unfold spCoded; rw [if_neg (by omega), if_neg (by omega), if_pos (by omega)]) ⟨_, _, _, hO, rfl⟩⟩
    · refine go_aload_n hK 31 0 dX6_coded_31 rfl rfl ?_
      refine go_bipush hK 32 dX6_coded_32 (by decide) ?_
      refine go_iload_n hK 34 2 dX6_coded_34 rfl rfl ?_
      refine go_iconst hK 35 dX6_coded_35 ?_
      refine go_iadd hK 36 dX6_coded_36 ?_
      refine go_callV (As := [.int (iI 6), .int (iI ((q : Int) + 1))]) (rest := []) hK hR 37 (ct_X6_fails Z b) cw_X6_131 gn_X6_fails rfl dX6_coded_37 gSel_all ⟨0, 5, _, _, _, rfl, rfl⟩ rfl (Nat.le_of_ble_eq_true rfl) ⟨(by decide), (by decide)⟩ (fun _ _ _ h => h.elim) (fun v w1 h => ?_)
      obtain ⟨rfl, rfl⟩ := h
      show GO Z X (wM Z b sd sz os (M : Int) (L : Int) (Dp : Int) 6 ((q : Int) + 1) (u : Int) re pk rd ((t : Int) + 1) gT gO gF gE gN gQ gM gC gA gI gU gK gP gS gX gD gH gL) 0 0 40 [(3, .int (iI ((T.getD (q + 1) 0 : Nat) : Int))), (0, .ref (b 0)), (1, .int (iI (t : Int))), (2, .int (iI (q : Int)))] []
      exact go_vret hK hR.1 40 [] dX6_coded_40 (by decide) (by decide) rfl ⟨rfl, mRes_er (by unfold spCoded; rw [if_neg (by omega), if_pos (by omega)]) ⟨_, _, _, hO, rfl⟩⟩
  · show GO Z X (wM Z b sd sz os (M : Int) (L : Int) (Dp : Int) 3 (e : Int) (u : Int) re pk rd ((t : Int) + 1) gT gO gF gE gN gQ gM gC gA gI gU gK gP gS gX gD gH gL) 0 0 6 [(0, .ref (b 0)), (1, .int (iI (t : Int))), (2, .int (iI (q : Int)))] [.int (iI 0)]
    refine go_if_ne (tgt := 10) hK 6 dX6_coded_6 (by decide) (by decide) (fun q => absurd q (by decide)) (fun _ => ?_)
    exact go_vret hK hR.1 9 [] dX6_coded_9 (by decide) (by decide) rfl ⟨rfl, mRes_er (by unfold spCoded; rw [if_pos (by omega)]) ⟨_, _, _, hO, rfl⟩⟩

