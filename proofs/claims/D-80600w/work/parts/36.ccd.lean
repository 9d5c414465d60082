/-! a scope's coded item (printed by gen/c6.py) -/
set_option maxRecDepth 100000
abbrev fC (p : Nat → Nat) : List Nat := [p 0, p 1, p 2, p 3, p 4, p 5, p 6, p 7, p 8, p 9, p 10, p 11, p 12, p 13, p 14, p (15 + 0), p (15 + 1), p (15 + 2), p (15 + 3), p (15 + 4), p (15 + 5), p (15 + 6), p (15 + 7), p (15 + 8)]
theorem cRes_fst {Z : Gz} {p : Nat → Nat} {sd : Int64} {ed im mo li de us re pk fa pl rd sz s2 os tm tk tp : Int} {gT gS gO gY gW gE gI : Nat → Int} {sc : Nat → Sc} {d : Nat} {e ob eb qa fi : Int} {r : Rs} {w : va_W} (h : cRes Z p sd ed im mo li de us re pk fa pl rd sz s2 os tm tk tp gT gS gO gY gW gE gI sc d e ob eb qa fi r w) : w.map Prod.fst = fC p := by
  cases r with
  | error x => exact h.elim
  | ok x => obtain ⟨_, _, _, _, _, _, rfl⟩ := h; rfl
theorem cErr_fst {Z : Gz} {p : Nat → Nat} {sd : Int64} {ed im mo li de us re pk fa pl rd sz s2 os tm tk tp : Int} {gT gS gO gY gW gE gI : Nat → Int} {sc : Nat → Sc} {d : Nat} {e ob eb qa fi : Int} {r : Rs} {w : va_W} (h : cErr Z p sd ed im mo li de us re pk fa pl rd sz s2 os tm tk tp gT gS gO gY gW gE gI sc d e ob eb qa fi r w) : w.map Prod.fst = fC p := by
  cases r with
  | ok x => exact h.elim
  | error x => obtain ⟨_, _, _, _, _, _, _, rfl⟩ := h; rfl
abbrev rm_X5_coded : Room := { frames := 3, cells := 0, slots := 0, locals := 71 }
set_option maxHeartbeats 8000000 in
theorem ct_X5_coded (Z : Gz) (p : Nat → Nat) {sd : Int64} {ed im de re pk fa pl rd sz s2 os tm tk tp : Int} {gT gS gO gY gW gE gI : Nat → Int} {sc : Nat → Sc} {d : Nat} {T O C : List Nat} {u M L E q o0 b0 : Nat} (hd8 : d ≤ 8) (hRS : RSc T O u M L sz os gT gO) (hSC : SCc T O C E q o0 b0 ed gE) : CT Z yX5_coded cX5_coded 4 none rm_X5_coded [.ref (p (15 + d))] (wS Z p sd ed im (M : Int) (L : Int) de (u : Int) re pk fa pl rd sz s2 os tm tk tp gT gS gO gY gW gE gI sc d (E : Int) (o0 : Int) (b0 : Int) ((q + 1 : Nat) : Int) (q : Int)) (fun v w => v = none ∧ cRes Z p sd ed im (M : Int) (L : Int) de (u : Int) re pk fa pl rd sz s2 os tm tk tp gT gS gO gY gW gE gI sc d (E : Int) (o0 : Int) (b0 : Int) ((q + 1 : Nat) : Int) (q : Int) (spCoded T M L E q O u) w) (fun qx w => qx = p 11 ∧ cErr Z p sd ed im (M : Int) (L : Int) de (u : Int) re pk fa pl rd sz s2 os tm tk tp gT gS gO gY gW gE gI sc d (E : Int) (o0 : Int) (b0 : Int) ((q + 1 : Nat) : Int) (q : Int) (spCoded T M L E q O u) w) := by
  refine ct_of (by decide) (Nat.le_of_ble_eq_true rfl) (fun X hK hR => ?_)
  show GO Z X (wS Z p sd ed im (M : Int) (L : Int) de (u : Int) re pk fa pl rd sz s2 os tm tk tp gT gS gO gY gW gE gI sc d (E : Int) (o0 : Int) (b0 : Int) ((q + 1 : Nat) : Int) (q : Int)) 0 0 0 [(0, .ref (p (15 + d)))] []
  obtain ⟨hT, hTl, hT8, hO, hOM, hM4, huL, hL2⟩ := hRS
  obtain ⟨hqe, heT, ho0, hC, hed, hb12⟩ := hSC
  have hOl := hO.1
  refine go_aload_n hK 0 0 dX5_coded_0 rfl rfl ?_
  refine go_callV (As := []) (rest := []) hK hR 1 (ct_X5_next Z p (q := q + 1) (E := E) hd8 hT ⟨by omega, by omega, by omega⟩) cw_X5_75 gn_X5_next rfl dX5_coded_1 gSel_all ⟨15 + d, 4, _, _, _, wS_sc hd8, rfl⟩ rfl (Nat.le_of_ble_eq_true rfl) ⟨(by decide), (by decide)⟩ (fun _ _ _ hx hm => by obtain ⟨rfl, hle, rfl⟩ := hx; exact ⟨⟨[], (List.append_nil _).symm⟩, ⟨rfl, cErr_er (by unfold spCoded; rw [if_pos (by omega)]) ⟨_, _, _, _, _, _, hO, rfl⟩⟩⟩) (fun v w1 h => ?_)
  obtain ⟨rfl, hlt2, rfl⟩ := h
  show GO Z X (wS Z p sd ed im (M : Int) (L : Int) de (u : Int) re pk fa pl rd sz s2 os tm tk tp gT gS gO gY gW gE gI sc d (E : Int) (o0 : Int) (b0 : Int) ((q + 1 + 1 : Nat) : Int) (q : Int)) 0 0 4 [(0, .ref (p (15 + d)))] [.int (iI ((T.getD (q + 1) 0 : Nat) : Int))]
  have hb1 := hT8 (q + 1)
  refine go_istore_n (lo' := [(1, .int (iI ((T.getD (q + 1) 0 : Nat) : Int))), (0, .ref (p (15 + d)))]) hK 4 1 dX5_coded_4 rfl (by decide) rfl ?_
  refine go_aload_n hK 5 0 dX5_coded_5 rfl rfl ?_
  refine go_get hK 6 fl_X5_3 dX5_coded_6 (15 + d) (wS_sc hd8) rfl ?_
  refine go_iload_n hK 9 1 dX5_coded_9 rfl rfl ?_
  refine go_iconst hK 10 dX5_coded_10 ?_
  refine go_bipush hK 11 dX5_coded_11 (by decide) ?_
  refine go_callSN (As := [.int (iI ((T.getD (q + 1) 0 : Nat) : Int)), .int (iI 1), .int (iI 8)]) (rest := [.ref (p 0)]) hK hR 13 (ct_X1_in Z (x := ((T.getD (q + 1) 0 : Nat) : Int)) (lw := 1) (hg := 8) (by omega) (by omega) (by omega)) q131 q42 q129n q130 gn_X1_in rfl dX5_coded_13 gSel_nil  rfl (Nat.le_of_ble_eq_true rfl) ⟨(by decide), (by decide)⟩ (fun _ _ _ h => h.elim) (fun v w1 h => ?_)
  obtain ⟨⟨r3, rfl, hr4⟩, rfl⟩ := h
  rw [List.append_nil]
  show GO Z X (wS Z p sd ed im (M : Int) (L : Int) de (u : Int) re pk fa pl rd sz s2 os tm tk tp gT gS gO gY gW gE gI sc d (E : Int) (o0 : Int) (b0 : Int) ((q + 1 + 1 : Nat) : Int) (q : Int)) 0 0 16 [(1, .int (iI ((T.getD (q + 1) 0 : Nat) : Int))), (0, .ref (p (15 + d)))] [.int (iI r3), .ref (p 0)]
  refine go_bipush hK 16 dX5_coded_16 (by decide) ?_
  refine go_aload_n hK 18 0 dX5_coded_18 rfl rfl ?_
  refine go_get hK 19 fl_X5_19 dX5_coded_19 (15 + d) (wS_sc hd8) rfl ?_
  refine go_iconst hK 22 dX5_coded_22 ?_
  refine go_isub hK 23 dX5_coded_23 ?_
  rcases hr4 with ⟨rfl, hr4a, hr4b⟩ | ⟨rfl, hr4a⟩
  · show GO Z X (wS Z p sd ed im (M : Int) (L : Int) de (u : Int) re pk fa pl rd sz s2 os tm tk tp gT gS gO gY gW gE gI sc d (E : Int) (o0 : Int) (b0 : Int) ((q + 1 + 1 : Nat) : Int) (q : Int)) 0 0 24 [(1, .int (iI ((T.getD (q + 1) 0 : Nat) : Int))), (0, .ref (p (15 + d)))] [.int (iI (((q + 1 + 1 : Nat) : Int) - 1)), .int (iI 6), .int (iI 1), .ref (p 0)]
    refine go_callVN (As := [.int (iI 1), .int (iI 6), .int (iI (((q + 1 + 1 : Nat) : Int) - 1))]) (rest := []) hK hR 24 (ct_need1 Z p) q96 q42 q93n q95 qs1 gn_X1_need rfl dX5_coded_24 gSel_all ⟨0, 0, _, _, _, rfl, rfl⟩ rfl (Nat.le_of_ble_eq_true rfl) ⟨(by decide), (by decide)⟩ (fun _ _ _ h => h.elim) (fun v w1 h => ?_)
    obtain ⟨rfl, rfl⟩ := h
    show GO Z X (wS Z p sd ed im (M : Int) (L : Int) de (u : Int) re pk fa pl rd sz s2 os tm tk tp gT gS gO gY gW gE gI sc d (E : Int) (o0 : Int) (b0 : Int) ((q + 1 + 1 : Nat) : Int) (q : Int)) 0 0 27 [(1, .int (iI ((T.getD (q + 1) 0 : Nat) : Int))), (0, .ref (p (15 + d)))] []
    refine go_aload_n hK 27 0 dX5_coded_27 rfl rfl ?_
    refine go_get hK 28 fl_X5_3 dX5_coded_28 (15 + d) (wS_sc hd8) rfl ?_
    refine go_getN hK 31 fl_X5_135 dX5_coded_31 0 rfl rfl ?_
    refine go_iload_n hK 34 1 dX5_coded_34 rfl rfl ?_
    refine go_putN (w' := (wS Z p sd ed im (M : Int) (L : Int) de (u : Int) re pk fa pl rd sz s2 os ((T.getD (q + 1) 0 : Nat) : Int) tk tp gT gS gO gY gW gE gI sc d (E : Int) (o0 : Int) (b0 : Int) ((q + 1 + 1 : Nat) : Int) (q : Int))) hK 35 fl_X5_139 fw_X3_2 dX5_coded_35 8 rfl rfl rfl (Nat.le_of_ble_eq_true rfl) rfl ?_
    refine go_iconst hK 38 dX5_coded_38 ?_
    refine go_istore_n (lo' := [(2, .int (iI 0)), (1, .int (iI ((T.getD (q + 1) 0 : Nat) : Int))), (0, .ref (p (15 + d)))]) hK 39 2 dX5_coded_39 rfl (by decide) rfl ?_
    refine go_lo [2, 1, 0] rfl ?_
    have lp : ∀ (fu : Nat) (i : Nat) (k : Int) (gY1 : Nat → Int), (i ≤ T.getD (q + 1) 0 ∧ q + 2 + i ≤ E) → (k = i) → (∀ k, k < i → gY1 k = ((T.getD (q + 2 + k) 0 : Nat) : Int)) → T.getD (q + 1) 0 - i < fu → GO Z X (wS Z p sd ed im (M : Int) (L : Int) de (u : Int) re pk fa pl rd sz s2 os ((T.getD (q + 1) 0 : Nat) : Int) tk tp gT gS gO gY1 gW gE gI sc d (E : Int) (o0 : Int) (b0 : Int) ((q + 2 + i : Nat) : Int) (q : Int)) 0 0 40 [(0, .ref (p (15 + d))), (1, .int (iI ((T.getD (q + 1) 0 : Nat) : Int))), (2, .int (iI k))] [] := by
      intro fu
      induction fu with
      | zero => intro i k gY1 hi hk hY1 hm; exact absurd hm (Nat.not_lt_zero _)
      | succ fu ih =>
        intro i k gY1 hi hk hY1 hm
        refine go_iload_n hK 40 2 dX5_coded_40 rfl rfl ?_
        refine go_iload_n hK 41 1 dX5_coded_41 rfl rfl ?_
        refine go_icmp_ge (tgt := 67) hK 42 dX5_coded_42 (by decide) (by omega) (by omega) (fun c5 => ?_) (fun c5 => ?_)
        · have hi9 : i = T.getD (q + 1) 0 := by omega
          subst hi9
          show GO Z X (wS Z p sd ed im (M : Int) (L : Int) de (u : Int) re pk fa pl rd sz s2 os ((T.getD (q + 1) 0 : Nat) : Int) tk tp gT gS gO gY1 gW gE gI sc d (E : Int) (o0 : Int) (b0 : Int) ((q + 2 + T.getD (q + 1) 0 : Nat) : Int) (q : Int)) 0 0 67 [(0, .ref (p (15 + d))), (1, .int (iI ((T.getD (q + 1) 0 : Nat) : Int))), (2, .int (iI k))] []
          refine go_aload_n hK 67 0 dX5_coded_67 rfl rfl ?_
          refine go_get hK 68 fl_X5_19 dX5_coded_68 (15 + d) (wS_sc hd8) rfl ?_
          refine go_istore_n (lo' := [(2, .int (iI ((q + 2 + T.getD (q + 1) 0 : Nat) : Int))), (0, .ref (p (15 + d))), (1, .int (iI ((T.getD (q + 1) 0 : Nat) : Int)))]) hK 71 2 dX5_coded_71 rfl (by decide) rfl ?_
          refine go_iconst hK 72 dX5_coded_72 ?_
          refine go_istore_n (lo' := [(3, .int (iI 0)), (2, .int (iI ((q + 2 + T.getD (q + 1) 0 : Nat) : Int))), (0, .ref (p (15 + d))), (1, .int (iI ((T.getD (q + 1) 0 : Nat) : Int)))]) hK 73 3 dX5_coded_73 rfl (by decide) rfl ?_
          refine go_lo [2, 3, 1, 0] rfl ?_
          have lp2 : ∀ (fu : Nat) (i2 : Nat) (k2 : Int) (gW1 : Nat → Int), (i2 ≤ T.getD (q + 1) 0 ∧ q + 2 + T.getD (q + 1) 0 + i2 ≤ E) → (k2 = i2) → (spLen T E (q + 2 + T.getD (q + 1) 0) i2 = none) → (∀ k, k < i2 → gW1 k = ((T.getD (q + 2 + T.getD (q + 1) 0 + k) 0 : Nat) : Int)) → T.getD (q + 1) 0 - i2 < fu → GO Z X (wS Z p sd ed im (M : Int) (L : Int) de (u : Int) re pk fa pl rd sz s2 os ((T.getD (q + 1) 0 : Nat) : Int) tk tp gT gS gO gY1 gW1 gE gI sc d (E : Int) (o0 : Int) (b0 : Int) ((q + 2 + T.getD (q + 1) 0 + i2 : Nat) : Int) (q : Int)) 0 0 74 [(0, .ref (p (15 + d))), (1, .int (iI ((T.getD (q + 1) 0 : Nat) : Int))), (2, .int (iI ((q + 2 + T.getD (q + 1) 0 : Nat) : Int))), (3, .int (iI k2))] [] := by
            intro fu
            induction fu with
            | zero => intro i2 k2 gW1 hi2 hk2 hsl hW1 hm; exact absurd hm (Nat.not_lt_zero _)
            | succ fu ih2 =>
              intro i2 k2 gW1 hi2 hk2 hsl hW1 hm
              refine go_iload_n hK 74 3 dX5_coded_74 rfl rfl ?_
              refine go_iload_n hK 75 1 dX5_coded_75 rfl rfl ?_
              refine go_icmp_ge (tgt := 138) hK 76 dX5_coded_76 (by decide) (by omega) (by omega) (fun c6 => ?_) (fun c6 => ?_)
              · have hi8 : i2 = T.getD (q + 1) 0 := by omega
                rw [hi8]
                rw [hi8] at hsl hW1
                show GO Z X (wS Z p sd ed im (M : Int) (L : Int) de (u : Int) re pk fa pl rd sz s2 os ((T.getD (q + 1) 0 : Nat) : Int) tk tp gT gS gO gY1 gW1 gE gI sc d (E : Int) (o0 : Int) (b0 : Int) ((q + 2 + T.getD (q + 1) 0 + T.getD (q + 1) 0 : Nat) : Int) (q : Int)) 0 0 138 [(0, .ref (p (15 + d))), (1, .int (iI ((T.getD (q + 1) 0 : Nat) : Int))), (2, .int (iI ((q + 2 + T.getD (q + 1) 0 : Nat) : Int))), (3, .int (iI k2))] []
                have hls := fun k hk => (spLen_n hsl k hk).2
                have hle2 := spLen_n hsl
                have hle3 : q + 2 + T.getD (q + 1) 0 + T.getD (q + 1) 0 ≤ E := by have := (hle2 (T.getD (q + 1) 0 - 1) (by omega)).1; omega
                refine go_aload_n hK 138 0 dX5_coded_138 rfl rfl ?_
                refine go_get hK 139 fl_X5_3 dX5_coded_139 (15 + d) (wS_sc hd8) rfl ?_
                refine go_aload_n hK 142 0 dX5_coded_142 rfl rfl ?_
                refine go_get hK 143 fl_X5_3 dX5_coded_143 (15 + d) (wS_sc hd8) rfl ?_
                refine go_getN hK 146 fl_X5_135 dX5_coded_146 0 rfl rfl ?_
                refine go_callV (As := []) (rest := [.ref (p 0)]) hK hR 149 (ct_X3_isGood Z (p 8) (p 9) (p 10) (T := T) (sy := 0) (a := q + 2 + T.getD (q + 1) 0) (m := T.getD (q + 1) 0) (by omega) hW1 hls) cw_X5_148 gn_X3_isGood rfl dX5_coded_149 (gSel_at [8, 9, 10] rfl rfl) ⟨0, 2, _, _, _, rfl, rfl⟩ rfl (Nat.le_of_ble_eq_true rfl) ⟨(by decide), (by decide)⟩ (fun _ _ _ h => h.elim) (fun v w1 h => ?_)
                obtain ⟨⟨rg, rfl, hg9⟩, rfl⟩ := h
                show GO Z X (wS Z p sd ed im (M : Int) (L : Int) de (u : Int) re pk fa pl rd sz s2 os ((T.getD (q + 1) 0 : Nat) : Int) tk tp gT gS gO gY1 gW1 gE gI sc d (E : Int) (o0 : Int) (b0 : Int) ((q + 2 + T.getD (q + 1) 0 + T.getD (q + 1) 0 : Nat) : Int) (q : Int)) 0 0 152 [(0, .ref (p (15 + d))), (1, .int (iI ((T.getD (q + 1) 0 : Nat) : Int))), (2, .int (iI ((q + 2 + T.getD (q + 1) 0 : Nat) : Int))), (3, .int (iI k2))] [.int (iI rg), .ref (p 0)]
                refine go_bipush hK 152 dX5_coded_152 (by decide) ?_
                refine go_iload_n hK 154 2 dX5_coded_154 rfl rfl ?_
                rcases hg9 with ⟨rfl, hg9a⟩ | ⟨rfl, hg9a⟩
                · show GO Z X (wS Z p sd ed im (M : Int) (L : Int) de (u : Int) re pk fa pl rd sz s2 os ((T.getD (q + 1) 0 : Nat) : Int) tk tp gT gS gO gY1 gW1 gE gI sc d (E : Int) (o0 : Int) (b0 : Int) ((q + 2 + T.getD (q + 1) 0 + T.getD (q + 1) 0 : Nat) : Int) (q : Int)) 0 0 155 [(0, .ref (p (15 + d))), (1, .int (iI ((T.getD (q + 1) 0 : Nat) : Int))), (2, .int (iI ((q + 2 + T.getD (q + 1) 0 : Nat) : Int))), (3, .int (iI k2))] [.int (iI ((q + 2 + T.getD (q + 1) 0 : Nat) : Int)), .int (iI 6), .int (iI 1), .ref (p 0)]
                  refine go_callVN (As := [.int (iI 1), .int (iI 6), .int (iI ((q + 2 + T.getD (q + 1) 0 : Nat) : Int))]) (rest := []) hK hR 155 (ct_need1 Z p) q96 q42 q93n q95 qs1 gn_X1_need rfl dX5_coded_155 gSel_all ⟨0, 0, _, _, _, rfl, rfl⟩ rfl (Nat.le_of_ble_eq_true rfl) ⟨(by decide), (by decide)⟩ (fun _ _ _ h => h.elim) (fun v w1 h => ?_)
                  obtain ⟨rfl, rfl⟩ := h
                  show GO Z X (wS Z p sd ed im (M : Int) (L : Int) de (u : Int) re pk fa pl rd sz s2 os ((T.getD (q + 1) 0 : Nat) : Int) tk tp gT gS gO gY1 gW1 gE gI sc d (E : Int) (o0 : Int) (b0 : Int) ((q + 2 + T.getD (q + 1) 0 + T.getD (q + 1) 0 : Nat) : Int) (q : Int)) 0 0 158 [(0, .ref (p (15 + d))), (1, .int (iI ((T.getD (q + 1) 0 : Nat) : Int))), (2, .int (iI ((q + 2 + T.getD (q + 1) 0 : Nat) : Int))), (3, .int (iI k2))] []
                  refine go_aload_n hK 158 0 dX5_coded_158 rfl rfl ?_
                  refine go_callV (As := []) (rest := []) hK hR 159 (ct_X5_next Z p (q := q + 2 + T.getD (q + 1) 0 + T.getD (q + 1) 0) (E := E) hd8 hT ⟨by omega, by omega, by omega⟩) cw_X5_75 gn_X5_next rfl dX5_coded_159 gSel_all ⟨15 + d, 4, _, _, _, wS_sc hd8, rfl⟩ rfl (Nat.le_of_ble_eq_true rfl) ⟨(by decide), (by decide)⟩ (fun _ _ _ hx hm => by obtain ⟨rfl, hle, rfl⟩ := hx; exact ⟨⟨[], (List.append_nil _).symm⟩, ⟨rfl, cErr_er (k := 3) (p' := E) (by unfold spCoded; rw [if_neg (by omega), if_neg (by omega), if_neg (by omega), hsl]; dsimp only; rw [if_neg (fun z => z hg9a), if_pos (by omega)]) ⟨_, _, _, _, _, _, hO, rfl⟩⟩⟩) (fun v w1 h => ?_)
                  obtain ⟨rfl, hlt8, rfl⟩ := h
                  show GO Z X (wS Z p sd ed im (M : Int) (L : Int) de (u : Int) re pk fa pl rd sz s2 os ((T.getD (q + 1) 0 : Nat) : Int) tk tp gT gS gO gY1 gW1 gE gI sc d (E : Int) (o0 : Int) (b0 : Int) ((q + 2 + T.getD (q + 1) 0 + T.getD (q + 1) 0 + 1 : Nat) : Int) (q : Int)) 0 0 162 [(0, .ref (p (15 + d))), (1, .int (iI ((T.getD (q + 1) 0 : Nat) : Int))), (2, .int (iI ((q + 2 + T.getD (q + 1) 0 : Nat) : Int))), (3, .int (iI k2))] [.int (iI ((T.getD (q + 2 + T.getD (q + 1) 0 + T.getD (q + 1) 0) 0 : Nat) : Int))]
                  have hb7 := hT8 (q + 2 + T.getD (q + 1) 0 + T.getD (q + 1) 0)
                  have e22 : q + 2 + T.getD (q + 1) 0 + T.getD (q + 1) 0 = q + 2 + 2 * T.getD (q + 1) 0 := by omega
                  rw [show q + 2 + T.getD (q + 1) 0 + T.getD (q + 1) 0 = q + 2 + 2 * T.getD (q + 1) 0 by omega]
                  show GO Z X (wS Z p sd ed im (M : Int) (L : Int) de (u : Int) re pk fa pl rd sz s2 os ((T.getD (q + 1) 0 : Nat) : Int) tk tp gT gS gO gY1 gW1 gE gI sc d (E : Int) (o0 : Int) (b0 : Int) ((q + 2 + 2 * T.getD (q + 1) 0 + 1 : Nat) : Int) (q : Int)) 0 0 162 [(0, .ref (p (15 + d))), (1, .int (iI ((T.getD (q + 1) 0 : Nat) : Int))), (2, .int (iI ((q + 2 + T.getD (q + 1) 0 : Nat) : Int))), (3, .int (iI k2))] [.int (iI ((T.getD (q + 2 + 2 * T.getD (q + 1) 0) 0 : Nat) : Int))]
                  have hb0 := hT8 (q + 2 + 2 * T.getD (q + 1) 0)
                  refine go_istore_n (lo' := [(3, .int (iI ((T.getD (q + 2 + 2 * T.getD (q + 1) 0) 0 : Nat) : Int))), (0, .ref (p (15 + d))), (1, .int (iI ((T.getD (q + 1) 0 : Nat) : Int))), (2, .int (iI ((q + 2 + T.getD (q + 1) 0 : Nat) : Int)))]) hK 162 3 dX5_coded_162 rfl (by decide) rfl ?_
                  refine go_aload_n hK 163 0 dX5_coded_163 rfl rfl ?_
                  refine go_get hK 164 fl_X5_3 dX5_coded_164 (15 + d) (wS_sc hd8) rfl ?_
                  refine go_aload_n hK 167 0 dX5_coded_167 rfl rfl ?_
                  refine go_get hK 168 fl_X5_3 dX5_coded_168 (15 + d) (wS_sc hd8) rfl ?_
                  refine go_getN hK 171 fl_X5_44 dX5_coded_171 0 rfl rfl ?_
                  refine go_getN hK 174 fl_X5_47 dX5_coded_174 5 rfl rfl ?_
                  refine go_iload_n hK 177 3 dX5_coded_177 rfl rfl ?_
                  refine go_iadd hK 178 dX5_coded_178 ?_
                  refine go_aload_n hK 179 0 dX5_coded_179 rfl rfl ?_
                  refine go_get hK 180 fl_X5_3 dX5_coded_180 (15 + d) (wS_sc hd8) rfl ?_
                  refine go_getN hK 183 fl_X5_109 dX5_coded_183 0 rfl rfl ?_
                  refine go_icmp_gt (tgt := 193) hK 186 dX5_coded_186 (by decide) (by omega) (by omega) (fun c9 => ?_) (fun c9 => ?_)
                  · refine go_iconst hK 193 dX5_coded_193 ?_
                    refine go_bipush hK 194 dX5_coded_194 (by decide) ?_
                    refine go_aload_n hK 196 0 dX5_coded_196 rfl rfl ?_
                    refine go_get hK 197 fl_X5_90 dX5_coded_197 (15 + d) (wS_sc hd8) rfl ?_
                    refine go_callVN (As := [.int (iI 0), .int (iI 11), .int (iI (q : Int))]) (rest := []) hK hR 200 (ct_need0 Z p) q96 q42 q93n q95 qs1 gn_X1_need rfl dX5_coded_200 gSel_all ⟨0, 0, _, _, _, rfl, rfl⟩ rfl (Nat.le_of_ble_eq_true rfl) ⟨(by decide), (by decide)⟩ (fun _ _ _ hx hm => by obtain ⟨rfl, rfl⟩ := hx; exact ⟨⟨[], (List.append_nil _).symm⟩, ⟨rfl, cErr_er (k := 11) (p' := q) (by unfold spCoded; rw [if_neg (by omega), if_neg (by omega), if_neg (by omega), hsl]; dsimp only; rw [if_neg (fun z => z hg9a), if_neg (by omega), if_pos (by omega)]) ⟨_, _, _, _, _, _, hO, rfl⟩⟩⟩) (fun v w1 h => ?_)
                    exact h.elim
                  · refine go_iconst hK 189 dX5_coded_189 ?_
                    refine go_goto (tgt := 194) hK 190 dX5_coded_190 (by decide) ?_
                    refine go_bipush hK 194 dX5_coded_194 (by decide) ?_
                    refine go_aload_n hK 196 0 dX5_coded_196 rfl rfl ?_
                    refine go_get hK 197 fl_X5_90 dX5_coded_197 (15 + d) (wS_sc hd8) rfl ?_
                    refine go_callVN (As := [.int (iI 1), .int (iI 11), .int (iI (q : Int))]) (rest := []) hK hR 200 (ct_need1 Z p) q96 q42 q93n q95 qs1 gn_X1_need rfl dX5_coded_200 gSel_all ⟨0, 0, _, _, _, rfl, rfl⟩ rfl (Nat.le_of_ble_eq_true rfl) ⟨(by decide), (by decide)⟩ (fun _ _ _ h => h.elim) (fun v w1 h => ?_)
                    obtain ⟨rfl, rfl⟩ := h
                    show GO Z X (wS Z p sd ed im (M : Int) (L : Int) de (u : Int) re pk fa pl rd sz s2 os ((T.getD (q + 1) 0 : Nat) : Int) tk tp gT gS gO gY1 gW1 gE gI sc d (E : Int) (o0 : Int) (b0 : Int) ((q + 2 + 2 * T.getD (q + 1) 0 + 1 : Nat) : Int) (q : Int)) 0 0 203 [(3, .int (iI ((T.getD (q + 2 + 2 * T.getD (q + 1) 0) 0 : Nat) : Int))), (0, .ref (p (15 + d))), (1, .int (iI ((T.getD (q + 1) 0 : Nat) : Int))), (2, .int (iI ((q + 2 + T.getD (q + 1) 0 : Nat) : Int)))] []
                    refine go_aload_n hK 203 0 dX5_coded_203 rfl rfl ?_
                    refine go_aload_n hK 204 0 dX5_coded_204 rfl rfl ?_
                    refine go_get hK 205 fl_X5_19 dX5_coded_205 (15 + d) (wS_sc hd8) rfl ?_
                    refine go_aload_n hK 208 0 dX5_coded_208 rfl rfl ?_
                    refine go_get hK 209 fl_X5_90 dX5_coded_209 (15 + d) (wS_sc hd8) rfl ?_
                    refine go_isub hK 212 dX5_coded_212 ?_
                    refine go_iconst hK 213 dX5_coded_213 ?_
                    refine go_iload_n hK 214 3 dX5_coded_214 rfl rfl ?_
                    refine go_imul hK 215 dX5_coded_215 ?_
                    refine go_iadd hK 216 dX5_coded_216 ?_
                    refine go_aload_n hK 217 0 dX5_coded_217 rfl rfl ?_
                    refine go_get hK 218 fl_X5_90 dX5_coded_218 (15 + d) (wS_sc hd8) rfl ?_
                    rw [show (((q + 2 + 2 * T.getD (q + 1) 0 + 1 : Nat) : Int) - (q : Int)) + (2 * ((T.getD (q + 2 + 2 * T.getD (q + 1) 0) 0 : Nat) : Int)) = (((3 + 2 * T.getD (q + 1) 0 + 2 * T.getD (q + 2 + 2 * T.getD (q + 1) 0) 0) : Nat) : Int) by omega]
                    show GO Z X (wS Z p sd ed im (M : Int) (L : Int) de (u : Int) re pk fa pl rd sz s2 os ((T.getD (q + 1) 0 : Nat) : Int) tk tp gT gS gO gY1 gW1 gE gI sc d (E : Int) (o0 : Int) (b0 : Int) ((q + 2 + 2 * T.getD (q + 1) 0 + 1 : Nat) : Int) (q : Int)) 0 0 221 [(3, .int (iI ((T.getD (q + 2 + 2 * T.getD (q + 1) 0) 0 : Nat) : Int))), (0, .ref (p (15 + d))), (1, .int (iI ((T.getD (q + 1) 0 : Nat) : Int))), (2, .int (iI ((q + 2 + T.getD (q + 1) 0 : Nat) : Int)))] [.int (iI (q : Int)), .int (iI (((3 + 2 * T.getD (q + 1) 0 + 2 * T.getD (q + 2 + 2 * T.getD (q + 1) 0) 0) : Nat) : Int)), .ref (p (15 + d))]
                    refine go_callV (As := [.int (iI (((3 + 2 * T.getD (q + 1) 0 + 2 * T.getD (q + 2 + 2 * T.getD (q + 1) 0) 0) : Nat) : Int)), .int (iI (q : Int))]) (rest := []) hK hR 221 (ct_X5_cost Z p (u := u) (L := L) (n := (3 + 2 * T.getD (q + 1) 0 + 2 * T.getD (q + 2 + 2 * T.getD (q + 1) 0) 0)) hd8 ⟨by omega, by omega, by omega⟩) cw_X5_59 gn_X5_cost rfl dX5_coded_221 gSel_all ⟨15 + d, 4, _, _, _, wS_sc hd8, rfl⟩ rfl (Nat.le_of_ble_eq_true rfl) ⟨(by decide), (by decide)⟩ (fun _ _ _ hx hm => by obtain ⟨rfl, hu9, rfl⟩ := hx; exact ⟨⟨[], (List.append_nil _).symm⟩, ⟨rfl, cErr_er (k := 12) (p' := q) (by unfold spCoded; rw [if_neg (by omega), if_neg (by omega), if_neg (by omega), hsl]; dsimp only; rw [if_neg (fun z => z hg9a), if_neg (by omega), if_neg (by omega), if_pos (by omega)]) ⟨_, _, _, _, _, _, hO, rfl⟩⟩⟩) (fun v w1 h => ?_)
                    obtain ⟨rfl, hu9, rfl⟩ := h
                    show GO Z X (wS Z p sd ed im (M : Int) (L : Int) de ((u + (3 + 2 * T.getD (q + 1) 0 + 2 * T.getD (q + 2 + 2 * T.getD (q + 1) 0) 0) : Nat) : Int) re pk fa pl rd sz s2 os ((T.getD (q + 1) 0 : Nat) : Int) tk tp gT gS gO gY1 gW1 gE gI sc d (E : Int) (o0 : Int) (b0 : Int) ((q + 2 + 2 * T.getD (q + 1) 0 + 1 : Nat) : Int) (q : Int)) 0 0 224 [(3, .int (iI ((T.getD (q + 2 + 2 * T.getD (q + 1) 0) 0 : Nat) : Int))), (0, .ref (p (15 + d))), (1, .int (iI ((T.getD (q + 1) 0 : Nat) : Int))), (2, .int (iI ((q + 2 + T.getD (q + 1) 0 : Nat) : Int)))] []
                    refine go_aload_n hK 224 0 dX5_coded_224 rfl rfl ?_
                    refine go_iload_n hK 225 3 dX5_coded_225 rfl rfl ?_
                    rw [show q + 2 + 2 * T.getD (q + 1) 0 + 1 = q + 3 + 2 * T.getD (q + 1) 0 by omega]
                    show GO Z X (wS Z p sd ed im (M : Int) (L : Int) de ((u + (3 + 2 * T.getD (q + 1) 0 + 2 * T.getD (q + 2 + 2 * T.getD (q + 1) 0) 0) : Nat) : Int) re pk fa pl rd sz s2 os ((T.getD (q + 1) 0 : Nat) : Int) tk tp gT gS gO gY1 gW1 gE gI sc d (E : Int) (o0 : Int) (b0 : Int) ((q + 3 + 2 * T.getD (q + 1) 0 : Nat) : Int) (q : Int)) 0 0 226 [(3, .int (iI ((T.getD (q + 2 + 2 * T.getD (q + 1) 0) 0 : Nat) : Int))), (0, .ref (p (15 + d))), (1, .int (iI ((T.getD (q + 1) 0 : Nat) : Int))), (2, .int (iI ((q + 2 + T.getD (q + 1) 0 : Nat) : Int)))] [.int (iI ((T.getD (q + 2 + 2 * T.getD (q + 1) 0) 0 : Nat) : Int)), .ref (p (15 + d))]
                    have hcd : spCoded T M L E q O u = spBits T E (q + 2) (q + 2 + T.getD (q + 1) 0) (T.getD (q + 1) 0) (T.getD (q + 2 + 2 * T.getD (q + 1) 0) 0) (8 * (q + 3 + 2 * T.getD (q + 1) 0)) O (u + (3 + 2 * T.getD (q + 1) 0 + 2 * T.getD (q + 2 + 2 * T.getD (q + 1) 0) 0)) := (by unfold spCoded; rw [if_neg (by omega), if_neg (by omega), if_neg (by omega), hsl]; dsimp only; rw [if_neg (fun z => z hg9a), if_neg (by omega), if_neg (by omega), if_neg (by omega)])
                    refine go_callV (As := [.int (iI ((T.getD (q + 2 + 2 * T.getD (q + 1) 0) 0 : Nat) : Int))]) (rest := []) hK hR 226 (ct_X5_bits Z p (u2 := u + (3 + 2 * T.getD (q + 1) 0 + 2 * T.getD (q + 2 + 2 * T.getD (q + 1) 0) 0)) (sy := q + 2) (a := q + 2 + T.getD (q + 1) 0) (m := T.getD (q + 1) 0) (bg := q + 3 + 2 * T.getD (q + 1) 0) (n := T.getD (q + 2 + 2 * T.getD (q + 1) 0) 0) (q := q) (o0 := o0) (b0 := b0) (E := E) hd8 ⟨hT, hTl, hT8, hO, hOM, hM4, hu9, hL2⟩ heT ⟨by omega, by omega⟩ (by omega) hW1 hY1 hls (by omega)) cw_X5_151 gn_X5_bits rfl dX5_coded_226 gSel_all ⟨15 + d, 4, _, _, _, wS_sc hd8, rfl⟩ rfl (Nat.le_of_ble_eq_true rfl) ⟨(by decide), (by decide)⟩ (fun _ _ _ hx hm => by obtain ⟨rfl, hx⟩ := hx; exact ⟨⟨[], (cErr_fst hx).trans (List.append_nil _).symm⟩, rfl, (by rw [hcd]; exact hx)⟩) (fun v w1 h => ?_)
                    obtain ⟨rfl, hw9⟩ := h
                    show GO Z X w1 0 0 229 [(3, .int (iI ((T.getD (q + 2 + 2 * T.getD (q + 1) 0) 0 : Nat) : Int))), (0, .ref (p (15 + d))), (1, .int (iI ((T.getD (q + 1) 0 : Nat) : Int))), (2, .int (iI ((q + 2 + T.getD (q + 1) 0 : Nat) : Int)))] []
                    exact go_vret hK hR.1 229 [] dX5_coded_229 (by decide) (by decide) ((cRes_fst hw9).trans (List.append_nil _).symm) ⟨rfl, (by rw [hcd]; exact hw9)⟩
                · show GO Z X (wS Z p sd ed im (M : Int) (L : Int) de (u : Int) re pk fa pl rd sz s2 os ((T.getD (q + 1) 0 : Nat) : Int) tk tp gT gS gO gY1 gW1 gE gI sc d (E : Int) (o0 : Int) (b0 : Int) ((q + 2 + T.getD (q + 1) 0 + T.getD (q + 1) 0 : Nat) : Int) (q : Int)) 0 0 155 [(0, .ref (p (15 + d))), (1, .int (iI ((T.getD (q + 1) 0 : Nat) : Int))), (2, .int (iI ((q + 2 + T.getD (q + 1) 0 : Nat) : Int))), (3, .int (iI k2))] [.int (iI ((q + 2 + T.getD (q + 1) 0 : Nat) : Int)), .int (iI 6), .int (iI 0), .ref (p 0)]
                  refine go_callVN (As := [.int (iI 0), .int (iI 6), .int (iI ((q + 2 + T.getD (q + 1) 0 : Nat) : Int))]) (rest := []) hK hR 155 (ct_need0 Z p) q96 q42 q93n q95 qs1 gn_X1_need rfl dX5_coded_155 gSel_all ⟨0, 0, _, _, _, rfl, rfl⟩ rfl (Nat.le_of_ble_eq_true rfl) ⟨(by decide), (by decide)⟩ (fun _ _ _ hx hm => by obtain ⟨rfl, rfl⟩ := hx; exact ⟨⟨[], (List.append_nil _).symm⟩, ⟨rfl, cErr_er (k := 6) (p' := q + 2 + T.getD (q + 1) 0) (by unfold spCoded; rw [if_neg (by omega), if_neg (by omega), if_neg (by omega), hsl]; dsimp only; rw [if_pos hg9a]) ⟨_, _, _, _, _, _, hO, rfl⟩⟩⟩) (fun v w1 h => ?_)
                  exact h.elim
              · have hfl : ∀ {x : Nat × Nat}, spLen T E (q + 2 + T.getD (q + 1) 0) (i2 + 1) = some x → spLen T E (q + 2 + T.getD (q + 1) 0) (T.getD (q + 1) 0) = some x := fun h => by have := spLen_m h (T.getD (q + 1) 0 - (i2 + 1)); rw [show i2 + 1 + (T.getD (q + 1) 0 - (i2 + 1)) = T.getD (q + 1) 0 by omega] at this; exact this
                refine go_aload_n hK 79 0 dX5_coded_79 rfl rfl ?_
                refine go_get hK 80 fl_X5_3 dX5_coded_80 (15 + d) (wS_sc hd8) rfl ?_
                refine go_getN hK 83 fl_X5_135 dX5_coded_83 0 rfl rfl ?_
                refine go_getN hK 86 fl_X5_145 dX5_coded_86 8 rfl rfl ?_
                refine go_iload_n hK 89 3 dX5_coded_89 rfl rfl ?_
                refine go_aload_n hK 90 0 dX5_coded_90 rfl rfl ?_
                refine go_callV (As := []) (rest := [.int (iI k2), .ref (p 10)]) hK hR 91 (ct_X5_next Z p (q := q + 2 + T.getD (q + 1) 0 + i2) (E := E) hd8 hT ⟨by omega, by omega, by omega⟩) cw_X5_75 gn_X5_next rfl dX5_coded_91 gSel_all ⟨15 + d, 4, _, _, _, wS_sc hd8, rfl⟩ rfl (Nat.le_of_ble_eq_true rfl) ⟨(by decide), (by decide)⟩ (fun _ _ _ hx hm => by obtain ⟨rfl, hle, rfl⟩ := hx; exact ⟨⟨[], (List.append_nil _).symm⟩, ⟨rfl, cErr_er (by unfold spCoded; rw [if_neg (by omega), if_neg (by omega), if_neg (by omega), hfl ((spLen_s hsl).trans (if_pos (by omega)))]) ⟨_, _, _, _, _, _, hO, rfl⟩⟩⟩) (fun v w1 h => ?_)
                obtain ⟨rfl, hlt11, rfl⟩ := h
                show GO Z X (wS Z p sd ed im (M : Int) (L : Int) de (u : Int) re pk fa pl rd sz s2 os ((T.getD (q + 1) 0 : Nat) : Int) tk tp gT gS gO gY1 gW1 gE gI sc d (E : Int) (o0 : Int) (b0 : Int) ((q + 2 + T.getD (q + 1) 0 + i2 + 1 : Nat) : Int) (q : Int)) 0 0 94 [(0, .ref (p (15 + d))), (1, .int (iI ((T.getD (q + 1) 0 : Nat) : Int))), (2, .int (iI ((q + 2 + T.getD (q + 1) 0 : Nat) : Int))), (3, .int (iI k2))] [.int (iI ((T.getD (q + 2 + T.getD (q + 1) 0 + i2) 0 : Nat) : Int)), .int (iI k2), .ref (p 10)]
                have hb10 := hT8 (q + 2 + T.getD (q + 1) 0 + i2)
                refine go_iast (w' := (wS Z p sd ed im (M : Int) (L : Int) de (u : Int) re pk fa pl rd sz s2 os ((T.getD (q + 1) 0 : Nat) : Int) tk tp gT gS gO gY1 (va_up gW1 k2.toNat ((T.getD (q + 2 + T.getD (q + 1) 0 + i2) 0 : Nat) : Int)) gE gI sc d (E : Int) (o0 : Int) (b0 : Int) ((q + 2 + T.getD (q + 1) 0 + i2 + 1 : Nat) : Int) (q : Int))) hK 94 dX5_coded_94 10 rfl (by omega) (by decide) rfl ?_
                refine go_aload_n hK 95 0 dX5_coded_95 rfl rfl ?_
                refine go_get hK 96 fl_X5_3 dX5_coded_96 (15 + d) (wS_sc hd8) rfl ?_
                refine go_aload_n hK 99 0 dX5_coded_99 rfl rfl ?_
                refine go_get hK 100 fl_X5_3 dX5_coded_100 (15 + d) (wS_sc hd8) rfl ?_
                refine go_getN hK 103 fl_X5_135 dX5_coded_103 0 rfl rfl ?_
                refine go_getN hK 106 fl_X5_145 dX5_coded_106 8 rfl rfl ?_
                refine go_iload_n hK 109 3 dX5_coded_109 rfl rfl ?_
                refine go_iald hK 110 dX5_coded_110 10 rfl (by omega) (by decide) ?_
                rw [show (va_up gW1 k2.toNat ((T.getD (q + 2 + T.getD (q + 1) 0 + i2) 0 : Nat) : Int)) k2.toNat = ((T.getD (q + 2 + T.getD (q + 1) 0 + i2) 0 : Nat) : Int) from va_up_s rfl]
                refine go_bipush hK 111 dX5_coded_111 (by decide) ?_
                refine go_icmp_gt (tgt := 120) hK 113 dX5_coded_113 (by decide) (by omega) (by decide) (fun c12 => ?_) (fun c12 => ?_)
                · refine go_iconst hK 120 dX5_coded_120 ?_
                  refine go_bipush hK 121 dX5_coded_121 (by decide) ?_
                  refine go_aload_n hK 123 0 dX5_coded_123 rfl rfl ?_
                  refine go_get hK 124 fl_X5_19 dX5_coded_124 (15 + d) (wS_sc hd8) rfl ?_
                  refine go_iconst hK 127 dX5_coded_127 ?_
                  refine go_isub hK 128 dX5_coded_128 ?_
                  refine go_callVN (As := [.int (iI 0), .int (iI 6), .int (iI (((q + 2 + T.getD (q + 1) 0 + i2 + 1 : Nat) : Int) - 1))]) (rest := []) hK hR 129 (ct_need0 Z p) q96 q42 q93n q95 qs1 gn_X1_need rfl dX5_coded_129 gSel_all ⟨0, 0, _, _, _, rfl, rfl⟩ rfl (Nat.le_of_ble_eq_true rfl) ⟨(by decide), (by decide)⟩ (fun _ _ _ hx hm => by obtain ⟨rfl, rfl⟩ := hx; exact ⟨⟨[], (List.append_nil _).symm⟩, ⟨rfl, cErr_er (by unfold spCoded; rw [if_neg (by omega), if_neg (by omega), if_neg (by omega), hfl ((spLen_s hsl).trans (by rw [if_neg (by omega), if_pos (by omega)]))]) ⟨_, _, _, _, _, _, hO, (by rw [show ((q + 2 + T.getD (q + 1) 0 + i2 + 1 : Nat) : Int) - 1 = ((q + 2 + T.getD (q + 1) 0 + i2 : Nat) : Int) by omega]; rfl)⟩⟩⟩) (fun v w1 h => ?_)
                  exact h.elim
                · refine go_iconst hK 116 dX5_coded_116 ?_
                  refine go_goto (tgt := 121) hK 117 dX5_coded_117 (by decide) ?_
                  refine go_bipush hK 121 dX5_coded_121 (by decide) ?_
                  refine go_aload_n hK 123 0 dX5_coded_123 rfl rfl ?_
                  refine go_get hK 124 fl_X5_19 dX5_coded_124 (15 + d) (wS_sc hd8) rfl ?_
                  refine go_iconst hK 127 dX5_coded_127 ?_
                  refine go_isub hK 128 dX5_coded_128 ?_
                  refine go_callVN (As := [.int (iI 1), .int (iI 6), .int (iI (((q + 2 + T.getD (q + 1) 0 + i2 + 1 : Nat) : Int) - 1))]) (rest := []) hK hR 129 (ct_need1 Z p) q96 q42 q93n q95 qs1 gn_X1_need rfl dX5_coded_129 gSel_all ⟨0, 0, _, _, _, rfl, rfl⟩ rfl (Nat.le_of_ble_eq_true rfl) ⟨(by decide), (by decide)⟩ (fun _ _ _ h => h.elim) (fun v w1 h => ?_)
                  obtain ⟨rfl, rfl⟩ := h
                  show GO Z X (wS Z p sd ed im (M : Int) (L : Int) de (u : Int) re pk fa pl rd sz s2 os ((T.getD (q + 1) 0 : Nat) : Int) tk tp gT gS gO gY1 (va_up gW1 k2.toNat ((T.getD (q + 2 + T.getD (q + 1) 0 + i2) 0 : Nat) : Int)) gE gI sc d (E : Int) (o0 : Int) (b0 : Int) ((q + 2 + T.getD (q + 1) 0 + i2 + 1 : Nat) : Int) (q : Int)) 0 0 132 [(0, .ref (p (15 + d))), (1, .int (iI ((T.getD (q + 1) 0 : Nat) : Int))), (2, .int (iI ((q + 2 + T.getD (q + 1) 0 : Nat) : Int))), (3, .int (iI k2))] []
                  refine go_iinc (lo' := [(3, .int (iI (k2 + 1))), (0, .ref (p (15 + d))), (1, .int (iI ((T.getD (q + 1) 0 : Nat) : Int))), (2, .int (iI ((q + 2 + T.getD (q + 1) 0 : Nat) : Int)))]) hK 132 3 3 dX5_coded_132 rfl (by decide) rfl ?_
                  refine go_goto (tgt := 74) hK 135 dX5_coded_135 (by decide) ?_
                  refine go_lo [1, 2, 3, 0] rfl ?_
                  exact ih2 (i2 + 1) (k2 + 1) (va_up gW1 k2.toNat ((T.getD (q + 2 + T.getD (q + 1) 0 + i2) 0 : Nat) : Int)) (by omega) (by omega) ((spLen_s hsl).trans (by rw [if_neg (by omega), if_neg (by omega)])) (fun z hz => by by_cases c : z = i2; (rw [va_up_s (by omega), c]); (rw [va_up_n (by omega)]; exact hW1 z (by omega))) (by omega)
          exact lp2 _ 0 0 _ (by omega) rfl rfl (fun z hz => absurd hz (Nat.not_lt_zero _)) (Nat.lt_succ_self _)
        · refine go_aload_n hK 45 0 dX5_coded_45 rfl rfl ?_
          refine go_get hK 46 fl_X5_3 dX5_coded_46 (15 + d) (wS_sc hd8) rfl ?_
          refine go_getN hK 49 fl_X5_135 dX5_coded_49 0 rfl rfl ?_
          refine go_getN hK 52 fl_X5_142 dX5_coded_52 8 rfl rfl ?_
          refine go_iload_n hK 55 2 dX5_coded_55 rfl rfl ?_
          refine go_aload_n hK 56 0 dX5_coded_56 rfl rfl ?_
          refine go_callV (As := []) (rest := [.int (iI k), .ref (p 9)]) hK hR 57 (ct_X5_next Z p (q := q + 2 + i) (E := E) hd8 hT ⟨by omega, by omega, by omega⟩) cw_X5_75 gn_X5_next rfl dX5_coded_57 gSel_all ⟨15 + d, 4, _, _, _, wS_sc hd8, rfl⟩ rfl (Nat.le_of_ble_eq_true rfl) ⟨(by decide), (by decide)⟩ (fun _ _ _ hx hm => by obtain ⟨rfl, hle, rfl⟩ := hx; exact ⟨⟨[], (List.append_nil _).symm⟩, ⟨rfl, cErr_er (by unfold spCoded; rw [if_neg (by omega), if_neg (by omega), if_pos (by omega)]) ⟨_, _, _, _, _, _, hO, rfl⟩⟩⟩) (fun v w1 h => ?_)
          obtain ⟨rfl, hlt14, rfl⟩ := h
          show GO Z X (wS Z p sd ed im (M : Int) (L : Int) de (u : Int) re pk fa pl rd sz s2 os ((T.getD (q + 1) 0 : Nat) : Int) tk tp gT gS gO gY1 gW gE gI sc d (E : Int) (o0 : Int) (b0 : Int) ((q + 2 + i + 1 : Nat) : Int) (q : Int)) 0 0 60 [(0, .ref (p (15 + d))), (1, .int (iI ((T.getD (q + 1) 0 : Nat) : Int))), (2, .int (iI k))] [.int (iI ((T.getD (q + 2 + i) 0 : Nat) : Int)), .int (iI k), .ref (p 9)]
          have hb13 := hT8 (q + 2 + i)
          refine go_iast (w' := (wS Z p sd ed im (M : Int) (L : Int) de (u : Int) re pk fa pl rd sz s2 os ((T.getD (q + 1) 0 : Nat) : Int) tk tp gT gS gO (va_up gY1 k.toNat ((T.getD (q + 2 + i) 0 : Nat) : Int)) gW gE gI sc d (E : Int) (o0 : Int) (b0 : Int) ((q + 2 + i + 1 : Nat) : Int) (q : Int))) hK 60 dX5_coded_60 9 rfl (by omega) (by decide) rfl ?_
          refine go_iinc (lo' := [(2, .int (iI (k + 1))), (0, .ref (p (15 + d))), (1, .int (iI ((T.getD (q + 1) 0 : Nat) : Int)))]) hK 61 2 2 dX5_coded_61 rfl (by decide) rfl ?_
          refine go_goto (tgt := 40) hK 64 dX5_coded_64 (by decide) ?_
          refine go_lo [1, 2, 0] rfl ?_
          exact ih (i + 1) (k + 1) (va_up gY1 k.toNat ((T.getD (q + 2 + i) 0 : Nat) : Int)) (by omega) (by omega) (fun z hz => by by_cases c : z = i; (rw [va_up_s (by omega), c]); (rw [va_up_n (by omega)]; exact hY1 z (by omega))) (by omega)
    exact lp _ 0 0 _ (by omega) rfl (fun z hz => absurd hz (Nat.not_lt_zero _)) (Nat.lt_succ_self _)
  · show GO Z X (wS Z p sd ed im (M : Int) (L : Int) de (u : Int) re pk fa pl rd sz s2 os tm tk tp gT gS gO gY gW gE gI sc d (E : Int) (o0 : Int) (b0 : Int) ((q + 1 + 1 : Nat) : Int) (q : Int)) 0 0 24 [(1, .int (iI ((T.getD (q + 1) 0 : Nat) : Int))), (0, .ref (p (15 + d)))] [.int (iI (((q + 1 + 1 : Nat) : Int) - 1)), .int (iI 6), .int (iI 0), .ref (p 0)]
    refine go_callVN (As := [.int (iI 0), .int (iI 6), .int (iI (((q + 1 + 1 : Nat) : Int) - 1))]) (rest := []) hK hR 24 (ct_need0 Z p) q96 q42 q93n q95 qs1 gn_X1_need rfl dX5_coded_24 gSel_all ⟨0, 0, _, _, _, rfl, rfl⟩ rfl (Nat.le_of_ble_eq_true rfl) ⟨(by decide), (by decide)⟩ (fun _ _ _ hx hm => by obtain ⟨rfl, rfl⟩ := hx; exact ⟨⟨[], (List.append_nil _).symm⟩, ⟨rfl, cErr_er (k := 6) (p' := q + 1) (by unfold spCoded; rw [if_neg (by omega), if_pos (by omega)]) ⟨_, _, _, _, _, _, hO, (by rw [show ((q + 1 + 1 : Nat) : Int) - 1 = ((q + 1 : Nat) : Int) by omega]; rfl)⟩⟩⟩) (fun v w1 h => ?_)
    exact h.elim

