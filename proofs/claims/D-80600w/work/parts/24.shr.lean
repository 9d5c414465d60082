/-! the reference: shrink (printed by gen/m16.py) -/
set_option maxRecDepth 100000
/-- shrink: the answer, the tape, the count of readings, the last reading -/
def spShr (m l d : Int) (T : List Nat) (rc : Int) (x : Rx) : Int × List Nat × Int × Rx := if bndP m l d then (if (rdX T m.toNat l.toNat d.toNat).1 = 0 then (-3, T, rc + 1, rdX T m.toNat l.toNat d.toNat) else ((((shrN T m.toNat l.toNat d.toNat (rdX T m.toNat l.toNat d.toNat).1 (rI (rdX T m.toNat l.toNat d.toNat).2.2) (rI (rdX T m.toNat l.toNat d.toNat).2.2).length).1.length : Nat) : Int), (shrN T m.toNat l.toNat d.toNat (rdX T m.toNat l.toNat d.toNat).1 (rI (rdX T m.toNat l.toNat d.toNat).2.2) (rI (rdX T m.toNat l.toNat d.toNat).2.2).length).1, rc + 1 + ((rI (rdX T m.toNat l.toNat d.toNat).2.2).length : Nat) + 1, rdX (shrN T m.toNat l.toNat d.toNat (rdX T m.toNat l.toNat d.toNat).1 (rI (rdX T m.toNat l.toNat d.toNat).2.2) (rI (rdX T m.toNat l.toNat d.toNat).2.2).length).1 m.toNat l.toNat d.toNat)) else (-2, T, rc, x)
theorem spShr_n {m l d : Int} {T : List Nat} {rc : Int} {x : Rx} (h : ¬ bndP m l d) : spShr m l d T rc x = (-2, T, rc, x) := if_neg h
theorem spShr_0 {M L D : Nat} {T : List Nat} {rc : Int} {x : Rx} (h : bndP M L D) (h0 : (rdX T M L D).1 = 0) : spShr M L D T rc x = (-3, T, rc + 1, rdX T M L D) := by
  unfold spShr
  rw [if_pos h]
  exact if_pos h0
theorem spShr_y {M L D : Nat} {T : List Nat} {rc : Int} {x : Rx} (h : bndP M L D) (h0 : (rdX T M L D).1 ≠ 0) {S : List Nat} {g : Nat} (hs : shrN T M L D (rdX T M L D).1 (rI (rdX T M L D).2.2) (rI (rdX T M L D).2.2).length = (S, g)) : spShr M L D T rc x = (((S.length : Nat) : Int), S, rc + 1 + ((rI (rdX T M L D).2.2).length : Nat) + 1, rdX S M L D) := by
  unfold spShr
  rw [if_pos h]
  have e : ∀ (n : Nat), ((n : Nat) : Int).toNat = n := fun _ => rfl
  rw [e, e, e, if_neg h0, hs]
abbrev rm_X6_shrink : Room := { frames := 6, cells := 0, slots := 0, locals := 149 }
set_option maxHeartbeats 8000000 in
theorem ct_X6_shrink (Z : Gz) (b : Nat → Nat) {sd : Int64} {sz os mo li de fa pl us re pk rd tp : Int} {gT gO gF gE gN gQ gM gC gA gI gU gK gP gS gX gD gH gL : Nat → Int} {T : List Nat} {rc : Int} {x : Rx} (hI : MIp T rc x sz os fa pl us re pk rd gT gO gM gK gP gS gX) {m l d : Int} (hm : iR m) (hl : iR l) (hd : iR d) : CT Z yX6_shrink cX6_shrink 12 (some .int) rm_X6_shrink [.ref (b 0), .int (iI m), .int (iI l), .int (iI d)] (wM Z b sd sz os mo li de fa pl us re pk rd tp gT gO gF gE gN gQ gM gC gA gI gU gK gP gS gX gD gH gL) (fun v w => v = some (.int (iI (spShr m l d T rc x).1)) ∧ MI Z b sd (spShr m l d T rc x).2.1 (spShr m l d T rc x).2.2.1 (spShr m l d T rc x).2.2.2 w) nopx := by
  refine ct_of (by decide) (Nat.le_of_ble_eq_true rfl) (fun X hK hR => ?_)
  show GO Z X (wM Z b sd sz os mo li de fa pl us re pk rd tp gT gO gF gE gN gQ gM gC gA gI gU gK gP gS gX gD gH gL) 0 0 0 [(0, .ref (b 0)), (1, .int (iI m)), (2, .int (iI l)), (3, .int (iI d))] []
  obtain rfl : rd = rc := hI.2.2.2.1
  have hI2 := hI
  obtain ⟨hT, hTl, hT8, hrc, hfa, hpl, hx0, hx1, hO, hOl, hus, hre, hpk, hgM, hit, hIl⟩ := hI
  refine go_iload_n hK 0 1 dX6_shrink_0 rfl rfl ?_
  refine go_iload_n hK 1 2 dX6_shrink_1 rfl rfl ?_
  refine go_iload_n hK 2 3 dX6_shrink_2 rfl rfl ?_
  refine go_callS (As := [.int (iI m), .int (iI l), .int (iI d)]) (rest := []) hK hR 3 (ct_X6_isGood Z hm hl hd) cw_X6_201 gn_X6_isGood rfl dX6_shrink_3 gSel_nil  rfl (Nat.le_of_ble_eq_true rfl) ⟨(by decide), (by decide)⟩ (fun _ _ _ h => h.elim) (fun v w1 h => ?_)
  obtain ⟨⟨r1, rfl, hg2⟩, rfl⟩ := h
  rw [List.append_nil]
  show GO Z X (wM Z b sd sz os mo li de fa pl us re pk rd tp gT gO gF gE gN gQ gM gC gA gI gU gK gP gS gX gD gH gL) 0 0 6 [(0, .ref (b 0)), (1, .int (iI m)), (2, .int (iI l)), (3, .int (iI d))] [.int (iI r1)]
  refine go_if_ne (tgt := 12) hK 6 dX6_shrink_6 (by decide) (by omega) (fun c3 => ?_) (fun c3 => ?_)
  · have hbd : bndP m l d := by rcases hg2 with z | z; exact z.2; exact absurd z.1 (by omega)
    obtain ⟨hb1, hb2, hb3⟩ := hbd
    have hbd : bndP m l d := ⟨hb1, hb2, hb3⟩
    obtain ⟨M, rfl⟩ := Int.eq_ofNat_of_zero_le hb1.1
    obtain ⟨L, rfl⟩ := Int.eq_ofNat_of_zero_le hb2.1
    obtain ⟨D, rfl⟩ := Int.eq_ofNat_of_zero_le hb3.1
    refine go_aload_n hK 12 0 dX6_shrink_12 rfl rfl ?_
    refine go_iload_n hK 13 1 dX6_shrink_13 rfl rfl ?_
    refine go_iload_n hK 14 2 dX6_shrink_14 rfl rfl ?_
    refine go_iload_n hK 15 3 dX6_shrink_15 rfl rfl ?_
    refine go_callV (As := [.int (iI (M : Int)), .int (iI (L : Int)), .int (iI (D : Int))]) (rest := []) hK hR 16 (ct_X6_reads Z b hT hTl hT8 (by omega) (by omega) (by omega)) cw_X6_204 gn_X6_reads rfl dX6_shrink_16 gSel_all ⟨0, 5, _, _, _, rfl, rfl⟩ rfl (Nat.le_of_ble_eq_true rfl) ⟨(by decide), (by decide)⟩ (fun _ _ _ h => h.elim) (fun v w1 h => ?_)
    obtain ⟨rfl, h9⟩ := h
    have h8 := rdP_MR hT hTl hT8 (by omega) h9
    have h79 := MR_MI h8
    obtain ⟨sz9, os9, mo9, li9, de9, fa9, pl9, us9, re9, pk9, rd9, tp9, gT9, gO9, gF9, gE9, gN9, gQ9, gM9, gC9, gA9, gI9, gU9, gK9, gP9, gS9, gX9, gD9, qn9, hI9, hct9, hqn9, rfl⟩ := h8
    have hJ9 := hI9
    obtain ⟨hT9, hTl9, hT89, hrc9, hfa9, hpl9, hx09, hx19, hO9, hOl9, hus9, hre9, hpk9, hgM9, hit9, hIl9⟩ := hI9
    show GO Z X (wM Z b sd sz9 os9 mo9 li9 de9 fa9 pl9 us9 re9 pk9 rd9 tp9 gT9 gO9 gF9 gE9 gN9 gQ9 gM9 gC9 gA9 gI9 gU9 gK9 gP9 gS9 gX9 gD9 gH gL) 0 0 19 [(0, .ref (b 0)), (1, .int (iI (M : Int))), (2, .int (iI (L : Int))), (3, .int (iI (D : Int)))] []
    have hsz9 := hT9.1
    refine go_aload_n hK 19 0 dX6_shrink_19 rfl rfl ?_
    refine go_get hK 20 fl_X6_122 dX6_shrink_20 0 rfl rfl ?_
    refine go_if_ne (tgt := 29) hK 23 dX6_shrink_23 (by decide) (by omega) (fun c4 => ?_) (fun c4 => ?_)
    · have h0 : (rdX T M L D).1 ≠ 0 := by omega
      refine go_aload_n hK 29 0 dX6_shrink_29 rfl rfl ?_
      refine go_get hK 30 fl_X6_122 dX6_shrink_30 0 rfl rfl ?_
      refine go_istore (lo' := [(4, .int (iI fa9)), (0, .ref (b 0)), (1, .int (iI (M : Int))), (2, .int (iI (L : Int))), (3, .int (iI (D : Int)))]) hK 33 4 dX6_shrink_33 (by decide) rfl ?_
      refine go_aload_n hK 35 0 dX6_shrink_35 rfl rfl ?_
      refine go_get hK 36 fl_X6_32 dX6_shrink_36 0 rfl rfl ?_
      refine go_iconst hK 39 dX6_shrink_39 ?_
      refine go_iald hK 40 dX6_shrink_40 7 rfl (by omega) (by decide) ?_
      obtain ⟨I, hIe⟩ : ∃ I, I = rI (rdX T M L D).2.2 := ⟨_, rfl⟩
      rw [← hIe] at hct9 hqn9 hgM9 hit9 hIl9
      rw [show gM9 (0 : Int).toNat = (I.length : Int) from hgM9]
      refine go_istore (lo' := [(5, .int (iI (I.length : Int))), (4, .int (iI fa9)), (0, .ref (b 0)), (1, .int (iI (M : Int))), (2, .int (iI (L : Int))), (3, .int (iI (D : Int)))]) hK 41 5 dX6_shrink_41 (by decide) rfl ?_
      refine go_iconst hK 43 dX6_shrink_43 ?_
      refine go_istore (lo' := [(6, .int (iI 0)), (5, .int (iI (I.length : Int))), (4, .int (iI fa9)), (0, .ref (b 0)), (1, .int (iI (M : Int))), (2, .int (iI (L : Int))), (3, .int (iI (D : Int)))]) hK 44 6 dX6_shrink_44 (by decide) rfl ?_
      refine go_lo [3, 4, 5, 6, 2, 1, 0] rfl ?_
      have lpA : ∀ (fu : Nat) (i : Nat) (k : Int) (gL1 : Nat → Int), (i ≤ I.length) → (k = i) → (∀ j, j < i → gL1 j = (iQ (I.getD j z0) : Nat)) → I.length - i < fu → GO Z X (wM Z b sd sz9 os9 mo9 li9 de9 fa9 pl9 us9 re9 pk9 rd9 tp9 gT9 gO9 gF9 gE9 gN9 gQ9 gM9 gC9 gA9 gI9 gU9 gK9 gP9 gS9 gX9 gD9 gH gL1) 0 0 46 [(0, .ref (b 0)), (1, .int (iI (M : Int))), (2, .int (iI (L : Int))), (3, .int (iI (D : Int))), (4, .int (iI fa9)), (5, .int (iI (I.length : Int))), (6, .int (iI k))] [] := by
        intro fu
        induction fu with
        | zero => intro i k gL1 hi hk hl1 hm; exact absurd hm (Nat.not_lt_zero _)
        | succ fu ihA =>
          intro i k gL1 hi hk hl1 hm
          refine go_iload hK 46 6 dX6_shrink_46 rfl ?_
          refine go_iload hK 48 5 dX6_shrink_48 rfl ?_
          refine go_icmp_ge (tgt := 73) hK 50 dX6_shrink_50 (by decide) (by omega) (by omega) (fun c5 => ?_) (fun c5 => ?_)
          · refine go_aload_n hK 73 0 dX6_shrink_73 rfl rfl ?_
            refine go_get hK 74 fl_X6_65 dX6_shrink_74 0 rfl rfl ?_
            refine go_iload hK 77 5 dX6_shrink_77 rfl ?_
            refine go_aload_n hK 79 0 dX6_shrink_79 rfl rfl ?_
            refine go_get hK 80 fl_X6_26 dX6_shrink_80 0 rfl rfl ?_
            refine go_iconst hK 83 dX6_shrink_83 ?_
            refine go_iald hK 84 dX6_shrink_84 5 rfl (by omega) (by decide) ?_
            refine go_iast (w' := (wM Z b sd sz9 os9 mo9 li9 de9 fa9 pl9 us9 re9 pk9 rd9 tp9 gT9 gO9 gF9 gE9 gN9 gQ9 gM9 gC9 gA9 gI9 gU9 gK9 gP9 gS9 gX9 gD9 gH (va_up gL1 (I.length : Int).toNat (gN9 0)))) hK 85 dX6_shrink_85 18 rfl (by omega) (by decide) rfl ?_
            obtain ⟨gL2, hgL2⟩ : ∃ g, g = va_up gL1 (I.length : Int).toNat (gN9 0) := ⟨_, rfl⟩
            rw [← hgL2]
            have hgq : ∀ j, j < I.length → gL2 j = (iQ (I.getD j z0) : Nat) ∧ gL2 (j + 1) = (iE (I.getD j z0) : Nat) := by
              intro j hj
              have hc := (hct9.2 j hj).2.2.2
              have hne : I ≠ [] := by intro z; rw [z] at hj; exact absurd hj (Nat.not_lt_zero _)
              have hq := hqn9 hne
              rw [hgL2]
              refine ⟨(va_up_n (by show j ≠ I.length; omega)).trans (hl1 j (by omega)), ?_⟩
              by_cases c : j + 1 < I.length
              · rw [if_pos c] at hc; rw [va_up_n (by show j + 1 ≠ I.length; omega), hc]; exact hl1 (j + 1) (by omega)
              · rw [if_neg c] at hc; rw [va_up_s (by show j + 1 = I.length; omega), hc]; exact hq
            refine go_iconst hK 86 dX6_shrink_86 ?_
            refine go_istore (lo' := [(6, .int (iI 0)), (0, .ref (b 0)), (1, .int (iI (M : Int))), (2, .int (iI (L : Int))), (3, .int (iI (D : Int))), (4, .int (iI fa9)), (5, .int (iI (I.length : Int)))]) hK 87 6 dX6_shrink_87 (by decide) rfl ?_
            refine go_iconst hK 89 dX6_shrink_89 ?_
            refine go_istore (lo' := [(7, .int (iI 0)), (6, .int (iI 0)), (0, .ref (b 0)), (1, .int (iI (M : Int))), (2, .int (iI (L : Int))), (3, .int (iI (D : Int))), (4, .int (iI fa9)), (5, .int (iI (I.length : Int)))]) hK 90 7 dX6_shrink_90 (by decide) rfl ?_
            refine go_lo [2, 3, 4, 5, 6, 7, 1, 0] rfl ?_
            have lp : ∀ (fu : Nat) (i : Nat) (k : Int) (T1 : List Nat) (g : Nat) (rc1 : Int) (x1 : Rx) (sz1 : Int) (os1 : Int) (mo1 : Int) (li1 : Int) (de1 : Int) (fa1 : Int) (pl1 : Int) (us1 : Int) (re1 : Int) (pk1 : Int) (rd1 : Int) (tp1 : Int) (gT1 : Nat → Int) (gO1 : Nat → Int) (gF1 : Nat → Int) (gE1 : Nat → Int) (gN1 : Nat → Int) (gQ1 : Nat → Int) (gM1 : Nat → Int) (gC1 : Nat → Int) (gA1 : Nat → Int) (gI1 : Nat → Int) (gU1 : Nat → Int) (gK1 : Nat → Int) (gP1 : Nat → Int) (gS1 : Nat → Int) (gX1 : Nat → Int) (gD1 : Nat → Int) (gH1 : Nat → Int), (i ≤ I.length) → (k = i) → (shrN T M L D (rdX T M L D).1 I i = (T1, g)) → (T1.length + g = T.length) → (i < I.length → g + 2 ≤ iQ (I.getD i z0)) → (MIp T1 rc1 x1 sz1 os1 fa1 pl1 us1 re1 pk1 rd1 gT1 gO1 gM1 gK1 gP1 gS1 gX1) → (rc1 = rd + 1 + i) → I.length - i < fu → GO Z X (wM Z b sd sz1 os1 mo1 li1 de1 fa1 pl1 us1 re1 pk1 rd1 tp1 gT1 gO1 gF1 gE1 gN1 gQ1 gM1 gC1 gA1 gI1 gU1 gK1 gP1 gS1 gX1 gD1 gH1 gL2) 0 0 92 [(0, .ref (b 0)), (1, .int (iI (M : Int))), (2, .int (iI (L : Int))), (3, .int (iI (D : Int))), (4, .int (iI fa9)), (5, .int (iI (I.length : Int))), (6, .int (iI (g : Int))), (7, .int (iI k))] [] := by
              intro fu
              induction fu with
              | zero => intro i k T1 g rc1 x1 sz1 os1 mo1 li1 de1 fa1 pl1 us1 re1 pk1 rd1 tp1 gT1 gO1 gF1 gE1 gN1 gQ1 gM1 gC1 gA1 gI1 gU1 gK1 gP1 gS1 gX1 gD1 gH1 hi hk hsh hlen hgi hI1 hr1 hm; exact absurd hm (Nat.not_lt_zero _)
              | succ fu ih =>
                intro i k T1 g rc1 x1 sz1 os1 mo1 li1 de1 fa1 pl1 us1 re1 pk1 rd1 tp1 gT1 gO1 gF1 gE1 gN1 gQ1 gM1 gC1 gA1 gI1 gU1 gK1 gP1 gS1 gX1 gD1 gH1 hi hk hsh hlen hgi hI1 hr1 hm
                obtain ⟨hT1, hTl1, hT81, hrc1, hfa1, hpl1, hx01, hx11, hO1, hOl1, hus1, hre1, hpk1, hgM1, hit1, hIl1⟩ := hI1
                have hsz1 := hT1.1
                refine go_iload hK 92 7 dX6_shrink_92 rfl ?_
                refine go_iload hK 94 5 dX6_shrink_94 rfl ?_
                refine go_icmp_ge (tgt := 285) hK 96 dX6_shrink_96 (by decide) (by omega) (by omega) (fun c6 => ?_) (fun c6 => ?_)
                · obtain rfl : i = I.length := by omega
                  refine go_aload_n hK 285 0 dX6_shrink_285 rfl rfl ?_
                  refine go_iload_n hK 286 1 dX6_shrink_286 rfl rfl ?_
                  refine go_iload_n hK 287 2 dX6_shrink_287 rfl rfl ?_
                  refine go_iload_n hK 288 3 dX6_shrink_288 rfl rfl ?_
                  refine go_callV (As := [.int (iI (M : Int)), .int (iI (L : Int)), .int (iI (D : Int))]) (rest := []) hK hR 289 (ct_X6_reads Z b hT1 hTl1 hT81 (by omega) (by omega) (by omega)) cw_X6_204 gn_X6_reads rfl dX6_shrink_289 gSel_all ⟨0, 5, _, _, _, rfl, rfl⟩ rfl (Nat.le_of_ble_eq_true rfl) ⟨(by decide), (by decide)⟩ (fun _ _ _ h => h.elim) (fun v w1 h => ?_)
                  obtain ⟨rfl, h9⟩ := h
                  have h8 := rdP_MR hT1 hTl1 hT81 (by omega) h9
                  have h78 := MR_MI h8
                  obtain ⟨sz8, os8, mo8, li8, de8, fa8, pl8, us8, re8, pk8, rd8, tp8, gT8, gO8, gF8, gE8, gN8, gQ8, gM8, gC8, gA8, gI8, gU8, gK8, gP8, gS8, gX8, gD8, qn8, hI8, hct8, hqn8, rfl⟩ := h8
                  have hJ8 := hI8
                  obtain ⟨hT8, hTl8, hT88, hrc8, hfa8, hpl8, hx08, hx18, hO8, hOl8, hus8, hre8, hpk8, hgM8, hit8, hIl8⟩ := hI8
                  show GO Z X (wM Z b sd sz8 os8 mo8 li8 de8 fa8 pl8 us8 re8 pk8 rd8 tp8 gT8 gO8 gF8 gE8 gN8 gQ8 gM8 gC8 gA8 gI8 gU8 gK8 gP8 gS8 gX8 gD8 gH1 gL2) 0 0 292 [(0, .ref (b 0)), (1, .int (iI (M : Int))), (2, .int (iI (L : Int))), (3, .int (iI (D : Int))), (4, .int (iI fa9)), (5, .int (iI (I.length : Int))), (6, .int (iI (g : Int))), (7, .int (iI k))] []
                  refine go_aload_n hK 292 0 dX6_shrink_292 rfl rfl ?_
                  refine go_get hK 293 fl_X6_78 dX6_shrink_293 0 rfl rfl ?_
                  rw [hIe] at hsh
                  have hfin := spShr_y (rc := rd) (x := x) hbd h0 hsh
                  exact go_iret hK hR.1 296 [] dX6_shrink_296 (by decide) (by decide) ((MI_fst h78).trans rfl) ⟨by rw [hfin]; dsimp only; rw [hT8.1], by rw [hfin]; dsimp only; rw [show rd + 1 + ((rI (rdX T M L D).2.2).length : Nat) + 1 = rd1 + 1 by rw [← hIe]; omega]; exact h78⟩
                · have hg9 := hgq i (by omega)
                  have hcc := hct9.2 i (by omega)
                  have hgi9 := hgi (by omega)
                  obtain ⟨a, ha⟩ : ∃ a, a = iQ (I.getD i z0) - g := ⟨_, rfl⟩
                  obtain ⟨n, hn⟩ : ∃ n, n = iE (I.getD i z0) - iQ (I.getD i z0) := ⟨_, rfl⟩
                  refine go_aload_n hK 99 0 dX6_shrink_99 rfl rfl ?_
                  refine go_get hK 100 fl_X6_65 dX6_shrink_100 0 rfl rfl ?_
                  refine go_iload hK 103 7 dX6_shrink_103 rfl ?_
                  refine go_iald hK 105 dX6_shrink_105 18 rfl (by omega) (by decide) ?_
                  rw [show gL2 k.toNat = ((iQ (I.getD i z0) : Nat) : Int) by rw [show k.toNat = i by omega]; exact hg9.1]
                  refine go_iload hK 106 6 dX6_shrink_106 rfl ?_
                  refine go_isub hK 108 dX6_shrink_108 ?_
                  rw [show ((iQ (I.getD i z0) : Nat) : Int) - (g : Int) = (a : Int) by omega]
                  show GO Z X (wM Z b sd sz1 os1 mo1 li1 de1 fa1 pl1 us1 re1 pk1 rd1 tp1 gT1 gO1 gF1 gE1 gN1 gQ1 gM1 gC1 gA1 gI1 gU1 gK1 gP1 gS1 gX1 gD1 gH1 gL2) 0 0 109 [(0, .ref (b 0)), (1, .int (iI (M : Int))), (2, .int (iI (L : Int))), (3, .int (iI (D : Int))), (4, .int (iI fa9)), (5, .int (iI (I.length : Int))), (6, .int (iI (g : Int))), (7, .int (iI k))] [.int (iI (a : Int))]
                  refine go_istore (lo' := [(8, .int (iI (a : Int))), (0, .ref (b 0)), (1, .int (iI (M : Int))), (2, .int (iI (L : Int))), (3, .int (iI (D : Int))), (4, .int (iI fa9)), (5, .int (iI (I.length : Int))), (6, .int (iI (g : Int))), (7, .int (iI k))]) hK 109 8 dX6_shrink_109 (by decide) rfl ?_
                  refine go_aload_n hK 111 0 dX6_shrink_111 rfl rfl ?_
                  refine go_get hK 112 fl_X6_65 dX6_shrink_112 0 rfl rfl ?_
                  refine go_iload hK 115 7 dX6_shrink_115 rfl ?_
                  refine go_iconst hK 117 dX6_shrink_117 ?_
                  refine go_iadd hK 118 dX6_shrink_118 ?_
                  refine go_iald hK 119 dX6_shrink_119 18 rfl (by omega) (by decide) ?_
                  rw [show gL2 (k + 1).toNat = ((iE (I.getD i z0) : Nat) : Int) by rw [show (k + 1).toNat = i + 1 by omega]; exact hg9.2]
                  refine go_aload_n hK 120 0 dX6_shrink_120 rfl rfl ?_
                  refine go_get hK 121 fl_X6_65 dX6_shrink_121 0 rfl rfl ?_
                  refine go_iload hK 124 7 dX6_shrink_124 rfl ?_
                  refine go_iald hK 126 dX6_shrink_126 18 rfl (by omega) (by decide) ?_
                  rw [show gL2 k.toNat = ((iQ (I.getD i z0) : Nat) : Int) by rw [show k.toNat = i by omega]; exact hg9.1]
                  refine go_isub hK 127 dX6_shrink_127 ?_
                  rw [show ((iE (I.getD i z0) : Nat) : Int) - ((iQ (I.getD i z0) : Nat) : Int) = (n : Int) by omega]
                  show GO Z X (wM Z b sd sz1 os1 mo1 li1 de1 fa1 pl1 us1 re1 pk1 rd1 tp1 gT1 gO1 gF1 gE1 gN1 gQ1 gM1 gC1 gA1 gI1 gU1 gK1 gP1 gS1 gX1 gD1 gH1 gL2) 0 0 128 [(8, .int (iI (a : Int))), (0, .ref (b 0)), (1, .int (iI (M : Int))), (2, .int (iI (L : Int))), (3, .int (iI (D : Int))), (4, .int (iI fa9)), (5, .int (iI (I.length : Int))), (6, .int (iI (g : Int))), (7, .int (iI k))] [.int (iI (n : Int))]
                  refine go_istore (lo' := [(9, .int (iI (n : Int))), (8, .int (iI (a : Int))), (0, .ref (b 0)), (1, .int (iI (M : Int))), (2, .int (iI (L : Int))), (3, .int (iI (D : Int))), (4, .int (iI fa9)), (5, .int (iI (I.length : Int))), (6, .int (iI (g : Int))), (7, .int (iI k))]) hK 128 9 dX6_shrink_128 (by decide) rfl ?_
                  refine go_aload_n hK 130 0 dX6_shrink_130 rfl rfl ?_
                  refine go_get hK 131 fl_X6_78 dX6_shrink_131 0 rfl rfl ?_
                  refine go_istore (lo' := [(10, .int (iI sz1)), (9, .int (iI (n : Int))), (8, .int (iI (a : Int))), (0, .ref (b 0)), (1, .int (iI (M : Int))), (2, .int (iI (L : Int))), (3, .int (iI (D : Int))), (4, .int (iI fa9)), (5, .int (iI (I.length : Int))), (6, .int (iI (g : Int))), (7, .int (iI k))]) hK 134 10 dX6_shrink_134 (by decide) rfl ?_
                  refine go_iconst hK 136 dX6_shrink_136 ?_
                  refine go_istore (lo' := [(11, .int (iI 0)), (10, .int (iI sz1)), (9, .int (iI (n : Int))), (8, .int (iI (a : Int))), (0, .ref (b 0)), (1, .int (iI (M : Int))), (2, .int (iI (L : Int))), (3, .int (iI (D : Int))), (4, .int (iI fa9)), (5, .int (iI (I.length : Int))), (6, .int (iI (g : Int))), (7, .int (iI k))]) hK 137 11 dX6_shrink_137 (by decide) rfl ?_
                  refine go_lo [4, 5, 6, 7, 8, 9, 10, 11, 3, 2, 1, 0] rfl ?_
                  have lpC : ∀ (fu : Nat) (q : Nat) (j : Int) (gH2 : Nat → Int), (q ≤ T1.length) → (j = q) → (∀ z, z < q → gH2 z = ((T1.getD z 0 : Nat) : Int)) → T1.length - q < fu → GO Z X (wM Z b sd sz1 os1 mo1 li1 de1 fa1 pl1 us1 re1 pk1 rd1 tp1 gT1 gO1 gF1 gE1 gN1 gQ1 gM1 gC1 gA1 gI1 gU1 gK1 gP1 gS1 gX1 gD1 gH2 gL2) 0 0 139 [(0, .ref (b 0)), (1, .int (iI (M : Int))), (2, .int (iI (L : Int))), (3, .int (iI (D : Int))), (4, .int (iI fa9)), (5, .int (iI (I.length : Int))), (6, .int (iI (g : Int))), (7, .int (iI k)), (8, .int (iI (a : Int))), (9, .int (iI (n : Int))), (10, .int (iI sz1)), (11, .int (iI j))] [] := by
                    intro fu
                    induction fu with
                    | zero => intro q j gH2 hq hj hc hm; exact absurd hm (Nat.not_lt_zero _)
                    | succ fu ihC =>
                      intro q j gH2 hq hj hc hm
                      refine go_iload hK 139 11 dX6_shrink_139 rfl ?_
                      refine go_aload_n hK 141 0 dX6_shrink_141 rfl rfl ?_
                      refine go_get hK 142 fl_X6_78 dX6_shrink_142 0 rfl rfl ?_
                      refine go_icmp_ge (tgt := 168) hK 145 dX6_shrink_145 (by decide) (by omega) (by omega) (fun c7 => ?_) (fun c7 => ?_)
                      · refine go_aload_n hK 168 0 dX6_shrink_168 rfl rfl ?_
                        refine go_dup hK 169 dX6_shrink_169 rfl ?_
                        refine go_get hK 170 fl_X6_78 dX6_shrink_170 0 rfl rfl ?_
                        refine go_iload hK 173 9 dX6_shrink_173 rfl ?_
                        refine go_isub hK 175 dX6_shrink_175 ?_
                        refine go_put (w' := (wM Z b sd (sz1 - (n : Int)) os1 mo1 li1 de1 fa1 pl1 us1 re1 pk1 rd1 tp1 gT1 gO1 gF1 gE1 gN1 gQ1 gM1 gC1 gA1 gI1 gU1 gK1 gP1 gS1 gX1 gD1 gH2 gL2)) hK 176 fl_X6_78 fw_X6_2 dX6_shrink_176 0 rfl rfl rfl (Nat.le_of_ble_eq_true rfl) rfl ?_
                        refine go_iload hK 179 8 dX6_shrink_179 rfl ?_
                        refine go_istore (lo' := [(11, .int (iI (a : Int))), (0, .ref (b 0)), (1, .int (iI (M : Int))), (2, .int (iI (L : Int))), (3, .int (iI (D : Int))), (4, .int (iI fa9)), (5, .int (iI (I.length : Int))), (6, .int (iI (g : Int))), (7, .int (iI k)), (8, .int (iI (a : Int))), (9, .int (iI (n : Int))), (10, .int (iI sz1))]) hK 181 11 dX6_shrink_181 (by decide) rfl ?_
                        refine go_lo [1, 2, 3, 4, 5, 6, 7, 8, 9, 10, 11, 0] rfl ?_
                        have hcl := cutT_len T1 a n (by omega)
                        have lpD : ∀ (fu : Nat) (q : Nat) (j : Int) (gT2 : Nat → Int), (a ≤ q ∧ q ≤ T1.length - n) → (j = q) → (∀ z, z < q → gT2 z = (((if z < a then T1.getD z 0 else T1.getD (z + n) 0) : Nat) : Int)) → T1.length - n - q < fu → GO Z X (wM Z b sd (sz1 - (n : Int)) os1 mo1 li1 de1 fa1 pl1 us1 re1 pk1 rd1 tp1 gT2 gO1 gF1 gE1 gN1 gQ1 gM1 gC1 gA1 gI1 gU1 gK1 gP1 gS1 gX1 gD1 gH2 gL2) 0 0 183 [(0, .ref (b 0)), (1, .int (iI (M : Int))), (2, .int (iI (L : Int))), (3, .int (iI (D : Int))), (4, .int (iI fa9)), (5, .int (iI (I.length : Int))), (6, .int (iI (g : Int))), (7, .int (iI k)), (8, .int (iI (a : Int))), (9, .int (iI (n : Int))), (10, .int (iI sz1)), (11, .int (iI j))] [] := by
                          intro fu
                          induction fu with
                          | zero => intro q j gT2 hq hj hd hm; exact absurd hm (Nat.not_lt_zero _)
                          | succ fu ihD =>
                            intro q j gT2 hq hj hd hm
                            refine go_iload hK 183 11 dX6_shrink_183 rfl ?_
                            refine go_aload_n hK 185 0 dX6_shrink_185 rfl rfl ?_
                            refine go_get hK 186 fl_X6_78 dX6_shrink_186 0 rfl rfl ?_
                            refine go_icmp_ge (tgt := 215) hK 189 dX6_shrink_189 (by decide) (by omega) (by omega) (fun c8 => ?_) (fun c8 => ?_)
                            · have hT2 : pM (cutT T1 a n) (sz1 - (n : Int)) gT2 := ⟨by rw [hcl]; omega, fun z hz => by rw [hcl] at hz; rw [hd z (by omega), cutT_get T1 a n z (by omega)]⟩
                              have hTl2 : (cutT T1 a n).length ≤ 1200 := by omega
                              have hT82 : ∀ z, (cutT T1 a n).getD z 0 < 256 := fun z => by rw [cutT_get T1 a n z (by omega)]; split; exact hT81 _; exact hT81 _
                              refine go_aload_n hK 215 0 dX6_shrink_215 rfl rfl ?_
                              refine go_iload_n hK 216 1 dX6_shrink_216 rfl rfl ?_
                              refine go_iload_n hK 217 2 dX6_shrink_217 rfl rfl ?_
                              refine go_iload_n hK 218 3 dX6_shrink_218 rfl rfl ?_
                              refine go_callV (As := [.int (iI (M : Int)), .int (iI (L : Int)), .int (iI (D : Int))]) (rest := []) hK hR 219 (ct_X6_reads Z b hT2 hTl2 hT82 (by omega) (by omega) (by omega)) cw_X6_204 gn_X6_reads rfl dX6_shrink_219 gSel_all ⟨0, 5, _, _, _, rfl, rfl⟩ rfl (Nat.le_of_ble_eq_true rfl) ⟨(by decide), (by decide)⟩ (fun _ _ _ h => h.elim) (fun v w1 h => ?_)
                              obtain ⟨rfl, h9⟩ := h
                              have h8 := rdP_MR hT2 hTl2 hT82 (by omega) h9
                              have h77 := MR_MI h8
                              obtain ⟨sz7, os7, mo7, li7, de7, fa7, pl7, us7, re7, pk7, rd7, tp7, gT7, gO7, gF7, gE7, gN7, gQ7, gM7, gC7, gA7, gI7, gU7, gK7, gP7, gS7, gX7, gD7, qn7, hI7, hct7, hqn7, rfl⟩ := h8
                              have hJ7 := hI7
                              obtain ⟨hT7, hTl7, hT87, hrc7, hfa7, hpl7, hx07, hx17, hO7, hOl7, hus7, hre7, hpk7, hgM7, hit7, hIl7⟩ := hI7
                              show GO Z X (wM Z b sd sz7 os7 mo7 li7 de7 fa7 pl7 us7 re7 pk7 rd7 tp7 gT7 gO7 gF7 gE7 gN7 gQ7 gM7 gC7 gA7 gI7 gU7 gK7 gP7 gS7 gX7 gD7 gH2 gL2) 0 0 222 [(0, .ref (b 0)), (1, .int (iI (M : Int))), (2, .int (iI (L : Int))), (3, .int (iI (D : Int))), (4, .int (iI fa9)), (5, .int (iI (I.length : Int))), (6, .int (iI (g : Int))), (7, .int (iI k)), (8, .int (iI (a : Int))), (9, .int (iI (n : Int))), (10, .int (iI sz1)), (11, .int (iI j))] []
                              refine go_aload_n hK 222 0 dX6_shrink_222 rfl rfl ?_
                              refine go_get hK 223 fl_X6_122 dX6_shrink_223 0 rfl rfl ?_
                              refine go_iload hK 226 4 dX6_shrink_226 rfl ?_
                              refine go_icmp_ne (tgt := 241) hK 228 dX6_shrink_228 (by decide) (by omega) (by omega) (fun c9 => ?_) (fun c9 => ?_)
                              · refine go_aload_n hK 241 0 dX6_shrink_241 rfl rfl ?_
                                refine go_iload hK 242 10 dX6_shrink_242 rfl ?_
                                refine go_put (w' := (wM Z b sd sz1 os7 mo7 li7 de7 fa7 pl7 us7 re7 pk7 rd7 tp7 gT7 gO7 gF7 gE7 gN7 gQ7 gM7 gC7 gA7 gI7 gU7 gK7 gP7 gS7 gX7 gD7 gH2 gL2)) hK 244 fl_X6_78 fw_X6_2 dX6_shrink_244 0 rfl rfl rfl (Nat.le_of_ble_eq_true rfl) rfl ?_
                                refine go_iconst hK 247 dX6_shrink_247 ?_
                                refine go_istore (lo' := [(11, .int (iI 0)), (0, .ref (b 0)), (1, .int (iI (M : Int))), (2, .int (iI (L : Int))), (3, .int (iI (D : Int))), (4, .int (iI fa9)), (5, .int (iI (I.length : Int))), (6, .int (iI (g : Int))), (7, .int (iI k)), (8, .int (iI (a : Int))), (9, .int (iI (n : Int))), (10, .int (iI sz1))]) hK 248 11 dX6_shrink_248 (by decide) rfl ?_
                                refine go_lo [1, 2, 3, 4, 5, 6, 7, 8, 9, 10, 11, 0] rfl ?_
                                have lpE : ∀ (fu : Nat) (q : Nat) (j : Int) (gT3 : Nat → Int), (q ≤ T1.length) → (j = q) → (∀ z, z < q → gT3 z = ((T1.getD z 0 : Nat) : Int)) → T1.length - q < fu → GO Z X (wM Z b sd sz1 os7 mo7 li7 de7 fa7 pl7 us7 re7 pk7 rd7 tp7 gT3 gO7 gF7 gE7 gN7 gQ7 gM7 gC7 gA7 gI7 gU7 gK7 gP7 gS7 gX7 gD7 gH2 gL2) 0 0 250 [(0, .ref (b 0)), (1, .int (iI (M : Int))), (2, .int (iI (L : Int))), (3, .int (iI (D : Int))), (4, .int (iI fa9)), (5, .int (iI (I.length : Int))), (6, .int (iI (g : Int))), (7, .int (iI k)), (8, .int (iI (a : Int))), (9, .int (iI (n : Int))), (10, .int (iI sz1)), (11, .int (iI j))] [] := by
                                  intro fu
                                  induction fu with
                                  | zero => intro q j gT3 hq hj he hm; exact absurd hm (Nat.not_lt_zero _)
                                  | succ fu ihE =>
                                    intro q j gT3 hq hj he hm
                                    refine go_iload hK 250 11 dX6_shrink_250 rfl ?_
                                    refine go_aload_n hK 252 0 dX6_shrink_252 rfl rfl ?_
                                    refine go_get hK 253 fl_X6_78 dX6_shrink_253 0 rfl rfl ?_
                                    refine go_icmp_ge (tgt := 279) hK 256 dX6_shrink_256 (by decide) (by omega) (by omega) (fun c10 => ?_) (fun c10 => ?_)
                                    · refine go_iinc (lo' := [(7, .int (iI (k + 1))), (0, .ref (b 0)), (1, .int (iI (M : Int))), (2, .int (iI (L : Int))), (3, .int (iI (D : Int))), (4, .int (iI fa9)), (5, .int (iI (I.length : Int))), (6, .int (iI (g : Int))), (8, .int (iI (a : Int))), (9, .int (iI (n : Int))), (10, .int (iI sz1)), (11, .int (iI j))]) hK 279 7 7 dX6_shrink_279 rfl (by decide) rfl ?_
                                      refine go_goto (tgt := 92) hK 282 dX6_shrink_282 (by decide) ?_
                                      refine go_lo [1, 2, 3, 4, 5, 6, 7, 0] rfl ?_
                                      have hT3 : pM T1 sz1 gT3 := ⟨hsz1, fun z hz => he z (by omega)⟩
                                      have hsh2 := shrN_n hsh (by rw [← ha, ← hn]; omega)
                                      exact ih (i + 1) (k + 1) T1 g (rd1 + 1) (rdX (cutT T1 a n) M L D) sz1 os7 mo7 li7 de7 fa7 pl7 us7 re7 pk7 rd7 tp7 gT3 gO7 gF7 gE7 gN7 gQ7 gM7 gC7 gA7 gI7 gU7 gK7 gP7 gS7 gX7 gD7 gH2 (by omega) (by omega) hsh2 hlen (fun z => by have e9 := hcc.2.2.2; rw [if_pos z] at e9; omega) ⟨hT3, hTl1, hT81, hJ7.2.2.2⟩ (by omega) (by omega)
                                    · refine go_aload_n hK 259 0 dX6_shrink_259 rfl rfl ?_
                                      refine go_get hK 260 fl_X6_7 dX6_shrink_260 0 rfl rfl ?_
                                      refine go_iload hK 263 11 dX6_shrink_263 rfl ?_
                                      refine go_aload_n hK 265 0 dX6_shrink_265 rfl rfl ?_
                                      refine go_get hK 266 fl_X6_62 dX6_shrink_266 0 rfl rfl ?_
                                      refine go_iload hK 269 11 dX6_shrink_269 rfl ?_
                                      refine go_iald hK 271 dX6_shrink_271 17 rfl (by omega) (by decide) ?_
                                      rw [show gH2 j.toNat = ((T1.getD q 0 : Nat) : Int) by rw [show j.toNat = q by omega]; exact hc q (by omega)]
                                      refine go_iast (w' := (wM Z b sd sz1 os7 mo7 li7 de7 fa7 pl7 us7 re7 pk7 rd7 tp7 (va_up gT3 j.toNat ((T1.getD q 0 : Nat) : Int)) gO7 gF7 gE7 gN7 gQ7 gM7 gC7 gA7 gI7 gU7 gK7 gP7 gS7 gX7 gD7 gH2 gL2)) hK 272 dX6_shrink_272 1 rfl (by omega) (by decide) rfl ?_
                                      refine go_iinc (lo' := [(11, .int (iI (j + 1))), (0, .ref (b 0)), (1, .int (iI (M : Int))), (2, .int (iI (L : Int))), (3, .int (iI (D : Int))), (4, .int (iI fa9)), (5, .int (iI (I.length : Int))), (6, .int (iI (g : Int))), (7, .int (iI k)), (8, .int (iI (a : Int))), (9, .int (iI (n : Int))), (10, .int (iI sz1))]) hK 273 11 11 dX6_shrink_273 rfl (by decide) rfl ?_
                                      refine go_goto (tgt := 250) hK 276 dX6_shrink_276 (by decide) ?_
                                      refine go_lo [1, 2, 3, 4, 5, 6, 7, 8, 9, 10, 11, 0] rfl ?_
                                      exact ihE (q + 1) (j + 1) (va_up gT3 j.toNat ((T1.getD q 0 : Nat) : Int)) (by omega) (by omega) (fun z hz => by by_cases c : z = q; (rw [va_up_s (by omega), c]); (rw [va_up_n (by omega)]; exact he z (by omega))) (by omega)
                                exact lpE _ 0 0 _ (by omega) rfl (fun z hz => absurd hz (Nat.not_lt_zero _)) (Nat.lt_succ_self _)
                              · refine go_iload hK 231 6 dX6_shrink_231 rfl ?_
                                refine go_iload hK 233 9 dX6_shrink_233 rfl ?_
                                refine go_iadd hK 235 dX6_shrink_235 ?_
                                refine go_istore (lo' := [(6, .int (iI ((g : Int) + (n : Int)))), (0, .ref (b 0)), (1, .int (iI (M : Int))), (2, .int (iI (L : Int))), (3, .int (iI (D : Int))), (4, .int (iI fa9)), (5, .int (iI (I.length : Int))), (7, .int (iI k)), (8, .int (iI (a : Int))), (9, .int (iI (n : Int))), (10, .int (iI sz1)), (11, .int (iI j))]) hK 236 6 dX6_shrink_236 (by decide) rfl ?_
                                refine go_goto (tgt := 279) hK 238 dX6_shrink_238 (by decide) ?_
                                refine go_iinc (lo' := [(7, .int (iI (k + 1))), (6, .int (iI ((g : Int) + (n : Int)))), (0, .ref (b 0)), (1, .int (iI (M : Int))), (2, .int (iI (L : Int))), (3, .int (iI (D : Int))), (4, .int (iI fa9)), (5, .int (iI (I.length : Int))), (8, .int (iI (a : Int))), (9, .int (iI (n : Int))), (10, .int (iI sz1)), (11, .int (iI j))]) hK 279 7 7 dX6_shrink_279 rfl (by decide) rfl ?_
                                refine go_goto (tgt := 92) hK 282 dX6_shrink_282 (by decide) ?_
                                refine go_lo [2, 3, 4, 5, 6, 7, 1, 0] rfl ?_
                                have hsh2 := shrN_y hsh (by rw [← ha, ← hn]; omega)
                                rw [← ha, ← hn] at hsh2
                                exact ih (i + 1) (k + 1) (cutT T1 a n) (g + n) (rd1 + 1) (rdX (cutT T1 a n) M L D) sz7 os7 mo7 li7 de7 fa7 pl7 us7 re7 pk7 rd7 tp7 gT7 gO7 gF7 gE7 gN7 gQ7 gM7 gC7 gA7 gI7 gU7 gK7 gP7 gS7 gX7 gD7 gH2 (by omega) (by omega) hsh2 (by omega) (fun z => by have e9 := hcc.2.2.2; rw [if_pos z] at e9; omega) hJ7 (by omega) (by omega)
                            · refine go_aload_n hK 192 0 dX6_shrink_192 rfl rfl ?_
                              refine go_get hK 193 fl_X6_7 dX6_shrink_193 0 rfl rfl ?_
                              refine go_iload hK 196 11 dX6_shrink_196 rfl ?_
                              refine go_aload_n hK 198 0 dX6_shrink_198 rfl rfl ?_
                              refine go_get hK 199 fl_X6_62 dX6_shrink_199 0 rfl rfl ?_
                              refine go_iload hK 202 11 dX6_shrink_202 rfl ?_
                              refine go_iload hK 204 9 dX6_shrink_204 rfl ?_
                              refine go_iadd hK 206 dX6_shrink_206 ?_
                              refine go_iald hK 207 dX6_shrink_207 17 rfl (by omega) (by decide) ?_
                              rw [show gH2 (j + (n : Int)).toNat = ((T1.getD (q + n) 0 : Nat) : Int) by rw [show (j + (n : Int)).toNat = q + n by omega]; exact hc (q + n) (by omega)]
                              refine go_iast (w' := (wM Z b sd (sz1 - (n : Int)) os1 mo1 li1 de1 fa1 pl1 us1 re1 pk1 rd1 tp1 (va_up gT2 j.toNat ((T1.getD (q + n) 0 : Nat) : Int)) gO1 gF1 gE1 gN1 gQ1 gM1 gC1 gA1 gI1 gU1 gK1 gP1 gS1 gX1 gD1 gH2 gL2)) hK 208 dX6_shrink_208 1 rfl (by omega) (by decide) rfl ?_
                              refine go_iinc (lo' := [(11, .int (iI (j + 1))), (0, .ref (b 0)), (1, .int (iI (M : Int))), (2, .int (iI (L : Int))), (3, .int (iI (D : Int))), (4, .int (iI fa9)), (5, .int (iI (I.length : Int))), (6, .int (iI (g : Int))), (7, .int (iI k)), (8, .int (iI (a : Int))), (9, .int (iI (n : Int))), (10, .int (iI sz1))]) hK 209 11 11 dX6_shrink_209 rfl (by decide) rfl ?_
                              refine go_goto (tgt := 183) hK 212 dX6_shrink_212 (by decide) ?_
                              refine go_lo [1, 2, 3, 4, 5, 6, 7, 8, 9, 10, 11, 0] rfl ?_
                              exact ihD (q + 1) (j + 1) (va_up gT2 j.toNat ((T1.getD (q + n) 0 : Nat) : Int)) (by omega) (by omega) (fun z hz => by by_cases c : z = q; (rw [va_up_s (by omega), c, if_neg (by omega)]); (rw [va_up_n (by omega)]; exact hd z (by omega))) (by omega)
                        exact lpD _ a (a : Int) _ (by omega) rfl (fun z hz => by rw [if_pos hz]; exact hT1.2 z (by omega)) (Nat.lt_succ_self _)
                      · refine go_aload_n hK 148 0 dX6_shrink_148 rfl rfl ?_
                        refine go_get hK 149 fl_X6_62 dX6_shrink_149 0 rfl rfl ?_
                        refine go_iload hK 152 11 dX6_shrink_152 rfl ?_
                        refine go_aload_n hK 154 0 dX6_shrink_154 rfl rfl ?_
                        refine go_get hK 155 fl_X6_7 dX6_shrink_155 0 rfl rfl ?_
                        refine go_iload hK 158 11 dX6_shrink_158 rfl ?_
                        refine go_iald hK 160 dX6_shrink_160 1 rfl (by omega) (by decide) ?_
                        rw [show gT1 j.toNat = ((T1.getD q 0 : Nat) : Int) by rw [show j.toNat = q by omega]; exact hT1.2 q (by omega)]
                        refine go_iast (w' := (wM Z b sd sz1 os1 mo1 li1 de1 fa1 pl1 us1 re1 pk1 rd1 tp1 gT1 gO1 gF1 gE1 gN1 gQ1 gM1 gC1 gA1 gI1 gU1 gK1 gP1 gS1 gX1 gD1 (va_up gH2 j.toNat ((T1.getD q 0 : Nat) : Int)) gL2)) hK 161 dX6_shrink_161 17 rfl (by omega) (by decide) rfl ?_
                        refine go_iinc (lo' := [(11, .int (iI (j + 1))), (0, .ref (b 0)), (1, .int (iI (M : Int))), (2, .int (iI (L : Int))), (3, .int (iI (D : Int))), (4, .int (iI fa9)), (5, .int (iI (I.length : Int))), (6, .int (iI (g : Int))), (7, .int (iI k)), (8, .int (iI (a : Int))), (9, .int (iI (n : Int))), (10, .int (iI sz1))]) hK 162 11 11 dX6_shrink_162 rfl (by decide) rfl ?_
                        refine go_goto (tgt := 139) hK 165 dX6_shrink_165 (by decide) ?_
                        refine go_lo [1, 2, 3, 4, 5, 6, 7, 8, 9, 10, 11, 0] rfl ?_
                        exact ihC (q + 1) (j + 1) (va_up gH2 j.toNat ((T1.getD q 0 : Nat) : Int)) (by omega) (by omega) (fun z hz => by by_cases c : z = q; (rw [va_up_s (by omega), c]); (rw [va_up_n (by omega)]; exact hc z (by omega))) (by omega)
                  exact lpC _ 0 0 _ (by omega) rfl (fun z hz => absurd hz (Nat.not_lt_zero _)) (Nat.lt_succ_self _)
            exact lp _ 0 0 T 0 (rd + 1) (rdX T M L D) _ _ _ _ _ _ _ _ _ _ _ _ _ _ _ _ _ _ _ _ _ _ _ _ _ _ _ _ _ (by omega) rfl rfl rfl (fun z => (hct9.2 0 z).1) hJ9 (by omega) (Nat.lt_succ_self _)
          · refine go_aload_n hK 53 0 dX6_shrink_53 rfl rfl ?_
            refine go_get hK 54 fl_X6_65 dX6_shrink_54 0 rfl rfl ?_
            refine go_iload hK 57 6 dX6_shrink_57 rfl ?_
            refine go_aload_n hK 59 0 dX6_shrink_59 rfl rfl ?_
            refine go_get hK 60 fl_X6_50 dX6_shrink_60 0 rfl rfl ?_
            refine go_iload hK 63 6 dX6_shrink_63 rfl ?_
            refine go_iald hK 65 dX6_shrink_65 13 rfl (by omega) (by decide) ?_
            rw [show gP9 k.toNat = ((iQ (I.getD i z0) : Nat) : Int) by rw [show k.toNat = i by omega]; exact (hit9 i (by omega)).2.1]
            refine go_iast (w' := (wM Z b sd sz9 os9 mo9 li9 de9 fa9 pl9 us9 re9 pk9 rd9 tp9 gT9 gO9 gF9 gE9 gN9 gQ9 gM9 gC9 gA9 gI9 gU9 gK9 gP9 gS9 gX9 gD9 gH (va_up gL1 k.toNat ((iQ (I.getD i z0) : Nat) : Int)))) hK 66 dX6_shrink_66 18 rfl (by omega) (by decide) rfl ?_
            refine go_iinc (lo' := [(6, .int (iI (k + 1))), (0, .ref (b 0)), (1, .int (iI (M : Int))), (2, .int (iI (L : Int))), (3, .int (iI (D : Int))), (4, .int (iI fa9)), (5, .int (iI (I.length : Int)))]) hK 67 6 6 dX6_shrink_67 rfl (by decide) rfl ?_
            refine go_goto (tgt := 46) hK 70 dX6_shrink_70 (by decide) ?_
            refine go_lo [1, 2, 3, 4, 5, 6, 0] rfl ?_
            exact ihA (i + 1) (k + 1) (va_up gL1 k.toNat ((iQ (I.getD i z0) : Nat) : Int)) (by omega) (by omega) (fun z hz => by by_cases c : z = i; (rw [va_up_s (by omega), c]); (rw [va_up_n (by omega)]; exact hl1 z (by omega))) (by omega)
      exact lpA _ 0 0 _ (by omega) rfl (fun z hz => absurd hz (Nat.not_lt_zero _)) (Nat.lt_succ_self _)
    · refine go_bipush hK 26 dX6_shrink_26 (by decide) ?_
      have h0 : (rdX T M L D).1 = 0 := by omega
      exact go_iret hK hR.1 28 [] dX6_shrink_28 (by decide) (by decide) ((MI_fst h79).trans rfl) ⟨by rw [spShr_0 hbd h0], by rw [spShr_0 hbd h0]; exact h79⟩
  · have hbd : ¬ bndP m l d := by rcases hg2 with z | z; exact absurd z.1 (by omega); exact z.2
    refine go_bipush hK 9 dX6_shrink_9 (by decide) ?_
    exact go_iret hK hR.1 11 [] dX6_shrink_11 (by decide) (by decide) rfl ⟨by rw [spShr_n hbd], by rw [spShr_n hbd]; exact ⟨_, _, _, _, _, _, _, _, _, _, _, _, _, _, _, _, _, _, _, _, _, _, _, _, _, _, _, _, _, _, hI2, rfl⟩⟩

