/-! the reference: deep, family, draw, the tape's face (printed by gen/m4.py) -/
set_option maxRecDepth 100000
abbrev rm_X6_deep : Room := { frames := 3, cells := 0, slots := 0, locals := 66 }
set_option maxHeartbeats 4000000 in
theorem ct_X6_deep (Z : Gz) (b : Nat → Nat) {sd : Int64} {sz os mo li de fa pl us re pk rd tp : Int} {gT gO gF gE gN gQ gM gC gA gI gU gK gP gS gX gD gH gL : Nat → Int} (hp : pM [] sz gT) (n : Nat) (hn : n ≤ 60) : CT Z yX6_deep cX6_deep 4 none rm_X6_deep [.ref (b 0), .int (iI (n : Int))] (wM Z b sd sz os mo li de fa pl us re pk rd tp gT gO gF gE gN gQ gM gC gA gI gU gK gP gS gX gD gH gL) (fun v w => v = none ∧ ∃ (sz' : Int) (gT' : Nat → Int), pM (spNest n sd).2 sz' gT' ∧ w = (wM Z b ((spNest n sd).1) sz' os mo li de fa pl us re pk rd tp gT' gO gF gE gN gQ gM gC gA gI gU gK gP gS gX gD gH gL)) nopx := by
  refine ct_of (by decide) (Nat.le_of_ble_eq_true rfl) (fun X hK hR => ?_)
  show GO Z X (wM Z b sd sz os mo li de fa pl us re pk rd tp gT gO gF gE gN gQ gM gC gA gI gU gK gP gS gX gD gH gL) 0 0 0 [(0, .ref (b 0)), (1, .int (iI (n : Int)))] []
  refine go_iload_n hK 0 1 dX6_deep_0 rfl rfl ?_
  refine go_istore_n (lo' := [(2, .int (iI (n : Int))), (0, .ref (b 0)), (1, .int (iI (n : Int)))]) hK 1 2 dX6_deep_1 rfl (by decide) rfl ?_
  have hz := hp.1
  simp at hz
  refine go_lo [1, 2, 0] rfl ?_
  have lp : ∀ (fu : Nat) (i : Nat) (k : Int) (sz1 : Int) (gT1 : Nat → Int), (i ≤ n) → (k = n - i) → (pM (nestA n i []) sz1 gT1) → n - i < fu → GO Z X (wM Z b sd sz1 os mo li de fa pl us re pk rd tp gT1 gO gF gE gN gQ gM gC gA gI gU gK gP gS gX gD gH gL) 0 0 2 [(0, .ref (b 0)), (1, .int (iI (n : Int))), (2, .int (iI k))] [] := by
    intro fu
    induction fu with
    | zero => intro i k sz1 gT1 hi hk hp1 hm; exact absurd hm (Nat.not_lt_zero _)
    | succ fu ih =>
      intro i k sz1 gT1 hi hk hp1 hm
      have hln := nestA_len n i []
      have hz1 := hp1.1
      simp at hln
      refine go_iload_n hK 2 2 dX6_deep_2 rfl rfl ?_
      refine go_if_le (tgt := 49) hK 3 dX6_deep_3 (by decide) (by omega) (fun c1 => ?_) (fun c1 => ?_)
      · obtain rfl : i = n := by omega
        refine go_aload_n hK 49 0 dX6_deep_49 rfl rfl ?_
        refine go_get hK 50 fl_X6_78 dX6_deep_50 0 rfl rfl ?_
        refine go_istore_n (lo' := [(2, .int (iI sz1)), (0, .ref (b 0)), (1, .int (iI (i : Int)))]) hK 53 2 dX6_deep_53 rfl (by decide) rfl ?_
        refine go_aload_n hK 54 0 dX6_deep_54 rfl rfl ?_
        refine go_bipush hK 55 dX6_deep_55 (by decide) ?_
        refine go_bipush hK 57 dX6_deep_57 (by decide) ?_
        refine go_callV (As := [.int (iI 80), .int (iI 75)]) (rest := []) hK hR 59 (ct_X6_lays Z b hp1 80 75 rfl rfl (by omega)) cw_X6_95 gn_X6_lays rfl dX6_deep_59 gSel_all ⟨0, 5, _, _, _, rfl, rfl⟩ rfl (Nat.le_of_ble_eq_true rfl) ⟨(by decide), (by decide)⟩ (fun _ _ _ h => h.elim) (fun v w1 h => ?_)
        obtain ⟨rfl, sz2, gT3, hp4, rfl⟩ := h
        show GO Z X (wM Z b sd sz2 os mo li de fa pl us re pk rd tp gT3 gO gF gE gN gQ gM gC gA gI gU gK gP gS gX gD gH gL) 0 0 62 [(2, .int (iI sz1)), (0, .ref (b 0)), (1, .int (iI (i : Int)))] []
        refine go_aload_n hK 62 0 dX6_deep_62 rfl rfl ?_
        refine go_iconst hK 63 dX6_deep_63 ?_
        refine go_iconst hK 64 dX6_deep_64 ?_
        refine go_callV (As := [.int (iI 1), .int (iI 1)]) (rest := []) hK hR 65 (ct_X6_some Z b hp4 1 1 rfl (by first | omega | (simp only [List.length_append, List.length_cons, List.length_nil]; omega))) cw_X6_103 gn_X6_some rfl dX6_deep_65 gSel_all ⟨0, 5, _, _, _, rfl, rfl⟩ rfl (Nat.le_of_ble_eq_true rfl) ⟨(by decide), (by decide)⟩ (fun _ _ _ h => h.elim) (fun v w1 h => ?_)
        obtain ⟨rfl, sz5, gT6, hp7, rfl⟩ := h
        show GO Z X (wM Z b ((drB 256 1 (sd, (nestA i i [] ++ [80] ++ [75]) ++ [1] ++ [1])).1) sz5 os mo li de fa pl us re pk rd tp gT6 gO gF gE gN gQ gM gC gA gI gU gK gP gS gX gD gH gL) 0 0 68 [(2, .int (iI sz1)), (0, .ref (b 0)), (1, .int (iI (i : Int)))] []
        refine go_aload_n hK 68 0 dX6_deep_68 rfl rfl ?_
        refine go_iload_n hK 69 2 dX6_deep_69 rfl rfl ?_
        refine go_callV (As := [.int (iI sz1)]) (rest := []) hK hR 70 (ct_X6_close Z b hp7 (by rw [drB_len]; simp; omega) (by rw [drB_len]; simp; omega)) cw_X6_106 gn_X6_close rfl dX6_deep_70 gSel_all ⟨0, 5, _, _, _, rfl, rfl⟩ rfl (Nat.le_of_ble_eq_true rfl) ⟨(by decide), (by decide)⟩ (fun _ _ _ h => h.elim) (fun v w1 h => ?_)
        obtain ⟨rfl, sz8, gT9, hp10, rfl⟩ := h
        show GO Z X (wM Z b ((drB 256 1 (sd, (nestA i i [] ++ [80] ++ [75]) ++ [1] ++ [1])).1) sz8 os mo li de fa pl us re pk rd tp gT9 gO gF gE gN gQ gM gC gA gI gU gK gP gS gX gD gH gL) 0 0 73 [(2, .int (iI sz1)), (0, .ref (b 0)), (1, .int (iI (i : Int)))] []
        refine go_iconst hK 73 dX6_deep_73 ?_
        refine go_istore_n (lo' := [(3, .int (iI 1)), (2, .int (iI sz1)), (0, .ref (b 0)), (1, .int (iI (i : Int)))]) hK 74 3 dX6_deep_74 rfl (by decide) rfl ?_
        rw [show sz1.toNat = 5 * (i - 0) by omega] at hp10
        refine go_lo [2, 3, 1, 0] rfl ?_
        have lp3 : ∀ (fu : Nat) (j : Nat) (k3 : Int) (sz3 : Int) (gT3 : Nat → Int), (j ≤ i) → (k3 = j + 1) → (pM (nestE i (j + 1) (nestA i i [] ++ [80] ++ [75] ++ [1] ++ [1] ++ [rnN sd 256])) sz3 gT3) → i - j < fu → GO Z X (wM Z b ((drB 256 1 (sd, (nestA i i [] ++ [80] ++ [75]) ++ [1] ++ [1])).1) sz3 os mo li de fa pl us re pk rd tp gT3 gO gF gE gN gQ gM gC gA gI gU gK gP gS gX gD gH gL) 0 0 75 [(0, .ref (b 0)), (1, .int (iI (i : Int))), (2, .int (iI sz1)), (3, .int (iI k3))] [] := by
          intro fu
          induction fu with
          | zero => intro j k3 sz3 gT3 hj hk3 hp3 hm; exact absurd hm (Nat.not_lt_zero _)
          | succ fu ih3 =>
            intro j k3 sz3 gT3 hj hk3 hp3 hm
            have hl3 : (nestE i (j + 1) (nestA i i [] ++ [80] ++ [75] ++ [1] ++ [1] ++ [rnN sd 256])).length = 5 * i + 5 + 2 * (j + 1) := by rw [nestE_len]; simp [nestA_len]
            have hz3 := hp3.1
            refine go_iload_n hK 75 3 dX6_deep_75 rfl rfl ?_
            refine go_iload_n hK 76 1 dX6_deep_76 rfl rfl ?_
            refine go_icmp_gt (tgt := 95) hK 77 dX6_deep_77 (by decide) (by omega) (by omega) (fun c11 => ?_) (fun c11 => ?_)
            · obtain rfl : j = i := by omega
              exact go_vret hK hR.1 95 [] dX6_deep_95 (by decide) (by decide) rfl ⟨rfl, _, _, hp3, rfl⟩
            · refine go_aload_n hK 80 0 dX6_deep_80 rfl rfl ?_
              refine go_iload_n hK 81 2 dX6_deep_81 rfl rfl ?_
              refine go_iconst hK 82 dX6_deep_82 ?_
              refine go_iload_n hK 83 3 dX6_deep_83 rfl rfl ?_
              refine go_imul hK 84 dX6_deep_84 ?_
              refine go_isub hK 85 dX6_deep_85 ?_
              refine go_callV (As := [.int (iI (sz1 - (5 * k3)))]) (rest := []) hK hR 86 (ct_X6_close Z b hp3 (by omega) (by omega)) cw_X6_106 gn_X6_close rfl dX6_deep_86 gSel_all ⟨0, 5, _, _, _, rfl, rfl⟩ rfl (Nat.le_of_ble_eq_true rfl) ⟨(by decide), (by decide)⟩ (fun _ _ _ h => h.elim) (fun v w1 h => ?_)
              obtain ⟨rfl, sz12, gT13, hp14, rfl⟩ := h
              show GO Z X (wM Z b ((drB 256 1 (sd, (nestA i i [] ++ [80] ++ [75]) ++ [1] ++ [1])).1) sz12 os mo li de fa pl us re pk rd tp gT13 gO gF gE gN gQ gM gC gA gI gU gK gP gS gX gD gH gL) 0 0 89 [(0, .ref (b 0)), (1, .int (iI (i : Int))), (2, .int (iI sz1)), (3, .int (iI k3))] []
              refine go_iinc (lo' := [(3, .int (iI (k3 + 1))), (0, .ref (b 0)), (1, .int (iI (i : Int))), (2, .int (iI sz1))]) hK 89 3 3 dX6_deep_89 rfl (by decide) rfl ?_
              refine go_goto (tgt := 75) hK 92 dX6_deep_92 (by decide) ?_
              refine go_lo [1, 2, 3, 0] rfl ?_
              rw [show (sz1 - 5 * k3).toNat = 5 * (i - (j + 1)) by omega] at hp14
              exact ih3 (j + 1) (k3 + 1) sz12 gT13 (by omega) (by omega) hp14 (by omega)
        exact lp3 _ 0 1 _ _ (by omega) rfl hp10 (Nat.lt_succ_self _)
      · refine go_bipush hK 6 dX6_deep_6 (by decide) ?_
        refine go_bipush hK 8 dX6_deep_8 (by decide) ?_
        refine go_iload_n hK 10 2 dX6_deep_10 rfl rfl ?_
        refine go_iconst hK 11 dX6_deep_11 ?_
        refine go_isub hK 12 dX6_deep_12 ?_
        refine go_imul hK 13 dX6_deep_13 ?_
        refine go_iadd hK 14 dX6_deep_14 ?_
        refine go_istore_n (lo' := [(3, .int (iI (7 + (7 * (k - 1))))), (0, .ref (b 0)), (1, .int (iI (n : Int))), (2, .int (iI k))]) hK 15 3 dX6_deep_15 rfl (by decide) rfl ?_
        refine go_aload_n hK 16 0 dX6_deep_16 rfl rfl ?_
        refine go_bipush hK 17 dX6_deep_17 (by decide) ?_
        refine go_bipush hK 19 dX6_deep_19 (by decide) ?_
        refine go_callV (As := [.int (iI 80), .int (iI 75)]) (rest := []) hK hR 21 (ct_X6_lays Z b hp1 80 75 rfl rfl (by omega)) cw_X6_95 gn_X6_lays rfl dX6_deep_21 gSel_all ⟨0, 5, _, _, _, rfl, rfl⟩ rfl (Nat.le_of_ble_eq_true rfl) ⟨(by decide), (by decide)⟩ (fun _ _ _ h => h.elim) (fun v w1 h => ?_)
        obtain ⟨rfl, sz15, gT16, hp17, rfl⟩ := h
        show GO Z X (wM Z b sd sz15 os mo li de fa pl us re pk rd tp gT16 gO gF gE gN gQ gM gC gA gI gU gK gP gS gX gD gH gL) 0 0 24 [(3, .int (iI (7 + (7 * (k - 1))))), (0, .ref (b 0)), (1, .int (iI (n : Int))), (2, .int (iI k))] []
        refine go_aload_n hK 24 0 dX6_deep_24 rfl rfl ?_
        refine go_iconst hK 25 dX6_deep_25 ?_
        refine go_callV (As := [.int (iI 4)]) (rest := []) hK hR 26 (ct_X6_lay Z b hp17 4 rfl (by first | omega | (simp only [List.length_append, List.length_cons, List.length_nil]; omega))) cw_X6_83 gn_X6_lay rfl dX6_deep_26 gSel_all ⟨0, 5, _, _, _, rfl, rfl⟩ rfl (Nat.le_of_ble_eq_true rfl) ⟨(by decide), (by decide)⟩ (fun _ _ _ h => h.elim) (fun v w1 h => ?_)
        obtain ⟨rfl, sz18, gT19, hp20, rfl⟩ := h
        show GO Z X (wM Z b sd sz18 os mo li de fa pl us re pk rd tp gT19 gO gF gE gN gQ gM gC gA gI gU gK gP gS gX gD gH gL) 0 0 29 [(3, .int (iI (7 + (7 * (k - 1))))), (0, .ref (b 0)), (1, .int (iI (n : Int))), (2, .int (iI k))] []
        refine go_aload_n hK 29 0 dX6_deep_29 rfl rfl ?_
        refine go_iload_n hK 30 3 dX6_deep_30 rfl rfl ?_
        refine go_sipush hK 31 dX6_deep_31 (by decide) ?_
        refine go_idiv hK 34 dX6_deep_34 (by omega) (by decide) ?_
        refine go_iload_n hK 35 3 dX6_deep_35 rfl rfl ?_
        refine go_sipush hK 36 dX6_deep_36 (by decide) ?_
        refine go_irem hK 39 dX6_deep_39 (by omega) (by decide) ?_
        refine go_callV (As := [.int (iI ((7 + (7 * (k - 1))) / 256)), .int (iI ((7 + (7 * (k - 1))) % 256))]) (rest := []) hK hR 40 (ct_X6_lays Z b hp20 (7 * (n - i) / 256) (7 * (n - i) % 256) (by omega) (by omega) (by first | omega | (simp only [List.length_append, List.length_cons, List.length_nil]; omega))) cw_X6_95 gn_X6_lays rfl dX6_deep_40 gSel_all ⟨0, 5, _, _, _, rfl, rfl⟩ rfl (Nat.le_of_ble_eq_true rfl) ⟨(by decide), (by decide)⟩ (fun _ _ _ h => h.elim) (fun v w1 h => ?_)
        obtain ⟨rfl, sz21, gT22, hp23, rfl⟩ := h
        show GO Z X (wM Z b sd sz21 os mo li de fa pl us re pk rd tp gT22 gO gF gE gN gQ gM gC gA gI gU gK gP gS gX gD gH gL) 0 0 43 [(3, .int (iI (7 + (7 * (k - 1))))), (0, .ref (b 0)), (1, .int (iI (n : Int))), (2, .int (iI k))] []
        refine go_iinc (lo' := [(2, .int (iI (k + (-1)))), (3, .int (iI (7 + (7 * (k - 1))))), (0, .ref (b 0)), (1, .int (iI (n : Int)))]) hK 43 2 3 dX6_deep_43 rfl (by decide) rfl ?_
        refine go_goto (tgt := 2) hK 46 dX6_deep_46 (by decide) ?_
        refine go_lo [2, 3, 0] rfl ?_
        exact ih (i + 1) (k + (-1)) sz21 gT22 (by omega) (by omega) hp23 (by omega)
  exact lp _ 0 (n : Int) _ _ (by omega) (by omega) hp (Nat.lt_succ_self _)

abbrev rm_X6_family : Room := { frames := 4, cells := 0, slots := 0, locals := 90 }
set_option maxHeartbeats 4000000 in
theorem ct_X6_family (Z : Gz) (b : Nat → Nat) {sd : Int64} {sz os mo li de fa pl us re pk rd tp : Int} {gT gO gF gE gN gQ gM gC gA gI gU gK gP gS gX gD gH gL : Nat → Int} {T : List Nat} (hp : pM T sz gT) (f n : Nat) (hf : 1 ≤ f ∧ f ≤ 9) (hn : n ≤ 60) (hl : T.length ≤ 10) : CT Z yX6_family cX6_family 4 none rm_X6_family [.ref (b 0), .int (iI (f : Int)), .int (iI (n : Int))] (wM Z b sd sz os mo li de fa pl us re pk rd tp gT gO gF gE gN gQ gM gC gA gI gU gK gP gS gX gD gH gL) (fun v w => v = none ∧ ∃ (sz' : Int) (gT' : Nat → Int), pM (spFam f n (sd, T)).2 sz' gT' ∧ w = (wM Z b ((spFam f n (sd, T)).1) sz' os mo li de fa pl us re pk rd tp gT' gO gF gE gN gQ gM gC gA gI gU gK gP gS gX gD gH gL)) nopx := by
  refine ct_of (by decide) (Nat.le_of_ble_eq_true rfl) (fun X hK hR => ?_)
  show GO Z X (wM Z b sd sz os mo li de fa pl us re pk rd tp gT gO gF gE gN gQ gM gC gA gI gU gK gP gS gX gD gH gL) 0 0 0 [(0, .ref (b 0)), (1, .int (iI (f : Int))), (2, .int (iI (n : Int)))] []
  refine go_iload_n hK 0 1 dX6_family_0 rfl rfl ?_
  refine go_iconst hK 1 dX6_family_1 ?_
  refine go_icmp_ne (tgt := 40) hK 2 dX6_family_2 (by decide) (by omega) (by decide) (fun c1 => ?_) (fun c1 => ?_)
  · refine go_iload_n hK 40 1 dX6_family_40 rfl rfl ?_
    refine go_iconst hK 41 dX6_family_41 ?_
    refine go_icmp_ne (tgt := 80) hK 42 dX6_family_42 (by decide) (by omega) (by decide) (fun c2 => ?_) (fun c2 => ?_)
    · refine go_iload_n hK 80 1 dX6_family_80 rfl rfl ?_
      refine go_iconst hK 81 dX6_family_81 ?_
      refine go_icmp_ne (tgt := 107) hK 82 dX6_family_82 (by decide) (by omega) (by decide) (fun c3 => ?_) (fun c3 => ?_)
      · refine go_iload_n hK 107 1 dX6_family_107 rfl rfl ?_
        refine go_iconst hK 108 dX6_family_108 ?_
        refine go_icmp_ne (tgt := 152) hK 109 dX6_family_109 (by decide) (by omega) (by decide) (fun c4 => ?_) (fun c4 => ?_)
        · refine go_iload_n hK 152 1 dX6_family_152 rfl rfl ?_
          refine go_bipush hK 153 dX6_family_153 (by decide) ?_
          refine go_icmp_ne (tgt := 236) hK 155 dX6_family_155 (by decide) (by omega) (by decide) (fun c5 => ?_) (fun c5 => ?_)
          · refine go_iconst hK 236 dX6_family_236 ?_
            refine go_istore_n (lo' := [(3, .int (iI 0)), (0, .ref (b 0)), (1, .int (iI (f : Int))), (2, .int (iI (n : Int)))]) hK 237 3 dX6_family_237 rfl (by decide) rfl ?_
            refine go_lo [1, 3, 0] rfl ?_
            have lp : ∀ (fu : Nat) (i : Nat) (sz1 : Int) (gT1 : Nat → Int), (i ≤ n) → (pM (spItems i (sd, T)).2 sz1 gT1) → n - i < fu → GO Z X (wM Z b ((spItems i (sd, T)).1) sz1 os mo li de fa pl us re pk rd tp gT1 gO gF gE gN gQ gM gC gA gI gU gK gP gS gX gD gH gL) 0 0 238 [(0, .ref (b 0)), (2, .int (iI (n : Int))), (3, .int (iI (i : Int)))] [] := by
              intro fu
              induction fu with
              | zero => intro i sz1 gT1 hi hp1 hm; exact absurd hm (Nat.not_lt_zero _)
              | succ fu ih =>
                intro i sz1 gT1 hi hp1 hm
                have hln := spItems_len i (sd, T)
                dsimp only at hln
                have hz1 := hp1.1
                refine go_iload_n hK 238 3 dX6_family_238 rfl rfl ?_
                refine go_iload_n hK 239 2 dX6_family_239 rfl rfl ?_
                refine go_icmp_ge (tgt := 254) hK 240 dX6_family_240 (by decide) (by omega) (by omega) (fun c6 => ?_) (fun c6 => ?_)
                · obtain rfl : i = n := by omega
                  exact go_vret hK hR.1 254 [] dX6_family_254 (by decide) (by decide) rfl ⟨rfl, _, _, (by unfold spFam; rw [if_neg (by omega), if_neg (by omega), if_neg (by omega), if_neg (by omega), if_neg (by omega), if_neg (by omega)]; exact hp1), (by unfold spFam; rw [if_neg (by omega), if_neg (by omega), if_neg (by omega), if_neg (by omega), if_neg (by omega), if_neg (by omega)] <;> rfl)⟩
                · refine go_aload_n hK 243 0 dX6_family_243 rfl rfl ?_
                  refine go_iload_n hK 244 3 dX6_family_244 rfl rfl ?_
                  refine go_callV (As := [.int (iI (i : Int))]) (rest := []) hK hR 245 (ct_X6_drawItem Z b (T := (spItems i (sd, T)).2) hp1 i (by omega) (by omega)) cw_X6_109 gn_X6_drawItem rfl dX6_family_245 gSel_all ⟨0, 5, _, _, _, rfl, rfl⟩ rfl (Nat.le_of_ble_eq_true rfl) ⟨(by decide), (by decide)⟩ (fun _ _ _ h => h.elim) (fun v w1 h => ?_)
                  obtain ⟨rfl, sz7, gT8, hp9, rfl⟩ := h
                  show GO Z X (wM Z b ((spItems (i + 1) (sd, T)).1) sz7 os mo li de fa pl us re pk rd tp gT8 gO gF gE gN gQ gM gC gA gI gU gK gP gS gX gD gH gL) 0 0 248 [(0, .ref (b 0)), (2, .int (iI (n : Int))), (3, .int (iI (i : Int)))] []
                  refine go_iinc (lo' := [(3, .int (iI ((i : Int) + 1))), (0, .ref (b 0)), (2, .int (iI (n : Int)))]) hK 248 3 2 dX6_family_248 rfl (by decide) rfl ?_
                  refine go_goto (tgt := 238) hK 251 dX6_family_251 (by decide) ?_
                  refine go_lo [1, 2, 0] rfl ?_
                  exact ih (i + 1) sz7 gT8 (by omega) hp9 (by omega)
            exact lp _ 0 _ _ (by omega) hp (Nat.lt_succ_self _)
          · refine go_aload_n hK 158 0 dX6_family_158 rfl rfl ?_
            refine go_bipush hK 159 dX6_family_159 (by decide) ?_
            refine go_bipush hK 161 dX6_family_161 (by decide) ?_
            refine go_callV (As := [.int (iI 7), .int (iI 8)]) (rest := []) hK hR 163 (ct_X6_lays Z b hp 7 8 rfl rfl (by omega)) cw_X6_95 gn_X6_lays rfl dX6_family_163 gSel_all ⟨0, 5, _, _, _, rfl, rfl⟩ rfl (Nat.le_of_ble_eq_true rfl) ⟨(by decide), (by decide)⟩ (fun _ _ _ h => h.elim) (fun v w1 h => ?_)
            obtain ⟨rfl, sz10, gT11, hp12, rfl⟩ := h
            show GO Z X (wM Z b sd sz10 os mo li de fa pl us re pk rd tp gT11 gO gF gE gN gQ gM gC gA gI gU gK gP gS gX gD gH gL) 0 0 166 [(0, .ref (b 0)), (1, .int (iI (f : Int))), (2, .int (iI (n : Int)))] []
            refine go_iconst hK 166 dX6_family_166 ?_
            refine go_istore_n (lo' := [(3, .int (iI 0)), (0, .ref (b 0)), (1, .int (iI (f : Int))), (2, .int (iI (n : Int)))]) hK 167 3 dX6_family_167 rfl (by decide) rfl ?_
            refine go_lo [1, 3, 0] rfl ?_
            refine go_iload_n hK 168 3 dX6_family_168 rfl rfl ?_
            refine go_bipush hK 169 dX6_family_169 (by decide) ?_
            refine go_icmp_ge (tgt := 185) hK 171 dX6_family_171 (by decide) (by decide) (by decide) (fun q => absurd q (by decide)) (fun _ => ?_)
            refine go_aload_n hK 174 0 dX6_family_174 rfl rfl ?_
            refine go_iload_n hK 175 3 dX6_family_175 rfl rfl ?_
            refine go_callV (As := [.int (iI 0)]) (rest := []) hK hR 176 (ct_X6_lay Z b hp12 0 (by decide) (by first | omega | (simp only [List.length_append, List.length_cons, List.length_nil]; omega))) cw_X6_83 gn_X6_lay rfl dX6_family_176 gSel_all ⟨0, 5, _, _, _, rfl, rfl⟩ rfl (Nat.le_of_ble_eq_true rfl) ⟨(by decide), (by decide)⟩ (fun _ _ _ h => h.elim) (fun v w1 h => ?_)
            obtain ⟨rfl, sz13, gT14, hp15, rfl⟩ := h
            show GO Z X (wM Z b sd sz13 os mo li de fa pl us re pk rd tp gT14 gO gF gE gN gQ gM gC gA gI gU gK gP gS gX gD gH gL) 0 0 179 [(0, .ref (b 0)), (2, .int (iI (n : Int))), (3, .int (iI 0))] []
            refine go_iinc (lo' := [(3, .int (iI (0 + 1))), (0, .ref (b 0)), (2, .int (iI (n : Int)))]) hK 179 3 2 dX6_family_179 rfl (by decide) rfl ?_
            refine go_goto (tgt := 168) hK 182 dX6_family_182 (by decide) ?_
            refine go_lo (lo' := [(0, .ref (b 0)), (2, .int (iI (n : Int))), (3, .int (iI 1))]) [1, 2, 0] rfl ?_
            refine go_iload_n hK 168 3 dX6_family_168 rfl rfl ?_
            refine go_bipush hK 169 dX6_family_169 (by decide) ?_
            refine go_icmp_ge (tgt := 185) hK 171 dX6_family_171 (by decide) (by decide) (by decide) (fun q => absurd q (by decide)) (fun _ => ?_)
            refine go_aload_n hK 174 0 dX6_family_174 rfl rfl ?_
            refine go_iload_n hK 175 3 dX6_family_175 rfl rfl ?_
            refine go_callV (As := [.int (iI 1)]) (rest := []) hK hR 176 (ct_X6_lay Z b hp15 1 (by decide) (by first | omega | (simp only [List.length_append, List.length_cons, List.length_nil]; omega))) cw_X6_83 gn_X6_lay rfl dX6_family_176 gSel_all ⟨0, 5, _, _, _, rfl, rfl⟩ rfl (Nat.le_of_ble_eq_true rfl) ⟨(by decide), (by decide)⟩ (fun _ _ _ h => h.elim) (fun v w1 h => ?_)
            obtain ⟨rfl, sz16, gT17, hp18, rfl⟩ := h
            show GO Z X (wM Z b sd sz16 os mo li de fa pl us re pk rd tp gT17 gO gF gE gN gQ gM gC gA gI gU gK gP gS gX gD gH gL) 0 0 179 [(0, .ref (b 0)), (2, .int (iI (n : Int))), (3, .int (iI 1))] []
            refine go_iinc (lo' := [(3, .int (iI (1 + 1))), (0, .ref (b 0)), (2, .int (iI (n : Int)))]) hK 179 3 2 dX6_family_179 rfl (by decide) rfl ?_
            refine go_goto (tgt := 168) hK 182 dX6_family_182 (by decide) ?_
            refine go_lo (lo' := [(0, .ref (b 0)), (2, .int (iI (n : Int))), (3, .int (iI 2))]) [1, 2, 0] rfl ?_
            refine go_iload_n hK 168 3 dX6_family_168 rfl rfl ?_
            refine go_bipush hK 169 dX6_family_169 (by decide) ?_
            refine go_icmp_ge (tgt := 185) hK 171 dX6_family_171 (by decide) (by decide) (by decide) (fun q => absurd q (by decide)) (fun _ => ?_)
            refine go_aload_n hK 174 0 dX6_family_174 rfl rfl ?_
            refine go_iload_n hK 175 3 dX6_family_175 rfl rfl ?_
            refine go_callV (As := [.int (iI 2)]) (rest := []) hK hR 176 (ct_X6_lay Z b hp18 2 (by decide) (by first | omega | (simp only [List.length_append, List.length_cons, List.length_nil]; omega))) cw_X6_83 gn_X6_lay rfl dX6_family_176 gSel_all ⟨0, 5, _, _, _, rfl, rfl⟩ rfl (Nat.le_of_ble_eq_true rfl) ⟨(by decide), (by decide)⟩ (fun _ _ _ h => h.elim) (fun v w1 h => ?_)
            obtain ⟨rfl, sz19, gT20, hp21, rfl⟩ := h
            show GO Z X (wM Z b sd sz19 os mo li de fa pl us re pk rd tp gT20 gO gF gE gN gQ gM gC gA gI gU gK gP gS gX gD gH gL) 0 0 179 [(0, .ref (b 0)), (2, .int (iI (n : Int))), (3, .int (iI 2))] []
            refine go_iinc (lo' := [(3, .int (iI (2 + 1))), (0, .ref (b 0)), (2, .int (iI (n : Int)))]) hK 179 3 2 dX6_family_179 rfl (by decide) rfl ?_
            refine go_goto (tgt := 168) hK 182 dX6_family_182 (by decide) ?_
            refine go_lo (lo' := [(0, .ref (b 0)), (2, .int (iI (n : Int))), (3, .int (iI 3))]) [1, 2, 0] rfl ?_
            refine go_iload_n hK 168 3 dX6_family_168 rfl rfl ?_
            refine go_bipush hK 169 dX6_family_169 (by decide) ?_
            refine go_icmp_ge (tgt := 185) hK 171 dX6_family_171 (by decide) (by decide) (by decide) (fun q => absurd q (by decide)) (fun _ => ?_)
            refine go_aload_n hK 174 0 dX6_family_174 rfl rfl ?_
            refine go_iload_n hK 175 3 dX6_family_175 rfl rfl ?_
            refine go_callV (As := [.int (iI 3)]) (rest := []) hK hR 176 (ct_X6_lay Z b hp21 3 (by decide) (by first | omega | (simp only [List.length_append, List.length_cons, List.length_nil]; omega))) cw_X6_83 gn_X6_lay rfl dX6_family_176 gSel_all ⟨0, 5, _, _, _, rfl, rfl⟩ rfl (Nat.le_of_ble_eq_true rfl) ⟨(by decide), (by decide)⟩ (fun _ _ _ h => h.elim) (fun v w1 h => ?_)
            obtain ⟨rfl, sz22, gT23, hp24, rfl⟩ := h
            show GO Z X (wM Z b sd sz22 os mo li de fa pl us re pk rd tp gT23 gO gF gE gN gQ gM gC gA gI gU gK gP gS gX gD gH gL) 0 0 179 [(0, .ref (b 0)), (2, .int (iI (n : Int))), (3, .int (iI 3))] []
            refine go_iinc (lo' := [(3, .int (iI (3 + 1))), (0, .ref (b 0)), (2, .int (iI (n : Int)))]) hK 179 3 2 dX6_family_179 rfl (by decide) rfl ?_
            refine go_goto (tgt := 168) hK 182 dX6_family_182 (by decide) ?_
            refine go_lo (lo' := [(0, .ref (b 0)), (2, .int (iI (n : Int))), (3, .int (iI 4))]) [1, 2, 0] rfl ?_
            refine go_iload_n hK 168 3 dX6_family_168 rfl rfl ?_
            refine go_bipush hK 169 dX6_family_169 (by decide) ?_
            refine go_icmp_ge (tgt := 185) hK 171 dX6_family_171 (by decide) (by decide) (by decide) (fun q => absurd q (by decide)) (fun _ => ?_)
            refine go_aload_n hK 174 0 dX6_family_174 rfl rfl ?_
            refine go_iload_n hK 175 3 dX6_family_175 rfl rfl ?_
            refine go_callV (As := [.int (iI 4)]) (rest := []) hK hR 176 (ct_X6_lay Z b hp24 4 (by decide) (by first | omega | (simp only [List.length_append, List.length_cons, List.length_nil]; omega))) cw_X6_83 gn_X6_lay rfl dX6_family_176 gSel_all ⟨0, 5, _, _, _, rfl, rfl⟩ rfl (Nat.le_of_ble_eq_true rfl) ⟨(by decide), (by decide)⟩ (fun _ _ _ h => h.elim) (fun v w1 h => ?_)
            obtain ⟨rfl, sz25, gT26, hp27, rfl⟩ := h
            show GO Z X (wM Z b sd sz25 os mo li de fa pl us re pk rd tp gT26 gO gF gE gN gQ gM gC gA gI gU gK gP gS gX gD gH gL) 0 0 179 [(0, .ref (b 0)), (2, .int (iI (n : Int))), (3, .int (iI 4))] []
            refine go_iinc (lo' := [(3, .int (iI (4 + 1))), (0, .ref (b 0)), (2, .int (iI (n : Int)))]) hK 179 3 2 dX6_family_179 rfl (by decide) rfl ?_
            refine go_goto (tgt := 168) hK 182 dX6_family_182 (by decide) ?_
            refine go_lo (lo' := [(0, .ref (b 0)), (2, .int (iI (n : Int))), (3, .int (iI 5))]) [1, 2, 0] rfl ?_
            refine go_iload_n hK 168 3 dX6_family_168 rfl rfl ?_
            refine go_bipush hK 169 dX6_family_169 (by decide) ?_
            refine go_icmp_ge (tgt := 185) hK 171 dX6_family_171 (by decide) (by decide) (by decide) (fun q => absurd q (by decide)) (fun _ => ?_)
            refine go_aload_n hK 174 0 dX6_family_174 rfl rfl ?_
            refine go_iload_n hK 175 3 dX6_family_175 rfl rfl ?_
            refine go_callV (As := [.int (iI 5)]) (rest := []) hK hR 176 (ct_X6_lay Z b hp27 5 (by decide) (by first | omega | (simp only [List.length_append, List.length_cons, List.length_nil]; omega))) cw_X6_83 gn_X6_lay rfl dX6_family_176 gSel_all ⟨0, 5, _, _, _, rfl, rfl⟩ rfl (Nat.le_of_ble_eq_true rfl) ⟨(by decide), (by decide)⟩ (fun _ _ _ h => h.elim) (fun v w1 h => ?_)
            obtain ⟨rfl, sz28, gT29, hp30, rfl⟩ := h
            show GO Z X (wM Z b sd sz28 os mo li de fa pl us re pk rd tp gT29 gO gF gE gN gQ gM gC gA gI gU gK gP gS gX gD gH gL) 0 0 179 [(0, .ref (b 0)), (2, .int (iI (n : Int))), (3, .int (iI 5))] []
            refine go_iinc (lo' := [(3, .int (iI (5 + 1))), (0, .ref (b 0)), (2, .int (iI (n : Int)))]) hK 179 3 2 dX6_family_179 rfl (by decide) rfl ?_
            refine go_goto (tgt := 168) hK 182 dX6_family_182 (by decide) ?_
            refine go_lo (lo' := [(0, .ref (b 0)), (2, .int (iI (n : Int))), (3, .int (iI 6))]) [1, 2, 0] rfl ?_
            refine go_iload_n hK 168 3 dX6_family_168 rfl rfl ?_
            refine go_bipush hK 169 dX6_family_169 (by decide) ?_
            refine go_icmp_ge (tgt := 185) hK 171 dX6_family_171 (by decide) (by decide) (by decide) (fun q => absurd q (by decide)) (fun _ => ?_)
            refine go_aload_n hK 174 0 dX6_family_174 rfl rfl ?_
            refine go_iload_n hK 175 3 dX6_family_175 rfl rfl ?_
            refine go_callV (As := [.int (iI 6)]) (rest := []) hK hR 176 (ct_X6_lay Z b hp30 6 (by decide) (by first | omega | (simp only [List.length_append, List.length_cons, List.length_nil]; omega))) cw_X6_83 gn_X6_lay rfl dX6_family_176 gSel_all ⟨0, 5, _, _, _, rfl, rfl⟩ rfl (Nat.le_of_ble_eq_true rfl) ⟨(by decide), (by decide)⟩ (fun _ _ _ h => h.elim) (fun v w1 h => ?_)
            obtain ⟨rfl, sz31, gT32, hp33, rfl⟩ := h
            show GO Z X (wM Z b sd sz31 os mo li de fa pl us re pk rd tp gT32 gO gF gE gN gQ gM gC gA gI gU gK gP gS gX gD gH gL) 0 0 179 [(0, .ref (b 0)), (2, .int (iI (n : Int))), (3, .int (iI 6))] []
            refine go_iinc (lo' := [(3, .int (iI (6 + 1))), (0, .ref (b 0)), (2, .int (iI (n : Int)))]) hK 179 3 2 dX6_family_179 rfl (by decide) rfl ?_
            refine go_goto (tgt := 168) hK 182 dX6_family_182 (by decide) ?_
            refine go_lo (lo' := [(0, .ref (b 0)), (2, .int (iI (n : Int))), (3, .int (iI 7))]) [1, 2, 0] rfl ?_
            refine go_iload_n hK 168 3 dX6_family_168 rfl rfl ?_
            refine go_bipush hK 169 dX6_family_169 (by decide) ?_
            refine go_icmp_ge (tgt := 185) hK 171 dX6_family_171 (by decide) (by decide) (by decide) (fun q => absurd q (by decide)) (fun _ => ?_)
            refine go_aload_n hK 174 0 dX6_family_174 rfl rfl ?_
            refine go_iload_n hK 175 3 dX6_family_175 rfl rfl ?_
            refine go_callV (As := [.int (iI 7)]) (rest := []) hK hR 176 (ct_X6_lay Z b hp33 7 (by decide) (by first | omega | (simp only [List.length_append, List.length_cons, List.length_nil]; omega))) cw_X6_83 gn_X6_lay rfl dX6_family_176 gSel_all ⟨0, 5, _, _, _, rfl, rfl⟩ rfl (Nat.le_of_ble_eq_true rfl) ⟨(by decide), (by decide)⟩ (fun _ _ _ h => h.elim) (fun v w1 h => ?_)
            obtain ⟨rfl, sz34, gT35, hp36, rfl⟩ := h
            show GO Z X (wM Z b sd sz34 os mo li de fa pl us re pk rd tp gT35 gO gF gE gN gQ gM gC gA gI gU gK gP gS gX gD gH gL) 0 0 179 [(0, .ref (b 0)), (2, .int (iI (n : Int))), (3, .int (iI 7))] []
            refine go_iinc (lo' := [(3, .int (iI (7 + 1))), (0, .ref (b 0)), (2, .int (iI (n : Int)))]) hK 179 3 2 dX6_family_179 rfl (by decide) rfl ?_
            refine go_goto (tgt := 168) hK 182 dX6_family_182 (by decide) ?_
            refine go_lo (lo' := [(0, .ref (b 0)), (2, .int (iI (n : Int))), (3, .int (iI 8))]) [1, 2, 0] rfl ?_
            refine go_iload_n hK 168 3 dX6_family_168 rfl rfl ?_
            refine go_bipush hK 169 dX6_family_169 (by decide) ?_
            refine go_icmp_ge (tgt := 185) hK 171 dX6_family_171 (by decide) (by decide) (by decide) (fun _ => ?_) (fun q => absurd q (by decide))
            refine go_iconst hK 185 dX6_family_185 ?_
            refine go_istore_n (lo' := [(3, .int (iI 0)), (0, .ref (b 0)), (2, .int (iI (n : Int)))]) hK 186 3 dX6_family_186 rfl (by decide) rfl ?_
            refine go_lo [1, 2, 0] rfl ?_
            refine go_lo [0, 1, 2] rfl ?_
            have lp : ∀ (fu : Nat) (i : Nat) (k : Int) (sz1 : Int) (gT1 : Nat → Int), (i ≤ 8) → (k = i) → (pM ((drB 8 i (sd, T ++ [7] ++ [8] ++ [0] ++ [1] ++ [2] ++ [3] ++ [4] ++ [5] ++ [6] ++ [7])).2) sz1 gT1) → 8 - i < fu → GO Z X (wM Z b ((drB 8 i (sd, T ++ [7] ++ [8] ++ [0] ++ [1] ++ [2] ++ [3] ++ [4] ++ [5] ++ [6] ++ [7])).1) sz1 os mo li de fa pl us re pk rd tp gT1 gO gF gE gN gQ gM gC gA gI gU gK gP gS gX gD gH gL) 0 0 187 [(0, .ref (b 0)), (2, .int (iI (n : Int))), (3, .int (iI k))] [] := by
              intro fu
              induction fu with
              | zero => intro i k sz1 gT1 hi hk hp1 hm; exact absurd hm (Nat.not_lt_zero _)
              | succ fu ih =>
                intro i k sz1 gT1 hi hk hp1 hm
                have hln : ((drB 8 i (sd, T ++ [7] ++ [8] ++ [0] ++ [1] ++ [2] ++ [3] ++ [4] ++ [5] ++ [6] ++ [7])).2).length = T.length + 10 + i := by rw [drB_len]; simp
                have hz1 := hp1.1
                refine go_iload_n hK 187 3 dX6_family_187 rfl rfl ?_
                refine go_bipush hK 188 dX6_family_188 (by decide) ?_
                refine go_icmp_ge (tgt := 209) hK 190 dX6_family_190 (by decide) (by omega) (by decide) (fun c37 => ?_) (fun c37 => ?_)
                · obtain rfl : i = 8 := by omega
                  refine go_aload_n hK 209 0 dX6_family_209 rfl rfl ?_
                  refine go_iconst hK 210 dX6_family_210 ?_
                  refine go_callV (As := [.int (iI 0)]) (rest := []) hK hR 211 (ct_X6_lay Z b hp1 0 rfl (by omega)) cw_X6_83 gn_X6_lay rfl dX6_family_211 gSel_all ⟨0, 5, _, _, _, rfl, rfl⟩ rfl (Nat.le_of_ble_eq_true rfl) ⟨(by decide), (by decide)⟩ (fun _ _ _ h => h.elim) (fun v w1 h => ?_)
                  obtain ⟨rfl, sz38, gT39, hp40, rfl⟩ := h
                  show GO Z X (wM Z b ((drB 8 8 (sd, T ++ [7] ++ [8] ++ [0] ++ [1] ++ [2] ++ [3] ++ [4] ++ [5] ++ [6] ++ [7])).1) sz38 os mo li de fa pl us re pk rd tp gT39 gO gF gE gN gQ gM gC gA gI gU gK gP gS gX gD gH gL) 0 0 214 [(0, .ref (b 0)), (2, .int (iI (n : Int))), (3, .int (iI k))] []
                  refine go_iconst hK 214 dX6_family_214 ?_
                  refine go_istore_n (lo' := [(3, .int (iI 0)), (0, .ref (b 0)), (2, .int (iI (n : Int)))]) hK 215 3 dX6_family_215 rfl (by decide) rfl ?_
                  refine go_lo [1, 2, 0] rfl ?_
                  have lp2 : ∀ (fu : Nat) (i : Nat) (k : Int) (sz1 : Int) (gT1 : Nat → Int), (i ≤ n) → (k = i) → (pM (rpL [5, 0] i ((drB 8 8 (sd, T ++ [7] ++ [8] ++ [0] ++ [1] ++ [2] ++ [3] ++ [4] ++ [5] ++ [6] ++ [7])).2 ++ [0])) sz1 gT1) → n - i < fu → GO Z X (wM Z b ((drB 8 8 (sd, T ++ [7] ++ [8] ++ [0] ++ [1] ++ [2] ++ [3] ++ [4] ++ [5] ++ [6] ++ [7])).1) sz1 os mo li de fa pl us re pk rd tp gT1 gO gF gE gN gQ gM gC gA gI gU gK gP gS gX gD gH gL) 0 0 216 [(0, .ref (b 0)), (2, .int (iI (n : Int))), (3, .int (iI k))] [] := by
                    intro fu
                    induction fu with
                    | zero => intro i k sz1 gT1 hi hk hp1 hm; exact absurd hm (Nat.not_lt_zero _)
                    | succ fu ih =>
                      intro i k sz1 gT1 hi hk hp1 hm
                      have hln : (rpL [5, 0] i ((drB 8 8 (sd, T ++ [7] ++ [8] ++ [0] ++ [1] ++ [2] ++ [3] ++ [4] ++ [5] ++ [6] ++ [7])).2 ++ [0])).length = T.length + 19 + 2 * i := by rw [rpL_len]; simp [drB_len]
                      have hz1 := hp1.1
                      refine go_iload_n hK 216 3 dX6_family_216 rfl rfl ?_
                      refine go_iload_n hK 217 2 dX6_family_217 rfl rfl ?_
                      refine go_icmp_ge (tgt := 233) hK 218 dX6_family_218 (by decide) (by omega) (by omega) (fun c41 => ?_) (fun c41 => ?_)
                      · obtain rfl : i = n := by omega
                        refine go_goto (tgt := 254) hK 233 dX6_family_233 (by decide) ?_
                        exact go_vret hK hR.1 254 [] dX6_family_254 (by decide) (by decide) rfl ⟨rfl, _, _, (by unfold spFam; rw [if_neg (by omega), if_neg (by omega), if_neg (by omega), if_neg (by omega), if_neg (by omega), if_pos (by omega)]; exact hp1), (by unfold spFam; rw [if_neg (by omega), if_neg (by omega), if_neg (by omega), if_neg (by omega), if_neg (by omega), if_pos (by omega)] <;> rfl)⟩
                      · refine go_aload_n hK 221 0 dX6_family_221 rfl rfl ?_
                        refine go_iconst hK 222 dX6_family_222 ?_
                        refine go_iconst hK 223 dX6_family_223 ?_
                        refine go_callV (As := [.int (iI 5), .int (iI 0)]) (rest := []) hK hR 224 (ct_X6_lays Z b hp1 5 0 rfl rfl (by omega)) cw_X6_95 gn_X6_lays rfl dX6_family_224 gSel_all ⟨0, 5, _, _, _, rfl, rfl⟩ rfl (Nat.le_of_ble_eq_true rfl) ⟨(by decide), (by decide)⟩ (fun _ _ _ h => h.elim) (fun v w1 h => ?_)
                        obtain ⟨rfl, sz42, gT43, hp44, rfl⟩ := h
                        show GO Z X (wM Z b ((drB 8 8 (sd, T ++ [7] ++ [8] ++ [0] ++ [1] ++ [2] ++ [3] ++ [4] ++ [5] ++ [6] ++ [7])).1) sz42 os mo li de fa pl us re pk rd tp gT43 gO gF gE gN gQ gM gC gA gI gU gK gP gS gX gD gH gL) 0 0 227 [(0, .ref (b 0)), (2, .int (iI (n : Int))), (3, .int (iI k))] []
                        rw [List.append_assoc] at hp44
                        refine go_iinc (lo' := [(3, .int (iI (k + 1))), (0, .ref (b 0)), (2, .int (iI (n : Int)))]) hK 227 3 2 dX6_family_227 rfl (by decide) rfl ?_
                        refine go_goto (tgt := 216) hK 230 dX6_family_230 (by decide) ?_
                        refine go_lo [1, 2, 0] rfl ?_
                        exact ih (i + 1) (k + 1) sz42 gT43 (by omega) (by omega) hp44 (by omega)
                  exact lp2 _ 0 0 _ _ (by omega) rfl hp40 (Nat.lt_succ_self _)
                · refine go_aload_n hK 193 0 dX6_family_193 rfl rfl ?_
                  refine go_aload_n hK 194 0 dX6_family_194 rfl rfl ?_
                  refine go_bipush hK 195 dX6_family_195 (by decide) ?_
                  refine go_callV (As := [.int (iI 8)]) (rest := [.ref (b 0)]) hK hR 197 (ct_X6_draws Z b 8 (by omega) (by omega)) cw_X6_99 gn_X6_draws rfl dX6_family_197 gSel_all ⟨0, 5, _, _, _, rfl, rfl⟩ rfl (Nat.le_of_ble_eq_true rfl) ⟨(by decide), (by decide)⟩ (fun _ _ _ h => h.elim) (fun v w1 h => ?_)
                  obtain ⟨r45, hr46, rfl, rfl⟩ := h
                  show GO Z X (wM Z b (sdN ((drB 8 i (sd, T ++ [7] ++ [8] ++ [0] ++ [1] ++ [2] ++ [3] ++ [4] ++ [5] ++ [6] ++ [7])).1)) sz1 os mo li de fa pl us re pk rd tp gT1 gO gF gE gN gQ gM gC gA gI gU gK gP gS gX gD gH gL) 0 0 200 [(0, .ref (b 0)), (2, .int (iI (n : Int))), (3, .int (iI k))] [.int (iI (r45 : Int)), .ref (b 0)]
                  have hb_r45 := rnN_lt ((drB 8 i (sd, T ++ [7] ++ [8] ++ [0] ++ [1] ++ [2] ++ [3] ++ [4] ++ [5] ++ [6] ++ [7])).1) (n := 8) (by omega)
                  rw [← hr46] at hb_r45
                  refine go_callV (As := [.int (iI (r45 : Int))]) (rest := []) hK hR 200 (ct_X6_lay Z b hp1 r45 rfl (by omega)) cw_X6_83 gn_X6_lay rfl dX6_family_200 gSel_all ⟨0, 5, _, _, _, rfl, rfl⟩ rfl (Nat.le_of_ble_eq_true rfl) ⟨(by decide), (by decide)⟩ (fun _ _ _ h => h.elim) (fun v w1 h => ?_)
                  obtain ⟨rfl, sz47, gT48, hp49, rfl⟩ := h
                  show GO Z X (wM Z b (sdN ((drB 8 i (sd, T ++ [7] ++ [8] ++ [0] ++ [1] ++ [2] ++ [3] ++ [4] ++ [5] ++ [6] ++ [7])).1)) sz47 os mo li de fa pl us re pk rd tp gT48 gO gF gE gN gQ gM gC gA gI gU gK gP gS gX gD gH gL) 0 0 203 [(0, .ref (b 0)), (2, .int (iI (n : Int))), (3, .int (iI k))] []
                  refine go_iinc (lo' := [(3, .int (iI (k + 1))), (0, .ref (b 0)), (2, .int (iI (n : Int)))]) hK 203 3 2 dX6_family_203 rfl (by decide) rfl ?_
                  refine go_goto (tgt := 187) hK 206 dX6_family_206 (by decide) ?_
                  refine go_lo [1, 2, 0] rfl ?_
                  subst hr46
                  exact ih (i + 1) (k + 1) sz47 gT48 (by omega) (by omega) hp49 (by omega)
            exact lp _ 0 0 _ _ (by omega) rfl hp36 (Nat.lt_succ_self _)
        · refine go_aload_n hK 112 0 dX6_family_112 rfl rfl ?_
          refine go_iconst hK 113 dX6_family_113 ?_
          refine go_iconst hK 114 dX6_family_114 ?_
          refine go_callV (As := [.int (iI 2), .int (iI 1)]) (rest := []) hK hR 115 (ct_X6_lays Z b hp 2 1 rfl rfl (by omega)) cw_X6_95 gn_X6_lays rfl dX6_family_115 gSel_all ⟨0, 5, _, _, _, rfl, rfl⟩ rfl (Nat.le_of_ble_eq_true rfl) ⟨(by decide), (by decide)⟩ (fun _ _ _ h => h.elim) (fun v w1 h => ?_)
          obtain ⟨rfl, sz50, gT51, hp52, rfl⟩ := h
          show GO Z X (wM Z b sd sz50 os mo li de fa pl us re pk rd tp gT51 gO gF gE gN gQ gM gC gA gI gU gK gP gS gX gD gH gL) 0 0 118 [(0, .ref (b 0)), (1, .int (iI (f : Int))), (2, .int (iI (n : Int)))] []
          refine go_aload_n hK 118 0 dX6_family_118 rfl rfl ?_
          refine go_aload_n hK 119 0 dX6_family_119 rfl rfl ?_
          refine go_sipush hK 120 dX6_family_120 (by decide) ?_
          refine go_callV (As := [.int (iI 256)]) (rest := [.ref (b 0)]) hK hR 123 (ct_X6_draws Z b 256 (by omega) (by omega)) cw_X6_99 gn_X6_draws rfl dX6_family_123 gSel_all ⟨0, 5, _, _, _, rfl, rfl⟩ rfl (Nat.le_of_ble_eq_true rfl) ⟨(by decide), (by decide)⟩ (fun _ _ _ h => h.elim) (fun v w1 h => ?_)
          obtain ⟨r53, hr54, rfl, rfl⟩ := h
          show GO Z X (wM Z b (sdN sd) sz50 os mo li de fa pl us re pk rd tp gT51 gO gF gE gN gQ gM gC gA gI gU gK gP gS gX gD gH gL) 0 0 126 [(0, .ref (b 0)), (1, .int (iI (f : Int))), (2, .int (iI (n : Int)))] [.int (iI (r53 : Int)), .ref (b 0)]
          have hb_r53 := rnN_lt sd (n := 256) (by omega)
          rw [← hr54] at hb_r53
          refine go_callV (As := [.int (iI (r53 : Int))]) (rest := []) hK hR 126 (ct_X6_lay Z b hp52 r53 rfl (by first | omega | (simp only [List.length_append, List.length_cons, List.length_nil]; omega))) cw_X6_83 gn_X6_lay rfl dX6_family_126 gSel_all ⟨0, 5, _, _, _, rfl, rfl⟩ rfl (Nat.le_of_ble_eq_true rfl) ⟨(by decide), (by decide)⟩ (fun _ _ _ h => h.elim) (fun v w1 h => ?_)
          obtain ⟨rfl, sz55, gT56, hp57, rfl⟩ := h
          show GO Z X (wM Z b (sdN sd) sz55 os mo li de fa pl us re pk rd tp gT56 gO gF gE gN gQ gM gC gA gI gU gK gP gS gX gD gH gL) 0 0 129 [(0, .ref (b 0)), (1, .int (iI (f : Int))), (2, .int (iI (n : Int)))] []
          refine go_iconst hK 129 dX6_family_129 ?_
          refine go_istore_n (lo' := [(3, .int (iI 0)), (0, .ref (b 0)), (1, .int (iI (f : Int))), (2, .int (iI (n : Int)))]) hK 130 3 dX6_family_130 rfl (by decide) rfl ?_
          subst hr54
          refine go_lo [1, 3, 0] rfl ?_
          have lp : ∀ (fu : Nat) (i : Nat) (k : Int) (sz1 : Int) (gT1 : Nat → Int), (i ≤ n) → (k = i) → (pM (fam5 i (T ++ [2] ++ [1] ++ [rnN sd 256])) sz1 gT1) → n - i < fu → GO Z X (wM Z b (sdN sd) sz1 os mo li de fa pl us re pk rd tp gT1 gO gF gE gN gQ gM gC gA gI gU gK gP gS gX gD gH gL) 0 0 131 [(0, .ref (b 0)), (2, .int (iI (n : Int))), (3, .int (iI k))] [] := by
            intro fu
            induction fu with
            | zero => intro i k sz1 gT1 hi hk hp1 hm; exact absurd hm (Nat.not_lt_zero _)
            | succ fu ih =>
              intro i k sz1 gT1 hi hk hp1 hm
              have hln : (fam5 i (T ++ [2] ++ [1] ++ [rnN sd 256])).length = T.length + 3 + 2 * i := by rw [fam5_len]; simp
              have hz1 := hp1.1
              refine go_iload_n hK 131 3 dX6_family_131 rfl rfl ?_
              refine go_iload_n hK 132 2 dX6_family_132 rfl rfl ?_
              refine go_icmp_ge (tgt := 149) hK 133 dX6_family_133 (by decide) (by omega) (by omega) (fun c58 => ?_) (fun c58 => ?_)
              · obtain rfl : i = n := by omega
                refine go_goto (tgt := 254) hK 149 dX6_family_149 (by decide) ?_
                exact go_vret hK hR.1 254 [] dX6_family_254 (by decide) (by decide) rfl ⟨rfl, _, _, (by unfold spFam; rw [if_neg (by omega), if_neg (by omega), if_neg (by omega), if_neg (by omega), if_pos (by omega)]; exact hp1), (by unfold spFam; rw [if_neg (by omega), if_neg (by omega), if_neg (by omega), if_neg (by omega), if_pos (by omega)] <;> rfl)⟩
              · refine go_aload_n hK 136 0 dX6_family_136 rfl rfl ?_
                refine go_bipush hK 137 dX6_family_137 (by decide) ?_
                refine go_iload_n hK 139 3 dX6_family_139 rfl rfl ?_
                refine go_callV (As := [.int (iI 6), .int (iI k)]) (rest := []) hK hR 140 (ct_X6_lays Z b hp1 6 i rfl hk (by omega)) cw_X6_95 gn_X6_lays rfl dX6_family_140 gSel_all ⟨0, 5, _, _, _, rfl, rfl⟩ rfl (Nat.le_of_ble_eq_true rfl) ⟨(by decide), (by decide)⟩ (fun _ _ _ h => h.elim) (fun v w1 h => ?_)
                obtain ⟨rfl, sz59, gT60, hp61, rfl⟩ := h
                show GO Z X (wM Z b (sdN sd) sz59 os mo li de fa pl us re pk rd tp gT60 gO gF gE gN gQ gM gC gA gI gU gK gP gS gX gD gH gL) 0 0 143 [(0, .ref (b 0)), (2, .int (iI (n : Int))), (3, .int (iI k))] []
                refine go_iinc (lo' := [(3, .int (iI (k + 1))), (0, .ref (b 0)), (2, .int (iI (n : Int)))]) hK 143 3 2 dX6_family_143 rfl (by decide) rfl ?_
                refine go_goto (tgt := 131) hK 146 dX6_family_146 (by decide) ?_
                refine go_lo [1, 2, 0] rfl ?_
                exact ih (i + 1) (k + 1) sz59 gT60 (by omega) (by omega) hp61 (by omega)
          exact lp _ 0 0 _ _ (by omega) rfl hp57 (Nat.lt_succ_self _)
      · refine go_iconst hK 85 dX6_family_85 ?_
        refine go_istore_n (lo' := [(3, .int (iI 0)), (0, .ref (b 0)), (1, .int (iI (f : Int))), (2, .int (iI (n : Int)))]) hK 86 3 dX6_family_86 rfl (by decide) rfl ?_
        refine go_lo [1, 3, 0] rfl ?_
        have lp : ∀ (fu : Nat) (i : Nat) (k : Int) (sz1 : Int) (gT1 : Nat → Int), (i ≤ n) → (k = i) → (pM (rpL [5, 0] i T) sz1 gT1) → n - i < fu → GO Z X (wM Z b sd sz1 os mo li de fa pl us re pk rd tp gT1 gO gF gE gN gQ gM gC gA gI gU gK gP gS gX gD gH gL) 0 0 87 [(0, .ref (b 0)), (2, .int (iI (n : Int))), (3, .int (iI k))] [] := by
          intro fu
          induction fu with
          | zero => intro i k sz1 gT1 hi hk hp1 hm; exact absurd hm (Nat.not_lt_zero _)
          | succ fu ih =>
            intro i k sz1 gT1 hi hk hp1 hm
            have hln : (rpL [5, 0] i T).length = T.length + 2 * i := by rw [rpL_len]; simp
            have hz1 := hp1.1
            refine go_iload_n hK 87 3 dX6_family_87 rfl rfl ?_
            refine go_iload_n hK 88 2 dX6_family_88 rfl rfl ?_
            refine go_icmp_ge (tgt := 104) hK 89 dX6_family_89 (by decide) (by omega) (by omega) (fun c62 => ?_) (fun c62 => ?_)
            · obtain rfl : i = n := by omega
              refine go_goto (tgt := 254) hK 104 dX6_family_104 (by decide) ?_
              exact go_vret hK hR.1 254 [] dX6_family_254 (by decide) (by decide) rfl ⟨rfl, _, _, (by unfold spFam; rw [if_neg (by omega), if_neg (by omega), if_neg (by omega), if_pos (by omega)]; exact hp1), (by unfold spFam; rw [if_neg (by omega), if_neg (by omega), if_neg (by omega), if_pos (by omega)] <;> rfl)⟩
            · refine go_aload_n hK 92 0 dX6_family_92 rfl rfl ?_
              refine go_iconst hK 93 dX6_family_93 ?_
              refine go_iconst hK 94 dX6_family_94 ?_
              refine go_callV (As := [.int (iI 5), .int (iI 0)]) (rest := []) hK hR 95 (ct_X6_lays Z b hp1 5 0 rfl rfl (by omega)) cw_X6_95 gn_X6_lays rfl dX6_family_95 gSel_all ⟨0, 5, _, _, _, rfl, rfl⟩ rfl (Nat.le_of_ble_eq_true rfl) ⟨(by decide), (by decide)⟩ (fun _ _ _ h => h.elim) (fun v w1 h => ?_)
              obtain ⟨rfl, sz63, gT64, hp65, rfl⟩ := h
              show GO Z X (wM Z b sd sz63 os mo li de fa pl us re pk rd tp gT64 gO gF gE gN gQ gM gC gA gI gU gK gP gS gX gD gH gL) 0 0 98 [(0, .ref (b 0)), (2, .int (iI (n : Int))), (3, .int (iI k))] []
              rw [List.append_assoc] at hp65
              refine go_iinc (lo' := [(3, .int (iI (k + 1))), (0, .ref (b 0)), (2, .int (iI (n : Int)))]) hK 98 3 2 dX6_family_98 rfl (by decide) rfl ?_
              refine go_goto (tgt := 87) hK 101 dX6_family_101 (by decide) ?_
              refine go_lo [1, 2, 0] rfl ?_
              exact ih (i + 1) (k + 1) sz63 gT64 (by omega) (by omega) hp65 (by omega)
        exact lp _ 0 0 _ _ (by omega) rfl hp (Nat.lt_succ_self _)
    · refine go_aload_n hK 45 0 dX6_family_45 rfl rfl ?_
      refine go_iconst hK 46 dX6_family_46 ?_
      refine go_iconst hK 47 dX6_family_47 ?_
      refine go_callV (As := [.int (iI 1), .int (iI 1)]) (rest := []) hK hR 48 (ct_X6_some Z b hp 1 1 rfl (by omega)) cw_X6_103 gn_X6_some rfl dX6_family_48 gSel_all ⟨0, 5, _, _, _, rfl, rfl⟩ rfl (Nat.le_of_ble_eq_true rfl) ⟨(by decide), (by decide)⟩ (fun _ _ _ h => h.elim) (fun v w1 h => ?_)
      obtain ⟨rfl, sz66, gT67, hp68, rfl⟩ := h
      show GO Z X (wM Z b ((drB 256 1 (sd, T ++ [1] ++ [1])).1) sz66 os mo li de fa pl us re pk rd tp gT67 gO gF gE gN gQ gM gC gA gI gU gK gP gS gX gD gH gL) 0 0 51 [(0, .ref (b 0)), (1, .int (iI (f : Int))), (2, .int (iI (n : Int)))] []
      refine go_iconst hK 51 dX6_family_51 ?_
      refine go_istore_n (lo' := [(3, .int (iI 0)), (0, .ref (b 0)), (1, .int (iI (f : Int))), (2, .int (iI (n : Int)))]) hK 52 3 dX6_family_52 rfl (by decide) rfl ?_
      show GO Z X (wM Z b (sdN sd) sz66 os mo li de fa pl us re pk rd tp gT67 gO gF gE gN gQ gM gC gA gI gU gK gP gS gX gD gH gL) 0 0 53 [(3, .int (iI 0)), (0, .ref (b 0)), (1, .int (iI (f : Int))), (2, .int (iI (n : Int)))] []
      refine go_lo [1, 3, 0] rfl ?_
      have lp : ∀ (fu : Nat) (i : Nat) (k : Int) (sz1 : Int) (gT1 : Nat → Int), (i ≤ n) → (k = i) → (pM (rpL [3, 1, 255] i (T ++ [1] ++ [1] ++ [rnN sd 256])) sz1 gT1) → n - i < fu → GO Z X (wM Z b (sdN sd) sz1 os mo li de fa pl us re pk rd tp gT1 gO gF gE gN gQ gM gC gA gI gU gK gP gS gX gD gH gL) 0 0 53 [(0, .ref (b 0)), (2, .int (iI (n : Int))), (3, .int (iI k))] [] := by
        intro fu
        induction fu with
        | zero => intro i k sz1 gT1 hi hk hp1 hm; exact absurd hm (Nat.not_lt_zero _)
        | succ fu ih =>
          intro i k sz1 gT1 hi hk hp1 hm
          have hln : (rpL [3, 1, 255] i (T ++ [1] ++ [1] ++ [rnN sd 256])).length = T.length + 3 + 3 * i := by rw [rpL_len]; simp
          have hz1 := hp1.1
          refine go_iload_n hK 53 3 dX6_family_53 rfl rfl ?_
          refine go_iload_n hK 54 2 dX6_family_54 rfl rfl ?_
          refine go_icmp_ge (tgt := 77) hK 55 dX6_family_55 (by decide) (by omega) (by omega) (fun c69 => ?_) (fun c69 => ?_)
          · obtain rfl : i = n := by omega
            refine go_goto (tgt := 254) hK 77 dX6_family_77 (by decide) ?_
            exact go_vret hK hR.1 254 [] dX6_family_254 (by decide) (by decide) rfl ⟨rfl, _, _, (by unfold spFam; rw [if_neg (by omega), if_neg (by omega), if_pos (by omega)]; exact hp1), (by unfold spFam; rw [if_neg (by omega), if_neg (by omega), if_pos (by omega)] <;> rfl)⟩
          · refine go_aload_n hK 58 0 dX6_family_58 rfl rfl ?_
            refine go_iconst hK 59 dX6_family_59 ?_
            refine go_iconst hK 60 dX6_family_60 ?_
            refine go_callV (As := [.int (iI 3), .int (iI 1)]) (rest := []) hK hR 61 (ct_X6_lays Z b hp1 3 1 rfl rfl (by omega)) cw_X6_95 gn_X6_lays rfl dX6_family_61 gSel_all ⟨0, 5, _, _, _, rfl, rfl⟩ rfl (Nat.le_of_ble_eq_true rfl) ⟨(by decide), (by decide)⟩ (fun _ _ _ h => h.elim) (fun v w1 h => ?_)
            obtain ⟨rfl, sz70, gT71, hp72, rfl⟩ := h
            show GO Z X (wM Z b (sdN sd) sz70 os mo li de fa pl us re pk rd tp gT71 gO gF gE gN gQ gM gC gA gI gU gK gP gS gX gD gH gL) 0 0 64 [(0, .ref (b 0)), (2, .int (iI (n : Int))), (3, .int (iI k))] []
            refine go_aload_n hK 64 0 dX6_family_64 rfl rfl ?_
            refine go_sipush hK 65 dX6_family_65 (by decide) ?_
            refine go_callV (As := [.int (iI 255)]) (rest := []) hK hR 68 (ct_X6_lay Z b hp72 255 rfl (by first | omega | (simp only [List.length_append, List.length_cons, List.length_nil]; omega))) cw_X6_83 gn_X6_lay rfl dX6_family_68 gSel_all ⟨0, 5, _, _, _, rfl, rfl⟩ rfl (Nat.le_of_ble_eq_true rfl) ⟨(by decide), (by decide)⟩ (fun _ _ _ h => h.elim) (fun v w1 h => ?_)
            obtain ⟨rfl, sz73, gT74, hp75, rfl⟩ := h
            show GO Z X (wM Z b (sdN sd) sz73 os mo li de fa pl us re pk rd tp gT74 gO gF gE gN gQ gM gC gA gI gU gK gP gS gX gD gH gL) 0 0 71 [(0, .ref (b 0)), (2, .int (iI (n : Int))), (3, .int (iI k))] []
            rw [List.append_assoc, List.append_assoc] at hp75
            refine go_iinc (lo' := [(3, .int (iI (k + 1))), (0, .ref (b 0)), (2, .int (iI (n : Int)))]) hK 71 3 2 dX6_family_71 rfl (by decide) rfl ?_
            refine go_goto (tgt := 53) hK 74 dX6_family_74 (by decide) ?_
            refine go_lo [1, 2, 0] rfl ?_
            exact ih (i + 1) (k + 1) sz73 gT74 (by omega) (by omega) hp75 (by omega)
      exact lp _ 0 0 _ _ (by omega) rfl hp68 (Nat.lt_succ_self _)
  · refine go_iconst hK 5 dX6_family_5 ?_
    refine go_istore_n (lo' := [(3, .int (iI 0)), (0, .ref (b 0)), (1, .int (iI (f : Int))), (2, .int (iI (n : Int)))]) hK 6 3 dX6_family_6 rfl (by decide) rfl ?_
    refine go_lo [1, 3, 0] rfl ?_
    have lp : ∀ (fu : Nat) (i : Nat) (k : Int) (sz1 : Int) (gT1 : Nat → Int), (i ≤ n) → (k = i) → (pM ((fam1 i (sd, T)).2) sz1 gT1) → n - i < fu → GO Z X (wM Z b ((fam1 i (sd, T)).1) sz1 os mo li de fa pl us re pk rd tp gT1 gO gF gE gN gQ gM gC gA gI gU gK gP gS gX gD gH gL) 0 0 7 [(0, .ref (b 0)), (2, .int (iI (n : Int))), (3, .int (iI k))] [] := by
      intro fu
      induction fu with
      | zero => intro i k sz1 gT1 hi hk hp1 hm; exact absurd hm (Nat.not_lt_zero _)
      | succ fu ih =>
        intro i k sz1 gT1 hi hk hp1 hm
        have hln : ((fam1 i (sd, T)).2).length = T.length + 3 * i := by rw [fam1_len]
        have hz1 := hp1.1
        refine go_iload_n hK 7 3 dX6_family_7 rfl rfl ?_
        refine go_iload_n hK 8 2 dX6_family_8 rfl rfl ?_
        refine go_icmp_ge (tgt := 37) hK 9 dX6_family_9 (by decide) (by omega) (by omega) (fun c76 => ?_) (fun c76 => ?_)
        · obtain rfl : i = n := by omega
          refine go_goto (tgt := 254) hK 37 dX6_family_37 (by decide) ?_
          exact go_vret hK hR.1 254 [] dX6_family_254 (by decide) (by decide) rfl ⟨rfl, _, _, (by unfold spFam; rw [if_neg (by omega), if_pos (by omega)]; exact hp1), (by unfold spFam; rw [if_neg (by omega), if_pos (by omega)] <;> rfl)⟩
        · refine go_aload_n hK 12 0 dX6_family_12 rfl rfl ?_
          refine go_iconst hK 13 dX6_family_13 ?_
          refine go_sipush hK 14 dX6_family_14 (by decide) ?_
          refine go_callV (As := [.int (iI 2), .int (iI 255)]) (rest := []) hK hR 17 (ct_X6_lays Z b hp1 2 255 rfl rfl (by omega)) cw_X6_95 gn_X6_lays rfl dX6_family_17 gSel_all ⟨0, 5, _, _, _, rfl, rfl⟩ rfl (Nat.le_of_ble_eq_true rfl) ⟨(by decide), (by decide)⟩ (fun _ _ _ h => h.elim) (fun v w1 h => ?_)
          obtain ⟨rfl, sz77, gT78, hp79, rfl⟩ := h
          show GO Z X (wM Z b ((fam1 i (sd, T)).1) sz77 os mo li de fa pl us re pk rd tp gT78 gO gF gE gN gQ gM gC gA gI gU gK gP gS gX gD gH gL) 0 0 20 [(0, .ref (b 0)), (2, .int (iI (n : Int))), (3, .int (iI k))] []
          refine go_aload_n hK 20 0 dX6_family_20 rfl rfl ?_
          refine go_aload_n hK 21 0 dX6_family_21 rfl rfl ?_
          refine go_sipush hK 22 dX6_family_22 (by decide) ?_
          refine go_callV (As := [.int (iI 256)]) (rest := [.ref (b 0)]) hK hR 25 (ct_X6_draws Z b 256 (by omega) (by omega)) cw_X6_99 gn_X6_draws rfl dX6_family_25 gSel_all ⟨0, 5, _, _, _, rfl, rfl⟩ rfl (Nat.le_of_ble_eq_true rfl) ⟨(by decide), (by decide)⟩ (fun _ _ _ h => h.elim) (fun v w1 h => ?_)
          obtain ⟨r80, hr81, rfl, rfl⟩ := h
          show GO Z X (wM Z b (sdN ((fam1 i (sd, T)).1)) sz77 os mo li de fa pl us re pk rd tp gT78 gO gF gE gN gQ gM gC gA gI gU gK gP gS gX gD gH gL) 0 0 28 [(0, .ref (b 0)), (2, .int (iI (n : Int))), (3, .int (iI k))] [.int (iI (r80 : Int)), .ref (b 0)]
          have hb_r80 := rnN_lt ((fam1 i (sd, T)).1) (n := 256) (by omega)
          rw [← hr81] at hb_r80
          refine go_callV (As := [.int (iI (r80 : Int))]) (rest := []) hK hR 28 (ct_X6_lay Z b hp79 r80 rfl (by first | omega | (simp only [List.length_append, List.length_cons, List.length_nil]; omega))) cw_X6_83 gn_X6_lay rfl dX6_family_28 gSel_all ⟨0, 5, _, _, _, rfl, rfl⟩ rfl (Nat.le_of_ble_eq_true rfl) ⟨(by decide), (by decide)⟩ (fun _ _ _ h => h.elim) (fun v w1 h => ?_)
          obtain ⟨rfl, sz82, gT83, hp84, rfl⟩ := h
          show GO Z X (wM Z b (sdN ((fam1 i (sd, T)).1)) sz82 os mo li de fa pl us re pk rd tp gT83 gO gF gE gN gQ gM gC gA gI gU gK gP gS gX gD gH gL) 0 0 31 [(0, .ref (b 0)), (2, .int (iI (n : Int))), (3, .int (iI k))] []
          refine go_iinc (lo' := [(3, .int (iI (k + 1))), (0, .ref (b 0)), (2, .int (iI (n : Int)))]) hK 31 3 2 dX6_family_31 rfl (by decide) rfl ?_
          refine go_goto (tgt := 7) hK 34 dX6_family_34 (by decide) ?_
          refine go_lo [1, 2, 0] rfl ?_
          subst hr81
          exact ih (i + 1) (k + 1) sz82 gT83 (by omega) (by omega) hp84 (by omega)
    exact lp _ 0 0 _ _ (by omega) rfl hp (Nat.lt_succ_self _)

