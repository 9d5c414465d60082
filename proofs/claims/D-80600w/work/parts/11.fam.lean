/-! the reference: families, the tape's face (printed by gen/m3.py) -/
set_option maxRecDepth 100000
abbrev rm_X6_some : Room := { frames := 2, cells := 0, slots := 0, locals := 43 }
set_option maxHeartbeats 4000000 in
theorem ct_X6_some (Z : Gz) (b : Nat → Nat) {sd : Int64} {sz os mo li de fa pl us re pk rd tp : Int} {gT gO gF gE gN gQ gM gC gA gI gU gK gP gS gX gD gH gL : Nat → Int} {T : List Nat} (hp : pM T sz gT) {c : Int} (kn n : Nat) (hk : c = kn) (hl : T.length + 2 + n ≤ 1200) : CT Z yX6_some cX6_some 4 none rm_X6_some [.ref (b 0), .int (iI c), .int (iI (n : Int))] (wM Z b sd sz os mo li de fa pl us re pk rd tp gT gO gF gE gN gQ gM gC gA gI gU gK gP gS gX gD gH gL) (fun v w => v = none ∧ ∃ (sz' : Int) (gT' : Nat → Int), pM (drB 256 n (sd, T ++ [kn] ++ [n])).2 sz' gT' ∧ w = (wM Z b ((drB 256 n (sd, T ++ [kn] ++ [n])).1) sz' os mo li de fa pl us re pk rd tp gT' gO gF gE gN gQ gM gC gA gI gU gK gP gS gX gD gH gL)) nopx := by
  refine ct_of (by decide) (Nat.le_of_ble_eq_true rfl) (fun X hK hR => ?_)
  show GO Z X (wM Z b sd sz os mo li de fa pl us re pk rd tp gT gO gF gE gN gQ gM gC gA gI gU gK gP gS gX gD gH gL) 0 0 0 [(0, .ref (b 0)), (1, .int (iI c)), (2, .int (iI (n : Int)))] []
  refine go_aload_n hK 0 0 dX6_some_0 rfl rfl ?_
  refine go_iload_n hK 1 1 dX6_some_1 rfl rfl ?_
  refine go_iload_n hK 2 2 dX6_some_2 rfl rfl ?_
  refine go_callV (As := [.int (iI c), .int (iI (n : Int))]) (rest := []) hK hR 3 (ct_X6_lays Z b hp kn n hk rfl (by omega)) cw_X6_95 gn_X6_lays rfl dX6_some_3 gSel_all ⟨0, 5, _, _, _, rfl, rfl⟩ rfl (Nat.le_of_ble_eq_true rfl) ⟨(by decide), (by decide)⟩ (fun _ _ _ h => h.elim) (fun v w1 h => ?_)
  obtain ⟨rfl, sz1, gT2, hp3, rfl⟩ := h
  show GO Z X (wM Z b sd sz1 os mo li de fa pl us re pk rd tp gT2 gO gF gE gN gQ gM gC gA gI gU gK gP gS gX gD gH gL) 0 0 6 [(0, .ref (b 0)), (1, .int (iI c)), (2, .int (iI (n : Int)))] []
  refine go_iconst hK 6 dX6_some_6 ?_
  refine go_istore_n (lo' := [(3, .int (iI 0)), (0, .ref (b 0)), (1, .int (iI c)), (2, .int (iI (n : Int)))]) hK 7 3 dX6_some_7 rfl (by decide) rfl ?_
  refine go_lo (lo' := [(0, .ref (b 0)), (2, .int (iI (n : Int))), (3, .int (iI 0))]) [1, 3, 0] rfl ?_
  have lp4 : ∀ (fu : Nat) (i : Nat) (k : Int) (sz1 : Int) (gT1 : Nat → Int), (i ≤ n) → (k = i) → (pM (drB 256 i (sd, T ++ [kn] ++ [n])).2 sz1 gT1) → n - i < fu → GO Z X (wM Z b ((drB 256 i (sd, T ++ [kn] ++ [n])).1) sz1 os mo li de fa pl us re pk rd tp gT1 gO gF gE gN gQ gM gC gA gI gU gK gP gS gX gD gH gL) 0 0 8 [(0, .ref (b 0)), (2, .int (iI (n : Int))), (3, .int (iI k))] [] := by
    intro fu
    induction fu with
    | zero => intro i k sz1 gT1 hi hk hp1 hm; exact absurd hm (Nat.not_lt_zero _)
    | succ fu ih =>
      intro i k sz1 gT1 hi hk hp1 hm
      have hln : (drB 256 i (sd, T ++ [kn] ++ [n])).2.length = T.length + 2 + i := by rw [drB_len]; simp
      have hz1 := hp1.1
      refine go_iload_n hK 8 3 dX6_some_8 rfl rfl ?_
      refine go_iload_n hK 9 2 dX6_some_9 rfl rfl ?_
      refine go_icmp_ge (tgt := 30) hK 10 dX6_some_10 (by decide) (by omega) (by omega) (fun c5 => ?_) (fun c5 => ?_)
      · exact go_vret hK hR.1 30 [] dX6_some_30 (by decide) (by decide) rfl ⟨rfl, _, _, (by rw [show i = n by omega] at hp1; exact hp1), (by rw [show i = n by omega])⟩
      · refine go_aload_n hK 13 0 dX6_some_13 rfl rfl ?_
        refine go_aload_n hK 14 0 dX6_some_14 rfl rfl ?_
        refine go_sipush hK 15 dX6_some_15 (by decide) ?_
        refine go_callV (As := [.int (iI 256)]) (rest := [.ref (b 0)]) hK hR 18 (ct_X6_draws Z b 256 (by omega) (by omega)) cw_X6_99 gn_X6_draws rfl dX6_some_18 gSel_all ⟨0, 5, _, _, _, rfl, rfl⟩ rfl (Nat.le_of_ble_eq_true rfl) ⟨(by decide), (by decide)⟩ (fun _ _ _ h => h.elim) (fun v w1 h => ?_)
        obtain ⟨r6, hr7, rfl, rfl⟩ := h
        show GO Z X (wM Z b (sdN ((drB 256 i (sd, T ++ [kn] ++ [n])).1)) sz1 os mo li de fa pl us re pk rd tp gT1 gO gF gE gN gQ gM gC gA gI gU gK gP gS gX gD gH gL) 0 0 21 [(0, .ref (b 0)), (2, .int (iI (n : Int))), (3, .int (iI k))] [.int (iI (r6 : Int)), .ref (b 0)]
        have hb_r6 := rnN_lt ((drB 256 i (sd, T ++ [kn] ++ [n])).1) (n := 256) (by omega)
        rw [← hr7] at hb_r6
        refine go_callV (As := [.int (iI (r6 : Int))]) (rest := []) hK hR 21 (ct_X6_lay Z b hp1 r6 rfl (by omega)) cw_X6_83 gn_X6_lay rfl dX6_some_21 gSel_all ⟨0, 5, _, _, _, rfl, rfl⟩ rfl (Nat.le_of_ble_eq_true rfl) ⟨(by decide), (by decide)⟩ (fun _ _ _ h => h.elim) (fun v w1 h => ?_)
        obtain ⟨rfl, sz8, gT9, hp10, rfl⟩ := h
        show GO Z X (wM Z b (sdN ((drB 256 i (sd, T ++ [kn] ++ [n])).1)) sz8 os mo li de fa pl us re pk rd tp gT9 gO gF gE gN gQ gM gC gA gI gU gK gP gS gX gD gH gL) 0 0 24 [(0, .ref (b 0)), (2, .int (iI (n : Int))), (3, .int (iI k))] []
        refine go_iinc (lo' := [(3, .int (iI (k + 1))), (0, .ref (b 0)), (2, .int (iI (n : Int)))]) hK 24 3 2 dX6_some_24 rfl (by decide) rfl ?_
        subst hr7
        refine go_goto (tgt := 8) hK 27 dX6_some_27 (by decide) ?_
        refine go_lo [1, 2, 0] rfl ?_
        exact ih (i + 1) (k + 1) sz8 gT9 (by omega) (by omega) hp10 (by omega)
  exact lp4 _ 0 0 _ _ (by omega) rfl hp3 (Nat.lt_succ_self _)

abbrev rm_X6_drawItem : Room := { frames := 3, cells := 0, slots := 0, locals := 66 }
set_option maxHeartbeats 4000000 in
theorem ct_X6_drawItem (Z : Gz) (b : Nat → Nat) {sd : Int64} {sz os mo li de fa pl us re pk rd tp : Int} {gT gO gF gE gN gQ gM gC gA gI gU gK gP gS gX gD gH gL : Nat → Int} {T : List Nat} (hp : pM T sz gT) (k : Nat) (hk : k < 1000) (hl : T.length + 13 ≤ 1200) : CT Z yX6_drawItem cX6_drawItem 5 none rm_X6_drawItem [.ref (b 0), .int (iI (k : Int))] (wM Z b sd sz os mo li de fa pl us re pk rd tp gT gO gF gE gN gQ gM gC gA gI gU gK gP gS gX gD gH gL) (fun v w => v = none ∧ ∃ (sz' : Int) (gT' : Nat → Int), pM (spItem k (sd, T)).2 sz' gT' ∧ w = (wM Z b ((spItem k (sd, T)).1) sz' os mo li de fa pl us re pk rd tp gT' gO gF gE gN gQ gM gC gA gI gU gK gP gS gX gD gH gL)) nopx := by
  refine ct_of (by decide) (Nat.le_of_ble_eq_true rfl) (fun X hK hR => ?_)
  show GO Z X (wM Z b sd sz os mo li de fa pl us re pk rd tp gT gO gF gE gN gQ gM gC gA gI gU gK gP gS gX gD gH gL) 0 0 0 [(0, .ref (b 0)), (1, .int (iI (k : Int)))] []
  refine go_aload_n hK 0 0 dX6_drawItem_0 rfl rfl ?_
  refine go_bipush hK 1 dX6_drawItem_1 (by decide) ?_
  refine go_callV (As := [.int (iI 6)]) (rest := []) hK hR 3 (ct_X6_draws Z b 6 (by omega) (by omega)) cw_X6_99 gn_X6_draws rfl dX6_drawItem_3 gSel_all ⟨0, 5, _, _, _, rfl, rfl⟩ rfl (Nat.le_of_ble_eq_true rfl) ⟨(by decide), (by decide)⟩ (fun _ _ _ h => h.elim) (fun v w1 h => ?_)
  obtain ⟨r1, hr2, rfl, rfl⟩ := h
  show GO Z X (wM Z b (sdN sd) sz os mo li de fa pl us re pk rd tp gT gO gF gE gN gQ gM gC gA gI gU gK gP gS gX gD gH gL) 0 0 6 [(0, .ref (b 0)), (1, .int (iI (k : Int)))] [.int (iI (r1 : Int))]
  have hb_r1 := rnN_lt sd (n := 6) (by omega)
  rw [← hr2] at hb_r1
  refine go_istore_n (lo' := [(2, .int (iI (r1 : Int))), (0, .ref (b 0)), (1, .int (iI (k : Int)))]) hK 6 2 dX6_drawItem_6 rfl (by decide) rfl ?_
  refine go_iload_n hK 7 2 dX6_drawItem_7 rfl rfl ?_
  refine go_if_ne (tgt := 27) hK 8 dX6_drawItem_8 (by decide) (by omega) (fun c3 => ?_) (fun c3 => ?_)
  · refine go_iload_n hK 27 2 dX6_drawItem_27 rfl rfl ?_
    refine go_iconst hK 28 dX6_drawItem_28 ?_
    refine go_icmp_ne (tgt := 59) hK 29 dX6_drawItem_29 (by decide) (by omega) (by decide) (fun c4 => ?_) (fun c4 => ?_)
    · refine go_iload_n hK 59 2 dX6_drawItem_59 rfl rfl ?_
      refine go_iconst hK 60 dX6_drawItem_60 ?_
      refine go_icmp_ne (tgt := 91) hK 61 dX6_drawItem_61 (by decide) (by omega) (by decide) (fun c5 => ?_) (fun c5 => ?_)
      · refine go_iload_n hK 91 2 dX6_drawItem_91 rfl rfl ?_
        refine go_iconst hK 92 dX6_drawItem_92 ?_
        refine go_icmp_ne (tgt := 109) hK 93 dX6_drawItem_93 (by decide) (by omega) (by decide) (fun c6 => ?_) (fun c6 => ?_)
        · refine go_iload_n hK 109 2 dX6_drawItem_109 rfl rfl ?_
          refine go_iconst hK 110 dX6_drawItem_110 ?_
          refine go_icmp_ne (tgt := 132) hK 111 dX6_drawItem_111 (by decide) (by omega) (by decide) (fun c7 => ?_) (fun c7 => ?_)
          · refine go_iload_n hK 132 2 dX6_drawItem_132 rfl rfl ?_
            refine go_iconst hK 133 dX6_drawItem_133 ?_
            refine go_icmp_ne (tgt := 146) hK 134 dX6_drawItem_134 (by decide) (by omega) (by decide) (fun q5 => ?_) (fun q5 => ?_)
            · refine go_aload_n hK 146 0 dX6_drawItem_146 rfl rfl ?_
              refine go_iconst hK 147 dX6_drawItem_147 ?_
              refine go_callV (As := [.int (iI 5)]) (rest := []) hK hR 148 (ct_X6_draws Z b 5 (by omega) (by omega)) cw_X6_99 gn_X6_draws rfl dX6_drawItem_148 gSel_all ⟨0, 5, _, _, _, rfl, rfl⟩ rfl (Nat.le_of_ble_eq_true rfl) ⟨(by decide), (by decide)⟩ (fun _ _ _ h => h.elim) (fun v w1 h => ?_)
              obtain ⟨r8, hr9, rfl, rfl⟩ := h
              show GO Z X (wM Z b (sdN (sdN sd)) sz os mo li de fa pl us re pk rd tp gT gO gF gE gN gQ gM gC gA gI gU gK gP gS gX gD gH gL) 0 0 151 [(2, .int (iI (r1 : Int))), (0, .ref (b 0)), (1, .int (iI (k : Int)))] [.int (iI (r8 : Int))]
              have hb_r8 := rnN_lt (sdN sd) (n := 5) (by omega)
              rw [← hr9] at hb_r8
              refine go_istore_n (lo' := [(3, .int (iI (r8 : Int))), (2, .int (iI (r1 : Int))), (0, .ref (b 0)), (1, .int (iI (k : Int)))]) hK 151 3 dX6_drawItem_151 rfl (by decide) rfl ?_
              refine go_aload_n hK 152 0 dX6_drawItem_152 rfl rfl ?_
              refine go_iconst hK 153 dX6_drawItem_153 ?_
              refine go_iconst hK 154 dX6_drawItem_154 ?_
              refine go_callV (As := [.int (iI 4), .int (iI 0)]) (rest := []) hK hR 155 (ct_X6_lays Z b hp 4 0 rfl rfl (by simp; omega)) cw_X6_95 gn_X6_lays rfl dX6_drawItem_155 gSel_all ⟨0, 5, _, _, _, rfl, rfl⟩ rfl (Nat.le_of_ble_eq_true rfl) ⟨(by decide), (by decide)⟩ (fun _ _ _ h => h.elim) (fun v w1 h => ?_)
              obtain ⟨rfl, sz10, gT11, hp12, rfl⟩ := h
              show GO Z X (wM Z b (sdN (sdN sd)) sz10 os mo li de fa pl us re pk rd tp gT11 gO gF gE gN gQ gM gC gA gI gU gK gP gS gX gD gH gL) 0 0 158 [(3, .int (iI (r8 : Int))), (2, .int (iI (r1 : Int))), (0, .ref (b 0)), (1, .int (iI (k : Int)))] []
              refine go_aload_n hK 158 0 dX6_drawItem_158 rfl rfl ?_
              refine go_iload_n hK 159 3 dX6_drawItem_159 rfl rfl ?_
              refine go_bipush hK 160 dX6_drawItem_160 (by decide) ?_
              refine go_iadd hK 162 dX6_drawItem_162 ?_
              refine go_callV (As := [.int (iI ((r8 : Int) + 6))]) (rest := []) hK hR 163 (ct_X6_lay Z b hp12 (r8 + 6) (by omega) (by simp; omega)) cw_X6_83 gn_X6_lay rfl dX6_drawItem_163 gSel_all ⟨0, 5, _, _, _, rfl, rfl⟩ rfl (Nat.le_of_ble_eq_true rfl) ⟨(by decide), (by decide)⟩ (fun _ _ _ h => h.elim) (fun v w1 h => ?_)
              obtain ⟨rfl, sz13, gT14, hp15, rfl⟩ := h
              show GO Z X (wM Z b (sdN (sdN sd)) sz13 os mo li de fa pl us re pk rd tp gT14 gO gF gE gN gQ gM gC gA gI gU gK gP gS gX gD gH gL) 0 0 166 [(3, .int (iI (r8 : Int))), (2, .int (iI (r1 : Int))), (0, .ref (b 0)), (1, .int (iI (k : Int)))] []
              have hz8 := hp15.1
              simp at hz8
              refine go_aload_n hK 166 0 dX6_drawItem_166 rfl rfl ?_
              refine go_get hK 167 fl_X6_78 dX6_drawItem_167 0 rfl rfl ?_
              refine go_istore (lo' := [(4, .int (iI sz13)), (3, .int (iI (r8 : Int))), (2, .int (iI (r1 : Int))), (0, .ref (b 0)), (1, .int (iI (k : Int)))]) hK 170 4 dX6_drawItem_170 (by decide) rfl ?_
              refine go_aload_n hK 172 0 dX6_drawItem_172 rfl rfl ?_
              refine go_bipush hK 173 dX6_drawItem_173 (by decide) ?_
              refine go_bipush hK 175 dX6_drawItem_175 (by decide) ?_
              refine go_callV (As := [.int (iI 80), .int (iI 75)]) (rest := []) hK hR 177 (ct_X6_lays Z b hp15 80 75 rfl rfl (by simp; omega)) cw_X6_95 gn_X6_lays rfl dX6_drawItem_177 gSel_all ⟨0, 5, _, _, _, rfl, rfl⟩ rfl (Nat.le_of_ble_eq_true rfl) ⟨(by decide), (by decide)⟩ (fun _ _ _ h => h.elim) (fun v w1 h => ?_)
              obtain ⟨rfl, sz16, gT17, hp18, rfl⟩ := h
              show GO Z X (wM Z b (sdN (sdN sd)) sz16 os mo li de fa pl us re pk rd tp gT17 gO gF gE gN gQ gM gC gA gI gU gK gP gS gX gD gH gL) 0 0 180 [(4, .int (iI sz13)), (3, .int (iI (r8 : Int))), (2, .int (iI (r1 : Int))), (0, .ref (b 0)), (1, .int (iI (k : Int)))] []
              refine go_aload_n hK 180 0 dX6_drawItem_180 rfl rfl ?_
              refine go_iconst hK 181 dX6_drawItem_181 ?_
              refine go_iload_n hK 182 3 dX6_drawItem_182 rfl rfl ?_
              refine go_callV (As := [.int (iI 1), .int (iI (r8 : Int))]) (rest := []) hK hR 183 (ct_X6_some Z b hp18 1 r8 rfl (by first | omega | (simp; omega))) cw_X6_103 gn_X6_some rfl dX6_drawItem_183 gSel_all ⟨0, 5, _, _, _, rfl, rfl⟩ rfl (Nat.le_of_ble_eq_true rfl) ⟨(by decide), (by decide)⟩ (fun _ _ _ h => h.elim) (fun v w1 h => ?_)
              obtain ⟨rfl, sz19, gT20, hp21, rfl⟩ := h
              show GO Z X (wM Z b ((drB 256 r8 (sdN (sdN sd), (T ++ [4] ++ [0] ++ [r8 + 6] ++ [80] ++ [75]) ++ [1] ++ [r8])).1) sz19 os mo li de fa pl us re pk rd tp gT20 gO gF gE gN gQ gM gC gA gI gU gK gP gS gX gD gH gL) 0 0 186 [(4, .int (iI sz13)), (3, .int (iI (r8 : Int))), (2, .int (iI (r1 : Int))), (0, .ref (b 0)), (1, .int (iI (k : Int)))] []
              refine go_aload_n hK 186 0 dX6_drawItem_186 rfl rfl ?_
              refine go_iload hK 187 4 dX6_drawItem_187 rfl ?_
              refine go_callV (As := [.int (iI sz13)]) (rest := []) hK hR 189 (ct_X6_close Z b hp21 (by rw [drB_len]; simp; omega) (by rw [drB_len]; simp; omega)) cw_X6_106 gn_X6_close rfl dX6_drawItem_189 gSel_all ⟨0, 5, _, _, _, rfl, rfl⟩ rfl (Nat.le_of_ble_eq_true rfl) ⟨(by decide), (by decide)⟩ (fun _ _ _ h => h.elim) (fun v w1 h => ?_)
              obtain ⟨rfl, sz22, gT23, hp24, rfl⟩ := h
              show GO Z X (wM Z b ((drB 256 r8 (sdN (sdN sd), (T ++ [4] ++ [0] ++ [r8 + 6] ++ [80] ++ [75]) ++ [1] ++ [r8])).1) sz22 os mo li de fa pl us re pk rd tp gT23 gO gF gE gN gQ gM gC gA gI gU gK gP gS gX gD gH gL) 0 0 192 [(4, .int (iI sz13)), (3, .int (iI (r8 : Int))), (2, .int (iI (r1 : Int))), (0, .ref (b 0)), (1, .int (iI (k : Int)))] []
              subst hr2 hr9
              exact go_vret hK hR.1 192 [] dX6_drawItem_192 (by decide) (by decide) rfl ⟨rfl, _, _, (by unfold spItem; dsimp only; rw [if_neg (by omega), if_neg (by omega), if_neg (by omega), if_neg (by omega), if_neg (by omega)]; rw [show sz13.toNat = T.length + 3 by omega] at hp24; exact hp24), (by unfold spItem; dsimp only; rw [if_neg (by omega), if_neg (by omega), if_neg (by omega), if_neg (by omega), if_neg (by omega)] <;> rfl)⟩
            · exact absurd q5 (by omega)
          · refine go_iload_n hK 114 1 dX6_drawItem_114 rfl rfl ?_
            refine go_if_le (tgt := 132) hK 115 dX6_drawItem_115 (by decide) (by omega) (fun k0 => ?_) (fun k0 => ?_)
            · refine go_iload_n hK 132 2 dX6_drawItem_132 rfl rfl ?_
              refine go_iconst hK 133 dX6_drawItem_133 ?_
              refine go_icmp_ne (tgt := 146) hK 134 dX6_drawItem_134 (by decide) (by omega) (by decide) (fun q4 => ?_) (fun q4 => ?_)
              · exact absurd q4 (by omega)
              · refine go_aload_n hK 137 0 dX6_drawItem_137 rfl rfl ?_
                refine go_iconst hK 138 dX6_drawItem_138 ?_
                refine go_iconst hK 139 dX6_drawItem_139 ?_
                refine go_callV (As := [.int (iI 1), .int (iI 1)]) (rest := []) hK hR 140 (ct_X6_some Z b hp 1 1 rfl (by first | omega | (simp; omega))) cw_X6_103 gn_X6_some rfl dX6_drawItem_140 gSel_all ⟨0, 5, _, _, _, rfl, rfl⟩ rfl (Nat.le_of_ble_eq_true rfl) ⟨(by decide), (by decide)⟩ (fun _ _ _ h => h.elim) (fun v w1 h => ?_)
                obtain ⟨rfl, sz25, gT26, hp27, rfl⟩ := h
                show GO Z X (wM Z b ((drB 256 1 (sdN sd, T ++ [1] ++ [1])).1) sz25 os mo li de fa pl us re pk rd tp gT26 gO gF gE gN gQ gM gC gA gI gU gK gP gS gX gD gH gL) 0 0 143 [(2, .int (iI (r1 : Int))), (0, .ref (b 0)), (1, .int (iI (k : Int)))] []
                refine go_goto (tgt := 192) hK 143 dX6_drawItem_143 (by decide) ?_
                subst hr2
                exact go_vret hK hR.1 192 [] dX6_drawItem_192 (by decide) (by decide) rfl ⟨rfl, _, _, (by unfold spItem; dsimp only; rw [if_neg (by omega), if_neg (by omega), if_neg (by omega), if_neg (by omega), if_pos (by omega), if_neg (by omega)]; exact hp27), (by unfold spItem; dsimp only; rw [if_neg (by omega), if_neg (by omega), if_neg (by omega), if_neg (by omega), if_pos (by omega), if_neg (by omega)] <;> rfl)⟩
            · refine go_aload_n hK 118 0 dX6_drawItem_118 rfl rfl ?_
              refine go_bipush hK 119 dX6_drawItem_119 (by decide) ?_
              refine go_aload_n hK 121 0 dX6_drawItem_121 rfl rfl ?_
              refine go_iload_n hK 122 1 dX6_drawItem_122 rfl rfl ?_
              refine go_callV (As := [.int (iI (k : Int))]) (rest := [.int (iI 6), .ref (b 0)]) hK hR 123 (ct_X6_draws Z b k (by omega) (by omega)) cw_X6_99 gn_X6_draws rfl dX6_drawItem_123 gSel_all ⟨0, 5, _, _, _, rfl, rfl⟩ rfl (Nat.le_of_ble_eq_true rfl) ⟨(by decide), (by decide)⟩ (fun _ _ _ h => h.elim) (fun v w1 h => ?_)
              obtain ⟨r28, hr29, rfl, rfl⟩ := h
              show GO Z X (wM Z b (sdN (sdN sd)) sz os mo li de fa pl us re pk rd tp gT gO gF gE gN gQ gM gC gA gI gU gK gP gS gX gD gH gL) 0 0 126 [(2, .int (iI (r1 : Int))), (0, .ref (b 0)), (1, .int (iI (k : Int)))] [.int (iI (r28 : Int)), .int (iI 6), .ref (b 0)]
              have hb_r28 := rnN_lt (sdN sd) (n := k) (by omega)
              rw [← hr29] at hb_r28
              refine go_callV (As := [.int (iI 6), .int (iI (r28 : Int))]) (rest := []) hK hR 126 (ct_X6_lays Z b hp 6 r28 rfl rfl (by simp; omega)) cw_X6_95 gn_X6_lays rfl dX6_drawItem_126 gSel_all ⟨0, 5, _, _, _, rfl, rfl⟩ rfl (Nat.le_of_ble_eq_true rfl) ⟨(by decide), (by decide)⟩ (fun _ _ _ h => h.elim) (fun v w1 h => ?_)
              obtain ⟨rfl, sz30, gT31, hp32, rfl⟩ := h
              show GO Z X (wM Z b (sdN (sdN sd)) sz30 os mo li de fa pl us re pk rd tp gT31 gO gF gE gN gQ gM gC gA gI gU gK gP gS gX gD gH gL) 0 0 129 [(2, .int (iI (r1 : Int))), (0, .ref (b 0)), (1, .int (iI (k : Int)))] []
              refine go_goto (tgt := 192) hK 129 dX6_drawItem_129 (by decide) ?_
              subst hr2 hr29
              exact go_vret hK hR.1 192 [] dX6_drawItem_192 (by decide) (by decide) rfl ⟨rfl, _, _, (by unfold spItem; dsimp only; rw [if_neg (by omega), if_neg (by omega), if_neg (by omega), if_neg (by omega), if_pos (by omega), if_pos (by omega)]; exact hp32), (by unfold spItem; dsimp only; rw [if_neg (by omega), if_neg (by omega), if_neg (by omega), if_neg (by omega), if_pos (by omega), if_pos (by omega)] <;> rfl)⟩
        · refine go_aload_n hK 96 0 dX6_drawItem_96 rfl rfl ?_
          refine go_iconst hK 97 dX6_drawItem_97 ?_
          refine go_aload_n hK 98 0 dX6_drawItem_98 rfl rfl ?_
          refine go_iconst hK 99 dX6_drawItem_99 ?_
          refine go_callV (As := [.int (iI 4)]) (rest := [.int (iI 5), .ref (b 0)]) hK hR 100 (ct_X6_draws Z b 4 (by omega) (by omega)) cw_X6_99 gn_X6_draws rfl dX6_drawItem_100 gSel_all ⟨0, 5, _, _, _, rfl, rfl⟩ rfl (Nat.le_of_ble_eq_true rfl) ⟨(by decide), (by decide)⟩ (fun _ _ _ h => h.elim) (fun v w1 h => ?_)
          obtain ⟨r33, hr34, rfl, rfl⟩ := h
          show GO Z X (wM Z b (sdN (sdN sd)) sz os mo li de fa pl us re pk rd tp gT gO gF gE gN gQ gM gC gA gI gU gK gP gS gX gD gH gL) 0 0 103 [(2, .int (iI (r1 : Int))), (0, .ref (b 0)), (1, .int (iI (k : Int)))] [.int (iI (r33 : Int)), .int (iI 5), .ref (b 0)]
          have hb_r33 := rnN_lt (sdN sd) (n := 4) (by omega)
          rw [← hr34] at hb_r33
          refine go_callV (As := [.int (iI 5), .int (iI (r33 : Int))]) (rest := []) hK hR 103 (ct_X6_some Z b hp 5 r33 rfl (by first | omega | (simp; omega))) cw_X6_103 gn_X6_some rfl dX6_drawItem_103 gSel_all ⟨0, 5, _, _, _, rfl, rfl⟩ rfl (Nat.le_of_ble_eq_true rfl) ⟨(by decide), (by decide)⟩ (fun _ _ _ h => h.elim) (fun v w1 h => ?_)
          obtain ⟨rfl, sz35, gT36, hp37, rfl⟩ := h
          show GO Z X (wM Z b ((drB 256 r33 (sdN (sdN sd), T ++ [5] ++ [r33])).1) sz35 os mo li de fa pl us re pk rd tp gT36 gO gF gE gN gQ gM gC gA gI gU gK gP gS gX gD gH gL) 0 0 106 [(2, .int (iI (r1 : Int))), (0, .ref (b 0)), (1, .int (iI (k : Int)))] []
          refine go_goto (tgt := 192) hK 106 dX6_drawItem_106 (by decide) ?_
          subst hr2 hr34
          exact go_vret hK hR.1 192 [] dX6_drawItem_192 (by decide) (by decide) rfl ⟨rfl, _, _, (by unfold spItem; dsimp only; rw [if_neg (by omega), if_neg (by omega), if_neg (by omega), if_pos (by omega)]; exact hp37), (by unfold spItem; dsimp only; rw [if_neg (by omega), if_neg (by omega), if_neg (by omega), if_pos (by omega)] <;> rfl)⟩
      · refine go_iconst hK 64 dX6_drawItem_64 ?_
        refine go_aload_n hK 65 0 dX6_drawItem_65 rfl rfl ?_
        refine go_iconst hK 66 dX6_drawItem_66 ?_
        refine go_callV (As := [.int (iI 4)]) (rest := [.int (iI 1)]) hK hR 67 (ct_X6_draws Z b 4 (by omega) (by omega)) cw_X6_99 gn_X6_draws rfl dX6_drawItem_67 gSel_all ⟨0, 5, _, _, _, rfl, rfl⟩ rfl (Nat.le_of_ble_eq_true rfl) ⟨(by decide), (by decide)⟩ (fun _ _ _ h => h.elim) (fun v w1 h => ?_)
        obtain ⟨r38, hr39, rfl, rfl⟩ := h
        show GO Z X (wM Z b (sdN (sdN sd)) sz os mo li de fa pl us re pk rd tp gT gO gF gE gN gQ gM gC gA gI gU gK gP gS gX gD gH gL) 0 0 70 [(2, .int (iI (r1 : Int))), (0, .ref (b 0)), (1, .int (iI (k : Int)))] [.int (iI (r38 : Int)), .int (iI 1)]
        have hb_r38 := rnN_lt (sdN sd) (n := 4) (by omega)
        rw [← hr39] at hb_r38
        refine go_iadd hK 70 dX6_drawItem_70 ?_
        refine go_istore_n (lo' := [(3, .int (iI (1 + (r38 : Int)))), (2, .int (iI (r1 : Int))), (0, .ref (b 0)), (1, .int (iI (k : Int)))]) hK 71 3 dX6_drawItem_71 rfl (by decide) rfl ?_
        refine go_aload_n hK 72 0 dX6_drawItem_72 rfl rfl ?_
        refine go_iconst hK 73 dX6_drawItem_73 ?_
        refine go_iload_n hK 74 3 dX6_drawItem_74 rfl rfl ?_
        refine go_callV (As := [.int (iI 3), .int (iI (1 + (r38 : Int)))]) (rest := []) hK hR 75 (ct_X6_lays Z b hp 3 (1 + r38) rfl (by omega) (by simp; omega)) cw_X6_95 gn_X6_lays rfl dX6_drawItem_75 gSel_all ⟨0, 5, _, _, _, rfl, rfl⟩ rfl (Nat.le_of_ble_eq_true rfl) ⟨(by decide), (by decide)⟩ (fun _ _ _ h => h.elim) (fun v w1 h => ?_)
        obtain ⟨rfl, sz40, gT41, hp42, rfl⟩ := h
        show GO Z X (wM Z b (sdN (sdN sd)) sz40 os mo li de fa pl us re pk rd tp gT41 gO gF gE gN gQ gM gC gA gI gU gK gP gS gX gD gH gL) 0 0 78 [(3, .int (iI (1 + (r38 : Int)))), (2, .int (iI (r1 : Int))), (0, .ref (b 0)), (1, .int (iI (k : Int)))] []
        refine go_aload_n hK 78 0 dX6_drawItem_78 rfl rfl ?_
        refine go_aload_n hK 79 0 dX6_drawItem_79 rfl rfl ?_
        refine go_bipush hK 80 dX6_drawItem_80 (by decide) ?_
        refine go_callV (As := [.int (iI 12)]) (rest := [.ref (b 0)]) hK hR 82 (ct_X6_draws Z b 12 (by omega) (by omega)) cw_X6_99 gn_X6_draws rfl dX6_drawItem_82 gSel_all ⟨0, 5, _, _, _, rfl, rfl⟩ rfl (Nat.le_of_ble_eq_true rfl) ⟨(by decide), (by decide)⟩ (fun _ _ _ h => h.elim) (fun v w1 h => ?_)
        obtain ⟨r43, hr44, rfl, rfl⟩ := h
        show GO Z X (wM Z b (sdN (sdN (sdN sd))) sz40 os mo li de fa pl us re pk rd tp gT41 gO gF gE gN gQ gM gC gA gI gU gK gP gS gX gD gH gL) 0 0 85 [(3, .int (iI (1 + (r38 : Int)))), (2, .int (iI (r1 : Int))), (0, .ref (b 0)), (1, .int (iI (k : Int)))] [.int (iI (r43 : Int)), .ref (b 0)]
        have hb_r43 := rnN_lt (sdN (sdN sd)) (n := 12) (by omega)
        rw [← hr44] at hb_r43
        refine go_callV (As := [.int (iI (r43 : Int))]) (rest := []) hK hR 85 (ct_X6_lay Z b hp42 r43 rfl (by simp; omega)) cw_X6_83 gn_X6_lay rfl dX6_drawItem_85 gSel_all ⟨0, 5, _, _, _, rfl, rfl⟩ rfl (Nat.le_of_ble_eq_true rfl) ⟨(by decide), (by decide)⟩ (fun _ _ _ h => h.elim) (fun v w1 h => ?_)
        obtain ⟨rfl, sz45, gT46, hp47, rfl⟩ := h
        show GO Z X (wM Z b (sdN (sdN (sdN sd))) sz45 os mo li de fa pl us re pk rd tp gT46 gO gF gE gN gQ gM gC gA gI gU gK gP gS gX gD gH gL) 0 0 88 [(3, .int (iI (1 + (r38 : Int)))), (2, .int (iI (r1 : Int))), (0, .ref (b 0)), (1, .int (iI (k : Int)))] []
        refine go_goto (tgt := 192) hK 88 dX6_drawItem_88 (by decide) ?_
        subst hr2 hr39 hr44
        exact go_vret hK hR.1 192 [] dX6_drawItem_192 (by decide) (by decide) rfl ⟨rfl, _, _, (by unfold spItem; dsimp only; rw [if_neg (by omega), if_neg (by omega), if_pos (by omega)]; exact hp47), (by unfold spItem; dsimp only; rw [if_neg (by omega), if_neg (by omega), if_pos (by omega)] <;> rfl)⟩
    · refine go_aload_n hK 32 0 dX6_drawItem_32 rfl rfl ?_
      refine go_bipush hK 33 dX6_drawItem_33 (by decide) ?_
      refine go_callV (As := [.int (iI 20)]) (rest := []) hK hR 35 (ct_X6_draws Z b 20 (by omega) (by omega)) cw_X6_99 gn_X6_draws rfl dX6_drawItem_35 gSel_all ⟨0, 5, _, _, _, rfl, rfl⟩ rfl (Nat.le_of_ble_eq_true rfl) ⟨(by decide), (by decide)⟩ (fun _ _ _ h => h.elim) (fun v w1 h => ?_)
      obtain ⟨r48, hr49, rfl, rfl⟩ := h
      show GO Z X (wM Z b (sdN (sdN sd)) sz os mo li de fa pl us re pk rd tp gT gO gF gE gN gQ gM gC gA gI gU gK gP gS gX gD gH gL) 0 0 38 [(2, .int (iI (r1 : Int))), (0, .ref (b 0)), (1, .int (iI (k : Int)))] [.int (iI (r48 : Int))]
      have hb_r48 := rnN_lt (sdN sd) (n := 20) (by omega)
      rw [← hr49] at hb_r48
      refine go_istore_n (lo' := [(3, .int (iI (r48 : Int))), (2, .int (iI (r1 : Int))), (0, .ref (b 0)), (1, .int (iI (k : Int)))]) hK 38 3 dX6_drawItem_38 rfl (by decide) rfl ?_
      refine go_aload_n hK 39 0 dX6_drawItem_39 rfl rfl ?_
      refine go_iconst hK 40 dX6_drawItem_40 ?_
      refine go_iload_n hK 41 3 dX6_drawItem_41 rfl rfl ?_
      refine go_callV (As := [.int (iI 2), .int (iI (r48 : Int))]) (rest := []) hK hR 42 (ct_X6_lays Z b hp 2 r48 rfl rfl (by simp; omega)) cw_X6_95 gn_X6_lays rfl dX6_drawItem_42 gSel_all ⟨0, 5, _, _, _, rfl, rfl⟩ rfl (Nat.le_of_ble_eq_true rfl) ⟨(by decide), (by decide)⟩ (fun _ _ _ h => h.elim) (fun v w1 h => ?_)
      obtain ⟨rfl, sz50, gT51, hp52, rfl⟩ := h
      show GO Z X (wM Z b (sdN (sdN sd)) sz50 os mo li de fa pl us re pk rd tp gT51 gO gF gE gN gQ gM gC gA gI gU gK gP gS gX gD gH gL) 0 0 45 [(3, .int (iI (r48 : Int))), (2, .int (iI (r1 : Int))), (0, .ref (b 0)), (1, .int (iI (k : Int)))] []
      refine go_aload_n hK 45 0 dX6_drawItem_45 rfl rfl ?_
      refine go_aload_n hK 46 0 dX6_drawItem_46 rfl rfl ?_
      refine go_sipush hK 47 dX6_drawItem_47 (by decide) ?_
      refine go_callV (As := [.int (iI 256)]) (rest := [.ref (b 0)]) hK hR 50 (ct_X6_draws Z b 256 (by omega) (by omega)) cw_X6_99 gn_X6_draws rfl dX6_drawItem_50 gSel_all ⟨0, 5, _, _, _, rfl, rfl⟩ rfl (Nat.le_of_ble_eq_true rfl) ⟨(by decide), (by decide)⟩ (fun _ _ _ h => h.elim) (fun v w1 h => ?_)
      obtain ⟨r53, hr54, rfl, rfl⟩ := h
      show GO Z X (wM Z b (sdN (sdN (sdN sd))) sz50 os mo li de fa pl us re pk rd tp gT51 gO gF gE gN gQ gM gC gA gI gU gK gP gS gX gD gH gL) 0 0 53 [(3, .int (iI (r48 : Int))), (2, .int (iI (r1 : Int))), (0, .ref (b 0)), (1, .int (iI (k : Int)))] [.int (iI (r53 : Int)), .ref (b 0)]
      have hb_r53 := rnN_lt (sdN (sdN sd)) (n := 256) (by omega)
      rw [← hr54] at hb_r53
      refine go_callV (As := [.int (iI (r53 : Int))]) (rest := []) hK hR 53 (ct_X6_lay Z b hp52 r53 rfl (by simp; omega)) cw_X6_83 gn_X6_lay rfl dX6_drawItem_53 gSel_all ⟨0, 5, _, _, _, rfl, rfl⟩ rfl (Nat.le_of_ble_eq_true rfl) ⟨(by decide), (by decide)⟩ (fun _ _ _ h => h.elim) (fun v w1 h => ?_)
      obtain ⟨rfl, sz55, gT56, hp57, rfl⟩ := h
      show GO Z X (wM Z b (sdN (sdN (sdN sd))) sz55 os mo li de fa pl us re pk rd tp gT56 gO gF gE gN gQ gM gC gA gI gU gK gP gS gX gD gH gL) 0 0 56 [(3, .int (iI (r48 : Int))), (2, .int (iI (r1 : Int))), (0, .ref (b 0)), (1, .int (iI (k : Int)))] []
      refine go_goto (tgt := 192) hK 56 dX6_drawItem_56 (by decide) ?_
      subst hr2 hr49 hr54
      exact go_vret hK hR.1 192 [] dX6_drawItem_192 (by decide) (by decide) rfl ⟨rfl, _, _, (by unfold spItem; dsimp only; rw [if_neg (by omega), if_pos (by omega)]; exact hp57), (by unfold spItem; dsimp only; rw [if_neg (by omega), if_pos (by omega)] <;> rfl)⟩
  · refine go_aload_n hK 11 0 dX6_drawItem_11 rfl rfl ?_
    refine go_iconst hK 12 dX6_drawItem_12 ?_
    refine go_iconst hK 13 dX6_drawItem_13 ?_
    refine go_aload_n hK 14 0 dX6_drawItem_14 rfl rfl ?_
    refine go_bipush hK 15 dX6_drawItem_15 (by decide) ?_
    refine go_callV (As := [.int (iI 6)]) (rest := [.int (iI 1), .int (iI 1), .ref (b 0)]) hK hR 17 (ct_X6_draws Z b 6 (by omega) (by omega)) cw_X6_99 gn_X6_draws rfl dX6_drawItem_17 gSel_all ⟨0, 5, _, _, _, rfl, rfl⟩ rfl (Nat.le_of_ble_eq_true rfl) ⟨(by decide), (by decide)⟩ (fun _ _ _ h => h.elim) (fun v w1 h => ?_)
    obtain ⟨r58, hr59, rfl, rfl⟩ := h
    show GO Z X (wM Z b (sdN (sdN sd)) sz os mo li de fa pl us re pk rd tp gT gO gF gE gN gQ gM gC gA gI gU gK gP gS gX gD gH gL) 0 0 20 [(2, .int (iI (r1 : Int))), (0, .ref (b 0)), (1, .int (iI (k : Int)))] [.int (iI (r58 : Int)), .int (iI 1), .int (iI 1), .ref (b 0)]
    have hb_r58 := rnN_lt (sdN sd) (n := 6) (by omega)
    rw [← hr59] at hb_r58
    refine go_iadd hK 20 dX6_drawItem_20 ?_
    show GO Z X (wM Z b (sdN (sdN sd)) sz os mo li de fa pl us re pk rd tp gT gO gF gE gN gQ gM gC gA gI gU gK gP gS gX gD gH gL) 0 0 21 [(2, .int (iI (r1 : Int))), (0, .ref (b 0)), (1, .int (iI (k : Int)))] [.int (iI ((1 + r58 : Nat) : Int)), .int (iI 1), .ref (b 0)]
    refine go_callV (As := [.int (iI 1), .int (iI ((1 + r58 : Nat) : Int))]) (rest := []) hK hR 21 (ct_X6_some Z b hp 1 (1 + r58) rfl (by first | omega | (simp; omega))) cw_X6_103 gn_X6_some rfl dX6_drawItem_21 gSel_all ⟨0, 5, _, _, _, rfl, rfl⟩ rfl (Nat.le_of_ble_eq_true rfl) ⟨(by decide), (by decide)⟩ (fun _ _ _ h => h.elim) (fun v w1 h => ?_)
    obtain ⟨rfl, sz60, gT61, hp62, rfl⟩ := h
    show GO Z X (wM Z b ((drB 256 (1 + r58) (sdN (sdN sd), T ++ [1] ++ [1 + r58])).1) sz60 os mo li de fa pl us re pk rd tp gT61 gO gF gE gN gQ gM gC gA gI gU gK gP gS gX gD gH gL) 0 0 24 [(2, .int (iI (r1 : Int))), (0, .ref (b 0)), (1, .int (iI (k : Int)))] []
    refine go_goto (tgt := 192) hK 24 dX6_drawItem_24 (by decide) ?_
    subst hr2 hr59
    exact go_vret hK hR.1 192 [] dX6_drawItem_192 (by decide) (by decide) rfl ⟨rfl, _, _, (by unfold spItem; dsimp only; rw [if_pos (by omega)]; exact hp62), (by unfold spItem; dsimp only; rw [if_pos (by omega)] <;> rfl)⟩

