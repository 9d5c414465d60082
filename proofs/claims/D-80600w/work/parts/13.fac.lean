/-! the reference: the tape's face (printed by gen/m5.py) -/
set_option maxRecDepth 100000
abbrev rm_X6_feed : Room := { frames := 1, cells := 0, slots := 0, locals := 25 }
set_option maxHeartbeats 4000000 in
theorem ct_X6_feed (Z : Gz) (b : Nat → Nat) {sd : Int64} {sz os mo li de fa pl us re pk rd tp : Int} {gT gO gF gE gN gQ gM gC gA gI gU gK gP gS gX gD gH gL : Nat → Int} {T : List Nat} (hp : pM T sz gT) {n : Int} {x : Int64} (hn : iR n) (hl : T.length ≤ 1200) : CT Z yX6_feed cX6_feed 5 (some .int) rm_X6_feed [.ref (b 0), .int (iI n), .long x] (wM Z b sd sz os mo li de fa pl us re pk rd tp gT gO gF gE gN gQ gM gC gA gI gU gK gP gS gX gD gH gL) (fun v w => ∃ (sz' : Int) (gT' : Nat → Int), v = some (.int (iI (spFeed n x T).1)) ∧ pM (spFeed n x T).2 sz' gT' ∧ w = (wM Z b sd sz' os mo li de fa pl us re pk rd tp gT' gO gF gE gN gQ gM gC gA gI gU gK gP gS gX gD gH gL)) nopx := by
  refine ct_of (by decide) (Nat.le_of_ble_eq_true rfl) (fun X hK hR => ?_)
  show GO Z X (wM Z b sd sz os mo li de fa pl us re pk rd tp gT gO gF gE gN gQ gM gC gA gI gU gK gP gS gX gD gH gL) 0 0 0 [(0, .ref (b 0)), (1, .int (iI n)), (2, .long x)] []
  have hp1 := hp.1
  refine go_iload_n hK 0 1 dX6_feed_0 rfl rfl ?_
  refine go_i2l hK 1 dX6_feed_1 (by omega) ?_
  refine go_lconst (v := lI 1) hK 2 dX6_feed_2 rfl ?_
  refine go_ldc2 (v2 := lI 8) hK 3 q597 dX6_feed_3 rfl ?_
  refine go_callS (As := [.long (lI n), .long (lI 1), .long (lI 8)]) (rest := []) hK hR 6 (ct_X6_in Z n 1 8 (by omega) (by omega) (by omega)) cw_X6_74 gn_X6_in rfl dX6_feed_6 gSel_nil  rfl (Nat.le_of_ble_eq_true rfl) ⟨(by decide), (by decide)⟩ (fun _ _ _ h => h.elim) (fun v w1 h => ?_)
  obtain ⟨⟨r1, rfl, hr2⟩, rfl⟩ := h
  rw [List.append_nil]
  show GO Z X (wM Z b sd sz os mo li de fa pl us re pk rd tp gT gO gF gE gN gQ gM gC gA gI gU gK gP gS gX gD gH gL) 0 0 9 [(0, .ref (b 0)), (1, .int (iI n)), (2, .long x)] [.int (iI r1)]
  refine go_if_ne (tgt := 15) hK 9 dX6_feed_9 (by decide) (by omega) (fun c3 => ?_) (fun c3 => ?_)
  · refine go_aload_n hK 15 0 dX6_feed_15 rfl rfl ?_
    refine go_get hK 16 fl_X6_78 dX6_feed_16 0 rfl rfl ?_
    refine go_iload_n hK 19 1 dX6_feed_19 rfl rfl ?_
    refine go_iadd hK 20 dX6_feed_20 ?_
    refine go_sipush hK 21 dX6_feed_21 (by decide) ?_
    refine go_icmp_le (tgt := 30) hK 24 dX6_feed_24 (by decide) (by omega) (by decide) (fun c4 => ?_) (fun c4 => ?_)
    · refine go_iload_n hK 30 1 dX6_feed_30 rfl rfl ?_
      refine go_iconst hK 31 dX6_feed_31 ?_
      refine go_isub hK 32 dX6_feed_32 ?_
      refine go_istore (lo' := [(4, .int (iI (n - 1))), (0, .ref (b 0)), (1, .int (iI n)), (2, .long x)]) hK 33 4 dX6_feed_33 (by decide) rfl ?_
      refine go_lo [1, 2, 3, 0] rfl ?_
      have lp : ∀ (fu : Nat) (i : Nat) (k : Int) (sz1 : Int) (gT1 : Nat → Int), (i ≤ n.toNat) → (k = n - 1 - i) → (pM (fdB x n.toNat i T) sz1 gT1) → n.toNat - i < fu → GO Z X (wM Z b sd sz1 os mo li de fa pl us re pk rd tp gT1 gO gF gE gN gQ gM gC gA gI gU gK gP gS gX gD gH gL) 0 0 35 [(0, .ref (b 0)), (1, .int (iI n)), (2, .long x), (4, .int (iI k))] [] := by
        intro fu
        induction fu with
        | zero => intro i k sz1 gT1 hi hk hp1 hm; exact absurd hm (Nat.not_lt_zero _)
        | succ fu ih =>
          intro i k sz1 gT1 hi hk hp1 hm
          have hln := fdB_len x n.toNat i T
          have hz1 := hp1.1
          have hby := by8L_rng x k
          refine go_iload hK 35 4 dX6_feed_35 rfl ?_
          refine go_if_lt (tgt := 62) hK 37 dX6_feed_37 (by decide) (by omega) (fun c5 => ?_) (fun c5 => ?_)
          · have hi9 : i = n.toNat := by omega
            rw [hi9] at hp1 hln hz1
            refine go_aload_n hK 62 0 dX6_feed_62 rfl rfl ?_
            refine go_get hK 63 fl_X6_78 dX6_feed_63 0 rfl rfl ?_
            have hz9 : sz1 = (T.length : Int) + n := by omega
            exact go_iret hK hR.1 66 [] dX6_feed_66 (by decide) (by decide) rfl ⟨_, _, (by unfold spFeed; rw [if_neg (by omega), if_neg (by omega), ← hz9]), (by unfold spFeed; rw [if_neg (by omega), if_neg (by omega), ← hz9]; exact hp1), rfl⟩
          · refine go_aload_n hK 40 0 dX6_feed_40 rfl rfl ?_
            refine go_lload_n hK 41 2 dX6_feed_41 rfl rfl ?_
            refine go_bipush hK 42 dX6_feed_42 (by decide) ?_
            refine go_iload hK 44 4 dX6_feed_44 rfl ?_
            refine go_imul hK 46 dX6_feed_46 ?_
            refine go_lshr hK 47 dX6_feed_47 ?_
            refine go_ldc2 hK 48 q601 dX6_feed_48 rfl ?_
            refine go_land hK 51 dX6_feed_51 ?_
            refine go_l2i hK 52 dX6_feed_52 (iI_by8 x k) ?_
            refine go_callV (As := [.int (iI (by8L x k))]) (rest := []) hK hR 53 (ct_X6_lay Z b hp1 ((by8L x k).toNat) (by omega) (by omega)) cw_X6_83 gn_X6_lay rfl dX6_feed_53 gSel_all ⟨0, 5, _, _, _, rfl, rfl⟩ rfl (Nat.le_of_ble_eq_true rfl) ⟨(by decide), (by decide)⟩ (fun _ _ _ h => h.elim) (fun v w1 h => ?_)
            obtain ⟨rfl, sz6, gT7, hp8, rfl⟩ := h
            show GO Z X (wM Z b sd sz6 os mo li de fa pl us re pk rd tp gT7 gO gF gE gN gQ gM gC gA gI gU gK gP gS gX gD gH gL) 0 0 56 [(0, .ref (b 0)), (1, .int (iI n)), (2, .long x), (4, .int (iI k))] []
            refine go_iinc (lo' := [(4, .int (iI (k + (-1)))), (0, .ref (b 0)), (1, .int (iI n)), (2, .long x)]) hK 56 4 3 dX6_feed_56 rfl (by decide) rfl ?_
            refine go_goto (tgt := 35) hK 59 dX6_feed_59 (by decide) ?_
            refine go_lo [1, 2, 3, 0] rfl ?_
            rw [show k = ((n.toNat - 1 - i : Nat) : Int) by omega] at hp8
            exact ih (i + 1) (k + (-1)) sz6 gT7 (by omega) (by omega) hp8 (by omega)
      exact lp _ 0 (n - 1) _ _ (by omega) (by omega) hp (Nat.lt_succ_self _)
    · refine go_bipush hK 27 dX6_feed_27 (by decide) ?_
      exact go_iret hK hR.1 29 [] dX6_feed_29 (by decide) (by decide) rfl ⟨_, _, (by unfold spFeed; rw [if_neg (by omega), if_pos (by omega)]), (by unfold spFeed; rw [if_neg (by omega), if_pos (by omega)]; exact hp), rfl⟩
  · refine go_bipush hK 12 dX6_feed_12 (by decide) ?_
    exact go_iret hK hR.1 14 [] dX6_feed_14 (by decide) (by decide) rfl ⟨_, _, (by unfold spFeed; rw [if_pos (by omega)]), (by unfold spFeed; rw [if_pos (by omega)]; exact hp), rfl⟩

abbrev rm_X6_cut : Room := { frames := 1, cells := 0, slots := 0, locals := 25 }
set_option maxHeartbeats 4000000 in
theorem ct_X6_cut (Z : Gz) (b : Nat → Nat) {sd : Int64} {sz os mo li de fa pl us re pk rd tp : Int} {gT gO gF gE gN gQ gM gC gA gI gU gK gP gS gX gD gH gL : Nat → Int} {T : List Nat} (hp : pM T sz gT) {n : Int} (hn : iR n) (hl : T.length ≤ 1200) : CT Z yX6_cut cX6_cut 3 (some .int) rm_X6_cut [.ref (b 0), .int (iI n)] (wM Z b sd sz os mo li de fa pl us re pk rd tp gT gO gF gE gN gQ gM gC gA gI gU gK gP gS gX gD gH gL) (fun v w => ∃ (sz' : Int) (gT' : Nat → Int), v = some (.int (iI (spCut n T).1)) ∧ pM (spCut n T).2 sz' gT' ∧ w = (wM Z b sd sz' os mo li de fa pl us re pk rd tp gT' gO gF gE gN gQ gM gC gA gI gU gK gP gS gX gD gH gL)) nopx := by
  refine ct_of (by decide) (Nat.le_of_ble_eq_true rfl) (fun X hK hR => ?_)
  show GO Z X (wM Z b sd sz os mo li de fa pl us re pk rd tp gT gO gF gE gN gQ gM gC gA gI gU gK gP gS gX gD gH gL) 0 0 0 [(0, .ref (b 0)), (1, .int (iI n))] []
  have hp1 := hp.1
  refine go_iload_n hK 0 1 dX6_cut_0 rfl rfl ?_
  refine go_i2l hK 1 dX6_cut_1 (by omega) ?_
  refine go_lconst (v := lI 0) hK 2 dX6_cut_2 rfl ?_
  refine go_aload_n hK 3 0 dX6_cut_3 rfl rfl ?_
  refine go_get hK 4 fl_X6_78 dX6_cut_4 0 rfl rfl ?_
  refine go_i2l hK 7 dX6_cut_7 (by omega) ?_
  refine go_callS (As := [.long (lI n), .long (lI 0), .long (lI sz)]) (rest := []) hK hR 8 (ct_X6_in Z n 0 sz (by omega) (by omega) (by omega)) cw_X6_74 gn_X6_in rfl dX6_cut_8 gSel_nil  rfl (Nat.le_of_ble_eq_true rfl) ⟨(by decide), (by decide)⟩ (fun _ _ _ h => h.elim) (fun v w1 h => ?_)
  obtain ⟨⟨r1, rfl, hr2⟩, rfl⟩ := h
  rw [List.append_nil]
  show GO Z X (wM Z b sd sz os mo li de fa pl us re pk rd tp gT gO gF gE gN gQ gM gC gA gI gU gK gP gS gX gD gH gL) 0 0 11 [(0, .ref (b 0)), (1, .int (iI n))] [.int (iI r1)]
  refine go_if_ne (tgt := 17) hK 11 dX6_cut_11 (by decide) (by omega) (fun c3 => ?_) (fun c3 => ?_)
  · refine go_aload_n hK 17 0 dX6_cut_17 rfl rfl ?_
    refine go_get hK 18 fl_X6_78 dX6_cut_18 0 rfl rfl ?_
    refine go_iload_n hK 21 1 dX6_cut_21 rfl rfl ?_
    refine go_isub hK 22 dX6_cut_22 ?_
    refine go_istore_n (lo' := [(2, .int (iI (sz - n))), (0, .ref (b 0)), (1, .int (iI n))]) hK 23 2 dX6_cut_23 rfl (by decide) rfl ?_
    refine go_aload_n hK 24 0 dX6_cut_24 rfl rfl ?_
    refine go_iload_n hK 25 1 dX6_cut_25 rfl rfl ?_
    refine go_put (w' := (wM Z b sd n os mo li de fa pl us re pk rd tp gT gO gF gE gN gQ gM gC gA gI gU gK gP gS gX gD gH gL)) hK 26 fl_X6_78 fw_X6_2 dX6_cut_26 0 rfl rfl rfl (Nat.le_of_ble_eq_true rfl) rfl ?_
    refine go_iload_n hK 29 2 dX6_cut_29 rfl rfl ?_
    have hz9 : sz - n = (T.length : Int) - n := by omega
    exact go_iret hK hR.1 30 [] dX6_cut_30 (by decide) (by decide) rfl ⟨_, _, (by unfold spCut; rw [if_neg (by omega), ← hz9]), (by unfold spCut; rw [if_neg (by omega), ← hz9]; exact pM_take hp (by omega) (by omega)), rfl⟩
  · refine go_bipush hK 14 dX6_cut_14 (by decide) ?_
    exact go_iret hK hR.1 16 [] dX6_cut_16 (by decide) (by decide) rfl ⟨_, _, (by unfold spCut; rw [if_pos (by omega)]), (by unfold spCut; rw [if_pos (by omega)]; exact hp), rfl⟩

abbrev rm_X6_alter : Room := { frames := 1, cells := 0, slots := 0, locals := 25 }
set_option maxHeartbeats 4000000 in
theorem ct_X6_alter (Z : Gz) (b : Nat → Nat) {sd : Int64} {sz os mo li de fa pl us re pk rd tp : Int} {gT gO gF gE gN gQ gM gC gA gI gU gK gP gS gX gD gH gL : Nat → Int} {T : List Nat} (hp : pM T sz gT) {i c : Int} (hi : iR i) (hc : iR c) (hl : T.length ≤ 1200) : CT Z yX6_alter cX6_alter 4 (some .int) rm_X6_alter [.ref (b 0), .int (iI i), .int (iI c)] (wM Z b sd sz os mo li de fa pl us re pk rd tp gT gO gF gE gN gQ gM gC gA gI gU gK gP gS gX gD gH gL) (fun v w => ∃ (sz' : Int) (gT' : Nat → Int), v = some (.int (iI (spAlter i c T).1)) ∧ pM (spAlter i c T).2 sz' gT' ∧ w = (wM Z b sd sz' os mo li de fa pl us re pk rd tp gT' gO gF gE gN gQ gM gC gA gI gU gK gP gS gX gD gH gL)) nopx := by
  refine ct_of (by decide) (Nat.le_of_ble_eq_true rfl) (fun X hK hR => ?_)
  show GO Z X (wM Z b sd sz os mo li de fa pl us re pk rd tp gT gO gF gE gN gQ gM gC gA gI gU gK gP gS gX gD gH gL) 0 0 0 [(0, .ref (b 0)), (1, .int (iI i)), (2, .int (iI c))] []
  have hp1 := hp.1
  refine go_iload_n hK 0 1 dX6_alter_0 rfl rfl ?_
  refine go_i2l hK 1 dX6_alter_1 (by omega) ?_
  refine go_lconst (v := lI 0) hK 2 dX6_alter_2 rfl ?_
  refine go_aload_n hK 3 0 dX6_alter_3 rfl rfl ?_
  refine go_get hK 4 fl_X6_78 dX6_alter_4 0 rfl rfl ?_
  refine go_iconst hK 7 dX6_alter_7 ?_
  refine go_isub hK 8 dX6_alter_8 ?_
  refine go_i2l hK 9 dX6_alter_9 (by omega) ?_
  refine go_callS (As := [.long (lI i), .long (lI 0), .long (lI (sz - 1))]) (rest := []) hK hR 10 (ct_X6_in Z i 0 (sz - 1) (by omega) (by omega) (by omega)) cw_X6_74 gn_X6_in rfl dX6_alter_10 gSel_nil  rfl (Nat.le_of_ble_eq_true rfl) ⟨(by decide), (by decide)⟩ (fun _ _ _ h => h.elim) (fun v w1 h => ?_)
  obtain ⟨⟨r1, rfl, hr2⟩, rfl⟩ := h
  rw [List.append_nil]
  show GO Z X (wM Z b sd sz os mo li de fa pl us re pk rd tp gT gO gF gE gN gQ gM gC gA gI gU gK gP gS gX gD gH gL) 0 0 13 [(0, .ref (b 0)), (1, .int (iI i)), (2, .int (iI c))] [.int (iI r1)]
  refine go_if_eq (tgt := 28) hK 13 dX6_alter_13 (by decide) (by omega) (fun c3 => ?_) (fun c3 => ?_)
  · refine go_bipush hK 28 dX6_alter_28 (by decide) ?_
    exact go_iret hK hR.1 30 [] dX6_alter_30 (by decide) (by decide) rfl ⟨_, _, (by unfold spAlter; rw [if_pos (by omega)]), (by unfold spAlter; rw [if_pos (by omega)]; exact hp), rfl⟩
  · refine go_iload_n hK 16 2 dX6_alter_16 rfl rfl ?_
    refine go_i2l hK 17 dX6_alter_17 (by omega) ?_
    refine go_lconst (v := lI 0) hK 18 dX6_alter_18 rfl ?_
    refine go_ldc2 (v2 := lI 255) hK 19 q601 dX6_alter_19 rfl ?_
    refine go_callS (As := [.long (lI c), .long (lI 0), .long (lI 255)]) (rest := []) hK hR 22 (ct_X6_in Z c 0 255 (by omega) (by omega) (by omega)) cw_X6_74 gn_X6_in rfl dX6_alter_22 gSel_nil  rfl (Nat.le_of_ble_eq_true rfl) ⟨(by decide), (by decide)⟩ (fun _ _ _ h => h.elim) (fun v w1 h => ?_)
    obtain ⟨⟨r4, rfl, hr5⟩, rfl⟩ := h
    rw [List.append_nil]
    show GO Z X (wM Z b sd sz os mo li de fa pl us re pk rd tp gT gO gF gE gN gQ gM gC gA gI gU gK gP gS gX gD gH gL) 0 0 25 [(0, .ref (b 0)), (1, .int (iI i)), (2, .int (iI c))] [.int (iI r4)]
    refine go_if_ne (tgt := 31) hK 25 dX6_alter_25 (by decide) (by omega) (fun c6 => ?_) (fun c6 => ?_)
    · refine go_aload_n hK 31 0 dX6_alter_31 rfl rfl ?_
      refine go_get hK 32 fl_X6_7 dX6_alter_32 0 rfl rfl ?_
      refine go_iload_n hK 35 1 dX6_alter_35 rfl rfl ?_
      refine go_iald hK 36 dX6_alter_36 1 rfl (by omega) (by decide) ?_
      refine go_istore_n (lo' := [(3, .int (iI (gT i.toNat))), (0, .ref (b 0)), (1, .int (iI i)), (2, .int (iI c))]) hK 37 3 dX6_alter_37 rfl (by decide) rfl ?_
      refine go_aload_n hK 38 0 dX6_alter_38 rfl rfl ?_
      refine go_get hK 39 fl_X6_7 dX6_alter_39 0 rfl rfl ?_
      refine go_iload_n hK 42 1 dX6_alter_42 rfl rfl ?_
      refine go_iload_n hK 43 2 dX6_alter_43 rfl rfl ?_
      refine go_iast (w' := (wM Z b sd sz os mo li de fa pl us re pk rd tp (va_up gT i.toNat c) gO gF gE gN gQ gM gC gA gI gU gK gP gS gX gD gH gL)) hK 44 dX6_alter_44 1 rfl (by omega) (by decide) rfl ?_
      refine go_iload_n hK 45 3 dX6_alter_45 rfl rfl ?_
      have hg9 := hp.2 i.toNat (by omega)
      exact go_iret hK hR.1 46 [] dX6_alter_46 (by decide) (by decide) rfl ⟨_, _, (by unfold spAlter; rw [if_neg (by omega), ← hg9]), (by unfold spAlter; rw [if_neg (by omega), ← hg9]; exact pM_set hp c.toNat i.toNat (by omega) (by omega)), rfl⟩
    · refine go_bipush hK 28 dX6_alter_28 (by decide) ?_
      exact go_iret hK hR.1 30 [] dX6_alter_30 (by decide) (by decide) rfl ⟨_, _, (by unfold spAlter; rw [if_pos (by omega)]), (by unfold spAlter; rw [if_pos (by omega)]; exact hp), rfl⟩

abbrev rm_X6_at : Room := { frames := 1, cells := 0, slots := 0, locals := 25 }
set_option maxHeartbeats 4000000 in
theorem ct_X6_at (Z : Gz) (b : Nat → Nat) {sd : Int64} {sz os mo li de fa pl us re pk rd tp : Int} {gT gO gF gE gN gQ gM gC gA gI gU gK gP gS gX gD gH gL : Nat → Int} {T : List Nat} (hp : pM T sz gT) {i : Int} (hi : iR i) (hl : T.length ≤ 1200) : CT Z yX6_at cX6_at 2 (some .int) rm_X6_at [.ref (b 0), .int (iI i)] (wM Z b sd sz os mo li de fa pl us re pk rd tp gT gO gF gE gN gQ gM gC gA gI gU gK gP gS gX gD gH gL) (fun v w => v = some (.int (iI (spAt i T))) ∧ w = (wM Z b sd sz os mo li de fa pl us re pk rd tp gT gO gF gE gN gQ gM gC gA gI gU gK gP gS gX gD gH gL)) nopx := by
  refine ct_of (by decide) (Nat.le_of_ble_eq_true rfl) (fun X hK hR => ?_)
  show GO Z X (wM Z b sd sz os mo li de fa pl us re pk rd tp gT gO gF gE gN gQ gM gC gA gI gU gK gP gS gX gD gH gL) 0 0 0 [(0, .ref (b 0)), (1, .int (iI i))] []
  have hp1 := hp.1
  refine go_iload_n hK 0 1 dX6_at_0 rfl rfl ?_
  refine go_i2l hK 1 dX6_at_1 (by omega) ?_
  refine go_lconst (v := lI 0) hK 2 dX6_at_2 rfl ?_
  refine go_aload_n hK 3 0 dX6_at_3 rfl rfl ?_
  refine go_get hK 4 fl_X6_78 dX6_at_4 0 rfl rfl ?_
  refine go_iconst hK 7 dX6_at_7 ?_
  refine go_isub hK 8 dX6_at_8 ?_
  refine go_i2l hK 9 dX6_at_9 (by omega) ?_
  refine go_callS (As := [.long (lI i), .long (lI 0), .long (lI (sz - 1))]) (rest := []) hK hR 10 (ct_X6_in Z i 0 (sz - 1) (by omega) (by omega) (by omega)) cw_X6_74 gn_X6_in rfl dX6_at_10 gSel_nil  rfl (Nat.le_of_ble_eq_true rfl) ⟨(by decide), (by decide)⟩ (fun _ _ _ h => h.elim) (fun v w1 h => ?_)
  obtain ⟨⟨r1, rfl, hr2⟩, rfl⟩ := h
  rw [List.append_nil]
  show GO Z X (wM Z b sd sz os mo li de fa pl us re pk rd tp gT gO gF gE gN gQ gM gC gA gI gU gK gP gS gX gD gH gL) 0 0 13 [(0, .ref (b 0)), (1, .int (iI i))] [.int (iI r1)]
  refine go_if_eq (tgt := 25) hK 13 dX6_at_13 (by decide) (by omega) (fun c3 => ?_) (fun c3 => ?_)
  · refine go_iconst hK 25 dX6_at_25 ?_
    exact go_iret hK hR.1 26 [] dX6_at_26 (by decide) (by decide) rfl ⟨(by unfold spAt; rw [if_neg (by omega)]), rfl⟩
  · refine go_aload_n hK 16 0 dX6_at_16 rfl rfl ?_
    refine go_get hK 17 fl_X6_7 dX6_at_17 0 rfl rfl ?_
    refine go_iload_n hK 20 1 dX6_at_20 rfl rfl ?_
    refine go_iald hK 21 dX6_at_21 1 rfl (by omega) (by decide) ?_
    refine go_goto (tgt := 26) hK 22 dX6_at_22 (by decide) ?_
    have hg9 := hp.2 i.toNat (by omega)
    exact go_iret hK hR.1 26 [] dX6_at_26 (by decide) (by decide) rfl ⟨(by unfold spAt; rw [if_pos (by omega), hg9]), rfl⟩

abbrev rm_X6_mend : Room := { frames := 1, cells := 0, slots := 0, locals := 24 }
set_option maxHeartbeats 4000000 in
theorem ct_X6_mend (Z : Gz) (b : Nat → Nat) {sd : Int64} {sz os mo li de fa pl us re pk rd tp : Int} {gT gO gF gE gN gQ gM gC gA gI gU gK gP gS gX gD gH gL : Nat → Int} {T : List Nat} (hp : pM T sz gT) (hl : T.length ≤ 1200) : CT Z yX6_mend cX6_mend 1 (some .int) rm_X6_mend [.ref (b 0)] (wM Z b sd sz os mo li de fa pl us re pk rd tp gT gO gF gE gN gQ gM gC gA gI gU gK gP gS gX gD gH gL) (fun v w => ∃ (sz' : Int) (gT' : Nat → Int), v = some (.int (iI (spMend T).1)) ∧ pM (spMend T).2 sz' gT' ∧ w = (wM Z b sd sz' os mo li de fa pl us re pk rd tp gT' gO gF gE gN gQ gM gC gA gI gU gK gP gS gX gD gH gL)) nopx := by
  refine ct_of (by decide) (Nat.le_of_ble_eq_true rfl) (fun X hK hR => ?_)
  show GO Z X (wM Z b sd sz os mo li de fa pl us re pk rd tp gT gO gF gE gN gQ gM gC gA gI gU gK gP gS gX gD gH gL) 0 0 0 [(0, .ref (b 0))] []
  have hp1 := hp.1
  refine go_aload_n hK 0 0 dX6_mend_0 rfl rfl ?_
  refine go_get hK 1 fl_X6_78 dX6_mend_1 0 rfl rfl ?_
  refine go_if_ne (tgt := 10) hK 4 dX6_mend_4 (by decide) (by omega) (fun c1 => ?_) (fun c1 => ?_)
  · refine go_aload_n hK 10 0 dX6_mend_10 rfl rfl ?_
    refine go_get hK 11 fl_X6_7 dX6_mend_11 0 rfl rfl ?_
    refine go_aload_n hK 14 0 dX6_mend_14 rfl rfl ?_
    refine go_get hK 15 fl_X6_78 dX6_mend_15 0 rfl rfl ?_
    refine go_iconst hK 18 dX6_mend_18 ?_
    refine go_isub hK 19 dX6_mend_19 ?_
    refine go_aload_n hK 20 0 dX6_mend_20 rfl rfl ?_
    refine go_iconst hK 21 dX6_mend_21 ?_
    refine go_aload_n hK 22 0 dX6_mend_22 rfl rfl ?_
    refine go_get hK 23 fl_X6_78 dX6_mend_23 0 rfl rfl ?_
    refine go_iconst hK 26 dX6_mend_26 ?_
    refine go_isub hK 27 dX6_mend_27 ?_
    refine go_callV (As := [.int (iI 0), .int (iI (sz - 1))]) (rest := [.int (iI (sz - 1)), .ref (b 1)]) hK hR 28 (ct_X6_sumOf Z b hp (by omega) hl) cw_X6_87 gn_X6_sumOf rfl dX6_mend_28 gSel_all ⟨0, 5, _, _, _, rfl, rfl⟩ rfl (Nat.le_of_ble_eq_true rfl) ⟨(by decide), (by decide)⟩ (fun _ _ _ h => h.elim) (fun v w1 h => ?_)
    obtain ⟨rfl, rfl⟩ := h
    show GO Z X (wM Z b sd sz os mo li de fa pl us re pk rd tp gT gO gF gE gN gQ gM gC gA gI gU gK gP gS gX gD gH gL) 0 0 31 [(0, .ref (b 0))] [.int (iI ((smN T (0 : Int).toNat (sz - 1 - 0).toNat % 256 : Nat) : Int)), .int (iI (sz - 1)), .ref (b 1)]
    have e0 : (sz - 1 - 0).toNat = T.length - 1 := by omega
    have e1 : (0 : Int).toNat = 0 := rfl
    rw [e0, e1]
    refine go_iast (w' := (wM Z b sd sz os mo li de fa pl us re pk rd tp (va_up gT (sz - 1).toNat ((smN T 0 (T.length - 1) % 256 : Nat) : Int)) gO gF gE gN gQ gM gC gA gI gU gK gP gS gX gD gH gL)) hK 31 dX6_mend_31 1 rfl (by omega) (by decide) rfl ?_
    refine go_aload_n hK 32 0 dX6_mend_32 rfl rfl ?_
    refine go_get hK 33 fl_X6_7 dX6_mend_33 0 rfl rfl ?_
    refine go_aload_n hK 36 0 dX6_mend_36 rfl rfl ?_
    refine go_get hK 37 fl_X6_78 dX6_mend_37 0 rfl rfl ?_
    refine go_iconst hK 40 dX6_mend_40 ?_
    refine go_isub hK 41 dX6_mend_41 ?_
    refine go_iald hK 42 dX6_mend_42 1 rfl (by omega) (by decide) ?_
    have e2 : va_up gT (sz - 1).toNat ((smN T 0 (T.length - 1) % 256 : Nat) : Int) (sz - 1).toNat = ((smN T 0 (T.length - 1) % 256 : Nat) : Int) := va_up_s rfl
    rw [e2]
    exact go_iret hK hR.1 43 [] dX6_mend_43 (by decide) (by decide) rfl ⟨_, _, (by unfold spMend; rw [if_neg (by omega)]), (by unfold spMend; rw [if_neg (by omega)]; exact pM_set hp _ _ (by omega) rfl), rfl⟩
  · refine go_bipush hK 7 dX6_mend_7 (by decide) ?_
    exact go_iret hK hR.1 9 [] dX6_mend_9 (by decide) (by decide) rfl ⟨_, _, (by unfold spMend; rw [if_pos (by omega)]), (by unfold spMend; rw [if_pos (by omega)]; exact hp), rfl⟩

abbrev rm_X6_draw : Room := { frames := 5, cells := 0, slots := 0, locals := 113 }
set_option maxHeartbeats 4000000 in
theorem ct_X6_draw (Z : Gz) (b : Nat → Nat) {sd : Int64} {sz os mo li de fa pl us re pk rd tp : Int} {gT gO gF gE gN gQ gM gC gA gI gU gK gP gS gX gD gH gL : Nat → Int} {T : List Nat} (hp : pM T sz gT) {f n : Int} (hf : iR f) (hn : iR n) : CT Z yX6_draw cX6_draw 4 (some .int) rm_X6_draw [.ref (b 0), .int (iI f), .int (iI n)] (wM Z b sd sz os mo li de fa pl us re pk rd tp gT gO gF gE gN gQ gM gC gA gI gU gK gP gS gX gD gH gL) (fun v w => ∃ (sz' : Int) (gT' : Nat → Int), v = some (.int (iI (spDr f n sd T).1)) ∧ pM (spDr f n sd T).2.2 sz' gT' ∧ w = (wM Z b ((spDr f n sd T).2.1) sz' os mo li de fa pl us re pk rd tp gT' gO gF gE gN gQ gM gC gA gI gU gK gP gS gX gD gH gL)) nopx := by
  refine ct_of (by decide) (Nat.le_of_ble_eq_true rfl) (fun X hK hR => ?_)
  show GO Z X (wM Z b sd sz os mo li de fa pl us re pk rd tp gT gO gF gE gN gQ gM gC gA gI gU gK gP gS gX gD gH gL) 0 0 0 [(0, .ref (b 0)), (1, .int (iI f)), (2, .int (iI n))] []
  refine go_iload_n hK 0 1 dX6_draw_0 rfl rfl ?_
  refine go_i2l hK 1 dX6_draw_1 (by omega) ?_
  refine go_lconst (v := lI 0) hK 2 dX6_draw_2 rfl ?_
  refine go_ldc2 (v2 := lI 9) hK 3 q630 dX6_draw_3 rfl ?_
  refine go_callS (As := [.long (lI f), .long (lI 0), .long (lI 9)]) (rest := []) hK hR 6 (ct_X6_in Z f 0 9 (by omega) (by omega) (by omega)) cw_X6_74 gn_X6_in rfl dX6_draw_6 gSel_nil  rfl (Nat.le_of_ble_eq_true rfl) ⟨(by decide), (by decide)⟩ (fun _ _ _ h => h.elim) (fun v w1 h => ?_)
  obtain ⟨⟨r1, rfl, hr2⟩, rfl⟩ := h
  rw [List.append_nil]
  show GO Z X (wM Z b sd sz os mo li de fa pl us re pk rd tp gT gO gF gE gN gQ gM gC gA gI gU gK gP gS gX gD gH gL) 0 0 9 [(0, .ref (b 0)), (1, .int (iI f)), (2, .int (iI n))] [.int (iI r1)]
  refine go_if_eq (tgt := 24) hK 9 dX6_draw_9 (by decide) (by omega) (fun c3 => ?_) (fun c3 => ?_)
  · refine go_bipush hK 24 dX6_draw_24 (by decide) ?_
    exact go_iret hK hR.1 26 [] dX6_draw_26 (by decide) (by decide) rfl ⟨_, _, (by unfold spDr; rw [if_pos (by omega)]), (by unfold spDr; rw [if_pos (by omega)]; exact hp), (by unfold spDr; rw [if_pos (by omega)])⟩
  · refine go_iload_n hK 12 2 dX6_draw_12 rfl rfl ?_
    refine go_i2l hK 13 dX6_draw_13 (by omega) ?_
    refine go_lconst (v := lI 0) hK 14 dX6_draw_14 rfl ?_
    refine go_ldc2 (v2 := lI 60) hK 15 q631 dX6_draw_15 rfl ?_
    refine go_callS (As := [.long (lI n), .long (lI 0), .long (lI 60)]) (rest := []) hK hR 18 (ct_X6_in Z n 0 60 (by omega) (by omega) (by omega)) cw_X6_74 gn_X6_in rfl dX6_draw_18 gSel_nil  rfl (Nat.le_of_ble_eq_true rfl) ⟨(by decide), (by decide)⟩ (fun _ _ _ h => h.elim) (fun v w1 h => ?_)
    obtain ⟨⟨r4, rfl, hr5⟩, rfl⟩ := h
    rw [List.append_nil]
    show GO Z X (wM Z b sd sz os mo li de fa pl us re pk rd tp gT gO gF gE gN gQ gM gC gA gI gU gK gP gS gX gD gH gL) 0 0 21 [(0, .ref (b 0)), (1, .int (iI f)), (2, .int (iI n))] [.int (iI r4)]
    refine go_if_ne (tgt := 27) hK 21 dX6_draw_21 (by decide) (by omega) (fun c6 => ?_) (fun c6 => ?_)
    · obtain ⟨F, rfl⟩ := Int.eq_ofNat_of_zero_le (show 0 ≤ f by omega)
      obtain ⟨N, rfl⟩ := Int.eq_ofNat_of_zero_le (show 0 ≤ n by omega)
      have hF : F ≤ 9 := by omega
      have hN : N ≤ 60 := by omega
      have hp0 : pM [] 0 gT := ⟨rfl, fun j hj => absurd hj (Nat.not_lt_zero _)⟩
      have hD : spDr (F : Int) (N : Int) sd T = (((spDraw F N sd).2.length : Int), spDraw F N sd) := by unfold spDr; rw [if_neg (by omega)]; rfl
      rw [hD] at hR
      have hdl := spDraw_len F N sd hN
      refine go_aload_n hK 27 0 dX6_draw_27 rfl rfl ?_
      refine go_iconst hK 28 dX6_draw_28 ?_
      refine go_put (w' := (wM Z b sd 0 os mo li de fa pl us re pk rd tp gT gO gF gE gN gQ gM gC gA gI gU gK gP gS gX gD gH gL)) hK 29 fl_X6_78 fw_X6_2 dX6_draw_29 0 rfl rfl rfl (Nat.le_of_ble_eq_true rfl) rfl ?_
      refine go_iload_n hK 32 1 dX6_draw_32 rfl rfl ?_
      refine go_iconst hK 33 dX6_draw_33 ?_
      refine go_icmp_ne (tgt := 47) hK 34 dX6_draw_34 (by decide) (by omega) (by decide) (fun c7 => ?_) (fun c7 => ?_)
      · refine go_aload_n hK 47 0 dX6_draw_47 rfl rfl ?_
        refine go_bipush hK 48 dX6_draw_48 (by decide) ?_
        refine go_bipush hK 50 dX6_draw_50 (by decide) ?_
        refine go_callV (As := [.int (iI 80), .int (iI 75)]) (rest := []) hK hR 52 (ct_X6_lays Z b hp0 80 75 rfl rfl (by simp)) cw_X6_95 gn_X6_lays rfl dX6_draw_52 gSel_all ⟨0, 5, _, _, _, rfl, rfl⟩ rfl (Nat.le_of_ble_eq_true rfl) ⟨(by decide), (by decide)⟩ (fun _ _ _ h => h.elim) (fun v w1 h => ?_)
        obtain ⟨rfl, sz8, gT9, hp10, rfl⟩ := h
        show GO Z X (wM Z b sd sz8 os mo li de fa pl us re pk rd tp gT9 gO gF gE gN gQ gM gC gA gI gU gK gP gS gX gD gH gL) 0 0 55 [(0, .ref (b 0)), (1, .int (iI (F : Int))), (2, .int (iI (N : Int)))] []
        have hz2 := hp10.1
        refine go_iload_n hK 55 1 dX6_draw_55 rfl rfl ?_
        refine go_if_ne (tgt := 94) hK 56 dX6_draw_56 (by decide) (by omega) (fun c11 => ?_) (fun c11 => ?_)
        · refine go_aload_n hK 94 0 dX6_draw_94 rfl rfl ?_
          refine go_iload_n hK 95 1 dX6_draw_95 rfl rfl ?_
          refine go_iload_n hK 96 2 dX6_draw_96 rfl rfl ?_
          refine go_callV (As := [.int (iI (F : Int)), .int (iI (N : Int))]) (rest := []) hK hR 97 (ct_X6_family Z b hp10 F N (by omega) hN (by simp)) cw_X6_119 gn_X6_family rfl dX6_draw_97 gSel_all ⟨0, 5, _, _, _, rfl, rfl⟩ rfl (Nat.le_of_ble_eq_true rfl) ⟨(by decide), (by decide)⟩ (fun _ _ _ h => h.elim) (fun v w1 h => ?_)
          obtain ⟨rfl, sz12, gT13, hp14, rfl⟩ := h
          show GO Z X (wM Z b ((spFam F N (sd, [] ++ [80] ++ [75])).1) sz12 os mo li de fa pl us re pk rd tp gT13 gO gF gE gN gQ gM gC gA gI gU gK gP gS gX gD gH gL) 0 0 100 [(0, .ref (b 0)), (1, .int (iI (F : Int))), (2, .int (iI (N : Int)))] []
          have hfl := spFam_len F N (sd, [] ++ [80] ++ [75]) hN
          simp only [List.length_append, List.length_cons, List.length_nil] at hfl
          have hfg := spFam_ge F N (sd, [] ++ [80] ++ [75])
          simp only [List.length_append, List.length_cons, List.length_nil] at hfg
          refine go_aload_n hK 100 0 dX6_draw_100 rfl rfl ?_
          refine go_iconst hK 101 dX6_draw_101 ?_
          refine go_callV (As := [.int (iI 0)]) (rest := []) hK hR 102 (ct_X6_close Z b hp14 (by omega) (by omega)) cw_X6_106 gn_X6_close rfl dX6_draw_102 gSel_all ⟨0, 5, _, _, _, rfl, rfl⟩ rfl (Nat.le_of_ble_eq_true rfl) ⟨(by decide), (by decide)⟩ (fun _ _ _ h => h.elim) (fun v w1 h => ?_)
          obtain ⟨rfl, sz15, gT16, hp17, rfl⟩ := h
          show GO Z X (wM Z b ((spFam F N (sd, [] ++ [80] ++ [75])).1) sz15 os mo li de fa pl us re pk rd tp gT16 gO gF gE gN gQ gM gC gA gI gU gK gP gS gX gD gH gL) 0 0 105 [(0, .ref (b 0)), (1, .int (iI (F : Int))), (2, .int (iI (N : Int)))] []
          have hel := spEnd_len (0 : Int).toNat (spFam F N (sd, [] ++ [80] ++ [75])).2
          have hz5 := hp17.1
          refine go_iload_n hK 105 1 dX6_draw_105 rfl rfl ?_
          refine go_bipush hK 106 dX6_draw_106 (by decide) ?_
          refine go_icmp_ne (tgt := 127) hK 108 dX6_draw_108 (by decide) (by omega) (by decide) (fun c18 => ?_) (fun c18 => ?_)
          · refine go_iload_n hK 127 1 dX6_draw_127 rfl rfl ?_
            refine go_bipush hK 128 dX6_draw_128 (by decide) ?_
            refine go_icmp_ne (tgt := 161) hK 130 dX6_draw_130 (by decide) (by omega) (by decide) (fun c19 => ?_) (fun c19 => ?_)
            · refine go_aload_n hK 161 0 dX6_draw_161 rfl rfl ?_
              refine go_get hK 162 fl_X6_78 dX6_draw_162 0 rfl rfl ?_
              have e9 : spDraw F N sd = ((spFam F N (sd, [] ++ [80] ++ [75])).1, spEnd 0 (spFam F N (sd, [] ++ [80] ++ [75])).2) := by unfold spDraw; rw [if_neg (by omega), if_neg (by omega), if_neg (by omega)]; rfl
              rw [e9] at hR
              have hz6 : sz15 = ((spEnd 0 (spFam F N (sd, [] ++ [80] ++ [75])).2).length : Int) := hp17.1
              exact go_iret hK hR.1 165 [] dX6_draw_165 (by decide) (by decide) rfl ⟨sz15, gT16, (by rw [hz6]), hp17, rfl⟩
            · refine go_aload_n hK 133 0 dX6_draw_133 rfl rfl ?_
              refine go_get hK 134 fl_X6_7 dX6_draw_134 0 rfl rfl ?_
              refine go_aload_n hK 137 0 dX6_draw_137 rfl rfl ?_
              refine go_get hK 138 fl_X6_78 dX6_draw_138 0 rfl rfl ?_
              refine go_iconst hK 141 dX6_draw_141 ?_
              refine go_isub hK 142 dX6_draw_142 ?_
              refine go_aload_n hK 143 0 dX6_draw_143 rfl rfl ?_
              refine go_get hK 144 fl_X6_7 dX6_draw_144 0 rfl rfl ?_
              refine go_aload_n hK 147 0 dX6_draw_147 rfl rfl ?_
              refine go_get hK 148 fl_X6_78 dX6_draw_148 0 rfl rfl ?_
              refine go_iconst hK 151 dX6_draw_151 ?_
              refine go_isub hK 152 dX6_draw_152 ?_
              refine go_iald hK 153 dX6_draw_153 1 rfl (by omega) (by decide) ?_
              refine go_iconst hK 154 dX6_draw_154 ?_
              refine go_iadd hK 155 dX6_draw_155 ?_
              refine go_sipush hK 156 dX6_draw_156 (by decide) ?_
              refine go_iand hK 159 dX6_draw_159 (iI_255 _) ?_
              refine go_iast (w' := (wM Z b ((spFam F N (sd, [] ++ [80] ++ [75])).1) sz15 os mo li de fa pl us re pk rd tp (va_up gT16 (sz15 - 1).toNat (((gT16 (sz15 - 1).toNat) + 1) % 256)) gO gF gE gN gQ gM gC gA gI gU gK gP gS gX gD gH gL)) hK 160 dX6_draw_160 1 rfl (by omega) (by decide) rfl ?_
              refine go_aload_n hK 161 0 dX6_draw_161 rfl rfl ?_
              refine go_get hK 162 fl_X6_78 dX6_draw_162 0 rfl rfl ?_
              have hg9 := hp17.2 (sz15 - 1).toNat (by omega)
              have e9 : spDraw F N sd = ((spFam F N (sd, [] ++ [80] ++ [75])).1, (spEnd 0 (spFam F N (sd, [] ++ [80] ++ [75])).2).set ((spEnd 0 (spFam F N (sd, [] ++ [80] ++ [75])).2).length - 1) (((spEnd 0 (spFam F N (sd, [] ++ [80] ++ [75])).2).getD ((spEnd 0 (spFam F N (sd, [] ++ [80] ++ [75])).2).length - 1) 0 + 1) % 256)) := by unfold spDraw; rw [if_neg (by omega), if_neg (by omega), if_pos (by omega)]; rfl
              rw [e9] at hR
              have hz6 : sz15 = ((spEnd 0 (spFam F N (sd, [] ++ [80] ++ [75])).2).length : Int) := hp17.1
              have e10 : (sz15 - 1).toNat = (spEnd 0 (spFam F N (sd, [] ++ [80] ++ [75])).2).length - 1 := by omega
              rw [e10] at hg9
              exact go_iret hK hR.1 165 [] dX6_draw_165 (by decide) (by decide) rfl ⟨sz15, _, (by rw [List.length_set, hz6]), pM_set hp17 _ _ (by omega) (by rw [e10, hg9]; rfl), rfl⟩
          · refine go_aload_n hK 111 0 dX6_draw_111 rfl rfl ?_
            refine go_dup hK 112 dX6_draw_112 rfl ?_
            refine go_get hK 113 fl_X6_78 dX6_draw_113 0 rfl rfl ?_
            refine go_iconst hK 116 dX6_draw_116 ?_
            refine go_aload_n hK 117 0 dX6_draw_117 rfl rfl ?_
            refine go_iconst hK 118 dX6_draw_118 ?_
            refine go_callV (As := [.int (iI 4)]) (rest := [.int (iI 1), .int (iI sz15), .ref (b 0)]) hK hR 119 (ct_X6_draws Z b 4 (by omega) (by omega)) cw_X6_99 gn_X6_draws rfl dX6_draw_119 gSel_all ⟨0, 5, _, _, _, rfl, rfl⟩ rfl (Nat.le_of_ble_eq_true rfl) ⟨(by decide), (by decide)⟩ (fun _ _ _ h => h.elim) (fun v w1 h => ?_)
            obtain ⟨r20, hr21, rfl, rfl⟩ := h
            show GO Z X (wM Z b (sdN ((spFam F N (sd, [] ++ [80] ++ [75])).1)) sz15 os mo li de fa pl us re pk rd tp gT16 gO gF gE gN gQ gM gC gA gI gU gK gP gS gX gD gH gL) 0 0 122 [(0, .ref (b 0)), (1, .int (iI (F : Int))), (2, .int (iI (N : Int)))] [.int (iI (r20 : Int)), .int (iI 1), .int (iI sz15), .ref (b 0)]
            have hb_r20 := rnN_lt ((spFam F N (sd, [] ++ [80] ++ [75])).1) (n := 4) (by omega)
            rw [← hr21] at hb_r20
            refine go_iadd hK 122 dX6_draw_122 ?_
            refine go_isub hK 123 dX6_draw_123 ?_
            refine go_put (w' := (wM Z b (sdN ((spFam F N (sd, [] ++ [80] ++ [75])).1)) (sz15 - (1 + (r20 : Int))) os mo li de fa pl us re pk rd tp gT16 gO gF gE gN gQ gM gC gA gI gU gK gP gS gX gD gH gL)) hK 124 fl_X6_78 fw_X6_2 dX6_draw_124 0 rfl rfl rfl (Nat.le_of_ble_eq_true rfl) rfl ?_
            refine go_iload_n hK 127 1 dX6_draw_127 rfl rfl ?_
            refine go_bipush hK 128 dX6_draw_128 (by decide) ?_
            refine go_icmp_ne (tgt := 161) hK 130 dX6_draw_130 (by decide) (by omega) (by decide) (fun _ => ?_) (fun q => absurd q (by omega))
            refine go_aload_n hK 161 0 dX6_draw_161 rfl rfl ?_
            refine go_get hK 162 fl_X6_78 dX6_draw_162 0 rfl rfl ?_
            have e9 : spDraw F N sd = (sdN (spFam F N (sd, [] ++ [80] ++ [75])).1, (spEnd 0 (spFam F N (sd, [] ++ [80] ++ [75])).2).take ((spEnd 0 (spFam F N (sd, [] ++ [80] ++ [75])).2).length - (1 + rnN (spFam F N (sd, [] ++ [80] ++ [75])).1 4))) := by unfold spDraw; rw [if_neg (by omega), if_pos (by omega)]; rfl
            rw [e9, ← hr21] at hR
            have hz6 : sz15 = ((spEnd 0 (spFam F N (sd, [] ++ [80] ++ [75])).2).length : Int) := hp17.1
            exact go_iret hK hR.1 165 [] dX6_draw_165 (by decide) (by decide) rfl ⟨_, gT16, (by rw [List.length_take, show (((min ((spEnd 0 (spFam F N (sd, [] ++ [80] ++ [75])).2).length - (1 + r20)) (spEnd 0 (spFam F N (sd, [] ++ [80] ++ [75])).2).length) : Nat) : Int) = sz15 - (1 + (r20 : Int)) by omega]), pM_take hp17 (by omega) (by omega), rfl⟩
        · refine go_aload_n hK 59 0 dX6_draw_59 rfl rfl ?_
          refine go_iconst hK 60 dX6_draw_60 ?_
          refine go_sipush hK 61 dX6_draw_61 (by decide) ?_
          refine go_callV (As := [.int (iI 1), .int (iI 255)]) (rest := []) hK hR 64 (ct_X6_lays Z b hp10 1 255 rfl rfl (by simp)) cw_X6_95 gn_X6_lays rfl dX6_draw_64 gSel_all ⟨0, 5, _, _, _, rfl, rfl⟩ rfl (Nat.le_of_ble_eq_true rfl) ⟨(by decide), (by decide)⟩ (fun _ _ _ h => h.elim) (fun v w1 h => ?_)
          obtain ⟨rfl, sz22, gT23, hp24, rfl⟩ := h
          show GO Z X (wM Z b sd sz22 os mo li de fa pl us re pk rd tp gT23 gO gF gE gN gQ gM gC gA gI gU gK gP gS gX gD gH gL) 0 0 67 [(0, .ref (b 0)), (1, .int (iI (F : Int))), (2, .int (iI (N : Int)))] []
          refine go_iconst hK 67 dX6_draw_67 ?_
          refine go_istore_n (lo' := [(3, .int (iI 0)), (0, .ref (b 0)), (1, .int (iI (F : Int))), (2, .int (iI (N : Int)))]) hK 68 3 dX6_draw_68 rfl (by decide) rfl ?_
          refine go_lo [1, 2, 3, 0] rfl ?_
          have lp : ∀ (fu : Nat) (i : Nat) (k : Int) (sz1 : Int) (gT1 : Nat → Int), (i ≤ N) → (k = i) → (pM (drB 256 i (sd, [] ++ [80] ++ [75] ++ [1] ++ [255])).2 sz1 gT1) → N - i < fu → GO Z X (wM Z b ((drB 256 i (sd, [] ++ [80] ++ [75] ++ [1] ++ [255])).1) sz1 os mo li de fa pl us re pk rd tp gT1 gO gF gE gN gQ gM gC gA gI gU gK gP gS gX gD gH gL) 0 0 69 [(0, .ref (b 0)), (1, .int (iI (F : Int))), (2, .int (iI (N : Int))), (3, .int (iI k))] [] := by
            intro fu
            induction fu with
            | zero => intro i k sz1 gT1 hi hk hp1 hm; exact absurd hm (Nat.not_lt_zero _)
            | succ fu ih =>
              intro i k sz1 gT1 hi hk hp1 hm
              have hln : (drB 256 i (sd, [] ++ [80] ++ [75] ++ [1] ++ [255])).2.length = 4 + i := by rw [drB_len]; simp
              have hz1 := hp1.1
              refine go_iload_n hK 69 3 dX6_draw_69 rfl rfl ?_
              refine go_iload_n hK 70 2 dX6_draw_70 rfl rfl ?_
              refine go_icmp_ge (tgt := 91) hK 71 dX6_draw_71 (by decide) (by omega) (by omega) (fun c25 => ?_) (fun c25 => ?_)
              · obtain rfl : i = N := by omega
                have hq : spFam F i (sd, [] ++ [80] ++ [75]) = drB 256 i (sd, [] ++ [80] ++ [75] ++ [1] ++ [255]) := by unfold spFam; rw [if_pos (by omega)]
                rw [← hq] at hp1
                rw [← hq]
                refine go_goto (tgt := 100) hK 91 dX6_draw_91 (by decide) ?_
                refine go_aload_n hK 100 0 dX6_draw_100 rfl rfl ?_
                refine go_iconst hK 101 dX6_draw_101 ?_
                have hfl := spFam_len F i (sd, [] ++ [80] ++ [75]) hN
                simp only [List.length_append, List.length_cons, List.length_nil] at hfl
                have hfg := spFam_ge F i (sd, [] ++ [80] ++ [75])
                simp only [List.length_append, List.length_cons, List.length_nil] at hfg
                refine go_callV (As := [.int (iI 0)]) (rest := []) hK hR 102 (ct_X6_close Z b hp1 (by omega) (by omega)) cw_X6_106 gn_X6_close rfl dX6_draw_102 gSel_all ⟨0, 5, _, _, _, rfl, rfl⟩ rfl (Nat.le_of_ble_eq_true rfl) ⟨(by decide), (by decide)⟩ (fun _ _ _ h => h.elim) (fun v w1 h => ?_)
                obtain ⟨rfl, sz26, gT27, hp28, rfl⟩ := h
                show GO Z X (wM Z b ((spFam F i (sd, [] ++ [80] ++ [75])).1) sz26 os mo li de fa pl us re pk rd tp gT27 gO gF gE gN gQ gM gC gA gI gU gK gP gS gX gD gH gL) 0 0 105 [(0, .ref (b 0)), (1, .int (iI (F : Int))), (2, .int (iI (i : Int))), (3, .int (iI k))] []
                have hel := spEnd_len (0 : Int).toNat (spFam F i (sd, [] ++ [80] ++ [75])).2
                have hz5 := hp28.1
                refine go_iload_n hK 105 1 dX6_draw_105 rfl rfl ?_
                refine go_bipush hK 106 dX6_draw_106 (by decide) ?_
                refine go_icmp_ne (tgt := 127) hK 108 dX6_draw_108 (by decide) (by omega) (by decide) (fun c29 => ?_) (fun c29 => ?_)
                · refine go_iload_n hK 127 1 dX6_draw_127 rfl rfl ?_
                  refine go_bipush hK 128 dX6_draw_128 (by decide) ?_
                  refine go_icmp_ne (tgt := 161) hK 130 dX6_draw_130 (by decide) (by omega) (by decide) (fun c30 => ?_) (fun c30 => ?_)
                  · refine go_aload_n hK 161 0 dX6_draw_161 rfl rfl ?_
                    refine go_get hK 162 fl_X6_78 dX6_draw_162 0 rfl rfl ?_
                    have e9 : spDraw F i sd = ((spFam F i (sd, [] ++ [80] ++ [75])).1, spEnd 0 (spFam F i (sd, [] ++ [80] ++ [75])).2) := by unfold spDraw; rw [if_neg (by omega), if_neg (by omega), if_neg (by omega)]; rfl
                    rw [e9] at hR
                    have hz6 : sz26 = ((spEnd 0 (spFam F i (sd, [] ++ [80] ++ [75])).2).length : Int) := hp28.1
                    exact go_iret hK hR.1 165 [] dX6_draw_165 (by decide) (by decide) rfl ⟨sz26, gT27, (by rw [hz6]), hp28, rfl⟩
                  · refine go_aload_n hK 133 0 dX6_draw_133 rfl rfl ?_
                    refine go_get hK 134 fl_X6_7 dX6_draw_134 0 rfl rfl ?_
                    refine go_aload_n hK 137 0 dX6_draw_137 rfl rfl ?_
                    refine go_get hK 138 fl_X6_78 dX6_draw_138 0 rfl rfl ?_
                    refine go_iconst hK 141 dX6_draw_141 ?_
                    refine go_isub hK 142 dX6_draw_142 ?_
                    refine go_aload_n hK 143 0 dX6_draw_143 rfl rfl ?_
                    refine go_get hK 144 fl_X6_7 dX6_draw_144 0 rfl rfl ?_
                    refine go_aload_n hK 147 0 dX6_draw_147 rfl rfl ?_
                    refine go_get hK 148 fl_X6_78 dX6_draw_148 0 rfl rfl ?_
                    refine go_iconst hK 151 dX6_draw_151 ?_
                    refine go_isub hK 152 dX6_draw_152 ?_
                    refine go_iald hK 153 dX6_draw_153 1 rfl (by omega) (by decide) ?_
                    refine go_iconst hK 154 dX6_draw_154 ?_
                    refine go_iadd hK 155 dX6_draw_155 ?_
                    refine go_sipush hK 156 dX6_draw_156 (by decide) ?_
                    refine go_iand hK 159 dX6_draw_159 (iI_255 _) ?_
                    refine go_iast (w' := (wM Z b ((spFam F i (sd, [] ++ [80] ++ [75])).1) sz26 os mo li de fa pl us re pk rd tp (va_up gT27 (sz26 - 1).toNat (((gT27 (sz26 - 1).toNat) + 1) % 256)) gO gF gE gN gQ gM gC gA gI gU gK gP gS gX gD gH gL)) hK 160 dX6_draw_160 1 rfl (by omega) (by decide) rfl ?_
                    refine go_aload_n hK 161 0 dX6_draw_161 rfl rfl ?_
                    refine go_get hK 162 fl_X6_78 dX6_draw_162 0 rfl rfl ?_
                    have hg9 := hp28.2 (sz26 - 1).toNat (by omega)
                    have e9 : spDraw F i sd = ((spFam F i (sd, [] ++ [80] ++ [75])).1, (spEnd 0 (spFam F i (sd, [] ++ [80] ++ [75])).2).set ((spEnd 0 (spFam F i (sd, [] ++ [80] ++ [75])).2).length - 1) (((spEnd 0 (spFam F i (sd, [] ++ [80] ++ [75])).2).getD ((spEnd 0 (spFam F i (sd, [] ++ [80] ++ [75])).2).length - 1) 0 + 1) % 256)) := by unfold spDraw; rw [if_neg (by omega), if_neg (by omega), if_pos (by omega)]; rfl
                    rw [e9] at hR
                    have hz6 : sz26 = ((spEnd 0 (spFam F i (sd, [] ++ [80] ++ [75])).2).length : Int) := hp28.1
                    have e10 : (sz26 - 1).toNat = (spEnd 0 (spFam F i (sd, [] ++ [80] ++ [75])).2).length - 1 := by omega
                    rw [e10] at hg9
                    exact go_iret hK hR.1 165 [] dX6_draw_165 (by decide) (by decide) rfl ⟨sz26, _, (by rw [List.length_set, hz6]), pM_set hp28 _ _ (by omega) (by rw [e10, hg9]; rfl), rfl⟩
                · refine go_aload_n hK 111 0 dX6_draw_111 rfl rfl ?_
                  refine go_dup hK 112 dX6_draw_112 rfl ?_
                  refine go_get hK 113 fl_X6_78 dX6_draw_113 0 rfl rfl ?_
                  refine go_iconst hK 116 dX6_draw_116 ?_
                  refine go_aload_n hK 117 0 dX6_draw_117 rfl rfl ?_
                  refine go_iconst hK 118 dX6_draw_118 ?_
                  refine go_callV (As := [.int (iI 4)]) (rest := [.int (iI 1), .int (iI sz26), .ref (b 0)]) hK hR 119 (ct_X6_draws Z b 4 (by omega) (by omega)) cw_X6_99 gn_X6_draws rfl dX6_draw_119 gSel_all ⟨0, 5, _, _, _, rfl, rfl⟩ rfl (Nat.le_of_ble_eq_true rfl) ⟨(by decide), (by decide)⟩ (fun _ _ _ h => h.elim) (fun v w1 h => ?_)
                  obtain ⟨r31, hr32, rfl, rfl⟩ := h
                  show GO Z X (wM Z b (sdN ((spFam F i (sd, [] ++ [80] ++ [75])).1)) sz26 os mo li de fa pl us re pk rd tp gT27 gO gF gE gN gQ gM gC gA gI gU gK gP gS gX gD gH gL) 0 0 122 [(0, .ref (b 0)), (1, .int (iI (F : Int))), (2, .int (iI (i : Int))), (3, .int (iI k))] [.int (iI (r31 : Int)), .int (iI 1), .int (iI sz26), .ref (b 0)]
                  have hb_r31 := rnN_lt ((spFam F i (sd, [] ++ [80] ++ [75])).1) (n := 4) (by omega)
                  rw [← hr32] at hb_r31
                  refine go_iadd hK 122 dX6_draw_122 ?_
                  refine go_isub hK 123 dX6_draw_123 ?_
                  refine go_put (w' := (wM Z b (sdN ((spFam F i (sd, [] ++ [80] ++ [75])).1)) (sz26 - (1 + (r31 : Int))) os mo li de fa pl us re pk rd tp gT27 gO gF gE gN gQ gM gC gA gI gU gK gP gS gX gD gH gL)) hK 124 fl_X6_78 fw_X6_2 dX6_draw_124 0 rfl rfl rfl (Nat.le_of_ble_eq_true rfl) rfl ?_
                  refine go_iload_n hK 127 1 dX6_draw_127 rfl rfl ?_
                  refine go_bipush hK 128 dX6_draw_128 (by decide) ?_
                  refine go_icmp_ne (tgt := 161) hK 130 dX6_draw_130 (by decide) (by omega) (by decide) (fun _ => ?_) (fun q => absurd q (by omega))
                  refine go_aload_n hK 161 0 dX6_draw_161 rfl rfl ?_
                  refine go_get hK 162 fl_X6_78 dX6_draw_162 0 rfl rfl ?_
                  have e9 : spDraw F i sd = (sdN (spFam F i (sd, [] ++ [80] ++ [75])).1, (spEnd 0 (spFam F i (sd, [] ++ [80] ++ [75])).2).take ((spEnd 0 (spFam F i (sd, [] ++ [80] ++ [75])).2).length - (1 + rnN (spFam F i (sd, [] ++ [80] ++ [75])).1 4))) := by unfold spDraw; rw [if_neg (by omega), if_pos (by omega)]; rfl
                  rw [e9, ← hr32] at hR
                  have hz6 : sz26 = ((spEnd 0 (spFam F i (sd, [] ++ [80] ++ [75])).2).length : Int) := hp28.1
                  exact go_iret hK hR.1 165 [] dX6_draw_165 (by decide) (by decide) rfl ⟨_, gT27, (by rw [List.length_take, show (((min ((spEnd 0 (spFam F i (sd, [] ++ [80] ++ [75])).2).length - (1 + r31)) (spEnd 0 (spFam F i (sd, [] ++ [80] ++ [75])).2).length) : Nat) : Int) = sz26 - (1 + (r31 : Int)) by omega]), pM_take hp28 (by omega) (by omega), rfl⟩
              · refine go_aload_n hK 74 0 dX6_draw_74 rfl rfl ?_
                refine go_aload_n hK 75 0 dX6_draw_75 rfl rfl ?_
                refine go_sipush hK 76 dX6_draw_76 (by decide) ?_
                refine go_callV (As := [.int (iI 256)]) (rest := [.ref (b 0)]) hK hR 79 (ct_X6_draws Z b 256 (by omega) (by omega)) cw_X6_99 gn_X6_draws rfl dX6_draw_79 gSel_all ⟨0, 5, _, _, _, rfl, rfl⟩ rfl (Nat.le_of_ble_eq_true rfl) ⟨(by decide), (by decide)⟩ (fun _ _ _ h => h.elim) (fun v w1 h => ?_)
                obtain ⟨r33, hr34, rfl, rfl⟩ := h
                show GO Z X (wM Z b (sdN ((drB 256 i (sd, [] ++ [80] ++ [75] ++ [1] ++ [255])).1)) sz1 os mo li de fa pl us re pk rd tp gT1 gO gF gE gN gQ gM gC gA gI gU gK gP gS gX gD gH gL) 0 0 82 [(0, .ref (b 0)), (1, .int (iI (F : Int))), (2, .int (iI (N : Int))), (3, .int (iI k))] [.int (iI (r33 : Int)), .ref (b 0)]
                have hb_r33 := rnN_lt ((drB 256 i (sd, [] ++ [80] ++ [75] ++ [1] ++ [255])).1) (n := 256) (by omega)
                rw [← hr34] at hb_r33
                refine go_callV (As := [.int (iI (r33 : Int))]) (rest := []) hK hR 82 (ct_X6_lay Z b hp1 r33 rfl (by omega)) cw_X6_83 gn_X6_lay rfl dX6_draw_82 gSel_all ⟨0, 5, _, _, _, rfl, rfl⟩ rfl (Nat.le_of_ble_eq_true rfl) ⟨(by decide), (by decide)⟩ (fun _ _ _ h => h.elim) (fun v w1 h => ?_)
                obtain ⟨rfl, sz35, gT36, hp37, rfl⟩ := h
                show GO Z X (wM Z b (sdN ((drB 256 i (sd, [] ++ [80] ++ [75] ++ [1] ++ [255])).1)) sz35 os mo li de fa pl us re pk rd tp gT36 gO gF gE gN gQ gM gC gA gI gU gK gP gS gX gD gH gL) 0 0 85 [(0, .ref (b 0)), (1, .int (iI (F : Int))), (2, .int (iI (N : Int))), (3, .int (iI k))] []
                refine go_iinc (lo' := [(3, .int (iI (k + 1))), (0, .ref (b 0)), (1, .int (iI (F : Int))), (2, .int (iI (N : Int)))]) hK 85 3 3 dX6_draw_85 rfl (by decide) rfl ?_
                subst hr34
                refine go_goto (tgt := 69) hK 88 dX6_draw_88 (by decide) ?_
                refine go_lo [1, 2, 3, 0] rfl ?_
                exact ih (i + 1) (k + 1) sz35 gT36 (by omega) (by omega) hp37 (by omega)
          exact lp _ 0 0 _ _ (by omega) rfl hp24 (Nat.lt_succ_self _)
      · refine go_aload_n hK 37 0 dX6_draw_37 rfl rfl ?_
        refine go_iload_n hK 38 2 dX6_draw_38 rfl rfl ?_
        refine go_callV (As := [.int (iI (N : Int))]) (rest := []) hK hR 39 (ct_X6_deep Z b hp0 N hN) cw_X6_116 gn_X6_deep rfl dX6_draw_39 gSel_all ⟨0, 5, _, _, _, rfl, rfl⟩ rfl (Nat.le_of_ble_eq_true rfl) ⟨(by decide), (by decide)⟩ (fun _ _ _ h => h.elim) (fun v w1 h => ?_)
        obtain ⟨rfl, sz38, gT39, hp40, rfl⟩ := h
        show GO Z X (wM Z b ((spNest N sd).1) sz38 os mo li de fa pl us re pk rd tp gT39 gO gF gE gN gQ gM gC gA gI gU gK gP gS gX gD gH gL) 0 0 42 [(0, .ref (b 0)), (1, .int (iI (F : Int))), (2, .int (iI (N : Int)))] []
        refine go_aload_n hK 42 0 dX6_draw_42 rfl rfl ?_
        refine go_get hK 43 fl_X6_78 dX6_draw_43 0 rfl rfl ?_
        have e9 : spDraw F N sd = spNest N sd := by unfold spDraw; rw [if_pos (by omega)]
        rw [e9] at hR
        have hz6 := hp40.1
        exact go_iret hK hR.1 46 [] dX6_draw_46 (by decide) (by decide) rfl ⟨sz38, gT39, (by rw [hz6]), hp40, rfl⟩
    · refine go_bipush hK 24 dX6_draw_24 (by decide) ?_
      exact go_iret hK hR.1 26 [] dX6_draw_26 (by decide) (by decide) rfl ⟨_, _, (by unfold spDr; rw [if_pos (by omega)]), (by unfold spDr; rw [if_pos (by omega)]; exact hp), (by unfold spDr; rw [if_pos (by omega)])⟩

