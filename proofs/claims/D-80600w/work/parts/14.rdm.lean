/-! the reference: reading, the small methods (printed by gen/m6.py) -/
set_option maxRecDepth 100000
abbrev rm_X6_fails : Room := { frames := 0, cells := 0, slots := 0, locals := 0 }
set_option maxHeartbeats 4000000 in
theorem ct_X6_fails (Z : Gz) (b : Nat → Nat) {sd : Int64} {sz os mo li de fa pl us re pk rd tp : Int} {gT gO gF gE gN gQ gM gC gA gI gU gK gP gS gX gD gH gL : Nat → Int} {c p : Int} : CT Z yX6_fails cX6_fails 3 none rm_X6_fails [.ref (b 0), .int (iI c), .int (iI p)] (wM Z b sd sz os mo li de fa pl us re pk rd tp gT gO gF gE gN gQ gM gC gA gI gU gK gP gS gX gD gH gL) (fun v w => v = none ∧ w = (wM Z b sd sz os mo li de c p us re pk rd tp gT gO gF gE gN gQ gM gC gA gI gU gK gP gS gX gD gH gL)) nopx := by
  refine ct_of (by decide) (Nat.le_of_ble_eq_true rfl) (fun X hK hR => ?_)
  show GO Z X (wM Z b sd sz os mo li de fa pl us re pk rd tp gT gO gF gE gN gQ gM gC gA gI gU gK gP gS gX gD gH gL) 0 0 0 [(0, .ref (b 0)), (1, .int (iI c)), (2, .int (iI p))] []
  refine go_aload_n hK 0 0 dX6_fails_0 rfl rfl ?_
  refine go_iload_n hK 1 1 dX6_fails_1 rfl rfl ?_
  refine go_put (w' := (wM Z b sd sz os mo li de c pl us re pk rd tp gT gO gF gE gN gQ gM gC gA gI gU gK gP gS gX gD gH gL)) hK 2 fl_X6_122 fw_X6_8 dX6_fails_2 0 rfl rfl rfl (Nat.le_of_ble_eq_true rfl) rfl ?_
  refine go_aload_n hK 5 0 dX6_fails_5 rfl rfl ?_
  refine go_iload_n hK 6 2 dX6_fails_6 rfl rfl ?_
  refine go_put (w' := (wM Z b sd sz os mo li de c p us re pk rd tp gT gO gF gE gN gQ gM gC gA gI gU gK gP gS gX gD gH gL)) hK 7 fl_X6_16 fw_X6_9 dX6_fails_7 0 rfl rfl rfl (Nat.le_of_ble_eq_true rfl) rfl ?_
  exact go_vret hK hR.1 10 [] dX6_fails_10 (by decide) (by decide) rfl ⟨rfl, rfl⟩

abbrev hasP (Z : Gz) (t e : Int) (tp fa : Int) (gE : Nat → Int) : Prop := True
abbrev rm_X6_has : Room := { frames := 1, cells := 0, slots := 0, locals := 22 }
set_option maxHeartbeats 4000000 in
theorem ct_X6_has (Z : Gz) (b : Nat → Nat) {sd : Int64} {sz os mo li de fa pl us re pk rd tp : Int} {gT gO gF gE gN gQ gM gC gA gI gU gK gP gS gX gD gH gL : Nat → Int} {q n e : Int} (hfa : fa = 0) (htp : 0 ≤ tp - 1 ∧ tp - 1 < 10) (hE : gE (tp - 1).toNat = e) (hq : 0 ≤ q ∧ q ≤ 3000 ∧ 0 ≤ n ∧ n ≤ 1000000) (he : 0 ≤ e ∧ e ≤ 1000000) : CT Z yX6_has cX6_has 3 (some .boolean) rm_X6_has [.ref (b 0), .int (iI q), .int (iI n)] (wM Z b sd sz os mo li de fa pl us re pk rd tp gT gO gF gE gN gQ gM gC gA gI gU gK gP gS gX gD gH gL) (fun v w => (v = some (.int (iI 1)) ∧ q + n ≤ e ∧ w = (wM Z b sd sz os mo li de fa pl us re pk rd tp gT gO gF gE gN gQ gM gC gA gI gU gK gP gS gX gD gH gL)) ∨ (v = some (.int (iI 0)) ∧ e < q + n ∧ w = (wM Z b sd sz os mo li de 3 e us re pk rd tp gT gO gF gE gN gQ gM gC gA gI gU gK gP gS gX gD gH gL))) nopx := by
  refine ct_of (by decide) (Nat.le_of_ble_eq_true rfl) (fun X hK hR => ?_)
  show GO Z X (wM Z b sd sz os mo li de fa pl us re pk rd tp gT gO gF gE gN gQ gM gC gA gI gU gK gP gS gX gD gH gL) 0 0 0 [(0, .ref (b 0)), (1, .int (iI q)), (2, .int (iI n))] []
  refine go_iload_n hK 0 1 dX6_has_0 rfl rfl ?_
  refine go_iload_n hK 1 2 dX6_has_1 rfl rfl ?_
  refine go_iadd hK 2 dX6_has_2 ?_
  refine go_aload_n hK 3 0 dX6_has_3 rfl rfl ?_
  refine go_get hK 4 fl_X6_23 dX6_has_4 0 rfl rfl ?_
  refine go_aload_n hK 7 0 dX6_has_7 rfl rfl ?_
  refine go_get hK 8 fl_X6_137 dX6_has_8 0 rfl rfl ?_
  refine go_iconst hK 11 dX6_has_11 ?_
  refine go_isub hK 12 dX6_has_12 ?_
  refine go_iald hK 13 dX6_has_13 4 rfl (by omega) (by decide) ?_
  refine go_icmp_le (tgt := 33) hK 14 dX6_has_14 (by decide) (by omega) (by rw [hE]; omega) (fun c1 => ?_) (fun c1 => ?_)
  · obtain rfl : fa = 0 := hfa
    refine go_aload_n hK 33 0 dX6_has_33 rfl rfl ?_
    refine go_get hK 34 fl_X6_122 dX6_has_34 0 rfl rfl ?_
    refine go_if_ne (tgt := 44) hK 37 dX6_has_37 (by decide) (by decide) (fun q => absurd q (by decide)) (fun _ => ?_)
    refine go_iconst hK 40 dX6_has_40 ?_
    refine go_goto (tgt := 45) hK 41 dX6_has_41 (by decide) ?_
    exact go_zret hK hR.1 45 [] dX6_has_45 (by decide) (by decide) rfl rfl (Or.inl ⟨rfl, (by rw [hE] at c1; exact c1), rfl⟩)
  · refine go_aload_n hK 17 0 dX6_has_17 rfl rfl ?_
    refine go_iconst hK 18 dX6_has_18 ?_
    refine go_aload_n hK 19 0 dX6_has_19 rfl rfl ?_
    refine go_get hK 20 fl_X6_23 dX6_has_20 0 rfl rfl ?_
    refine go_aload_n hK 23 0 dX6_has_23 rfl rfl ?_
    refine go_get hK 24 fl_X6_137 dX6_has_24 0 rfl rfl ?_
    refine go_iconst hK 27 dX6_has_27 ?_
    refine go_isub hK 28 dX6_has_28 ?_
    refine go_iald hK 29 dX6_has_29 4 rfl (by omega) (by decide) ?_
    refine go_callV (As := [.int (iI 3), .int (iI (gE (tp - 1).toNat))]) (rest := []) hK hR 30 (ct_X6_fails Z b) cw_X6_131 gn_X6_fails rfl dX6_has_30 gSel_all ⟨0, 5, _, _, _, rfl, rfl⟩ rfl (Nat.le_of_ble_eq_true rfl) ⟨(by decide), (by decide)⟩ (fun _ _ _ h => h.elim) (fun v w1 h => ?_)
    obtain ⟨rfl, rfl⟩ := h
    show GO Z X (wM Z b sd sz os mo li de 3 (gE (tp - 1).toNat) us re pk rd tp gT gO gF gE gN gQ gM gC gA gI gU gK gP gS gX gD gH gL) 0 0 33 [(0, .ref (b 0)), (1, .int (iI q)), (2, .int (iI n))] []
    refine go_aload_n hK 33 0 dX6_has_33 rfl rfl ?_
    refine go_get hK 34 fl_X6_122 dX6_has_34 0 rfl rfl ?_
    refine go_if_ne (tgt := 44) hK 37 dX6_has_37 (by decide) (by decide) (fun _ => ?_) (fun q => absurd q (by decide))
    refine go_iconst hK 44 dX6_has_44 ?_
    exact go_zret hK hR.1 45 [] dX6_has_45 (by decide) (by decide) rfl rfl (Or.inr ⟨rfl, (by rw [hE] at c1; exact c1), (by rw [hE])⟩)

abbrev rm_X6_pays : Room := { frames := 1, cells := 0, slots := 0, locals := 22 }
set_option maxHeartbeats 4000000 in
theorem ct_X6_pays (Z : Gz) (b : Nat → Nat) {sd : Int64} {sz os mo li de fa pl us re pk rd tp : Int} {gT gO gF gE gN gQ gM gC gA gI gU gK gP gS gX gD gH gL : Nat → Int} {q c n : Int} (hfa : fa = 0) (hb1 : 0 ≤ os ∧ os ≤ 100000 ∧ 0 ≤ n ∧ n ≤ 100000 ∧ 0 ≤ us ∧ us ≤ 100000 ∧ 0 ≤ c ∧ c ≤ 100000) (hb2 : 0 ≤ mo ∧ mo ≤ 100000 ∧ 0 ≤ li ∧ li ≤ 100000) : CT Z yX6_pays cX6_pays 4 (some .boolean) rm_X6_pays [.ref (b 0), .int (iI q), .int (iI c), .int (iI n)] (wM Z b sd sz os mo li de fa pl us re pk rd tp gT gO gF gE gN gQ gM gC gA gI gU gK gP gS gX gD gH gL) (fun v w => (v = some (.int (iI 0)) ∧ mo < os + n ∧ w = (wM Z b sd sz os mo li de 11 q us re pk rd tp gT gO gF gE gN gQ gM gC gA gI gU gK gP gS gX gD gH gL)) ∨ (v = some (.int (iI 0)) ∧ os + n ≤ mo ∧ li < us + c ∧ w = (wM Z b sd sz os mo li de 12 q us re pk rd tp gT gO gF gE gN gQ gM gC gA gI gU gK gP gS gX gD gH gL)) ∨ (v = some (.int (iI 1)) ∧ os + n ≤ mo ∧ us + c ≤ li ∧ w = (wM Z b sd sz os mo li de fa pl (us + c) re pk rd tp gT gO gF gE gN gQ gM gC gA gI gU gK gP gS gX gD gH gL))) nopx := by
  refine ct_of (by decide) (Nat.le_of_ble_eq_true rfl) (fun X hK hR => ?_)
  show GO Z X (wM Z b sd sz os mo li de fa pl us re pk rd tp gT gO gF gE gN gQ gM gC gA gI gU gK gP gS gX gD gH gL) 0 0 0 [(0, .ref (b 0)), (1, .int (iI q)), (2, .int (iI c)), (3, .int (iI n))] []
  refine go_aload_n hK 0 0 dX6_pays_0 rfl rfl ?_
  refine go_get hK 1 fl_X6_140 dX6_pays_1 0 rfl rfl ?_
  refine go_iload_n hK 4 3 dX6_pays_4 rfl rfl ?_
  refine go_iadd hK 5 dX6_pays_5 ?_
  refine go_aload_n hK 6 0 dX6_pays_6 rfl rfl ?_
  refine go_get hK 7 fl_X6_146 dX6_pays_7 0 rfl rfl ?_
  refine go_icmp_le (tgt := 23) hK 10 dX6_pays_10 (by decide) (by omega) (by omega) (fun c1 => ?_) (fun c1 => ?_)
  · refine go_aload_n hK 23 0 dX6_pays_23 rfl rfl ?_
    refine go_get hK 24 fl_X6_125 dX6_pays_24 0 rfl rfl ?_
    refine go_iload_n hK 27 2 dX6_pays_27 rfl rfl ?_
    refine go_iadd hK 28 dX6_pays_28 ?_
    refine go_aload_n hK 29 0 dX6_pays_29 rfl rfl ?_
    refine go_get hK 30 fl_X6_128 dX6_pays_30 0 rfl rfl ?_
    refine go_icmp_le (tgt := 46) hK 33 dX6_pays_33 (by decide) (by omega) (by omega) (fun c2 => ?_) (fun c2 => ?_)
    · refine go_aload_n hK 46 0 dX6_pays_46 rfl rfl ?_
      refine go_dup hK 47 dX6_pays_47 rfl ?_
      refine go_get hK 48 fl_X6_125 dX6_pays_48 0 rfl rfl ?_
      refine go_iload_n hK 51 2 dX6_pays_51 rfl rfl ?_
      refine go_iadd hK 52 dX6_pays_52 ?_
      refine go_put (w' := (wM Z b sd sz os mo li de fa pl (us + c) re pk rd tp gT gO gF gE gN gQ gM gC gA gI gU gK gP gS gX gD gH gL)) hK 53 fl_X6_125 fw_X6_10 dX6_pays_53 0 rfl rfl rfl (Nat.le_of_ble_eq_true rfl) rfl ?_
      refine go_aload_n hK 56 0 dX6_pays_56 rfl rfl ?_
      refine go_get hK 57 fl_X6_122 dX6_pays_57 0 rfl rfl ?_
      subst hfa
      refine go_if_ne (tgt := 67) hK 60 dX6_pays_60 (by decide) (by decide) (fun q => absurd q (by decide)) (fun _ => ?_)
      refine go_iconst hK 63 dX6_pays_63 ?_
      refine go_goto (tgt := 68) hK 64 dX6_pays_64 (by decide) ?_
      exact go_zret hK hR.1 68 [] dX6_pays_68 (by decide) (by decide) rfl rfl (Or.inr (Or.inr ⟨rfl, c1, c2, rfl⟩))
    · refine go_aload_n hK 36 0 dX6_pays_36 rfl rfl ?_
      refine go_bipush hK 37 dX6_pays_37 (by decide) ?_
      refine go_iload_n hK 39 1 dX6_pays_39 rfl rfl ?_
      refine go_callV (As := [.int (iI 12), .int (iI q)]) (rest := []) hK hR 40 (ct_X6_fails Z b) cw_X6_131 gn_X6_fails rfl dX6_pays_40 gSel_all ⟨0, 5, _, _, _, rfl, rfl⟩ rfl (Nat.le_of_ble_eq_true rfl) ⟨(by decide), (by decide)⟩ (fun _ _ _ h => h.elim) (fun v w1 h => ?_)
      obtain ⟨rfl, rfl⟩ := h
      show GO Z X (wM Z b sd sz os mo li de 12 q us re pk rd tp gT gO gF gE gN gQ gM gC gA gI gU gK gP gS gX gD gH gL) 0 0 43 [(0, .ref (b 0)), (1, .int (iI q)), (2, .int (iI c)), (3, .int (iI n))] []
      refine go_goto (tgt := 56) hK 43 dX6_pays_43 (by decide) ?_
      refine go_aload_n hK 56 0 dX6_pays_56 rfl rfl ?_
      refine go_get hK 57 fl_X6_122 dX6_pays_57 0 rfl rfl ?_
      refine go_if_ne (tgt := 67) hK 60 dX6_pays_60 (by decide) (by decide) (fun _ => ?_) (fun q => absurd q (by decide))
      refine go_iconst hK 67 dX6_pays_67 ?_
      exact go_zret hK hR.1 68 [] dX6_pays_68 (by decide) (by decide) rfl rfl (Or.inr (Or.inl ⟨rfl, c1, c2, rfl⟩))
  · refine go_aload_n hK 13 0 dX6_pays_13 rfl rfl ?_
    refine go_bipush hK 14 dX6_pays_14 (by decide) ?_
    refine go_iload_n hK 16 1 dX6_pays_16 rfl rfl ?_
    refine go_callV (As := [.int (iI 11), .int (iI q)]) (rest := []) hK hR 17 (ct_X6_fails Z b) cw_X6_131 gn_X6_fails rfl dX6_pays_17 gSel_all ⟨0, 5, _, _, _, rfl, rfl⟩ rfl (Nat.le_of_ble_eq_true rfl) ⟨(by decide), (by decide)⟩ (fun _ _ _ h => h.elim) (fun v w1 h => ?_)
    obtain ⟨rfl, rfl⟩ := h
    show GO Z X (wM Z b sd sz os mo li de 11 q us re pk rd tp gT gO gF gE gN gQ gM gC gA gI gU gK gP gS gX gD gH gL) 0 0 20 [(0, .ref (b 0)), (1, .int (iI q)), (2, .int (iI c)), (3, .int (iI n))] []
    refine go_goto (tgt := 56) hK 20 dX6_pays_20 (by decide) ?_
    refine go_aload_n hK 56 0 dX6_pays_56 rfl rfl ?_
    refine go_get hK 57 fl_X6_122 dX6_pays_57 0 rfl rfl ?_
    refine go_if_ne (tgt := 67) hK 60 dX6_pays_60 (by decide) (by decide) (fun _ => ?_) (fun q => absurd q (by decide))
    refine go_iconst hK 67 dX6_pays_67 ?_
    exact go_zret hK hR.1 68 [] dX6_pays_68 (by decide) (by decide) rfl rfl (Or.inl ⟨rfl, c1, rfl⟩)

abbrev rm_X6_comes : Room := { frames := 0, cells := 0, slots := 0, locals := 0 }
set_option maxHeartbeats 4000000 in
theorem ct_X6_comes (Z : Gz) (b : Nat → Nat) {sd : Int64} {sz os mo li de fa pl us re pk rd tp : Int} {gT gO gF gE gN gQ gM gC gA gI gU gK gP gS gX gD gH gL : Nat → Int} {O : List Nat} (hp : pM O os gO) {c : Int} (cn : Nat) (hc : c = cn) (hl : O.length < 4000) : CT Z yX6_comes cX6_comes 2 none rm_X6_comes [.ref (b 0), .int (iI c)] (wM Z b sd sz os mo li de fa pl us re pk rd tp gT gO gF gE gN gQ gM gC gA gI gU gK gP gS gX gD gH gL) (fun v w => v = none ∧ ∃ (os' : Int) (gO' : Nat → Int), pM (O ++ [cn]) os' gO' ∧ w = (wM Z b sd sz os' mo li de fa pl us re pk rd tp gT gO' gF gE gN gQ gM gC gA gI gU gK gP gS gX gD gH gL)) nopx := by
  refine ct_of (by decide) (Nat.le_of_ble_eq_true rfl) (fun X hK hR => ?_)
  show GO Z X (wM Z b sd sz os mo li de fa pl us re pk rd tp gT gO gF gE gN gQ gM gC gA gI gU gK gP gS gX gD gH gL) 0 0 0 [(0, .ref (b 0)), (1, .int (iI c))] []
  have hp1 := hp.1
  refine go_aload_n hK 0 0 dX6_comes_0 rfl rfl ?_
  refine go_get hK 1 fl_X6_13 dX6_comes_1 0 rfl rfl ?_
  refine go_aload_n hK 4 0 dX6_comes_4 rfl rfl ?_
  refine go_get hK 5 fl_X6_140 dX6_comes_5 0 rfl rfl ?_
  refine go_iload_n hK 8 1 dX6_comes_8 rfl rfl ?_
  refine go_iast (w' := (wM Z b sd sz os mo li de fa pl us re pk rd tp gT (va_up gO os.toNat c) gF gE gN gQ gM gC gA gI gU gK gP gS gX gD gH gL)) hK 9 dX6_comes_9 2 rfl (by omega) (by decide) rfl ?_
  refine go_aload_n hK 10 0 dX6_comes_10 rfl rfl ?_
  refine go_dup hK 11 dX6_comes_11 rfl ?_
  refine go_get hK 12 fl_X6_140 dX6_comes_12 0 rfl rfl ?_
  refine go_iconst hK 15 dX6_comes_15 ?_
  refine go_iadd hK 16 dX6_comes_16 ?_
  refine go_put (w' := (wM Z b sd sz (os + 1) mo li de fa pl us re pk rd tp gT (va_up gO os.toNat c) gF gE gN gQ gM gC gA gI gU gK gP gS gX gD gH gL)) hK 17 fl_X6_140 fw_X6_4 dX6_comes_17 0 rfl rfl rfl (Nat.le_of_ble_eq_true rfl) rfl ?_
  exact go_vret hK hR.1 20 [] dX6_comes_20 (by decide) (by decide) rfl ⟨rfl, _, _, pM_add hp cn hc, rfl⟩

abbrev rm_X6_ends : Room := { frames := 0, cells := 0, slots := 0, locals := 0 }
set_option maxHeartbeats 4000000 in
theorem ct_X6_endsN (Z : Gz) (b : Nat → Nat) {sd : Int64} {sz os mo li de fa pl us re pk rd tp : Int} {gT gO gF gE gN gQ gM gC gA gI gU gK gP gS gX gD gH gL : Nat → Int} {t : Nat} {n : Nat} {o0 bh : Int} (hM : gM t = n) (hn : n < 600) (hQ : gQ t = o0) (ht : 0 < t ∧ t < 10) : CT Z yX6_ends cX6_ends 4 none rm_X6_ends [.ref (b 0), .int (iI (t : Int)), .int (iI bh)] (wM Z b sd sz os mo li de fa pl us re pk rd tp gT gO gF gE gN gQ gM gC gA gI gU gK gP gS gX gD gH gL) (fun v w => v = none ∧ w = (wM Z b sd sz os mo li de fa pl us re pk rd tp gT gO gF gE (va_up gN t bh) gQ (va_up gM t ((n : Int) + 1)) (va_up gC (600 * t + n) (os - o0)) gA gI gU gK gP gS gX gD gH gL)) nopx := by
  refine ct_of (by decide) (Nat.le_of_ble_eq_true rfl) (fun X hK hR => ?_)
  show GO Z X (wM Z b sd sz os mo li de fa pl us re pk rd tp gT gO gF gE gN gQ gM gC gA gI gU gK gP gS gX gD gH gL) 0 0 0 [(0, .ref (b 0)), (1, .int (iI (t : Int))), (2, .int (iI bh))] []
  refine go_aload_n hK 0 0 dX6_ends_0 rfl rfl ?_
  refine go_get hK 1 fl_X6_32 dX6_ends_1 0 rfl rfl ?_
  refine go_iload_n hK 4 1 dX6_ends_4 rfl rfl ?_
  refine go_iald hK 5 dX6_ends_5 7 rfl (by omega) (by decide) ?_
  rw [show gM ((t : Int)).toNat = (n : Int) from hM]
  refine go_istore_n (lo' := [(3, .int (iI (n : Int))), (0, .ref (b 0)), (1, .int (iI (t : Int))), (2, .int (iI bh))]) hK 6 3 dX6_ends_6 rfl (by decide) rfl ?_
  refine go_aload_n hK 7 0 dX6_ends_7 rfl rfl ?_
  refine go_get hK 8 fl_X6_35 dX6_ends_8 0 rfl rfl ?_
  refine go_sipush hK 11 dX6_ends_11 (by decide) ?_
  refine go_iload_n hK 14 1 dX6_ends_14 rfl rfl ?_
  refine go_imul hK 15 dX6_ends_15 ?_
  refine go_iload_n hK 16 3 dX6_ends_16 rfl rfl ?_
  refine go_iadd hK 17 dX6_ends_17 ?_
  refine go_aload_n hK 18 0 dX6_ends_18 rfl rfl ?_
  refine go_get hK 19 fl_X6_140 dX6_ends_19 0 rfl rfl ?_
  refine go_aload_n hK 22 0 dX6_ends_22 rfl rfl ?_
  refine go_get hK 23 fl_X6_29 dX6_ends_23 0 rfl rfl ?_
  refine go_iload_n hK 26 1 dX6_ends_26 rfl rfl ?_
  refine go_iald hK 27 dX6_ends_27 6 rfl (by omega) (by decide) ?_
  rw [show gQ ((t : Int)).toNat = o0 from hQ]
  refine go_isub hK 28 dX6_ends_28 ?_
  refine go_iast (w' := (wM Z b sd sz os mo li de fa pl us re pk rd tp gT gO gF gE gN gQ gM (va_up gC ((600 * (t : Int)) + (n : Int)).toNat (os - o0)) gA gI gU gK gP gS gX gD gH gL)) hK 29 dX6_ends_29 8 rfl (by omega) (by decide) rfl ?_
  refine go_iload_n hK 30 1 dX6_ends_30 rfl rfl ?_
  refine go_if_ne (tgt := 97) hK 31 dX6_ends_31 (by decide) (by omega) (fun _ => ?_) (fun q => absurd q (by omega))
  refine go_aload_n hK 97 0 dX6_ends_97 rfl rfl ?_
  refine go_get hK 98 fl_X6_32 dX6_ends_98 0 rfl rfl ?_
  refine go_iload_n hK 101 1 dX6_ends_101 rfl rfl ?_
  refine go_dup2 hK 102 dX6_ends_102 rfl rfl ?_
  refine go_iald hK 103 dX6_ends_103 7 rfl (by omega) (by decide) ?_
  rw [show gM ((t : Int)).toNat = (n : Int) from hM]
  refine go_iconst hK 104 dX6_ends_104 ?_
  refine go_iadd hK 105 dX6_ends_105 ?_
  refine go_iast (w' := (wM Z b sd sz os mo li de fa pl us re pk rd tp gT gO gF gE gN gQ (va_up gM (t : Int).toNat ((n : Int) + 1)) (va_up gC ((600 * (t : Int)) + (n : Int)).toNat (os - o0)) gA gI gU gK gP gS gX gD gH gL)) hK 106 dX6_ends_106 7 rfl (by omega) (by decide) rfl ?_
  refine go_aload_n hK 107 0 dX6_ends_107 rfl rfl ?_
  refine go_get hK 108 fl_X6_26 dX6_ends_108 0 rfl rfl ?_
  refine go_iload_n hK 111 1 dX6_ends_111 rfl rfl ?_
  refine go_iload_n hK 112 2 dX6_ends_112 rfl rfl ?_
  refine go_iast (w' := (wM Z b sd sz os mo li de fa pl us re pk rd tp gT gO gF gE (va_up gN (t : Int).toNat bh) gQ (va_up gM (t : Int).toNat ((n : Int) + 1)) (va_up gC ((600 * (t : Int)) + (n : Int)).toNat (os - o0)) gA gI gU gK gP gS gX gD gH gL)) hK 113 dX6_ends_113 5 rfl (by omega) (by decide) rfl ?_
  exact go_vret hK hR.1 114 [] dX6_ends_114 (by decide) (by decide) rfl ⟨rfl, rfl⟩

set_option maxHeartbeats 4000000 in
theorem ct_X6_ends0 (Z : Gz) (b : Nat → Nat) {sd : Int64} {sz os mo li de fa pl us re pk rd tp : Int} {gT gO gF gE gN gQ gM gC gA gI gU gK gP gS gX gD gH gL : Nat → Int} {n : Nat} {o0 bh : Int} (hM : gM 0 = n) (hn : n < 600) (hQ : gQ 0 = o0) {q0 i0 u0 : Int} (hA : gA 0 = q0) (hI : gI 0 = i0) (hU : gU 0 = u0) (hq0 : 0 ≤ q0 ∧ q0 < 1200) : CT Z yX6_ends cX6_ends 4 none rm_X6_ends [.ref (b 0), .int (iI 0), .int (iI bh)] (wM Z b sd sz os mo li de fa pl us re pk rd tp gT gO gF gE gN gQ gM gC gA gI gU gK gP gS gX gD gH gL) (fun v w => v = none ∧ w = (wM Z b sd sz os mo li de fa pl us re pk rd tp gT gO gF gE (va_up gN 0 bh) gQ (va_up gM 0 ((n : Int) + 1)) (va_up gC n (os - o0)) gA gI gU (va_up gK n (gT q0.toNat)) (va_up gP n q0) (va_up gS n (os - i0)) (va_up gX n (us - u0)) gD gH gL)) nopx := by
  refine ct_of (by decide) (Nat.le_of_ble_eq_true rfl) (fun X hK hR => ?_)
  show GO Z X (wM Z b sd sz os mo li de fa pl us re pk rd tp gT gO gF gE gN gQ gM gC gA gI gU gK gP gS gX gD gH gL) 0 0 0 [(0, .ref (b 0)), (1, .int (iI 0)), (2, .int (iI bh))] []
  refine go_aload_n hK 0 0 dX6_ends_0 rfl rfl ?_
  refine go_get hK 1 fl_X6_32 dX6_ends_1 0 rfl rfl ?_
  refine go_iload_n hK 4 1 dX6_ends_4 rfl rfl ?_
  refine go_iald hK 5 dX6_ends_5 7 rfl (by omega) (by decide) ?_
  rw [show gM ((0 : Int)).toNat = (n : Int) from hM]
  refine go_istore_n (lo' := [(3, .int (iI (n : Int))), (0, .ref (b 0)), (1, .int (iI 0)), (2, .int (iI bh))]) hK 6 3 dX6_ends_6 rfl (by decide) rfl ?_
  refine go_aload_n hK 7 0 dX6_ends_7 rfl rfl ?_
  refine go_get hK 8 fl_X6_35 dX6_ends_8 0 rfl rfl ?_
  refine go_sipush hK 11 dX6_ends_11 (by decide) ?_
  refine go_iload_n hK 14 1 dX6_ends_14 rfl rfl ?_
  refine go_imul hK 15 dX6_ends_15 ?_
  refine go_iload_n hK 16 3 dX6_ends_16 rfl rfl ?_
  refine go_iadd hK 17 dX6_ends_17 ?_
  refine go_aload_n hK 18 0 dX6_ends_18 rfl rfl ?_
  refine go_get hK 19 fl_X6_140 dX6_ends_19 0 rfl rfl ?_
  refine go_aload_n hK 22 0 dX6_ends_22 rfl rfl ?_
  refine go_get hK 23 fl_X6_29 dX6_ends_23 0 rfl rfl ?_
  refine go_iload_n hK 26 1 dX6_ends_26 rfl rfl ?_
  refine go_iald hK 27 dX6_ends_27 6 rfl (by omega) (by decide) ?_
  rw [show gQ ((0 : Int)).toNat = o0 from hQ]
  refine go_isub hK 28 dX6_ends_28 ?_
  refine go_iast (w' := (wM Z b sd sz os mo li de fa pl us re pk rd tp gT gO gF gE gN gQ gM (va_up gC ((600 * 0) + (n : Int)).toNat (os - o0)) gA gI gU gK gP gS gX gD gH gL)) hK 29 dX6_ends_29 8 rfl (by omega) (by decide) rfl ?_
  refine go_iload_n hK 30 1 dX6_ends_30 rfl rfl ?_
  refine go_if_ne (tgt := 97) hK 31 dX6_ends_31 (by decide) (by decide) (fun q => absurd q (by decide)) (fun _ => ?_)
  refine go_aload_n hK 34 0 dX6_ends_34 rfl rfl ?_
  refine go_get hK 35 fl_X6_47 dX6_ends_35 0 rfl rfl ?_
  refine go_iload_n hK 38 3 dX6_ends_38 rfl rfl ?_
  refine go_aload_n hK 39 0 dX6_ends_39 rfl rfl ?_
  refine go_get hK 40 fl_X6_7 dX6_ends_40 0 rfl rfl ?_
  refine go_aload_n hK 43 0 dX6_ends_43 rfl rfl ?_
  refine go_get hK 44 fl_X6_38 dX6_ends_44 0 rfl rfl ?_
  refine go_iconst hK 47 dX6_ends_47 ?_
  refine go_iald hK 48 dX6_ends_48 9 rfl (by omega) (by decide) ?_
  rw [show gA (0 : Int).toNat = q0 from hA]
  refine go_iald hK 49 dX6_ends_49 1 rfl (by omega) (by decide) ?_
  refine go_iast (w' := (wM Z b sd sz os mo li de fa pl us re pk rd tp gT gO gF gE gN gQ gM (va_up gC ((600 * 0) + (n : Int)).toNat (os - o0)) gA gI gU (va_up gK (n : Int).toNat (gT q0.toNat)) gP gS gX gD gH gL)) hK 50 dX6_ends_50 12 rfl (by omega) (by decide) rfl ?_
  refine go_aload_n hK 51 0 dX6_ends_51 rfl rfl ?_
  refine go_get hK 52 fl_X6_50 dX6_ends_52 0 rfl rfl ?_
  refine go_iload_n hK 55 3 dX6_ends_55 rfl rfl ?_
  refine go_aload_n hK 56 0 dX6_ends_56 rfl rfl ?_
  refine go_get hK 57 fl_X6_38 dX6_ends_57 0 rfl rfl ?_
  refine go_iconst hK 60 dX6_ends_60 ?_
  refine go_iald hK 61 dX6_ends_61 9 rfl (by omega) (by decide) ?_
  rw [show gA (0 : Int).toNat = q0 from hA]
  refine go_iast (w' := (wM Z b sd sz os mo li de fa pl us re pk rd tp gT gO gF gE gN gQ gM (va_up gC ((600 * 0) + (n : Int)).toNat (os - o0)) gA gI gU (va_up gK (n : Int).toNat (gT q0.toNat)) (va_up gP (n : Int).toNat q0) gS gX gD gH gL)) hK 62 dX6_ends_62 13 rfl (by omega) (by decide) rfl ?_
  refine go_aload_n hK 63 0 dX6_ends_63 rfl rfl ?_
  refine go_get hK 64 fl_X6_53 dX6_ends_64 0 rfl rfl ?_
  refine go_iload_n hK 67 3 dX6_ends_67 rfl rfl ?_
  refine go_aload_n hK 68 0 dX6_ends_68 rfl rfl ?_
  refine go_get hK 69 fl_X6_140 dX6_ends_69 0 rfl rfl ?_
  refine go_aload_n hK 72 0 dX6_ends_72 rfl rfl ?_
  refine go_get hK 73 fl_X6_41 dX6_ends_73 0 rfl rfl ?_
  refine go_iconst hK 76 dX6_ends_76 ?_
  refine go_iald hK 77 dX6_ends_77 10 rfl (by omega) (by decide) ?_
  rw [show gI (0 : Int).toNat = i0 from hI]
  refine go_isub hK 78 dX6_ends_78 ?_
  refine go_iast (w' := (wM Z b sd sz os mo li de fa pl us re pk rd tp gT gO gF gE gN gQ gM (va_up gC ((600 * 0) + (n : Int)).toNat (os - o0)) gA gI gU (va_up gK (n : Int).toNat (gT q0.toNat)) (va_up gP (n : Int).toNat q0) (va_up gS (n : Int).toNat (os - i0)) gX gD gH gL)) hK 79 dX6_ends_79 14 rfl (by omega) (by decide) rfl ?_
  refine go_aload_n hK 80 0 dX6_ends_80 rfl rfl ?_
  refine go_get hK 81 fl_X6_56 dX6_ends_81 0 rfl rfl ?_
  refine go_iload_n hK 84 3 dX6_ends_84 rfl rfl ?_
  refine go_aload_n hK 85 0 dX6_ends_85 rfl rfl ?_
  refine go_get hK 86 fl_X6_125 dX6_ends_86 0 rfl rfl ?_
  refine go_aload_n hK 89 0 dX6_ends_89 rfl rfl ?_
  refine go_get hK 90 fl_X6_44 dX6_ends_90 0 rfl rfl ?_
  refine go_iconst hK 93 dX6_ends_93 ?_
  refine go_iald hK 94 dX6_ends_94 11 rfl (by omega) (by decide) ?_
  rw [show gU (0 : Int).toNat = u0 from hU]
  refine go_isub hK 95 dX6_ends_95 ?_
  refine go_iast (w' := (wM Z b sd sz os mo li de fa pl us re pk rd tp gT gO gF gE gN gQ gM (va_up gC ((600 * 0) + (n : Int)).toNat (os - o0)) gA gI gU (va_up gK (n : Int).toNat (gT q0.toNat)) (va_up gP (n : Int).toNat q0) (va_up gS (n : Int).toNat (os - i0)) (va_up gX (n : Int).toNat (us - u0)) gD gH gL)) hK 96 dX6_ends_96 15 rfl (by omega) (by decide) rfl ?_
  refine go_aload_n hK 97 0 dX6_ends_97 rfl rfl ?_
  refine go_get hK 98 fl_X6_32 dX6_ends_98 0 rfl rfl ?_
  refine go_iload_n hK 101 1 dX6_ends_101 rfl rfl ?_
  refine go_dup2 hK 102 dX6_ends_102 rfl rfl ?_
  refine go_iald hK 103 dX6_ends_103 7 rfl (by omega) (by decide) ?_
  rw [show gM ((0 : Int)).toNat = (n : Int) from hM]
  refine go_iconst hK 104 dX6_ends_104 ?_
  refine go_iadd hK 105 dX6_ends_105 ?_
  refine go_iast (w' := (wM Z b sd sz os mo li de fa pl us re pk rd tp gT gO gF gE gN gQ (va_up gM 0 ((n : Int) + 1)) (va_up gC ((600 * 0) + (n : Int)).toNat (os - o0)) gA gI gU (va_up gK (n : Int).toNat (gT q0.toNat)) (va_up gP (n : Int).toNat q0) (va_up gS (n : Int).toNat (os - i0)) (va_up gX (n : Int).toNat (us - u0)) gD gH gL)) hK 106 dX6_ends_106 7 rfl (by omega) (by decide) rfl ?_
  refine go_aload_n hK 107 0 dX6_ends_107 rfl rfl ?_
  refine go_get hK 108 fl_X6_26 dX6_ends_108 0 rfl rfl ?_
  refine go_iload_n hK 111 1 dX6_ends_111 rfl rfl ?_
  refine go_iload_n hK 112 2 dX6_ends_112 rfl rfl ?_
  refine go_iast (w' := (wM Z b sd sz os mo li de fa pl us re pk rd tp gT gO gF gE (va_up gN 0 bh) gQ (va_up gM 0 ((n : Int) + 1)) (va_up gC ((600 * 0) + (n : Int)).toNat (os - o0)) gA gI gU (va_up gK (n : Int).toNat (gT q0.toNat)) (va_up gP (n : Int).toNat q0) (va_up gS (n : Int).toNat (os - i0)) (va_up gX (n : Int).toNat (us - u0)) gD gH gL)) hK 113 dX6_ends_113 5 rfl (by omega) (by decide) rfl ?_
  exact go_vret hK hR.1 114 [] dX6_ends_114 (by decide) (by decide) rfl ⟨rfl, (by rw [show (600 * 0 + (n : Int)).toNat = n by omega]; rfl)⟩

