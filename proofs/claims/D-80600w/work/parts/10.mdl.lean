/-! the reference: its world; its tape; the families (printed by gen/m2.py) -/
set_option maxRecDepth 100000
def wM (Z : Gz) (b : Nat → Nat) (sd : Int64) (sz os mo li de fa pl us re pk rd tp : Int) (gT gO gF gE gN gQ gM gC gA gI gU gK gP gS gX gD gH gL : Nat → Int) : va_W := [((b 0), .inr (5, [.long sd, .ref (b 1), .int (iI sz), .ref (b 2), .int (iI os), .int (iI mo), .int (iI li), .int (iI de), .int (iI fa), .int (iI pl), .int (iI us), .int (iI re), .int (iI pk), .int (iI rd), .int (iI tp), .ref (b 3), .ref (b 4), .ref (b 5), .ref (b 6), .ref (b 7), .ref (b 8), .ref (b 9), .ref (b 10), .ref (b 11), .ref (b 12), .ref (b 13), .ref (b 14), .ref (b 15), .ref (b 16), .ref (b 17), .ref (b 18)])), ((b 1), .inl (zC Z 0, iA 1200 gT)), ((b 2), .inl (zC Z 0, iA 4000 gO)), ((b 3), .inl (zC Z 0, iA 10 gF)), ((b 4), .inl (zC Z 0, iA 10 gE)), ((b 5), .inl (zC Z 0, iA 10 gN)), ((b 6), .inl (zC Z 0, iA 10 gQ)), ((b 7), .inl (zC Z 0, iA 10 gM)), ((b 8), .inl (zC Z 0, iA 6000 gC)), ((b 9), .inl (zC Z 0, iA 10 gA)), ((b 10), .inl (zC Z 0, iA 10 gI)), ((b 11), .inl (zC Z 0, iA 10 gU)), ((b 12), .inl (zC Z 0, iA 600 gK)), ((b 13), .inl (zC Z 0, iA 600 gP)), ((b 14), .inl (zC Z 0, iA 600 gS)), ((b 15), .inl (zC Z 0, iA 600 gX)), ((b 16), .inl (zC Z 0, iA 8 gD)), ((b 17), .inl (zC Z 0, iA 1200 gH)), ((b 18), .inl (zC Z 0, iA 601 gL))]
theorem gSel_nil {ws : va_W} : gSel ws [] (fun w1 => ws ++ w1) := ⟨[], rfl, rfl, fun _ _ _ => by unfold va_rep; rfl⟩
theorem iI_z {r : Int} (h : r = 1 ∨ r = 0) : narrow .boolean (.int (iI r)) = .int (iI r) := by rcases h with rfl | rfl <;> rfl
abbrev rm_X6_in : Room := { frames := 0, cells := 0, slots := 0, locals := 0 }
set_option maxHeartbeats 4000000 in
theorem ct_X6_in (Z : Gz) (v0 lw hg : Int) (h1 : iR v0) (h2 : iR lw) (h3 : iR hg) : CT Z yX6_in cX6_in 6 (some .boolean) rm_X6_in [.long (lI v0), .long (lI lw), .long (lI hg)] [] (fun v w => (∃ r : Int, v = some (.int (iI r)) ∧ (r = 1 ∧ lw ≤ v0 ∧ v0 ≤ hg ∨ r = 0 ∧ ¬ (lw ≤ v0 ∧ v0 ≤ hg))) ∧ w = []) nopx := by
  refine ct_of (by decide) (Nat.le_of_ble_eq_true rfl) (fun X hK hR => ?_)
  show GO Z X [] 0 0 0 [(0, .long (lI v0)), (2, .long (lI lw)), (4, .long (lI hg))] []
  refine go_lload_n hK 0 0 dX6_in_0 rfl rfl ?_
  refine go_lload_n hK 1 2 dX6_in_1 rfl rfl ?_
  refine go_lcmp hK 2 dX6_in_2 (by omega) (by omega) ?_
  refine go_if_lt (tgt := 17) hK 3 dX6_in_3 (by decide) (cmpZ_R _ _) (fun c1 => ?_) (fun c1 => ?_)
  · rw [cmpZ_lt] at c1
    refine go_iconst hK 17 dX6_in_17 ?_
    exact go_zret hK hR.1 18 [] dX6_in_18 (by decide) (by decide) rfl rfl ⟨⟨0, rfl, Or.inr ⟨rfl, by omega⟩⟩, rfl⟩
  · have c1 : ¬ v0 < lw := fun q => absurd (cmpZ_lt.mpr q) (by omega)
    refine go_lload_n hK 6 0 dX6_in_6 rfl rfl ?_
    refine go_lload hK 7 4 dX6_in_7 rfl ?_
    refine go_lcmp hK 9 dX6_in_9 (by omega) (by omega) ?_
    refine go_if_gt (tgt := 17) hK 10 dX6_in_10 (by decide) (cmpZ_R _ _) (fun c2 => ?_) (fun c2 => ?_)
    · rw [cmpZ_gt] at c2
      refine go_iconst hK 17 dX6_in_17 ?_
      exact go_zret hK hR.1 18 [] dX6_in_18 (by decide) (by decide) rfl rfl ⟨⟨0, rfl, Or.inr ⟨rfl, by omega⟩⟩, rfl⟩
    · have c2 : ¬ hg < v0 := fun q => absurd (cmpZ_gt.mpr q) (by omega)
      refine go_iconst hK 13 dX6_in_13 ?_
      refine go_goto (tgt := 18) hK 14 dX6_in_14 (by decide) ?_
      exact go_zret hK hR.1 18 [] dX6_in_18 (by decide) (by decide) rfl rfl ⟨⟨1, rfl, Or.inl ⟨rfl, by omega, by omega⟩⟩, rfl⟩

abbrev rm_X6_lay : Room := { frames := 0, cells := 0, slots := 0, locals := 0 }
set_option maxHeartbeats 4000000 in
theorem ct_X6_lay (Z : Gz) (b : Nat → Nat) {sd : Int64} {sz os mo li de fa pl us re pk rd tp : Int} {gT gO gF gE gN gQ gM gC gA gI gU gK gP gS gX gD gH gL : Nat → Int} {T : List Nat} (hp : pM T sz gT) {c : Int} (cn : Nat) (hc : c = cn) (hl : T.length < 1200) : CT Z yX6_lay cX6_lay 2 none rm_X6_lay [.ref (b 0), .int (iI c)] (wM Z b sd sz os mo li de fa pl us re pk rd tp gT gO gF gE gN gQ gM gC gA gI gU gK gP gS gX gD gH gL) (fun v w => v = none ∧ ∃ (sz' : Int) (gT' : Nat → Int), pM (T ++ [cn]) sz' gT' ∧ w = (wM Z b sd sz' os mo li de fa pl us re pk rd tp gT' gO gF gE gN gQ gM gC gA gI gU gK gP gS gX gD gH gL)) nopx := by
  refine ct_of (by decide) (Nat.le_of_ble_eq_true rfl) (fun X hK hR => ?_)
  show GO Z X (wM Z b sd sz os mo li de fa pl us re pk rd tp gT gO gF gE gN gQ gM gC gA gI gU gK gP gS gX gD gH gL) 0 0 0 [(0, .ref (b 0)), (1, .int (iI c))] []
  have hp1 := hp.1
  refine go_aload_n hK 0 0 dX6_lay_0 rfl rfl ?_
  refine go_get hK 1 fl_X6_7 dX6_lay_1 0 rfl rfl ?_
  refine go_aload_n hK 4 0 dX6_lay_4 rfl rfl ?_
  refine go_get hK 5 fl_X6_78 dX6_lay_5 0 rfl rfl ?_
  refine go_iload_n hK 8 1 dX6_lay_8 rfl rfl ?_
  refine go_iast (w' := (wM Z b sd sz os mo li de fa pl us re pk rd tp (va_up gT sz.toNat c) gO gF gE gN gQ gM gC gA gI gU gK gP gS gX gD gH gL)) hK 9 dX6_lay_9 1 rfl (by omega) (by decide) rfl ?_
  refine go_aload_n hK 10 0 dX6_lay_10 rfl rfl ?_
  refine go_dup hK 11 dX6_lay_11 rfl ?_
  refine go_get hK 12 fl_X6_78 dX6_lay_12 0 rfl rfl ?_
  refine go_iconst hK 15 dX6_lay_15 ?_
  refine go_iadd hK 16 dX6_lay_16 ?_
  refine go_put (w' := (wM Z b sd (sz + 1) os mo li de fa pl us re pk rd tp (va_up gT sz.toNat c) gO gF gE gN gQ gM gC gA gI gU gK gP gS gX gD gH gL)) hK 17 fl_X6_78 fw_X6_2 dX6_lay_17 0 rfl rfl rfl (Nat.le_of_ble_eq_true rfl) rfl ?_
  exact go_vret hK hR.1 20 [] dX6_lay_20 (by decide) (by decide) rfl ⟨rfl, _, _, pM_add hp cn hc, rfl⟩

abbrev rm_X6_lays : Room := { frames := 1, cells := 0, slots := 0, locals := 21 }
set_option maxHeartbeats 4000000 in
theorem ct_X6_lays (Z : Gz) (b : Nat → Nat) {sd : Int64} {sz os mo li de fa pl us re pk rd tp : Int} {gT gO gF gE gN gQ gM gC gA gI gU gK gP gS gX gD gH gL : Nat → Int} {T : List Nat} (hp : pM T sz gT) {c d : Int} (cn dn : Nat) (hc : c = cn) (hd : d = dn) (hl : T.length + 2 ≤ 1200) : CT Z yX6_lays cX6_lays 3 none rm_X6_lays [.ref (b 0), .int (iI c), .int (iI d)] (wM Z b sd sz os mo li de fa pl us re pk rd tp gT gO gF gE gN gQ gM gC gA gI gU gK gP gS gX gD gH gL) (fun v w => v = none ∧ ∃ (sz' : Int) (gT' : Nat → Int), pM (T ++ [cn] ++ [dn]) sz' gT' ∧ w = (wM Z b sd sz' os mo li de fa pl us re pk rd tp gT' gO gF gE gN gQ gM gC gA gI gU gK gP gS gX gD gH gL)) nopx := by
  refine ct_of (by decide) (Nat.le_of_ble_eq_true rfl) (fun X hK hR => ?_)
  show GO Z X (wM Z b sd sz os mo li de fa pl us re pk rd tp gT gO gF gE gN gQ gM gC gA gI gU gK gP gS gX gD gH gL) 0 0 0 [(0, .ref (b 0)), (1, .int (iI c)), (2, .int (iI d))] []
  refine go_aload_n hK 0 0 dX6_lays_0 rfl rfl ?_
  refine go_iload_n hK 1 1 dX6_lays_1 rfl rfl ?_
  refine go_callV (As := [.int (iI c)]) (rest := []) hK hR 2 (ct_X6_lay Z b hp cn hc (by omega)) cw_X6_83 gn_X6_lay rfl dX6_lays_2 gSel_all ⟨0, 5, _, _, _, rfl, rfl⟩ rfl (Nat.le_of_ble_eq_true rfl) ⟨(by decide), (by decide)⟩ (fun _ _ _ h => h.elim) (fun v w1 h => ?_)
  obtain ⟨rfl, sz1, gT2, hp3, rfl⟩ := h
  show GO Z X (wM Z b sd sz1 os mo li de fa pl us re pk rd tp gT2 gO gF gE gN gQ gM gC gA gI gU gK gP gS gX gD gH gL) 0 0 5 [(0, .ref (b 0)), (1, .int (iI c)), (2, .int (iI d))] []
  have hz1 := hp3.1
  refine go_aload_n hK 5 0 dX6_lays_5 rfl rfl ?_
  refine go_iload_n hK 6 2 dX6_lays_6 rfl rfl ?_
  refine go_callV (As := [.int (iI d)]) (rest := []) hK hR 7 (ct_X6_lay Z b hp3 dn hd (by rw [List.length_append]; simp; omega)) cw_X6_83 gn_X6_lay rfl dX6_lays_7 gSel_all ⟨0, 5, _, _, _, rfl, rfl⟩ rfl (Nat.le_of_ble_eq_true rfl) ⟨(by decide), (by decide)⟩ (fun _ _ _ h => h.elim) (fun v w1 h => ?_)
  obtain ⟨rfl, sz4, gT5, hp6, rfl⟩ := h
  show GO Z X (wM Z b sd sz4 os mo li de fa pl us re pk rd tp gT5 gO gF gE gN gQ gM gC gA gI gU gK gP gS gX gD gH gL) 0 0 10 [(0, .ref (b 0)), (1, .int (iI c)), (2, .int (iI d))] []
  exact go_vret hK hR.1 10 [] dX6_lays_10 (by decide) (by decide) rfl ⟨rfl, _, _, hp6, rfl⟩

abbrev rm_X6_sumOf : Room := { frames := 0, cells := 0, slots := 0, locals := 0 }
set_option maxHeartbeats 4000000 in
theorem ct_X6_sumOf (Z : Gz) (b : Nat → Nat) {sd : Int64} {sz os mo li de fa pl us re pk rd tp : Int} {gT gO gF gE gN gQ gM gC gA gI gU gK gP gS gX gD gH gL : Nat → Int} {T : List Nat} (hp : pM T sz gT) {a e : Int} (ha : 0 ≤ a ∧ a ≤ e ∧ e ≤ T.length) (hl : T.length ≤ 1200) : CT Z yX6_sumOf cX6_sumOf 5 (some .int) rm_X6_sumOf [.ref (b 0), .int (iI a), .int (iI e)] (wM Z b sd sz os mo li de fa pl us re pk rd tp gT gO gF gE gN gQ gM gC gA gI gU gK gP gS gX gD gH gL) (fun v w => v = some (.int (iI ((smN T a.toNat (e - a).toNat % 256 : Nat) : Int))) ∧ w = (wM Z b sd sz os mo li de fa pl us re pk rd tp gT gO gF gE gN gQ gM gC gA gI gU gK gP gS gX gD gH gL)) nopx := by
  refine ct_of (by decide) (Nat.le_of_ble_eq_true rfl) (fun X hK hR => ?_)
  show GO Z X (wM Z b sd sz os mo li de fa pl us re pk rd tp gT gO gF gE gN gQ gM gC gA gI gU gK gP gS gX gD gH gL) 0 0 0 [(0, .ref (b 0)), (1, .int (iI a)), (2, .int (iI e))] []
  refine go_iconst hK 0 dX6_sumOf_0 ?_
  refine go_istore_n (lo' := [(3, .int (iI 0)), (0, .ref (b 0)), (1, .int (iI a)), (2, .int (iI e))]) hK 1 3 dX6_sumOf_1 rfl (by decide) rfl ?_
  refine go_iload_n hK 2 1 dX6_sumOf_2 rfl rfl ?_
  refine go_istore (lo' := [(4, .int (iI a)), (3, .int (iI 0)), (0, .ref (b 0)), (1, .int (iI a)), (2, .int (iI e))]) hK 3 4 dX6_sumOf_3 (by decide) rfl ?_
  refine go_lo (lo' := [(0, .ref (b 0)), (1, .int (iI a)), (2, .int (iI e)), (3, .int (iI 0)), (4, .int (iI a))]) [2, 3, 4, 1, 0] rfl ?_
  have lp : ∀ (fu : Nat) (i : Nat) (s : Int) (k : Int), (i ≤ (e - a).toNat) → (k = a + i) → (s = smA gT a.toNat i) → (e - a).toNat - i < fu → GO Z X (wM Z b sd sz os mo li de fa pl us re pk rd tp gT gO gF gE gN gQ gM gC gA gI gU gK gP gS gX gD gH gL) 0 0 5 [(0, .ref (b 0)), (1, .int (iI a)), (2, .int (iI e)), (3, .int (iI s)), (4, .int (iI k))] [] := by
    intro fu
    induction fu with
    | zero => intro i s k hi hk hs hm; exact absurd hm (Nat.not_lt_zero _)
    | succ fu ih =>
      intro i s k hi hk hs hm
      refine go_iload hK 5 4 dX6_sumOf_5 rfl ?_
      refine go_iload_n hK 7 2 dX6_sumOf_7 rfl rfl ?_
      refine go_icmp_ge (tgt := 27) hK 8 dX6_sumOf_8 (by decide) (by omega) (by omega) (fun c1 => ?_) (fun c1 => ?_)
      · refine go_iload_n hK 27 3 dX6_sumOf_27 rfl rfl ?_
        refine go_sipush hK 28 dX6_sumOf_28 (by decide) ?_
        refine go_iand hK 31 dX6_sumOf_31 (iI_255 _) ?_
        exact go_iret hK hR.1 32 [] dX6_sumOf_32 (by decide) (by decide) rfl ⟨by rw [hs, show i = (e - a).toNat by omega, smA_M hp a.toNat _ (by omega)]; rfl, rfl⟩
      · refine go_iload_n hK 11 3 dX6_sumOf_11 rfl rfl ?_
        refine go_aload_n hK 12 0 dX6_sumOf_12 rfl rfl ?_
        refine go_get hK 13 fl_X6_7 dX6_sumOf_13 0 rfl rfl ?_
        refine go_iload hK 16 4 dX6_sumOf_16 rfl ?_
        refine go_iald hK 18 dX6_sumOf_18 1 rfl (by omega) (by decide) ?_
        refine go_iadd hK 19 dX6_sumOf_19 ?_
        refine go_istore_n (lo' := [(3, .int (iI (s + (gT k.toNat)))), (0, .ref (b 0)), (1, .int (iI a)), (2, .int (iI e)), (4, .int (iI k))]) hK 20 3 dX6_sumOf_20 rfl (by decide) rfl ?_
        refine go_iinc (lo' := [(4, .int (iI (k + 1))), (3, .int (iI (s + (gT k.toNat)))), (0, .ref (b 0)), (1, .int (iI a)), (2, .int (iI e))]) hK 21 4 4 dX6_sumOf_21 rfl (by decide) rfl ?_
        refine go_goto (tgt := 5) hK 24 dX6_sumOf_24 (by decide) ?_
        refine go_lo [2, 3, 4, 1, 0] rfl ?_
        exact ih (i + 1) (s + (gT k.toNat)) (k + 1) (by omega) (by omega) (by rw [hs, show k.toNat = a.toNat + i by omega]; rfl) (by omega)
  exact lp _ 0 0 a (by omega) (by omega) rfl (Nat.lt_succ_self _)

abbrev rm_X6_draws : Room := { frames := 0, cells := 0, slots := 0, locals := 0 }
set_option maxHeartbeats 4000000 in
theorem ct_X6_draws (Z : Gz) (b : Nat → Nat) {sd : Int64} {sz os mo li de fa pl us re pk rd tp : Int} {gT gO gF gE gN gQ gM gC gA gI gU gK gP gS gX gD gH gL : Nat → Int} (n : Nat) (h0 : 0 < n) (h1 : n < 2147483648) : CT Z yX6_draws cX6_draws 2 (some .int) rm_X6_draws [.ref (b 0), .int (iI (n : Int))] (wM Z b sd sz os mo li de fa pl us re pk rd tp gT gO gF gE gN gQ gM gC gA gI gU gK gP gS gX gD gH gL) (fun v w => ∃ r : Nat, r = rnN sd n ∧ v = some (.int (iI (r : Int))) ∧ w = (wM Z b (sdN sd) sz os mo li de fa pl us re pk rd tp gT gO gF gE gN gQ gM gC gA gI gU gK gP gS gX gD gH gL)) nopx := by
  refine ct_of (by decide) (Nat.le_of_ble_eq_true rfl) (fun X hK hR => ?_)
  show GO Z X (wM Z b sd sz os mo li de fa pl us re pk rd tp gT gO gF gE gN gQ gM gC gA gI gU gK gP gS gX gD gH gL) 0 0 0 [(0, .ref (b 0)), (1, .int (iI (n : Int)))] []
  refine go_aload_n hK 0 0 dX6_draws_0 rfl rfl ?_
  refine go_aload_n hK 1 0 dX6_draws_1 rfl rfl ?_
  refine go_get hK 2 fl_X6_68 dX6_draws_2 0 rfl rfl ?_
  refine go_ldc2 hK 5 q648 dX6_draws_5 rfl ?_
  refine go_lmul hK 8 dX6_draws_8 ?_
  refine go_ldc2 hK 9 q649 dX6_draws_9 rfl ?_
  refine go_ladd hK 12 dX6_draws_12 ?_
  show GO Z X (wM Z b sd sz os mo li de fa pl us re pk rd tp gT gO gF gE gN gQ gM gC gA gI gU gK gP gS gX gD gH gL) 0 0 13 [(0, .ref (b 0)), (1, .int (iI (n : Int)))] [.long (sdN sd), .ref (b 0)]
  refine go_put (w' := (wM Z b (sdN sd) sz os mo li de fa pl us re pk rd tp gT gO gF gE gN gQ gM gC gA gI gU gK gP gS gX gD gH gL)) hK 13 fl_X6_68 fw_X6_0 dX6_draws_13 0 rfl rfl rfl (Nat.le_of_ble_eq_true rfl) rfl ?_
  refine go_aload_n hK 16 0 dX6_draws_16 rfl rfl ?_
  refine go_get hK 17 fl_X6_68 dX6_draws_17 0 rfl rfl ?_
  refine go_bipush hK 20 dX6_draws_20 (by decide) ?_
  refine go_lushr hK 22 dX6_draws_22 ?_
  refine go_iload_n hK 23 1 dX6_draws_23 rfl rfl ?_
  refine go_i2l hK 24 dX6_draws_24 (by omega) ?_
  refine go_lrem hK 25 dX6_draws_25 (fun q => by have := congrArg Int64.toInt q; rw [lI_int ⟨by omega, by omega⟩] at this; simp at this; omega) ?_
  refine go_l2i hK 26 dX6_draws_26 (rn_ok sd ⟨by omega, by omega⟩) ?_
  rw [rn_N]
  exact go_iret hK hR.1 27 [] dX6_draws_27 (by decide) (by decide) rfl ⟨_, rfl, rfl, rfl⟩

abbrev rm_X6_close : Room := { frames := 1, cells := 0, slots := 0, locals := 24 }
set_option maxHeartbeats 4000000 in
theorem ct_X6_close (Z : Gz) (b : Nat → Nat) {sd : Int64} {sz os mo li de fa pl us re pk rd tp : Int} {gT gO gF gE gN gQ gM gC gA gI gU gK gP gS gX gD gH gL : Nat → Int} {T : List Nat} (hp : pM T sz gT) {a : Int} (ha : 0 ≤ a ∧ a ≤ T.length) (hl : T.length + 2 ≤ 1200) : CT Z yX6_close cX6_close 2 none rm_X6_close [.ref (b 0), .int (iI a)] (wM Z b sd sz os mo li de fa pl us re pk rd tp gT gO gF gE gN gQ gM gC gA gI gU gK gP gS gX gD gH gL) (fun v w => v = none ∧ ∃ (sz' : Int) (gT' : Nat → Int), pM (spEnd a.toNat T) sz' gT' ∧ w = (wM Z b sd sz' os mo li de fa pl us re pk rd tp gT' gO gF gE gN gQ gM gC gA gI gU gK gP gS gX gD gH gL)) nopx := by
  refine ct_of (by decide) (Nat.le_of_ble_eq_true rfl) (fun X hK hR => ?_)
  show GO Z X (wM Z b sd sz os mo li de fa pl us re pk rd tp gT gO gF gE gN gQ gM gC gA gI gU gK gP gS gX gD gH gL) 0 0 0 [(0, .ref (b 0)), (1, .int (iI a))] []
  refine go_aload_n hK 0 0 dX6_close_0 rfl rfl ?_
  refine go_iconst hK 1 dX6_close_1 ?_
  refine go_callV (As := [.int (iI 0)]) (rest := []) hK hR 2 (ct_X6_lay Z b hp 0 (by omega) (by omega)) cw_X6_83 gn_X6_lay rfl dX6_close_2 gSel_all ⟨0, 5, _, _, _, rfl, rfl⟩ rfl (Nat.le_of_ble_eq_true rfl) ⟨(by decide), (by decide)⟩ (fun _ _ _ h => h.elim) (fun v w1 h => ?_)
  obtain ⟨rfl, sz1, gT2, hp3, rfl⟩ := h
  show GO Z X (wM Z b sd sz1 os mo li de fa pl us re pk rd tp gT2 gO gF gE gN gQ gM gC gA gI gU gK gP gS gX gD gH gL) 0 0 5 [(0, .ref (b 0)), (1, .int (iI a))] []
  refine go_aload_n hK 5 0 dX6_close_5 rfl rfl ?_
  refine go_aload_n hK 6 0 dX6_close_6 rfl rfl ?_
  refine go_iload_n hK 7 1 dX6_close_7 rfl rfl ?_
  refine go_aload_n hK 8 0 dX6_close_8 rfl rfl ?_
  refine go_get hK 9 fl_X6_78 dX6_close_9 0 rfl rfl ?_
  have hz1 := hp3.1
  rw [List.length_append] at hz1; simp at hz1
  refine go_callV (As := [.int (iI a), .int (iI sz1)]) (rest := [.ref (b 0)]) hK hR 12 (ct_X6_sumOf Z b hp3 (by rw [List.length_append]; simp; omega) (by rw [List.length_append]; simp; omega)) cw_X6_87 gn_X6_sumOf rfl dX6_close_12 gSel_all ⟨0, 5, _, _, _, rfl, rfl⟩ rfl (Nat.le_of_ble_eq_true rfl) ⟨(by decide), (by decide)⟩ (fun _ _ _ h => h.elim) (fun v w1 h => ?_)
  obtain ⟨rfl, rfl⟩ := h
  show GO Z X (wM Z b sd sz1 os mo li de fa pl us re pk rd tp gT2 gO gF gE gN gQ gM gC gA gI gU gK gP gS gX gD gH gL) 0 0 15 [(0, .ref (b 0)), (1, .int (iI a))] [.int (iI ((smN (T ++ [0]) a.toNat (sz1 - a).toNat % 256 : Nat) : Int)), .ref (b 0)]
  refine go_callV (As := [.int (iI ((smN (T ++ [0]) a.toNat (sz1 - a).toNat % 256 : Nat) : Int))]) (rest := []) hK hR 15 (ct_X6_lay Z b hp3 (smN (T ++ [0]) a.toNat (sz1 - a).toNat % 256) rfl (by rw [List.length_append]; simp; omega)) cw_X6_83 gn_X6_lay rfl dX6_close_15 gSel_all ⟨0, 5, _, _, _, rfl, rfl⟩ rfl (Nat.le_of_ble_eq_true rfl) ⟨(by decide), (by decide)⟩ (fun _ _ _ h => h.elim) (fun v w1 h => ?_)
  obtain ⟨rfl, sz4, gT5, hp6, rfl⟩ := h
  show GO Z X (wM Z b sd sz4 os mo li de fa pl us re pk rd tp gT5 gO gF gE gN gQ gM gC gA gI gU gK gP gS gX gD gH gL) 0 0 18 [(0, .ref (b 0)), (1, .int (iI a))] []
  exact go_vret hK hR.1 18 [] dX6_close_18 (by decide) (by decide) rfl ⟨rfl, _, _, by unfold spEnd; rw [List.length_append]; simp only [List.length_cons, List.length_nil]; rw [show (sz1 - a).toNat = T.length + (0 + 1) - a.toNat by omega] at hp6; exact hp6, rfl⟩

