/-! the reference: packs' heads and ends (printed by gen/m8.py) -/
set_option maxRecDepth 100000
abbrev rm_X6_closes : Room := { frames := 2, cells := 0, slots := 0, locals := 44 }
set_option maxHeartbeats 8000000 in
theorem ct_X6_closes (Z : Gz) (b : Nat → Nat) {sd : Int64} {sz os pl re pk rd : Int} {gT gO gF gE gN gQ gM gC gA gI gU gK gP gS gX gD gH gL : Nat → Int} {T O C : List Nat} {u M L Dp t f e q o0 nP oP qP : Nat} {iP uP : Int} (hRS : RS T O u M L Dp sz os gT gO) (hSC : SCp T O C u t f e q o0 os gF gE gQ gM gC gA gI gU) (hpar : 0 < t → gM (t - 1) = (nP : Int) ∧ nP < 600 ∧ gQ (t - 1) = (oP : Int) ∧ gA (t - 1) = (qP : Int) ∧ gI (t - 1) = iP ∧ gU (t - 1) = uP ∧ qP < 1200) : CT Z yX6_closes cX6_closes 3 none rm_X6_closes [.ref (b 0), .int (iI (t : Int)), .int (iI (q : Int))] (wM Z b sd sz os (M : Int) (L : Int) (Dp : Int) 0 pl (u : Int) re pk rd ((t : Int) + 1) gT gO gF gE gN gQ gM gC gA gI gU gK gP gS gX gD gH gL) (fun v w => v = none ∧ (match spCl T f e q with | some (k, p) => mErr Z b sd sz os (M : Int) (L : Int) (Dp : Int) 0 pl (u : Int) re pk rd ((t : Int) + 1) gT gO gF gE gN gQ gM gC gA gI gU gK gP gS gX gD gH gL k p O u w | none => (t = 0 ∧ w = (wM Z b sd sz os (M : Int) (L : Int) (Dp : Int) 0 pl (u : Int) re pk rd 0 gT gO gF gE gN gQ gM gC gA gI gU gK gP gS gX gD gH gL)) ∨ (0 < t ∧ w = (wM Z b sd sz os (M : Int) (L : Int) (Dp : Int) 0 pl (u : Int) re pk rd (t : Int) gT gO gF gE (va_up gN (t - 1) ((q + 2 : Nat) : Int)) gQ (va_up gM (t - 1) ((nP : Int) + 1)) (va_up gC (600 * (t - 1) + nP) (os - (oP : Int))) gA gI gU (eK (t - 1) gK nP (gT qP)) (eK (t - 1) gP nP (qP : Int)) (eK (t - 1) gS nP (os - iP)) (eK (t - 1) gX nP ((u : Int) - uP)) gD gH gL)))) nopx := by
  refine ct_of (by decide) (Nat.le_of_ble_eq_true rfl) (fun X hK hR => ?_)
  show GO Z X (wM Z b sd sz os (M : Int) (L : Int) (Dp : Int) 0 pl (u : Int) re pk rd ((t : Int) + 1) gT gO gF gE gN gQ gM gC gA gI gU gK gP gS gX gD gH gL) 0 0 0 [(0, .ref (b 0)), (1, .int (iI (t : Int))), (2, .int (iI (q : Int)))] []
  obtain ⟨hT, hTl, hT8, hO, hOM, hM4, huL, hL2, hD8⟩ := hRS
  obtain ⟨ht8, hF, hE, hQ, hM, hC, hfq, hqe, heT, ho0, hA, hI, hU⟩ := hSC
  have hOl := hO.1
  have hE' : gE ((t : Int) + 1 - 1).toNat = (e : Int) := by rw [show ((t : Int) + 1 - 1).toNat = t by omega]; exact hE
  refine go_aload_n hK 0 0 dX6_closes_0 rfl rfl ?_
  refine go_iload_n hK 1 2 dX6_closes_1 rfl rfl ?_
  refine go_iconst hK 2 dX6_closes_2 ?_
  refine go_callV (As := [.int (iI (q : Int)), .int (iI 2)]) (rest := []) hK hR 3 (ct_X6_has Z b rfl (by omega) hE' (by omega) (by omega)) cw_X6_149 gn_X6_has rfl dX6_closes_3 gSel_all ⟨0, 5, _, _, _, rfl, rfl⟩ rfl (Nat.le_of_ble_eq_true rfl) ⟨(by decide), (by decide)⟩ (fun _ _ _ h => h.elim) (fun v w1 h => ?_)
  rcases h with ⟨rfl, ch1, rfl⟩ | ⟨rfl, ch1, rfl⟩
  · show GO Z X (wM Z b sd sz os (M : Int) (L : Int) (Dp : Int) 0 pl (u : Int) re pk rd ((t : Int) + 1) gT gO gF gE gN gQ gM gC gA gI gU gK gP gS gX gD gH gL) 0 0 6 [(0, .ref (b 0)), (1, .int (iI (t : Int))), (2, .int (iI (q : Int)))] [.int (iI 1)]
    refine go_if_ne (tgt := 10) hK 6 dX6_closes_6 (by decide) (by decide) (fun _ => ?_) (fun q => absurd q (by decide))
    refine go_aload_n hK 10 0 dX6_closes_10 rfl rfl ?_
    refine go_get hK 11 fl_X6_7 dX6_closes_11 0 rfl rfl ?_
    refine go_iload_n hK 14 2 dX6_closes_14 rfl rfl ?_
    refine go_iconst hK 15 dX6_closes_15 ?_
    refine go_iadd hK 16 dX6_closes_16 ?_
    refine go_iald hK 17 dX6_closes_17 1 rfl (by omega) (by decide) ?_
    have hb2 := hT8 (q + 1)
    rw [show gT ((q : Int) + 1).toNat = ((T.getD (q + 1) 0 : Nat) : Int) from hT.2 (q + 1) (by omega)]
    refine go_aload_n hK 18 0 dX6_closes_18 rfl rfl ?_
    refine go_aload_n hK 19 0 dX6_closes_19 rfl rfl ?_
    refine go_get hK 20 fl_X6_20 dX6_closes_20 0 rfl rfl ?_
    refine go_iload_n hK 23 1 dX6_closes_23 rfl rfl ?_
    refine go_iald hK 24 dX6_closes_24 3 rfl (by omega) (by decide) ?_
    rw [show gF (t : Int).toNat = (f : Int) from hF]
    refine go_iload_n hK 25 2 dX6_closes_25 rfl rfl ?_
    refine go_iconst hK 26 dX6_closes_26 ?_
    refine go_iadd hK 27 dX6_closes_27 ?_
    refine go_callV (As := [.int (iI (f : Int)), .int (iI ((q : Int) + 1))]) (rest := [.int (iI ((T.getD (q + 1) 0 : Nat) : Int))]) hK hR 28 (ct_X6_sumOf Z b hT (by omega) hTl) cw_X6_87 gn_X6_sumOf rfl dX6_closes_28 gSel_all ⟨0, 5, _, _, _, rfl, rfl⟩ rfl (Nat.le_of_ble_eq_true rfl) ⟨(by decide), (by decide)⟩ (fun _ _ _ h => h.elim) (fun v w1 h => ?_)
    obtain ⟨rfl, rfl⟩ := h
    show GO Z X (wM Z b sd sz os (M : Int) (L : Int) (Dp : Int) 0 pl (u : Int) re pk rd ((t : Int) + 1) gT gO gF gE gN gQ gM gC gA gI gU gK gP gS gX gD gH gL) 0 0 31 [(0, .ref (b 0)), (1, .int (iI (t : Int))), (2, .int (iI (q : Int)))] [.int (iI ((smN T (f : Int).toNat ((q : Int) + 1 - (f : Int)).toNat % 256 : Nat) : Int)), .int (iI ((T.getD (q + 1) 0 : Nat) : Int))]
    rw [show (f : Int).toNat = f from rfl, show ((q : Int) + 1 - (f : Int)).toNat = q + 1 - f by omega]
    have hb9 := Nat.mod_lt (smN T f (q + 1 - f)) (show 0 < 256 by omega)
    refine go_icmp_eq (tgt := 46) hK 31 dX6_closes_31 (by decide) (by omega) (by omega) (fun c3 => ?_) (fun c3 => ?_)
    · refine go_iload_n hK 46 2 dX6_closes_46 rfl rfl ?_
      refine go_iconst hK 47 dX6_closes_47 ?_
      refine go_iadd hK 48 dX6_closes_48 ?_
      refine go_aload_n hK 49 0 dX6_closes_49 rfl rfl ?_
      refine go_get hK 50 fl_X6_23 dX6_closes_50 0 rfl rfl ?_
      refine go_iload_n hK 53 1 dX6_closes_53 rfl rfl ?_
      refine go_iald hK 54 dX6_closes_54 4 rfl (by omega) (by decide) ?_
      rw [show gE (t : Int).toNat = (e : Int) from hE]
      refine go_icmp_ge (tgt := 70) hK 55 dX6_closes_55 (by decide) (by omega) (by omega) (fun c4 => ?_) (fun c4 => ?_)
      · have hn9 : spCl T f e q = none := by unfold spCl; rw [if_neg (by omega), if_neg (by omega), if_neg (by omega)]
        refine go_aload_n hK 70 0 dX6_closes_70 rfl rfl ?_
        refine go_dup hK 71 dX6_closes_71 rfl ?_
        refine go_get hK 72 fl_X6_137 dX6_closes_72 0 rfl rfl ?_
        refine go_iconst hK 75 dX6_closes_75 ?_
        refine go_isub hK 76 dX6_closes_76 ?_
        refine go_put (w' := (wM Z b sd sz os (M : Int) (L : Int) (Dp : Int) 0 pl (u : Int) re pk rd (((t : Int) + 1) - 1) gT gO gF gE gN gQ gM gC gA gI gU gK gP gS gX gD gH gL)) hK 77 fl_X6_137 fw_X6_14 dX6_closes_77 0 rfl rfl rfl (Nat.le_of_ble_eq_true rfl) rfl ?_
        refine go_aload_n hK 80 0 dX6_closes_80 rfl rfl ?_
        refine go_get hK 81 fl_X6_137 dX6_closes_81 0 rfl rfl ?_
        refine go_if_le (tgt := 100) hK 84 dX6_closes_84 (by decide) (by omega) (fun c5 => ?_) (fun c5 => ?_)
        · obtain rfl : t = 0 := by omega
          exact go_vret hK hR.1 100 [] dX6_closes_100 (by decide) (by decide) rfl ⟨rfl, (by rw [hn9]; exact Or.inl ⟨rfl, rfl⟩)⟩
        · obtain ⟨g1, g2, g3, g4, g5, g6, g7⟩ := hpar (by omega)
          refine go_aload_n hK 87 0 dX6_closes_87 rfl rfl ?_
          refine go_aload_n hK 88 0 dX6_closes_88 rfl rfl ?_
          refine go_get hK 89 fl_X6_137 dX6_closes_89 0 rfl rfl ?_
          refine go_iconst hK 92 dX6_closes_92 ?_
          refine go_isub hK 93 dX6_closes_93 ?_
          refine go_iload_n hK 94 2 dX6_closes_94 rfl rfl ?_
          refine go_iconst hK 95 dX6_closes_95 ?_
          refine go_iadd hK 96 dX6_closes_96 ?_
          rw [show (t : Int) + 1 - 1 - 1 = ((t - 1 : Nat) : Int) by omega, show (t : Int) + 1 - 1 = (t : Int) by omega]
          refine go_callV (As := [.int (iI ((t - 1 : Nat) : Int)), .int (iI ((q : Int) + 2))]) (rest := []) hK hR 97 (ct_X6_ends Z b (t := t - 1) (q0 := qP) g1 g2 g3 (by omega) g4 g5 g6 g7) cw_X6_163 gn_X6_ends rfl dX6_closes_97 gSel_all ⟨0, 5, _, _, _, rfl, rfl⟩ rfl (Nat.le_of_ble_eq_true rfl) ⟨(by decide), (by decide)⟩ (fun _ _ _ h => h.elim) (fun v w1 h => ?_)
          obtain ⟨rfl, rfl⟩ := h
          show GO Z X (wM Z b sd sz os (M : Int) (L : Int) (Dp : Int) 0 pl (u : Int) re pk rd (t : Int) gT gO gF gE (va_up gN (t - 1) ((q : Int) + 2)) gQ (va_up gM (t - 1) ((nP : Int) + 1)) (va_up gC (600 * (t - 1) + nP) (os - (oP : Int))) gA gI gU (eK (t - 1) gK nP (gT qP)) (eK (t - 1) gP nP (qP : Int)) (eK (t - 1) gS nP (os - iP)) (eK (t - 1) gX nP ((u : Int) - uP)) gD gH gL) 0 0 100 [(0, .ref (b 0)), (1, .int (iI (t : Int))), (2, .int (iI (q : Int)))] []
          exact go_vret hK hR.1 100 [] dX6_closes_100 (by decide) (by decide) rfl ⟨rfl, (by rw [hn9]; exact Or.inr ⟨by omega, rfl⟩)⟩
      · refine go_aload_n hK 58 0 dX6_closes_58 rfl rfl ?_
        refine go_bipush hK 59 dX6_closes_59 (by decide) ?_
        refine go_iload_n hK 61 2 dX6_closes_61 rfl rfl ?_
        refine go_iconst hK 62 dX6_closes_62 ?_
        refine go_iadd hK 63 dX6_closes_63 ?_
        refine go_callV (As := [.int (iI 10), .int (iI ((q : Int) + 2))]) (rest := []) hK hR 64 (ct_X6_fails Z b) cw_X6_131 gn_X6_fails rfl dX6_closes_64 gSel_all ⟨0, 5, _, _, _, rfl, rfl⟩ rfl (Nat.le_of_ble_eq_true rfl) ⟨(by decide), (by decide)⟩ (fun _ _ _ h => h.elim) (fun v w1 h => ?_)
        obtain ⟨rfl, rfl⟩ := h
        show GO Z X (wM Z b sd sz os (M : Int) (L : Int) (Dp : Int) 10 ((q : Int) + 2) (u : Int) re pk rd ((t : Int) + 1) gT gO gF gE gN gQ gM gC gA gI gU gK gP gS gX gD gH gL) 0 0 67 [(0, .ref (b 0)), (1, .int (iI (t : Int))), (2, .int (iI (q : Int)))] []
        refine go_goto (tgt := 100) hK 67 dX6_closes_67 (by decide) ?_
        exact go_vret hK hR.1 100 [] dX6_closes_100 (by decide) (by decide) rfl ⟨rfl, (by rw [show spCl T f e q = _ from by unfold spCl; rw [if_neg (by omega), if_neg (by omega), if_pos (by omega)]]; exact ⟨_, _, _, hO, rfl⟩)⟩
    · refine go_aload_n hK 34 0 dX6_closes_34 rfl rfl ?_
      refine go_bipush hK 35 dX6_closes_35 (by decide) ?_
      refine go_iload_n hK 37 2 dX6_closes_37 rfl rfl ?_
      refine go_iconst hK 38 dX6_closes_38 ?_
      refine go_iadd hK 39 dX6_closes_39 ?_
      refine go_callV (As := [.int (iI 9), .int (iI ((q : Int) + 1))]) (rest := []) hK hR 40 (ct_X6_fails Z b) cw_X6_131 gn_X6_fails rfl dX6_closes_40 gSel_all ⟨0, 5, _, _, _, rfl, rfl⟩ rfl (Nat.le_of_ble_eq_true rfl) ⟨(by decide), (by decide)⟩ (fun _ _ _ h => h.elim) (fun v w1 h => ?_)
      obtain ⟨rfl, rfl⟩ := h
      show GO Z X (wM Z b sd sz os (M : Int) (L : Int) (Dp : Int) 9 ((q : Int) + 1) (u : Int) re pk rd ((t : Int) + 1) gT gO gF gE gN gQ gM gC gA gI gU gK gP gS gX gD gH gL) 0 0 43 [(0, .ref (b 0)), (1, .int (iI (t : Int))), (2, .int (iI (q : Int)))] []
      refine go_goto (tgt := 100) hK 43 dX6_closes_43 (by decide) ?_
      exact go_vret hK hR.1 100 [] dX6_closes_100 (by decide) (by decide) rfl ⟨rfl, (by rw [show spCl T f e q = _ from by unfold spCl; rw [if_neg (by omega), if_pos (by omega)]]; exact ⟨_, _, _, hO, rfl⟩)⟩
  · show GO Z X (wM Z b sd sz os (M : Int) (L : Int) (Dp : Int) 3 (e : Int) (u : Int) re pk rd ((t : Int) + 1) gT gO gF gE gN gQ gM gC gA gI gU gK gP gS gX gD gH gL) 0 0 6 [(0, .ref (b 0)), (1, .int (iI (t : Int))), (2, .int (iI (q : Int)))] [.int (iI 0)]
    refine go_if_ne (tgt := 10) hK 6 dX6_closes_6 (by decide) (by decide) (fun q => absurd q (by decide)) (fun _ => ?_)
    exact go_vret hK hR.1 9 [] dX6_closes_9 (by decide) (by decide) rfl ⟨rfl, (by rw [show spCl T f e q = _ from by unfold spCl; rw [if_pos (by omega)]]; exact ⟨_, _, _, hO, rfl⟩)⟩

/-- behind a pack's head: the pack lies on the pile at t, or a fault -/
def mHd (Z : Gz) (b : Nat → Nat) (sd : Int64) (sz os mo li de fa pl us re pk rd tp : Int) (gT gO gF gE gN gQ gM gC gA gI gU gK gP gS gX gD gH gL : Nat → Int) (t f e : Nat) (r : Except (Nat × Nat × Rd) Rd) (w : va_W) : Prop := match r with
  | .error (k, p, x) => w = (wM Z b sd sz os mo li de (k : Int) (p : Int) (rU x : Int) (rD x : Int) (rP x : Int) rd tp gT gO gF gE gN gQ gM gC gA gI gU gK gP gS gX gD gH gL) ∨ w = (wM Z b sd sz os mo li de (k : Int) (p : Int) (rU x : Int) (rD x : Int) (rP x : Int) rd ((t : Int) + 1) gT gO (va_up gF t (f : Int)) (va_up gE t (e : Int)) (va_up gN t ((f + 2 : Nat) : Int)) (va_up gQ t os) (va_up gM t 0) gC gA gI gU gK gP gS gX gD gH gL)
  | .ok x => w = (wM Z b sd sz os mo li de 0 pl (rU x : Int) (rD x : Int) (rP x : Int) rd ((t : Int) + 1) gT gO (va_up gF t (f : Int)) (va_up gE t (e : Int)) (va_up gN t ((f + 2 : Nat) : Int)) (va_up gQ t os) (va_up gM t 0) gC gA gI gU gK gP gS gX gD gH gL)
abbrev fM (b : Nat → Nat) : List Nat := [b 0, b 1, b 2, b 3, b 4, b 5, b 6, b 7, b 8, b 9, b 10, b 11, b 12, b 13, b 14, b 15, b 16, b 17, b 18]
theorem mHd_fst {Z : Gz} {b : Nat → Nat} {sd : Int64} {sz os mo li de fa pl us re pk rd tp : Int} {gT gO gF gE gN gQ gM gC gA gI gU gK gP gS gX gD gH gL : Nat → Int} {t f e : Nat} {r : Except (Nat × Nat × Rd) Rd} {w : va_W} (h : mHd Z b sd sz os mo li de fa pl us re pk rd tp gT gO gF gE gN gQ gM gC gA gI gU gK gP gS gX gD gH gL t f e r w) : w.map Prod.fst = fM b := by
  cases r with
  | error x => rcases h with rfl | rfl <;> rfl
  | ok x => cases h; rfl
theorem mRes_fst {Z : Gz} {b : Nat → Nat} {sd : Int64} {sz os mo li de fa pl us re pk rd tp : Int} {gT gO gF gE gN gQ gM gC gA gI gU gK gP gS gX gD gH gL : Nat → Int} {t n o0 q : Nat} {r : Rs} {w : va_W} (h : mRes Z b sd sz os mo li de fa pl us re pk rd tp gT gO gF gE gN gQ gM gC gA gI gU gK gP gS gX gD gH gL t n o0 q r w) : w.map Prod.fst = fM b := by
  cases r with
  | error x => obtain ⟨_, _, _, _, rfl⟩ := h; rfl
  | ok x => obtain ⟨_, _, _, _, rfl⟩ := h; rfl
abbrev rm_X6_begins : Room := { frames := 1, cells := 0, slots := 0, locals := 22 }
set_option maxHeartbeats 8000000 in
theorem ct_X6_begins (Z : Gz) (b : Nat → Nat) {sd : Int64} {sz os pl rd : Int} {gT gO gF gE gN gQ gM gC gA gI gU gK gP gS gX gD gH gL : Nat → Int} {T O : List Nat} {I : List It} {u M L Dp P D t f e : Nat} (hRS : RS T O u M L Dp sz os gT gO) (ht : t < 10) (hfe : f ≤ e ∧ e ≤ T.length) (hPD : P ≤ 100000 ∧ D ≤ 100) : CT Z yX6_begins cX6_begins 4 none rm_X6_begins [.ref (b 0), .int (iI (f : Int)), .int (iI (e : Int))] (wM Z b sd sz os (M : Int) (L : Int) (Dp : Int) 0 pl (u : Int) (D : Int) (P : Int) rd (t : Int) gT gO gF gE gN gQ gM gC gA gI gU gK gP gS gX gD gH gL) (fun v w => v = none ∧ mHd Z b sd sz os (M : Int) (L : Int) (Dp : Int) 0 pl (u : Int) (D : Int) (P : Int) rd (t : Int) gT gO gF gE gN gQ gM gC gA gI gU gK gP gS gX gD gH gL t f e (spHd T L f e t (O, u, P, D, I)) w) nopx := by
  refine ct_of (by decide) (Nat.le_of_ble_eq_true rfl) (fun X hK hR => ?_)
  show GO Z X (wM Z b sd sz os (M : Int) (L : Int) (Dp : Int) 0 pl (u : Int) (D : Int) (P : Int) rd (t : Int) gT gO gF gE gN gQ gM gC gA gI gU gK gP gS gX gD gH gL) 0 0 0 [(0, .ref (b 0)), (1, .int (iI (f : Int))), (2, .int (iI (e : Int)))] []
  obtain ⟨hT, hTl, hT8, hO, hOM, hM4, huL, hL2, hD8⟩ := hRS
  have hOl := hO.1
  refine go_aload_n hK 0 0 dX6_begins_0 rfl rfl ?_
  refine go_get hK 1 fl_X6_125 dX6_begins_1 0 rfl rfl ?_
  refine go_iconst hK 4 dX6_begins_4 ?_
  refine go_iadd hK 5 dX6_begins_5 ?_
  refine go_aload_n hK 6 0 dX6_begins_6 rfl rfl ?_
  refine go_get hK 7 fl_X6_128 dX6_begins_7 0 rfl rfl ?_
  refine go_icmp_le (tgt := 21) hK 10 dX6_begins_10 (by decide) (by omega) (by omega) (fun c1 => ?_) (fun c1 => ?_)
  · refine go_aload_n hK 21 0 dX6_begins_21 rfl rfl ?_
    refine go_dup hK 22 dX6_begins_22 rfl ?_
    refine go_get hK 23 fl_X6_125 dX6_begins_23 0 rfl rfl ?_
    refine go_iconst hK 26 dX6_begins_26 ?_
    refine go_iadd hK 27 dX6_begins_27 ?_
    refine go_put (w' := (wM Z b sd sz os (M : Int) (L : Int) (Dp : Int) 0 pl ((u : Int) + 4) (D : Int) (P : Int) rd (t : Int) gT gO gF gE gN gQ gM gC gA gI gU gK gP gS gX gD gH gL)) hK 28 fl_X6_125 fw_X6_10 dX6_begins_28 0 rfl rfl rfl (Nat.le_of_ble_eq_true rfl) rfl ?_
    refine go_aload_n hK 31 0 dX6_begins_31 rfl rfl ?_
    refine go_dup hK 32 dX6_begins_32 rfl ?_
    refine go_get hK 33 fl_X6_134 dX6_begins_33 0 rfl rfl ?_
    refine go_iconst hK 36 dX6_begins_36 ?_
    refine go_iadd hK 37 dX6_begins_37 ?_
    refine go_put (w' := (wM Z b sd sz os (M : Int) (L : Int) (Dp : Int) 0 pl ((u : Int) + 4) (D : Int) ((P : Int) + 1) rd (t : Int) gT gO gF gE gN gQ gM gC gA gI gU gK gP gS gX gD gH gL)) hK 38 fl_X6_134 fw_X6_12 dX6_begins_38 0 rfl rfl rfl (Nat.le_of_ble_eq_true rfl) rfl ?_
    refine go_aload_n hK 41 0 dX6_begins_41 rfl rfl ?_
    refine go_get hK 42 fl_X6_20 dX6_begins_42 0 rfl rfl ?_
    refine go_aload_n hK 45 0 dX6_begins_45 rfl rfl ?_
    refine go_get hK 46 fl_X6_137 dX6_begins_46 0 rfl rfl ?_
    refine go_iload_n hK 49 1 dX6_begins_49 rfl rfl ?_
    refine go_iast (w' := (wM Z b sd sz os (M : Int) (L : Int) (Dp : Int) 0 pl ((u : Int) + 4) (D : Int) ((P : Int) + 1) rd (t : Int) gT gO (va_up gF (t : Int).toNat (f : Int)) gE gN gQ gM gC gA gI gU gK gP gS gX gD gH gL)) hK 50 dX6_begins_50 3 rfl (by omega) (by decide) rfl ?_
    refine go_aload_n hK 51 0 dX6_begins_51 rfl rfl ?_
    refine go_get hK 52 fl_X6_23 dX6_begins_52 0 rfl rfl ?_
    refine go_aload_n hK 55 0 dX6_begins_55 rfl rfl ?_
    refine go_get hK 56 fl_X6_137 dX6_begins_56 0 rfl rfl ?_
    refine go_iload_n hK 59 2 dX6_begins_59 rfl rfl ?_
    refine go_iast (w' := (wM Z b sd sz os (M : Int) (L : Int) (Dp : Int) 0 pl ((u : Int) + 4) (D : Int) ((P : Int) + 1) rd (t : Int) gT gO (va_up gF (t : Int).toNat (f : Int)) (va_up gE (t : Int).toNat (e : Int)) gN gQ gM gC gA gI gU gK gP gS gX gD gH gL)) hK 60 dX6_begins_60 4 rfl (by omega) (by decide) rfl ?_
    refine go_aload_n hK 61 0 dX6_begins_61 rfl rfl ?_
    refine go_get hK 62 fl_X6_29 dX6_begins_62 0 rfl rfl ?_
    refine go_aload_n hK 65 0 dX6_begins_65 rfl rfl ?_
    refine go_get hK 66 fl_X6_137 dX6_begins_66 0 rfl rfl ?_
    refine go_aload_n hK 69 0 dX6_begins_69 rfl rfl ?_
    refine go_get hK 70 fl_X6_140 dX6_begins_70 0 rfl rfl ?_
    refine go_iast (w' := (wM Z b sd sz os (M : Int) (L : Int) (Dp : Int) 0 pl ((u : Int) + 4) (D : Int) ((P : Int) + 1) rd (t : Int) gT gO (va_up gF (t : Int).toNat (f : Int)) (va_up gE (t : Int).toNat (e : Int)) gN (va_up gQ (t : Int).toNat os) gM gC gA gI gU gK gP gS gX gD gH gL)) hK 73 dX6_begins_73 6 rfl (by omega) (by decide) rfl ?_
    refine go_aload_n hK 74 0 dX6_begins_74 rfl rfl ?_
    refine go_get hK 75 fl_X6_32 dX6_begins_75 0 rfl rfl ?_
    refine go_aload_n hK 78 0 dX6_begins_78 rfl rfl ?_
    refine go_get hK 79 fl_X6_137 dX6_begins_79 0 rfl rfl ?_
    refine go_iconst hK 82 dX6_begins_82 ?_
    refine go_iast (w' := (wM Z b sd sz os (M : Int) (L : Int) (Dp : Int) 0 pl ((u : Int) + 4) (D : Int) ((P : Int) + 1) rd (t : Int) gT gO (va_up gF (t : Int).toNat (f : Int)) (va_up gE (t : Int).toNat (e : Int)) gN (va_up gQ (t : Int).toNat os) (va_up gM (t : Int).toNat 0) gC gA gI gU gK gP gS gX gD gH gL)) hK 83 dX6_begins_83 7 rfl (by omega) (by decide) rfl ?_
    refine go_aload_n hK 84 0 dX6_begins_84 rfl rfl ?_
    refine go_get hK 85 fl_X6_26 dX6_begins_85 0 rfl rfl ?_
    refine go_aload_n hK 88 0 dX6_begins_88 rfl rfl ?_
    refine go_get hK 89 fl_X6_137 dX6_begins_89 0 rfl rfl ?_
    refine go_iload_n hK 92 1 dX6_begins_92 rfl rfl ?_
    refine go_iconst hK 93 dX6_begins_93 ?_
    refine go_iadd hK 94 dX6_begins_94 ?_
    refine go_iast (w' := (wM Z b sd sz os (M : Int) (L : Int) (Dp : Int) 0 pl ((u : Int) + 4) (D : Int) ((P : Int) + 1) rd (t : Int) gT gO (va_up gF (t : Int).toNat (f : Int)) (va_up gE (t : Int).toNat (e : Int)) (va_up gN (t : Int).toNat ((f : Int) + 2)) (va_up gQ (t : Int).toNat os) (va_up gM (t : Int).toNat 0) gC gA gI gU gK gP gS gX gD gH gL)) hK 95 dX6_begins_95 5 rfl (by omega) (by decide) rfl ?_
    refine go_aload_n hK 96 0 dX6_begins_96 rfl rfl ?_
    refine go_aload_n hK 97 0 dX6_begins_97 rfl rfl ?_
    refine go_get hK 98 fl_X6_137 dX6_begins_98 0 rfl rfl ?_
    refine go_aload_n hK 101 0 dX6_begins_101 rfl rfl ?_
    refine go_get hK 102 fl_X6_143 dX6_begins_102 0 rfl rfl ?_
    have jn : GO Z X (wM Z b sd sz os (M : Int) (L : Int) (Dp : Int) 0 pl ((u : Int) + 4) (D : Int) ((P : Int) + 1) rd (t : Int) gT gO (va_up gF (t : Int).toNat (f : Int)) (va_up gE (t : Int).toNat (e : Int)) (va_up gN (t : Int).toNat ((f : Int) + 2)) (va_up gQ (t : Int).toNat os) (va_up gM (t : Int).toNat 0) gC gA gI gU gK gP gS gX gD gH gL) 0 0 119 [(0, .ref (b 0)), (1, .int (iI (f : Int))), (2, .int (iI (e : Int)))] [.int (iI ((max D t : Nat) : Int)), .ref (b 0)] := by
      refine go_put (w' := (wM Z b sd sz os (M : Int) (L : Int) (Dp : Int) 0 pl ((u : Int) + 4) ((max D t : Nat) : Int) ((P : Int) + 1) rd (t : Int) gT gO (va_up gF (t : Int).toNat (f : Int)) (va_up gE (t : Int).toNat (e : Int)) (va_up gN (t : Int).toNat ((f : Int) + 2)) (va_up gQ (t : Int).toNat os) (va_up gM (t : Int).toNat 0) gC gA gI gU gK gP gS gX gD gH gL)) hK 119 fl_X6_143 fw_X6_11 dX6_begins_119 0 rfl rfl rfl (Nat.le_of_ble_eq_true rfl) rfl ?_
      refine go_aload_n hK 122 0 dX6_begins_122 rfl rfl ?_
      refine go_dup hK 123 dX6_begins_123 rfl ?_
      refine go_get hK 124 fl_X6_137 dX6_begins_124 0 rfl rfl ?_
      refine go_iconst hK 127 dX6_begins_127 ?_
      refine go_iadd hK 128 dX6_begins_128 ?_
      refine go_put (w' := (wM Z b sd sz os (M : Int) (L : Int) (Dp : Int) 0 pl ((u : Int) + 4) ((max D t : Nat) : Int) ((P : Int) + 1) rd ((t : Int) + 1) gT gO (va_up gF (t : Int).toNat (f : Int)) (va_up gE (t : Int).toNat (e : Int)) (va_up gN (t : Int).toNat ((f : Int) + 2)) (va_up gQ (t : Int).toNat os) (va_up gM (t : Int).toNat 0) gC gA gI gU gK gP gS gX gD gH gL)) hK 129 fl_X6_137 fw_X6_14 dX6_begins_129 0 rfl rfl rfl (Nat.le_of_ble_eq_true rfl) rfl ?_
      refine go_iconst hK 132 dX6_begins_132 ?_
      refine go_istore_n (lo' := [(3, .int (iI 0)), (0, .ref (b 0)), (1, .int (iI (f : Int))), (2, .int (iI (e : Int)))]) hK 133 3 dX6_begins_133 rfl (by decide) rfl ?_
      refine go_iload_n hK 134 3 dX6_begins_134 rfl rfl ?_
      refine go_iconst hK 135 dX6_begins_135 ?_
      refine go_icmp_ge (tgt := 198) hK 136 dX6_begins_136 (by decide) (by decide) (by decide) (fun q => absurd q (by decide)) (fun _ => ?_)
      refine go_aload_n hK 139 0 dX6_begins_139 rfl rfl ?_
      refine go_get hK 140 fl_X6_122 dX6_begins_140 0 rfl rfl ?_
      refine go_if_ne (tgt := 198) hK 143 dX6_begins_143 (by decide) (by decide) (fun q => absurd q (by decide)) (fun _ => ?_)
      refine go_iload_n hK 146 1 dX6_begins_146 rfl rfl ?_
      refine go_iload_n hK 147 3 dX6_begins_147 rfl rfl ?_
      refine go_iadd hK 148 dX6_begins_148 ?_
      refine go_iload_n hK 149 2 dX6_begins_149 rfl rfl ?_
      refine go_icmp_lt (tgt := 162) hK 150 dX6_begins_150 (by decide) (by omega) (by omega) (fun c2 => ?_) (fun c2 => ?_)
      · refine go_aload_n hK 162 0 dX6_begins_162 rfl rfl ?_
        refine go_get hK 163 fl_X6_7 dX6_begins_163 0 rfl rfl ?_
        refine go_iload_n hK 166 1 dX6_begins_166 rfl rfl ?_
        refine go_iload_n hK 167 3 dX6_begins_167 rfl rfl ?_
        refine go_iadd hK 168 dX6_begins_168 ?_
        have hb0 := hT8 f
        refine go_iald hK 169 dX6_begins_169 1 rfl (by omega) (by decide) ?_
        rw [show gT ((f : Int) + 0).toNat = ((T.getD f 0 : Nat) : Int) by rw [show ((f : Int) + 0).toNat = f by omega]; exact hT.2 f (by omega)]
        refine go_iload_n hK 170 3 dX6_begins_170 rfl rfl ?_
        refine go_if_ne (tgt := 179) hK 171 dX6_begins_171 (by decide) (by decide) (fun q => absurd q (by decide)) (fun _ => ?_)
        refine go_bipush hK 174 dX6_begins_174 (by decide) ?_
        refine go_goto (tgt := 181) hK 176 dX6_begins_176 (by decide) ?_
        refine go_icmp_eq (tgt := 192) hK 181 dX6_begins_181 (by decide) (by omega) (by decide) (fun c3 => ?_) (fun c3 => ?_)
        · refine go_iinc (lo' := [(3, .int (iI (0 + 1))), (0, .ref (b 0)), (1, .int (iI (f : Int))), (2, .int (iI (e : Int)))]) hK 192 3 0 dX6_begins_192 rfl (by decide) rfl ?_
          refine go_goto (tgt := 134) hK 195 dX6_begins_195 (by decide) ?_
          show GO Z X (wM Z b sd sz os (M : Int) (L : Int) (Dp : Int) 0 pl ((u : Int) + 4) ((max D t : Nat) : Int) ((P : Int) + 1) rd ((t : Int) + 1) gT gO (va_up gF (t : Int).toNat (f : Int)) (va_up gE (t : Int).toNat (e : Int)) (va_up gN (t : Int).toNat ((f : Int) + 2)) (va_up gQ (t : Int).toNat os) (va_up gM (t : Int).toNat 0) gC gA gI gU gK gP gS gX gD gH gL) 0 0 134 [(3, .int (iI 1)), (0, .ref (b 0)), (1, .int (iI (f : Int))), (2, .int (iI (e : Int)))] []
          refine go_iload_n hK 134 3 dX6_begins_134 rfl rfl ?_
          refine go_iconst hK 135 dX6_begins_135 ?_
          refine go_icmp_ge (tgt := 198) hK 136 dX6_begins_136 (by decide) (by decide) (by decide) (fun q => absurd q (by decide)) (fun _ => ?_)
          refine go_aload_n hK 139 0 dX6_begins_139 rfl rfl ?_
          refine go_get hK 140 fl_X6_122 dX6_begins_140 0 rfl rfl ?_
          refine go_if_ne (tgt := 198) hK 143 dX6_begins_143 (by decide) (by decide) (fun q => absurd q (by decide)) (fun _ => ?_)
          refine go_iload_n hK 146 1 dX6_begins_146 rfl rfl ?_
          refine go_iload_n hK 147 3 dX6_begins_147 rfl rfl ?_
          refine go_iadd hK 148 dX6_begins_148 ?_
          refine go_iload_n hK 149 2 dX6_begins_149 rfl rfl ?_
          refine go_icmp_lt (tgt := 162) hK 150 dX6_begins_150 (by decide) (by omega) (by omega) (fun c4 => ?_) (fun c4 => ?_)
          · have hb1 := hT8 (f + 1)
            refine go_aload_n hK 162 0 dX6_begins_162 rfl rfl ?_
            refine go_get hK 163 fl_X6_7 dX6_begins_163 0 rfl rfl ?_
            refine go_iload_n hK 166 1 dX6_begins_166 rfl rfl ?_
            refine go_iload_n hK 167 3 dX6_begins_167 rfl rfl ?_
            refine go_iadd hK 168 dX6_begins_168 ?_
            refine go_iald hK 169 dX6_begins_169 1 rfl (by omega) (by decide) ?_
            rw [show gT ((f : Int) + 1).toNat = ((T.getD (f + 1) 0 : Nat) : Int) from hT.2 (f + 1) (by omega)]
            refine go_iload_n hK 170 3 dX6_begins_170 rfl rfl ?_
            refine go_if_ne (tgt := 179) hK 171 dX6_begins_171 (by decide) (by decide) (fun _ => ?_) (fun q => absurd q (by decide))
            refine go_bipush hK 179 dX6_begins_179 (by decide) ?_
            refine go_icmp_eq (tgt := 192) hK 181 dX6_begins_181 (by decide) (by omega) (by decide) (fun c5 => ?_) (fun c5 => ?_)
            · refine go_iinc (lo' := [(3, .int (iI (1 + 1))), (0, .ref (b 0)), (1, .int (iI (f : Int))), (2, .int (iI (e : Int)))]) hK 192 3 0 dX6_begins_192 rfl (by decide) rfl ?_
              refine go_goto (tgt := 134) hK 195 dX6_begins_195 (by decide) ?_
              show GO Z X (wM Z b sd sz os (M : Int) (L : Int) (Dp : Int) 0 pl ((u : Int) + 4) ((max D t : Nat) : Int) ((P : Int) + 1) rd ((t : Int) + 1) gT gO (va_up gF (t : Int).toNat (f : Int)) (va_up gE (t : Int).toNat (e : Int)) (va_up gN (t : Int).toNat ((f : Int) + 2)) (va_up gQ (t : Int).toNat os) (va_up gM (t : Int).toNat 0) gC gA gI gU gK gP gS gX gD gH gL) 0 0 134 [(3, .int (iI 2)), (0, .ref (b 0)), (1, .int (iI (f : Int))), (2, .int (iI (e : Int)))] []
              refine go_iload_n hK 134 3 dX6_begins_134 rfl rfl ?_
              refine go_iconst hK 135 dX6_begins_135 ?_
              refine go_icmp_ge (tgt := 198) hK 136 dX6_begins_136 (by decide) (by decide) (by decide) (fun _ => ?_) (fun q => absurd q (by decide))
              exact go_vret hK hR.1 198 [] dX6_begins_198 (by decide) (by decide) rfl (⟨rfl, (by unfold spHd; dsimp only [rU, rO, rP, rD, rI]; rw [if_neg (by omega), if_neg (by omega), if_neg (by omega), if_neg (by omega), if_neg (by omega)]; exact rfl)⟩)
            · refine go_aload_n hK 184 0 dX6_begins_184 rfl rfl ?_
              refine go_iconst hK 185 dX6_begins_185 ?_
              refine go_iload_n hK 186 1 dX6_begins_186 rfl rfl ?_
              refine go_iload_n hK 187 3 dX6_begins_187 rfl rfl ?_
              refine go_iadd hK 188 dX6_begins_188 ?_
              refine go_callV (As := [.int (iI 1), .int (iI ((f : Int) + 1))]) (rest := []) hK hR 189 (ct_X6_fails Z b) cw_X6_131 gn_X6_fails rfl dX6_begins_189 gSel_all ⟨0, 5, _, _, _, rfl, rfl⟩ rfl (Nat.le_of_ble_eq_true rfl) ⟨(by decide), (by decide)⟩ (fun _ _ _ h => h.elim) (fun v w1 h => ?_)
              obtain ⟨rfl, rfl⟩ := h
              show GO Z X (wM Z b sd sz os (M : Int) (L : Int) (Dp : Int) 1 ((f : Int) + 1) ((u : Int) + 4) ((max D t : Nat) : Int) ((P : Int) + 1) rd ((t : Int) + 1) gT gO (va_up gF (t : Int).toNat (f : Int)) (va_up gE (t : Int).toNat (e : Int)) (va_up gN (t : Int).toNat ((f : Int) + 2)) (va_up gQ (t : Int).toNat os) (va_up gM (t : Int).toNat 0) gC gA gI gU gK gP gS gX gD gH gL) 0 0 192 [(3, .int (iI 1)), (0, .ref (b 0)), (1, .int (iI (f : Int))), (2, .int (iI (e : Int)))] []
              refine go_iinc (lo' := [(3, .int (iI (1 + 1))), (0, .ref (b 0)), (1, .int (iI (f : Int))), (2, .int (iI (e : Int)))]) hK 192 3 0 dX6_begins_192 rfl (by decide) rfl ?_
              refine go_goto (tgt := 134) hK 195 dX6_begins_195 (by decide) ?_
              show GO Z X (wM Z b sd sz os (M : Int) (L : Int) (Dp : Int) 1 ((f : Int) + 1) ((u : Int) + 4) ((max D t : Nat) : Int) ((P : Int) + 1) rd ((t : Int) + 1) gT gO (va_up gF (t : Int).toNat (f : Int)) (va_up gE (t : Int).toNat (e : Int)) (va_up gN (t : Int).toNat ((f : Int) + 2)) (va_up gQ (t : Int).toNat os) (va_up gM (t : Int).toNat 0) gC gA gI gU gK gP gS gX gD gH gL) 0 0 134 [(3, .int (iI 2)), (0, .ref (b 0)), (1, .int (iI (f : Int))), (2, .int (iI (e : Int)))] []
              refine go_iload_n hK 134 3 dX6_begins_134 rfl rfl ?_
              refine go_iconst hK 135 dX6_begins_135 ?_
              refine go_icmp_ge (tgt := 198) hK 136 dX6_begins_136 (by decide) (by decide) (by decide) (fun _ => ?_) (fun q => absurd q (by decide))
              exact go_vret hK hR.1 198 [] dX6_begins_198 (by decide) (by decide) rfl (⟨rfl, (by unfold spHd; dsimp only [rU, rO, rP, rD, rI]; rw [if_neg (by omega), if_neg (by omega), if_neg (by omega), if_neg (by omega), if_pos (by omega)]; exact Or.inr rfl)⟩)
          · refine go_aload_n hK 153 0 dX6_begins_153 rfl rfl ?_
            refine go_iconst hK 154 dX6_begins_154 ?_
            refine go_iload_n hK 155 2 dX6_begins_155 rfl rfl ?_
            refine go_callV (As := [.int (iI 3), .int (iI (e : Int))]) (rest := []) hK hR 156 (ct_X6_fails Z b) cw_X6_131 gn_X6_fails rfl dX6_begins_156 gSel_all ⟨0, 5, _, _, _, rfl, rfl⟩ rfl (Nat.le_of_ble_eq_true rfl) ⟨(by decide), (by decide)⟩ (fun _ _ _ h => h.elim) (fun v w1 h => ?_)
            obtain ⟨rfl, rfl⟩ := h
            show GO Z X (wM Z b sd sz os (M : Int) (L : Int) (Dp : Int) 3 (e : Int) ((u : Int) + 4) ((max D t : Nat) : Int) ((P : Int) + 1) rd ((t : Int) + 1) gT gO (va_up gF (t : Int).toNat (f : Int)) (va_up gE (t : Int).toNat (e : Int)) (va_up gN (t : Int).toNat ((f : Int) + 2)) (va_up gQ (t : Int).toNat os) (va_up gM (t : Int).toNat 0) gC gA gI gU gK gP gS gX gD gH gL) 0 0 159 [(3, .int (iI 1)), (0, .ref (b 0)), (1, .int (iI (f : Int))), (2, .int (iI (e : Int)))] []
            refine go_goto (tgt := 192) hK 159 dX6_begins_159 (by decide) ?_
            refine go_iinc (lo' := [(3, .int (iI (1 + 1))), (0, .ref (b 0)), (1, .int (iI (f : Int))), (2, .int (iI (e : Int)))]) hK 192 3 0 dX6_begins_192 rfl (by decide) rfl ?_
            refine go_goto (tgt := 134) hK 195 dX6_begins_195 (by decide) ?_
            show GO Z X (wM Z b sd sz os (M : Int) (L : Int) (Dp : Int) 3 (e : Int) ((u : Int) + 4) ((max D t : Nat) : Int) ((P : Int) + 1) rd ((t : Int) + 1) gT gO (va_up gF (t : Int).toNat (f : Int)) (va_up gE (t : Int).toNat (e : Int)) (va_up gN (t : Int).toNat ((f : Int) + 2)) (va_up gQ (t : Int).toNat os) (va_up gM (t : Int).toNat 0) gC gA gI gU gK gP gS gX gD gH gL) 0 0 134 [(3, .int (iI 2)), (0, .ref (b 0)), (1, .int (iI (f : Int))), (2, .int (iI (e : Int)))] []
            refine go_iload_n hK 134 3 dX6_begins_134 rfl rfl ?_
            refine go_iconst hK 135 dX6_begins_135 ?_
            refine go_icmp_ge (tgt := 198) hK 136 dX6_begins_136 (by decide) (by decide) (by decide) (fun _ => ?_) (fun q => absurd q (by decide))
            exact go_vret hK hR.1 198 [] dX6_begins_198 (by decide) (by decide) rfl (⟨rfl, (by unfold spHd; dsimp only [rU, rO, rP, rD, rI]; rw [if_neg (by omega), if_neg (by omega), if_neg (by omega), if_pos (by omega)]; exact Or.inr rfl)⟩)
        · refine go_aload_n hK 184 0 dX6_begins_184 rfl rfl ?_
          refine go_iconst hK 185 dX6_begins_185 ?_
          refine go_iload_n hK 186 1 dX6_begins_186 rfl rfl ?_
          refine go_iload_n hK 187 3 dX6_begins_187 rfl rfl ?_
          refine go_iadd hK 188 dX6_begins_188 ?_
          refine go_callV (As := [.int (iI 1), .int (iI ((f : Int) + 0))]) (rest := []) hK hR 189 (ct_X6_fails Z b) cw_X6_131 gn_X6_fails rfl dX6_begins_189 gSel_all ⟨0, 5, _, _, _, rfl, rfl⟩ rfl (Nat.le_of_ble_eq_true rfl) ⟨(by decide), (by decide)⟩ (fun _ _ _ h => h.elim) (fun v w1 h => ?_)
          obtain ⟨rfl, rfl⟩ := h
          show GO Z X (wM Z b sd sz os (M : Int) (L : Int) (Dp : Int) 1 ((f : Int) + 0) ((u : Int) + 4) ((max D t : Nat) : Int) ((P : Int) + 1) rd ((t : Int) + 1) gT gO (va_up gF (t : Int).toNat (f : Int)) (va_up gE (t : Int).toNat (e : Int)) (va_up gN (t : Int).toNat ((f : Int) + 2)) (va_up gQ (t : Int).toNat os) (va_up gM (t : Int).toNat 0) gC gA gI gU gK gP gS gX gD gH gL) 0 0 192 [(3, .int (iI 0)), (0, .ref (b 0)), (1, .int (iI (f : Int))), (2, .int (iI (e : Int)))] []
          rw [show (f : Int) + 0 = (f : Int) by omega]
          refine go_iinc (lo' := [(3, .int (iI (0 + 1))), (0, .ref (b 0)), (1, .int (iI (f : Int))), (2, .int (iI (e : Int)))]) hK 192 3 0 dX6_begins_192 rfl (by decide) rfl ?_
          refine go_goto (tgt := 134) hK 195 dX6_begins_195 (by decide) ?_
          show GO Z X (wM Z b sd sz os (M : Int) (L : Int) (Dp : Int) 1 (f : Int) ((u : Int) + 4) ((max D t : Nat) : Int) ((P : Int) + 1) rd ((t : Int) + 1) gT gO (va_up gF (t : Int).toNat (f : Int)) (va_up gE (t : Int).toNat (e : Int)) (va_up gN (t : Int).toNat ((f : Int) + 2)) (va_up gQ (t : Int).toNat os) (va_up gM (t : Int).toNat 0) gC gA gI gU gK gP gS gX gD gH gL) 0 0 134 [(3, .int (iI 1)), (0, .ref (b 0)), (1, .int (iI (f : Int))), (2, .int (iI (e : Int)))] []
          refine go_iload_n hK 134 3 dX6_begins_134 rfl rfl ?_
          refine go_iconst hK 135 dX6_begins_135 ?_
          refine go_icmp_ge (tgt := 198) hK 136 dX6_begins_136 (by decide) (by decide) (by decide) (fun q => absurd q (by decide)) (fun _ => ?_)
          refine go_aload_n hK 139 0 dX6_begins_139 rfl rfl ?_
          refine go_get hK 140 fl_X6_122 dX6_begins_140 0 rfl rfl ?_
          refine go_if_ne (tgt := 198) hK 143 dX6_begins_143 (by decide) (by decide) (fun _ => ?_) (fun q => absurd q (by decide))
          exact go_vret hK hR.1 198 [] dX6_begins_198 (by decide) (by decide) rfl (⟨rfl, (by unfold spHd; dsimp only [rU, rO, rP, rD, rI]; rw [if_neg (by omega), if_neg (by omega), if_pos (by omega)]; exact Or.inr rfl)⟩)
      · refine go_aload_n hK 153 0 dX6_begins_153 rfl rfl ?_
        refine go_iconst hK 154 dX6_begins_154 ?_
        refine go_iload_n hK 155 2 dX6_begins_155 rfl rfl ?_
        refine go_callV (As := [.int (iI 3), .int (iI (e : Int))]) (rest := []) hK hR 156 (ct_X6_fails Z b) cw_X6_131 gn_X6_fails rfl dX6_begins_156 gSel_all ⟨0, 5, _, _, _, rfl, rfl⟩ rfl (Nat.le_of_ble_eq_true rfl) ⟨(by decide), (by decide)⟩ (fun _ _ _ h => h.elim) (fun v w1 h => ?_)
        obtain ⟨rfl, rfl⟩ := h
        show GO Z X (wM Z b sd sz os (M : Int) (L : Int) (Dp : Int) 3 (e : Int) ((u : Int) + 4) ((max D t : Nat) : Int) ((P : Int) + 1) rd ((t : Int) + 1) gT gO (va_up gF (t : Int).toNat (f : Int)) (va_up gE (t : Int).toNat (e : Int)) (va_up gN (t : Int).toNat ((f : Int) + 2)) (va_up gQ (t : Int).toNat os) (va_up gM (t : Int).toNat 0) gC gA gI gU gK gP gS gX gD gH gL) 0 0 159 [(3, .int (iI 0)), (0, .ref (b 0)), (1, .int (iI (f : Int))), (2, .int (iI (e : Int)))] []
        refine go_goto (tgt := 192) hK 159 dX6_begins_159 (by decide) ?_
        refine go_iinc (lo' := [(3, .int (iI (0 + 1))), (0, .ref (b 0)), (1, .int (iI (f : Int))), (2, .int (iI (e : Int)))]) hK 192 3 0 dX6_begins_192 rfl (by decide) rfl ?_
        refine go_goto (tgt := 134) hK 195 dX6_begins_195 (by decide) ?_
        show GO Z X (wM Z b sd sz os (M : Int) (L : Int) (Dp : Int) 3 (e : Int) ((u : Int) + 4) ((max D t : Nat) : Int) ((P : Int) + 1) rd ((t : Int) + 1) gT gO (va_up gF (t : Int).toNat (f : Int)) (va_up gE (t : Int).toNat (e : Int)) (va_up gN (t : Int).toNat ((f : Int) + 2)) (va_up gQ (t : Int).toNat os) (va_up gM (t : Int).toNat 0) gC gA gI gU gK gP gS gX gD gH gL) 0 0 134 [(3, .int (iI 1)), (0, .ref (b 0)), (1, .int (iI (f : Int))), (2, .int (iI (e : Int)))] []
        refine go_iload_n hK 134 3 dX6_begins_134 rfl rfl ?_
        refine go_iconst hK 135 dX6_begins_135 ?_
        refine go_icmp_ge (tgt := 198) hK 136 dX6_begins_136 (by decide) (by decide) (by decide) (fun q => absurd q (by decide)) (fun _ => ?_)
        refine go_aload_n hK 139 0 dX6_begins_139 rfl rfl ?_
        refine go_get hK 140 fl_X6_122 dX6_begins_140 0 rfl rfl ?_
        refine go_if_ne (tgt := 198) hK 143 dX6_begins_143 (by decide) (by decide) (fun _ => ?_) (fun q => absurd q (by decide))
        exact go_vret hK hR.1 198 [] dX6_begins_198 (by decide) (by decide) rfl (⟨rfl, (by unfold spHd; dsimp only [rU, rO, rP, rD, rI]; rw [if_neg (by omega), if_pos (by omega)]; exact Or.inr rfl)⟩)
    refine go_icmp_le (tgt := 115) hK 105 dX6_begins_105 (by decide) (by omega) (by omega) (fun c6 => ?_) (fun c6 => ?_)
    · refine go_aload_n hK 115 0 dX6_begins_115 rfl rfl ?_
      refine go_get hK 116 fl_X6_143 dX6_begins_116 0 rfl rfl ?_
      have e9 : max D t = D := by omega
      rw [e9] at jn
      exact jn
    · refine go_aload_n hK 108 0 dX6_begins_108 rfl rfl ?_
      refine go_get hK 109 fl_X6_137 dX6_begins_109 0 rfl rfl ?_
      refine go_goto (tgt := 119) hK 112 dX6_begins_112 (by decide) ?_
      have e9 : max D t = t := by omega
      rw [e9] at jn
      exact jn
  · refine go_aload_n hK 13 0 dX6_begins_13 rfl rfl ?_
    refine go_bipush hK 14 dX6_begins_14 (by decide) ?_
    refine go_iload_n hK 16 1 dX6_begins_16 rfl rfl ?_
    refine go_callV (As := [.int (iI 12), .int (iI (f : Int))]) (rest := []) hK hR 17 (ct_X6_fails Z b) cw_X6_131 gn_X6_fails rfl dX6_begins_17 gSel_all ⟨0, 5, _, _, _, rfl, rfl⟩ rfl (Nat.le_of_ble_eq_true rfl) ⟨(by decide), (by decide)⟩ (fun _ _ _ h => h.elim) (fun v w1 h => ?_)
    obtain ⟨rfl, rfl⟩ := h
    show GO Z X (wM Z b sd sz os (M : Int) (L : Int) (Dp : Int) 12 (f : Int) (u : Int) (D : Int) (P : Int) rd (t : Int) gT gO gF gE gN gQ gM gC gA gI gU gK gP gS gX gD gH gL) 0 0 20 [(0, .ref (b 0)), (1, .int (iI (f : Int))), (2, .int (iI (e : Int)))] []
    exact go_vret hK hR.1 20 [] dX6_begins_20 (by decide) (by decide) rfl (⟨rfl, (by unfold spHd; dsimp only [rU, rO, rP, rD, rI]; rw [if_pos (by omega)]; exact Or.inl rfl)⟩)

abbrev rm_X6_nest : Room := { frames := 2, cells := 0, slots := 0, locals := 45 }
set_option maxHeartbeats 8000000 in
theorem ct_X6_nest (Z : Gz) (b : Nat → Nat) {sd : Int64} {sz os pl rd : Int} {gT gO gF gE gN gQ gM gC gA gI gU gK gP gS gX gD gH gL : Nat → Int} {T O C : List Nat} {I : List It} {u M L Dp P D t f e q o0 : Nat} (hRS : RS T O u M L Dp sz os gT gO) (hSC : SCp T O C u t f e q o0 os gF gE gQ gM gC gA gI gU) (hPD : P ≤ 100000 ∧ D ≤ 100) : CT Z yX6_nest cX6_nest 3 none rm_X6_nest [.ref (b 0), .int (iI (q : Int))] (wM Z b sd sz os (M : Int) (L : Int) (Dp : Int) 0 pl (u : Int) (D : Int) (P : Int) rd ((t : Int) + 1) gT gO gF gE gN gQ gM gC gA gI gU gK gP gS gX gD gH gL) (fun v w => v = none ∧ (match spNe T L Dp t e q u with | .error (k, p) => mErr Z b sd sz os (M : Int) (L : Int) (Dp : Int) 0 pl (u : Int) (D : Int) (P : Int) rd ((t : Int) + 1) gT gO gF gE gN gQ gM gC gA gI gU gK gP gS gX gD gH gL k p O u w | .ok n => mHd Z b sd sz os (M : Int) (L : Int) (Dp : Int) 0 pl ((u + 3 : Nat) : Int) (D : Int) (P : Int) rd ((t + 1 : Nat) : Int) gT gO gF gE gN gQ gM gC gA gI gU gK gP gS gX gD gH gL (t + 1) (q + 3) (q + 3 + n) (spHd T L (q + 3) (q + 3 + n) (t + 1) (O, u + 3, P, D, I)) w)) nopx := by
  refine ct_of (by decide) (Nat.le_of_ble_eq_true rfl) (fun X hK hR => ?_)
  show GO Z X (wM Z b sd sz os (M : Int) (L : Int) (Dp : Int) 0 pl (u : Int) (D : Int) (P : Int) rd ((t : Int) + 1) gT gO gF gE gN gQ gM gC gA gI gU gK gP gS gX gD gH gL) 0 0 0 [(0, .ref (b 0)), (1, .int (iI (q : Int)))] []
  obtain ⟨hT, hTl, hT8, hO, hOM, hM4, huL, hL2, hD8⟩ := hRS
  obtain ⟨ht8, hF, hE, hQ, hM, hC, hfq, hqe, heT, ho0, hA, hI, hU⟩ := hSC
  have hOl := hO.1
  have hE' : gE ((t : Int) + 1 - 1).toNat = (e : Int) := by rw [show ((t : Int) + 1 - 1).toNat = t by omega]; exact hE
  refine go_aload_n hK 0 0 dX6_nest_0 rfl rfl ?_
  refine go_iload_n hK 1 1 dX6_nest_1 rfl rfl ?_
  refine go_iconst hK 2 dX6_nest_2 ?_
  refine go_callV (As := [.int (iI (q : Int)), .int (iI 3)]) (rest := []) hK hR 3 (ct_X6_has Z b rfl (by omega) hE' (by omega) (by omega)) cw_X6_149 gn_X6_has rfl dX6_nest_3 gSel_all ⟨0, 5, _, _, _, rfl, rfl⟩ rfl (Nat.le_of_ble_eq_true rfl) ⟨(by decide), (by decide)⟩ (fun _ _ _ h => h.elim) (fun v w1 h => ?_)
  rcases h with ⟨rfl, ch1, rfl⟩ | ⟨rfl, ch1, rfl⟩
  · show GO Z X (wM Z b sd sz os (M : Int) (L : Int) (Dp : Int) 0 pl (u : Int) (D : Int) (P : Int) rd ((t : Int) + 1) gT gO gF gE gN gQ gM gC gA gI gU gK gP gS gX gD gH gL) 0 0 6 [(0, .ref (b 0)), (1, .int (iI (q : Int)))] [.int (iI 1)]
    refine go_if_ne (tgt := 10) hK 6 dX6_nest_6 (by decide) (by decide) (fun _ => ?_) (fun q => absurd q (by decide))
    refine go_sipush hK 10 dX6_nest_10 (by decide) ?_
    refine go_aload_n hK 13 0 dX6_nest_13 rfl rfl ?_
    refine go_get hK 14 fl_X6_7 dX6_nest_14 0 rfl rfl ?_
    refine go_iload_n hK 17 1 dX6_nest_17 rfl rfl ?_
    refine go_iconst hK 18 dX6_nest_18 ?_
    refine go_iadd hK 19 dX6_nest_19 ?_
    refine go_iald hK 20 dX6_nest_20 1 rfl (by omega) (by decide) ?_
    have hb2 := hT8 (q + 1)
    rw [show gT ((q : Int) + 1).toNat = ((T.getD (q + 1) 0 : Nat) : Int) from hT.2 (q + 1) (by omega)]
    refine go_imul hK 21 dX6_nest_21 ?_
    refine go_aload_n hK 22 0 dX6_nest_22 rfl rfl ?_
    refine go_get hK 23 fl_X6_7 dX6_nest_23 0 rfl rfl ?_
    refine go_iload_n hK 26 1 dX6_nest_26 rfl rfl ?_
    refine go_iconst hK 27 dX6_nest_27 ?_
    refine go_iadd hK 28 dX6_nest_28 ?_
    refine go_iald hK 29 dX6_nest_29 1 rfl (by omega) (by decide) ?_
    have hb3 := hT8 (q + 2)
    rw [show gT ((q : Int) + 2).toNat = ((T.getD (q + 2) 0 : Nat) : Int) from hT.2 (q + 2) (by omega)]
    refine go_iadd hK 30 dX6_nest_30 ?_
    refine go_istore_n (lo' := [(2, .int (iI ((256 * ((T.getD (q + 1) 0 : Nat) : Int)) + ((T.getD (q + 2) 0 : Nat) : Int)))), (0, .ref (b 0)), (1, .int (iI (q : Int)))]) hK 31 2 dX6_nest_31 rfl (by decide) rfl ?_
    refine go_aload_n hK 32 0 dX6_nest_32 rfl rfl ?_
    refine go_iload_n hK 33 1 dX6_nest_33 rfl rfl ?_
    refine go_iconst hK 34 dX6_nest_34 ?_
    refine go_iload_n hK 35 2 dX6_nest_35 rfl rfl ?_
    refine go_iadd hK 36 dX6_nest_36 ?_
    refine go_callV (As := [.int (iI (q : Int)), .int (iI (3 + ((256 * ((T.getD (q + 1) 0 : Nat) : Int)) + ((T.getD (q + 2) 0 : Nat) : Int))))]) (rest := []) hK hR 37 (ct_X6_has Z b rfl (by omega) hE' (by omega) (by omega)) cw_X6_149 gn_X6_has rfl dX6_nest_37 gSel_all ⟨0, 5, _, _, _, rfl, rfl⟩ rfl (Nat.le_of_ble_eq_true rfl) ⟨(by decide), (by decide)⟩ (fun _ _ _ h => h.elim) (fun v w1 h => ?_)
    rcases h with ⟨rfl, ch4, rfl⟩ | ⟨rfl, ch4, rfl⟩
    · show GO Z X (wM Z b sd sz os (M : Int) (L : Int) (Dp : Int) 0 pl (u : Int) (D : Int) (P : Int) rd ((t : Int) + 1) gT gO gF gE gN gQ gM gC gA gI gU gK gP gS gX gD gH gL) 0 0 40 [(2, .int (iI ((256 * ((T.getD (q + 1) 0 : Nat) : Int)) + ((T.getD (q + 2) 0 : Nat) : Int)))), (0, .ref (b 0)), (1, .int (iI (q : Int)))] [.int (iI 1)]
      refine go_if_ne (tgt := 44) hK 40 dX6_nest_40 (by decide) (by decide) (fun _ => ?_) (fun q => absurd q (by decide))
      refine go_aload_n hK 44 0 dX6_nest_44 rfl rfl ?_
      refine go_get hK 45 fl_X6_125 dX6_nest_45 0 rfl rfl ?_
      refine go_iconst hK 48 dX6_nest_48 ?_
      refine go_iadd hK 49 dX6_nest_49 ?_
      refine go_aload_n hK 50 0 dX6_nest_50 rfl rfl ?_
      refine go_get hK 51 fl_X6_128 dX6_nest_51 0 rfl rfl ?_
      refine go_icmp_le (tgt := 67) hK 54 dX6_nest_54 (by decide) (by omega) (by omega) (fun c5 => ?_) (fun c5 => ?_)
      · refine go_aload_n hK 67 0 dX6_nest_67 rfl rfl ?_
        refine go_get hK 68 fl_X6_137 dX6_nest_68 0 rfl rfl ?_
        refine go_aload_n hK 71 0 dX6_nest_71 rfl rfl ?_
        refine go_get hK 72 fl_X6_178 dX6_nest_72 0 rfl rfl ?_
        refine go_icmp_le (tgt := 88) hK 75 dX6_nest_75 (by decide) (by omega) (by omega) (fun c6 => ?_) (fun c6 => ?_)
        · refine go_aload_n hK 88 0 dX6_nest_88 rfl rfl ?_
          refine go_dup hK 89 dX6_nest_89 rfl ?_
          refine go_get hK 90 fl_X6_125 dX6_nest_90 0 rfl rfl ?_
          refine go_iconst hK 93 dX6_nest_93 ?_
          refine go_iadd hK 94 dX6_nest_94 ?_
          refine go_put (w' := (wM Z b sd sz os (M : Int) (L : Int) (Dp : Int) 0 pl ((u : Int) + 3) (D : Int) (P : Int) rd ((t : Int) + 1) gT gO gF gE gN gQ gM gC gA gI gU gK gP gS gX gD gH gL)) hK 95 fl_X6_125 fw_X6_10 dX6_nest_95 0 rfl rfl rfl (Nat.le_of_ble_eq_true rfl) rfl ?_
          refine go_aload_n hK 98 0 dX6_nest_98 rfl rfl ?_
          refine go_iload_n hK 99 1 dX6_nest_99 rfl rfl ?_
          refine go_iconst hK 100 dX6_nest_100 ?_
          refine go_iadd hK 101 dX6_nest_101 ?_
          refine go_iload_n hK 102 1 dX6_nest_102 rfl rfl ?_
          refine go_iconst hK 103 dX6_nest_103 ?_
          refine go_iadd hK 104 dX6_nest_104 ?_
          refine go_iload_n hK 105 2 dX6_nest_105 rfl rfl ?_
          refine go_iadd hK 106 dX6_nest_106 ?_
          have hn9 : spNe T L Dp t e q u = .ok (256 * T.getD (q + 1) 0 + T.getD (q + 2) 0) := by unfold spNe; rw [if_neg (by omega), if_neg (by omega), if_neg (by omega), if_neg (by omega)]
          have hRS2 : RS T O (u + 3) M L Dp sz os gT gO := ⟨hT, hTl, hT8, hO, hOM, hM4, by omega, hL2, hD8⟩
          show GO Z X (wM Z b sd sz os (M : Int) (L : Int) (Dp : Int) 0 pl ((u + 3 : Nat) : Int) (D : Int) (P : Int) rd ((t + 1 : Nat) : Int) gT gO gF gE gN gQ gM gC gA gI gU gK gP gS gX gD gH gL) 0 0 107 [(2, .int (iI ((256 * ((T.getD (q + 1) 0 : Nat) : Int)) + ((T.getD (q + 2) 0 : Nat) : Int)))), (0, .ref (b 0)), (1, .int (iI (q : Int)))] [.int (iI ((q + 3 + (256 * T.getD (q + 1) 0 + T.getD (q + 2) 0) : Nat) : Int)), .int (iI ((q + 3 : Nat) : Int)), .ref (b 0)]
          refine go_callV (As := [.int (iI ((q + 3 : Nat) : Int)), .int (iI ((q + 3 + (256 * T.getD (q + 1) 0 + T.getD (q + 2) 0) : Nat) : Int))]) (rest := []) hK hR 107 (ct_X6_begins Z b (I := I) hRS2 (by omega) ⟨by omega, by omega⟩ hPD) cw_X6_181 gn_X6_begins rfl dX6_nest_107 gSel_all ⟨0, 5, _, _, _, rfl, rfl⟩ rfl (Nat.le_of_ble_eq_true rfl) ⟨(by decide), (by decide)⟩ (fun _ _ _ h => h.elim) (fun v w1 h => ?_)
          obtain ⟨rfl, hw9⟩ := h
          show GO Z X w1 0 0 110 [(2, .int (iI ((256 * ((T.getD (q + 1) 0 : Nat) : Int)) + ((T.getD (q + 2) 0 : Nat) : Int)))), (0, .ref (b 0)), (1, .int (iI (q : Int)))] []
          exact go_vret hK hR.1 110 [] dX6_nest_110 (by decide) (by decide) ((mHd_fst hw9).trans rfl) ⟨rfl, (by rw [hn9]; exact hw9)⟩
        · refine go_aload_n hK 78 0 dX6_nest_78 rfl rfl ?_
          refine go_bipush hK 79 dX6_nest_79 (by decide) ?_
          refine go_iload_n hK 81 1 dX6_nest_81 rfl rfl ?_
          refine go_callV (As := [.int (iI 13), .int (iI (q : Int))]) (rest := []) hK hR 82 (ct_X6_fails Z b) cw_X6_131 gn_X6_fails rfl dX6_nest_82 gSel_all ⟨0, 5, _, _, _, rfl, rfl⟩ rfl (Nat.le_of_ble_eq_true rfl) ⟨(by decide), (by decide)⟩ (fun _ _ _ h => h.elim) (fun v w1 h => ?_)
          obtain ⟨rfl, rfl⟩ := h
          show GO Z X (wM Z b sd sz os (M : Int) (L : Int) (Dp : Int) 13 (q : Int) (u : Int) (D : Int) (P : Int) rd ((t : Int) + 1) gT gO gF gE gN gQ gM gC gA gI gU gK gP gS gX gD gH gL) 0 0 85 [(2, .int (iI ((256 * ((T.getD (q + 1) 0 : Nat) : Int)) + ((T.getD (q + 2) 0 : Nat) : Int)))), (0, .ref (b 0)), (1, .int (iI (q : Int)))] []
          refine go_goto (tgt := 110) hK 85 dX6_nest_85 (by decide) ?_
          exact go_vret hK hR.1 110 [] dX6_nest_110 (by decide) (by decide) rfl ⟨rfl, (by unfold spNe; rw [if_neg (by omega), if_neg (by omega), if_neg (by omega), if_pos (by omega)]; exact ⟨_, _, _, hO, rfl⟩)⟩
      · refine go_aload_n hK 57 0 dX6_nest_57 rfl rfl ?_
        refine go_bipush hK 58 dX6_nest_58 (by decide) ?_
        refine go_iload_n hK 60 1 dX6_nest_60 rfl rfl ?_
        refine go_callV (As := [.int (iI 12), .int (iI (q : Int))]) (rest := []) hK hR 61 (ct_X6_fails Z b) cw_X6_131 gn_X6_fails rfl dX6_nest_61 gSel_all ⟨0, 5, _, _, _, rfl, rfl⟩ rfl (Nat.le_of_ble_eq_true rfl) ⟨(by decide), (by decide)⟩ (fun _ _ _ h => h.elim) (fun v w1 h => ?_)
        obtain ⟨rfl, rfl⟩ := h
        show GO Z X (wM Z b sd sz os (M : Int) (L : Int) (Dp : Int) 12 (q : Int) (u : Int) (D : Int) (P : Int) rd ((t : Int) + 1) gT gO gF gE gN gQ gM gC gA gI gU gK gP gS gX gD gH gL) 0 0 64 [(2, .int (iI ((256 * ((T.getD (q + 1) 0 : Nat) : Int)) + ((T.getD (q + 2) 0 : Nat) : Int)))), (0, .ref (b 0)), (1, .int (iI (q : Int)))] []
        refine go_goto (tgt := 110) hK 64 dX6_nest_64 (by decide) ?_
        exact go_vret hK hR.1 110 [] dX6_nest_110 (by decide) (by decide) rfl ⟨rfl, (by unfold spNe; rw [if_neg (by omega), if_neg (by omega), if_pos (by omega)]; exact ⟨_, _, _, hO, rfl⟩)⟩
    · show GO Z X (wM Z b sd sz os (M : Int) (L : Int) (Dp : Int) 3 (e : Int) (u : Int) (D : Int) (P : Int) rd ((t : Int) + 1) gT gO gF gE gN gQ gM gC gA gI gU gK gP gS gX gD gH gL) 0 0 40 [(2, .int (iI ((256 * ((T.getD (q + 1) 0 : Nat) : Int)) + ((T.getD (q + 2) 0 : Nat) : Int)))), (0, .ref (b 0)), (1, .int (iI (q : Int)))] [.int (iI 0)]
      refine go_if_ne (tgt := 44) hK 40 dX6_nest_40 (by decide) (by decide) (fun q => absurd q (by decide)) (fun _ => ?_)
      exact go_vret hK hR.1 43 [] dX6_nest_43 (by decide) (by decide) rfl ⟨rfl, (by unfold spNe; rw [if_neg (by omega), if_pos (by omega)]; exact ⟨_, _, _, hO, rfl⟩)⟩
  · show GO Z X (wM Z b sd sz os (M : Int) (L : Int) (Dp : Int) 3 (e : Int) (u : Int) (D : Int) (P : Int) rd ((t : Int) + 1) gT gO gF gE gN gQ gM gC gA gI gU gK gP gS gX gD gH gL) 0 0 6 [(0, .ref (b 0)), (1, .int (iI (q : Int)))] [.int (iI 0)]
    refine go_if_ne (tgt := 10) hK 6 dX6_nest_6 (by decide) (by decide) (fun q => absurd q (by decide)) (fun _ => ?_)
    exact go_vret hK hR.1 9 [] dX6_nest_9 (by decide) (by decide) rfl ⟨rfl, (by unfold spNe; rw [if_pos (by omega)]; exact ⟨_, _, _, hO, rfl⟩)⟩

