/-! the reference: an item (printed by gen/m12.py) -/
set_option maxRecDepth 100000
/-- behind an item of the latest pack: what the world is -/
def itM (Z : Gz) (b : Nat → Nat) (sd : Int64) (sz os mo li de fa pl us re pk rd tp : Int) (gT gO gF gE gN gQ gM gC gA gI gU gK gP gS gX gD gH gL : Nat → Int) (T : List Nat) (M L Dp t f e q o0 : Nat) (C O : List Nat) (u : Nat) (P D : Nat) (I : List It) (nP oP qP : Nat) (iP uP : Int) (w : va_W) : Prop :=
  if e ≤ q then mErr Z b sd sz os mo li de fa pl us re pk rd tp gT gO gF gE gN gQ gM gC gA gI gU gK gP gS gX gD gH gL 3 e O u w
  else if 7 < T.getD q 0 then mErr Z b sd sz os mo li de fa pl us re pk rd tp gT gO gF gE gN gQ gM gC (va_up gA t (q : Int)) (va_up gI t os) (va_up gU t us) gK gP gS gX gD gH gL 2 q O u w
  else if T.getD q 0 = 0 then (match spCl T f e q with | some (k, p) => mErr Z b sd sz os mo li de fa pl us re pk rd tp gT gO gF gE gN gQ gM gC (va_up gA t (q : Int)) (va_up gI t os) (va_up gU t us) gK gP gS gX gD gH gL k p O u w | none => (t = 0 ∧ w = (wM Z b sd sz os mo li de 0 pl us re pk rd 0 gT gO gF gE gN gQ gM gC (va_up gA t (q : Int)) (va_up gI t os) (va_up gU t us) gK gP gS gX gD gH gL)) ∨ (0 < t ∧ w = (wM Z b sd sz os mo li de 0 pl us re pk rd (t : Int) gT gO gF gE (va_up gN (t - 1) ((q + 2 : Nat) : Int)) gQ (va_up gM (t - 1) ((nP : Int) + 1)) (va_up gC (600 * (t - 1) + nP) (os - (oP : Int))) (va_up gA t (q : Int)) (va_up gI t os) (va_up gU t us) (eK (t - 1) gK nP (gT qP)) (eK (t - 1) gP nP (qP : Int)) (eK (t - 1) gS nP (os - iP)) (eK (t - 1) gX nP (us - uP)) gD gH gL)))
  else if T.getD q 0 = 4 then (match spNe T L Dp t e q u with | .error (k, p) => mErr Z b sd sz os mo li de fa pl us re pk rd tp gT gO gF gE gN gQ gM gC (va_up gA t (q : Int)) (va_up gI t os) (va_up gU t us) gK gP gS gX gD gH gL k p O u w | .ok n => mHd Z b sd sz os mo li de fa pl ((u + 3 : Nat) : Int) re pk rd ((t + 1 : Nat) : Int) gT gO gF gE gN gQ gM gC (va_up gA t (q : Int)) (va_up gI t os) (va_up gU t us) gK gP gS gX gD gH gL (t + 1) (q + 3) (q + 3 + n) (spHd T L (q + 3) (q + 3 + n) (t + 1) (O, u + 3, P, D, I)) w)
  else mRes Z b sd sz os mo li de fa pl us re pk rd tp gT gO gF gE gN gQ gM gC (va_up gA t (q : Int)) (va_up gI t os) (va_up gU t us) gK gP gS gX gD gH gL t C.length o0 q (spBody T M L (T.getD q 0) e q o0 C O u) w
theorem mErr_fst {Z : Gz} {b : Nat → Nat} {sd : Int64} {sz os mo li de fa pl us re pk rd tp : Int} {gT gO gF gE gN gQ gM gC gA gI gU gK gP gS gX gD gH gL : Nat → Int} {k p : Nat} {O' : List Nat} {u' : Nat} {w : va_W} (h : mErr Z b sd sz os mo li de fa pl us re pk rd tp gT gO gF gE gN gQ gM gC gA gI gU gK gP gS gX gD gH gL k p O' u' w) : w.map Prod.fst = fM b := by obtain ⟨_, _, _, _, rfl⟩ := h; rfl
theorem itM_fst {Z : Gz} {b : Nat → Nat} {sd : Int64} {sz os mo li de fa pl us re pk rd tp : Int} {gT gO gF gE gN gQ gM gC gA gI gU gK gP gS gX gD gH gL : Nat → Int} {T : List Nat} {M L Dp t f e q o0 : Nat} {C O : List Nat} {u P D : Nat} {I : List It} {nP oP qP : Nat} {iP uP : Int} {w : va_W} (h : itM Z b sd sz os mo li de fa pl us re pk rd tp gT gO gF gE gN gQ gM gC gA gI gU gK gP gS gX gD gH gL T M L Dp t f e q o0 C O u P D I nP oP qP iP uP w) : w.map Prod.fst = fM b := by
  unfold itM at h
  split at h
  · exact mErr_fst h
  split at h
  · exact mErr_fst h
  split at h
  · split at h
    · exact mErr_fst h
    · rcases h with ⟨-, rfl⟩ | ⟨-, rfl⟩ <;> rfl
  split at h
  · split at h
    · exact mErr_fst h
    · exact mHd_fst h
  · exact mRes_fst h
/-- the latest pack on the pile, its next item at q -/
def SIp (T O C : List Nat) (t f e q o0 : Nat) (gF gE gQ gM gC gN : Nat → Int) : Prop := t ≤ 8 ∧ gF t = f ∧ gE t = e ∧ gQ t = o0 ∧ gM t = C.length ∧ (∀ k, k < C.length → gC (600 * t + k) = C.getD k 0 ∧ C.getD k 0 ≤ O.length - o0) ∧ f + 2 + 2 * C.length ≤ q ∧ q ≤ e ∧ e ≤ T.length ∧ o0 ≤ O.length ∧ gN t = (q : Int)
abbrev rm_X6_item : Room := { frames := 4, cells := 0, slots := 0, locals := 103 }
set_option maxHeartbeats 8000000 in
theorem ct_X6_item (Z : Gz) (b : Nat → Nat) {sd : Int64} {sz os pl rd : Int} {gT gO gF gE gN gQ gM gC gA gI gU gK gP gS gX gD gH gL : Nat → Int} {T O C : List Nat} {I : List It} {u M L Dp P D t f e q o0 nP oP qP : Nat} {iP uP : Int} (hRS : RS T O u M L Dp sz os gT gO) (hSI : SIp T O C t f e q o0 gF gE gQ gM gC gN) (hPD : P ≤ 100000 ∧ D ≤ 100) (hpar : 0 < t → gM (t - 1) = (nP : Int) ∧ nP < 600 ∧ gQ (t - 1) = (oP : Int) ∧ gA (t - 1) = (qP : Int) ∧ gI (t - 1) = iP ∧ gU (t - 1) = uP ∧ qP < 1200) : CT Z yX6_item cX6_item 4 none rm_X6_item [.ref (b 0)] (wM Z b sd sz os (M : Int) (L : Int) (Dp : Int) 0 pl (u : Int) (D : Int) (P : Int) rd ((t : Int) + 1) gT gO gF gE gN gQ gM gC gA gI gU gK gP gS gX gD gH gL) (fun v w => v = none ∧ itM Z b sd sz os (M : Int) (L : Int) (Dp : Int) 0 pl (u : Int) (D : Int) (P : Int) rd ((t : Int) + 1) gT gO gF gE gN gQ gM gC gA gI gU gK gP gS gX gD gH gL T M L Dp t f e q o0 C O u P D I nP oP qP iP uP w) nopx := by
  refine ct_of (by decide) (Nat.le_of_ble_eq_true rfl) (fun X hK hR => ?_)
  show GO Z X (wM Z b sd sz os (M : Int) (L : Int) (Dp : Int) 0 pl (u : Int) (D : Int) (P : Int) rd ((t : Int) + 1) gT gO gF gE gN gQ gM gC gA gI gU gK gP gS gX gD gH gL) 0 0 0 [(0, .ref (b 0))] []
  obtain ⟨hT, hTl, hT8, hO, hOM, hM4, huL, hL2, hD8⟩ := hRS
  obtain ⟨ht8, hF, hE, hQ, hM, hC, hfq, hqe, heT, ho0, hN⟩ := hSI
  have hOl := hO.1
  have hE' : gE ((t : Int) + 1 - 1).toNat = (e : Int) := by rw [show ((t : Int) + 1 - 1).toNat = t by omega]; exact hE
  refine go_aload_n hK 0 0 dX6_item_0 rfl rfl ?_
  refine go_get hK 1 fl_X6_137 dX6_item_1 0 rfl rfl ?_
  refine go_iconst hK 4 dX6_item_4 ?_
  refine go_isub hK 5 dX6_item_5 ?_
  rw [show (t : Int) + 1 - 1 = (t : Int) by omega]
  show GO Z X (wM Z b sd sz os (M : Int) (L : Int) (Dp : Int) 0 pl (u : Int) (D : Int) (P : Int) rd ((t : Int) + 1) gT gO gF gE gN gQ gM gC gA gI gU gK gP gS gX gD gH gL) 0 0 6 [(0, .ref (b 0))] [.int (iI (t : Int))]
  refine go_istore_n (lo' := [(1, .int (iI (t : Int))), (0, .ref (b 0))]) hK 6 1 dX6_item_6 rfl (by decide) rfl ?_
  refine go_aload_n hK 7 0 dX6_item_7 rfl rfl ?_
  refine go_get hK 8 fl_X6_26 dX6_item_8 0 rfl rfl ?_
  refine go_iload_n hK 11 1 dX6_item_11 rfl rfl ?_
  refine go_iald hK 12 dX6_item_12 5 rfl (by omega) (by decide) ?_
  rw [show gN (t : Int).toNat = (q : Int) from hN]
  refine go_istore_n (lo' := [(2, .int (iI (q : Int))), (1, .int (iI (t : Int))), (0, .ref (b 0))]) hK 13 2 dX6_item_13 rfl (by decide) rfl ?_
  refine go_aload_n hK 14 0 dX6_item_14 rfl rfl ?_
  refine go_iload_n hK 15 2 dX6_item_15 rfl rfl ?_
  refine go_iconst hK 16 dX6_item_16 ?_
  refine go_callV (As := [.int (iI (q : Int)), .int (iI 1)]) (rest := []) hK hR 17 (ct_X6_has Z b rfl (by omega) hE' (by omega) (by omega)) cw_X6_149 gn_X6_has rfl dX6_item_17 gSel_all ⟨0, 5, _, _, _, rfl, rfl⟩ rfl (Nat.le_of_ble_eq_true rfl) ⟨(by decide), (by decide)⟩ (fun _ _ _ h => h.elim) (fun v w1 h => ?_)
  rcases h with ⟨rfl, ch1, rfl⟩ | ⟨rfl, ch1, rfl⟩
  · show GO Z X (wM Z b sd sz os (M : Int) (L : Int) (Dp : Int) 0 pl (u : Int) (D : Int) (P : Int) rd ((t : Int) + 1) gT gO gF gE gN gQ gM gC gA gI gU gK gP gS gX gD gH gL) 0 0 20 [(2, .int (iI (q : Int))), (1, .int (iI (t : Int))), (0, .ref (b 0))] [.int (iI 1)]
    refine go_if_ne (tgt := 24) hK 20 dX6_item_20 (by decide) (by decide) (fun _ => ?_) (fun q => absurd q (by decide))
    refine go_aload_n hK 24 0 dX6_item_24 rfl rfl ?_
    refine go_get hK 25 fl_X6_38 dX6_item_25 0 rfl rfl ?_
    refine go_iload_n hK 28 1 dX6_item_28 rfl rfl ?_
    refine go_iload_n hK 29 2 dX6_item_29 rfl rfl ?_
    refine go_iast (w' := (wM Z b sd sz os (M : Int) (L : Int) (Dp : Int) 0 pl (u : Int) (D : Int) (P : Int) rd ((t : Int) + 1) gT gO gF gE gN gQ gM gC (va_up gA (t : Int).toNat (q : Int)) gI gU gK gP gS gX gD gH gL)) hK 30 dX6_item_30 9 rfl (by omega) (by decide) rfl ?_
    refine go_aload_n hK 31 0 dX6_item_31 rfl rfl ?_
    refine go_get hK 32 fl_X6_41 dX6_item_32 0 rfl rfl ?_
    refine go_iload_n hK 35 1 dX6_item_35 rfl rfl ?_
    refine go_aload_n hK 36 0 dX6_item_36 rfl rfl ?_
    refine go_get hK 37 fl_X6_140 dX6_item_37 0 rfl rfl ?_
    refine go_iast (w' := (wM Z b sd sz os (M : Int) (L : Int) (Dp : Int) 0 pl (u : Int) (D : Int) (P : Int) rd ((t : Int) + 1) gT gO gF gE gN gQ gM gC (va_up gA (t : Int).toNat (q : Int)) (va_up gI (t : Int).toNat os) gU gK gP gS gX gD gH gL)) hK 40 dX6_item_40 10 rfl (by omega) (by decide) rfl ?_
    refine go_aload_n hK 41 0 dX6_item_41 rfl rfl ?_
    refine go_get hK 42 fl_X6_44 dX6_item_42 0 rfl rfl ?_
    refine go_iload_n hK 45 1 dX6_item_45 rfl rfl ?_
    refine go_aload_n hK 46 0 dX6_item_46 rfl rfl ?_
    refine go_get hK 47 fl_X6_125 dX6_item_47 0 rfl rfl ?_
    refine go_iast (w' := (wM Z b sd sz os (M : Int) (L : Int) (Dp : Int) 0 pl (u : Int) (D : Int) (P : Int) rd ((t : Int) + 1) gT gO gF gE gN gQ gM gC (va_up gA (t : Int).toNat (q : Int)) (va_up gI (t : Int).toNat os) (va_up gU (t : Int).toNat (u : Int)) gK gP gS gX gD gH gL)) hK 50 dX6_item_50 11 rfl (by omega) (by decide) rfl ?_
    refine go_aload_n hK 51 0 dX6_item_51 rfl rfl ?_
    refine go_get hK 52 fl_X6_7 dX6_item_52 0 rfl rfl ?_
    refine go_iload_n hK 55 2 dX6_item_55 rfl rfl ?_
    refine go_iald hK 56 dX6_item_56 1 rfl (by omega) (by decide) ?_
    have hb2 := hT8 (q)
    rw [show gT (q : Int).toNat = ((T.getD (q) 0 : Nat) : Int) from hT.2 (q) (by omega)]
    show GO Z X (wM Z b sd sz os (M : Int) (L : Int) (Dp : Int) 0 pl (u : Int) (D : Int) (P : Int) rd ((t : Int) + 1) gT gO gF gE gN gQ gM gC (va_up gA t (q : Int)) (va_up gI t os) (va_up gU t (u : Int)) gK gP gS gX gD gH gL) 0 0 57 [(2, .int (iI (q : Int))), (1, .int (iI (t : Int))), (0, .ref (b 0))] [.int (iI ((T.getD (q) 0 : Nat) : Int))]
    rcases (show 7 < T.getD q 0 ∨ T.getD q 0 = 0 ∨ T.getD q 0 = 1 ∨ T.getD q 0 = 2 ∨ T.getD q 0 = 3 ∨ T.getD q 0 = 4 ∨ T.getD q 0 = 5 ∨ T.getD q 0 = 6 ∨ T.getD q 0 = 7 by omega) with hkd | hkd | hkd | hkd | hkd | hkd | hkd | hkd | hkd
    · refine go_tabOut (tgt := 373) hK 57 dX6_item_57 (by omega) (Or.inr (by omega)) (by decide) ?_
      refine go_aload_n hK 373 0 dX6_item_373 rfl rfl ?_
      refine go_iconst hK 374 dX6_item_374 ?_
      refine go_iload_n hK 375 2 dX6_item_375 rfl rfl ?_
      refine go_callV (As := [.int (iI 2), .int (iI (q : Int))]) (rest := []) hK hR 376 (ct_X6_fails Z b) cw_X6_131 gn_X6_fails rfl dX6_item_376 gSel_all ⟨0, 5, _, _, _, rfl, rfl⟩ rfl (Nat.le_of_ble_eq_true rfl) ⟨(by decide), (by decide)⟩ (fun _ _ _ h => h.elim) (fun v w1 h => ?_)
      obtain ⟨rfl, rfl⟩ := h
      show GO Z X (wM Z b sd sz os (M : Int) (L : Int) (Dp : Int) 2 (q : Int) (u : Int) (D : Int) (P : Int) rd ((t : Int) + 1) gT gO gF gE gN gQ gM gC (va_up gA t (q : Int)) (va_up gI t os) (va_up gU t (u : Int)) gK gP gS gX gD gH gL) 0 0 379 [(2, .int (iI (q : Int))), (1, .int (iI (t : Int))), (0, .ref (b 0))] []
      exact go_vret hK hR.1 379 [] dX6_item_379 (by decide) (by decide) rfl ⟨rfl, (by unfold itM; rw [if_neg (by omega), if_pos (by omega)]; exact ⟨_, _, _, hO, rfl⟩)⟩
    · refine go_tabIn (tgt := 104) (c := 0) hK 57 dX6_item_57 (by omega) (by decide) (by decide) (by decide) rfl (by decide) ?_
      refine go_aload_n hK 104 0 dX6_item_104 rfl rfl ?_
      refine go_iload_n hK 105 1 dX6_item_105 rfl rfl ?_
      refine go_iload_n hK 106 2 dX6_item_106 rfl rfl ?_
      refine go_callV (As := [.int (iI (t : Int)), .int (iI (q : Int))]) (rest := []) hK hR 107 (ct_X6_closes Z b (nP := nP) (oP := oP) (qP := qP) (iP := iP) (uP := uP) ⟨hT, hTl, hT8, hO, hOM, hM4, huL, hL2, hD8⟩ ⟨ht8, hF, hE, hQ, hM, hC, hfq, by omega, heT, ho0, va_up_s rfl, va_up_s rfl, va_up_s rfl⟩ (fun h => by obtain ⟨g1, g2, g3, g4, g5, g6, g7⟩ := hpar h; exact ⟨g1, g2, g3, (va_up_n (by omega)).trans g4, (va_up_n (by omega)).trans g5, (va_up_n (by omega)).trans g6, g7⟩)) cw_X6_153 gn_X6_closes rfl dX6_item_107 gSel_all ⟨0, 5, _, _, _, rfl, rfl⟩ rfl (Nat.le_of_ble_eq_true rfl) ⟨(by decide), (by decide)⟩ (fun _ _ _ h => h.elim) (fun v w1 h => ?_)
      obtain ⟨rfl, hw9⟩ := h
      show GO Z X w1 0 0 110 [(2, .int (iI (q : Int))), (1, .int (iI (t : Int))), (0, .ref (b 0))] []
      refine go_goto (tgt := 379) hK 110 dX6_item_110 (by decide) ?_
      have hz : itM Z b sd sz os (M : Int) (L : Int) (Dp : Int) 0 pl (u : Int) (D : Int) (P : Int) rd ((t : Int) + 1) gT gO gF gE gN gQ gM gC gA gI gU gK gP gS gX gD gH gL T M L Dp t f e q o0 C O u P D I nP oP qP iP uP w1 := by unfold itM; rw [if_neg (by omega), if_neg (by omega), if_pos (by omega)]; exact hw9
      exact go_vret hK hR.1 379 [] dX6_item_379 (by decide) (by decide) ((itM_fst hz).trans rfl) ⟨rfl, hz⟩
    · refine go_tabIn (tgt := 113) (c := 1) hK 57 dX6_item_57 (by omega) (by decide) (by decide) (by decide) rfl (by decide) ?_
      refine go_aload_n hK 113 0 dX6_item_113 rfl rfl ?_
      refine go_iload_n hK 114 2 dX6_item_114 rfl rfl ?_
      refine go_iconst hK 115 dX6_item_115 ?_
      refine go_callV (As := [.int (iI (q : Int)), .int (iI 2)]) (rest := []) hK hR 116 (ct_X6_has Z b rfl (by omega) hE' (by omega) (by omega)) cw_X6_149 gn_X6_has rfl dX6_item_116 gSel_all ⟨0, 5, _, _, _, rfl, rfl⟩ rfl (Nat.le_of_ble_eq_true rfl) ⟨(by decide), (by decide)⟩ (fun _ _ _ h => h.elim) (fun v w1 h => ?_)
      rcases h with ⟨rfl, ch3, rfl⟩ | ⟨rfl, ch3, rfl⟩
      · show GO Z X (wM Z b sd sz os (M : Int) (L : Int) (Dp : Int) 0 pl (u : Int) (D : Int) (P : Int) rd ((t : Int) + 1) gT gO gF gE gN gQ gM gC (va_up gA t (q : Int)) (va_up gI t os) (va_up gU t (u : Int)) gK gP gS gX gD gH gL) 0 0 119 [(2, .int (iI (q : Int))), (1, .int (iI (t : Int))), (0, .ref (b 0))] [.int (iI 1)]
        refine go_if_eq (tgt := 379) hK 119 dX6_item_119 (by decide) (by decide) (fun q => absurd q (by decide)) (fun _ => ?_)
        refine go_aload_n hK 122 0 dX6_item_122 rfl rfl ?_
        refine go_iload_n hK 123 2 dX6_item_123 rfl rfl ?_
        refine go_iconst hK 124 dX6_item_124 ?_
        refine go_aload_n hK 125 0 dX6_item_125 rfl rfl ?_
        refine go_get hK 126 fl_X6_7 dX6_item_126 0 rfl rfl ?_
        refine go_iload_n hK 129 2 dX6_item_129 rfl rfl ?_
        refine go_iconst hK 130 dX6_item_130 ?_
        refine go_iadd hK 131 dX6_item_131 ?_
        refine go_iald hK 132 dX6_item_132 1 rfl (by omega) (by decide) ?_
        have hb4 := hT8 (q + 1)
        rw [show gT ((q : Int) + 1).toNat = ((T.getD (q + 1) 0 : Nat) : Int) from hT.2 (q + 1) (by omega)]
        refine go_iadd hK 133 dX6_item_133 ?_
        refine go_callV (As := [.int (iI (q : Int)), .int (iI (2 + ((T.getD (q + 1) 0 : Nat) : Int)))]) (rest := []) hK hR 134 (ct_X6_has Z b rfl (by omega) hE' (by omega) (by omega)) cw_X6_149 gn_X6_has rfl dX6_item_134 gSel_all ⟨0, 5, _, _, _, rfl, rfl⟩ rfl (Nat.le_of_ble_eq_true rfl) ⟨(by decide), (by decide)⟩ (fun _ _ _ h => h.elim) (fun v w1 h => ?_)
        rcases h with ⟨rfl, ch5, rfl⟩ | ⟨rfl, ch5, rfl⟩
        · show GO Z X (wM Z b sd sz os (M : Int) (L : Int) (Dp : Int) 0 pl (u : Int) (D : Int) (P : Int) rd ((t : Int) + 1) gT gO gF gE gN gQ gM gC (va_up gA t (q : Int)) (va_up gI t os) (va_up gU t (u : Int)) gK gP gS gX gD gH gL) 0 0 137 [(2, .int (iI (q : Int))), (1, .int (iI (t : Int))), (0, .ref (b 0))] [.int (iI 1)]
          refine go_if_eq (tgt := 379) hK 137 dX6_item_137 (by decide) (by decide) (fun q => absurd q (by decide)) (fun _ => ?_)
          refine go_aload_n hK 140 0 dX6_item_140 rfl rfl ?_
          refine go_iload_n hK 141 2 dX6_item_141 rfl rfl ?_
          refine go_iconst hK 142 dX6_item_142 ?_
          refine go_aload_n hK 143 0 dX6_item_143 rfl rfl ?_
          refine go_get hK 144 fl_X6_7 dX6_item_144 0 rfl rfl ?_
          refine go_iload_n hK 147 2 dX6_item_147 rfl rfl ?_
          refine go_iconst hK 148 dX6_item_148 ?_
          refine go_iadd hK 149 dX6_item_149 ?_
          refine go_iald hK 150 dX6_item_150 1 rfl (by omega) (by decide) ?_
          have hb6 := hT8 (q + 1)
          rw [show gT ((q : Int) + 1).toNat = ((T.getD (q + 1) 0 : Nat) : Int) from hT.2 (q + 1) (by omega)]
          refine go_aload_n hK 151 0 dX6_item_151 rfl rfl ?_
          refine go_get hK 152 fl_X6_7 dX6_item_152 0 rfl rfl ?_
          refine go_iload_n hK 155 2 dX6_item_155 rfl rfl ?_
          refine go_iald hK 156 dX6_item_156 1 rfl (by omega) (by decide) ?_
          rw [show gT (q : Int).toNat = (1 : Int) from (hT.2 q (by omega)).trans (by rw [hkd]; rfl)]
          show GO Z X (wM Z b sd sz os (M : Int) (L : Int) (Dp : Int) 0 pl (u : Int) (D : Int) (P : Int) rd ((t : Int) + 1) gT gO gF gE gN gQ gM gC (va_up gA t (q : Int)) (va_up gI t os) (va_up gU t (u : Int)) gK gP gS gX gD gH gL) 0 0 157 [(2, .int (iI (q : Int))), (1, .int (iI (t : Int))), (0, .ref (b 0))] [.int (iI 1), .int (iI ((T.getD (q + 1) 0 : Nat) : Int)), .int (iI 2), .int (iI (q : Int)), .ref (b 0)]
          refine go_iconst hK 157 dX6_item_157 ?_
          refine go_icmp_ne (tgt := 165) hK 158 dX6_item_158 (by decide) (by decide) (by decide) (fun q => absurd q (by decide)) (fun _ => ?_)
          refine go_iconst hK 161 dX6_item_161 ?_
          refine go_goto (tgt := 166) hK 162 dX6_item_162 (by decide) ?_
          refine go_imul hK 166 dX6_item_166 ?_
          refine go_iadd hK 167 dX6_item_167 ?_
          refine go_aload_n hK 168 0 dX6_item_168 rfl rfl ?_
          refine go_get hK 169 fl_X6_7 dX6_item_169 0 rfl rfl ?_
          refine go_iload_n hK 172 2 dX6_item_172 rfl rfl ?_
          refine go_iald hK 173 dX6_item_173 1 rfl (by omega) (by decide) ?_
          rw [show gT (q : Int).toNat = (1 : Int) from (hT.2 q (by omega)).trans (by rw [hkd]; rfl)]
          show GO Z X (wM Z b sd sz os (M : Int) (L : Int) (Dp : Int) 0 pl (u : Int) (D : Int) (P : Int) rd ((t : Int) + 1) gT gO gF gE gN gQ gM gC (va_up gA t (q : Int)) (va_up gI t os) (va_up gU t (u : Int)) gK gP gS gX gD gH gL) 0 0 174 [(2, .int (iI (q : Int))), (1, .int (iI (t : Int))), (0, .ref (b 0))] [.int (iI 1), .int (iI (2 + (((T.getD (q + 1) 0 : Nat) : Int) * 2))), .int (iI (q : Int)), .ref (b 0)]
          refine go_iconst hK 174 dX6_item_174 ?_
          refine go_icmp_ne (tgt := 189) hK 175 dX6_item_175 (by decide) (by decide) (by decide) (fun q => absurd q (by decide)) (fun _ => ?_)
          refine go_aload_n hK 178 0 dX6_item_178 rfl rfl ?_
          refine go_get hK 179 fl_X6_7 dX6_item_179 0 rfl rfl ?_
          refine go_iload_n hK 182 2 dX6_item_182 rfl rfl ?_
          refine go_iconst hK 183 dX6_item_183 ?_
          refine go_iadd hK 184 dX6_item_184 ?_
          refine go_iald hK 185 dX6_item_185 1 rfl (by omega) (by decide) ?_
          have hb7 := hT8 (q + 1)
          rw [show gT ((q : Int) + 1).toNat = ((T.getD (q + 1) 0 : Nat) : Int) from hT.2 (q + 1) (by omega)]
          refine go_goto (tgt := 190) hK 186 dX6_item_186 (by decide) ?_
          refine go_callV (As := [.int (iI (q : Int)), .int (iI (2 + (((T.getD (q + 1) 0 : Nat) : Int) * 2))), .int (iI ((T.getD (q + 1) 0 : Nat) : Int))]) (rest := []) hK hR 190 (ct_X6_pays Z b rfl (by omega) (by omega)) cw_X6_156 gn_X6_pays rfl dX6_item_190 gSel_all ⟨0, 5, _, _, _, rfl, rfl⟩ rfl (Nat.le_of_ble_eq_true rfl) ⟨(by decide), (by decide)⟩ (fun _ _ _ h => h.elim) (fun v w1 h => ?_)
          rcases h with ⟨rfl, cp8, rfl⟩ | ⟨rfl, cp8, cp9, rfl⟩ | ⟨rfl, cp8, cp9, rfl⟩
          · show GO Z X (wM Z b sd sz os (M : Int) (L : Int) (Dp : Int) 11 (q : Int) (u : Int) (D : Int) (P : Int) rd ((t : Int) + 1) gT gO gF gE gN gQ gM gC (va_up gA t (q : Int)) (va_up gI t os) (va_up gU t (u : Int)) gK gP gS gX gD gH gL) 0 0 193 [(2, .int (iI (q : Int))), (1, .int (iI (t : Int))), (0, .ref (b 0))] [.int (iI 0)]
            refine go_if_eq (tgt := 379) hK 193 dX6_item_193 (by decide) (by decide) (fun _ => ?_) (fun q => absurd q (by decide))
            exact go_vret hK hR.1 379 [] dX6_item_379 (by decide) (by decide) rfl ⟨rfl, (by unfold itM; rw [if_neg (by omega), if_neg (by omega), if_neg (by omega), if_neg (by omega)]; exact mRes_er (by unfold spBody; rw [if_pos hkd]; unfold spStore; rw [if_neg (by omega), if_neg (by omega), if_pos (by omega)]) ⟨_, _, _, hO, rfl⟩)⟩
          · show GO Z X (wM Z b sd sz os (M : Int) (L : Int) (Dp : Int) 12 (q : Int) (u : Int) (D : Int) (P : Int) rd ((t : Int) + 1) gT gO gF gE gN gQ gM gC (va_up gA t (q : Int)) (va_up gI t os) (va_up gU t (u : Int)) gK gP gS gX gD gH gL) 0 0 193 [(2, .int (iI (q : Int))), (1, .int (iI (t : Int))), (0, .ref (b 0))] [.int (iI 0)]
            refine go_if_eq (tgt := 379) hK 193 dX6_item_193 (by decide) (by decide) (fun _ => ?_) (fun q => absurd q (by decide))
            exact go_vret hK hR.1 379 [] dX6_item_379 (by decide) (by decide) rfl ⟨rfl, (by unfold itM; rw [if_neg (by omega), if_neg (by omega), if_neg (by omega), if_neg (by omega)]; exact mRes_er (by unfold spBody; rw [if_pos hkd]; unfold spStore; rw [if_neg (by omega), if_neg (by omega), if_neg (by omega), if_pos (by omega)]) ⟨_, _, _, hO, rfl⟩)⟩
          · show GO Z X (wM Z b sd sz os (M : Int) (L : Int) (Dp : Int) 0 pl ((u : Int) + (2 + (((T.getD (q + 1) 0 : Nat) : Int) * 2))) (D : Int) (P : Int) rd ((t : Int) + 1) gT gO gF gE gN gQ gM gC (va_up gA t (q : Int)) (va_up gI t os) (va_up gU t (u : Int)) gK gP gS gX gD gH gL) 0 0 193 [(2, .int (iI (q : Int))), (1, .int (iI (t : Int))), (0, .ref (b 0))] [.int (iI 1)]
            rw [show (u : Int) + (2 + (((T.getD (q + 1) 0 : Nat) : Int) * 2)) = ((u + (2 + 2 * T.getD (q + 1) 0) : Nat) : Int) by omega]
            refine go_if_eq (tgt := 379) hK 193 dX6_item_193 (by decide) (by decide) (fun q => absurd q (by decide)) (fun _ => ?_)
            refine go_iconst hK 196 dX6_item_196 ?_
            refine go_istore_n (lo' := [(3, .int (iI 0)), (2, .int (iI (q : Int))), (1, .int (iI (t : Int))), (0, .ref (b 0))]) hK 197 3 dX6_item_197 rfl (by decide) rfl ?_
            refine go_lo [3, 2, 1, 0] rfl ?_
            have lp : ∀ (fu : Nat) (i : Nat) (k : Int) (os1 : Int) (gO1 : Nat → Int), (i ≤ T.getD (q + 1) 0) → (k = i) → (pM (O ++ tkN T (q + 2) i) os1 gO1) → T.getD (q + 1) 0 - i < fu → GO Z X (wM Z b sd sz os1 (M : Int) (L : Int) (Dp : Int) 0 pl ((u + (2 + 2 * T.getD (q + 1) 0) : Nat) : Int) (D : Int) (P : Int) rd ((t : Int) + 1) gT gO1 gF gE gN gQ gM gC (va_up gA t (q : Int)) (va_up gI t os) (va_up gU t (u : Int)) gK gP gS gX gD gH gL) 0 0 198 [(0, .ref (b 0)), (1, .int (iI (t : Int))), (2, .int (iI (q : Int))), (3, .int (iI k))] [] := by
              intro fu
              induction fu with
              | zero => intro i k os1 gO1 hi hk hp1 hm; exact absurd hm (Nat.not_lt_zero _)
              | succ fu ih =>
                intro i k os1 gO1 hi hk hp1 hm
                have hln : (O ++ tkN T (q + 2) i).length = O.length + i := by rw [List.length_append, tkN_len]
                have hz1 := hp1.1
                refine go_iload_n hK 198 3 dX6_item_198 rfl rfl ?_
                refine go_aload_n hK 199 0 dX6_item_199 rfl rfl ?_
                refine go_get hK 200 fl_X6_7 dX6_item_200 0 rfl rfl ?_
                refine go_iload_n hK 203 2 dX6_item_203 rfl rfl ?_
                refine go_iconst hK 204 dX6_item_204 ?_
                refine go_iadd hK 205 dX6_item_205 ?_
                refine go_iald hK 206 dX6_item_206 1 rfl (by omega) (by decide) ?_
                have hb10 := hT8 (q + 1)
                rw [show gT ((q : Int) + 1).toNat = ((T.getD (q + 1) 0 : Nat) : Int) from hT.2 (q + 1) (by omega)]
                refine go_icmp_ge (tgt := 240) hK 207 dX6_item_207 (by decide) (by omega) (by omega) (fun c11 => ?_) (fun c11 => ?_)
                · have hi9 : i = T.getD (q + 1) 0 := by omega
                  rw [hi9] at hp1 hln
                  refine go_aload_n hK 240 0 dX6_item_240 rfl rfl ?_
                  refine go_iload_n hK 241 1 dX6_item_241 rfl rfl ?_
                  refine go_iload_n hK 242 2 dX6_item_242 rfl rfl ?_
                  refine go_iconst hK 243 dX6_item_243 ?_
                  refine go_iadd hK 244 dX6_item_244 ?_
                  refine go_aload_n hK 245 0 dX6_item_245 rfl rfl ?_
                  refine go_get hK 246 fl_X6_7 dX6_item_246 0 rfl rfl ?_
                  refine go_iload_n hK 249 2 dX6_item_249 rfl rfl ?_
                  refine go_iconst hK 250 dX6_item_250 ?_
                  refine go_iadd hK 251 dX6_item_251 ?_
                  refine go_iald hK 252 dX6_item_252 1 rfl (by omega) (by decide) ?_
                  have hb12 := hT8 (q + 1)
                  rw [show gT ((q : Int) + 1).toNat = ((T.getD (q + 1) 0 : Nat) : Int) from hT.2 (q + 1) (by omega)]
                  refine go_iadd hK 253 dX6_item_253 ?_
                  rw [show ((q : Int) + 2) + ((T.getD (q + 1) 0 : Nat) : Int) = ((q + 2 + T.getD (q + 1) 0 : Nat) : Int) by omega]
                  show GO Z X (wM Z b sd sz os1 (M : Int) (L : Int) (Dp : Int) 0 pl ((u + (2 + 2 * T.getD (q + 1) 0) : Nat) : Int) (D : Int) (P : Int) rd ((t : Int) + 1) gT gO1 gF gE gN gQ gM gC (va_up gA t (q : Int)) (va_up gI t os) (va_up gU t (u : Int)) gK gP gS gX gD gH gL) 0 0 254 [(0, .ref (b 0)), (1, .int (iI (t : Int))), (2, .int (iI (q : Int))), (3, .int (iI k))] [.int (iI ((q + 2 + T.getD (q + 1) 0 : Nat) : Int)), .int (iI (t : Int)), .ref (b 0)]
                  refine go_callV (As := [.int (iI (t : Int)), .int (iI ((q + 2 + T.getD (q + 1) 0 : Nat) : Int))]) (rest := []) hK hR 254 (ct_X6_ends Z b (q0 := q) hM (by omega) hQ (by omega) (va_up_s rfl) (va_up_s rfl) (va_up_s rfl) (by omega)) cw_X6_163 gn_X6_ends rfl dX6_item_254 gSel_all ⟨0, 5, _, _, _, rfl, rfl⟩ rfl (Nat.le_of_ble_eq_true rfl) ⟨(by decide), (by decide)⟩ (fun _ _ _ h => h.elim) (fun v w1 h => ?_)
                  obtain ⟨rfl, rfl⟩ := h
                  show GO Z X (wM Z b sd sz os1 (M : Int) (L : Int) (Dp : Int) 0 pl ((u + (2 + 2 * T.getD (q + 1) 0) : Nat) : Int) (D : Int) (P : Int) rd ((t : Int) + 1) gT gO1 gF gE (va_up gN t ((q + 2 + T.getD (q + 1) 0 : Nat) : Int)) gQ (va_up gM t ((C.length : Int) + 1)) (va_up gC (600 * t + C.length) (os1 - (o0 : Int))) (va_up gA t (q : Int)) (va_up gI t os) (va_up gU t (u : Int)) (eK t gK C.length (gT q)) (eK t gP C.length (q : Int)) (eK t gS C.length (os1 - os)) (eK t gX C.length (((u + (2 + 2 * T.getD (q + 1) 0) : Nat) : Int) - (u : Int))) gD gH gL) 0 0 257 [(0, .ref (b 0)), (1, .int (iI (t : Int))), (2, .int (iI (q : Int))), (3, .int (iI k))] []
                  refine go_goto (tgt := 379) hK 257 dX6_item_257 (by decide) ?_
                  exact go_vret hK hR.1 379 [] dX6_item_379 (by decide) (by decide) rfl ⟨rfl, (by unfold itM; rw [if_neg (by omega), if_neg (by omega), if_neg (by omega), if_neg (by omega)]; exact mRes_ok (by unfold spBody; rw [if_pos hkd]; unfold spStore; rw [if_neg (by omega), if_neg (by omega), if_neg (by omega), if_neg (by omega)]) ⟨_, _, _, hp1, rfl⟩)⟩
                · refine go_aload_n hK 210 0 dX6_item_210 rfl rfl ?_
                  refine go_get hK 211 fl_X6_7 dX6_item_211 0 rfl rfl ?_
                  refine go_iload_n hK 214 2 dX6_item_214 rfl rfl ?_
                  refine go_iald hK 215 dX6_item_215 1 rfl (by omega) (by decide) ?_
                  rw [show gT (q : Int).toNat = (1 : Int) from (hT.2 q (by omega)).trans (by rw [hkd]; rfl)]
                  show GO Z X (wM Z b sd sz os1 (M : Int) (L : Int) (Dp : Int) 0 pl ((u + (2 + 2 * T.getD (q + 1) 0) : Nat) : Int) (D : Int) (P : Int) rd ((t : Int) + 1) gT gO1 gF gE gN gQ gM gC (va_up gA t (q : Int)) (va_up gI t os) (va_up gU t (u : Int)) gK gP gS gX gD gH gL) 0 0 216 [(0, .ref (b 0)), (1, .int (iI (t : Int))), (2, .int (iI (q : Int))), (3, .int (iI k))] [.int (iI 1)]
                  refine go_iconst hK 216 dX6_item_216 ?_
                  refine go_icmp_ne (tgt := 240) hK 217 dX6_item_217 (by decide) (by decide) (by decide) (fun q => absurd q (by decide)) (fun _ => ?_)
                  refine go_aload_n hK 220 0 dX6_item_220 rfl rfl ?_
                  refine go_aload_n hK 221 0 dX6_item_221 rfl rfl ?_
                  refine go_get hK 222 fl_X6_7 dX6_item_222 0 rfl rfl ?_
                  refine go_iload_n hK 225 2 dX6_item_225 rfl rfl ?_
                  refine go_iconst hK 226 dX6_item_226 ?_
                  refine go_iadd hK 227 dX6_item_227 ?_
                  refine go_iload_n hK 228 3 dX6_item_228 rfl rfl ?_
                  refine go_iadd hK 229 dX6_item_229 ?_
                  refine go_iald hK 230 dX6_item_230 1 rfl (by omega) (by decide) ?_
                  rw [show gT (((q : Int) + 2) + k).toNat = ((T.getD (q + 2 + i) 0 : Nat) : Int) by rw [show ((q : Int) + 2 + k).toNat = q + 2 + i by omega]; exact hT.2 (q + 2 + i) (by omega)]
                  refine go_callV (As := [.int (iI ((T.getD (q + 2 + i) 0 : Nat) : Int))]) (rest := []) hK hR 231 (ct_X6_comes Z b hp1 (T.getD (q + 2 + i) 0) rfl (by omega)) cw_X6_160 gn_X6_comes rfl dX6_item_231 gSel_all ⟨0, 5, _, _, _, rfl, rfl⟩ rfl (Nat.le_of_ble_eq_true rfl) ⟨(by decide), (by decide)⟩ (fun _ _ _ h => h.elim) (fun v w1 h => ?_)
                  obtain ⟨rfl, os13, gO14, hp15, rfl⟩ := h
                  show GO Z X (wM Z b sd sz os13 (M : Int) (L : Int) (Dp : Int) 0 pl ((u + (2 + 2 * T.getD (q + 1) 0) : Nat) : Int) (D : Int) (P : Int) rd ((t : Int) + 1) gT gO14 gF gE gN gQ gM gC (va_up gA t (q : Int)) (va_up gI t os) (va_up gU t (u : Int)) gK gP gS gX gD gH gL) 0 0 234 [(0, .ref (b 0)), (1, .int (iI (t : Int))), (2, .int (iI (q : Int))), (3, .int (iI k))] []
                  refine go_iinc (lo' := [(3, .int (iI (k + 1))), (0, .ref (b 0)), (1, .int (iI (t : Int))), (2, .int (iI (q : Int)))]) hK 234 3 3 dX6_item_234 rfl (by decide) rfl ?_
                  rw [List.append_assoc] at hp15
                  refine go_goto (tgt := 198) hK 237 dX6_item_237 (by decide) ?_
                  refine go_lo [1, 2, 3, 0] rfl ?_
                  exact ih (i + 1) (k + 1) os13 gO14 (by omega) (by omega) hp15 (by omega)
            exact lp _ 0 0 _ _ (by omega) rfl (by rw [show O ++ tkN T (q + 2) 0 = O by simp [tkN]]; exact hO) (Nat.lt_succ_self _)
        · show GO Z X (wM Z b sd sz os (M : Int) (L : Int) (Dp : Int) 3 (e : Int) (u : Int) (D : Int) (P : Int) rd ((t : Int) + 1) gT gO gF gE gN gQ gM gC (va_up gA t (q : Int)) (va_up gI t os) (va_up gU t (u : Int)) gK gP gS gX gD gH gL) 0 0 137 [(2, .int (iI (q : Int))), (1, .int (iI (t : Int))), (0, .ref (b 0))] [.int (iI 0)]
          refine go_if_eq (tgt := 379) hK 137 dX6_item_137 (by decide) (by decide) (fun _ => ?_) (fun q => absurd q (by decide))
          exact go_vret hK hR.1 379 [] dX6_item_379 (by decide) (by decide) rfl ⟨rfl, (by unfold itM; rw [if_neg (by omega), if_neg (by omega), if_neg (by omega), if_neg (by omega)]; exact mRes_er (by unfold spBody; rw [if_pos hkd]; unfold spStore; rw [if_neg (by omega), if_pos (by omega)]) ⟨_, _, _, hO, rfl⟩)⟩
      · show GO Z X (wM Z b sd sz os (M : Int) (L : Int) (Dp : Int) 3 (e : Int) (u : Int) (D : Int) (P : Int) rd ((t : Int) + 1) gT gO gF gE gN gQ gM gC (va_up gA t (q : Int)) (va_up gI t os) (va_up gU t (u : Int)) gK gP gS gX gD gH gL) 0 0 119 [(2, .int (iI (q : Int))), (1, .int (iI (t : Int))), (0, .ref (b 0))] [.int (iI 0)]
        refine go_if_eq (tgt := 379) hK 119 dX6_item_119 (by decide) (by decide) (fun _ => ?_) (fun q => absurd q (by decide))
        exact go_vret hK hR.1 379 [] dX6_item_379 (by decide) (by decide) rfl ⟨rfl, (by unfold itM; rw [if_neg (by omega), if_neg (by omega), if_neg (by omega), if_neg (by omega)]; exact mRes_er (by unfold spBody; rw [if_pos hkd]; unfold spStore; rw [if_pos (by omega)]) ⟨_, _, _, hO, rfl⟩)⟩
    · refine go_tabIn (tgt := 260) (c := 2) hK 57 dX6_item_57 (by omega) (by decide) (by decide) (by decide) rfl (by decide) ?_
      refine go_aload_n hK 260 0 dX6_item_260 rfl rfl ?_
      refine go_iload_n hK 261 2 dX6_item_261 rfl rfl ?_
      refine go_iconst hK 262 dX6_item_262 ?_
      refine go_callV (As := [.int (iI (q : Int)), .int (iI 3)]) (rest := []) hK hR 263 (ct_X6_has Z b rfl (by omega) hE' (by omega) (by omega)) cw_X6_149 gn_X6_has rfl dX6_item_263 gSel_all ⟨0, 5, _, _, _, rfl, rfl⟩ rfl (Nat.le_of_ble_eq_true rfl) ⟨(by decide), (by decide)⟩ (fun _ _ _ h => h.elim) (fun v w1 h => ?_)
      rcases h with ⟨rfl, ch16, rfl⟩ | ⟨rfl, ch16, rfl⟩
      · show GO Z X (wM Z b sd sz os (M : Int) (L : Int) (Dp : Int) 0 pl (u : Int) (D : Int) (P : Int) rd ((t : Int) + 1) gT gO gF gE gN gQ gM gC (va_up gA t (q : Int)) (va_up gI t os) (va_up gU t (u : Int)) gK gP gS gX gD gH gL) 0 0 266 [(2, .int (iI (q : Int))), (1, .int (iI (t : Int))), (0, .ref (b 0))] [.int (iI 1)]
        refine go_if_eq (tgt := 379) hK 266 dX6_item_266 (by decide) (by decide) (fun q => absurd q (by decide)) (fun _ => ?_)
        refine go_aload_n hK 269 0 dX6_item_269 rfl rfl ?_
        refine go_iload_n hK 270 2 dX6_item_270 rfl rfl ?_
        refine go_iconst hK 271 dX6_item_271 ?_
        refine go_aload_n hK 272 0 dX6_item_272 rfl rfl ?_
        refine go_get hK 273 fl_X6_7 dX6_item_273 0 rfl rfl ?_
        refine go_iload_n hK 276 2 dX6_item_276 rfl rfl ?_
        refine go_iconst hK 277 dX6_item_277 ?_
        refine go_iadd hK 278 dX6_item_278 ?_
        refine go_iald hK 279 dX6_item_279 1 rfl (by omega) (by decide) ?_
        have hb17 := hT8 (q + 1)
        rw [show gT ((q : Int) + 1).toNat = ((T.getD (q + 1) 0 : Nat) : Int) from hT.2 (q + 1) (by omega)]
        refine go_iadd hK 280 dX6_item_280 ?_
        refine go_aload_n hK 281 0 dX6_item_281 rfl rfl ?_
        refine go_get hK 282 fl_X6_7 dX6_item_282 0 rfl rfl ?_
        refine go_iload_n hK 285 2 dX6_item_285 rfl rfl ?_
        refine go_iconst hK 286 dX6_item_286 ?_
        refine go_iadd hK 287 dX6_item_287 ?_
        refine go_iald hK 288 dX6_item_288 1 rfl (by omega) (by decide) ?_
        have hb18 := hT8 (q + 1)
        rw [show gT ((q : Int) + 1).toNat = ((T.getD (q + 1) 0 : Nat) : Int) from hT.2 (q + 1) (by omega)]
        refine go_callV (As := [.int (iI (q : Int)), .int (iI (3 + ((T.getD (q + 1) 0 : Nat) : Int))), .int (iI ((T.getD (q + 1) 0 : Nat) : Int))]) (rest := []) hK hR 289 (ct_X6_pays Z b rfl (by omega) (by omega)) cw_X6_156 gn_X6_pays rfl dX6_item_289 gSel_all ⟨0, 5, _, _, _, rfl, rfl⟩ rfl (Nat.le_of_ble_eq_true rfl) ⟨(by decide), (by decide)⟩ (fun _ _ _ h => h.elim) (fun v w1 h => ?_)
        rcases h with ⟨rfl, cp19, rfl⟩ | ⟨rfl, cp19, cp20, rfl⟩ | ⟨rfl, cp19, cp20, rfl⟩
        · show GO Z X (wM Z b sd sz os (M : Int) (L : Int) (Dp : Int) 11 (q : Int) (u : Int) (D : Int) (P : Int) rd ((t : Int) + 1) gT gO gF gE gN gQ gM gC (va_up gA t (q : Int)) (va_up gI t os) (va_up gU t (u : Int)) gK gP gS gX gD gH gL) 0 0 292 [(2, .int (iI (q : Int))), (1, .int (iI (t : Int))), (0, .ref (b 0))] [.int (iI 0)]
          refine go_if_eq (tgt := 379) hK 292 dX6_item_292 (by decide) (by decide) (fun _ => ?_) (fun q => absurd q (by decide))
          exact go_vret hK hR.1 379 [] dX6_item_379 (by decide) (by decide) rfl ⟨rfl, (by unfold itM; rw [if_neg (by omega), if_neg (by omega), if_neg (by omega), if_neg (by omega)]; exact mRes_er (by unfold spBody; rw [if_neg (by omega), if_pos hkd]; unfold spRun; rw [if_neg (by omega), if_pos (by omega)]) ⟨_, _, _, hO, rfl⟩)⟩
        · show GO Z X (wM Z b sd sz os (M : Int) (L : Int) (Dp : Int) 12 (q : Int) (u : Int) (D : Int) (P : Int) rd ((t : Int) + 1) gT gO gF gE gN gQ gM gC (va_up gA t (q : Int)) (va_up gI t os) (va_up gU t (u : Int)) gK gP gS gX gD gH gL) 0 0 292 [(2, .int (iI (q : Int))), (1, .int (iI (t : Int))), (0, .ref (b 0))] [.int (iI 0)]
          refine go_if_eq (tgt := 379) hK 292 dX6_item_292 (by decide) (by decide) (fun _ => ?_) (fun q => absurd q (by decide))
          exact go_vret hK hR.1 379 [] dX6_item_379 (by decide) (by decide) rfl ⟨rfl, (by unfold itM; rw [if_neg (by omega), if_neg (by omega), if_neg (by omega), if_neg (by omega)]; exact mRes_er (by unfold spBody; rw [if_neg (by omega), if_pos hkd]; unfold spRun; rw [if_neg (by omega), if_neg (by omega), if_pos (by omega)]) ⟨_, _, _, hO, rfl⟩)⟩
        · show GO Z X (wM Z b sd sz os (M : Int) (L : Int) (Dp : Int) 0 pl ((u : Int) + (3 + ((T.getD (q + 1) 0 : Nat) : Int))) (D : Int) (P : Int) rd ((t : Int) + 1) gT gO gF gE gN gQ gM gC (va_up gA t (q : Int)) (va_up gI t os) (va_up gU t (u : Int)) gK gP gS gX gD gH gL) 0 0 292 [(2, .int (iI (q : Int))), (1, .int (iI (t : Int))), (0, .ref (b 0))] [.int (iI 1)]
          rw [show (u : Int) + (3 + ((T.getD (q + 1) 0 : Nat) : Int)) = ((u + (3 + T.getD (q + 1) 0) : Nat) : Int) by omega]
          refine go_if_eq (tgt := 379) hK 292 dX6_item_292 (by decide) (by decide) (fun q => absurd q (by decide)) (fun _ => ?_)
          refine go_iconst hK 295 dX6_item_295 ?_
          refine go_istore_n (lo' := [(3, .int (iI 0)), (2, .int (iI (q : Int))), (1, .int (iI (t : Int))), (0, .ref (b 0))]) hK 296 3 dX6_item_296 rfl (by decide) rfl ?_
          refine go_lo [3, 2, 1, 0] rfl ?_
          have lp : ∀ (fu : Nat) (i : Nat) (k : Int) (os1 : Int) (gO1 : Nat → Int), (i ≤ T.getD (q + 1) 0) → (k = i) → (pM (O ++ List.replicate i (T.getD (q + 2) 0)) os1 gO1) → T.getD (q + 1) 0 - i < fu → GO Z X (wM Z b sd sz os1 (M : Int) (L : Int) (Dp : Int) 0 pl ((u + (3 + T.getD (q + 1) 0) : Nat) : Int) (D : Int) (P : Int) rd ((t : Int) + 1) gT gO1 gF gE gN gQ gM gC (va_up gA t (q : Int)) (va_up gI t os) (va_up gU t (u : Int)) gK gP gS gX gD gH gL) 0 0 297 [(0, .ref (b 0)), (1, .int (iI (t : Int))), (2, .int (iI (q : Int))), (3, .int (iI k))] [] := by
            intro fu
            induction fu with
            | zero => intro i k os1 gO1 hi hk hp1 hm; exact absurd hm (Nat.not_lt_zero _)
            | succ fu ih =>
              intro i k os1 gO1 hi hk hp1 hm
              have hln : (O ++ List.replicate i (T.getD (q + 2) 0)).length = O.length + i := by rw [List.length_append, List.length_replicate]
              have hz1 := hp1.1
              refine go_iload_n hK 297 3 dX6_item_297 rfl rfl ?_
              refine go_aload_n hK 298 0 dX6_item_298 rfl rfl ?_
              refine go_get hK 299 fl_X6_7 dX6_item_299 0 rfl rfl ?_
              refine go_iload_n hK 302 2 dX6_item_302 rfl rfl ?_
              refine go_iconst hK 303 dX6_item_303 ?_
              refine go_iadd hK 304 dX6_item_304 ?_
              refine go_iald hK 305 dX6_item_305 1 rfl (by omega) (by decide) ?_
              have hb21 := hT8 (q + 1)
              rw [show gT ((q : Int) + 1).toNat = ((T.getD (q + 1) 0 : Nat) : Int) from hT.2 (q + 1) (by omega)]
              refine go_icmp_ge (tgt := 327) hK 306 dX6_item_306 (by decide) (by omega) (by omega) (fun c22 => ?_) (fun c22 => ?_)
              · have hi9 : i = T.getD (q + 1) 0 := by omega
                rw [hi9] at hp1 hln
                refine go_aload_n hK 327 0 dX6_item_327 rfl rfl ?_
                refine go_iload_n hK 328 1 dX6_item_328 rfl rfl ?_
                refine go_iload_n hK 329 2 dX6_item_329 rfl rfl ?_
                refine go_iconst hK 330 dX6_item_330 ?_
                refine go_iadd hK 331 dX6_item_331 ?_
                refine go_callV (As := [.int (iI (t : Int)), .int (iI ((q : Int) + 3))]) (rest := []) hK hR 332 (ct_X6_ends Z b (q0 := q) hM (by omega) hQ (by omega) (va_up_s rfl) (va_up_s rfl) (va_up_s rfl) (by omega)) cw_X6_163 gn_X6_ends rfl dX6_item_332 gSel_all ⟨0, 5, _, _, _, rfl, rfl⟩ rfl (Nat.le_of_ble_eq_true rfl) ⟨(by decide), (by decide)⟩ (fun _ _ _ h => h.elim) (fun v w1 h => ?_)
                obtain ⟨rfl, rfl⟩ := h
                show GO Z X (wM Z b sd sz os1 (M : Int) (L : Int) (Dp : Int) 0 pl ((u + (3 + T.getD (q + 1) 0) : Nat) : Int) (D : Int) (P : Int) rd ((t : Int) + 1) gT gO1 gF gE (va_up gN t ((q + 3 : Nat) : Int)) gQ (va_up gM t ((C.length : Int) + 1)) (va_up gC (600 * t + C.length) (os1 - (o0 : Int))) (va_up gA t (q : Int)) (va_up gI t os) (va_up gU t (u : Int)) (eK t gK C.length (gT q)) (eK t gP C.length (q : Int)) (eK t gS C.length (os1 - os)) (eK t gX C.length (((u + (3 + T.getD (q + 1) 0) : Nat) : Int) - (u : Int))) gD gH gL) 0 0 335 [(0, .ref (b 0)), (1, .int (iI (t : Int))), (2, .int (iI (q : Int))), (3, .int (iI k))] []
                refine go_goto (tgt := 379) hK 335 dX6_item_335 (by decide) ?_
                exact go_vret hK hR.1 379 [] dX6_item_379 (by decide) (by decide) rfl ⟨rfl, (by unfold itM; rw [if_neg (by omega), if_neg (by omega), if_neg (by omega), if_neg (by omega)]; exact mRes_ok (by unfold spBody; rw [if_neg (by omega), if_pos hkd]; unfold spRun; rw [if_neg (by omega), if_neg (by omega), if_neg (by omega)]) ⟨_, _, _, hp1, rfl⟩)⟩
              · refine go_aload_n hK 309 0 dX6_item_309 rfl rfl ?_
                refine go_aload_n hK 310 0 dX6_item_310 rfl rfl ?_
                refine go_get hK 311 fl_X6_7 dX6_item_311 0 rfl rfl ?_
                refine go_iload_n hK 314 2 dX6_item_314 rfl rfl ?_
                refine go_iconst hK 315 dX6_item_315 ?_
                refine go_iadd hK 316 dX6_item_316 ?_
                refine go_iald hK 317 dX6_item_317 1 rfl (by omega) (by decide) ?_
                have hb23 := hT8 (q + 2)
                rw [show gT ((q : Int) + 2).toNat = ((T.getD (q + 2) 0 : Nat) : Int) from hT.2 (q + 2) (by omega)]
                refine go_callV (As := [.int (iI ((T.getD (q + 2) 0 : Nat) : Int))]) (rest := []) hK hR 318 (ct_X6_comes Z b hp1 (T.getD (q + 2) 0) rfl (by omega)) cw_X6_160 gn_X6_comes rfl dX6_item_318 gSel_all ⟨0, 5, _, _, _, rfl, rfl⟩ rfl (Nat.le_of_ble_eq_true rfl) ⟨(by decide), (by decide)⟩ (fun _ _ _ h => h.elim) (fun v w1 h => ?_)
                obtain ⟨rfl, os24, gO25, hp26, rfl⟩ := h
                show GO Z X (wM Z b sd sz os24 (M : Int) (L : Int) (Dp : Int) 0 pl ((u + (3 + T.getD (q + 1) 0) : Nat) : Int) (D : Int) (P : Int) rd ((t : Int) + 1) gT gO25 gF gE gN gQ gM gC (va_up gA t (q : Int)) (va_up gI t os) (va_up gU t (u : Int)) gK gP gS gX gD gH gL) 0 0 321 [(0, .ref (b 0)), (1, .int (iI (t : Int))), (2, .int (iI (q : Int))), (3, .int (iI k))] []
                refine go_iinc (lo' := [(3, .int (iI (k + 1))), (0, .ref (b 0)), (1, .int (iI (t : Int))), (2, .int (iI (q : Int)))]) hK 321 3 3 dX6_item_321 rfl (by decide) rfl ?_
                rw [List.append_assoc, ← List.replicate_succ'] at hp26
                refine go_goto (tgt := 297) hK 324 dX6_item_324 (by decide) ?_
                refine go_lo [1, 2, 3, 0] rfl ?_
                exact ih (i + 1) (k + 1) os24 gO25 (by omega) (by omega) hp26 (by omega)
          exact lp _ 0 0 _ _ (by omega) rfl (by rw [show O ++ List.replicate 0 (T.getD (q + 2) 0) = O by simp]; exact hO) (Nat.lt_succ_self _)
      · show GO Z X (wM Z b sd sz os (M : Int) (L : Int) (Dp : Int) 3 (e : Int) (u : Int) (D : Int) (P : Int) rd ((t : Int) + 1) gT gO gF gE gN gQ gM gC (va_up gA t (q : Int)) (va_up gI t os) (va_up gU t (u : Int)) gK gP gS gX gD gH gL) 0 0 266 [(2, .int (iI (q : Int))), (1, .int (iI (t : Int))), (0, .ref (b 0))] [.int (iI 0)]
        refine go_if_eq (tgt := 379) hK 266 dX6_item_266 (by decide) (by decide) (fun _ => ?_) (fun q => absurd q (by decide))
        exact go_vret hK hR.1 379 [] dX6_item_379 (by decide) (by decide) rfl ⟨rfl, (by unfold itM; rw [if_neg (by omega), if_neg (by omega), if_neg (by omega), if_neg (by omega)]; exact mRes_er (by unfold spBody; rw [if_neg (by omega), if_pos hkd]; unfold spRun; rw [if_pos (by omega)]) ⟨_, _, _, hO, rfl⟩)⟩
    · refine go_tabIn (tgt := 338) (c := 3) hK 57 dX6_item_57 (by omega) (by decide) (by decide) (by decide) rfl (by decide) ?_
      refine go_aload_n hK 338 0 dX6_item_338 rfl rfl ?_
      refine go_iload_n hK 339 1 dX6_item_339 rfl rfl ?_
      refine go_iload_n hK 340 2 dX6_item_340 rfl rfl ?_
      refine go_callV (As := [.int (iI (t : Int)), .int (iI (q : Int))]) (rest := []) hK hR 341 (ct_X6_copy Z b ⟨hT, hTl, hT8, hO, hOM, hM4, huL, hL2, hD8⟩ ⟨ht8, hF, hE, hQ, hM, hC, hfq, by omega, heT, ho0, va_up_s rfl, va_up_s rfl, va_up_s rfl⟩) cw_X6_166 gn_X6_copy rfl dX6_item_341 gSel_all ⟨0, 5, _, _, _, rfl, rfl⟩ rfl (Nat.le_of_ble_eq_true rfl) ⟨(by decide), (by decide)⟩ (fun _ _ _ h => h.elim) (fun v w1 h => ?_)
      obtain ⟨rfl, hw9⟩ := h
      show GO Z X w1 0 0 344 [(2, .int (iI (q : Int))), (1, .int (iI (t : Int))), (0, .ref (b 0))] []
      refine go_goto (tgt := 379) hK 344 dX6_item_344 (by decide) ?_
      have hz : itM Z b sd sz os (M : Int) (L : Int) (Dp : Int) 0 pl (u : Int) (D : Int) (P : Int) rd ((t : Int) + 1) gT gO gF gE gN gQ gM gC gA gI gU gK gP gS gX gD gH gL T M L Dp t f e q o0 C O u P D I nP oP qP iP uP w1 := by unfold itM; rw [if_neg (by omega), if_neg (by omega), if_neg (by omega), if_neg (by omega)]; unfold spBody; rw [if_neg (by omega), if_neg (by omega), if_pos hkd]; exact hw9
      exact go_vret hK hR.1 379 [] dX6_item_379 (by decide) (by decide) ((itM_fst hz).trans rfl) ⟨rfl, hz⟩
    · refine go_tabIn (tgt := 347) (c := 4) hK 57 dX6_item_57 (by omega) (by decide) (by decide) (by decide) rfl (by decide) ?_
      refine go_aload_n hK 347 0 dX6_item_347 rfl rfl ?_
      refine go_iload_n hK 348 2 dX6_item_348 rfl rfl ?_
      refine go_callV (As := [.int (iI (q : Int))]) (rest := []) hK hR 349 (ct_X6_nest Z b (I := I) ⟨hT, hTl, hT8, hO, hOM, hM4, huL, hL2, hD8⟩ ⟨ht8, hF, hE, hQ, hM, hC, hfq, by omega, heT, ho0, va_up_s rfl, va_up_s rfl, va_up_s rfl⟩ hPD) cw_X6_169 gn_X6_nest rfl dX6_item_349 gSel_all ⟨0, 5, _, _, _, rfl, rfl⟩ rfl (Nat.le_of_ble_eq_true rfl) ⟨(by decide), (by decide)⟩ (fun _ _ _ h => h.elim) (fun v w1 h => ?_)
      obtain ⟨rfl, hw9⟩ := h
      show GO Z X w1 0 0 352 [(2, .int (iI (q : Int))), (1, .int (iI (t : Int))), (0, .ref (b 0))] []
      refine go_goto (tgt := 379) hK 352 dX6_item_352 (by decide) ?_
      have hz : itM Z b sd sz os (M : Int) (L : Int) (Dp : Int) 0 pl (u : Int) (D : Int) (P : Int) rd ((t : Int) + 1) gT gO gF gE gN gQ gM gC gA gI gU gK gP gS gX gD gH gL T M L Dp t f e q o0 C O u P D I nP oP qP iP uP w1 := by unfold itM; rw [if_neg (by omega), if_neg (by omega), if_neg (by omega), if_pos (by omega)]; exact hw9
      exact go_vret hK hR.1 379 [] dX6_item_379 (by decide) (by decide) ((itM_fst hz).trans rfl) ⟨rfl, hz⟩
    · refine go_tabIn (tgt := 113) (c := 5) hK 57 dX6_item_57 (by omega) (by decide) (by decide) (by decide) rfl (by decide) ?_
      refine go_aload_n hK 113 0 dX6_item_113 rfl rfl ?_
      refine go_iload_n hK 114 2 dX6_item_114 rfl rfl ?_
      refine go_iconst hK 115 dX6_item_115 ?_
      refine go_callV (As := [.int (iI (q : Int)), .int (iI 2)]) (rest := []) hK hR 116 (ct_X6_has Z b rfl (by omega) hE' (by omega) (by omega)) cw_X6_149 gn_X6_has rfl dX6_item_116 gSel_all ⟨0, 5, _, _, _, rfl, rfl⟩ rfl (Nat.le_of_ble_eq_true rfl) ⟨(by decide), (by decide)⟩ (fun _ _ _ h => h.elim) (fun v w1 h => ?_)
      rcases h with ⟨rfl, ch27, rfl⟩ | ⟨rfl, ch27, rfl⟩
      · show GO Z X (wM Z b sd sz os (M : Int) (L : Int) (Dp : Int) 0 pl (u : Int) (D : Int) (P : Int) rd ((t : Int) + 1) gT gO gF gE gN gQ gM gC (va_up gA t (q : Int)) (va_up gI t os) (va_up gU t (u : Int)) gK gP gS gX gD gH gL) 0 0 119 [(2, .int (iI (q : Int))), (1, .int (iI (t : Int))), (0, .ref (b 0))] [.int (iI 1)]
        refine go_if_eq (tgt := 379) hK 119 dX6_item_119 (by decide) (by decide) (fun q => absurd q (by decide)) (fun _ => ?_)
        refine go_aload_n hK 122 0 dX6_item_122 rfl rfl ?_
        refine go_iload_n hK 123 2 dX6_item_123 rfl rfl ?_
        refine go_iconst hK 124 dX6_item_124 ?_
        refine go_aload_n hK 125 0 dX6_item_125 rfl rfl ?_
        refine go_get hK 126 fl_X6_7 dX6_item_126 0 rfl rfl ?_
        refine go_iload_n hK 129 2 dX6_item_129 rfl rfl ?_
        refine go_iconst hK 130 dX6_item_130 ?_
        refine go_iadd hK 131 dX6_item_131 ?_
        refine go_iald hK 132 dX6_item_132 1 rfl (by omega) (by decide) ?_
        have hb28 := hT8 (q + 1)
        rw [show gT ((q : Int) + 1).toNat = ((T.getD (q + 1) 0 : Nat) : Int) from hT.2 (q + 1) (by omega)]
        refine go_iadd hK 133 dX6_item_133 ?_
        refine go_callV (As := [.int (iI (q : Int)), .int (iI (2 + ((T.getD (q + 1) 0 : Nat) : Int)))]) (rest := []) hK hR 134 (ct_X6_has Z b rfl (by omega) hE' (by omega) (by omega)) cw_X6_149 gn_X6_has rfl dX6_item_134 gSel_all ⟨0, 5, _, _, _, rfl, rfl⟩ rfl (Nat.le_of_ble_eq_true rfl) ⟨(by decide), (by decide)⟩ (fun _ _ _ h => h.elim) (fun v w1 h => ?_)
        rcases h with ⟨rfl, ch29, rfl⟩ | ⟨rfl, ch29, rfl⟩
        · show GO Z X (wM Z b sd sz os (M : Int) (L : Int) (Dp : Int) 0 pl (u : Int) (D : Int) (P : Int) rd ((t : Int) + 1) gT gO gF gE gN gQ gM gC (va_up gA t (q : Int)) (va_up gI t os) (va_up gU t (u : Int)) gK gP gS gX gD gH gL) 0 0 137 [(2, .int (iI (q : Int))), (1, .int (iI (t : Int))), (0, .ref (b 0))] [.int (iI 1)]
          refine go_if_eq (tgt := 379) hK 137 dX6_item_137 (by decide) (by decide) (fun q => absurd q (by decide)) (fun _ => ?_)
          refine go_aload_n hK 140 0 dX6_item_140 rfl rfl ?_
          refine go_iload_n hK 141 2 dX6_item_141 rfl rfl ?_
          refine go_iconst hK 142 dX6_item_142 ?_
          refine go_aload_n hK 143 0 dX6_item_143 rfl rfl ?_
          refine go_get hK 144 fl_X6_7 dX6_item_144 0 rfl rfl ?_
          refine go_iload_n hK 147 2 dX6_item_147 rfl rfl ?_
          refine go_iconst hK 148 dX6_item_148 ?_
          refine go_iadd hK 149 dX6_item_149 ?_
          refine go_iald hK 150 dX6_item_150 1 rfl (by omega) (by decide) ?_
          have hb30 := hT8 (q + 1)
          rw [show gT ((q : Int) + 1).toNat = ((T.getD (q + 1) 0 : Nat) : Int) from hT.2 (q + 1) (by omega)]
          refine go_aload_n hK 151 0 dX6_item_151 rfl rfl ?_
          refine go_get hK 152 fl_X6_7 dX6_item_152 0 rfl rfl ?_
          refine go_iload_n hK 155 2 dX6_item_155 rfl rfl ?_
          refine go_iald hK 156 dX6_item_156 1 rfl (by omega) (by decide) ?_
          rw [show gT (q : Int).toNat = (5 : Int) from (hT.2 q (by omega)).trans (by rw [hkd]; rfl)]
          show GO Z X (wM Z b sd sz os (M : Int) (L : Int) (Dp : Int) 0 pl (u : Int) (D : Int) (P : Int) rd ((t : Int) + 1) gT gO gF gE gN gQ gM gC (va_up gA t (q : Int)) (va_up gI t os) (va_up gU t (u : Int)) gK gP gS gX gD gH gL) 0 0 157 [(2, .int (iI (q : Int))), (1, .int (iI (t : Int))), (0, .ref (b 0))] [.int (iI 5), .int (iI ((T.getD (q + 1) 0 : Nat) : Int)), .int (iI 2), .int (iI (q : Int)), .ref (b 0)]
          refine go_iconst hK 157 dX6_item_157 ?_
          refine go_icmp_ne (tgt := 165) hK 158 dX6_item_158 (by decide) (by decide) (by decide) (fun _ => ?_) (fun q => absurd q (by decide))
          refine go_iconst hK 165 dX6_item_165 ?_
          refine go_imul hK 166 dX6_item_166 ?_
          refine go_iadd hK 167 dX6_item_167 ?_
          refine go_aload_n hK 168 0 dX6_item_168 rfl rfl ?_
          refine go_get hK 169 fl_X6_7 dX6_item_169 0 rfl rfl ?_
          refine go_iload_n hK 172 2 dX6_item_172 rfl rfl ?_
          refine go_iald hK 173 dX6_item_173 1 rfl (by omega) (by decide) ?_
          rw [show gT (q : Int).toNat = (5 : Int) from (hT.2 q (by omega)).trans (by rw [hkd]; rfl)]
          show GO Z X (wM Z b sd sz os (M : Int) (L : Int) (Dp : Int) 0 pl (u : Int) (D : Int) (P : Int) rd ((t : Int) + 1) gT gO gF gE gN gQ gM gC (va_up gA t (q : Int)) (va_up gI t os) (va_up gU t (u : Int)) gK gP gS gX gD gH gL) 0 0 174 [(2, .int (iI (q : Int))), (1, .int (iI (t : Int))), (0, .ref (b 0))] [.int (iI 5), .int (iI (2 + (((T.getD (q + 1) 0 : Nat) : Int) * 1))), .int (iI (q : Int)), .ref (b 0)]
          refine go_iconst hK 174 dX6_item_174 ?_
          refine go_icmp_ne (tgt := 189) hK 175 dX6_item_175 (by decide) (by decide) (by decide) (fun _ => ?_) (fun q => absurd q (by decide))
          refine go_iconst hK 189 dX6_item_189 ?_
          refine go_callV (As := [.int (iI (q : Int)), .int (iI (2 + (((T.getD (q + 1) 0 : Nat) : Int) * 1))), .int (iI 0)]) (rest := []) hK hR 190 (ct_X6_pays Z b rfl (by omega) (by omega)) cw_X6_156 gn_X6_pays rfl dX6_item_190 gSel_all ⟨0, 5, _, _, _, rfl, rfl⟩ rfl (Nat.le_of_ble_eq_true rfl) ⟨(by decide), (by decide)⟩ (fun _ _ _ h => h.elim) (fun v w1 h => ?_)
          rcases h with ⟨rfl, cp31, rfl⟩ | ⟨rfl, cp31, cp32, rfl⟩ | ⟨rfl, cp31, cp32, rfl⟩
          · show GO Z X (wM Z b sd sz os (M : Int) (L : Int) (Dp : Int) 11 (q : Int) (u : Int) (D : Int) (P : Int) rd ((t : Int) + 1) gT gO gF gE gN gQ gM gC (va_up gA t (q : Int)) (va_up gI t os) (va_up gU t (u : Int)) gK gP gS gX gD gH gL) 0 0 193 [(2, .int (iI (q : Int))), (1, .int (iI (t : Int))), (0, .ref (b 0))] [.int (iI 0)]
            refine go_if_eq (tgt := 379) hK 193 dX6_item_193 (by decide) (by decide) (fun _ => ?_) (fun q => absurd q (by decide))
            exact go_vret hK hR.1 379 [] dX6_item_379 (by decide) (by decide) rfl ⟨rfl, (by unfold itM; rw [if_neg (by omega), if_neg (by omega), if_neg (by omega), if_neg (by omega)]; exact mRes_er (by unfold spBody; rw [if_neg (by omega), if_neg (by omega), if_neg (by omega), if_pos hkd]; unfold spNote; rw [if_neg (by omega), if_neg (by omega), if_pos (by omega)]) ⟨_, _, _, hO, rfl⟩)⟩
          · show GO Z X (wM Z b sd sz os (M : Int) (L : Int) (Dp : Int) 12 (q : Int) (u : Int) (D : Int) (P : Int) rd ((t : Int) + 1) gT gO gF gE gN gQ gM gC (va_up gA t (q : Int)) (va_up gI t os) (va_up gU t (u : Int)) gK gP gS gX gD gH gL) 0 0 193 [(2, .int (iI (q : Int))), (1, .int (iI (t : Int))), (0, .ref (b 0))] [.int (iI 0)]
            refine go_if_eq (tgt := 379) hK 193 dX6_item_193 (by decide) (by decide) (fun _ => ?_) (fun q => absurd q (by decide))
            exact go_vret hK hR.1 379 [] dX6_item_379 (by decide) (by decide) rfl ⟨rfl, (by unfold itM; rw [if_neg (by omega), if_neg (by omega), if_neg (by omega), if_neg (by omega)]; exact mRes_er (by unfold spBody; rw [if_neg (by omega), if_neg (by omega), if_neg (by omega), if_pos hkd]; unfold spNote; rw [if_neg (by omega), if_neg (by omega), if_neg (by omega), if_pos (by omega)]) ⟨_, _, _, hO, rfl⟩)⟩
          · show GO Z X (wM Z b sd sz os (M : Int) (L : Int) (Dp : Int) 0 pl ((u : Int) + (2 + (((T.getD (q + 1) 0 : Nat) : Int) * 1))) (D : Int) (P : Int) rd ((t : Int) + 1) gT gO gF gE gN gQ gM gC (va_up gA t (q : Int)) (va_up gI t os) (va_up gU t (u : Int)) gK gP gS gX gD gH gL) 0 0 193 [(2, .int (iI (q : Int))), (1, .int (iI (t : Int))), (0, .ref (b 0))] [.int (iI 1)]
            rw [show (u : Int) + (2 + (((T.getD (q + 1) 0 : Nat) : Int) * 1)) = ((u + (2 + T.getD (q + 1) 0) : Nat) : Int) by omega]
            refine go_if_eq (tgt := 379) hK 193 dX6_item_193 (by decide) (by decide) (fun q => absurd q (by decide)) (fun _ => ?_)
            refine go_iconst hK 196 dX6_item_196 ?_
            refine go_istore_n (lo' := [(3, .int (iI 0)), (2, .int (iI (q : Int))), (1, .int (iI (t : Int))), (0, .ref (b 0))]) hK 197 3 dX6_item_197 rfl (by decide) rfl ?_
            refine go_iload_n hK 198 3 dX6_item_198 rfl rfl ?_
            refine go_aload_n hK 199 0 dX6_item_199 rfl rfl ?_
            refine go_get hK 200 fl_X6_7 dX6_item_200 0 rfl rfl ?_
            refine go_iload_n hK 203 2 dX6_item_203 rfl rfl ?_
            refine go_iconst hK 204 dX6_item_204 ?_
            refine go_iadd hK 205 dX6_item_205 ?_
            refine go_iald hK 206 dX6_item_206 1 rfl (by omega) (by decide) ?_
            have hb33 := hT8 (q + 1)
            rw [show gT ((q : Int) + 1).toNat = ((T.getD (q + 1) 0 : Nat) : Int) from hT.2 (q + 1) (by omega)]
            refine go_icmp_ge (tgt := 240) hK 207 dX6_item_207 (by decide) (by decide) (by omega) (fun c34 => ?_) (fun c34 => ?_)
            · refine go_aload_n hK 240 0 dX6_item_240 rfl rfl ?_
              refine go_iload_n hK 241 1 dX6_item_241 rfl rfl ?_
              refine go_iload_n hK 242 2 dX6_item_242 rfl rfl ?_
              refine go_iconst hK 243 dX6_item_243 ?_
              refine go_iadd hK 244 dX6_item_244 ?_
              refine go_aload_n hK 245 0 dX6_item_245 rfl rfl ?_
              refine go_get hK 246 fl_X6_7 dX6_item_246 0 rfl rfl ?_
              refine go_iload_n hK 249 2 dX6_item_249 rfl rfl ?_
              refine go_iconst hK 250 dX6_item_250 ?_
              refine go_iadd hK 251 dX6_item_251 ?_
              refine go_iald hK 252 dX6_item_252 1 rfl (by omega) (by decide) ?_
              have hb35 := hT8 (q + 1)
              rw [show gT ((q : Int) + 1).toNat = ((T.getD (q + 1) 0 : Nat) : Int) from hT.2 (q + 1) (by omega)]
              refine go_iadd hK 253 dX6_item_253 ?_
              rw [show ((q : Int) + 2) + ((T.getD (q + 1) 0 : Nat) : Int) = ((q + 2 + T.getD (q + 1) 0 : Nat) : Int) by omega]
              show GO Z X (wM Z b sd sz os (M : Int) (L : Int) (Dp : Int) 0 pl ((u + (2 + T.getD (q + 1) 0) : Nat) : Int) (D : Int) (P : Int) rd ((t : Int) + 1) gT gO gF gE gN gQ gM gC (va_up gA t (q : Int)) (va_up gI t os) (va_up gU t (u : Int)) gK gP gS gX gD gH gL) 0 0 254 [(3, .int (iI 0)), (2, .int (iI (q : Int))), (1, .int (iI (t : Int))), (0, .ref (b 0))] [.int (iI ((q + 2 + T.getD (q + 1) 0 : Nat) : Int)), .int (iI (t : Int)), .ref (b 0)]
              refine go_callV (As := [.int (iI (t : Int)), .int (iI ((q + 2 + T.getD (q + 1) 0 : Nat) : Int))]) (rest := []) hK hR 254 (ct_X6_ends Z b (q0 := q) hM (by omega) hQ (by omega) (va_up_s rfl) (va_up_s rfl) (va_up_s rfl) (by omega)) cw_X6_163 gn_X6_ends rfl dX6_item_254 gSel_all ⟨0, 5, _, _, _, rfl, rfl⟩ rfl (Nat.le_of_ble_eq_true rfl) ⟨(by decide), (by decide)⟩ (fun _ _ _ h => h.elim) (fun v w1 h => ?_)
              obtain ⟨rfl, rfl⟩ := h
              show GO Z X (wM Z b sd sz os (M : Int) (L : Int) (Dp : Int) 0 pl ((u + (2 + T.getD (q + 1) 0) : Nat) : Int) (D : Int) (P : Int) rd ((t : Int) + 1) gT gO gF gE (va_up gN t ((q + 2 + T.getD (q + 1) 0 : Nat) : Int)) gQ (va_up gM t ((C.length : Int) + 1)) (va_up gC (600 * t + C.length) (os - (o0 : Int))) (va_up gA t (q : Int)) (va_up gI t os) (va_up gU t (u : Int)) (eK t gK C.length (gT q)) (eK t gP C.length (q : Int)) (eK t gS C.length (os - os)) (eK t gX C.length (((u + (2 + T.getD (q + 1) 0) : Nat) : Int) - (u : Int))) gD gH gL) 0 0 257 [(3, .int (iI 0)), (2, .int (iI (q : Int))), (1, .int (iI (t : Int))), (0, .ref (b 0))] []
              refine go_goto (tgt := 379) hK 257 dX6_item_257 (by decide) ?_
              exact go_vret hK hR.1 379 [] dX6_item_379 (by decide) (by decide) rfl ⟨rfl, (by unfold itM; rw [if_neg (by omega), if_neg (by omega), if_neg (by omega), if_neg (by omega)]; exact mRes_ok (by unfold spBody; rw [if_neg (by omega), if_neg (by omega), if_neg (by omega), if_pos hkd]; unfold spNote; rw [if_neg (by omega), if_neg (by omega), if_neg (by omega), if_neg (by omega)]) ⟨_, _, _, hO, rfl⟩)⟩
            · refine go_aload_n hK 210 0 dX6_item_210 rfl rfl ?_
              refine go_get hK 211 fl_X6_7 dX6_item_211 0 rfl rfl ?_
              refine go_iload_n hK 214 2 dX6_item_214 rfl rfl ?_
              refine go_iald hK 215 dX6_item_215 1 rfl (by omega) (by decide) ?_
              rw [show gT (q : Int).toNat = (5 : Int) from (hT.2 q (by omega)).trans (by rw [hkd]; rfl)]
              show GO Z X (wM Z b sd sz os (M : Int) (L : Int) (Dp : Int) 0 pl ((u + (2 + T.getD (q + 1) 0) : Nat) : Int) (D : Int) (P : Int) rd ((t : Int) + 1) gT gO gF gE gN gQ gM gC (va_up gA t (q : Int)) (va_up gI t os) (va_up gU t (u : Int)) gK gP gS gX gD gH gL) 0 0 216 [(3, .int (iI 0)), (2, .int (iI (q : Int))), (1, .int (iI (t : Int))), (0, .ref (b 0))] [.int (iI 5)]
              refine go_iconst hK 216 dX6_item_216 ?_
              refine go_icmp_ne (tgt := 240) hK 217 dX6_item_217 (by decide) (by decide) (by decide) (fun _ => ?_) (fun q => absurd q (by decide))
              refine go_aload_n hK 240 0 dX6_item_240 rfl rfl ?_
              refine go_iload_n hK 241 1 dX6_item_241 rfl rfl ?_
              refine go_iload_n hK 242 2 dX6_item_242 rfl rfl ?_
              refine go_iconst hK 243 dX6_item_243 ?_
              refine go_iadd hK 244 dX6_item_244 ?_
              refine go_aload_n hK 245 0 dX6_item_245 rfl rfl ?_
              refine go_get hK 246 fl_X6_7 dX6_item_246 0 rfl rfl ?_
              refine go_iload_n hK 249 2 dX6_item_249 rfl rfl ?_
              refine go_iconst hK 250 dX6_item_250 ?_
              refine go_iadd hK 251 dX6_item_251 ?_
              refine go_iald hK 252 dX6_item_252 1 rfl (by omega) (by decide) ?_
              have hb36 := hT8 (q + 1)
              rw [show gT ((q : Int) + 1).toNat = ((T.getD (q + 1) 0 : Nat) : Int) from hT.2 (q + 1) (by omega)]
              refine go_iadd hK 253 dX6_item_253 ?_
              rw [show ((q : Int) + 2) + ((T.getD (q + 1) 0 : Nat) : Int) = ((q + 2 + T.getD (q + 1) 0 : Nat) : Int) by omega]
              show GO Z X (wM Z b sd sz os (M : Int) (L : Int) (Dp : Int) 0 pl ((u + (2 + T.getD (q + 1) 0) : Nat) : Int) (D : Int) (P : Int) rd ((t : Int) + 1) gT gO gF gE gN gQ gM gC (va_up gA t (q : Int)) (va_up gI t os) (va_up gU t (u : Int)) gK gP gS gX gD gH gL) 0 0 254 [(3, .int (iI 0)), (2, .int (iI (q : Int))), (1, .int (iI (t : Int))), (0, .ref (b 0))] [.int (iI ((q + 2 + T.getD (q + 1) 0 : Nat) : Int)), .int (iI (t : Int)), .ref (b 0)]
              refine go_callV (As := [.int (iI (t : Int)), .int (iI ((q + 2 + T.getD (q + 1) 0 : Nat) : Int))]) (rest := []) hK hR 254 (ct_X6_ends Z b (q0 := q) hM (by omega) hQ (by omega) (va_up_s rfl) (va_up_s rfl) (va_up_s rfl) (by omega)) cw_X6_163 gn_X6_ends rfl dX6_item_254 gSel_all ⟨0, 5, _, _, _, rfl, rfl⟩ rfl (Nat.le_of_ble_eq_true rfl) ⟨(by decide), (by decide)⟩ (fun _ _ _ h => h.elim) (fun v w1 h => ?_)
              obtain ⟨rfl, rfl⟩ := h
              show GO Z X (wM Z b sd sz os (M : Int) (L : Int) (Dp : Int) 0 pl ((u + (2 + T.getD (q + 1) 0) : Nat) : Int) (D : Int) (P : Int) rd ((t : Int) + 1) gT gO gF gE (va_up gN t ((q + 2 + T.getD (q + 1) 0 : Nat) : Int)) gQ (va_up gM t ((C.length : Int) + 1)) (va_up gC (600 * t + C.length) (os - (o0 : Int))) (va_up gA t (q : Int)) (va_up gI t os) (va_up gU t (u : Int)) (eK t gK C.length (gT q)) (eK t gP C.length (q : Int)) (eK t gS C.length (os - os)) (eK t gX C.length (((u + (2 + T.getD (q + 1) 0) : Nat) : Int) - (u : Int))) gD gH gL) 0 0 257 [(3, .int (iI 0)), (2, .int (iI (q : Int))), (1, .int (iI (t : Int))), (0, .ref (b 0))] []
              refine go_goto (tgt := 379) hK 257 dX6_item_257 (by decide) ?_
              exact go_vret hK hR.1 379 [] dX6_item_379 (by decide) (by decide) rfl ⟨rfl, (by unfold itM; rw [if_neg (by omega), if_neg (by omega), if_neg (by omega), if_neg (by omega)]; exact mRes_ok (by unfold spBody; rw [if_neg (by omega), if_neg (by omega), if_neg (by omega), if_pos hkd]; unfold spNote; rw [if_neg (by omega), if_neg (by omega), if_neg (by omega), if_neg (by omega)]) ⟨_, _, _, hO, rfl⟩)⟩
        · show GO Z X (wM Z b sd sz os (M : Int) (L : Int) (Dp : Int) 3 (e : Int) (u : Int) (D : Int) (P : Int) rd ((t : Int) + 1) gT gO gF gE gN gQ gM gC (va_up gA t (q : Int)) (va_up gI t os) (va_up gU t (u : Int)) gK gP gS gX gD gH gL) 0 0 137 [(2, .int (iI (q : Int))), (1, .int (iI (t : Int))), (0, .ref (b 0))] [.int (iI 0)]
          refine go_if_eq (tgt := 379) hK 137 dX6_item_137 (by decide) (by decide) (fun _ => ?_) (fun q => absurd q (by decide))
          exact go_vret hK hR.1 379 [] dX6_item_379 (by decide) (by decide) rfl ⟨rfl, (by unfold itM; rw [if_neg (by omega), if_neg (by omega), if_neg (by omega), if_neg (by omega)]; exact mRes_er (by unfold spBody; rw [if_neg (by omega), if_neg (by omega), if_neg (by omega), if_pos hkd]; unfold spNote; rw [if_neg (by omega), if_pos (by omega)]) ⟨_, _, _, hO, rfl⟩)⟩
      · show GO Z X (wM Z b sd sz os (M : Int) (L : Int) (Dp : Int) 3 (e : Int) (u : Int) (D : Int) (P : Int) rd ((t : Int) + 1) gT gO gF gE gN gQ gM gC (va_up gA t (q : Int)) (va_up gI t os) (va_up gU t (u : Int)) gK gP gS gX gD gH gL) 0 0 119 [(2, .int (iI (q : Int))), (1, .int (iI (t : Int))), (0, .ref (b 0))] [.int (iI 0)]
        refine go_if_eq (tgt := 379) hK 119 dX6_item_119 (by decide) (by decide) (fun _ => ?_) (fun q => absurd q (by decide))
        exact go_vret hK hR.1 379 [] dX6_item_379 (by decide) (by decide) rfl ⟨rfl, (by unfold itM; rw [if_neg (by omega), if_neg (by omega), if_neg (by omega), if_neg (by omega)]; exact mRes_er (by unfold spBody; rw [if_neg (by omega), if_neg (by omega), if_neg (by omega), if_pos hkd]; unfold spNote; rw [if_pos (by omega)]) ⟨_, _, _, hO, rfl⟩)⟩
    · refine go_tabIn (tgt := 355) (c := 6) hK 57 dX6_item_57 (by omega) (by decide) (by decide) (by decide) rfl (by decide) ?_
      refine go_aload_n hK 355 0 dX6_item_355 rfl rfl ?_
      refine go_iload_n hK 356 1 dX6_item_356 rfl rfl ?_
      refine go_iload_n hK 357 2 dX6_item_357 rfl rfl ?_
      refine go_callV (As := [.int (iI (t : Int)), .int (iI (q : Int))]) (rest := []) hK hR 358 (ct_X6_again Z b ⟨hT, hTl, hT8, hO, hOM, hM4, huL, hL2, hD8⟩ ⟨ht8, hF, hE, hQ, hM, hC, hfq, by omega, heT, ho0, va_up_s rfl, va_up_s rfl, va_up_s rfl⟩) cw_X6_172 gn_X6_again rfl dX6_item_358 gSel_all ⟨0, 5, _, _, _, rfl, rfl⟩ rfl (Nat.le_of_ble_eq_true rfl) ⟨(by decide), (by decide)⟩ (fun _ _ _ h => h.elim) (fun v w1 h => ?_)
      obtain ⟨rfl, hw9⟩ := h
      show GO Z X w1 0 0 361 [(2, .int (iI (q : Int))), (1, .int (iI (t : Int))), (0, .ref (b 0))] []
      refine go_goto (tgt := 379) hK 361 dX6_item_361 (by decide) ?_
      have hz : itM Z b sd sz os (M : Int) (L : Int) (Dp : Int) 0 pl (u : Int) (D : Int) (P : Int) rd ((t : Int) + 1) gT gO gF gE gN gQ gM gC gA gI gU gK gP gS gX gD gH gL T M L Dp t f e q o0 C O u P D I nP oP qP iP uP w1 := by unfold itM; rw [if_neg (by omega), if_neg (by omega), if_neg (by omega), if_neg (by omega)]; unfold spBody; rw [if_neg (by omega), if_neg (by omega), if_neg (by omega), if_neg (by omega), if_pos hkd]; exact hw9
      exact go_vret hK hR.1 379 [] dX6_item_379 (by decide) (by decide) ((itM_fst hz).trans rfl) ⟨rfl, hz⟩
    · refine go_tabIn (tgt := 364) (c := 7) hK 57 dX6_item_57 (by omega) (by decide) (by decide) (by decide) rfl (by decide) ?_
      refine go_aload_n hK 364 0 dX6_item_364 rfl rfl ?_
      refine go_iload_n hK 365 1 dX6_item_365 rfl rfl ?_
      refine go_iload_n hK 366 2 dX6_item_366 rfl rfl ?_
      refine go_callV (As := [.int (iI (t : Int)), .int (iI (q : Int))]) (rest := []) hK hR 367 (ct_X6_coded Z b ⟨hT, hTl, hT8, hO, hOM, hM4, huL, hL2, hD8⟩ ⟨ht8, hF, hE, hQ, hM, hC, hfq, by omega, heT, ho0, va_up_s rfl, va_up_s rfl, va_up_s rfl⟩) cw_X6_175 gn_X6_coded rfl dX6_item_367 gSel_all ⟨0, 5, _, _, _, rfl, rfl⟩ rfl (Nat.le_of_ble_eq_true rfl) ⟨(by decide), (by decide)⟩ (fun _ _ _ h => h.elim) (fun v w1 h => ?_)
      obtain ⟨rfl, hw9⟩ := h
      show GO Z X w1 0 0 370 [(2, .int (iI (q : Int))), (1, .int (iI (t : Int))), (0, .ref (b 0))] []
      refine go_goto (tgt := 379) hK 370 dX6_item_370 (by decide) ?_
      have hz : itM Z b sd sz os (M : Int) (L : Int) (Dp : Int) 0 pl (u : Int) (D : Int) (P : Int) rd ((t : Int) + 1) gT gO gF gE gN gQ gM gC gA gI gU gK gP gS gX gD gH gL T M L Dp t f e q o0 C O u P D I nP oP qP iP uP w1 := by unfold itM; rw [if_neg (by omega), if_neg (by omega), if_neg (by omega), if_neg (by omega)]; unfold spBody; rw [if_neg (by omega), if_neg (by omega), if_neg (by omega), if_neg (by omega), if_neg (by omega)]; exact hw9
      exact go_vret hK hR.1 379 [] dX6_item_379 (by decide) (by decide) ((itM_fst hz).trans rfl) ⟨rfl, hz⟩
  · show GO Z X (wM Z b sd sz os (M : Int) (L : Int) (Dp : Int) 3 (e : Int) (u : Int) (D : Int) (P : Int) rd ((t : Int) + 1) gT gO gF gE gN gQ gM gC gA gI gU gK gP gS gX gD gH gL) 0 0 20 [(2, .int (iI (q : Int))), (1, .int (iI (t : Int))), (0, .ref (b 0))] [.int (iI 0)]
    refine go_if_ne (tgt := 24) hK 20 dX6_item_20 (by decide) (by decide) (fun q => absurd q (by decide)) (fun _ => ?_)
    exact go_vret hK hR.1 23 [] dX6_item_23 (by decide) (by decide) rfl ⟨rfl, (by unfold itM; rw [if_pos (by omega)]; exact ⟨_, _, _, hO, rfl⟩)⟩

