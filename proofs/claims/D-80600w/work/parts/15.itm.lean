/-! the reference: items (printed by gen/m7.py) -/
set_option maxRecDepth 100000
def eK (t : Nat) (g : Nat → Int) (n : Nat) (x : Int) : Nat → Int := if t = 0 then va_up g n x else g
/-- reading: the tape, what has come, the bounds -/
def RS (T O : List Nat) (u M L Dp : Nat) (sz os : Int) (gT gO : Nat → Int) : Prop := pM T sz gT ∧ T.length ≤ 1200 ∧ (∀ j, T.getD j 0 < 256) ∧ pM O os gO ∧ O.length ≤ M ∧ M ≤ 4000 ∧ u ≤ L ∧ L ≤ 20000 ∧ Dp ≤ 8
/-- the latest pack on the pile, its item at hand at q -/
def SCp (T O C : List Nat) (u t f e q o0 : Nat) (os : Int) (gF gE gQ gM gC gA gI gU : Nat → Int) : Prop := t ≤ 8 ∧ gF t = f ∧ gE t = e ∧ gQ t = o0 ∧ gM t = C.length ∧ (∀ k, k < C.length → gC (600 * t + k) = C.getD k 0 ∧ C.getD k 0 ≤ O.length - o0) ∧ f + 2 + 2 * C.length ≤ q ∧ q < e ∧ e ≤ T.length ∧ o0 ≤ O.length ∧ gA t = q ∧ gI t = os ∧ gU t = u
/-- an item was read: it is noted, the pack goes on at q' -/
def mOk (Z : Gz) (b : Nat → Nat) (sd : Int64) (sz os mo li de fa pl us re pk rd tp : Int) (gT gO gF gE gN gQ gM gC gA gI gU gK gP gS gX gD gH gL : Nat → Int) (t n o0 q q' : Nat) (O' : List Nat) (u' : Nat) (w : va_W) : Prop := ∃ (os' : Int) (gO' gD' : Nat → Int), pM O' os' gO' ∧ w = (wM Z b sd sz os' mo li de 0 pl (u' : Int) re pk rd tp gT gO' gF gE (va_up gN t (q' : Int)) gQ (va_up gM t ((n : Int) + 1)) (va_up gC (600 * t + n) (os' - (o0 : Int))) gA gI gU (eK t gK n (gT q)) (eK t gP n (q : Int)) (eK t gS n (os' - os)) (eK t gX n ((u' : Int) - us)) gD' gH gL)
/-- a fault -/
def mErr (Z : Gz) (b : Nat → Nat) (sd : Int64) (sz os mo li de fa pl us re pk rd tp : Int) (gT gO gF gE gN gQ gM gC gA gI gU gK gP gS gX gD gH gL : Nat → Int) (k p : Nat) (O' : List Nat) (u' : Nat) (w : va_W) : Prop := ∃ (os' : Int) (gO' gD' : Nat → Int), pM O' os' gO' ∧ w = (wM Z b sd sz os' mo li de (k : Int) (p : Int) (u' : Int) re pk rd tp gT gO' gF gE gN gQ gM gC gA gI gU gK gP gS gX gD' gH gL)
def mRes (Z : Gz) (b : Nat → Nat) (sd : Int64) (sz os mo li de fa pl us re pk rd tp : Int) (gT gO gF gE gN gQ gM gC gA gI gU gK gP gS gX gD gH gL : Nat → Int) (t n o0 q : Nat) (r : Rs) (w : va_W) : Prop := match r with
  | .ok (q', O', u') => mOk Z b sd sz os mo li de fa pl us re pk rd tp gT gO gF gE gN gQ gM gC gA gI gU gK gP gS gX gD gH gL t n o0 q q' O' u' w
  | .error (k, p, O', u') => mErr Z b sd sz os mo li de fa pl us re pk rd tp gT gO gF gE gN gQ gM gC gA gI gU gK gP gS gX gD gH gL k p O' u' w
theorem mRes_ok {Z : Gz} {b : Nat → Nat} {sd : Int64} {sz os mo li de fa pl us re pk rd tp : Int} {gT gO gF gE gN gQ gM gC gA gI gU gK gP gS gX gD gH gL : Nat → Int} {t n o0 q : Nat} {r : Rs} {w : va_W} {q' : Nat} {O' : List Nat} {u' : Nat} (h : r = .ok (q', O', u')) (h2 : mOk Z b sd sz os mo li de fa pl us re pk rd tp gT gO gF gE gN gQ gM gC gA gI gU gK gP gS gX gD gH gL t n o0 q q' O' u' w) : mRes Z b sd sz os mo li de fa pl us re pk rd tp gT gO gF gE gN gQ gM gC gA gI gU gK gP gS gX gD gH gL t n o0 q r w := by rw [h]; exact h2
theorem mRes_er {Z : Gz} {b : Nat → Nat} {sd : Int64} {sz os mo li de fa pl us re pk rd tp : Int} {gT gO gF gE gN gQ gM gC gA gI gU gK gP gS gX gD gH gL : Nat → Int} {t n o0 q : Nat} {r : Rs} {w : va_W} {k p : Nat} {O' : List Nat} {u' : Nat} (h : r = .error (k, p, O', u')) (h2 : mErr Z b sd sz os mo li de fa pl us re pk rd tp gT gO gF gE gN gQ gM gC gA gI gU gK gP gS gX gD gH gL k p O' u' w) : mRes Z b sd sz os mo li de fa pl us re pk rd tp gT gO gF gE gN gQ gM gC gA gI gU gK gP gS gX gD gH gL t n o0 q r w := by rw [h]; exact h2
theorem ct_X6_ends (Z : Gz) (b : Nat → Nat) {sd : Int64} {sz os mo li de fa pl us re pk rd tp : Int} {gT gO gF gE gN gQ gM gC gA gI gU gK gP gS gX gD gH gL : Nat → Int} {t n q0 : Nat} {o0 bh i0 u0 : Int} (hM : gM t = n) (hn : n < 600) (hQ : gQ t = o0) (ht : t < 10) (hA : gA t = (q0 : Int)) (hI : gI t = i0) (hU : gU t = u0) (hq0 : q0 < 1200) : CT Z yX6_ends cX6_ends 4 none rm_X6_ends [.ref (b 0), .int (iI (t : Int)), .int (iI bh)] (wM Z b sd sz os mo li de fa pl us re pk rd tp gT gO gF gE gN gQ gM gC gA gI gU gK gP gS gX gD gH gL) (fun v w => v = none ∧ w = (wM Z b sd sz os mo li de fa pl us re pk rd tp gT gO gF gE (va_up gN t bh) gQ (va_up gM t ((n : Int) + 1)) (va_up gC (600 * t + n) (os - o0)) gA gI gU (eK t gK n (gT q0)) (eK t gP n (q0 : Int)) (eK t gS n (os - i0)) (eK t gX n (us - u0)) gD gH gL)) nopx := by
  rcases Nat.eq_zero_or_pos t with h | h
  · subst h
    have h1 := ct_X6_ends0 Z b (sd := sd) (sz := sz) (os := os) (mo := mo) (li := li) (de := de) (fa := fa) (pl := pl) (us := us) (re := re) (pk := pk) (rd := rd) (tp := tp) (gT := gT) (gO := gO) (gF := gF) (gE := gE) (gN := gN) (gQ := gQ) (gM := gM) (gC := gC) (gA := gA) (gI := gI) (gU := gU) (gK := gK) (gP := gP) (gS := gS) (gX := gX) (gD := gD) (gH := gH) (gL := gL) (bh := bh) hM hn hQ hA hI hU (by omega)
    rw [show 600 * 0 + n = n by omega]
    exact h1
  · have e : ∀ (g : Nat → Int) (x : Int), eK t g n x = g := fun g x => if_neg (by omega)
    rw [e, e, e, e]
    exact ct_X6_endsN Z b hM hn hQ ⟨h, ht⟩
abbrev rm_X6_copy : Room := { frames := 2, cells := 0, slots := 0, locals := 45 }
set_option maxHeartbeats 8000000 in
theorem ct_X6_copy (Z : Gz) (b : Nat → Nat) {sd : Int64} {sz os pl re pk rd : Int} {gT gO gF gE gN gQ gM gC gA gI gU gK gP gS gX gD gH gL : Nat → Int} {T O C : List Nat} {u M L Dp t f e q o0 : Nat} (hRS : RS T O u M L Dp sz os gT gO) (hSC : SCp T O C u t f e q o0 os gF gE gQ gM gC gA gI gU) : CT Z yX6_copy cX6_copy 5 none rm_X6_copy [.ref (b 0), .int (iI (t : Int)), .int (iI (q : Int))] (wM Z b sd sz os (M : Int) (L : Int) (Dp : Int) 0 pl (u : Int) re pk rd ((t : Int) + 1) gT gO gF gE gN gQ gM gC gA gI gU gK gP gS gX gD gH gL) (fun v w => v = none ∧ mRes Z b sd sz os (M : Int) (L : Int) (Dp : Int) 0 pl (u : Int) re pk rd ((t : Int) + 1) gT gO gF gE gN gQ gM gC gA gI gU gK gP gS gX gD gH gL t C.length o0 q (spCopy T M L e q o0 O u) w) nopx := by
  refine ct_of (by decide) (Nat.le_of_ble_eq_true rfl) (fun X hK hR => ?_)
  show GO Z X (wM Z b sd sz os (M : Int) (L : Int) (Dp : Int) 0 pl (u : Int) re pk rd ((t : Int) + 1) gT gO gF gE gN gQ gM gC gA gI gU gK gP gS gX gD gH gL) 0 0 0 [(0, .ref (b 0)), (1, .int (iI (t : Int))), (2, .int (iI (q : Int)))] []
  obtain ⟨hT, hTl, hT8, hO, hOM, hM4, huL, hL2, hD8⟩ := hRS
  obtain ⟨ht8, hF, hE, hQ, hM, hC, hfq, hqe, heT, ho0, hA, hI, hU⟩ := hSC
  have hOl := hO.1
  have hE' : gE ((t : Int) + 1 - 1).toNat = (e : Int) := by rw [show ((t : Int) + 1 - 1).toNat = t by omega]; exact hE
  refine go_aload_n hK 0 0 dX6_copy_0 rfl rfl ?_
  refine go_iload_n hK 1 2 dX6_copy_1 rfl rfl ?_
  refine go_iconst hK 2 dX6_copy_2 ?_
  refine go_callV (As := [.int (iI (q : Int)), .int (iI 2)]) (rest := []) hK hR 3 (ct_X6_has Z b rfl (by omega) hE' (by omega) (by omega)) cw_X6_149 gn_X6_has rfl dX6_copy_3 gSel_all ⟨0, 5, _, _, _, rfl, rfl⟩ rfl (Nat.le_of_ble_eq_true rfl) ⟨(by decide), (by decide)⟩ (fun _ _ _ h => h.elim) (fun v w1 h => ?_)
  rcases h with ⟨rfl, ch1, rfl⟩ | ⟨rfl, ch1, rfl⟩
  · show GO Z X (wM Z b sd sz os (M : Int) (L : Int) (Dp : Int) 0 pl (u : Int) re pk rd ((t : Int) + 1) gT gO gF gE gN gQ gM gC gA gI gU gK gP gS gX gD gH gL) 0 0 6 [(0, .ref (b 0)), (1, .int (iI (t : Int))), (2, .int (iI (q : Int)))] [.int (iI 1)]
    refine go_if_ne (tgt := 10) hK 6 dX6_copy_6 (by decide) (by decide) (fun _ => ?_) (fun q => absurd q (by decide))
    refine go_aload_n hK 10 0 dX6_copy_10 rfl rfl ?_
    refine go_get hK 11 fl_X6_7 dX6_copy_11 0 rfl rfl ?_
    refine go_iload_n hK 14 2 dX6_copy_14 rfl rfl ?_
    refine go_iconst hK 15 dX6_copy_15 ?_
    refine go_iadd hK 16 dX6_copy_16 ?_
    refine go_iald hK 17 dX6_copy_17 1 rfl (by omega) (by decide) ?_
    have hb2 := hT8 (q + 1)
    rw [show gT ((q : Int) + 1).toNat = ((T.getD (q + 1) 0 : Nat) : Int) from hT.2 (q + 1) (by omega)]
    refine go_istore_n (lo' := [(3, .int (iI ((T.getD (q + 1) 0 : Nat) : Int))), (0, .ref (b 0)), (1, .int (iI (t : Int))), (2, .int (iI (q : Int)))]) hK 18 3 dX6_copy_18 rfl (by decide) rfl ?_
    refine go_iload_n hK 19 3 dX6_copy_19 rfl rfl ?_
    refine go_if_eq (tgt := 38) hK 20 dX6_copy_20 (by decide) (by omega) (fun c3 => ?_) (fun c3 => ?_)
    · refine go_aload_n hK 38 0 dX6_copy_38 rfl rfl ?_
      refine go_iconst hK 39 dX6_copy_39 ?_
      refine go_iload_n hK 40 2 dX6_copy_40 rfl rfl ?_
      refine go_iconst hK 41 dX6_copy_41 ?_
      refine go_iadd hK 42 dX6_copy_42 ?_
      refine go_callV (As := [.int (iI 4), .int (iI ((q : Int) + 1))]) (rest := []) hK hR 43 (ct_X6_fails Z b) cw_X6_131 gn_X6_fails rfl dX6_copy_43 gSel_all ⟨0, 5, _, _, _, rfl, rfl⟩ rfl (Nat.le_of_ble_eq_true rfl) ⟨(by decide), (by decide)⟩ (fun _ _ _ h => h.elim) (fun v w1 h => ?_)
      obtain ⟨rfl, rfl⟩ := h
      show GO Z X (wM Z b sd sz os (M : Int) (L : Int) (Dp : Int) 4 ((q : Int) + 1) (u : Int) re pk rd ((t : Int) + 1) gT gO gF gE gN gQ gM gC gA gI gU gK gP gS gX gD gH gL) 0 0 46 [(3, .int (iI ((T.getD (q + 1) 0 : Nat) : Int))), (0, .ref (b 0)), (1, .int (iI (t : Int))), (2, .int (iI (q : Int)))] []
      refine go_goto (tgt := 129) hK 46 dX6_copy_46 (by decide) ?_
      exact go_vret hK hR.1 129 [] dX6_copy_129 (by decide) (by decide) rfl ⟨rfl, mRes_er (by unfold spCopy; rw [if_neg (by omega), if_pos (by omega)]) ⟨_, _, _, hO, rfl⟩⟩
    · refine go_iload_n hK 23 3 dX6_copy_23 rfl rfl ?_
      refine go_aload_n hK 24 0 dX6_copy_24 rfl rfl ?_
      refine go_get hK 25 fl_X6_140 dX6_copy_25 0 rfl rfl ?_
      refine go_aload_n hK 28 0 dX6_copy_28 rfl rfl ?_
      refine go_get hK 29 fl_X6_29 dX6_copy_29 0 rfl rfl ?_
      refine go_iload_n hK 32 1 dX6_copy_32 rfl rfl ?_
      refine go_iald hK 33 dX6_copy_33 6 rfl (by omega) (by decide) ?_
      rw [show gQ (t : Int).toNat = (o0 : Int) from hQ]
      refine go_isub hK 34 dX6_copy_34 ?_
      refine go_icmp_le (tgt := 49) hK 35 dX6_copy_35 (by decide) (by omega) (by omega) (fun c4 => ?_) (fun c4 => ?_)
      · refine go_aload_n hK 49 0 dX6_copy_49 rfl rfl ?_
        refine go_iload_n hK 50 2 dX6_copy_50 rfl rfl ?_
        refine go_iconst hK 51 dX6_copy_51 ?_
        refine go_callV (As := [.int (iI (q : Int)), .int (iI 3)]) (rest := []) hK hR 52 (ct_X6_has Z b rfl (by omega) hE' (by omega) (by omega)) cw_X6_149 gn_X6_has rfl dX6_copy_52 gSel_all ⟨0, 5, _, _, _, rfl, rfl⟩ rfl (Nat.le_of_ble_eq_true rfl) ⟨(by decide), (by decide)⟩ (fun _ _ _ h => h.elim) (fun v w1 h => ?_)
        rcases h with ⟨rfl, ch5, rfl⟩ | ⟨rfl, ch5, rfl⟩
        · show GO Z X (wM Z b sd sz os (M : Int) (L : Int) (Dp : Int) 0 pl (u : Int) re pk rd ((t : Int) + 1) gT gO gF gE gN gQ gM gC gA gI gU gK gP gS gX gD gH gL) 0 0 55 [(3, .int (iI ((T.getD (q + 1) 0 : Nat) : Int))), (0, .ref (b 0)), (1, .int (iI (t : Int))), (2, .int (iI (q : Int)))] [.int (iI 1)]
          refine go_if_eq (tgt := 129) hK 55 dX6_copy_55 (by decide) (by decide) (fun q => absurd q (by decide)) (fun _ => ?_)
          refine go_aload_n hK 58 0 dX6_copy_58 rfl rfl ?_
          refine go_iload_n hK 59 2 dX6_copy_59 rfl rfl ?_
          refine go_iconst hK 60 dX6_copy_60 ?_
          refine go_aload_n hK 61 0 dX6_copy_61 rfl rfl ?_
          refine go_get hK 62 fl_X6_7 dX6_copy_62 0 rfl rfl ?_
          refine go_iload_n hK 65 2 dX6_copy_65 rfl rfl ?_
          refine go_iconst hK 66 dX6_copy_66 ?_
          refine go_iadd hK 67 dX6_copy_67 ?_
          refine go_iald hK 68 dX6_copy_68 1 rfl (by omega) (by decide) ?_
          have hb6 := hT8 (q + 2)
          rw [show gT ((q : Int) + 2).toNat = ((T.getD (q + 2) 0 : Nat) : Int) from hT.2 (q + 2) (by omega)]
          refine go_iadd hK 69 dX6_copy_69 ?_
          refine go_aload_n hK 70 0 dX6_copy_70 rfl rfl ?_
          refine go_get hK 71 fl_X6_7 dX6_copy_71 0 rfl rfl ?_
          refine go_iload_n hK 74 2 dX6_copy_74 rfl rfl ?_
          refine go_iconst hK 75 dX6_copy_75 ?_
          refine go_iadd hK 76 dX6_copy_76 ?_
          refine go_iald hK 77 dX6_copy_77 1 rfl (by omega) (by decide) ?_
          have hb7 := hT8 (q + 2)
          rw [show gT ((q : Int) + 2).toNat = ((T.getD (q + 2) 0 : Nat) : Int) from hT.2 (q + 2) (by omega)]
          refine go_callV (As := [.int (iI (q : Int)), .int (iI (3 + ((T.getD (q + 2) 0 : Nat) : Int))), .int (iI ((T.getD (q + 2) 0 : Nat) : Int))]) (rest := []) hK hR 78 (ct_X6_pays Z b rfl (by omega) (by omega)) cw_X6_156 gn_X6_pays rfl dX6_copy_78 gSel_all ⟨0, 5, _, _, _, rfl, rfl⟩ rfl (Nat.le_of_ble_eq_true rfl) ⟨(by decide), (by decide)⟩ (fun _ _ _ h => h.elim) (fun v w1 h => ?_)
          rcases h with ⟨rfl, cp8, rfl⟩ | ⟨rfl, cp8, cp9, rfl⟩ | ⟨rfl, cp8, cp9, rfl⟩
          · show GO Z X (wM Z b sd sz os (M : Int) (L : Int) (Dp : Int) 11 (q : Int) (u : Int) re pk rd ((t : Int) + 1) gT gO gF gE gN gQ gM gC gA gI gU gK gP gS gX gD gH gL) 0 0 81 [(3, .int (iI ((T.getD (q + 1) 0 : Nat) : Int))), (0, .ref (b 0)), (1, .int (iI (t : Int))), (2, .int (iI (q : Int)))] [.int (iI 0)]
            refine go_if_eq (tgt := 129) hK 81 dX6_copy_81 (by decide) (by decide) (fun _ => ?_) (fun q => absurd q (by decide))
            exact go_vret hK hR.1 129 [] dX6_copy_129 (by decide) (by decide) rfl ⟨rfl, mRes_er (by unfold spCopy; rw [if_neg (by omega), if_neg (by omega), if_neg (by omega), if_pos (by omega)]) ⟨_, _, _, hO, rfl⟩⟩
          · show GO Z X (wM Z b sd sz os (M : Int) (L : Int) (Dp : Int) 12 (q : Int) (u : Int) re pk rd ((t : Int) + 1) gT gO gF gE gN gQ gM gC gA gI gU gK gP gS gX gD gH gL) 0 0 81 [(3, .int (iI ((T.getD (q + 1) 0 : Nat) : Int))), (0, .ref (b 0)), (1, .int (iI (t : Int))), (2, .int (iI (q : Int)))] [.int (iI 0)]
            refine go_if_eq (tgt := 129) hK 81 dX6_copy_81 (by decide) (by decide) (fun _ => ?_) (fun q => absurd q (by decide))
            exact go_vret hK hR.1 129 [] dX6_copy_129 (by decide) (by decide) rfl ⟨rfl, mRes_er (by unfold spCopy; rw [if_neg (by omega), if_neg (by omega), if_neg (by omega), if_neg (by omega), if_pos (by omega)]) ⟨_, _, _, hO, rfl⟩⟩
          · show GO Z X (wM Z b sd sz os (M : Int) (L : Int) (Dp : Int) 0 pl ((u : Int) + (3 + ((T.getD (q + 2) 0 : Nat) : Int))) re pk rd ((t : Int) + 1) gT gO gF gE gN gQ gM gC gA gI gU gK gP gS gX gD gH gL) 0 0 81 [(3, .int (iI ((T.getD (q + 1) 0 : Nat) : Int))), (0, .ref (b 0)), (1, .int (iI (t : Int))), (2, .int (iI (q : Int)))] [.int (iI 1)]
            rw [show (u : Int) + (3 + ((T.getD (q + 2) 0 : Nat) : Int)) = ((u + (3 + T.getD (q + 2) 0) : Nat) : Int) by omega]
            refine go_if_eq (tgt := 129) hK 81 dX6_copy_81 (by decide) (by decide) (fun q => absurd q (by decide)) (fun _ => ?_)
            refine go_iconst hK 84 dX6_copy_84 ?_
            refine go_istore (lo' := [(4, .int (iI 0)), (3, .int (iI ((T.getD (q + 1) 0 : Nat) : Int))), (0, .ref (b 0)), (1, .int (iI (t : Int))), (2, .int (iI (q : Int)))]) hK 85 4 dX6_copy_85 (by decide) rfl ?_
            refine go_lo [2, 3, 4, 1, 0] rfl ?_
            have lp : ∀ (fu : Nat) (i : Nat) (k : Int) (os1 : Int) (gO1 : Nat → Int), (i ≤ T.getD (q + 2) 0) → (k = i) → (pM (cpN (T.getD (q + 1) 0) i O) os1 gO1) → T.getD (q + 2) 0 - i < fu → GO Z X (wM Z b sd sz os1 (M : Int) (L : Int) (Dp : Int) 0 pl ((u + (3 + T.getD (q + 2) 0) : Nat) : Int) re pk rd ((t : Int) + 1) gT gO1 gF gE gN gQ gM gC gA gI gU gK gP gS gX gD gH gL) 0 0 87 [(0, .ref (b 0)), (1, .int (iI (t : Int))), (2, .int (iI (q : Int))), (3, .int (iI ((T.getD (q + 1) 0 : Nat) : Int))), (4, .int (iI k))] [] := by
              intro fu
              induction fu with
              | zero => intro i k os1 gO1 hi hk hp1 hm; exact absurd hm (Nat.not_lt_zero _)
              | succ fu ih =>
                intro i k os1 gO1 hi hk hp1 hm
                have hln : (cpN (T.getD (q + 1) 0) i O).length = O.length + i := cpN_len _ _ _
                have hz1 := hp1.1
                refine go_iload hK 87 4 dX6_copy_87 rfl ?_
                refine go_aload_n hK 89 0 dX6_copy_89 rfl rfl ?_
                refine go_get hK 90 fl_X6_7 dX6_copy_90 0 rfl rfl ?_
                refine go_iload_n hK 93 2 dX6_copy_93 rfl rfl ?_
                refine go_iconst hK 94 dX6_copy_94 ?_
                refine go_iadd hK 95 dX6_copy_95 ?_
                refine go_iald hK 96 dX6_copy_96 1 rfl (by omega) (by decide) ?_
                have hb10 := hT8 (q + 2)
                rw [show gT ((q : Int) + 2).toNat = ((T.getD (q + 2) 0 : Nat) : Int) from hT.2 (q + 2) (by omega)]
                refine go_icmp_ge (tgt := 121) hK 97 dX6_copy_97 (by decide) (by omega) (by omega) (fun c11 => ?_) (fun c11 => ?_)
                · have hi9 : i = T.getD (q + 2) 0 := by omega
                  rw [hi9] at hp1 hln
                  refine go_aload_n hK 121 0 dX6_copy_121 rfl rfl ?_
                  refine go_iload_n hK 122 1 dX6_copy_122 rfl rfl ?_
                  refine go_iload_n hK 123 2 dX6_copy_123 rfl rfl ?_
                  refine go_iconst hK 124 dX6_copy_124 ?_
                  refine go_iadd hK 125 dX6_copy_125 ?_
                  refine go_callV (As := [.int (iI (t : Int)), .int (iI ((q : Int) + 3))]) (rest := []) hK hR 126 (ct_X6_ends Z b (q0 := q) hM (by omega) hQ (by omega) hA hI hU (by omega)) cw_X6_163 gn_X6_ends rfl dX6_copy_126 gSel_all ⟨0, 5, _, _, _, rfl, rfl⟩ rfl (Nat.le_of_ble_eq_true rfl) ⟨(by decide), (by decide)⟩ (fun _ _ _ h => h.elim) (fun v w1 h => ?_)
                  obtain ⟨rfl, rfl⟩ := h
                  show GO Z X (wM Z b sd sz os1 (M : Int) (L : Int) (Dp : Int) 0 pl ((u + (3 + T.getD (q + 2) 0) : Nat) : Int) re pk rd ((t : Int) + 1) gT gO1 gF gE (va_up gN t ((q : Int) + 3)) gQ (va_up gM t ((C.length : Int) + 1)) (va_up gC (600 * t + C.length) (os1 - (o0 : Int))) gA gI gU (eK t gK C.length (gT q)) (eK t gP C.length (q : Int)) (eK t gS C.length (os1 - os)) (eK t gX C.length (((u + (3 + T.getD (q + 2) 0) : Nat) : Int) - (u : Int))) gD gH gL) 0 0 129 [(0, .ref (b 0)), (1, .int (iI (t : Int))), (2, .int (iI (q : Int))), (3, .int (iI ((T.getD (q + 1) 0 : Nat) : Int))), (4, .int (iI k))] []
                  exact go_vret hK hR.1 129 [] dX6_copy_129 (by decide) (by decide) rfl ⟨rfl, mRes_ok (by unfold spCopy; rw [if_neg (by omega), if_neg (by omega), if_neg (by omega), if_neg (by omega), if_neg (by omega)]) ⟨_, _, _, hp1, rfl⟩⟩
                · refine go_aload_n hK 100 0 dX6_copy_100 rfl rfl ?_
                  refine go_aload_n hK 101 0 dX6_copy_101 rfl rfl ?_
                  refine go_get hK 102 fl_X6_13 dX6_copy_102 0 rfl rfl ?_
                  refine go_aload_n hK 105 0 dX6_copy_105 rfl rfl ?_
                  refine go_get hK 106 fl_X6_140 dX6_copy_106 0 rfl rfl ?_
                  refine go_iload_n hK 109 3 dX6_copy_109 rfl rfl ?_
                  refine go_isub hK 110 dX6_copy_110 ?_
                  refine go_iald hK 111 dX6_copy_111 2 rfl (by omega) (by decide) ?_
                  have hg9 := hp1.2 ((cpN (T.getD (q + 1) 0) i O).length - T.getD (q + 1) 0) (by omega)
                  rw [show (os1 - ((T.getD (q + 1) 0 : Nat) : Int)).toNat = (cpN (T.getD (q + 1) 0) i O).length - T.getD (q + 1) 0 by omega, hg9]
                  refine go_callV (As := [.int (iI (((cpN (T.getD (q + 1) 0) i O).getD ((cpN (T.getD (q + 1) 0) i O).length - T.getD (q + 1) 0) 0 : Nat) : Int))]) (rest := []) hK hR 112 (ct_X6_comes Z b hp1 ((cpN (T.getD (q + 1) 0) i O).getD ((cpN (T.getD (q + 1) 0) i O).length - T.getD (q + 1) 0) 0) rfl (by omega)) cw_X6_160 gn_X6_comes rfl dX6_copy_112 gSel_all ⟨0, 5, _, _, _, rfl, rfl⟩ rfl (Nat.le_of_ble_eq_true rfl) ⟨(by decide), (by decide)⟩ (fun _ _ _ h => h.elim) (fun v w1 h => ?_)
                  obtain ⟨rfl, os12, gO13, hp14, rfl⟩ := h
                  show GO Z X (wM Z b sd sz os12 (M : Int) (L : Int) (Dp : Int) 0 pl ((u + (3 + T.getD (q + 2) 0) : Nat) : Int) re pk rd ((t : Int) + 1) gT gO13 gF gE gN gQ gM gC gA gI gU gK gP gS gX gD gH gL) 0 0 115 [(0, .ref (b 0)), (1, .int (iI (t : Int))), (2, .int (iI (q : Int))), (3, .int (iI ((T.getD (q + 1) 0 : Nat) : Int))), (4, .int (iI k))] []
                  refine go_iinc (lo' := [(4, .int (iI (k + 1))), (0, .ref (b 0)), (1, .int (iI (t : Int))), (2, .int (iI (q : Int))), (3, .int (iI ((T.getD (q + 1) 0 : Nat) : Int)))]) hK 115 4 4 dX6_copy_115 rfl (by decide) rfl ?_
                  refine go_goto (tgt := 87) hK 118 dX6_copy_118 (by decide) ?_
                  refine go_lo [1, 2, 3, 4, 0] rfl ?_
                  exact ih (i + 1) (k + 1) os12 gO13 (by omega) (by omega) hp14 (by omega)
            exact lp _ 0 0 _ _ (by omega) rfl hO (Nat.lt_succ_self _)
        · show GO Z X (wM Z b sd sz os (M : Int) (L : Int) (Dp : Int) 3 (e : Int) (u : Int) re pk rd ((t : Int) + 1) gT gO gF gE gN gQ gM gC gA gI gU gK gP gS gX gD gH gL) 0 0 55 [(3, .int (iI ((T.getD (q + 1) 0 : Nat) : Int))), (0, .ref (b 0)), (1, .int (iI (t : Int))), (2, .int (iI (q : Int)))] [.int (iI 0)]
          refine go_if_eq (tgt := 129) hK 55 dX6_copy_55 (by decide) (by decide) (fun _ => ?_) (fun q => absurd q (by decide))
          exact go_vret hK hR.1 129 [] dX6_copy_129 (by decide) (by decide) rfl ⟨rfl, mRes_er (by unfold spCopy; rw [if_neg (by omega), if_neg (by omega), if_pos (by omega)]) ⟨_, _, _, hO, rfl⟩⟩
      · refine go_aload_n hK 38 0 dX6_copy_38 rfl rfl ?_
        refine go_iconst hK 39 dX6_copy_39 ?_
        refine go_iload_n hK 40 2 dX6_copy_40 rfl rfl ?_
        refine go_iconst hK 41 dX6_copy_41 ?_
        refine go_iadd hK 42 dX6_copy_42 ?_
        refine go_callV (As := [.int (iI 4), .int (iI ((q : Int) + 1))]) (rest := []) hK hR 43 (ct_X6_fails Z b) cw_X6_131 gn_X6_fails rfl dX6_copy_43 gSel_all ⟨0, 5, _, _, _, rfl, rfl⟩ rfl (Nat.le_of_ble_eq_true rfl) ⟨(by decide), (by decide)⟩ (fun _ _ _ h => h.elim) (fun v w1 h => ?_)
        obtain ⟨rfl, rfl⟩ := h
        show GO Z X (wM Z b sd sz os (M : Int) (L : Int) (Dp : Int) 4 ((q : Int) + 1) (u : Int) re pk rd ((t : Int) + 1) gT gO gF gE gN gQ gM gC gA gI gU gK gP gS gX gD gH gL) 0 0 46 [(3, .int (iI ((T.getD (q + 1) 0 : Nat) : Int))), (0, .ref (b 0)), (1, .int (iI (t : Int))), (2, .int (iI (q : Int)))] []
        refine go_goto (tgt := 129) hK 46 dX6_copy_46 (by decide) ?_
        exact go_vret hK hR.1 129 [] dX6_copy_129 (by decide) (by decide) rfl ⟨rfl, mRes_er (by unfold spCopy; rw [if_neg (by omega), if_pos (by omega)]) ⟨_, _, _, hO, rfl⟩⟩
  · show GO Z X (wM Z b sd sz os (M : Int) (L : Int) (Dp : Int) 3 (e : Int) (u : Int) re pk rd ((t : Int) + 1) gT gO gF gE gN gQ gM gC gA gI gU gK gP gS gX gD gH gL) 0 0 6 [(0, .ref (b 0)), (1, .int (iI (t : Int))), (2, .int (iI (q : Int)))] [.int (iI 0)]
    refine go_if_ne (tgt := 10) hK 6 dX6_copy_6 (by decide) (by decide) (fun q => absurd q (by decide)) (fun _ => ?_)
    exact go_vret hK hR.1 9 [] dX6_copy_9 (by decide) (by decide) rfl ⟨rfl, mRes_er (by unfold spCopy; rw [if_pos (by omega)]) ⟨_, _, _, hO, rfl⟩⟩

abbrev rm_X6_again : Room := { frames := 2, cells := 0, slots := 0, locals := 45 }
set_option maxHeartbeats 8000000 in
theorem ct_X6_again (Z : Gz) (b : Nat → Nat) {sd : Int64} {sz os pl re pk rd : Int} {gT gO gF gE gN gQ gM gC gA gI gU gK gP gS gX gD gH gL : Nat → Int} {T O C : List Nat} {u M L Dp t f e q o0 : Nat} (hRS : RS T O u M L Dp sz os gT gO) (hSC : SCp T O C u t f e q o0 os gF gE gQ gM gC gA gI gU) : CT Z yX6_again cX6_again 6 none rm_X6_again [.ref (b 0), .int (iI (t : Int)), .int (iI (q : Int))] (wM Z b sd sz os (M : Int) (L : Int) (Dp : Int) 0 pl (u : Int) re pk rd ((t : Int) + 1) gT gO gF gE gN gQ gM gC gA gI gU gK gP gS gX gD gH gL) (fun v w => v = none ∧ mRes Z b sd sz os (M : Int) (L : Int) (Dp : Int) 0 pl (u : Int) re pk rd ((t : Int) + 1) gT gO gF gE gN gQ gM gC gA gI gU gK gP gS gX gD gH gL t C.length o0 q (spAgain T M L e q o0 C O u) w) nopx := by
  refine ct_of (by decide) (Nat.le_of_ble_eq_true rfl) (fun X hK hR => ?_)
  show GO Z X (wM Z b sd sz os (M : Int) (L : Int) (Dp : Int) 0 pl (u : Int) re pk rd ((t : Int) + 1) gT gO gF gE gN gQ gM gC gA gI gU gK gP gS gX gD gH gL) 0 0 0 [(0, .ref (b 0)), (1, .int (iI (t : Int))), (2, .int (iI (q : Int)))] []
  obtain ⟨hT, hTl, hT8, hO, hOM, hM4, huL, hL2, hD8⟩ := hRS
  obtain ⟨ht8, hF, hE, hQ, hM, hC, hfq, hqe, heT, ho0, hA, hI, hU⟩ := hSC
  have hOl := hO.1
  have hE' : gE ((t : Int) + 1 - 1).toNat = (e : Int) := by rw [show ((t : Int) + 1 - 1).toNat = t by omega]; exact hE
  refine go_aload_n hK 0 0 dX6_again_0 rfl rfl ?_
  refine go_iload_n hK 1 2 dX6_again_1 rfl rfl ?_
  refine go_iconst hK 2 dX6_again_2 ?_
  refine go_callV (As := [.int (iI (q : Int)), .int (iI 2)]) (rest := []) hK hR 3 (ct_X6_has Z b rfl (by omega) hE' (by omega) (by omega)) cw_X6_149 gn_X6_has rfl dX6_again_3 gSel_all ⟨0, 5, _, _, _, rfl, rfl⟩ rfl (Nat.le_of_ble_eq_true rfl) ⟨(by decide), (by decide)⟩ (fun _ _ _ h => h.elim) (fun v w1 h => ?_)
  rcases h with ⟨rfl, ch1, rfl⟩ | ⟨rfl, ch1, rfl⟩
  · show GO Z X (wM Z b sd sz os (M : Int) (L : Int) (Dp : Int) 0 pl (u : Int) re pk rd ((t : Int) + 1) gT gO gF gE gN gQ gM gC gA gI gU gK gP gS gX gD gH gL) 0 0 6 [(0, .ref (b 0)), (1, .int (iI (t : Int))), (2, .int (iI (q : Int)))] [.int (iI 1)]
    refine go_if_ne (tgt := 10) hK 6 dX6_again_6 (by decide) (by decide) (fun _ => ?_) (fun q => absurd q (by decide))
    refine go_aload_n hK 10 0 dX6_again_10 rfl rfl ?_
    refine go_get hK 11 fl_X6_7 dX6_again_11 0 rfl rfl ?_
    refine go_iload_n hK 14 2 dX6_again_14 rfl rfl ?_
    refine go_iconst hK 15 dX6_again_15 ?_
    refine go_iadd hK 16 dX6_again_16 ?_
    refine go_iald hK 17 dX6_again_17 1 rfl (by omega) (by decide) ?_
    have hb2 := hT8 (q + 1)
    rw [show gT ((q : Int) + 1).toNat = ((T.getD (q + 1) 0 : Nat) : Int) from hT.2 (q + 1) (by omega)]
    refine go_istore_n (lo' := [(3, .int (iI ((T.getD (q + 1) 0 : Nat) : Int))), (0, .ref (b 0)), (1, .int (iI (t : Int))), (2, .int (iI (q : Int)))]) hK 18 3 dX6_again_18 rfl (by decide) rfl ?_
    refine go_iload_n hK 19 3 dX6_again_19 rfl rfl ?_
    refine go_aload_n hK 20 0 dX6_again_20 rfl rfl ?_
    refine go_get hK 21 fl_X6_32 dX6_again_21 0 rfl rfl ?_
    refine go_iload_n hK 24 1 dX6_again_24 rfl rfl ?_
    refine go_iald hK 25 dX6_again_25 7 rfl (by omega) (by decide) ?_
    rw [show gM (t : Int).toNat = (C.length : Int) from hM]
    refine go_icmp_lt (tgt := 38) hK 26 dX6_again_26 (by decide) (by omega) (by omega) (fun c3 => ?_) (fun c3 => ?_)
    · have hc9 := hC (T.getD (q + 1) 0) (by omega)
      refine go_aload_n hK 38 0 dX6_again_38 rfl rfl ?_
      refine go_get hK 39 fl_X6_35 dX6_again_39 0 rfl rfl ?_
      refine go_sipush hK 42 dX6_again_42 (by decide) ?_
      refine go_iload_n hK 45 1 dX6_again_45 rfl rfl ?_
      refine go_imul hK 46 dX6_again_46 ?_
      refine go_iload_n hK 47 3 dX6_again_47 rfl rfl ?_
      refine go_iadd hK 48 dX6_again_48 ?_
      refine go_iald hK 49 dX6_again_49 8 rfl (by omega) (by decide) ?_
      rw [show gC ((600 * (t : Int)) + ((T.getD (q + 1) 0 : Nat) : Int)).toNat = ((C.getD (T.getD (q + 1) 0) 0 : Nat) : Int) from hc9.1]
      refine go_istore (lo' := [(4, .int (iI ((C.getD (T.getD (q + 1) 0) 0 : Nat) : Int))), (3, .int (iI ((T.getD (q + 1) 0 : Nat) : Int))), (0, .ref (b 0)), (1, .int (iI (t : Int))), (2, .int (iI (q : Int)))]) hK 50 4 dX6_again_50 (by decide) rfl ?_
      refine go_aload_n hK 52 0 dX6_again_52 rfl rfl ?_
      refine go_iload_n hK 53 2 dX6_again_53 rfl rfl ?_
      refine go_iconst hK 54 dX6_again_54 ?_
      refine go_iload hK 55 4 dX6_again_55 rfl ?_
      refine go_iadd hK 57 dX6_again_57 ?_
      refine go_iload hK 58 4 dX6_again_58 rfl ?_
      refine go_callV (As := [.int (iI (q : Int)), .int (iI (2 + ((C.getD (T.getD (q + 1) 0) 0 : Nat) : Int))), .int (iI ((C.getD (T.getD (q + 1) 0) 0 : Nat) : Int))]) (rest := []) hK hR 60 (ct_X6_pays Z b rfl (by omega) (by omega)) cw_X6_156 gn_X6_pays rfl dX6_again_60 gSel_all ⟨0, 5, _, _, _, rfl, rfl⟩ rfl (Nat.le_of_ble_eq_true rfl) ⟨(by decide), (by decide)⟩ (fun _ _ _ h => h.elim) (fun v w1 h => ?_)
      rcases h with ⟨rfl, cp4, rfl⟩ | ⟨rfl, cp4, cp5, rfl⟩ | ⟨rfl, cp4, cp5, rfl⟩
      · show GO Z X (wM Z b sd sz os (M : Int) (L : Int) (Dp : Int) 11 (q : Int) (u : Int) re pk rd ((t : Int) + 1) gT gO gF gE gN gQ gM gC gA gI gU gK gP gS gX gD gH gL) 0 0 63 [(4, .int (iI ((C.getD (T.getD (q + 1) 0) 0 : Nat) : Int))), (3, .int (iI ((T.getD (q + 1) 0 : Nat) : Int))), (0, .ref (b 0)), (1, .int (iI (t : Int))), (2, .int (iI (q : Int)))] [.int (iI 0)]
        refine go_if_eq (tgt := 108) hK 63 dX6_again_63 (by decide) (by decide) (fun _ => ?_) (fun q => absurd q (by decide))
        exact go_vret hK hR.1 108 [] dX6_again_108 (by decide) (by decide) rfl ⟨rfl, mRes_er (by unfold spAgain; rw [if_neg (by omega), if_neg (by omega), if_pos (by omega)]) ⟨_, _, _, hO, rfl⟩⟩
      · show GO Z X (wM Z b sd sz os (M : Int) (L : Int) (Dp : Int) 12 (q : Int) (u : Int) re pk rd ((t : Int) + 1) gT gO gF gE gN gQ gM gC gA gI gU gK gP gS gX gD gH gL) 0 0 63 [(4, .int (iI ((C.getD (T.getD (q + 1) 0) 0 : Nat) : Int))), (3, .int (iI ((T.getD (q + 1) 0 : Nat) : Int))), (0, .ref (b 0)), (1, .int (iI (t : Int))), (2, .int (iI (q : Int)))] [.int (iI 0)]
        refine go_if_eq (tgt := 108) hK 63 dX6_again_63 (by decide) (by decide) (fun _ => ?_) (fun q => absurd q (by decide))
        exact go_vret hK hR.1 108 [] dX6_again_108 (by decide) (by decide) rfl ⟨rfl, mRes_er (by unfold spAgain; rw [if_neg (by omega), if_neg (by omega), if_neg (by omega), if_pos (by omega)]) ⟨_, _, _, hO, rfl⟩⟩
      · show GO Z X (wM Z b sd sz os (M : Int) (L : Int) (Dp : Int) 0 pl ((u : Int) + (2 + ((C.getD (T.getD (q + 1) 0) 0 : Nat) : Int))) re pk rd ((t : Int) + 1) gT gO gF gE gN gQ gM gC gA gI gU gK gP gS gX gD gH gL) 0 0 63 [(4, .int (iI ((C.getD (T.getD (q + 1) 0) 0 : Nat) : Int))), (3, .int (iI ((T.getD (q + 1) 0 : Nat) : Int))), (0, .ref (b 0)), (1, .int (iI (t : Int))), (2, .int (iI (q : Int)))] [.int (iI 1)]
        rw [show (u : Int) + (2 + ((C.getD (T.getD (q + 1) 0) 0 : Nat) : Int)) = ((u + (2 + C.getD (T.getD (q + 1) 0) 0) : Nat) : Int) by omega]
        refine go_if_eq (tgt := 108) hK 63 dX6_again_63 (by decide) (by decide) (fun q => absurd q (by decide)) (fun _ => ?_)
        refine go_iconst hK 66 dX6_again_66 ?_
        refine go_istore (lo' := [(5, .int (iI 0)), (4, .int (iI ((C.getD (T.getD (q + 1) 0) 0 : Nat) : Int))), (3, .int (iI ((T.getD (q + 1) 0 : Nat) : Int))), (0, .ref (b 0)), (1, .int (iI (t : Int))), (2, .int (iI (q : Int)))]) hK 67 5 dX6_again_67 (by decide) rfl ?_
        refine go_lo [3, 4, 5, 2, 1, 0] rfl ?_
        have lp : ∀ (fu : Nat) (i : Nat) (k : Int) (os1 : Int) (gO1 : Nat → Int), (i ≤ C.getD (T.getD (q + 1) 0) 0) → (k = i) → (pM (O ++ tkN O o0 i) os1 gO1) → C.getD (T.getD (q + 1) 0) 0 - i < fu → GO Z X (wM Z b sd sz os1 (M : Int) (L : Int) (Dp : Int) 0 pl ((u + (2 + C.getD (T.getD (q + 1) 0) 0) : Nat) : Int) re pk rd ((t : Int) + 1) gT gO1 gF gE gN gQ gM gC gA gI gU gK gP gS gX gD gH gL) 0 0 69 [(0, .ref (b 0)), (1, .int (iI (t : Int))), (2, .int (iI (q : Int))), (3, .int (iI ((T.getD (q + 1) 0 : Nat) : Int))), (4, .int (iI ((C.getD (T.getD (q + 1) 0) 0 : Nat) : Int))), (5, .int (iI k))] [] := by
          intro fu
          induction fu with
          | zero => intro i k os1 gO1 hi hk hp1 hm; exact absurd hm (Nat.not_lt_zero _)
          | succ fu ih =>
            intro i k os1 gO1 hi hk hp1 hm
            have hln : (O ++ tkN O o0 i).length = O.length + i := by rw [List.length_append, tkN_len]
            have hz1 := hp1.1
            refine go_iload hK 69 5 dX6_again_69 rfl ?_
            refine go_iload hK 71 4 dX6_again_71 rfl ?_
            refine go_icmp_ge (tgt := 100) hK 73 dX6_again_73 (by decide) (by omega) (by omega) (fun c6 => ?_) (fun c6 => ?_)
            · have hi9 : i = C.getD (T.getD (q + 1) 0) 0 := by omega
              rw [hi9] at hp1 hln
              refine go_aload_n hK 100 0 dX6_again_100 rfl rfl ?_
              refine go_iload_n hK 101 1 dX6_again_101 rfl rfl ?_
              refine go_iload_n hK 102 2 dX6_again_102 rfl rfl ?_
              refine go_iconst hK 103 dX6_again_103 ?_
              refine go_iadd hK 104 dX6_again_104 ?_
              refine go_callV (As := [.int (iI (t : Int)), .int (iI ((q : Int) + 2))]) (rest := []) hK hR 105 (ct_X6_ends Z b (q0 := q) hM (by omega) hQ (by omega) hA hI hU (by omega)) cw_X6_163 gn_X6_ends rfl dX6_again_105 gSel_all ⟨0, 5, _, _, _, rfl, rfl⟩ rfl (Nat.le_of_ble_eq_true rfl) ⟨(by decide), (by decide)⟩ (fun _ _ _ h => h.elim) (fun v w1 h => ?_)
              obtain ⟨rfl, rfl⟩ := h
              show GO Z X (wM Z b sd sz os1 (M : Int) (L : Int) (Dp : Int) 0 pl ((u + (2 + C.getD (T.getD (q + 1) 0) 0) : Nat) : Int) re pk rd ((t : Int) + 1) gT gO1 gF gE (va_up gN t ((q : Int) + 2)) gQ (va_up gM t ((C.length : Int) + 1)) (va_up gC (600 * t + C.length) (os1 - (o0 : Int))) gA gI gU (eK t gK C.length (gT q)) (eK t gP C.length (q : Int)) (eK t gS C.length (os1 - os)) (eK t gX C.length (((u + (2 + C.getD (T.getD (q + 1) 0) 0) : Nat) : Int) - (u : Int))) gD gH gL) 0 0 108 [(0, .ref (b 0)), (1, .int (iI (t : Int))), (2, .int (iI (q : Int))), (3, .int (iI ((T.getD (q + 1) 0 : Nat) : Int))), (4, .int (iI ((C.getD (T.getD (q + 1) 0) 0 : Nat) : Int))), (5, .int (iI k))] []
              exact go_vret hK hR.1 108 [] dX6_again_108 (by decide) (by decide) rfl ⟨rfl, mRes_ok (by unfold spAgain; rw [if_neg (by omega), if_neg (by omega), if_neg (by omega), if_neg (by omega)]) ⟨_, _, _, hp1, rfl⟩⟩
            · refine go_aload_n hK 76 0 dX6_again_76 rfl rfl ?_
              refine go_aload_n hK 77 0 dX6_again_77 rfl rfl ?_
              refine go_get hK 78 fl_X6_13 dX6_again_78 0 rfl rfl ?_
              refine go_aload_n hK 81 0 dX6_again_81 rfl rfl ?_
              refine go_get hK 82 fl_X6_29 dX6_again_82 0 rfl rfl ?_
              refine go_iload_n hK 85 1 dX6_again_85 rfl rfl ?_
              refine go_iald hK 86 dX6_again_86 6 rfl (by omega) (by decide) ?_
              rw [show gQ (t : Int).toNat = (o0 : Int) from hQ]
              refine go_iload hK 87 5 dX6_again_87 rfl ?_
              refine go_iadd hK 89 dX6_again_89 ?_
              refine go_iald hK 90 dX6_again_90 2 rfl (by omega) (by decide) ?_
              have hg9 := hp1.2 (o0 + i) (by omega)
              rw [show ((o0 : Int) + k).toNat = o0 + i by omega, hg9, show (O ++ tkN O o0 i).getD (o0 + i) 0 = O.getD (o0 + i) 0 by rw [List.getD_eq_getElem?_getD, List.getElem?_append_left (by omega), ← List.getD_eq_getElem?_getD]]
              refine go_callV (As := [.int (iI ((O.getD (o0 + i) 0 : Nat) : Int))]) (rest := []) hK hR 91 (ct_X6_comes Z b hp1 (O.getD (o0 + i) 0) rfl (by omega)) cw_X6_160 gn_X6_comes rfl dX6_again_91 gSel_all ⟨0, 5, _, _, _, rfl, rfl⟩ rfl (Nat.le_of_ble_eq_true rfl) ⟨(by decide), (by decide)⟩ (fun _ _ _ h => h.elim) (fun v w1 h => ?_)
              obtain ⟨rfl, os7, gO8, hp9, rfl⟩ := h
              show GO Z X (wM Z b sd sz os7 (M : Int) (L : Int) (Dp : Int) 0 pl ((u + (2 + C.getD (T.getD (q + 1) 0) 0) : Nat) : Int) re pk rd ((t : Int) + 1) gT gO8 gF gE gN gQ gM gC gA gI gU gK gP gS gX gD gH gL) 0 0 94 [(0, .ref (b 0)), (1, .int (iI (t : Int))), (2, .int (iI (q : Int))), (3, .int (iI ((T.getD (q + 1) 0 : Nat) : Int))), (4, .int (iI ((C.getD (T.getD (q + 1) 0) 0 : Nat) : Int))), (5, .int (iI k))] []
              refine go_iinc (lo' := [(5, .int (iI (k + 1))), (0, .ref (b 0)), (1, .int (iI (t : Int))), (2, .int (iI (q : Int))), (3, .int (iI ((T.getD (q + 1) 0 : Nat) : Int))), (4, .int (iI ((C.getD (T.getD (q + 1) 0) 0 : Nat) : Int)))]) hK 94 5 5 dX6_again_94 rfl (by decide) rfl ?_
              rw [List.append_assoc] at hp9
              refine go_goto (tgt := 69) hK 97 dX6_again_97 (by decide) ?_
              refine go_lo [1, 2, 3, 4, 5, 0] rfl ?_
              exact ih (i + 1) (k + 1) os7 gO8 (by omega) (by omega) hp9 (by omega)
        exact lp _ 0 0 _ _ (by omega) rfl (by rw [show O ++ tkN O o0 0 = O by simp [tkN]]; exact hO) (Nat.lt_succ_self _)
    · refine go_aload_n hK 29 0 dX6_again_29 rfl rfl ?_
      refine go_iconst hK 30 dX6_again_30 ?_
      refine go_iload_n hK 31 2 dX6_again_31 rfl rfl ?_
      refine go_iconst hK 32 dX6_again_32 ?_
      refine go_iadd hK 33 dX6_again_33 ?_
      refine go_callV (As := [.int (iI 5), .int (iI ((q : Int) + 1))]) (rest := []) hK hR 34 (ct_X6_fails Z b) cw_X6_131 gn_X6_fails rfl dX6_again_34 gSel_all ⟨0, 5, _, _, _, rfl, rfl⟩ rfl (Nat.le_of_ble_eq_true rfl) ⟨(by decide), (by decide)⟩ (fun _ _ _ h => h.elim) (fun v w1 h => ?_)
      obtain ⟨rfl, rfl⟩ := h
      show GO Z X (wM Z b sd sz os (M : Int) (L : Int) (Dp : Int) 5 ((q : Int) + 1) (u : Int) re pk rd ((t : Int) + 1) gT gO gF gE gN gQ gM gC gA gI gU gK gP gS gX gD gH gL) 0 0 37 [(3, .int (iI ((T.getD (q + 1) 0 : Nat) : Int))), (0, .ref (b 0)), (1, .int (iI (t : Int))), (2, .int (iI (q : Int)))] []
      exact go_vret hK hR.1 37 [] dX6_again_37 (by decide) (by decide) rfl ⟨rfl, mRes_er (by unfold spAgain; rw [if_neg (by omega), if_pos (by omega)]) ⟨_, _, _, hO, rfl⟩⟩
  · show GO Z X (wM Z b sd sz os (M : Int) (L : Int) (Dp : Int) 3 (e : Int) (u : Int) re pk rd ((t : Int) + 1) gT gO gF gE gN gQ gM gC gA gI gU gK gP gS gX gD gH gL) 0 0 6 [(0, .ref (b 0)), (1, .int (iI (t : Int))), (2, .int (iI (q : Int)))] [.int (iI 0)]
    refine go_if_ne (tgt := 10) hK 6 dX6_again_6 (by decide) (by decide) (fun q => absurd q (by decide)) (fun _ => ?_)
    exact go_vret hK hR.1 9 [] dX6_again_9 (by decide) (by decide) rfl ⟨rfl, mRes_er (by unfold spAgain; rw [if_pos (by omega)]) ⟨_, _, _, hO, rfl⟩⟩

