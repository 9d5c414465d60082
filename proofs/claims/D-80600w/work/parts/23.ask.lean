/-! the reference: the face over what was read (printed by gen/m15.py) -/
set_option maxRecDepth 100000
theorem itS_k {T : List Nat} {M L Dp : Nat} : ∀ {fu d f e o0 : Nat} {C : List Nat} {q : Nat} {r x : Rd} {k p : Nat}, itS T M L Dp fu d f e o0 C q r = .error (k, p, x) → 0 < k ∧ k < 100
  | 0, _, _, _, _, _, _, _, _, _, _, h => by unfold itS at h; cases h; decide
  | fu + 1, d, f, e, o0, C, q, r, x, k, p, h => by
    unfold itS at h
    by_cases c1 : e ≤ q
    · rw [if_pos c1] at h; cases h; decide
    rw [if_neg c1] at h
    by_cases c2 : 7 < T.getD q 0
    · rw [if_pos c2] at h; cases h; decide
    rw [if_neg c2] at h
    by_cases c3 : T.getD q 0 = 0
    · rw [if_pos c3] at h
      cases hc : spCl T f e q with
      | some x => rw [hc] at h; cases h; exact spCl_k hc
      | none => rw [hc] at h; cases h
    rw [if_neg c3] at h
    by_cases c4 : T.getD q 0 = 4
    · rw [if_pos c4] at h
      cases hn : spNe T L Dp d e q (rU r) with
      | error x => rw [hn] at h; cases h; exact spNe_k hn
      | ok n =>
        rw [hn] at h
        dsimp only at h
        cases hh : spHd T L (q + 3) (q + 3 + n) (d + 1) (rO r, rU r + 3, rP r, rD r, rI r) with
        | error x => rw [hh] at h; cases h; exact spHd_k hh
        | ok r1 =>
          rw [hh] at h
          dsimp only at h
          cases hi : itS T M L Dp fu (d + 1) (q + 3) (q + 3 + n) (rO r).length [] (q + 5) r1 with
          | error x => rw [hi] at h; cases h; exact itS_k hi
          | ok r2 => rw [hi] at h; exact itS_k h
    rw [if_neg c4] at h
    cases hc : spBody T M L (T.getD q 0) e q o0 C (rO r) (rU r) with
    | error x => rw [hc] at h; cases h; exact spBody_k hc
    | ok x => rw [hc] at h; exact itS_k h
theorem rdS_k {T : List Nat} {M L Dp k p : Nat} {x : Rd} (h : rdS T M L Dp = .error (k, p, x)) : 0 < k ∧ k < 100 := by
  unfold rdS at h
  cases hh : spHd T L 0 T.length 0 ([], 0, 0, 0, []) with
  | error x => rw [hh] at h; cases h; exact spHd_k hh
  | ok r => rw [hh] at h; exact itS_k h
theorem rdX_0 (T : List Nat) (M L Dp : Nat) : 0 ≤ (rdX T M L Dp).1 ∧ (rdX T M L Dp).1 < 100 := by
  unfold rdX
  cases h : rdS T M L Dp with
  | error x => obtain ⟨k, p, x⟩ := x; have := rdS_k h; exact ⟨by show (0 : Int) ≤ k; omega, by show (k : Int) < 100; omega⟩
  | ok r => exact ⟨Int.le_refl 0, by show (0 : Int) < 100; decide⟩
/-- the world stands for a tape and a last reading -/
def MIp (T : List Nat) (rc : Int) (x : Rx) (sz os fa pl us re pk rd : Int) (gT gO gM gK gP gS gX : Nat → Int) : Prop := pM T sz gT ∧ T.length ≤ 1200 ∧ (∀ j, T.getD j 0 < 256) ∧ rd = rc ∧ fa = x.1 ∧ pl = x.2.1 ∧ 0 ≤ x.1 ∧ x.1 < 100 ∧ pM (rO x.2.2) os gO ∧ (rO x.2.2).length ≤ 4000 ∧ us = (rU x.2.2 : Nat) ∧ re = (rD x.2.2 : Nat) ∧ pk = (rP x.2.2 : Nat) ∧ gM 0 = ((rI x.2.2).length : Nat) ∧ itR (rI x.2.2) gK gP gS gX ∧ (rI x.2.2).length ≤ 600
def MI (Z : Gz) (b : Nat → Nat) (sd : Int64) (T : List Nat) (rc : Int) (x : Rx) (w : va_W) : Prop := ∃ (sz os mo li de fa pl us re pk rd tp : Int) (gT gO gF gE gN gQ gM gC gA gI gU gK gP gS gX gD gH gL : Nat → Int), MIp T rc x sz os fa pl us re pk rd gT gO gM gK gP gS gX ∧ w = (wM Z b sd sz os mo li de fa pl us re pk rd tp gT gO gF gE gN gQ gM gC gA gI gU gK gP gS gX gD gH gL)
/-- behind a reading, and where the items lie -/
def MR (Z : Gz) (b : Nat → Nat) (sd : Int64) (T : List Nat) (rc : Int) (x : Rx) (gH gL : Nat → Int) (w : va_W) : Prop := ∃ (sz os mo li de fa pl us re pk rd tp : Int) (gT gO gF gE gN gQ gM gC gA gI gU gK gP gS gX gD : Nat → Int) (qn : Nat), MIp T rc x sz os fa pl us re pk rd gT gO gM gK gP gS gX ∧ ctg T (rI x.2.2) qn ∧ (rI x.2.2 ≠ [] → gN 0 = (qn : Nat)) ∧ w = (wM Z b sd sz os mo li de fa pl us re pk rd tp gT gO gF gE gN gQ gM gC gA gI gU gK gP gS gX gD gH gL)
theorem rdP_MR {Z : Gz} {b : Nat → Nat} {sd : Int64} {rd : Int} {sz : Int} {gT gH gL : Nat → Int} {T : List Nat} {M L Dp : Nat} {w : va_W} (hT : pM T sz gT) (hTl : T.length ≤ 1200) (hT8 : ∀ j, T.getD j 0 < 256) (hM : M ≤ 4000) (h : rdP Z b sd sz rd gT gH gL T M L Dp (-1) w) : MR Z b sd T rd (rdX T M L Dp) gH gL w := by
  unfold rdP at h
  have hx := rdX_0 T M L Dp
  have lI : ∀ {I : List It} {qn : Nat}, ctg T I qn → I.length ≤ 600 := by
    intro I qn hc
    cases I with
    | nil => exact Nat.zero_le _
    | cons a b => have := hc.1 (List.cons_ne_nil _ _); omega
  cases hr : rdS T M L Dp with
  | error x =>
    obtain ⟨k, p, r⟩ := x
    rw [hr] at h
    have e : rdX T M L Dp = ((k : Int), (p : Int), r) := by unfold rdX; rw [hr]
    rw [e] at hx ⊢
    obtain ⟨tp, os, gO, gF, gE, gN, gQ, gM, gC, gA, gI, gU, gK, gP, gS, gX, gD, ⟨e1, e2, e3, e4, qn, e5, e6⟩, rfl⟩ := h
    exact ⟨_, _, _, _, _, _, _, _, _, _, _, _, _, _, _, _, _, _, _, _, _, _, _, _, _, _, _, _, qn, ⟨hT, hTl, hT8, rfl, rfl, rfl, hx.1, hx.2, e1, by show (rO r).length ≤ 4000; omega, rfl, rfl, rfl, e3, e4, lI e5⟩, e5, e6, rfl⟩
  | ok r =>
    rw [hr] at h
    have e : rdX T M L Dp = (0, -1, r) := by unfold rdX; rw [hr]
    rw [e] at hx ⊢
    obtain ⟨os, gO, gF, gE, gN, gQ, gM, gC, gA, gI, gU, gK, gP, gS, gX, gD, ⟨e1, e2, e3, e4, qn, e5, e6⟩, rfl⟩ := h
    exact ⟨_, _, _, _, _, _, _, _, _, _, _, _, _, _, _, _, _, _, _, _, _, _, _, _, _, _, _, _, qn, ⟨hT, hTl, hT8, rfl, rfl, rfl, hx.1, hx.2, e1, by show (rO r).length ≤ 4000; omega, rfl, rfl, rfl, e3, e4, lI e5⟩, e5, e6, rfl⟩
theorem MR_MI {Z : Gz} {b : Nat → Nat} {sd : Int64} {T : List Nat} {rc : Int} {x : Rx} {gH gL : Nat → Int} {w : va_W} (h : MR Z b sd T rc x gH gL w) : MI Z b sd T rc x w := by
  obtain ⟨_, _, _, _, _, _, _, _, _, _, _, _, _, _, _, _, _, _, _, _, _, _, _, _, _, _, _, _, _, h1, -, -, rfl⟩ := h
  exact ⟨_, _, _, _, _, _, _, _, _, _, _, _, _, _, _, _, _, _, _, _, _, _, _, _, _, _, _, _, _, _, h1, rfl⟩
theorem MI_fst {Z : Gz} {b : Nat → Nat} {sd : Int64} {T : List Nat} {rc : Int} {x : Rx} {w : va_W} (h : MI Z b sd T rc x w) : w.map Prod.fst = fM b := by
  obtain ⟨_, _, _, _, _, _, _, _, _, _, _, _, _, _, _, _, _, _, _, _, _, _, _, _, _, _, _, _, _, _, -, rfl⟩ := h; rfl
theorem MR_fst {Z : Gz} {b : Nat → Nat} {sd : Int64} {T : List Nat} {rc : Int} {x : Rx} {gH gL : Nat → Int} {w : va_W} (h : MR Z b sd T rc x gH gL w) : w.map Prod.fst = fM b := MI_fst (MR_MI h)
abbrev rm_X6_isGood : Room := { frames := 1, cells := 0, slots := 0, locals := 25 }
set_option maxHeartbeats 4000000 in
theorem ct_X6_isGood (Z : Gz) {m l d : Int} (hm : iR m) (hl : iR l) (hd : iR d) : CT Z yX6_isGood cX6_isGood 3 (some .boolean) rm_X6_isGood [.int (iI m), .int (iI l), .int (iI d)] [] (fun v w => (∃ r : Int, v = some (.int (iI r)) ∧ (r = 1 ∧ bndP m l d ∨ r = 0 ∧ ¬ bndP m l d)) ∧ w = []) nopx := by
  refine ct_of (by decide) (Nat.le_of_ble_eq_true rfl) (fun X hK hR => ?_)
  show GO Z X [] 0 0 0 [(0, .int (iI m)), (1, .int (iI l)), (2, .int (iI d))] []
  refine go_iload_n hK 0 0 dX6_isGood_0 rfl rfl ?_
  refine go_i2l hK 1 dX6_isGood_1 (by omega) ?_
  refine go_lconst (v := lI 0) hK 2 dX6_isGood_2 rfl ?_
  refine go_ldc2 (v2 := lI 4000) hK 3 q669 dX6_isGood_3 rfl ?_
  refine go_callS (As := [.long (lI m), .long (lI 0), .long (lI 4000)]) (rest := []) hK hR 6 (ct_X6_in Z m 0 4000 (by omega) (by omega) (by omega)) cw_X6_74 gn_X6_in rfl dX6_isGood_6 gSel_nil  rfl (Nat.le_of_ble_eq_true rfl) ⟨(by decide), (by decide)⟩ (fun _ _ _ h => h.elim) (fun v w1 h => ?_)
  obtain ⟨⟨r1, rfl, hr2⟩, rfl⟩ := h
  rw [List.append_nil]
  show GO Z X [] 0 0 9 [(0, .int (iI m)), (1, .int (iI l)), (2, .int (iI d))] [.int (iI r1)]
  refine go_if_eq (tgt := 40) hK 9 dX6_isGood_9 (by decide) (by omega) (fun c3 => ?_) (fun c3 => ?_)
  · refine go_iconst hK 40 dX6_isGood_40 ?_
    exact go_zret hK hR.1 41 [] dX6_isGood_41 (by decide) (by decide) rfl rfl ⟨⟨_, rfl, Or.inr ⟨rfl, fun q => by obtain ⟨⟨q1, q2⟩, ⟨q3, q4⟩, q5, q6⟩ := q; omega⟩⟩, rfl⟩
  · refine go_iload_n hK 12 1 dX6_isGood_12 rfl rfl ?_
    refine go_i2l hK 13 dX6_isGood_13 (by omega) ?_
    refine go_lconst (v := lI 0) hK 14 dX6_isGood_14 rfl ?_
    refine go_ldc2 (v2 := lI 20000) hK 15 q670 dX6_isGood_15 rfl ?_
    refine go_callS (As := [.long (lI l), .long (lI 0), .long (lI 20000)]) (rest := []) hK hR 18 (ct_X6_in Z l 0 20000 (by omega) (by omega) (by omega)) cw_X6_74 gn_X6_in rfl dX6_isGood_18 gSel_nil  rfl (Nat.le_of_ble_eq_true rfl) ⟨(by decide), (by decide)⟩ (fun _ _ _ h => h.elim) (fun v w1 h => ?_)
    obtain ⟨⟨r4, rfl, hr5⟩, rfl⟩ := h
    rw [List.append_nil]
    show GO Z X [] 0 0 21 [(0, .int (iI m)), (1, .int (iI l)), (2, .int (iI d))] [.int (iI r4)]
    refine go_if_eq (tgt := 40) hK 21 dX6_isGood_21 (by decide) (by omega) (fun c6 => ?_) (fun c6 => ?_)
    · refine go_iconst hK 40 dX6_isGood_40 ?_
      exact go_zret hK hR.1 41 [] dX6_isGood_41 (by decide) (by decide) rfl rfl ⟨⟨_, rfl, Or.inr ⟨rfl, fun q => by obtain ⟨⟨q1, q2⟩, ⟨q3, q4⟩, q5, q6⟩ := q; omega⟩⟩, rfl⟩
    · refine go_iload_n hK 24 2 dX6_isGood_24 rfl rfl ?_
      refine go_i2l hK 25 dX6_isGood_25 (by omega) ?_
      refine go_lconst (v := lI 0) hK 26 dX6_isGood_26 rfl ?_
      refine go_ldc2 (v2 := lI 8) hK 27 q597 dX6_isGood_27 rfl ?_
      refine go_callS (As := [.long (lI d), .long (lI 0), .long (lI 8)]) (rest := []) hK hR 30 (ct_X6_in Z d 0 8 (by omega) (by omega) (by omega)) cw_X6_74 gn_X6_in rfl dX6_isGood_30 gSel_nil  rfl (Nat.le_of_ble_eq_true rfl) ⟨(by decide), (by decide)⟩ (fun _ _ _ h => h.elim) (fun v w1 h => ?_)
      obtain ⟨⟨r7, rfl, hr8⟩, rfl⟩ := h
      rw [List.append_nil]
      show GO Z X [] 0 0 33 [(0, .int (iI m)), (1, .int (iI l)), (2, .int (iI d))] [.int (iI r7)]
      refine go_if_eq (tgt := 40) hK 33 dX6_isGood_33 (by decide) (by omega) (fun c9 => ?_) (fun c9 => ?_)
      · refine go_iconst hK 40 dX6_isGood_40 ?_
        exact go_zret hK hR.1 41 [] dX6_isGood_41 (by decide) (by decide) rfl rfl ⟨⟨_, rfl, Or.inr ⟨rfl, fun q => by obtain ⟨⟨q1, q2⟩, ⟨q3, q4⟩, q5, q6⟩ := q; omega⟩⟩, rfl⟩
      · refine go_iconst hK 36 dX6_isGood_36 ?_
        refine go_goto (tgt := 41) hK 37 dX6_isGood_37 (by decide) ?_
        exact go_zret hK hR.1 41 [] dX6_isGood_41 (by decide) (by decide) rfl rfl ⟨⟨_, rfl, Or.inl ⟨rfl, ⟨by omega, by omega⟩, ⟨by omega, by omega⟩, by omega, by omega⟩⟩, rfl⟩

/-- open: the answer, the last reading -/
def spOpen (m l d : Int) (T : List Nat) (rc : Int) (x : Rx) : Int × Int × Rx := if bndP m l d then (if 0 < (rdX T m.toNat l.toNat d.toNat).1 then -10 - (rdX T m.toNat l.toNat d.toNat).1 else (((rO (rdX T m.toNat l.toNat d.toNat).2.2).length : Nat) : Int), rc + 1, rdX T m.toNat l.toNat d.toNat) else (-2, rc, x)
abbrev rm_X6_open : Room := { frames := 6, cells := 0, slots := 0, locals := 149 }
set_option maxHeartbeats 8000000 in
theorem ct_X6_open (Z : Gz) (b : Nat → Nat) {sd : Int64} {sz os mo li de fa pl us re pk rd tp : Int} {gT gO gF gE gN gQ gM gC gA gI gU gK gP gS gX gD gH gL : Nat → Int} {T : List Nat} {rc : Int} {x : Rx} (hI : MIp T rc x sz os fa pl us re pk rd gT gO gM gK gP gS gX) {m l d : Int} (hm : iR m) (hl : iR l) (hd : iR d) : CT Z yX6_open cX6_open 4 (some .int) rm_X6_open [.ref (b 0), .int (iI m), .int (iI l), .int (iI d)] (wM Z b sd sz os mo li de fa pl us re pk rd tp gT gO gF gE gN gQ gM gC gA gI gU gK gP gS gX gD gH gL) (fun v w => v = some (.int (iI (spOpen m l d T rc x).1)) ∧ MI Z b sd T (spOpen m l d T rc x).2.1 (spOpen m l d T rc x).2.2 w) nopx := by
  refine ct_of (by decide) (Nat.le_of_ble_eq_true rfl) (fun X hK hR => ?_)
  show GO Z X (wM Z b sd sz os mo li de fa pl us re pk rd tp gT gO gF gE gN gQ gM gC gA gI gU gK gP gS gX gD gH gL) 0 0 0 [(0, .ref (b 0)), (1, .int (iI m)), (2, .int (iI l)), (3, .int (iI d))] []
  obtain rfl : rd = rc := hI.2.2.2.1
  have hI2 := hI
  obtain ⟨hT, hTl, hT8, hrc, hfa, hpl, hx0, hx1, hO, hOl, hus, hre, hpk, hgM, hit, hIl⟩ := hI
  refine go_iload_n hK 0 1 dX6_open_0 rfl rfl ?_
  refine go_iload_n hK 1 2 dX6_open_1 rfl rfl ?_
  refine go_iload_n hK 2 3 dX6_open_2 rfl rfl ?_
  refine go_callS (As := [.int (iI m), .int (iI l), .int (iI d)]) (rest := []) hK hR 3 (ct_X6_isGood Z hm hl hd) cw_X6_201 gn_X6_isGood rfl dX6_open_3 gSel_nil  rfl (Nat.le_of_ble_eq_true rfl) ⟨(by decide), (by decide)⟩ (fun _ _ _ h => h.elim) (fun v w1 h => ?_)
  obtain ⟨⟨r1, rfl, hg2⟩, rfl⟩ := h
  rw [List.append_nil]
  show GO Z X (wM Z b sd sz os mo li de fa pl us re pk rd tp gT gO gF gE gN gQ gM gC gA gI gU gK gP gS gX gD gH gL) 0 0 6 [(0, .ref (b 0)), (1, .int (iI m)), (2, .int (iI l)), (3, .int (iI d))] [.int (iI r1)]
  refine go_if_ne (tgt := 12) hK 6 dX6_open_6 (by decide) (by omega) (fun c3 => ?_) (fun c3 => ?_)
  · have hbd : bndP m l d := by rcases hg2 with z | z; exact z.2; exact absurd z.1 (by omega)
    obtain ⟨hb1, hb2, hb3⟩ := hbd
    have hbd : bndP m l d := ⟨hb1, hb2, hb3⟩
    obtain ⟨M, rfl⟩ := Int.eq_ofNat_of_zero_le hb1.1
    obtain ⟨L, rfl⟩ := Int.eq_ofNat_of_zero_le hb2.1
    obtain ⟨D, rfl⟩ := Int.eq_ofNat_of_zero_le hb3.1
    refine go_aload_n hK 12 0 dX6_open_12 rfl rfl ?_
    refine go_iload_n hK 13 1 dX6_open_13 rfl rfl ?_
    refine go_iload_n hK 14 2 dX6_open_14 rfl rfl ?_
    refine go_iload_n hK 15 3 dX6_open_15 rfl rfl ?_
    refine go_callV (As := [.int (iI (M : Int)), .int (iI (L : Int)), .int (iI (D : Int))]) (rest := []) hK hR 16 (ct_X6_reads Z b hT hTl hT8 (by omega) (by omega) (by omega)) cw_X6_204 gn_X6_reads rfl dX6_open_16 gSel_all ⟨0, 5, _, _, _, rfl, rfl⟩ rfl (Nat.le_of_ble_eq_true rfl) ⟨(by decide), (by decide)⟩ (fun _ _ _ h => h.elim) (fun v w1 h => ?_)
    obtain ⟨rfl, h9⟩ := h
    have h8 := rdP_MR hT hTl hT8 (by omega) h9
    have h7 := MR_MI h8
    have h6 := h7
    obtain ⟨sz9, os9, mo9, li9, de9, fa9, pl9, us9, re9, pk9, rd9, tp9, gT9, gO9, gF9, gE9, gN9, gQ9, gM9, gC9, gA9, gI9, gU9, gK9, gP9, gS9, gX9, gD9, gH9, gL9, hI9, rfl⟩ := h6
    obtain ⟨-, -, -, -, hfa9, -, hx09, hx19, hO9, hOl9, -⟩ := hI9
    show GO Z X (wM Z b sd sz9 os9 mo9 li9 de9 fa9 pl9 us9 re9 pk9 rd9 tp9 gT9 gO9 gF9 gE9 gN9 gQ9 gM9 gC9 gA9 gI9 gU9 gK9 gP9 gS9 gX9 gD9 gH9 gL9) 0 0 19 [(0, .ref (b 0)), (1, .int (iI (M : Int))), (2, .int (iI (L : Int))), (3, .int (iI (D : Int)))] []
    refine go_aload_n hK 19 0 dX6_open_19 rfl rfl ?_
    refine go_get hK 20 fl_X6_122 dX6_open_20 0 rfl rfl ?_
    have hO99 := hO9.1
    refine go_if_le (tgt := 36) hK 23 dX6_open_23 (by decide) (by omega) (fun c4 => ?_) (fun c4 => ?_)
    · refine go_aload_n hK 36 0 dX6_open_36 rfl rfl ?_
      refine go_get hK 37 fl_X6_140 dX6_open_37 0 rfl rfl ?_
      exact go_iret hK hR.1 40 [] dX6_open_40 (by decide) (by decide) ((MI_fst h7).trans rfl) ⟨by unfold spOpen; rw [if_pos hbd]; dsimp only; rw [show ((M : Nat) : Int).toNat = M from rfl, show ((L : Nat) : Int).toNat = L from rfl, show ((D : Nat) : Int).toNat = D from rfl, if_neg (by omega), hO99], by unfold spOpen; rw [if_pos hbd]; exact h7⟩
    · refine go_bipush hK 26 dX6_open_26 (by decide) ?_
      refine go_aload_n hK 28 0 dX6_open_28 rfl rfl ?_
      refine go_get hK 29 fl_X6_122 dX6_open_29 0 rfl rfl ?_
      refine go_isub hK 32 dX6_open_32 ?_
      refine go_goto (tgt := 40) hK 33 dX6_open_33 (by decide) ?_
      exact go_iret hK hR.1 40 [] dX6_open_40 (by decide) (by decide) ((MI_fst h7).trans rfl) ⟨by unfold spOpen; rw [if_pos hbd]; dsimp only; rw [show ((M : Nat) : Int).toNat = M from rfl, show ((L : Nat) : Int).toNat = L from rfl, show ((D : Nat) : Int).toNat = D from rfl, if_pos (by omega), hfa9], by unfold spOpen; rw [if_pos hbd]; exact h7⟩
  · have hbd : ¬ bndP m l d := by rcases hg2 with z | z; exact absurd z.1 (by omega); exact z.2
    refine go_bipush hK 9 dX6_open_9 (by decide) ?_
    exact go_iret hK hR.1 11 [] dX6_open_11 (by decide) (by decide) rfl ⟨by unfold spOpen; rw [if_neg hbd], by unfold spOpen; rw [if_neg hbd]; exact ⟨_, _, _, _, _, _, _, _, _, _, _, _, _, _, _, _, _, _, _, _, _, _, _, _, _, _, _, _, _, _, hI2, rfl⟩⟩

abbrev rm_X6_place : Room := { frames := 0, cells := 0, slots := 0, locals := 0 }
set_option maxHeartbeats 8000000 in
theorem ct_X6_place (Z : Gz) (b : Nat → Nat) {sd : Int64} {sz os mo li de fa pl us re pk rd tp : Int} {gT gO gF gE gN gQ gM gC gA gI gU gK gP gS gX gD gH gL : Nat → Int} {T : List Nat} {rc : Int} {x : Rx} (hI : MIp T rc x sz os fa pl us re pk rd gT gO gM gK gP gS gX) : CT Z yX6_place cX6_place 1 (some .int) rm_X6_place [.ref (b 0)] (wM Z b sd sz os mo li de fa pl us re pk rd tp gT gO gF gE gN gQ gM gC gA gI gU gK gP gS gX gD gH gL) (fun v w => v = some (.int (iI x.2.1)) ∧ w = (wM Z b sd sz os mo li de fa pl us re pk rd tp gT gO gF gE gN gQ gM gC gA gI gU gK gP gS gX gD gH gL)) nopx := by
  refine ct_of (by decide) (Nat.le_of_ble_eq_true rfl) (fun X hK hR => ?_)
  show GO Z X (wM Z b sd sz os mo li de fa pl us re pk rd tp gT gO gF gE gN gQ gM gC gA gI gU gK gP gS gX gD gH gL) 0 0 0 [(0, .ref (b 0))] []
  have hI2 := hI
  obtain ⟨hT, hTl, hT8, hrc, hfa, hpl, hx0, hx1, hO, hOl, hus, hre, hpk, hgM, hit, hIl⟩ := hI
  refine go_aload_n hK 0 0 dX6_place_0 rfl rfl ?_
  refine go_get hK 1 fl_X6_16 dX6_place_1 0 rfl rfl ?_
  exact go_iret hK hR.1 4 [] dX6_place_4 (by decide) (by decide) rfl ⟨by rw [hpl], rfl⟩

abbrev rm_X6_out : Room := { frames := 1, cells := 0, slots := 0, locals := 25 }
set_option maxHeartbeats 8000000 in
theorem ct_X6_out (Z : Gz) (b : Nat → Nat) {sd : Int64} {sz os mo li de fa pl us re pk rd tp : Int} {gT gO gF gE gN gQ gM gC gA gI gU gK gP gS gX gD gH gL : Nat → Int} {T : List Nat} {rc : Int} {x : Rx} (hI : MIp T rc x sz os fa pl us re pk rd gT gO gM gK gP gS gX) {i : Int} (hi : iR i) : CT Z yX6_out cX6_out 2 (some .int) rm_X6_out [.ref (b 0), .int (iI i)] (wM Z b sd sz os mo li de fa pl us re pk rd tp gT gO gF gE gN gQ gM gC gA gI gU gK gP gS gX gD gH gL) (fun v w => v = some (.int (iI (spOut i (rO x.2.2)))) ∧ w = (wM Z b sd sz os mo li de fa pl us re pk rd tp gT gO gF gE gN gQ gM gC gA gI gU gK gP gS gX gD gH gL)) nopx := by
  refine ct_of (by decide) (Nat.le_of_ble_eq_true rfl) (fun X hK hR => ?_)
  show GO Z X (wM Z b sd sz os mo li de fa pl us re pk rd tp gT gO gF gE gN gQ gM gC gA gI gU gK gP gS gX gD gH gL) 0 0 0 [(0, .ref (b 0)), (1, .int (iI i))] []
  have hI2 := hI
  obtain ⟨hT, hTl, hT8, hrc, hfa, hpl, hx0, hx1, hO, hOl, hus, hre, hpk, hgM, hit, hIl⟩ := hI
  have hOz := hO.1
  refine go_iload_n hK 0 1 dX6_out_0 rfl rfl ?_
  refine go_i2l hK 1 dX6_out_1 (by omega) ?_
  refine go_lconst (v := lI 0) hK 2 dX6_out_2 rfl ?_
  refine go_aload_n hK 3 0 dX6_out_3 rfl rfl ?_
  refine go_get hK 4 fl_X6_140 dX6_out_4 0 rfl rfl ?_
  refine go_iconst hK 7 dX6_out_7 ?_
  refine go_isub hK 8 dX6_out_8 ?_
  refine go_i2l hK 9 dX6_out_9 (by omega) ?_
  refine go_callS (As := [.long (lI i), .long (lI 0), .long (lI (os - 1))]) (rest := []) hK hR 10 (ct_X6_in Z i 0 (os - 1) (by omega) (by omega) (by omega)) cw_X6_74 gn_X6_in rfl dX6_out_10 gSel_nil  rfl (Nat.le_of_ble_eq_true rfl) ⟨(by decide), (by decide)⟩ (fun _ _ _ h => h.elim) (fun v w1 h => ?_)
  obtain ⟨⟨r1, rfl, hr2⟩, rfl⟩ := h
  rw [List.append_nil]
  show GO Z X (wM Z b sd sz os mo li de fa pl us re pk rd tp gT gO gF gE gN gQ gM gC gA gI gU gK gP gS gX gD gH gL) 0 0 13 [(0, .ref (b 0)), (1, .int (iI i))] [.int (iI r1)]
  refine go_if_eq (tgt := 25) hK 13 dX6_out_13 (by decide) (by omega) (fun c3 => ?_) (fun c3 => ?_)
  · refine go_iconst hK 25 dX6_out_25 ?_
    exact go_iret hK hR.1 26 [] dX6_out_26 (by decide) (by decide) rfl ⟨by unfold spOut; rw [if_neg (by omega)], rfl⟩
  · refine go_aload_n hK 16 0 dX6_out_16 rfl rfl ?_
    refine go_get hK 17 fl_X6_13 dX6_out_17 0 rfl rfl ?_
    refine go_iload_n hK 20 1 dX6_out_20 rfl rfl ?_
    refine go_iald hK 21 dX6_out_21 2 rfl (by omega) (by decide) ?_
    refine go_goto (tgt := 26) hK 22 dX6_out_22 (by decide) ?_
    exact go_iret hK hR.1 26 [] dX6_out_26 (by decide) (by decide) rfl ⟨by unfold spOut; rw [if_pos (by omega), hO.2 i.toNat (by omega)], rfl⟩

abbrev rm_X6_item_2 : Room := { frames := 1, cells := 0, slots := 0, locals := 25 }
set_option maxHeartbeats 8000000 in
theorem ct_X6_item_2 (Z : Gz) (b : Nat → Nat) {sd : Int64} {sz os mo li de fa pl us re pk rd tp : Int} {gT gO gF gE gN gQ gM gC gA gI gU gK gP gS gX gD gH gL : Nat → Int} {T : List Nat} {rc : Int} {x : Rx} (hI : MIp T rc x sz os fa pl us re pk rd gT gO gM gK gP gS gX) {i a : Int} (hi : iR i) (ha : iR a) : CT Z yX6_item_2 cX6_item_2 3 (some .int) rm_X6_item_2 [.ref (b 0), .int (iI i), .int (iI a)] (wM Z b sd sz os mo li de fa pl us re pk rd tp gT gO gF gE gN gQ gM gC gA gI gU gK gP gS gX gD gH gL) (fun v w => v = some (.int (iI (spIt i a (rI x.2.2)))) ∧ w = (wM Z b sd sz os mo li de fa pl us re pk rd tp gT gO gF gE gN gQ gM gC gA gI gU gK gP gS gX gD gH gL)) nopx := by
  refine ct_of (by decide) (Nat.le_of_ble_eq_true rfl) (fun X hK hR => ?_)
  show GO Z X (wM Z b sd sz os mo li de fa pl us re pk rd tp gT gO gF gE gN gQ gM gC gA gI gU gK gP gS gX gD gH gL) 0 0 0 [(0, .ref (b 0)), (1, .int (iI i)), (2, .int (iI a))] []
  have hI2 := hI
  obtain ⟨hT, hTl, hT8, hrc, hfa, hpl, hx0, hx1, hO, hOl, hus, hre, hpk, hgM, hit, hIl⟩ := hI
  refine go_iload_n hK 0 1 dX6_item_2_0 rfl rfl ?_
  refine go_iconst hK 1 dX6_item_2_1 ?_
  refine go_icmp_ne (tgt := 12) hK 2 dX6_item_2_2 (by decide) (by omega) (by decide) (fun c1 => ?_) (fun c1 => ?_)
  · refine go_iload_n hK 12 1 dX6_item_2_12 rfl rfl ?_
    refine go_i2l hK 13 dX6_item_2_13 (by omega) ?_
    refine go_lconst (v := lI 0) hK 14 dX6_item_2_14 rfl ?_
    refine go_aload_n hK 15 0 dX6_item_2_15 rfl rfl ?_
    refine go_get hK 16 fl_X6_32 dX6_item_2_16 0 rfl rfl ?_
    refine go_iconst hK 19 dX6_item_2_19 ?_
    refine go_iald hK 20 dX6_item_2_20 7 rfl (by omega) (by decide) ?_
    rw [show gM (0 : Int).toNat = ((rI x.2.2).length : Nat) from hgM]
    refine go_iconst hK 21 dX6_item_2_21 ?_
    refine go_isub hK 22 dX6_item_2_22 ?_
    refine go_i2l hK 23 dX6_item_2_23 (by omega) ?_
    refine go_callS (As := [.long (lI i), .long (lI 0), .long (lI (((rI x.2.2).length : Int) - 1))]) (rest := []) hK hR 24 (ct_X6_in Z i 0 (((rI x.2.2).length : Int) - 1) (by omega) (by omega) (by omega)) cw_X6_74 gn_X6_in rfl dX6_item_2_24 gSel_nil  rfl (Nat.le_of_ble_eq_true rfl) ⟨(by decide), (by decide)⟩ (fun _ _ _ h => h.elim) (fun v w1 h => ?_)
    obtain ⟨⟨r2, rfl, hr3⟩, rfl⟩ := h
    rw [List.append_nil]
    show GO Z X (wM Z b sd sz os mo li de fa pl us re pk rd tp gT gO gF gE gN gQ gM gC gA gI gU gK gP gS gX gD gH gL) 0 0 27 [(0, .ref (b 0)), (1, .int (iI i)), (2, .int (iI a))] [.int (iI r2)]
    refine go_if_ne (tgt := 32) hK 27 dX6_item_2_27 (by decide) (by omega) (fun c4 => ?_) (fun c4 => ?_)
    · have h9 := hit i.toNat (by omega)
      obtain ⟨h91, h92, h93, h94⟩ := h9
      refine go_iload_n hK 32 2 dX6_item_2_32 rfl rfl ?_
      rcases (show (a < 0 ∨ 3 < a) ∨ a = 0 ∨ a = 1 ∨ a = 2 ∨ a = 3 by omega) with hk | hk | hk | hk | hk
      · refine go_tabOut (tgt := 92) hK 33 dX6_item_2_33 (by omega) hk (by decide) ?_
        refine go_iconst hK 92 dX6_item_2_92 ?_
        exact go_iret hK hR.1 93 [] dX6_item_2_93 (by decide) (by decide) rfl ⟨by unfold spIt; rw [if_neg (by omega), if_neg (by omega), if_neg (by omega), if_neg (by omega), if_neg (by omega), if_neg (by omega)], rfl⟩
      · refine go_tabIn (tgt := 64) (c := 0) hK 33 dX6_item_2_33 hk (by decide) (by decide) (by decide) rfl (by decide) ?_
        refine go_aload_n hK 64 0 dX6_item_2_64 rfl rfl ?_
        refine go_get hK 65 fl_X6_47 dX6_item_2_65 0 rfl rfl ?_
        refine go_iload_n hK 68 1 dX6_item_2_68 rfl rfl ?_
        refine go_iald hK 69 dX6_item_2_69 12 rfl (by omega) (by decide) ?_
        exact go_iret hK hR.1 70 [] dX6_item_2_70 (by decide) (by decide) rfl ⟨by unfold spIt; rw [if_neg (by omega), if_neg (by omega), if_pos hk, h91], rfl⟩
      · refine go_tabIn (tgt := 71) (c := 1) hK 33 dX6_item_2_33 hk (by decide) (by decide) (by decide) rfl (by decide) ?_
        refine go_aload_n hK 71 0 dX6_item_2_71 rfl rfl ?_
        refine go_get hK 72 fl_X6_50 dX6_item_2_72 0 rfl rfl ?_
        refine go_iload_n hK 75 1 dX6_item_2_75 rfl rfl ?_
        refine go_iald hK 76 dX6_item_2_76 13 rfl (by omega) (by decide) ?_
        exact go_iret hK hR.1 77 [] dX6_item_2_77 (by decide) (by decide) rfl ⟨by unfold spIt; rw [if_neg (by omega), if_neg (by omega), if_neg (by omega), if_pos hk, h92], rfl⟩
      · refine go_tabIn (tgt := 78) (c := 2) hK 33 dX6_item_2_33 hk (by decide) (by decide) (by decide) rfl (by decide) ?_
        refine go_aload_n hK 78 0 dX6_item_2_78 rfl rfl ?_
        refine go_get hK 79 fl_X6_53 dX6_item_2_79 0 rfl rfl ?_
        refine go_iload_n hK 82 1 dX6_item_2_82 rfl rfl ?_
        refine go_iald hK 83 dX6_item_2_83 14 rfl (by omega) (by decide) ?_
        exact go_iret hK hR.1 84 [] dX6_item_2_84 (by decide) (by decide) rfl ⟨by unfold spIt; rw [if_neg (by omega), if_neg (by omega), if_neg (by omega), if_neg (by omega), if_pos hk, h93], rfl⟩
      · refine go_tabIn (tgt := 85) (c := 3) hK 33 dX6_item_2_33 hk (by decide) (by decide) (by decide) rfl (by decide) ?_
        refine go_aload_n hK 85 0 dX6_item_2_85 rfl rfl ?_
        refine go_get hK 86 fl_X6_56 dX6_item_2_86 0 rfl rfl ?_
        refine go_iload_n hK 89 1 dX6_item_2_89 rfl rfl ?_
        refine go_iald hK 90 dX6_item_2_90 15 rfl (by omega) (by decide) ?_
        exact go_iret hK hR.1 91 [] dX6_item_2_91 (by decide) (by decide) rfl ⟨by unfold spIt; rw [if_neg (by omega), if_neg (by omega), if_neg (by omega), if_neg (by omega), if_neg (by omega), if_pos hk, h94], rfl⟩
    · refine go_iconst hK 30 dX6_item_2_30 ?_
      exact go_iret hK hR.1 31 [] dX6_item_2_31 (by decide) (by decide) rfl ⟨by unfold spIt; rw [if_neg (by omega), if_pos (by omega)], rfl⟩
  · obtain rfl : i = -1 := by omega
    refine go_aload_n hK 5 0 dX6_item_2_5 rfl rfl ?_
    refine go_get hK 6 fl_X6_32 dX6_item_2_6 0 rfl rfl ?_
    refine go_iconst hK 9 dX6_item_2_9 ?_
    refine go_iald hK 10 dX6_item_2_10 7 rfl (by omega) (by decide) ?_
    exact go_iret hK hR.1 11 [] dX6_item_2_11 (by decide) (by decide) rfl ⟨by unfold spIt; rw [if_pos rfl, ← hgM]; rfl, rfl⟩

abbrev rm_X6_count : Room := { frames := 0, cells := 0, slots := 0, locals := 0 }
set_option maxHeartbeats 8000000 in
theorem ct_X6_count (Z : Gz) (b : Nat → Nat) {sd : Int64} {sz os mo li de fa pl us re pk rd tp : Int} {gT gO gF gE gN gQ gM gC gA gI gU gK gP gS gX gD gH gL : Nat → Int} {T : List Nat} {rc : Int} {x : Rx} (hI : MIp T rc x sz os fa pl us re pk rd gT gO gM gK gP gS gX) {a : Int} (ha : iR a) : CT Z yX6_count cX6_count 2 (some .int) rm_X6_count [.ref (b 0), .int (iI a)] (wM Z b sd sz os mo li de fa pl us re pk rd tp gT gO gF gE gN gQ gM gC gA gI gU gK gP gS gX gD gH gL) (fun v w => v = some (.int (iI (spCnt a T rc x))) ∧ w = (wM Z b sd sz os mo li de fa pl us re pk rd tp gT gO gF gE gN gQ gM gC gA gI gU gK gP gS gX gD gH gL)) nopx := by
  refine ct_of (by decide) (Nat.le_of_ble_eq_true rfl) (fun X hK hR => ?_)
  show GO Z X (wM Z b sd sz os mo li de fa pl us re pk rd tp gT gO gF gE gN gQ gM gC gA gI gU gK gP gS gX gD gH gL) 0 0 0 [(0, .ref (b 0)), (1, .int (iI a))] []
  have hI2 := hI
  obtain ⟨hT, hTl, hT8, hrc, hfa, hpl, hx0, hx1, hO, hOl, hus, hre, hpk, hgM, hit, hIl⟩ := hI
  refine go_iload_n hK 0 1 dX6_count_0 rfl rfl ?_
  rcases (show (a < 0 ∨ 6 < a) ∨ a = 0 ∨ a = 1 ∨ a = 2 ∨ a = 3 ∨ a = 4 ∨ a = 5 ∨ a = 6 by omega) with hk | hk | hk | hk | hk | hk | hk | hk
  · refine go_tabOut (tgt := 79) hK 1 dX6_count_1 (by omega) hk (by decide) ?_
    refine go_iconst hK 79 dX6_count_79 ?_
    exact go_iret hK hR.1 80 [] dX6_count_80 (by decide) (by decide) rfl ⟨by unfold spCnt; rw [if_neg (by omega), if_neg (by omega), if_neg (by omega), if_neg (by omega), if_neg (by omega), if_neg (by omega), if_neg (by omega)], rfl⟩
  · refine go_tabIn (tgt := 44) (c := 0) hK 1 dX6_count_1 hk (by decide) (by decide) (by decide) rfl (by decide) ?_
    refine go_aload_n hK 44 0 dX6_count_44 rfl rfl ?_
    refine go_get hK 45 fl_X6_78 dX6_count_45 0 rfl rfl ?_
    exact go_iret hK hR.1 48 [] dX6_count_48 (by decide) (by decide) rfl ⟨by unfold spCnt; rw [if_pos hk, hT.1], rfl⟩
  · refine go_tabIn (tgt := 49) (c := 1) hK 1 dX6_count_1 hk (by decide) (by decide) (by decide) rfl (by decide) ?_
    refine go_aload_n hK 49 0 dX6_count_49 rfl rfl ?_
    refine go_get hK 50 fl_X6_140 dX6_count_50 0 rfl rfl ?_
    exact go_iret hK hR.1 53 [] dX6_count_53 (by decide) (by decide) rfl ⟨by unfold spCnt; rw [if_neg (by omega), if_pos hk, hO.1], rfl⟩
  · refine go_tabIn (tgt := 54) (c := 2) hK 1 dX6_count_1 hk (by decide) (by decide) (by decide) rfl (by decide) ?_
    refine go_aload_n hK 54 0 dX6_count_54 rfl rfl ?_
    refine go_get hK 55 fl_X6_125 dX6_count_55 0 rfl rfl ?_
    exact go_iret hK hR.1 58 [] dX6_count_58 (by decide) (by decide) rfl ⟨by unfold spCnt; rw [if_neg (by omega), if_neg (by omega), if_pos hk, hus], rfl⟩
  · refine go_tabIn (tgt := 59) (c := 3) hK 1 dX6_count_1 hk (by decide) (by decide) (by decide) rfl (by decide) ?_
    refine go_aload_n hK 59 0 dX6_count_59 rfl rfl ?_
    refine go_get hK 60 fl_X6_143 dX6_count_60 0 rfl rfl ?_
    exact go_iret hK hR.1 63 [] dX6_count_63 (by decide) (by decide) rfl ⟨by unfold spCnt; rw [if_neg (by omega), if_neg (by omega), if_neg (by omega), if_pos hk, hre], rfl⟩
  · refine go_tabIn (tgt := 64) (c := 4) hK 1 dX6_count_1 hk (by decide) (by decide) (by decide) rfl (by decide) ?_
    refine go_aload_n hK 64 0 dX6_count_64 rfl rfl ?_
    refine go_get hK 65 fl_X6_134 dX6_count_65 0 rfl rfl ?_
    exact go_iret hK hR.1 68 [] dX6_count_68 (by decide) (by decide) rfl ⟨by unfold spCnt; rw [if_neg (by omega), if_neg (by omega), if_neg (by omega), if_neg (by omega), if_pos hk, hpk], rfl⟩
  · refine go_tabIn (tgt := 69) (c := 5) hK 1 dX6_count_1 hk (by decide) (by decide) (by decide) rfl (by decide) ?_
    refine go_aload_n hK 69 0 dX6_count_69 rfl rfl ?_
    refine go_get hK 70 fl_X6_122 dX6_count_70 0 rfl rfl ?_
    exact go_iret hK hR.1 73 [] dX6_count_73 (by decide) (by decide) rfl ⟨by unfold spCnt; rw [if_neg (by omega), if_neg (by omega), if_neg (by omega), if_neg (by omega), if_neg (by omega), if_pos hk, hfa], rfl⟩
  · refine go_tabIn (tgt := 74) (c := 6) hK 1 dX6_count_1 hk (by decide) (by decide) (by decide) rfl (by decide) ?_
    refine go_aload_n hK 74 0 dX6_count_74 rfl rfl ?_
    refine go_get hK 75 fl_X6_191 dX6_count_75 0 rfl rfl ?_
    exact go_iret hK hR.1 78 [] dX6_count_78 (by decide) (by decide) rfl ⟨by unfold spCnt; rw [if_neg (by omega), if_neg (by omega), if_neg (by omega), if_neg (by omega), if_neg (by omega), if_neg (by omega), if_pos hk, hrc], rfl⟩

