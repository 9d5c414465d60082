/-! a scope's items (printed by gen/c3.py) -/
set_option maxRecDepth 100000
/-- an item was read -/
def cRes (Z : Gz) (p : Nat → Nat) (sd : Int64) (ed im mo li de us re pk fa pl rd sz s2 os tm tk tp : Int) (gT gS gO gY gW gE gI : Nat → Int) (sc : Nat → Sc) (d : Nat) (e ob eb qa fi : Int) (r : Rs) (w : va_W) : Prop := match r with
  | .ok (q', O', u') => ∃ (os' tm' : Int) (gO' gY' gW' : Nat → Int), pB O' os' gO' ∧ w = (wS Z p sd ed im mo li de (u' : Int) re pk fa pl rd sz s2 os' tm' tk tp gT gS gO' gY' gW' gE gI sc d e ob eb (q' : Int) fi)
  | .error _ => False
/-- a fault ended it -/
def cErr (Z : Gz) (p : Nat → Nat) (sd : Int64) (ed im mo li de us re pk fa pl rd sz s2 os tm tk tp : Int) (gT gS gO gY gW gE gI : Nat → Int) (sc : Nat → Sc) (d : Nat) (e ob eb qa fi : Int) (r : Rs) (w : va_W) : Prop := match r with
  | .error (k, p', O', u') => ∃ (os' tm' qa' : Int) (gO' gY' gW' : Nat → Int), pB O' os' gO' ∧ w = (wS Z p sd ed im mo li de (u' : Int) re pk fa pl rd sz s2 os' tm' (k : Int) (p' : Int) gT gS gO' gY' gW' gE gI sc d e ob eb qa' fi)
  | .ok _ => False
theorem cRes_ok {Z : Gz} {p : Nat → Nat} {sd : Int64} {ed im mo li de us re pk fa pl rd sz s2 os tm tk tp : Int} {gT gS gO gY gW gE gI : Nat → Int} {sc : Nat → Sc} {d : Nat} {e ob eb qa fi : Int} {r : Rs} {w : va_W} {q' : Nat} {O' : List Nat} {u' : Nat} (h : r = .ok (q', O', u')) (h2 : ∃ (os' tm' : Int) (gO' gY' gW' : Nat → Int), pB O' os' gO' ∧ w = (wS Z p sd ed im mo li de (u' : Int) re pk fa pl rd sz s2 os' tm' tk tp gT gS gO' gY' gW' gE gI sc d e ob eb (q' : Int) fi)) : cRes Z p sd ed im mo li de us re pk fa pl rd sz s2 os tm tk tp gT gS gO gY gW gE gI sc d e ob eb qa fi r w := by rw [h]; exact h2
theorem cErr_er {Z : Gz} {p : Nat → Nat} {sd : Int64} {ed im mo li de us re pk fa pl rd sz s2 os tm tk tp : Int} {gT gS gO gY gW gE gI : Nat → Int} {sc : Nat → Sc} {d : Nat} {e ob eb qa fi : Int} {r : Rs} {w : va_W} {k p' : Nat} {O' : List Nat} {u' : Nat} (h : r = .error (k, p', O', u')) (h2 : ∃ (os' tm' qa' : Int) (gO' gY' gW' : Nat → Int), pB O' os' gO' ∧ w = (wS Z p sd ed im mo li de (u' : Int) re pk fa pl rd sz s2 os' tm' (k : Int) (p' : Int) gT gS gO' gY' gW' gE gI sc d e ob eb qa' fi)) : cErr Z p sd ed im mo li de us re pk fa pl rd sz s2 os tm tk tp gT gS gO gY gW gE gI sc d e ob eb qa fi r w := by rw [h]; exact h2
/-- reading: the tape, what has come, the bounds -/
def RSc (T O : List Nat) (u M L : Nat) (sz os : Int) (gT gO : Nat → Int) : Prop := pB T sz gT ∧ T.length ≤ 1200 ∧ (∀ j, T.getD j 0 < 256) ∧ pB O os gO ∧ O.length ≤ M ∧ M ≤ 4000 ∧ u ≤ L ∧ L ≤ 20000
/-- the scope at hand, the kind of its item read -/
def SCc (T O C : List Nat) (E q o0 b0 : Nat) (ed : Int) (gE : Nat → Int) : Prop := q < E ∧ E ≤ T.length ∧ o0 ≤ O.length ∧ (∀ k, k < C.length → gE (b0 + k) = ((o0 + C.getD k 0 : Nat) : Int) ∧ C.getD k 0 ≤ O.length - o0) ∧ ed = ((b0 + C.length : Nat) : Int) ∧ b0 + C.length < 1200
abbrev rm_X5_stored : Room := { frames := 3, cells := 0, slots := 0, locals := 67 }
set_option maxHeartbeats 8000000 in
theorem ct_X5_stored (Z : Gz) (p : Nat → Nat) {sd : Int64} {ed im de re pk fa pl rd sz s2 os tm tk tp : Int} {gT gS gO gY gW gE gI : Nat → Int} {sc : Nat → Sc} {d : Nat} {T O C : List Nat} {u M L E q o0 b0 : Nat} (hd8 : d ≤ 8) (hRS : RSc T O u M L sz os gT gO) (hSC : SCc T O C E q o0 b0 ed gE) : CT Z yX5_stored cX5_stored 3 none rm_X5_stored [.ref (p (15 + d))] (wS Z p sd ed im (M : Int) (L : Int) de (u : Int) re pk fa pl rd sz s2 os tm tk tp gT gS gO gY gW gE gI sc d (E : Int) (o0 : Int) (b0 : Int) ((q + 1 : Nat) : Int) (q : Int)) (fun v w => v = none ∧ cRes Z p sd ed im (M : Int) (L : Int) de (u : Int) re pk fa pl rd sz s2 os tm tk tp gT gS gO gY gW gE gI sc d (E : Int) (o0 : Int) (b0 : Int) ((q + 1 : Nat) : Int) (q : Int) (spStore T M L E q O u) w) (fun qx w => qx = p 11 ∧ cErr Z p sd ed im (M : Int) (L : Int) de (u : Int) re pk fa pl rd sz s2 os tm tk tp gT gS gO gY gW gE gI sc d (E : Int) (o0 : Int) (b0 : Int) ((q + 1 : Nat) : Int) (q : Int) (spStore T M L E q O u) w) := by
  refine ct_of (by decide) (Nat.le_of_ble_eq_true rfl) (fun X hK hR => ?_)
  show GO Z X (wS Z p sd ed im (M : Int) (L : Int) de (u : Int) re pk fa pl rd sz s2 os tm tk tp gT gS gO gY gW gE gI sc d (E : Int) (o0 : Int) (b0 : Int) ((q + 1 : Nat) : Int) (q : Int)) 0 0 0 [(0, .ref (p (15 + d)))] []
  obtain ⟨hT, hTl, hT8, hO, hOM, hM4, huL, hL2⟩ := hRS
  obtain ⟨hqe, heT, ho0, hC, hed, hb12⟩ := hSC
  have hOl := hO.1
  refine go_aload_n hK 0 0 dX5_stored_0 rfl rfl ?_
  refine go_callV (As := []) (rest := []) hK hR 1 (ct_X5_next Z p (q := q + 1) (E := E) hd8 hT ⟨by omega, by omega, by omega⟩) cw_X5_75 gn_X5_next rfl dX5_stored_1 gSel_all ⟨15 + d, 4, _, _, _, wS_sc hd8, rfl⟩ rfl (Nat.le_of_ble_eq_true rfl) ⟨(by decide), (by decide)⟩ (fun _ _ _ hx hm => by obtain ⟨rfl, hle, rfl⟩ := hx; exact ⟨⟨[], (List.append_nil _).symm⟩, ⟨rfl, cErr_er (by unfold spStore; rw [if_pos (by omega)]) ⟨_, _, _, _, _, _, hO, rfl⟩⟩⟩) (fun v w1 h => ?_)
  obtain ⟨rfl, hlt2, rfl⟩ := h
  show GO Z X (wS Z p sd ed im (M : Int) (L : Int) de (u : Int) re pk fa pl rd sz s2 os tm tk tp gT gS gO gY gW gE gI sc d (E : Int) (o0 : Int) (b0 : Int) ((q + 1 + 1 : Nat) : Int) (q : Int)) 0 0 4 [(0, .ref (p (15 + d)))] [.int (iI ((T.getD (q + 1) 0 : Nat) : Int))]
  have hb1 := hT8 (q + 1)
  refine go_istore_n (lo' := [(1, .int (iI ((T.getD (q + 1) 0 : Nat) : Int))), (0, .ref (p (15 + d)))]) hK 4 1 dX5_stored_4 rfl (by decide) rfl ?_
  refine go_aload_n hK 5 0 dX5_stored_5 rfl rfl ?_
  refine go_iload_n hK 6 1 dX5_stored_6 rfl rfl ?_
  refine go_callV (As := [.int (iI ((T.getD (q + 1) 0 : Nat) : Int))]) (rest := []) hK hR 7 (ct_X5_has Z p (q := q + 2) (E := E) (n := T.getD (q + 1) 0) hd8 ⟨by omega, by omega, by omega⟩) cw_X5_112 gn_X5_has rfl dX5_stored_7 gSel_all ⟨15 + d, 4, _, _, _, wS_sc hd8, rfl⟩ rfl (Nat.le_of_ble_eq_true rfl) ⟨(by decide), (by decide)⟩ (fun _ _ _ hx hm => by obtain ⟨rfl, hle, rfl⟩ := hx; exact ⟨⟨[], (List.append_nil _).symm⟩, ⟨rfl, cErr_er (by unfold spStore; rw [if_neg (by omega), if_pos (by omega)]) ⟨_, _, _, _, _, _, hO, rfl⟩⟩⟩) (fun v w1 h => ?_)
  obtain ⟨rfl, hha3, rfl⟩ := h
  show GO Z X (wS Z p sd ed im (M : Int) (L : Int) de (u : Int) re pk fa pl rd sz s2 os tm tk tp gT gS gO gY gW gE gI sc d (E : Int) (o0 : Int) (b0 : Int) ((q + 1 + 1 : Nat) : Int) (q : Int)) 0 0 10 [(1, .int (iI ((T.getD (q + 1) 0 : Nat) : Int))), (0, .ref (p (15 + d)))] []
  refine go_aload_n hK 10 0 dX5_stored_10 rfl rfl ?_
  refine go_iload_n hK 11 1 dX5_stored_11 rfl rfl ?_
  refine go_iconst hK 12 dX5_stored_12 ?_
  refine go_iload_n hK 13 1 dX5_stored_13 rfl rfl ?_
  refine go_iadd hK 14 dX5_stored_14 ?_
  rw [show (2 : Int) + ((T.getD (q + 1) 0 : Nat) : Int) = ((2 + T.getD (q + 1) 0 : Nat) : Int) by omega]
  show GO Z X (wS Z p sd ed im (M : Int) (L : Int) de (u : Int) re pk fa pl rd sz s2 os tm tk tp gT gS gO gY gW gE gI sc d (E : Int) (o0 : Int) (b0 : Int) ((q + 1 + 1 : Nat) : Int) (q : Int)) 0 0 15 [(1, .int (iI ((T.getD (q + 1) 0 : Nat) : Int))), (0, .ref (p (15 + d)))] [.int (iI ((2 + T.getD (q + 1) 0 : Nat) : Int)), .int (iI ((T.getD (q + 1) 0 : Nat) : Int)), .ref (p (15 + d))]
  refine go_callV (As := [.int (iI ((T.getD (q + 1) 0 : Nat) : Int)), .int (iI ((2 + T.getD (q + 1) 0 : Nat) : Int))]) (rest := []) hK hR 15 (ct_X5_brings Z p (u := u) (L := L) (M := M) (n := T.getD (q + 1) 0) (c := (2 + T.getD (q + 1) 0)) hd8 hO ⟨by omega, by omega, by omega, by omega, by omega, by omega⟩) cw_X5_116 gn_X5_brings rfl dX5_stored_15 gSel_all ⟨15 + d, 4, _, _, _, wS_sc hd8, rfl⟩ rfl (Nat.le_of_ble_eq_true rfl) ⟨(by decide), (by decide)⟩ (fun _ _ _ hx hm => by obtain ⟨rfl, ⟨hle, rfl⟩ | ⟨hle, hle2, rfl⟩⟩ := hx; exact ⟨⟨[], (List.append_nil _).symm⟩, ⟨rfl, cErr_er (by unfold spStore; rw [if_neg (by omega), if_neg (by omega), if_pos (by omega)]) ⟨_, _, _, _, _, _, hO, rfl⟩⟩⟩; exact ⟨⟨[], (List.append_nil _).symm⟩, ⟨rfl, cErr_er (by unfold spStore; rw [if_neg (by omega), if_neg (by omega), if_neg (by omega), if_pos (by omega)]) ⟨_, _, _, _, _, _, hO, rfl⟩⟩⟩) (fun v w1 h => ?_)
  obtain ⟨rfl, hbr, hbu, rfl⟩ := h
  show GO Z X (wS Z p sd ed im (M : Int) (L : Int) de ((u + ((2 + T.getD (q + 1) 0) + T.getD (q + 1) 0) : Nat) : Int) re pk fa pl rd sz s2 os tm tk tp gT gS gO gY gW gE gI sc d (E : Int) (o0 : Int) (b0 : Int) ((q + 1 + 1 : Nat) : Int) (q : Int)) 0 0 18 [(1, .int (iI ((T.getD (q + 1) 0 : Nat) : Int))), (0, .ref (p (15 + d)))] []
  rw [show ((u + ((2 + T.getD (q + 1) 0) + T.getD (q + 1) 0) : Nat) : Int) = ((u + (2 + 2 * T.getD (q + 1) 0) : Nat) : Int) by omega]
  show GO Z X (wS Z p sd ed im (M : Int) (L : Int) de ((u + (2 + 2 * T.getD (q + 1) 0) : Nat) : Int) re pk fa pl rd sz s2 os tm tk tp gT gS gO gY gW gE gI sc d (E : Int) (o0 : Int) (b0 : Int) ((q + 1 + 1 : Nat) : Int) (q : Int)) 0 0 18 [(1, .int (iI ((T.getD (q + 1) 0 : Nat) : Int))), (0, .ref (p (15 + d)))] []
  refine go_iconst hK 18 dX5_stored_18 ?_
  refine go_istore_n (lo' := [(2, .int (iI 0)), (1, .int (iI ((T.getD (q + 1) 0 : Nat) : Int))), (0, .ref (p (15 + d)))]) hK 19 2 dX5_stored_19 rfl (by decide) rfl ?_
  refine go_lo [2, 1, 0] rfl ?_
  have lp : ∀ (fu : Nat) (i : Nat) (k : Int) (os1 : Int) (gO1 : Nat → Int), (i ≤ T.getD (q + 1) 0) → (k = i) → (pB (O ++ tkN T (q + 2) (i)) os1 gO1) → T.getD (q + 1) 0 - i < fu → GO Z X (wS Z p sd ed im (M : Int) (L : Int) de ((u + (2 + 2 * T.getD (q + 1) 0) : Nat) : Int) re pk fa pl rd sz s2 os1 tm tk tp gT gS gO1 gY gW gE gI sc d (E : Int) (o0 : Int) (b0 : Int) ((q + 2 + i : Nat) : Int) (q : Int)) 0 0 20 [(0, .ref (p (15 + d))), (1, .int (iI ((T.getD (q + 1) 0 : Nat) : Int))), (2, .int (iI k))] [] := by
    intro fu
    induction fu with
    | zero => intro i k os1 gO1 hi hk hp1 hm; exact absurd hm (Nat.not_lt_zero _)
    | succ fu ih =>
      intro i k os1 gO1 hi hk hp1 hm
      have hln : (O ++ tkN T (q + 2) (i)).length = O.length + i := by rw [List.length_append, tkN_len]
      have hz1 := hp1.1
      refine go_iload_n hK 20 2 dX5_stored_20 rfl rfl ?_
      refine go_iload_n hK 21 1 dX5_stored_21 rfl rfl ?_
      refine go_icmp_ge (tgt := 45) hK 22 dX5_stored_22 (by decide) (by omega) (by omega) (fun c4 => ?_) (fun c4 => ?_)
      · have hi9 : i = T.getD (q + 1) 0 := by omega
        rw [hi9] at hp1 hln
        rw [hi9]
        exact go_vret hK hR.1 45 [] dX5_stored_45 (by decide) (by decide) rfl ⟨rfl, cRes_ok (q' := q + 2 + T.getD (q + 1) 0) (O' := O ++ tkN T (q + 2) (T.getD (q + 1) 0)) (u' := u + (2 + 2 * T.getD (q + 1) 0)) (by unfold spStore; rw [if_neg (by omega), if_neg (by omega), if_neg (by omega), if_neg (by omega)]) ⟨_, _, _, _, _, hp1, rfl⟩⟩
      · refine go_aload_n hK 25 0 dX5_stored_25 rfl rfl ?_
        refine go_get hK 26 fl_X5_3 dX5_stored_26 (15 + d) (wS_sc hd8) rfl ?_
        refine go_getN hK 29 fl_X5_44 dX5_stored_29 0 rfl rfl ?_
        refine go_aload_n hK 32 0 dX5_stored_32 rfl rfl ?_
        refine go_callV (As := []) (rest := [.ref (p 5)]) hK hR 33 (ct_X5_next Z p (q := q + 2 + i) (E := E) hd8 hT ⟨by omega, by omega, by omega⟩) cw_X5_75 gn_X5_next rfl dX5_stored_33 gSel_all ⟨15 + d, 4, _, _, _, wS_sc hd8, rfl⟩ rfl (Nat.le_of_ble_eq_true rfl) ⟨(by decide), (by decide)⟩ (fun _ _ _ hx hm => by obtain ⟨rfl, hle, rfl⟩ := hx; exact ⟨⟨[], (List.append_nil _).symm⟩, absurd hle (by omega)⟩) (fun v w1 h => ?_)
        obtain ⟨rfl, hlt6, rfl⟩ := h
        show GO Z X (wS Z p sd ed im (M : Int) (L : Int) de ((u + (2 + 2 * T.getD (q + 1) 0) : Nat) : Int) re pk fa pl rd sz s2 os1 tm tk tp gT gS gO1 gY gW gE gI sc d (E : Int) (o0 : Int) (b0 : Int) ((q + 2 + i + 1 : Nat) : Int) (q : Int)) 0 0 36 [(0, .ref (p (15 + d))), (1, .int (iI ((T.getD (q + 1) 0 : Nat) : Int))), (2, .int (iI k))] [.int (iI ((T.getD (q + 2 + i) 0 : Nat) : Int)), .ref (p 5)]
        have hb5 := hT8 (q + 2 + i)
        refine go_callV (As := [.int (iI ((T.getD (q + 2 + i) 0 : Nat) : Int))]) (rest := []) hK hR 36 (ct_X2_add Z (p 5) (p 6) 4000 os1 gO1 ((T.getD (q + 2 + i) 0 : Nat) : Int) (by omega) (by decide)) cw_X5_119 gn_X2_add rfl dX5_stored_36 (gSel_at [5, 6] rfl rfl) ⟨0, 1, _, _, _, rfl, rfl⟩ rfl (Nat.le_of_ble_eq_true rfl) ⟨(by decide), (by decide)⟩ (fun _ _ _ h => h.elim) (fun v w1 h => ?_)
        obtain ⟨rfl, rfl⟩ := h
        show GO Z X (wS Z p sd ed im (M : Int) (L : Int) de ((u + (2 + 2 * T.getD (q + 1) 0) : Nat) : Int) re pk fa pl rd sz s2 (os1 + 1) tm tk tp gT gS (va_up gO1 os1.toNat ((T.getD (q + 2 + i) 0 : Nat) : Int)) gY gW gE gI sc d (E : Int) (o0 : Int) (b0 : Int) ((q + 2 + i + 1 : Nat) : Int) (q : Int)) 0 0 39 [(0, .ref (p (15 + d))), (1, .int (iI ((T.getD (q + 1) 0 : Nat) : Int))), (2, .int (iI k))] []
        have hp2 := pB_add (x := ((T.getD (q + 2 + i) 0 : Nat) : Int)) hp1 (T.getD (q + 2 + i) 0) (by omega)
        refine go_iinc (lo' := [(2, .int (iI (k + 1))), (0, .ref (p (15 + d))), (1, .int (iI ((T.getD (q + 1) 0 : Nat) : Int)))]) hK 39 2 2 dX5_stored_39 rfl (by decide) rfl ?_
        rw [List.append_assoc] at hp2
        refine go_goto (tgt := 20) hK 42 dX5_stored_42 (by decide) ?_
        refine go_lo [1, 2, 0] rfl ?_
        exact ih (i + 1) (k + 1) (os1 + 1) (va_up gO1 os1.toNat ((T.getD (q + 2 + i) 0 : Nat) : Int)) (by omega) (by omega) hp2 (by omega)
  exact lp _ 0 0 _ _ (by omega) rfl (by rw [show O ++ tkN T (q + 2) 0 = O by simp [tkN]]; exact hO) (Nat.lt_succ_self _)

abbrev rm_X5_run : Room := { frames := 3, cells := 0, slots := 0, locals := 67 }
set_option maxHeartbeats 8000000 in
theorem ct_X5_run (Z : Gz) (p : Nat → Nat) {sd : Int64} {ed im de re pk fa pl rd sz s2 os tm tk tp : Int} {gT gS gO gY gW gE gI : Nat → Int} {sc : Nat → Sc} {d : Nat} {T O C : List Nat} {u M L E q o0 b0 : Nat} (hd8 : d ≤ 8) (hRS : RSc T O u M L sz os gT gO) (hSC : SCc T O C E q o0 b0 ed gE) : CT Z yX5_run cX5_run 4 none rm_X5_run [.ref (p (15 + d))] (wS Z p sd ed im (M : Int) (L : Int) de (u : Int) re pk fa pl rd sz s2 os tm tk tp gT gS gO gY gW gE gI sc d (E : Int) (o0 : Int) (b0 : Int) ((q + 1 : Nat) : Int) (q : Int)) (fun v w => v = none ∧ cRes Z p sd ed im (M : Int) (L : Int) de (u : Int) re pk fa pl rd sz s2 os tm tk tp gT gS gO gY gW gE gI sc d (E : Int) (o0 : Int) (b0 : Int) ((q + 1 : Nat) : Int) (q : Int) (spRun T M L E q O u) w) (fun qx w => qx = p 11 ∧ cErr Z p sd ed im (M : Int) (L : Int) de (u : Int) re pk fa pl rd sz s2 os tm tk tp gT gS gO gY gW gE gI sc d (E : Int) (o0 : Int) (b0 : Int) ((q + 1 : Nat) : Int) (q : Int) (spRun T M L E q O u) w) := by
  refine ct_of (by decide) (Nat.le_of_ble_eq_true rfl) (fun X hK hR => ?_)
  show GO Z X (wS Z p sd ed im (M : Int) (L : Int) de (u : Int) re pk fa pl rd sz s2 os tm tk tp gT gS gO gY gW gE gI sc d (E : Int) (o0 : Int) (b0 : Int) ((q + 1 : Nat) : Int) (q : Int)) 0 0 0 [(0, .ref (p (15 + d)))] []
  obtain ⟨hT, hTl, hT8, hO, hOM, hM4, huL, hL2⟩ := hRS
  obtain ⟨hqe, heT, ho0, hC, hed, hb12⟩ := hSC
  have hOl := hO.1
  refine go_aload_n hK 0 0 dX5_run_0 rfl rfl ?_
  refine go_callV (As := []) (rest := []) hK hR 1 (ct_X5_next Z p (q := q + 1) (E := E) hd8 hT ⟨by omega, by omega, by omega⟩) cw_X5_75 gn_X5_next rfl dX5_run_1 gSel_all ⟨15 + d, 4, _, _, _, wS_sc hd8, rfl⟩ rfl (Nat.le_of_ble_eq_true rfl) ⟨(by decide), (by decide)⟩ (fun _ _ _ hx hm => by obtain ⟨rfl, hle, rfl⟩ := hx; exact ⟨⟨[], (List.append_nil _).symm⟩, ⟨rfl, cErr_er (by unfold spRun; rw [if_pos (show E ≤ q + 2 by omega)]) ⟨_, _, _, _, _, _, hO, rfl⟩⟩⟩) (fun v w1 h => ?_)
  obtain ⟨rfl, hlt2, rfl⟩ := h
  show GO Z X (wS Z p sd ed im (M : Int) (L : Int) de (u : Int) re pk fa pl rd sz s2 os tm tk tp gT gS gO gY gW gE gI sc d (E : Int) (o0 : Int) (b0 : Int) ((q + 1 + 1 : Nat) : Int) (q : Int)) 0 0 4 [(0, .ref (p (15 + d)))] [.int (iI ((T.getD (q + 1) 0 : Nat) : Int))]
  have hb1 := hT8 (q + 1)
  refine go_istore_n (lo' := [(1, .int (iI ((T.getD (q + 1) 0 : Nat) : Int))), (0, .ref (p (15 + d)))]) hK 4 1 dX5_run_4 rfl (by decide) rfl ?_
  refine go_aload_n hK 5 0 dX5_run_5 rfl rfl ?_
  refine go_callV (As := []) (rest := []) hK hR 6 (ct_X5_next Z p (q := q + 2) (E := E) hd8 hT ⟨by omega, by omega, by omega⟩) cw_X5_75 gn_X5_next rfl dX5_run_6 gSel_all ⟨15 + d, 4, _, _, _, wS_sc hd8, rfl⟩ rfl (Nat.le_of_ble_eq_true rfl) ⟨(by decide), (by decide)⟩ (fun _ _ _ hx hm => by obtain ⟨rfl, hle, rfl⟩ := hx; exact ⟨⟨[], (List.append_nil _).symm⟩, ⟨rfl, cErr_er (by unfold spRun; rw [if_pos (by omega)]) ⟨_, _, _, _, _, _, hO, rfl⟩⟩⟩) (fun v w1 h => ?_)
  obtain ⟨rfl, hlt4, rfl⟩ := h
  show GO Z X (wS Z p sd ed im (M : Int) (L : Int) de (u : Int) re pk fa pl rd sz s2 os tm tk tp gT gS gO gY gW gE gI sc d (E : Int) (o0 : Int) (b0 : Int) ((q + 2 + 1 : Nat) : Int) (q : Int)) 0 0 9 [(1, .int (iI ((T.getD (q + 1) 0 : Nat) : Int))), (0, .ref (p (15 + d)))] [.int (iI ((T.getD (q + 2) 0 : Nat) : Int))]
  have hb3 := hT8 (q + 2)
  refine go_istore_n (lo' := [(2, .int (iI ((T.getD (q + 2) 0 : Nat) : Int))), (1, .int (iI ((T.getD (q + 1) 0 : Nat) : Int))), (0, .ref (p (15 + d)))]) hK 9 2 dX5_run_9 rfl (by decide) rfl ?_
  refine go_aload_n hK 10 0 dX5_run_10 rfl rfl ?_
  refine go_iload_n hK 11 1 dX5_run_11 rfl rfl ?_
  refine go_iconst hK 12 dX5_run_12 ?_
  refine go_callV (As := [.int (iI ((T.getD (q + 1) 0 : Nat) : Int)), .int (iI 3)]) (rest := []) hK hR 13 (ct_X5_brings Z p (u := u) (L := L) (M := M) (n := T.getD (q + 1) 0) (c := 3) hd8 hO ⟨by omega, by omega, by omega, by omega, by omega, by omega⟩) cw_X5_116 gn_X5_brings rfl dX5_run_13 gSel_all ⟨15 + d, 4, _, _, _, wS_sc hd8, rfl⟩ rfl (Nat.le_of_ble_eq_true rfl) ⟨(by decide), (by decide)⟩ (fun _ _ _ hx hm => by obtain ⟨rfl, ⟨hle, rfl⟩ | ⟨hle, hle2, rfl⟩⟩ := hx; exact ⟨⟨[], (List.append_nil _).symm⟩, ⟨rfl, cErr_er (by unfold spRun; rw [if_neg (by omega), if_pos (by omega)]) ⟨_, _, _, _, _, _, hO, rfl⟩⟩⟩; exact ⟨⟨[], (List.append_nil _).symm⟩, ⟨rfl, cErr_er (by unfold spRun; rw [if_neg (by omega), if_neg (by omega), if_pos (by omega)]) ⟨_, _, _, _, _, _, hO, rfl⟩⟩⟩) (fun v w1 h => ?_)
  obtain ⟨rfl, hbr, hbu, rfl⟩ := h
  show GO Z X (wS Z p sd ed im (M : Int) (L : Int) de ((u + (3 + T.getD (q + 1) 0) : Nat) : Int) re pk fa pl rd sz s2 os tm tk tp gT gS gO gY gW gE gI sc d (E : Int) (o0 : Int) (b0 : Int) ((q + 2 + 1 : Nat) : Int) (q : Int)) 0 0 16 [(2, .int (iI ((T.getD (q + 2) 0 : Nat) : Int))), (1, .int (iI ((T.getD (q + 1) 0 : Nat) : Int))), (0, .ref (p (15 + d)))] []
  rw [show ((u + (3 + T.getD (q + 1) 0) : Nat) : Int) = ((u + (3 + T.getD (q + 1) 0) : Nat) : Int) by omega]
  show GO Z X (wS Z p sd ed im (M : Int) (L : Int) de ((u + (3 + T.getD (q + 1) 0) : Nat) : Int) re pk fa pl rd sz s2 os tm tk tp gT gS gO gY gW gE gI sc d (E : Int) (o0 : Int) (b0 : Int) ((q + 2 + 1 : Nat) : Int) (q : Int)) 0 0 16 [(2, .int (iI ((T.getD (q + 2) 0 : Nat) : Int))), (1, .int (iI ((T.getD (q + 1) 0 : Nat) : Int))), (0, .ref (p (15 + d)))] []
  refine go_iconst hK 16 dX5_run_16 ?_
  refine go_istore_n (lo' := [(3, .int (iI 0)), (2, .int (iI ((T.getD (q + 2) 0 : Nat) : Int))), (1, .int (iI ((T.getD (q + 1) 0 : Nat) : Int))), (0, .ref (p (15 + d)))]) hK 17 3 dX5_run_17 rfl (by decide) rfl ?_
  refine go_lo [3, 2, 1, 0] rfl ?_
  have lp : ∀ (fu : Nat) (i : Nat) (k : Int) (os1 : Int) (gO1 : Nat → Int), (i ≤ T.getD (q + 1) 0) → (k = i) → (pB (O ++ List.replicate (i) (T.getD (q + 2) 0)) os1 gO1) → T.getD (q + 1) 0 - i < fu → GO Z X (wS Z p sd ed im (M : Int) (L : Int) de ((u + (3 + T.getD (q + 1) 0) : Nat) : Int) re pk fa pl rd sz s2 os1 tm tk tp gT gS gO1 gY gW gE gI sc d (E : Int) (o0 : Int) (b0 : Int) ((q + 2 + 1 : Nat) : Int) (q : Int)) 0 0 18 [(0, .ref (p (15 + d))), (1, .int (iI ((T.getD (q + 1) 0 : Nat) : Int))), (2, .int (iI ((T.getD (q + 2) 0 : Nat) : Int))), (3, .int (iI k))] [] := by
    intro fu
    induction fu with
    | zero => intro i k os1 gO1 hi hk hp1 hm; exact absurd hm (Nat.not_lt_zero _)
    | succ fu ih =>
      intro i k os1 gO1 hi hk hp1 hm
      have hln : (O ++ List.replicate (i) (T.getD (q + 2) 0)).length = O.length + i := by rw [List.length_append, List.length_replicate]
      have hz1 := hp1.1
      refine go_iload_n hK 18 3 dX5_run_18 rfl rfl ?_
      refine go_iload_n hK 19 1 dX5_run_19 rfl rfl ?_
      refine go_icmp_ge (tgt := 40) hK 20 dX5_run_20 (by decide) (by omega) (by omega) (fun c5 => ?_) (fun c5 => ?_)
      · have hi9 : i = T.getD (q + 1) 0 := by omega
        rw [hi9] at hp1 hln
        exact go_vret hK hR.1 40 [] dX5_run_40 (by decide) (by decide) rfl ⟨rfl, cRes_ok (q' := q + 3) (O' := O ++ List.replicate (T.getD (q + 1) 0) (T.getD (q + 2) 0)) (u' := u + (3 + T.getD (q + 1) 0)) (by unfold spRun; rw [if_neg (by omega), if_neg (by omega), if_neg (by omega)]) ⟨_, _, _, _, _, hp1, rfl⟩⟩
      · refine go_aload_n hK 23 0 dX5_run_23 rfl rfl ?_
        refine go_get hK 24 fl_X5_3 dX5_run_24 (15 + d) (wS_sc hd8) rfl ?_
        refine go_getN hK 27 fl_X5_44 dX5_run_27 0 rfl rfl ?_
        refine go_iload_n hK 30 2 dX5_run_30 rfl rfl ?_
        refine go_callV (As := [.int (iI ((T.getD (q + 2) 0 : Nat) : Int))]) (rest := []) hK hR 31 (ct_X2_add Z (p 5) (p 6) 4000 os1 gO1 ((T.getD (q + 2) 0 : Nat) : Int) (by omega) (by decide)) cw_X5_119 gn_X2_add rfl dX5_run_31 (gSel_at [5, 6] rfl rfl) ⟨0, 1, _, _, _, rfl, rfl⟩ rfl (Nat.le_of_ble_eq_true rfl) ⟨(by decide), (by decide)⟩ (fun _ _ _ h => h.elim) (fun v w1 h => ?_)
        obtain ⟨rfl, rfl⟩ := h
        show GO Z X (wS Z p sd ed im (M : Int) (L : Int) de ((u + (3 + T.getD (q + 1) 0) : Nat) : Int) re pk fa pl rd sz s2 (os1 + 1) tm tk tp gT gS (va_up gO1 os1.toNat ((T.getD (q + 2) 0 : Nat) : Int)) gY gW gE gI sc d (E : Int) (o0 : Int) (b0 : Int) ((q + 2 + 1 : Nat) : Int) (q : Int)) 0 0 34 [(0, .ref (p (15 + d))), (1, .int (iI ((T.getD (q + 1) 0 : Nat) : Int))), (2, .int (iI ((T.getD (q + 2) 0 : Nat) : Int))), (3, .int (iI k))] []
        have hp2 := pB_add (x := ((T.getD (q + 2) 0 : Nat) : Int)) hp1 (T.getD (q + 2) 0) (by omega)
        refine go_iinc (lo' := [(3, .int (iI (k + 1))), (0, .ref (p (15 + d))), (1, .int (iI ((T.getD (q + 1) 0 : Nat) : Int))), (2, .int (iI ((T.getD (q + 2) 0 : Nat) : Int)))]) hK 34 3 3 dX5_run_34 rfl (by decide) rfl ?_
        rw [List.append_assoc, ← List.replicate_succ'] at hp2
        refine go_goto (tgt := 18) hK 37 dX5_run_37 (by decide) ?_
        refine go_lo [1, 2, 3, 0] rfl ?_
        exact ih (i + 1) (k + 1) (os1 + 1) (va_up gO1 os1.toNat ((T.getD (q + 2) 0 : Nat) : Int)) (by omega) (by omega) hp2 (by omega)
  exact lp _ 0 0 _ _ (by omega) rfl (by rw [show O ++ List.replicate 0 (T.getD (q + 2) 0) = O by simp]; exact hO) (Nat.lt_succ_self _)

abbrev rm_X5_note : Room := { frames := 3, cells := 0, slots := 0, locals := 67 }
set_option maxHeartbeats 8000000 in
theorem ct_X5_note (Z : Gz) (p : Nat → Nat) {sd : Int64} {ed im de re pk fa pl rd sz s2 os tm tk tp : Int} {gT gS gO gY gW gE gI : Nat → Int} {sc : Nat → Sc} {d : Nat} {T O C : List Nat} {u M L E q o0 b0 : Nat} (hd8 : d ≤ 8) (hRS : RSc T O u M L sz os gT gO) (hSC : SCc T O C E q o0 b0 ed gE) : CT Z yX5_note cX5_note 2 none rm_X5_note [.ref (p (15 + d))] (wS Z p sd ed im (M : Int) (L : Int) de (u : Int) re pk fa pl rd sz s2 os tm tk tp gT gS gO gY gW gE gI sc d (E : Int) (o0 : Int) (b0 : Int) ((q + 1 : Nat) : Int) (q : Int)) (fun v w => v = none ∧ cRes Z p sd ed im (M : Int) (L : Int) de (u : Int) re pk fa pl rd sz s2 os tm tk tp gT gS gO gY gW gE gI sc d (E : Int) (o0 : Int) (b0 : Int) ((q + 1 : Nat) : Int) (q : Int) (spNote T M L E q O u) w) (fun qx w => qx = p 11 ∧ cErr Z p sd ed im (M : Int) (L : Int) de (u : Int) re pk fa pl rd sz s2 os tm tk tp gT gS gO gY gW gE gI sc d (E : Int) (o0 : Int) (b0 : Int) ((q + 1 : Nat) : Int) (q : Int) (spNote T M L E q O u) w) := by
  refine ct_of (by decide) (Nat.le_of_ble_eq_true rfl) (fun X hK hR => ?_)
  show GO Z X (wS Z p sd ed im (M : Int) (L : Int) de (u : Int) re pk fa pl rd sz s2 os tm tk tp gT gS gO gY gW gE gI sc d (E : Int) (o0 : Int) (b0 : Int) ((q + 1 : Nat) : Int) (q : Int)) 0 0 0 [(0, .ref (p (15 + d)))] []
  obtain ⟨hT, hTl, hT8, hO, hOM, hM4, huL, hL2⟩ := hRS
  obtain ⟨hqe, heT, ho0, hC, hed, hb12⟩ := hSC
  have hOl := hO.1
  refine go_aload_n hK 0 0 dX5_note_0 rfl rfl ?_
  refine go_callV (As := []) (rest := []) hK hR 1 (ct_X5_next Z p (q := q + 1) (E := E) hd8 hT ⟨by omega, by omega, by omega⟩) cw_X5_75 gn_X5_next rfl dX5_note_1 gSel_all ⟨15 + d, 4, _, _, _, wS_sc hd8, rfl⟩ rfl (Nat.le_of_ble_eq_true rfl) ⟨(by decide), (by decide)⟩ (fun _ _ _ hx hm => by obtain ⟨rfl, hle, rfl⟩ := hx; exact ⟨⟨[], (List.append_nil _).symm⟩, ⟨rfl, cErr_er (by unfold spNote; rw [if_pos (by omega)]) ⟨_, _, _, _, _, _, hO, rfl⟩⟩⟩) (fun v w1 h => ?_)
  obtain ⟨rfl, hlt2, rfl⟩ := h
  show GO Z X (wS Z p sd ed im (M : Int) (L : Int) de (u : Int) re pk fa pl rd sz s2 os tm tk tp gT gS gO gY gW gE gI sc d (E : Int) (o0 : Int) (b0 : Int) ((q + 1 + 1 : Nat) : Int) (q : Int)) 0 0 4 [(0, .ref (p (15 + d)))] [.int (iI ((T.getD (q + 1) 0 : Nat) : Int))]
  have hb1 := hT8 (q + 1)
  refine go_istore_n (lo' := [(1, .int (iI ((T.getD (q + 1) 0 : Nat) : Int))), (0, .ref (p (15 + d)))]) hK 4 1 dX5_note_4 rfl (by decide) rfl ?_
  refine go_aload_n hK 5 0 dX5_note_5 rfl rfl ?_
  refine go_iload_n hK 6 1 dX5_note_6 rfl rfl ?_
  refine go_callV (As := [.int (iI ((T.getD (q + 1) 0 : Nat) : Int))]) (rest := []) hK hR 7 (ct_X5_has Z p (q := q + 2) (E := E) (n := T.getD (q + 1) 0) hd8 ⟨by omega, by omega, by omega⟩) cw_X5_112 gn_X5_has rfl dX5_note_7 gSel_all ⟨15 + d, 4, _, _, _, wS_sc hd8, rfl⟩ rfl (Nat.le_of_ble_eq_true rfl) ⟨(by decide), (by decide)⟩ (fun _ _ _ hx hm => by obtain ⟨rfl, hle, rfl⟩ := hx; exact ⟨⟨[], (List.append_nil _).symm⟩, ⟨rfl, cErr_er (by unfold spNote; rw [if_neg (by omega), if_pos (by omega)]) ⟨_, _, _, _, _, _, hO, rfl⟩⟩⟩) (fun v w1 h => ?_)
  obtain ⟨rfl, hha3, rfl⟩ := h
  show GO Z X (wS Z p sd ed im (M : Int) (L : Int) de (u : Int) re pk fa pl rd sz s2 os tm tk tp gT gS gO gY gW gE gI sc d (E : Int) (o0 : Int) (b0 : Int) ((q + 1 + 1 : Nat) : Int) (q : Int)) 0 0 10 [(1, .int (iI ((T.getD (q + 1) 0 : Nat) : Int))), (0, .ref (p (15 + d)))] []
  refine go_aload_n hK 10 0 dX5_note_10 rfl rfl ?_
  refine go_iconst hK 11 dX5_note_11 ?_
  refine go_iconst hK 12 dX5_note_12 ?_
  refine go_iload_n hK 13 1 dX5_note_13 rfl rfl ?_
  refine go_iadd hK 14 dX5_note_14 ?_
  rw [show (2 : Int) + ((T.getD (q + 1) 0 : Nat) : Int) = ((2 + T.getD (q + 1) 0 : Nat) : Int) by omega]
  show GO Z X (wS Z p sd ed im (M : Int) (L : Int) de (u : Int) re pk fa pl rd sz s2 os tm tk tp gT gS gO gY gW gE gI sc d (E : Int) (o0 : Int) (b0 : Int) ((q + 1 + 1 : Nat) : Int) (q : Int)) 0 0 15 [(1, .int (iI ((T.getD (q + 1) 0 : Nat) : Int))), (0, .ref (p (15 + d)))] [.int (iI ((2 + T.getD (q + 1) 0 : Nat) : Int)), .int (iI 0), .ref (p (15 + d))]
  refine go_callV (As := [.int (iI 0), .int (iI ((2 + T.getD (q + 1) 0 : Nat) : Int))]) (rest := []) hK hR 15 (ct_X5_brings Z p (u := u) (L := L) (M := M) (n := 0) (c := (2 + T.getD (q + 1) 0)) hd8 hO ⟨by omega, by omega, by omega, by omega, by omega, by omega⟩) cw_X5_116 gn_X5_brings rfl dX5_note_15 gSel_all ⟨15 + d, 4, _, _, _, wS_sc hd8, rfl⟩ rfl (Nat.le_of_ble_eq_true rfl) ⟨(by decide), (by decide)⟩ (fun _ _ _ hx hm => by obtain ⟨rfl, ⟨hle, rfl⟩ | ⟨hle, hle2, rfl⟩⟩ := hx; exact ⟨⟨[], (List.append_nil _).symm⟩, ⟨rfl, cErr_er (by unfold spNote; rw [if_neg (by omega), if_neg (by omega), if_pos (by omega)]) ⟨_, _, _, _, _, _, hO, rfl⟩⟩⟩; exact ⟨⟨[], (List.append_nil _).symm⟩, ⟨rfl, cErr_er (by unfold spNote; rw [if_neg (by omega), if_neg (by omega), if_neg (by omega), if_pos (by omega)]) ⟨_, _, _, _, _, _, hO, rfl⟩⟩⟩) (fun v w1 h => ?_)
  obtain ⟨rfl, hbr, hbu, rfl⟩ := h
  show GO Z X (wS Z p sd ed im (M : Int) (L : Int) de ((u + ((2 + T.getD (q + 1) 0) + 0) : Nat) : Int) re pk fa pl rd sz s2 os tm tk tp gT gS gO gY gW gE gI sc d (E : Int) (o0 : Int) (b0 : Int) ((q + 1 + 1 : Nat) : Int) (q : Int)) 0 0 18 [(1, .int (iI ((T.getD (q + 1) 0 : Nat) : Int))), (0, .ref (p (15 + d)))] []
  rw [show ((u + ((2 + T.getD (q + 1) 0) + 0) : Nat) : Int) = ((u + (2 + T.getD (q + 1) 0) : Nat) : Int) by omega]
  show GO Z X (wS Z p sd ed im (M : Int) (L : Int) de ((u + (2 + T.getD (q + 1) 0) : Nat) : Int) re pk fa pl rd sz s2 os tm tk tp gT gS gO gY gW gE gI sc d (E : Int) (o0 : Int) (b0 : Int) ((q + 1 + 1 : Nat) : Int) (q : Int)) 0 0 18 [(1, .int (iI ((T.getD (q + 1) 0 : Nat) : Int))), (0, .ref (p (15 + d)))] []
  refine go_aload_n hK 18 0 dX5_note_18 rfl rfl ?_
  refine go_dup hK 19 dX5_note_19 rfl ?_
  refine go_get hK 20 fl_X5_19 dX5_note_20 (15 + d) (wS_sc hd8) rfl ?_
  refine go_iload_n hK 23 1 dX5_note_23 rfl rfl ?_
  refine go_iadd hK 24 dX5_note_24 ?_
  refine go_put (w' := (wS Z p sd ed im (M : Int) (L : Int) de ((u + (2 + T.getD (q + 1) 0) : Nat) : Int) re pk fa pl rd sz s2 os tm tk tp gT gS gO gY gW gE gI sc d (E : Int) (o0 : Int) (b0 : Int) (((q + 1 + 1 : Nat) : Int) + ((T.getD (q + 1) 0 : Nat) : Int)) (q : Int))) hK 25 fl_X5_19 fw_X5_4 dX5_note_25 (15 + d) (wS_sc hd8) rfl rfl (Nat.le_of_ble_eq_true rfl) (wS_set hd8) ?_
  exact go_vret hK hR.1 28 [] dX5_note_28 (by decide) (by decide) rfl ⟨rfl, cRes_ok (q' := q + 2 + T.getD (q + 1) 0) (O' := O) (u' := u + (2 + T.getD (q + 1) 0)) (by unfold spNote; rw [if_neg (by omega), if_neg (by omega), if_neg (by omega), if_neg (by omega)]) ⟨_, _, _, _, _, hO, rfl⟩⟩

abbrev rm_X5_copy : Room := { frames := 3, cells := 0, slots := 0, locals := 67 }
set_option maxHeartbeats 8000000 in
theorem ct_X5_copy (Z : Gz) (p : Nat → Nat) {sd : Int64} {ed im de re pk fa pl rd sz s2 os tm tk tp : Int} {gT gS gO gY gW gE gI : Nat → Int} {sc : Nat → Sc} {d : Nat} {T O C : List Nat} {u M L E q o0 b0 : Nat} (hd8 : d ≤ 8) (hRS : RSc T O u M L sz os gT gO) (hSC : SCc T O C E q o0 b0 ed gE) : CT Z yX5_copy cX5_copy 4 none rm_X5_copy [.ref (p (15 + d))] (wS Z p sd ed im (M : Int) (L : Int) de (u : Int) re pk fa pl rd sz s2 os tm tk tp gT gS gO gY gW gE gI sc d (E : Int) (o0 : Int) (b0 : Int) ((q + 1 : Nat) : Int) (q : Int)) (fun v w => v = none ∧ cRes Z p sd ed im (M : Int) (L : Int) de (u : Int) re pk fa pl rd sz s2 os tm tk tp gT gS gO gY gW gE gI sc d (E : Int) (o0 : Int) (b0 : Int) ((q + 1 : Nat) : Int) (q : Int) (spCopy T M L E q o0 O u) w) (fun qx w => qx = p 11 ∧ cErr Z p sd ed im (M : Int) (L : Int) de (u : Int) re pk fa pl rd sz s2 os tm tk tp gT gS gO gY gW gE gI sc d (E : Int) (o0 : Int) (b0 : Int) ((q + 1 : Nat) : Int) (q : Int) (spCopy T M L E q o0 O u) w) := by
  refine ct_of (by decide) (Nat.le_of_ble_eq_true rfl) (fun X hK hR => ?_)
  show GO Z X (wS Z p sd ed im (M : Int) (L : Int) de (u : Int) re pk fa pl rd sz s2 os tm tk tp gT gS gO gY gW gE gI sc d (E : Int) (o0 : Int) (b0 : Int) ((q + 1 : Nat) : Int) (q : Int)) 0 0 0 [(0, .ref (p (15 + d)))] []
  obtain ⟨hT, hTl, hT8, hO, hOM, hM4, huL, hL2⟩ := hRS
  obtain ⟨hqe, heT, ho0, hC, hed, hb12⟩ := hSC
  have hOl := hO.1
  refine go_aload_n hK 0 0 dX5_copy_0 rfl rfl ?_
  refine go_callV (As := []) (rest := []) hK hR 1 (ct_X5_next Z p (q := q + 1) (E := E) hd8 hT ⟨by omega, by omega, by omega⟩) cw_X5_75 gn_X5_next rfl dX5_copy_1 gSel_all ⟨15 + d, 4, _, _, _, wS_sc hd8, rfl⟩ rfl (Nat.le_of_ble_eq_true rfl) ⟨(by decide), (by decide)⟩ (fun _ _ _ hx hm => by obtain ⟨rfl, hle, rfl⟩ := hx; exact ⟨⟨[], (List.append_nil _).symm⟩, ⟨rfl, cErr_er (by unfold spCopy; rw [if_pos (by omega)]) ⟨_, _, _, _, _, _, hO, rfl⟩⟩⟩) (fun v w1 h => ?_)
  obtain ⟨rfl, hlt2, rfl⟩ := h
  show GO Z X (wS Z p sd ed im (M : Int) (L : Int) de (u : Int) re pk fa pl rd sz s2 os tm tk tp gT gS gO gY gW gE gI sc d (E : Int) (o0 : Int) (b0 : Int) ((q + 1 + 1 : Nat) : Int) (q : Int)) 0 0 4 [(0, .ref (p (15 + d)))] [.int (iI ((T.getD (q + 1) 0 : Nat) : Int))]
  have hb1 := hT8 (q + 1)
  refine go_istore_n (lo' := [(1, .int (iI ((T.getD (q + 1) 0 : Nat) : Int))), (0, .ref (p (15 + d)))]) hK 4 1 dX5_copy_4 rfl (by decide) rfl ?_
  refine go_aload_n hK 5 0 dX5_copy_5 rfl rfl ?_
  refine go_get hK 6 fl_X5_3 dX5_copy_6 (15 + d) (wS_sc hd8) rfl ?_
  refine go_iload_n hK 9 1 dX5_copy_9 rfl rfl ?_
  refine go_iconst hK 10 dX5_copy_10 ?_
  refine go_aload_n hK 11 0 dX5_copy_11 rfl rfl ?_
  refine go_get hK 12 fl_X5_3 dX5_copy_12 (15 + d) (wS_sc hd8) rfl ?_
  refine go_getN hK 15 fl_X5_44 dX5_copy_15 0 rfl rfl ?_
  refine go_getN hK 18 fl_X5_47 dX5_copy_18 5 rfl rfl ?_
  refine go_aload_n hK 21 0 dX5_copy_21 rfl rfl ?_
  refine go_get hK 22 fl_X5_50 dX5_copy_22 (15 + d) (wS_sc hd8) rfl ?_
  refine go_isub hK 25 dX5_copy_25 ?_
  refine go_callSN (As := [.int (iI ((T.getD (q + 1) 0 : Nat) : Int)), .int (iI 1), .int (iI (os - (o0 : Int)))]) (rest := [.ref (p 0)]) hK hR 26 (ct_X1_in Z (x := ((T.getD (q + 1) 0 : Nat) : Int)) (lw := 1) (hg := (os - (o0 : Int))) (by omega) (by omega) (by omega)) q131 q42 q129n q130 gn_X1_in rfl dX5_copy_26 gSel_nil  rfl (Nat.le_of_ble_eq_true rfl) ⟨(by decide), (by decide)⟩ (fun _ _ _ h => h.elim) (fun v w1 h => ?_)
  obtain ⟨⟨r3, rfl, hr4⟩, rfl⟩ := h
  rw [List.append_nil]
  show GO Z X (wS Z p sd ed im (M : Int) (L : Int) de (u : Int) re pk fa pl rd sz s2 os tm tk tp gT gS gO gY gW gE gI sc d (E : Int) (o0 : Int) (b0 : Int) ((q + 1 + 1 : Nat) : Int) (q : Int)) 0 0 29 [(1, .int (iI ((T.getD (q + 1) 0 : Nat) : Int))), (0, .ref (p (15 + d)))] [.int (iI r3), .ref (p 0)]
  refine go_iconst hK 29 dX5_copy_29 ?_
  refine go_aload_n hK 30 0 dX5_copy_30 rfl rfl ?_
  refine go_get hK 31 fl_X5_19 dX5_copy_31 (15 + d) (wS_sc hd8) rfl ?_
  refine go_iconst hK 34 dX5_copy_34 ?_
  refine go_isub hK 35 dX5_copy_35 ?_
  rcases hr4 with ⟨rfl, hr4a, hr4b⟩ | ⟨rfl, hr4a⟩
  · show GO Z X (wS Z p sd ed im (M : Int) (L : Int) de (u : Int) re pk fa pl rd sz s2 os tm tk tp gT gS gO gY gW gE gI sc d (E : Int) (o0 : Int) (b0 : Int) ((q + 1 + 1 : Nat) : Int) (q : Int)) 0 0 36 [(1, .int (iI ((T.getD (q + 1) 0 : Nat) : Int))), (0, .ref (p (15 + d)))] [.int (iI (((q + 1 + 1 : Nat) : Int) - 1)), .int (iI 4), .int (iI 1), .ref (p 0)]
    refine go_callVN (As := [.int (iI 1), .int (iI 4), .int (iI (((q + 1 + 1 : Nat) : Int) - 1))]) (rest := []) hK hR 36 (ct_need1 Z p) q96 q42 q93n q95 qs1 gn_X1_need rfl dX5_copy_36 gSel_all ⟨0, 0, _, _, _, rfl, rfl⟩ rfl (Nat.le_of_ble_eq_true rfl) ⟨(by decide), (by decide)⟩ (fun _ _ _ h => h.elim) (fun v w1 h => ?_)
    obtain ⟨rfl, rfl⟩ := h
    show GO Z X (wS Z p sd ed im (M : Int) (L : Int) de (u : Int) re pk fa pl rd sz s2 os tm tk tp gT gS gO gY gW gE gI sc d (E : Int) (o0 : Int) (b0 : Int) ((q + 1 + 1 : Nat) : Int) (q : Int)) 0 0 39 [(1, .int (iI ((T.getD (q + 1) 0 : Nat) : Int))), (0, .ref (p (15 + d)))] []
    refine go_aload_n hK 39 0 dX5_copy_39 rfl rfl ?_
    refine go_callV (As := []) (rest := []) hK hR 40 (ct_X5_next Z p (q := q + 2) (E := E) hd8 hT ⟨by omega, by omega, by omega⟩) cw_X5_75 gn_X5_next rfl dX5_copy_40 gSel_all ⟨15 + d, 4, _, _, _, wS_sc hd8, rfl⟩ rfl (Nat.le_of_ble_eq_true rfl) ⟨(by decide), (by decide)⟩ (fun _ _ _ hx hm => by obtain ⟨rfl, hle, rfl⟩ := hx; exact ⟨⟨[], (List.append_nil _).symm⟩, ⟨rfl, cErr_er (by unfold spCopy; rw [if_neg (by omega), if_neg (by omega), if_pos (by omega)]) ⟨_, _, _, _, _, _, hO, rfl⟩⟩⟩) (fun v w1 h => ?_)
    obtain ⟨rfl, hlt6, rfl⟩ := h
    show GO Z X (wS Z p sd ed im (M : Int) (L : Int) de (u : Int) re pk fa pl rd sz s2 os tm tk tp gT gS gO gY gW gE gI sc d (E : Int) (o0 : Int) (b0 : Int) ((q + 2 + 1 : Nat) : Int) (q : Int)) 0 0 43 [(1, .int (iI ((T.getD (q + 1) 0 : Nat) : Int))), (0, .ref (p (15 + d)))] [.int (iI ((T.getD (q + 2) 0 : Nat) : Int))]
    have hb5 := hT8 (q + 2)
    refine go_istore_n (lo' := [(2, .int (iI ((T.getD (q + 2) 0 : Nat) : Int))), (1, .int (iI ((T.getD (q + 1) 0 : Nat) : Int))), (0, .ref (p (15 + d)))]) hK 43 2 dX5_copy_43 rfl (by decide) rfl ?_
    refine go_aload_n hK 44 0 dX5_copy_44 rfl rfl ?_
    refine go_iload_n hK 45 2 dX5_copy_45 rfl rfl ?_
    refine go_iconst hK 46 dX5_copy_46 ?_
    refine go_callV (As := [.int (iI ((T.getD (q + 2) 0 : Nat) : Int)), .int (iI 3)]) (rest := []) hK hR 47 (ct_X5_brings Z p (u := u) (L := L) (M := M) (n := T.getD (q + 2) 0) (c := 3) hd8 hO ⟨by omega, by omega, by omega, by omega, by omega, by omega⟩) cw_X5_116 gn_X5_brings rfl dX5_copy_47 gSel_all ⟨15 + d, 4, _, _, _, wS_sc hd8, rfl⟩ rfl (Nat.le_of_ble_eq_true rfl) ⟨(by decide), (by decide)⟩ (fun _ _ _ hx hm => by obtain ⟨rfl, ⟨hle, rfl⟩ | ⟨hle, hle2, rfl⟩⟩ := hx; exact ⟨⟨[], (List.append_nil _).symm⟩, ⟨rfl, cErr_er (by unfold spCopy; rw [if_neg (by omega), if_neg (by omega), if_neg (by omega), if_pos (by omega)]) ⟨_, _, _, _, _, _, hO, rfl⟩⟩⟩; exact ⟨⟨[], (List.append_nil _).symm⟩, ⟨rfl, cErr_er (by unfold spCopy; rw [if_neg (by omega), if_neg (by omega), if_neg (by omega), if_neg (by omega), if_pos (by omega)]) ⟨_, _, _, _, _, _, hO, rfl⟩⟩⟩) (fun v w1 h => ?_)
    obtain ⟨rfl, hbr, hbu, rfl⟩ := h
    show GO Z X (wS Z p sd ed im (M : Int) (L : Int) de ((u + (3 + T.getD (q + 2) 0) : Nat) : Int) re pk fa pl rd sz s2 os tm tk tp gT gS gO gY gW gE gI sc d (E : Int) (o0 : Int) (b0 : Int) ((q + 2 + 1 : Nat) : Int) (q : Int)) 0 0 50 [(2, .int (iI ((T.getD (q + 2) 0 : Nat) : Int))), (1, .int (iI ((T.getD (q + 1) 0 : Nat) : Int))), (0, .ref (p (15 + d)))] []
    rw [show ((u + (3 + T.getD (q + 2) 0) : Nat) : Int) = ((u + (3 + T.getD (q + 2) 0) : Nat) : Int) by omega]
    show GO Z X (wS Z p sd ed im (M : Int) (L : Int) de ((u + (3 + T.getD (q + 2) 0) : Nat) : Int) re pk fa pl rd sz s2 os tm tk tp gT gS gO gY gW gE gI sc d (E : Int) (o0 : Int) (b0 : Int) ((q + 2 + 1 : Nat) : Int) (q : Int)) 0 0 50 [(2, .int (iI ((T.getD (q + 2) 0 : Nat) : Int))), (1, .int (iI ((T.getD (q + 1) 0 : Nat) : Int))), (0, .ref (p (15 + d)))] []
    refine go_iconst hK 50 dX5_copy_50 ?_
    refine go_istore_n (lo' := [(3, .int (iI 0)), (2, .int (iI ((T.getD (q + 2) 0 : Nat) : Int))), (1, .int (iI ((T.getD (q + 1) 0 : Nat) : Int))), (0, .ref (p (15 + d)))]) hK 51 3 dX5_copy_51 rfl (by decide) rfl ?_
    refine go_lo [3, 2, 1, 0] rfl ?_
    have lp : ∀ (fu : Nat) (i : Nat) (k : Int) (os1 : Int) (gO1 : Nat → Int), (i ≤ T.getD (q + 2) 0) → (k = i) → (pB (cpN (T.getD (q + 1) 0) (i) O) os1 gO1) → T.getD (q + 2) 0 - i < fu → GO Z X (wS Z p sd ed im (M : Int) (L : Int) de ((u + (3 + T.getD (q + 2) 0) : Nat) : Int) re pk fa pl rd sz s2 os1 tm tk tp gT gS gO1 gY gW gE gI sc d (E : Int) (o0 : Int) (b0 : Int) ((q + 2 + 1 : Nat) : Int) (q : Int)) 0 0 52 [(0, .ref (p (15 + d))), (1, .int (iI ((T.getD (q + 1) 0 : Nat) : Int))), (2, .int (iI ((T.getD (q + 2) 0 : Nat) : Int))), (3, .int (iI k))] [] := by
      intro fu
      induction fu with
      | zero => intro i k os1 gO1 hi hk hp1 hm; exact absurd hm (Nat.not_lt_zero _)
      | succ fu ih =>
        intro i k os1 gO1 hi hk hp1 hm
        have hln : (cpN (T.getD (q + 1) 0) (i) O).length = O.length + i := cpN_len _ _ _
        have hz1 := hp1.1
        refine go_iload_n hK 52 3 dX5_copy_52 rfl rfl ?_
        refine go_iload_n hK 53 2 dX5_copy_53 rfl rfl ?_
        refine go_icmp_ge (tgt := 95) hK 54 dX5_copy_54 (by decide) (by omega) (by omega) (fun c7 => ?_) (fun c7 => ?_)
        · have hi9 : i = T.getD (q + 2) 0 := by omega
          rw [hi9] at hp1 hln
          exact go_vret hK hR.1 95 [] dX5_copy_95 (by decide) (by decide) rfl ⟨rfl, cRes_ok (q' := q + 3) (O' := cpN (T.getD (q + 1) 0) (T.getD (q + 2) 0) O) (u' := u + (3 + T.getD (q + 2) 0)) (by unfold spCopy; rw [if_neg (by omega), if_neg (by omega), if_neg (by omega), if_neg (by omega), if_neg (by omega)]) ⟨_, _, _, _, _, hp1, rfl⟩⟩
        · refine go_aload_n hK 57 0 dX5_copy_57 rfl rfl ?_
          refine go_get hK 58 fl_X5_3 dX5_copy_58 (15 + d) (wS_sc hd8) rfl ?_
          refine go_getN hK 61 fl_X5_44 dX5_copy_61 0 rfl rfl ?_
          refine go_aload_n hK 64 0 dX5_copy_64 rfl rfl ?_
          refine go_get hK 65 fl_X5_3 dX5_copy_65 (15 + d) (wS_sc hd8) rfl ?_
          refine go_getN hK 68 fl_X5_44 dX5_copy_68 0 rfl rfl ?_
          refine go_aload_n hK 71 0 dX5_copy_71 rfl rfl ?_
          refine go_get hK 72 fl_X5_3 dX5_copy_72 (15 + d) (wS_sc hd8) rfl ?_
          refine go_getN hK 75 fl_X5_44 dX5_copy_75 0 rfl rfl ?_
          refine go_getN hK 78 fl_X5_47 dX5_copy_78 5 rfl rfl ?_
          refine go_iload_n hK 81 1 dX5_copy_81 rfl rfl ?_
          refine go_isub hK 82 dX5_copy_82 ?_
          refine go_callV (As := [.int (iI (os1 - ((T.getD (q + 1) 0 : Nat) : Int)))]) (rest := [.ref (p 5)]) hK hR 83 (ct_X2_at Z (p 5) (p 6) 4000 os1 gO1 (os1 - ((T.getD (q + 1) 0 : Nat) : Int)) (by omega) (by decide)) cw_X5_33 gn_X2_at rfl dX5_copy_83 (gSel_at [5, 6] rfl rfl) ⟨0, 1, _, _, _, rfl, rfl⟩ rfl (Nat.le_of_ble_eq_true rfl) ⟨(by decide), (by decide)⟩ (fun _ _ _ h => h.elim) (fun v w1 h => ?_)
          obtain ⟨rfl, rfl⟩ := h
          show GO Z X (wS Z p sd ed im (M : Int) (L : Int) de ((u + (3 + T.getD (q + 2) 0) : Nat) : Int) re pk fa pl rd sz s2 os1 tm tk tp gT gS gO1 gY gW gE gI sc d (E : Int) (o0 : Int) (b0 : Int) ((q + 2 + 1 : Nat) : Int) (q : Int)) 0 0 86 [(0, .ref (p (15 + d))), (1, .int (iI ((T.getD (q + 1) 0 : Nat) : Int))), (2, .int (iI ((T.getD (q + 2) 0 : Nat) : Int))), (3, .int (iI k))] [.int (iI (gO1 (os1 - ((T.getD (q + 1) 0 : Nat) : Int)).toNat % 256)), .ref (p 5)]
          rw [show gO1 (os1 - ((T.getD (q + 1) 0 : Nat) : Int)).toNat % 256 = (((cpN (T.getD (q + 1) 0) i O).getD ((cpN (T.getD (q + 1) 0) i O).length - T.getD (q + 1) 0) 0 : Nat) : Int) by rw [show (os1 - ((T.getD (q + 1) 0 : Nat) : Int)).toNat = (cpN (T.getD (q + 1) 0) i O).length - T.getD (q + 1) 0 by omega]; exact hp1.2 _ (by omega)]
          show GO Z X (wS Z p sd ed im (M : Int) (L : Int) de ((u + (3 + T.getD (q + 2) 0) : Nat) : Int) re pk fa pl rd sz s2 os1 tm tk tp gT gS gO1 gY gW gE gI sc d (E : Int) (o0 : Int) (b0 : Int) ((q + 2 + 1 : Nat) : Int) (q : Int)) 0 0 86 [(0, .ref (p (15 + d))), (1, .int (iI ((T.getD (q + 1) 0 : Nat) : Int))), (2, .int (iI ((T.getD (q + 2) 0 : Nat) : Int))), (3, .int (iI k))] [.int (iI (((cpN (T.getD (q + 1) 0) i O).getD ((cpN (T.getD (q + 1) 0) i O).length - T.getD (q + 1) 0) 0 : Nat) : Int)), .ref (p 5)]
          have hcb : (cpN (T.getD (q + 1) 0) i O).getD ((cpN (T.getD (q + 1) 0) i O).length - T.getD (q + 1) 0) 0 < 256 := by have := hp1.2 ((cpN (T.getD (q + 1) 0) i O).length - T.getD (q + 1) 0) (by omega); omega
          refine go_callV (As := [.int (iI (((cpN (T.getD (q + 1) 0) i O).getD ((cpN (T.getD (q + 1) 0) i O).length - T.getD (q + 1) 0) 0 : Nat) : Int))]) (rest := []) hK hR 86 (ct_X2_add Z (p 5) (p 6) 4000 os1 gO1 (((cpN (T.getD (q + 1) 0) i O).getD ((cpN (T.getD (q + 1) 0) i O).length - T.getD (q + 1) 0) 0 : Nat) : Int) (by omega) (by decide)) cw_X5_119 gn_X2_add rfl dX5_copy_86 (gSel_at [5, 6] rfl rfl) ⟨0, 1, _, _, _, rfl, rfl⟩ rfl (Nat.le_of_ble_eq_true rfl) ⟨(by decide), (by decide)⟩ (fun _ _ _ h => h.elim) (fun v w1 h => ?_)
          obtain ⟨rfl, rfl⟩ := h
          show GO Z X (wS Z p sd ed im (M : Int) (L : Int) de ((u + (3 + T.getD (q + 2) 0) : Nat) : Int) re pk fa pl rd sz s2 (os1 + 1) tm tk tp gT gS (va_up gO1 os1.toNat (((cpN (T.getD (q + 1) 0) i O).getD ((cpN (T.getD (q + 1) 0) i O).length - T.getD (q + 1) 0) 0 : Nat) : Int)) gY gW gE gI sc d (E : Int) (o0 : Int) (b0 : Int) ((q + 2 + 1 : Nat) : Int) (q : Int)) 0 0 89 [(0, .ref (p (15 + d))), (1, .int (iI ((T.getD (q + 1) 0 : Nat) : Int))), (2, .int (iI ((T.getD (q + 2) 0 : Nat) : Int))), (3, .int (iI k))] []
          have hp2 := pB_add (x := (((cpN (T.getD (q + 1) 0) i O).getD ((cpN (T.getD (q + 1) 0) i O).length - T.getD (q + 1) 0) 0 : Nat) : Int)) hp1 ((cpN (T.getD (q + 1) 0) i O).getD ((cpN (T.getD (q + 1) 0) i O).length - T.getD (q + 1) 0) 0) (by omega)
          refine go_iinc (lo' := [(3, .int (iI (k + 1))), (0, .ref (p (15 + d))), (1, .int (iI ((T.getD (q + 1) 0 : Nat) : Int))), (2, .int (iI ((T.getD (q + 2) 0 : Nat) : Int)))]) hK 89 3 3 dX5_copy_89 rfl (by decide) rfl ?_
          refine go_goto (tgt := 52) hK 92 dX5_copy_92 (by decide) ?_
          refine go_lo [1, 2, 3, 0] rfl ?_
          exact ih (i + 1) (k + 1) (os1 + 1) (va_up gO1 os1.toNat (((cpN (T.getD (q + 1) 0) i O).getD ((cpN (T.getD (q + 1) 0) i O).length - T.getD (q + 1) 0) 0 : Nat) : Int)) (by omega) (by omega) hp2 (by omega)
    exact lp _ 0 0 _ _ (by omega) rfl hO (Nat.lt_succ_self _)
  · show GO Z X (wS Z p sd ed im (M : Int) (L : Int) de (u : Int) re pk fa pl rd sz s2 os tm tk tp gT gS gO gY gW gE gI sc d (E : Int) (o0 : Int) (b0 : Int) ((q + 1 + 1 : Nat) : Int) (q : Int)) 0 0 36 [(1, .int (iI ((T.getD (q + 1) 0 : Nat) : Int))), (0, .ref (p (15 + d)))] [.int (iI (((q + 1 + 1 : Nat) : Int) - 1)), .int (iI 4), .int (iI 0), .ref (p 0)]
    refine go_callVN (As := [.int (iI 0), .int (iI 4), .int (iI (((q + 1 + 1 : Nat) : Int) - 1))]) (rest := []) hK hR 36 (ct_need0 Z p) q96 q42 q93n q95 qs1 gn_X1_need rfl dX5_copy_36 gSel_all ⟨0, 0, _, _, _, rfl, rfl⟩ rfl (Nat.le_of_ble_eq_true rfl) ⟨(by decide), (by decide)⟩ (fun _ _ _ hx hm => by obtain ⟨rfl, rfl⟩ := hx; exact ⟨⟨[], (List.append_nil _).symm⟩, ⟨rfl, cErr_er (k := 4) (p' := q + 1) (by unfold spCopy; rw [if_neg (by omega), if_pos (by omega)]) ⟨_, _, _, _, _, _, hO, (by rw [show ((q + 1 + 1 : Nat) : Int) - 1 = ((q + 1 : Nat) : Int) by omega]; rfl)⟩⟩⟩) (fun v w1 h => ?_)
    exact h.elim

abbrev rm_X5_again : Room := { frames := 3, cells := 0, slots := 0, locals := 67 }
set_option maxHeartbeats 8000000 in
theorem ct_X5_again (Z : Gz) (p : Nat → Nat) {sd : Int64} {ed im de re pk fa pl rd sz s2 os tm tk tp : Int} {gT gS gO gY gW gE gI : Nat → Int} {sc : Nat → Sc} {d : Nat} {T O C : List Nat} {u M L E q o0 b0 : Nat} (hd8 : d ≤ 8) (hRS : RSc T O u M L sz os gT gO) (hSC : SCc T O C E q o0 b0 ed gE) : CT Z yX5_again cX5_again 4 none rm_X5_again [.ref (p (15 + d))] (wS Z p sd ed im (M : Int) (L : Int) de (u : Int) re pk fa pl rd sz s2 os tm tk tp gT gS gO gY gW gE gI sc d (E : Int) (o0 : Int) (b0 : Int) ((q + 1 : Nat) : Int) (q : Int)) (fun v w => v = none ∧ cRes Z p sd ed im (M : Int) (L : Int) de (u : Int) re pk fa pl rd sz s2 os tm tk tp gT gS gO gY gW gE gI sc d (E : Int) (o0 : Int) (b0 : Int) ((q + 1 : Nat) : Int) (q : Int) (spAgain T M L E q o0 C O u) w) (fun qx w => qx = p 11 ∧ cErr Z p sd ed im (M : Int) (L : Int) de (u : Int) re pk fa pl rd sz s2 os tm tk tp gT gS gO gY gW gE gI sc d (E : Int) (o0 : Int) (b0 : Int) ((q + 1 : Nat) : Int) (q : Int) (spAgain T M L E q o0 C O u) w) := by
  refine ct_of (by decide) (Nat.le_of_ble_eq_true rfl) (fun X hK hR => ?_)
  show GO Z X (wS Z p sd ed im (M : Int) (L : Int) de (u : Int) re pk fa pl rd sz s2 os tm tk tp gT gS gO gY gW gE gI sc d (E : Int) (o0 : Int) (b0 : Int) ((q + 1 : Nat) : Int) (q : Int)) 0 0 0 [(0, .ref (p (15 + d)))] []
  obtain ⟨hT, hTl, hT8, hO, hOM, hM4, huL, hL2⟩ := hRS
  obtain ⟨hqe, heT, ho0, hC, hed, hb12⟩ := hSC
  have hOl := hO.1
  refine go_aload_n hK 0 0 dX5_again_0 rfl rfl ?_
  refine go_callV (As := []) (rest := []) hK hR 1 (ct_X5_next Z p (q := q + 1) (E := E) hd8 hT ⟨by omega, by omega, by omega⟩) cw_X5_75 gn_X5_next rfl dX5_again_1 gSel_all ⟨15 + d, 4, _, _, _, wS_sc hd8, rfl⟩ rfl (Nat.le_of_ble_eq_true rfl) ⟨(by decide), (by decide)⟩ (fun _ _ _ hx hm => by obtain ⟨rfl, hle, rfl⟩ := hx; exact ⟨⟨[], (List.append_nil _).symm⟩, ⟨rfl, cErr_er (by unfold spAgain; rw [if_pos (by omega)]) ⟨_, _, _, _, _, _, hO, rfl⟩⟩⟩) (fun v w1 h => ?_)
  obtain ⟨rfl, hlt2, rfl⟩ := h
  show GO Z X (wS Z p sd ed im (M : Int) (L : Int) de (u : Int) re pk fa pl rd sz s2 os tm tk tp gT gS gO gY gW gE gI sc d (E : Int) (o0 : Int) (b0 : Int) ((q + 1 + 1 : Nat) : Int) (q : Int)) 0 0 4 [(0, .ref (p (15 + d)))] [.int (iI ((T.getD (q + 1) 0 : Nat) : Int))]
  have hb1 := hT8 (q + 1)
  refine go_istore_n (lo' := [(1, .int (iI ((T.getD (q + 1) 0 : Nat) : Int))), (0, .ref (p (15 + d)))]) hK 4 1 dX5_again_4 rfl (by decide) rfl ?_
  refine go_aload_n hK 5 0 dX5_again_5 rfl rfl ?_
  refine go_get hK 6 fl_X5_3 dX5_again_6 (15 + d) (wS_sc hd8) rfl ?_
  refine go_iload_n hK 9 1 dX5_again_9 rfl rfl ?_
  refine go_aload_n hK 10 0 dX5_again_10 rfl rfl ?_
  refine go_get hK 11 fl_X5_3 dX5_again_11 (15 + d) (wS_sc hd8) rfl ?_
  refine go_getN hK 14 fl_X5_53 dX5_again_14 0 rfl rfl ?_
  refine go_aload_n hK 17 0 dX5_again_17 rfl rfl ?_
  refine go_get hK 18 fl_X5_56 dX5_again_18 (15 + d) (wS_sc hd8) rfl ?_
  refine go_isub hK 21 dX5_again_21 ?_
  refine go_icmp_ge (tgt := 29) hK 22 dX5_again_22 (by decide) (by omega) (by omega) (fun c3 => ?_) (fun c3 => ?_)
  · refine go_iconst hK 29 dX5_again_29 ?_
    refine go_iconst hK 30 dX5_again_30 ?_
    refine go_aload_n hK 31 0 dX5_again_31 rfl rfl ?_
    refine go_get hK 32 fl_X5_19 dX5_again_32 (15 + d) (wS_sc hd8) rfl ?_
    refine go_iconst hK 35 dX5_again_35 ?_
    refine go_isub hK 36 dX5_again_36 ?_
    refine go_callVN (As := [.int (iI 0), .int (iI 5), .int (iI (((q + 1 + 1 : Nat) : Int) - 1))]) (rest := []) hK hR 37 (ct_need0 Z p) q96 q42 q93n q95 qs1 gn_X1_need rfl dX5_again_37 gSel_all ⟨0, 0, _, _, _, rfl, rfl⟩ rfl (Nat.le_of_ble_eq_true rfl) ⟨(by decide), (by decide)⟩ (fun _ _ _ hx hm => by obtain ⟨rfl, rfl⟩ := hx; exact ⟨⟨[], (List.append_nil _).symm⟩, ⟨rfl, cErr_er (k := 5) (p' := q + 1) (by unfold spAgain; rw [if_neg (by omega), if_pos (by omega)]) ⟨_, _, _, _, _, _, hO, (by rw [show ((q + 1 + 1 : Nat) : Int) - 1 = ((q + 1 : Nat) : Int) by omega]; rfl)⟩⟩⟩) (fun v w1 h => ?_)
    exact h.elim
  · refine go_iconst hK 25 dX5_again_25 ?_
    refine go_goto (tgt := 30) hK 26 dX5_again_26 (by decide) ?_
    refine go_iconst hK 30 dX5_again_30 ?_
    refine go_aload_n hK 31 0 dX5_again_31 rfl rfl ?_
    refine go_get hK 32 fl_X5_19 dX5_again_32 (15 + d) (wS_sc hd8) rfl ?_
    refine go_iconst hK 35 dX5_again_35 ?_
    refine go_isub hK 36 dX5_again_36 ?_
    refine go_callVN (As := [.int (iI 1), .int (iI 5), .int (iI (((q + 1 + 1 : Nat) : Int) - 1))]) (rest := []) hK hR 37 (ct_need1 Z p) q96 q42 q93n q95 qs1 gn_X1_need rfl dX5_again_37 gSel_all ⟨0, 0, _, _, _, rfl, rfl⟩ rfl (Nat.le_of_ble_eq_true rfl) ⟨(by decide), (by decide)⟩ (fun _ _ _ h => h.elim) (fun v w1 h => ?_)
    obtain ⟨rfl, rfl⟩ := h
    show GO Z X (wS Z p sd ed im (M : Int) (L : Int) de (u : Int) re pk fa pl rd sz s2 os tm tk tp gT gS gO gY gW gE gI sc d (E : Int) (o0 : Int) (b0 : Int) ((q + 1 + 1 : Nat) : Int) (q : Int)) 0 0 40 [(1, .int (iI ((T.getD (q + 1) 0 : Nat) : Int))), (0, .ref (p (15 + d)))] []
    have hc9 := hC (T.getD (q + 1) 0) (by omega)
    refine go_aload_n hK 40 0 dX5_again_40 rfl rfl ?_
    refine go_get hK 41 fl_X5_3 dX5_again_41 (15 + d) (wS_sc hd8) rfl ?_
    refine go_getN hK 44 fl_X5_83 dX5_again_44 0 rfl rfl ?_
    refine go_aload_n hK 47 0 dX5_again_47 rfl rfl ?_
    refine go_get hK 48 fl_X5_56 dX5_again_48 (15 + d) (wS_sc hd8) rfl ?_
    refine go_iload_n hK 51 1 dX5_again_51 rfl rfl ?_
    refine go_iadd hK 52 dX5_again_52 ?_
    refine go_iald hK 53 dX5_again_53 13 rfl (by omega) (by decide) ?_
    rw [show gE ((b0 : Int) + ((T.getD (q + 1) 0 : Nat) : Int)).toNat = ((o0 + C.getD (T.getD (q + 1) 0) 0 : Nat) : Int) by rw [show ((b0 : Int) + ((T.getD (q + 1) 0 : Nat) : Int)).toNat = b0 + T.getD (q + 1) 0 by omega]; exact hc9.1]
    refine go_aload_n hK 54 0 dX5_again_54 rfl rfl ?_
    refine go_get hK 55 fl_X5_50 dX5_again_55 (15 + d) (wS_sc hd8) rfl ?_
    refine go_isub hK 58 dX5_again_58 ?_
    rw [show ((o0 + C.getD (T.getD (q + 1) 0) 0 : Nat) : Int) - (o0 : Int) = ((C.getD (T.getD (q + 1) 0) 0 : Nat) : Int) by omega]
    refine go_istore_n (lo' := [(2, .int (iI ((C.getD (T.getD (q + 1) 0) 0 : Nat) : Int))), (1, .int (iI ((T.getD (q + 1) 0 : Nat) : Int))), (0, .ref (p (15 + d)))]) hK 59 2 dX5_again_59 rfl (by decide) rfl ?_
    refine go_aload_n hK 60 0 dX5_again_60 rfl rfl ?_
    refine go_iload_n hK 61 2 dX5_again_61 rfl rfl ?_
    refine go_iconst hK 62 dX5_again_62 ?_
    refine go_callV (As := [.int (iI ((C.getD (T.getD (q + 1) 0) 0 : Nat) : Int)), .int (iI 2)]) (rest := []) hK hR 63 (ct_X5_brings Z p (u := u) (L := L) (M := M) (n := C.getD (T.getD (q + 1) 0) 0) (c := 2) hd8 hO ⟨by omega, by omega, by omega, by omega, by omega, by omega⟩) cw_X5_116 gn_X5_brings rfl dX5_again_63 gSel_all ⟨15 + d, 4, _, _, _, wS_sc hd8, rfl⟩ rfl (Nat.le_of_ble_eq_true rfl) ⟨(by decide), (by decide)⟩ (fun _ _ _ hx hm => by obtain ⟨rfl, ⟨hle, rfl⟩ | ⟨hle, hle2, rfl⟩⟩ := hx; exact ⟨⟨[], (List.append_nil _).symm⟩, ⟨rfl, cErr_er (by unfold spAgain; rw [if_neg (by omega), if_neg (by omega), if_pos (by omega)]) ⟨_, _, _, _, _, _, hO, rfl⟩⟩⟩; exact ⟨⟨[], (List.append_nil _).symm⟩, ⟨rfl, cErr_er (by unfold spAgain; rw [if_neg (by omega), if_neg (by omega), if_neg (by omega), if_pos (by omega)]) ⟨_, _, _, _, _, _, hO, rfl⟩⟩⟩) (fun v w1 h => ?_)
    obtain ⟨rfl, hbr, hbu, rfl⟩ := h
    show GO Z X (wS Z p sd ed im (M : Int) (L : Int) de ((u + (2 + C.getD (T.getD (q + 1) 0) 0) : Nat) : Int) re pk fa pl rd sz s2 os tm tk tp gT gS gO gY gW gE gI sc d (E : Int) (o0 : Int) (b0 : Int) ((q + 1 + 1 : Nat) : Int) (q : Int)) 0 0 66 [(2, .int (iI ((C.getD (T.getD (q + 1) 0) 0 : Nat) : Int))), (1, .int (iI ((T.getD (q + 1) 0 : Nat) : Int))), (0, .ref (p (15 + d)))] []
    rw [show ((u + (2 + C.getD (T.getD (q + 1) 0) 0) : Nat) : Int) = ((u + (2 + C.getD (T.getD (q + 1) 0) 0) : Nat) : Int) by omega]
    show GO Z X (wS Z p sd ed im (M : Int) (L : Int) de ((u + (2 + C.getD (T.getD (q + 1) 0) 0) : Nat) : Int) re pk fa pl rd sz s2 os tm tk tp gT gS gO gY gW gE gI sc d (E : Int) (o0 : Int) (b0 : Int) ((q + 1 + 1 : Nat) : Int) (q : Int)) 0 0 66 [(2, .int (iI ((C.getD (T.getD (q + 1) 0) 0 : Nat) : Int))), (1, .int (iI ((T.getD (q + 1) 0 : Nat) : Int))), (0, .ref (p (15 + d)))] []
    refine go_iconst hK 66 dX5_again_66 ?_
    refine go_istore_n (lo' := [(3, .int (iI 0)), (2, .int (iI ((C.getD (T.getD (q + 1) 0) 0 : Nat) : Int))), (1, .int (iI ((T.getD (q + 1) 0 : Nat) : Int))), (0, .ref (p (15 + d)))]) hK 67 3 dX5_again_67 rfl (by decide) rfl ?_
    refine go_lo [3, 2, 1, 0] rfl ?_
    have lp : ∀ (fu : Nat) (i : Nat) (k : Int) (os1 : Int) (gO1 : Nat → Int), (i ≤ C.getD (T.getD (q + 1) 0) 0) → (k = i) → (pB (O ++ tkN O o0 (i)) os1 gO1) → C.getD (T.getD (q + 1) 0) 0 - i < fu → GO Z X (wS Z p sd ed im (M : Int) (L : Int) de ((u + (2 + C.getD (T.getD (q + 1) 0) 0) : Nat) : Int) re pk fa pl rd sz s2 os1 tm tk tp gT gS gO1 gY gW gE gI sc d (E : Int) (o0 : Int) (b0 : Int) ((q + 1 + 1 : Nat) : Int) (q : Int)) 0 0 68 [(0, .ref (p (15 + d))), (1, .int (iI ((T.getD (q + 1) 0 : Nat) : Int))), (2, .int (iI ((C.getD (T.getD (q + 1) 0) 0 : Nat) : Int))), (3, .int (iI k))] [] := by
      intro fu
      induction fu with
      | zero => intro i k os1 gO1 hi hk hp1 hm; exact absurd hm (Nat.not_lt_zero _)
      | succ fu ih =>
        intro i k os1 gO1 hi hk hp1 hm
        have hln : (O ++ tkN O o0 (i)).length = O.length + i := by rw [List.length_append, tkN_len]
        have hz1 := hp1.1
        refine go_iload_n hK 68 3 dX5_again_68 rfl rfl ?_
        refine go_iload_n hK 69 2 dX5_again_69 rfl rfl ?_
        refine go_icmp_ge (tgt := 105) hK 70 dX5_again_70 (by decide) (by omega) (by omega) (fun c4 => ?_) (fun c4 => ?_)
        · have hi9 : i = C.getD (T.getD (q + 1) 0) 0 := by omega
          rw [hi9] at hp1 hln
          exact go_vret hK hR.1 105 [] dX5_again_105 (by decide) (by decide) rfl ⟨rfl, cRes_ok (q' := q + 2) (O' := O ++ tkN O o0 (C.getD (T.getD (q + 1) 0) 0)) (u' := u + (2 + C.getD (T.getD (q + 1) 0) 0)) (by unfold spAgain; rw [if_neg (by omega), if_neg (by omega), if_neg (by omega), if_neg (by omega)]) ⟨_, _, _, _, _, hp1, rfl⟩⟩
        · refine go_aload_n hK 73 0 dX5_again_73 rfl rfl ?_
          refine go_get hK 74 fl_X5_3 dX5_again_74 (15 + d) (wS_sc hd8) rfl ?_
          refine go_getN hK 77 fl_X5_44 dX5_again_77 0 rfl rfl ?_
          refine go_aload_n hK 80 0 dX5_again_80 rfl rfl ?_
          refine go_get hK 81 fl_X5_3 dX5_again_81 (15 + d) (wS_sc hd8) rfl ?_
          refine go_getN hK 84 fl_X5_44 dX5_again_84 0 rfl rfl ?_
          refine go_aload_n hK 87 0 dX5_again_87 rfl rfl ?_
          refine go_get hK 88 fl_X5_50 dX5_again_88 (15 + d) (wS_sc hd8) rfl ?_
          refine go_iload_n hK 91 3 dX5_again_91 rfl rfl ?_
          refine go_iadd hK 92 dX5_again_92 ?_
          refine go_callV (As := [.int (iI ((o0 : Int) + k))]) (rest := [.ref (p 5)]) hK hR 93 (ct_X2_at Z (p 5) (p 6) 4000 os1 gO1 ((o0 : Int) + k) (by omega) (by decide)) cw_X5_33 gn_X2_at rfl dX5_again_93 (gSel_at [5, 6] rfl rfl) ⟨0, 1, _, _, _, rfl, rfl⟩ rfl (Nat.le_of_ble_eq_true rfl) ⟨(by decide), (by decide)⟩ (fun _ _ _ h => h.elim) (fun v w1 h => ?_)
          obtain ⟨rfl, rfl⟩ := h
          show GO Z X (wS Z p sd ed im (M : Int) (L : Int) de ((u + (2 + C.getD (T.getD (q + 1) 0) 0) : Nat) : Int) re pk fa pl rd sz s2 os1 tm tk tp gT gS gO1 gY gW gE gI sc d (E : Int) (o0 : Int) (b0 : Int) ((q + 1 + 1 : Nat) : Int) (q : Int)) 0 0 96 [(0, .ref (p (15 + d))), (1, .int (iI ((T.getD (q + 1) 0 : Nat) : Int))), (2, .int (iI ((C.getD (T.getD (q + 1) 0) 0 : Nat) : Int))), (3, .int (iI k))] [.int (iI (gO1 ((o0 : Int) + k).toNat % 256)), .ref (p 5)]
          have hg9 : gO1 (o0 + i) % 256 = ((O.getD (o0 + i) 0 : Nat) : Int) := by rw [hp1.2 (o0 + i) (by omega), show (O ++ tkN O o0 i).getD (o0 + i) 0 = O.getD (o0 + i) 0 by rw [List.getD_eq_getElem?_getD, List.getElem?_append_left (by omega), ← List.getD_eq_getElem?_getD]]
          rw [show gO1 ((o0 : Int) + k).toNat % 256 = ((O.getD (o0 + i) 0 : Nat) : Int) by rw [show ((o0 : Int) + k).toNat = o0 + i by omega]; exact hg9]
          show GO Z X (wS Z p sd ed im (M : Int) (L : Int) de ((u + (2 + C.getD (T.getD (q + 1) 0) 0) : Nat) : Int) re pk fa pl rd sz s2 os1 tm tk tp gT gS gO1 gY gW gE gI sc d (E : Int) (o0 : Int) (b0 : Int) ((q + 1 + 1 : Nat) : Int) (q : Int)) 0 0 96 [(0, .ref (p (15 + d))), (1, .int (iI ((T.getD (q + 1) 0 : Nat) : Int))), (2, .int (iI ((C.getD (T.getD (q + 1) 0) 0 : Nat) : Int))), (3, .int (iI k))] [.int (iI ((O.getD (o0 + i) 0 : Nat) : Int)), .ref (p 5)]
          refine go_callV (As := [.int (iI ((O.getD (o0 + i) 0 : Nat) : Int))]) (rest := []) hK hR 96 (ct_X2_add Z (p 5) (p 6) 4000 os1 gO1 ((O.getD (o0 + i) 0 : Nat) : Int) (by omega) (by decide)) cw_X5_119 gn_X2_add rfl dX5_again_96 (gSel_at [5, 6] rfl rfl) ⟨0, 1, _, _, _, rfl, rfl⟩ rfl (Nat.le_of_ble_eq_true rfl) ⟨(by decide), (by decide)⟩ (fun _ _ _ h => h.elim) (fun v w1 h => ?_)
          obtain ⟨rfl, rfl⟩ := h
          show GO Z X (wS Z p sd ed im (M : Int) (L : Int) de ((u + (2 + C.getD (T.getD (q + 1) 0) 0) : Nat) : Int) re pk fa pl rd sz s2 (os1 + 1) tm tk tp gT gS (va_up gO1 os1.toNat ((O.getD (o0 + i) 0 : Nat) : Int)) gY gW gE gI sc d (E : Int) (o0 : Int) (b0 : Int) ((q + 1 + 1 : Nat) : Int) (q : Int)) 0 0 99 [(0, .ref (p (15 + d))), (1, .int (iI ((T.getD (q + 1) 0 : Nat) : Int))), (2, .int (iI ((C.getD (T.getD (q + 1) 0) 0 : Nat) : Int))), (3, .int (iI k))] []
          have hp2 := pB_add (x := ((O.getD (o0 + i) 0 : Nat) : Int)) hp1 (O.getD (o0 + i) 0) (by omega)
          refine go_iinc (lo' := [(3, .int (iI (k + 1))), (0, .ref (p (15 + d))), (1, .int (iI ((T.getD (q + 1) 0 : Nat) : Int))), (2, .int (iI ((C.getD (T.getD (q + 1) 0) 0 : Nat) : Int)))]) hK 99 3 3 dX5_again_99 rfl (by decide) rfl ?_
          rw [List.append_assoc] at hp2
          refine go_goto (tgt := 68) hK 102 dX5_again_102 (by decide) ?_
          refine go_lo [1, 2, 3, 0] rfl ?_
          exact ih (i + 1) (k + 1) (os1 + 1) (va_up gO1 os1.toNat ((O.getD (o0 + i) 0 : Nat) : Int)) (by omega) (by omega) hp2 (by omega)
    exact lp _ 0 0 _ _ (by omega) rfl (by rw [show O ++ tkN O o0 0 = O by simp [tkN]]; exact hO) (Nat.lt_succ_self _)

