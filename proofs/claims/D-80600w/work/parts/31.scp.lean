/-! a scope reads: next, has, cost, brings (printed by gen/c2.py) -/
set_option maxRecDepth 100000
abbrev rm_X5_next : Room := { frames := 1, cells := 0, slots := 0, locals := 23 }
set_option maxHeartbeats 8000000 in
theorem ct_X5_next (Z : Gz) (p : Nat → Nat) {sd : Int64} {ed im mo li de us re pk fa pl rd sz s2 os tm tk tp : Int} {gT gS gO gY gW gE gI : Nat → Int} {sc : Nat → Sc} {d : Nat} {ob eb fi : Int} {T : List Nat} {q E : Nat} (hd8 : d ≤ 8) (hT : pB T sz gT) (hq : q ≤ E ∧ E ≤ T.length ∧ T.length ≤ 1200) : CT Z yX5_next cX5_next 1 (some .int) rm_X5_next [.ref (p (15 + d))] (wS Z p sd ed im mo li de us re pk fa pl rd sz s2 os tm tk tp gT gS gO gY gW gE gI sc d (E : Int) ob eb (q : Int) fi) (fun v w => v = some (.int (iI ((T.getD q 0 : Nat) : Int))) ∧ q < E ∧ w = (wS Z p sd ed im mo li de us re pk fa pl rd sz s2 os tm tk tp gT gS gO gY gW gE gI sc d (E : Int) ob eb ((q + 1 : Nat) : Int) fi)) (fun qx w => qx = p 11 ∧ E ≤ q ∧ w = (wS Z p sd ed im mo li de us re pk fa pl rd sz s2 os tm 3 (E : Int) gT gS gO gY gW gE gI sc d (E : Int) ob eb (q : Int) fi)) := by
  refine ct_of (by decide) (Nat.le_of_ble_eq_true rfl) (fun X hK hR => ?_)
  show GO Z X (wS Z p sd ed im mo li de us re pk fa pl rd sz s2 os tm tk tp gT gS gO gY gW gE gI sc d (E : Int) ob eb (q : Int) fi) 0 0 0 [(0, .ref (p (15 + d)))] []
  refine go_aload_n hK 0 0 dX5_next_0 rfl rfl ?_
  refine go_get hK 1 fl_X5_3 dX5_next_1 (15 + d) (wS_sc hd8) rfl ?_
  refine go_aload_n hK 4 0 dX5_next_4 rfl rfl ?_
  refine go_get hK 5 fl_X5_19 dX5_next_5 (15 + d) (wS_sc hd8) rfl ?_
  refine go_aload_n hK 8 0 dX5_next_8 rfl rfl ?_
  refine go_get hK 9 fl_X5_22 dX5_next_9 (15 + d) (wS_sc hd8) rfl ?_
  refine go_icmp_ge (tgt := 19) hK 12 dX5_next_12 (by decide) (by omega) (by omega) (fun c1 => ?_) (fun c1 => ?_)
  · refine go_iconst hK 19 dX5_next_19 ?_
    refine go_iconst hK 20 dX5_next_20 ?_
    refine go_aload_n hK 21 0 dX5_next_21 rfl rfl ?_
    refine go_get hK 22 fl_X5_22 dX5_next_22 (15 + d) (wS_sc hd8) rfl ?_
    refine go_callVN (As := [.int (iI 0), .int (iI 3), .int (iI (E : Int))]) (rest := []) hK hR 25 (ct_need0 Z p) q96 q42 q93n q95 qs1 gn_X1_need rfl dX5_next_25 gSel_all ⟨0, 0, _, _, _, rfl, rfl⟩ rfl (Nat.le_of_ble_eq_true rfl) ⟨(by decide), (by decide)⟩ (fun _ _ _ hx hm => by obtain ⟨rfl, rfl⟩ := hx; exact ⟨⟨[], (List.append_nil _).symm⟩, ⟨rfl, by omega, rfl⟩⟩) (fun v w1 h => ?_)
    exact h.elim
  · refine go_iconst hK 15 dX5_next_15 ?_
    refine go_goto (tgt := 20) hK 16 dX5_next_16 (by decide) ?_
    refine go_iconst hK 20 dX5_next_20 ?_
    refine go_aload_n hK 21 0 dX5_next_21 rfl rfl ?_
    refine go_get hK 22 fl_X5_22 dX5_next_22 (15 + d) (wS_sc hd8) rfl ?_
    refine go_callVN (As := [.int (iI 1), .int (iI 3), .int (iI (E : Int))]) (rest := []) hK hR 25 (ct_need1 Z p) q96 q42 q93n q95 qs1 gn_X1_need rfl dX5_next_25 gSel_all ⟨0, 0, _, _, _, rfl, rfl⟩ rfl (Nat.le_of_ble_eq_true rfl) ⟨(by decide), (by decide)⟩ (fun _ _ _ h => h.elim) (fun v w1 h => ?_)
    obtain ⟨rfl, rfl⟩ := h
    show GO Z X (wS Z p sd ed im mo li de us re pk fa pl rd sz s2 os tm tk tp gT gS gO gY gW gE gI sc d (E : Int) ob eb (q : Int) fi) 0 0 28 [(0, .ref (p (15 + d)))] []
    refine go_aload_n hK 28 0 dX5_next_28 rfl rfl ?_
    refine go_get hK 29 fl_X5_3 dX5_next_29 (15 + d) (wS_sc hd8) rfl ?_
    refine go_getN hK 32 fl_X5_29 dX5_next_32 0 rfl rfl ?_
    refine go_aload_n hK 35 0 dX5_next_35 rfl rfl ?_
    refine go_dup hK 36 dX5_next_36 rfl ?_
    refine go_get hK 37 fl_X5_19 dX5_next_37 (15 + d) (wS_sc hd8) rfl ?_
    refine go_dup_x1 hK 40 dX5_next_40 rfl rfl ?_
    refine go_iconst hK 41 dX5_next_41 ?_
    refine go_iadd hK 42 dX5_next_42 ?_
    refine go_put (w' := (wS Z p sd ed im mo li de us re pk fa pl rd sz s2 os tm tk tp gT gS gO gY gW gE gI sc d (E : Int) ob eb ((q : Int) + 1) fi)) hK 43 fl_X5_19 fw_X5_4 dX5_next_43 (15 + d) (wS_sc hd8) rfl rfl (Nat.le_of_ble_eq_true rfl) (wS_set hd8) ?_
    refine go_callV (As := [.int (iI (q : Int))]) (rest := []) hK hR 46 (ct_X2_at Z (p 1) (p 2) 1200 sz gT (q : Int) (by omega) (by decide)) cw_X5_33 gn_X2_at rfl dX5_next_46 (gSel_at [1, 2] rfl rfl) ⟨0, 1, _, _, _, rfl, rfl⟩ rfl (Nat.le_of_ble_eq_true rfl) ⟨(by decide), (by decide)⟩ (fun _ _ _ h => h.elim) (fun v w1 h => ?_)
    obtain ⟨rfl, rfl⟩ := h
    show GO Z X (wS Z p sd ed im mo li de us re pk fa pl rd sz s2 os tm tk tp gT gS gO gY gW gE gI sc d (E : Int) ob eb ((q : Int) + 1) fi) 0 0 49 [(0, .ref (p (15 + d)))] [.int (iI (gT (q : Int).toNat % 256))]
    rw [show gT (q : Int).toNat % 256 = ((T.getD (q) 0 : Nat) : Int) from hT.2 (q) (by omega)]
    show GO Z X (wS Z p sd ed im mo li de us re pk fa pl rd sz s2 os tm tk tp gT gS gO gY gW gE gI sc d (E : Int) ob eb ((q : Int) + 1) fi) 0 0 49 [(0, .ref (p (15 + d)))] [.int (iI ((T.getD (q) 0 : Nat) : Int))]
    exact go_iret hK hR.1 49 [] dX5_next_49 (by decide) (by decide) rfl ⟨rfl, by omega, rfl⟩

abbrev rm_X5_has : Room := { frames := 1, cells := 0, slots := 0, locals := 23 }
set_option maxHeartbeats 8000000 in
theorem ct_X5_has (Z : Gz) (p : Nat → Nat) {sd : Int64} {ed im mo li de us re pk fa pl rd sz s2 os tm tk tp : Int} {gT gS gO gY gW gE gI : Nat → Int} {sc : Nat → Sc} {d : Nat} {ob eb fi : Int} {q E n : Nat} (hd8 : d ≤ 8) (hq : q ≤ E ∧ E ≤ 1200 ∧ n ≤ 1000000) : CT Z yX5_has cX5_has 2 none rm_X5_has [.ref (p (15 + d)), .int (iI (n : Int))] (wS Z p sd ed im mo li de us re pk fa pl rd sz s2 os tm tk tp gT gS gO gY gW gE gI sc d (E : Int) ob eb (q : Int) fi) (fun v w => v = none ∧ q + n ≤ E ∧ w = (wS Z p sd ed im mo li de us re pk fa pl rd sz s2 os tm tk tp gT gS gO gY gW gE gI sc d (E : Int) ob eb (q : Int) fi)) (fun qx w => qx = p 11 ∧ E < q + n ∧ w = (wS Z p sd ed im mo li de us re pk fa pl rd sz s2 os tm 3 (E : Int) gT gS gO gY gW gE gI sc d (E : Int) ob eb (q : Int) fi)) := by
  refine ct_of (by decide) (Nat.le_of_ble_eq_true rfl) (fun X hK hR => ?_)
  show GO Z X (wS Z p sd ed im mo li de us re pk fa pl rd sz s2 os tm tk tp gT gS gO gY gW gE gI sc d (E : Int) ob eb (q : Int) fi) 0 0 0 [(0, .ref (p (15 + d))), (1, .int (iI (n : Int)))] []
  refine go_aload_n hK 0 0 dX5_has_0 rfl rfl ?_
  refine go_get hK 1 fl_X5_3 dX5_has_1 (15 + d) (wS_sc hd8) rfl ?_
  refine go_iload_n hK 4 1 dX5_has_4 rfl rfl ?_
  refine go_aload_n hK 5 0 dX5_has_5 rfl rfl ?_
  refine go_get hK 6 fl_X5_22 dX5_has_6 (15 + d) (wS_sc hd8) rfl ?_
  refine go_aload_n hK 9 0 dX5_has_9 rfl rfl ?_
  refine go_get hK 10 fl_X5_19 dX5_has_10 (15 + d) (wS_sc hd8) rfl ?_
  refine go_isub hK 13 dX5_has_13 ?_
  refine go_icmp_gt (tgt := 21) hK 14 dX5_has_14 (by decide) (by omega) (by omega) (fun c1 => ?_) (fun c1 => ?_)
  · refine go_iconst hK 21 dX5_has_21 ?_
    refine go_iconst hK 22 dX5_has_22 ?_
    refine go_aload_n hK 23 0 dX5_has_23 rfl rfl ?_
    refine go_get hK 24 fl_X5_22 dX5_has_24 (15 + d) (wS_sc hd8) rfl ?_
    refine go_callVN (As := [.int (iI 0), .int (iI 3), .int (iI (E : Int))]) (rest := []) hK hR 27 (ct_need0 Z p) q96 q42 q93n q95 qs1 gn_X1_need rfl dX5_has_27 gSel_all ⟨0, 0, _, _, _, rfl, rfl⟩ rfl (Nat.le_of_ble_eq_true rfl) ⟨(by decide), (by decide)⟩ (fun _ _ _ hx hm => by obtain ⟨rfl, rfl⟩ := hx; exact ⟨⟨[], (List.append_nil _).symm⟩, ⟨rfl, by omega, rfl⟩⟩) (fun v w1 h => ?_)
    exact h.elim
  · refine go_iconst hK 17 dX5_has_17 ?_
    refine go_goto (tgt := 22) hK 18 dX5_has_18 (by decide) ?_
    refine go_iconst hK 22 dX5_has_22 ?_
    refine go_aload_n hK 23 0 dX5_has_23 rfl rfl ?_
    refine go_get hK 24 fl_X5_22 dX5_has_24 (15 + d) (wS_sc hd8) rfl ?_
    refine go_callVN (As := [.int (iI 1), .int (iI 3), .int (iI (E : Int))]) (rest := []) hK hR 27 (ct_need1 Z p) q96 q42 q93n q95 qs1 gn_X1_need rfl dX5_has_27 gSel_all ⟨0, 0, _, _, _, rfl, rfl⟩ rfl (Nat.le_of_ble_eq_true rfl) ⟨(by decide), (by decide)⟩ (fun _ _ _ h => h.elim) (fun v w1 h => ?_)
    obtain ⟨rfl, rfl⟩ := h
    show GO Z X (wS Z p sd ed im mo li de us re pk fa pl rd sz s2 os tm tk tp gT gS gO gY gW gE gI sc d (E : Int) ob eb (q : Int) fi) 0 0 30 [(0, .ref (p (15 + d))), (1, .int (iI (n : Int)))] []
    exact go_vret hK hR.1 30 [] dX5_has_30 (by decide) (by decide) rfl ⟨rfl, by omega, rfl⟩

abbrev rm_X5_cost : Room := { frames := 1, cells := 0, slots := 0, locals := 23 }
set_option maxHeartbeats 8000000 in
theorem ct_X5_cost (Z : Gz) (p : Nat → Nat) {sd : Int64} {ed im mo de re pk fa pl rd sz s2 os tm tk tp : Int} {gT gS gO gY gW gE gI : Nat → Int} {sc : Nat → Sc} {d : Nat} {e ob eb qa fi : Int} {u L n : Nat} {h : Int} (hd8 : d ≤ 8) (hu : u ≤ 100000 ∧ L ≤ 100000 ∧ n ≤ 100000) : CT Z yX5_cost cX5_cost 3 none rm_X5_cost [.ref (p (15 + d)), .int (iI (n : Int)), .int (iI h)] (wS Z p sd ed im mo (L : Int) de (u : Int) re pk fa pl rd sz s2 os tm tk tp gT gS gO gY gW gE gI sc d e ob eb qa fi) (fun v w => v = none ∧ u + n ≤ L ∧ w = (wS Z p sd ed im mo (L : Int) de ((u + n : Nat) : Int) re pk fa pl rd sz s2 os tm tk tp gT gS gO gY gW gE gI sc d e ob eb qa fi)) (fun qx w => qx = p 11 ∧ L < u + n ∧ w = (wS Z p sd ed im mo (L : Int) de (u : Int) re pk fa pl rd sz s2 os tm 12 h gT gS gO gY gW gE gI sc d e ob eb qa fi)) := by
  refine ct_of (by decide) (Nat.le_of_ble_eq_true rfl) (fun X hK hR => ?_)
  show GO Z X (wS Z p sd ed im mo (L : Int) de (u : Int) re pk fa pl rd sz s2 os tm tk tp gT gS gO gY gW gE gI sc d e ob eb qa fi) 0 0 0 [(0, .ref (p (15 + d))), (1, .int (iI (n : Int))), (2, .int (iI h))] []
  refine go_aload_n hK 0 0 dX5_cost_0 rfl rfl ?_
  refine go_get hK 1 fl_X5_3 dX5_cost_1 (15 + d) (wS_sc hd8) rfl ?_
  refine go_aload_n hK 4 0 dX5_cost_4 rfl rfl ?_
  refine go_get hK 5 fl_X5_3 dX5_cost_5 (15 + d) (wS_sc hd8) rfl ?_
  refine go_getN hK 8 fl_X5_38 dX5_cost_8 0 rfl rfl ?_
  refine go_iload_n hK 11 1 dX5_cost_11 rfl rfl ?_
  refine go_iadd hK 12 dX5_cost_12 ?_
  refine go_aload_n hK 13 0 dX5_cost_13 rfl rfl ?_
  refine go_get hK 14 fl_X5_3 dX5_cost_14 (15 + d) (wS_sc hd8) rfl ?_
  refine go_getN hK 17 fl_X5_41 dX5_cost_17 0 rfl rfl ?_
  refine go_icmp_gt (tgt := 27) hK 20 dX5_cost_20 (by decide) (by omega) (by omega) (fun c1 => ?_) (fun c1 => ?_)
  · refine go_iconst hK 27 dX5_cost_27 ?_
    refine go_bipush hK 28 dX5_cost_28 (by decide) ?_
    refine go_iload_n hK 30 2 dX5_cost_30 rfl rfl ?_
    refine go_callVN (As := [.int (iI 0), .int (iI 12), .int (iI h)]) (rest := []) hK hR 31 (ct_need0 Z p) q96 q42 q93n q95 qs1 gn_X1_need rfl dX5_cost_31 gSel_all ⟨0, 0, _, _, _, rfl, rfl⟩ rfl (Nat.le_of_ble_eq_true rfl) ⟨(by decide), (by decide)⟩ (fun _ _ _ hx hm => by obtain ⟨rfl, rfl⟩ := hx; exact ⟨⟨[], (List.append_nil _).symm⟩, ⟨rfl, by omega, rfl⟩⟩) (fun v w1 h => ?_)
    exact h.elim
  · refine go_iconst hK 23 dX5_cost_23 ?_
    refine go_goto (tgt := 28) hK 24 dX5_cost_24 (by decide) ?_
    refine go_bipush hK 28 dX5_cost_28 (by decide) ?_
    refine go_iload_n hK 30 2 dX5_cost_30 rfl rfl ?_
    refine go_callVN (As := [.int (iI 1), .int (iI 12), .int (iI h)]) (rest := []) hK hR 31 (ct_need1 Z p) q96 q42 q93n q95 qs1 gn_X1_need rfl dX5_cost_31 gSel_all ⟨0, 0, _, _, _, rfl, rfl⟩ rfl (Nat.le_of_ble_eq_true rfl) ⟨(by decide), (by decide)⟩ (fun _ _ _ h => h.elim) (fun v w1 h => ?_)
    obtain ⟨rfl, rfl⟩ := h
    show GO Z X (wS Z p sd ed im mo (L : Int) de (u : Int) re pk fa pl rd sz s2 os tm tk tp gT gS gO gY gW gE gI sc d e ob eb qa fi) 0 0 34 [(0, .ref (p (15 + d))), (1, .int (iI (n : Int))), (2, .int (iI h))] []
    refine go_aload_n hK 34 0 dX5_cost_34 rfl rfl ?_
    refine go_get hK 35 fl_X5_3 dX5_cost_35 (15 + d) (wS_sc hd8) rfl ?_
    refine go_dup hK 38 dX5_cost_38 rfl ?_
    refine go_getN hK 39 fl_X5_38 dX5_cost_39 0 rfl rfl ?_
    refine go_iload_n hK 42 1 dX5_cost_42 rfl rfl ?_
    refine go_iadd hK 43 dX5_cost_43 ?_
    refine go_putN (w' := (wS Z p sd ed im mo (L : Int) de ((u : Int) + (n : Int)) re pk fa pl rd sz s2 os tm tk tp gT gS gO gY gW gE gI sc d e ob eb qa fi)) hK 44 fl_X5_38 fw_X1_15 dX5_cost_44 0 rfl rfl rfl (Nat.le_of_ble_eq_true rfl) rfl ?_
    exact go_vret hK hR.1 47 [] dX5_cost_47 (by decide) (by decide) rfl ⟨rfl, by omega, rfl⟩

abbrev rm_X5_brings : Room := { frames := 2, cells := 0, slots := 0, locals := 45 }
set_option maxHeartbeats 8000000 in
theorem ct_X5_brings (Z : Gz) (p : Nat → Nat) {sd : Int64} {ed im de re pk fa pl rd sz s2 os tm tk tp : Int} {gT gS gO gY gW gE gI : Nat → Int} {sc : Nat → Sc} {d : Nat} {e ob eb qa fi : Int} {O : List Nat} {u L M n c : Nat} (hd8 : d ≤ 8) (hO : pB O os gO) (hu : u ≤ 20000 ∧ L ≤ 20000 ∧ n ≤ 20000 ∧ c ≤ 20000 ∧ O.length ≤ 4000 ∧ M ≤ 4000) : CT Z yX5_brings cX5_brings 3 none rm_X5_brings [.ref (p (15 + d)), .int (iI (n : Int)), .int (iI (c : Int))] (wS Z p sd ed im (M : Int) (L : Int) de (u : Int) re pk fa pl rd sz s2 os tm tk tp gT gS gO gY gW gE gI sc d e ob eb qa fi) (fun v w => v = none ∧ O.length + n ≤ M ∧ u + (c + n) ≤ L ∧ w = (wS Z p sd ed im (M : Int) (L : Int) de ((u + (c + n) : Nat) : Int) re pk fa pl rd sz s2 os tm tk tp gT gS gO gY gW gE gI sc d e ob eb qa fi)) (fun qx w => qx = p 11 ∧ ((M < O.length + n ∧ w = (wS Z p sd ed im (M : Int) (L : Int) de (u : Int) re pk fa pl rd sz s2 os tm 11 fi gT gS gO gY gW gE gI sc d e ob eb qa fi)) ∨ (O.length + n ≤ M ∧ L < u + (c + n) ∧ w = (wS Z p sd ed im (M : Int) (L : Int) de (u : Int) re pk fa pl rd sz s2 os tm 12 fi gT gS gO gY gW gE gI sc d e ob eb qa fi)))) := by
  refine ct_of (by decide) (Nat.le_of_ble_eq_true rfl) (fun X hK hR => ?_)
  show GO Z X (wS Z p sd ed im (M : Int) (L : Int) de (u : Int) re pk fa pl rd sz s2 os tm tk tp gT gS gO gY gW gE gI sc d e ob eb qa fi) 0 0 0 [(0, .ref (p (15 + d))), (1, .int (iI (n : Int))), (2, .int (iI (c : Int)))] []
  have hOl := hO.1
  refine go_aload_n hK 0 0 dX5_brings_0 rfl rfl ?_
  refine go_get hK 1 fl_X5_3 dX5_brings_1 (15 + d) (wS_sc hd8) rfl ?_
  refine go_aload_n hK 4 0 dX5_brings_4 rfl rfl ?_
  refine go_get hK 5 fl_X5_3 dX5_brings_5 (15 + d) (wS_sc hd8) rfl ?_
  refine go_getN hK 8 fl_X5_44 dX5_brings_8 0 rfl rfl ?_
  refine go_getN hK 11 fl_X5_47 dX5_brings_11 5 rfl rfl ?_
  refine go_iload_n hK 14 1 dX5_brings_14 rfl rfl ?_
  refine go_iadd hK 15 dX5_brings_15 ?_
  refine go_aload_n hK 16 0 dX5_brings_16 rfl rfl ?_
  refine go_get hK 17 fl_X5_3 dX5_brings_17 (15 + d) (wS_sc hd8) rfl ?_
  refine go_getN hK 20 fl_X5_109 dX5_brings_20 0 rfl rfl ?_
  refine go_icmp_gt (tgt := 30) hK 23 dX5_brings_23 (by decide) (by omega) (by omega) (fun c1 => ?_) (fun c1 => ?_)
  · refine go_iconst hK 30 dX5_brings_30 ?_
    refine go_bipush hK 31 dX5_brings_31 (by decide) ?_
    refine go_aload_n hK 33 0 dX5_brings_33 rfl rfl ?_
    refine go_get hK 34 fl_X5_90 dX5_brings_34 (15 + d) (wS_sc hd8) rfl ?_
    refine go_callVN (As := [.int (iI 0), .int (iI 11), .int (iI fi)]) (rest := []) hK hR 37 (ct_need0 Z p) q96 q42 q93n q95 qs1 gn_X1_need rfl dX5_brings_37 gSel_all ⟨0, 0, _, _, _, rfl, rfl⟩ rfl (Nat.le_of_ble_eq_true rfl) ⟨(by decide), (by decide)⟩ (fun _ _ _ hx hm => by obtain ⟨rfl, rfl⟩ := hx; exact ⟨⟨[], (List.append_nil _).symm⟩, ⟨rfl, Or.inl ⟨by omega, rfl⟩⟩⟩) (fun v w1 h => ?_)
    exact h.elim
  · refine go_iconst hK 26 dX5_brings_26 ?_
    refine go_goto (tgt := 31) hK 27 dX5_brings_27 (by decide) ?_
    refine go_bipush hK 31 dX5_brings_31 (by decide) ?_
    refine go_aload_n hK 33 0 dX5_brings_33 rfl rfl ?_
    refine go_get hK 34 fl_X5_90 dX5_brings_34 (15 + d) (wS_sc hd8) rfl ?_
    refine go_callVN (As := [.int (iI 1), .int (iI 11), .int (iI fi)]) (rest := []) hK hR 37 (ct_need1 Z p) q96 q42 q93n q95 qs1 gn_X1_need rfl dX5_brings_37 gSel_all ⟨0, 0, _, _, _, rfl, rfl⟩ rfl (Nat.le_of_ble_eq_true rfl) ⟨(by decide), (by decide)⟩ (fun _ _ _ h => h.elim) (fun v w1 h => ?_)
    obtain ⟨rfl, rfl⟩ := h
    show GO Z X (wS Z p sd ed im (M : Int) (L : Int) de (u : Int) re pk fa pl rd sz s2 os tm tk tp gT gS gO gY gW gE gI sc d e ob eb qa fi) 0 0 40 [(0, .ref (p (15 + d))), (1, .int (iI (n : Int))), (2, .int (iI (c : Int)))] []
    refine go_aload_n hK 40 0 dX5_brings_40 rfl rfl ?_
    refine go_iload_n hK 41 2 dX5_brings_41 rfl rfl ?_
    refine go_iload_n hK 42 1 dX5_brings_42 rfl rfl ?_
    refine go_iadd hK 43 dX5_brings_43 ?_
    refine go_aload_n hK 44 0 dX5_brings_44 rfl rfl ?_
    refine go_get hK 45 fl_X5_90 dX5_brings_45 (15 + d) (wS_sc hd8) rfl ?_
    rw [show (c : Int) + (n : Int) = ((c + n : Nat) : Int) by omega]
    show GO Z X (wS Z p sd ed im (M : Int) (L : Int) de (u : Int) re pk fa pl rd sz s2 os tm tk tp gT gS gO gY gW gE gI sc d e ob eb qa fi) 0 0 48 [(0, .ref (p (15 + d))), (1, .int (iI (n : Int))), (2, .int (iI (c : Int)))] [.int (iI fi), .int (iI ((c + n : Nat) : Int)), .ref (p (15 + d))]
    refine go_callV (As := [.int (iI ((c + n : Nat) : Int)), .int (iI fi)]) (rest := []) hK hR 48 (ct_X5_cost Z p hd8 ⟨by omega, by omega, by omega⟩) cw_X5_59 gn_X5_cost rfl dX5_brings_48 gSel_all ⟨15 + d, 4, _, _, _, wS_sc hd8, rfl⟩ rfl (Nat.le_of_ble_eq_true rfl) ⟨(by decide), (by decide)⟩ (fun _ _ _ hx hm => by obtain ⟨rfl, hu9, rfl⟩ := hx; exact ⟨⟨[], (List.append_nil _).symm⟩, ⟨rfl, Or.inr ⟨by omega, by omega, rfl⟩⟩⟩) (fun v w1 h => ?_)
    obtain ⟨rfl, hu9, rfl⟩ := h
    show GO Z X (wS Z p sd ed im (M : Int) (L : Int) de ((u + (c + n) : Nat) : Int) re pk fa pl rd sz s2 os tm tk tp gT gS gO gY gW gE gI sc d e ob eb qa fi) 0 0 51 [(0, .ref (p (15 + d))), (1, .int (iI (n : Int))), (2, .int (iI (c : Int)))] []
    exact go_vret hK hR.1 51 [] dX5_brings_51 (by decide) (by decide) rfl ⟨rfl, by omega, by omega, rfl⟩

