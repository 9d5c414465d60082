/-! the component's world, its small methods (printed by gen/c1.py) -/
set_option maxRecDepth 100000
/-- end, where its bytes and its ends begin, at, first -/
abbrev Sc : Type := Int × Int × Int × Int × Int
abbrev scC (p : Nat → Nat) (d : Nat) (v : Sc) : Nat × (ClassId × vp_A ⊕ Nat × List Value) := (p (15 + d), .inr (4, [.int (iI (d : Int)), .int (iI v.1), .int (iI v.2.1), .int (iI v.2.2.1), .int (iI v.2.2.2.1), .int (iI v.2.2.2.2), .ref (p 0)]))
def wC (Z : Gz) (p : Nat → Nat) (sd : Int64) (ed im mo li de us re pk fa pl rd sz s2 os tm tk tp : Int) (gT gS gO gY gW gE gI : Nat → Int) (sc : Nat → Sc) : va_W := [((p 0), .inr (0, [.ref (p 1), .ref (p 3), .long sd, .ref (p 7), .ref (p 8), .ref (p 11), .ref (p 12), .ref (p 13), .int (iI ed), .ref (p 14), .int (iI im), .ref (p 5), .int (iI mo), .int (iI li), .int (iI de), .int (iI us), .int (iI re), .int (iI pk), .int (iI fa), .int (iI pl), .int (iI rd)])), ((p 1), .inr (1, [.ref (p 2), .int (iI sz)])), ((p 2), .inl (zC Z 1, bA 1200 gT)), ((p 3), .inr (1, [.ref (p 4), .int (iI s2)])), ((p 4), .inl (zC Z 1, bA 1200 gS)), ((p 5), .inr (1, [.ref (p 6), .int (iI os)])), ((p 6), .inl (zC Z 1, bA 4000 gO)), ((p 7), .inl (zC Z 3, qA 8 (fun i => some (zA Z i)))), ((p 8), .inr (2, [.ref (p 9), .ref (p 10), .int (iI tm)])), ((p 9), .inl (zC Z 0, iA 8 gY)), ((p 10), .inl (zC Z 0, iA 8 gW)), ((p 11), .inr (3, [.null, .null, .null, .null, .null, .int (iI 0), .int (iI tk), .int (iI tp)])), ((p 12), .inl (zC Z 2, qA 9 (fun i => some (p (15 + i))))), ((p 13), .inl (zC Z 0, iA 1200 gE)), ((p 14), .inl (zC Z 0, iA 6000 gI)), scC p 0 (sc 0), scC p 1 (sc 1), scC p 2 (sc 2), scC p 3 (sc 3), scC p 4 (sc 4), scC p 5 (sc 5), scC p 6 (sc 6), scC p 7 (sc 7), scC p 8 (sc 8)]
def wS (Z : Gz) (p : Nat → Nat) (sd : Int64) (ed im mo li de us re pk fa pl rd sz s2 os tm tk tp : Int) (gT gS gO gY gW gE gI : Nat → Int) (sc : Nat → Sc) (d : Nat) (e ob eb qa fi : Int) : va_W := wC Z p sd ed im mo li de us re pk fa pl rd sz s2 os tm tk tp gT gS gO gY gW gE gI (va_up sc d (e, ob, eb, qa, fi))
theorem wS_sc {Z : Gz} {p : Nat → Nat} {sd : Int64} {ed im mo li de us re pk fa pl rd sz s2 os tm tk tp : Int} {gT gS gO gY gW gE gI : Nat → Int} {sc : Nat → Sc} {d : Nat} {e ob eb qa fi : Int} (hd : d ≤ 8) : (wS Z p sd ed im mo li de us re pk fa pl rd sz s2 os tm tk tp gT gS gO gY gW gE gI sc d e ob eb qa fi)[15 + d]? = some (p (15 + d), .inr (4, [.int (iI (d : Int)), .int (iI e), .int (iI ob), .int (iI eb), .int (iI qa), .int (iI fi), .ref (p 0)])) := by
  match d, hd with
  | 0, _ => rfl
  | 1, _ => rfl
  | 2, _ => rfl
  | 3, _ => rfl
  | 4, _ => rfl
  | 5, _ => rfl
  | 6, _ => rfl
  | 7, _ => rfl
  | 8, _ => rfl
  | n + 9, h => exact absurd h (by omega)
theorem wS_set {Z : Gz} {p : Nat → Nat} {sd : Int64} {ed im mo li de us re pk fa pl rd sz s2 os tm tk tp : Int} {gT gS gO gY gW gE gI : Nat → Int} {sc : Nat → Sc} {d : Nat} {e ob eb qa fi : Int} {e' ob' eb' qa' fi' : Int} (hd : d ≤ 8) : (wS Z p sd ed im mo li de us re pk fa pl rd sz s2 os tm tk tp gT gS gO gY gW gE gI sc d e ob eb qa fi).set (15 + d) (p (15 + d), .inr (4, [.int (iI (d : Int)), .int (iI e'), .int (iI ob'), .int (iI eb'), .int (iI qa'), .int (iI fi'), .ref (p 0)])) = wS Z p sd ed im mo li de us re pk fa pl rd sz s2 os tm tk tp gT gS gO gY gW gE gI sc d e' ob' eb' qa' fi' := by
  match d, hd with
  | 0, _ => rfl
  | 1, _ => rfl
  | 2, _ => rfl
  | 3, _ => rfl
  | 4, _ => rfl
  | 5, _ => rfl
  | 6, _ => rfl
  | 7, _ => rfl
  | 8, _ => rfl
  | n + 9, h => exact absurd h (by omega)
abbrev rm_X1_need : Room := { frames := 0, cells := 0, slots := 0, locals := 0 }
set_option maxHeartbeats 8000000 in
theorem ct_need1 (Z : Gz) (p : Nat → Nat) {sd : Int64} {ed im mo li de us re pk fa pl rd sz s2 os tm tk tp : Int} {gT gS gO gY gW gE gI : Nat → Int} {sc : Nat → Sc} {k q : Int} : CT Z yX1_need cX1_need 4 none rm_X1_need [.ref (p 0), .int (iI 1), .int (iI k), .int (iI q)] (wC Z p sd ed im mo li de us re pk fa pl rd sz s2 os tm tk tp gT gS gO gY gW gE gI sc) (fun v w => v = none ∧ w = (wC Z p sd ed im mo li de us re pk fa pl rd sz s2 os tm tk tp gT gS gO gY gW gE gI sc)) nopx := by
  refine ct_of (by decide) (Nat.le_of_ble_eq_true rfl) (fun X hK hR => ?_)
  show GO Z X (wC Z p sd ed im mo li de us re pk fa pl rd sz s2 os tm tk tp gT gS gO gY gW gE gI sc) 0 0 0 [(0, .ref (p 0)), (1, .int (iI 1)), (2, .int (iI k)), (3, .int (iI q))] []
  refine go_iload_n hK 0 1 dX1_need_0 rfl rfl ?_
  refine go_if_ne (tgt := 25) hK 1 dX1_need_1 (by decide) (by decide) (fun _ => ?_) (fun q => absurd q (by decide))
  exact go_vret hK hR.1 25 [] dX1_need_25 (by decide) (by decide) rfl ⟨rfl, rfl⟩

set_option maxHeartbeats 8000000 in
theorem ct_need0 (Z : Gz) (p : Nat → Nat) {sd : Int64} {ed im mo li de us re pk fa pl rd sz s2 os tm tk tp : Int} {gT gS gO gY gW gE gI : Nat → Int} {sc : Nat → Sc} {k q : Int} : CT Z yX1_need cX1_need 4 none rm_X1_need [.ref (p 0), .int (iI 0), .int (iI k), .int (iI q)] (wC Z p sd ed im mo li de us re pk fa pl rd sz s2 os tm tk tp gT gS gO gY gW gE gI sc) (fun v w => False) (fun qx w => qx = p 11 ∧ w = (wC Z p sd ed im mo li de us re pk fa pl rd sz s2 os tm k q gT gS gO gY gW gE gI sc)) := by
  refine ct_of (by decide) (Nat.le_of_ble_eq_true rfl) (fun X hK hR => ?_)
  show GO Z X (wC Z p sd ed im mo li de us re pk fa pl rd sz s2 os tm tk tp gT gS gO gY gW gE gI sc) 0 0 0 [(0, .ref (p 0)), (1, .int (iI 0)), (2, .int (iI k)), (3, .int (iI q))] []
  refine go_iload_n hK 0 1 dX1_need_0 rfl rfl ?_
  refine go_if_ne (tgt := 25) hK 1 dX1_need_1 (by decide) (by decide) (fun q => absurd q (by decide)) (fun _ => ?_)
  refine go_aload_n hK 4 0 dX1_need_4 rfl rfl ?_
  refine go_get hK 5 fl_X1_65 dX1_need_5 0 rfl rfl ?_
  refine go_iload_n hK 8 2 dX1_need_8 rfl rfl ?_
  refine go_putN (w' := (wC Z p sd ed im mo li de us re pk fa pl rd sz s2 os tm k tp gT gS gO gY gW gE gI sc)) hK 9 fl_X1_61 fw_X4_6 dX1_need_9 11 rfl rfl rfl (Nat.le_of_ble_eq_true rfl) rfl ?_
  refine go_aload_n hK 12 0 dX1_need_12 rfl rfl ?_
  refine go_get hK 13 fl_X1_65 dX1_need_13 0 rfl rfl ?_
  refine go_iload_n hK 16 3 dX1_need_16 rfl rfl ?_
  refine go_putN (w' := (wC Z p sd ed im mo li de us re pk fa pl rd sz s2 os tm k q gT gS gO gY gW gE gI sc)) hK 17 fl_X1_64 fw_X4_7 dX1_need_17 11 rfl rfl rfl (Nat.le_of_ble_eq_true rfl) rfl ?_
  refine go_aload_n hK 20 0 dX1_need_20 rfl rfl ?_
  refine go_get hK 21 fl_X1_65 dX1_need_21 0 rfl rfl ?_
  exact go_athrow hK hR 24 [] dX1_need_24 (by decide) (by decide) 11 rfl (List.append_nil _).symm ⟨rfl, rfl⟩

abbrev rm_X1_in : Room := { frames := 0, cells := 0, slots := 0, locals := 0 }
set_option maxHeartbeats 4000000 in
theorem ct_X1_in (Z : Gz) {x lw hg : Int} (h1 : iR x) (h2 : iR lw) (h3 : iR hg) : CT Z yX1_in cX1_in 3 (some .boolean) rm_X1_in [.int (iI x), .int (iI lw), .int (iI hg)] [] (fun v w => (∃ r : Int, v = some (.int (iI r)) ∧ (r = 1 ∧ lw ≤ x ∧ x ≤ hg ∨ r = 0 ∧ ¬ (lw ≤ x ∧ x ≤ hg))) ∧ w = []) nopx := by
  refine ct_of (by decide) (Nat.le_of_ble_eq_true rfl) (fun X hK hR => ?_)
  show GO Z X [] 0 0 0 [(0, .int (iI x)), (1, .int (iI lw)), (2, .int (iI hg))] []
  refine go_iload_n hK 0 0 dX1_in_0 rfl rfl ?_
  refine go_iload_n hK 1 1 dX1_in_1 rfl rfl ?_
  refine go_icmp_lt (tgt := 14) hK 2 dX1_in_2 (by decide) (by omega) (by omega) (fun c1 => ?_) (fun c1 => ?_)
  · refine go_iconst hK 14 dX1_in_14 ?_
    exact go_zret hK hR.1 15 [] dX1_in_15 (by decide) (by decide) rfl rfl ⟨⟨_, rfl, Or.inr ⟨rfl, by omega⟩⟩, rfl⟩
  · refine go_iload_n hK 5 0 dX1_in_5 rfl rfl ?_
    refine go_iload_n hK 6 2 dX1_in_6 rfl rfl ?_
    refine go_icmp_gt (tgt := 14) hK 7 dX1_in_7 (by decide) (by omega) (by omega) (fun c2 => ?_) (fun c2 => ?_)
    · refine go_iconst hK 14 dX1_in_14 ?_
      exact go_zret hK hR.1 15 [] dX1_in_15 (by decide) (by decide) rfl rfl ⟨⟨_, rfl, Or.inr ⟨rfl, by omega⟩⟩, rfl⟩
    · refine go_iconst hK 10 dX1_in_10 ?_
      refine go_goto (tgt := 15) hK 11 dX1_in_11 (by decide) ?_
      exact go_zret hK hR.1 15 [] dX1_in_15 (by decide) (by decide) rfl rfl ⟨⟨_, rfl, Or.inl ⟨rfl, by omega, by omega⟩⟩, rfl⟩

