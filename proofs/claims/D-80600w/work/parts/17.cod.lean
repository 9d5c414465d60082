/-! the reference: codes (printed by gen/m9.py) -/
set_option maxRecDepth 100000
theorem sumK_s (T : List Nat) (a n : Nat) : sumK T a (n + 1) = sumK T a n + if 0 < T.getD (a + n) 0 then 128 / 2 ^ T.getD (a + n) 0 else 0 := rfl
theorem useK_s (T : List Nat) (a n : Nat) : useK T a (n + 1) = useK T a n + if 0 < T.getD (a + n) 0 then 1 else 0 := rfl
theorem sumK_le (T : List Nat) (a : Nat) : ∀ n, n ≤ 8 → sumK T a n ≤ 2048 := by
  have h : ∀ n, sumK T a n ≤ 128 * n := by
    intro n
    induction n with
    | zero => exact Nat.le_refl _
    | succ n ih =>
      unfold sumK
      have := Nat.div_le_self 128 (2 ^ T.getD (a + n) 0)
      split <;> omega
  intro n hn
  have := h n
  omega
theorem useK_le (T : List Nat) (a : Nat) : ∀ n, useK T a n ≤ n := by
  intro n
  induction n with
  | zero => exact Nat.le_refl _
  | succ n ih => unfold useK; split <;> omega
theorem lastI {T : List Nat} {a i : Nat} {l1 : Int} {h9 : T.getD (a + i) 0 ≤ 7} (hl1 : (useK T a i = 1 → sumK T a i = 128 / 2 ^ l1.toNat ∧ 0 < l1.toNat ∧ l1.toNat ≤ 7) ∧ iR l1) : (useK T a (i + 1) = 1 → sumK T a (i + 1) = 128 / 2 ^ (if 0 < T.getD (a + i) 0 then ((T.getD (a + i) 0 : Nat) : Int) else l1).toNat ∧ 0 < (if 0 < T.getD (a + i) 0 then ((T.getD (a + i) 0 : Nat) : Int) else l1).toNat ∧ (if 0 < T.getD (a + i) 0 then ((T.getD (a + i) 0 : Nat) : Int) else l1).toNat ≤ 7) ∧ iR (if 0 < T.getD (a + i) 0 then ((T.getD (a + i) 0 : Nat) : Int) else l1) := by
  unfold useK sumK
  by_cases h : 0 < T.getD (a + i) 0
  · rw [if_pos h, if_pos h, if_pos h]
    refine ⟨fun q => ?_, ⟨by omega, by omega⟩⟩
    have := (useK_01 (T := T) (a := a) (n := i)).1 (by omega)
    rw [this.1, show ((T.getD (a + i) 0 : Nat) : Int).toNat = T.getD (a + i) 0 from rfl]
    exact ⟨by omega, h, h9⟩
  · rw [if_neg h, if_neg h, if_neg h]
    exact hl1
abbrev rm_X6_codesOf : Room := { frames := 0, cells := 0, slots := 0, locals := 0 }
set_option maxHeartbeats 8000000 in
theorem ct_X6_codesOf (Z : Gz) (b : Nat → Nat) {sd : Int64} {sz os mo li de fa pl us re pk rd tp : Int} {gT gO gF gE gN gQ gM gC gA gI gU gK gP gS gX gD gH gL : Nat → Int} {T : List Nat} (hT : pM T sz gT) (hTl : T.length ≤ 1200) {a m : Nat} (hm8 : m ≤ 8) (ham : a + m ≤ T.length) (hls : ∀ k, k < m → T.getD (a + k) 0 ≤ 7) : CT Z yX6_codesOf cX6_codesOf 9 (some .boolean) rm_X6_codesOf [.ref (b 0), .int (iI (a : Int)), .int (iI (m : Int))] (wM Z b sd sz os mo li de fa pl us re pk rd tp gT gO gF gE gN gQ gM gC gA gI gU gK gP gS gX gD gH gL) (fun v w => ∃ r : Int, v = some (.int (iI r)) ∧ (r = 1 ∧ goodT T a m ∨ r = 0 ∧ ¬ goodT T a m) ∧ ∃ gD' : Nat → Int, (∀ k, k < m → 0 < T.getD (a + k) 0 → gD' k = ((basC T a m (T.getD (a + k) 0) + cntL T a (T.getD (a + k) 0) k : Nat) : Int)) ∧ w = (wM Z b sd sz os mo li de fa pl us re pk rd tp gT gO gF gE gN gQ gM gC gA gI gU gK gP gS gX gD' gH gL)) nopx := by
  refine ct_of (by decide) (Nat.le_of_ble_eq_true rfl) (fun X hK hR => ?_)
  show GO Z X (wM Z b sd sz os mo li de fa pl us re pk rd tp gT gO gF gE gN gQ gM gC gA gI gU gK gP gS gX gD gH gL) 0 0 0 [(0, .ref (b 0)), (1, .int (iI (a : Int))), (2, .int (iI (m : Int)))] []
  have h7 : ∀ k, k < m → T.getD (a + k) 0 ≤ 7 := hls
  refine go_iconst hK 0 dX6_codesOf_0 ?_
  refine go_istore_n (lo' := [(3, .int (iI 0)), (0, .ref (b 0)), (1, .int (iI (a : Int))), (2, .int (iI (m : Int)))]) hK 1 3 dX6_codesOf_1 rfl (by decide) rfl ?_
  refine go_iconst hK 2 dX6_codesOf_2 ?_
  refine go_istore (lo' := [(4, .int (iI 0)), (3, .int (iI 0)), (0, .ref (b 0)), (1, .int (iI (a : Int))), (2, .int (iI (m : Int)))]) hK 3 4 dX6_codesOf_3 (by decide) rfl ?_
  refine go_iconst hK 5 dX6_codesOf_5 ?_
  refine go_istore (lo' := [(5, .int (iI 0)), (4, .int (iI 0)), (3, .int (iI 0)), (0, .ref (b 0)), (1, .int (iI (a : Int))), (2, .int (iI (m : Int)))]) hK 6 5 dX6_codesOf_6 (by decide) rfl ?_
  refine go_iconst hK 8 dX6_codesOf_8 ?_
  refine go_istore (lo' := [(6, .int (iI 0)), (5, .int (iI 0)), (4, .int (iI 0)), (3, .int (iI 0)), (0, .ref (b 0)), (1, .int (iI (a : Int))), (2, .int (iI (m : Int)))]) hK 9 6 dX6_codesOf_9 (by decide) rfl ?_
  refine go_lo [4, 5, 6, 3, 2, 1, 0] rfl ?_
  have lp : ∀ (fu : Nat) (i : Nat) (s1 : Int) (n1 : Int) (l1 : Int) (k : Int), (i ≤ m) → (k = i) → (s1 = ((sumK T a i : Nat) : Int)) → (n1 = ((useK T a i : Nat) : Int)) → ((useK T a i = 1 → sumK T a i = 128 / 2 ^ l1.toNat ∧ 0 < l1.toNat ∧ l1.toNat ≤ 7) ∧ iR l1) → m - i < fu → GO Z X (wM Z b sd sz os mo li de fa pl us re pk rd tp gT gO gF gE gN gQ gM gC gA gI gU gK gP gS gX gD gH gL) 0 0 11 [(0, .ref (b 0)), (1, .int (iI (a : Int))), (2, .int (iI (m : Int))), (3, .int (iI s1)), (4, .int (iI n1)), (5, .int (iI l1)), (6, .int (iI k))] [] := by
    intro fu
    induction fu with
    | zero => intro i s1 n1 l1 k hi hk hs1 hn1 hl1 hm; exact absurd hm (Nat.not_lt_zero _)
    | succ fu ih =>
      intro i s1 n1 l1 k hi hk hs1 hn1 hl1 hm
      refine go_iload hK 11 6 dX6_codesOf_11 rfl ?_
      refine go_iload_n hK 13 2 dX6_codesOf_13 rfl rfl ?_
      refine go_icmp_ge (tgt := 81) hK 14 dX6_codesOf_14 (by decide) (by omega) (by omega) (fun c1 => ?_) (fun c1 => ?_)
      · obtain rfl : i = m := by omega
        refine go_iconst hK 81 dX6_codesOf_81 ?_
        refine go_istore (lo' := [(6, .int (iI 0)), (0, .ref (b 0)), (1, .int (iI (a : Int))), (2, .int (iI (i : Int))), (3, .int (iI s1)), (4, .int (iI n1)), (5, .int (iI l1))]) hK 82 6 dX6_codesOf_82 (by decide) rfl ?_
        refine go_iconst hK 84 dX6_codesOf_84 ?_
        refine go_istore (lo' := [(7, .int (iI 1)), (6, .int (iI 0)), (0, .ref (b 0)), (1, .int (iI (a : Int))), (2, .int (iI (i : Int))), (3, .int (iI s1)), (4, .int (iI n1)), (5, .int (iI l1))]) hK 85 7 dX6_codesOf_85 (by decide) rfl ?_
        refine go_lo [2, 3, 4, 5, 6, 7, 1, 0] rfl ?_
        have lp2 : ∀ (fu : Nat) (j : Nat) (c1 : Int) (l : Int) (gD1 : Nat → Int), (1 ≤ j ∧ j ≤ 8) → (l = j) → (2 * c1 = ((basC T a i j : Nat) : Int)) → (∀ k, k < i → 0 < T.getD (a + k) 0 → T.getD (a + k) 0 < j → gD1 k = ((basC T a i (T.getD (a + k) 0) + cntL T a (T.getD (a + k) 0) k : Nat) : Int)) → 8 - j < fu → GO Z X (wM Z b sd sz os mo li de fa pl us re pk rd tp gT gO gF gE gN gQ gM gC gA gI gU gK gP gS gX gD1 gH gL) 0 0 87 [(0, .ref (b 0)), (1, .int (iI (a : Int))), (2, .int (iI (i : Int))), (3, .int (iI s1)), (4, .int (iI n1)), (5, .int (iI l1)), (6, .int (iI c1)), (7, .int (iI l))] [] := by
          intro fu
          induction fu with
          | zero => intro j c1 l gD1 hj hl hc1 hd1 hm; exact absurd hm (Nat.not_lt_zero _)
          | succ fu ih2 =>
            intro j c1 l gD1 hj hl hc1 hd1 hm
            refine go_iload hK 87 7 dX6_codesOf_87 rfl ?_
            refine go_bipush hK 89 dX6_codesOf_89 (by decide) ?_
            refine go_icmp_gt (tgt := 147) hK 91 dX6_codesOf_91 (by decide) (by omega) (by decide) (fun c2 => ?_) (fun c2 => ?_)
            · have hD9 : ∀ k, k < i → 0 < T.getD (a + k) 0 → gD1 k = ((basC T a i (T.getD (a + k) 0) + cntL T a (T.getD (a + k) 0) k : Nat) : Int) := fun k hk h1 => hd1 k hk h1 (by have := h7 k hk; omega)
              have hsb : sumK T a i ≤ 2048 := sumK_le T a i hm8
              have hub : useK T a i ≤ i := useK_le T a i
              have hg9 := good_iff (T := T) (a := a) (m := i) (last := l1.toNat) h7 (fun q => hl1.1 q)
              refine go_iload_n hK 147 3 dX6_codesOf_147 rfl rfl ?_
              refine go_sipush hK 148 dX6_codesOf_148 (by decide) ?_
              refine go_icmp_eq (tgt := 166) hK 151 dX6_codesOf_151 (by decide) (by omega) (by decide) (fun c3 => ?_) (fun c3 => ?_)
              · refine go_iconst hK 166 dX6_codesOf_166 ?_
                refine go_goto (tgt := 171) hK 167 dX6_codesOf_167 (by decide) ?_
                exact go_zret hK hR.1 171 [] dX6_codesOf_171 (by decide) (by decide) rfl rfl ⟨1, rfl, Or.inl ⟨rfl, hg9.mpr (Or.inl (by omega))⟩, gD1, hD9, rfl⟩
              · refine go_iload hK 154 4 dX6_codesOf_154 rfl ?_
                refine go_iconst hK 156 dX6_codesOf_156 ?_
                refine go_icmp_ne (tgt := 170) hK 157 dX6_codesOf_157 (by decide) (by omega) (by decide) (fun c4 => ?_) (fun c4 => ?_)
                · refine go_iconst hK 170 dX6_codesOf_170 ?_
                  exact go_zret hK hR.1 171 [] dX6_codesOf_171 (by decide) (by decide) rfl rfl ⟨0, rfl, Or.inr ⟨rfl, fun q => (by rcases hg9.mp q with z | z <;> omega)⟩, gD1, hD9, rfl⟩
                · refine go_iload hK 160 5 dX6_codesOf_160 rfl ?_
                  refine go_iconst hK 162 dX6_codesOf_162 ?_
                  refine go_icmp_ne (tgt := 170) hK 163 dX6_codesOf_163 (by decide) (hl1.2) (by decide) (fun c5 => ?_) (fun c5 => ?_)
                  · refine go_iconst hK 170 dX6_codesOf_170 ?_
                    exact go_zret hK hR.1 171 [] dX6_codesOf_171 (by decide) (by decide) rfl rfl ⟨0, rfl, Or.inr ⟨rfl, fun q => (by rcases hg9.mp q with z | z <;> omega)⟩, gD1, hD9, rfl⟩
                  · refine go_iconst hK 166 dX6_codesOf_166 ?_
                    refine go_goto (tgt := 171) hK 167 dX6_codesOf_167 (by decide) ?_
                    exact go_zret hK hR.1 171 [] dX6_codesOf_171 (by decide) (by decide) rfl rfl ⟨1, rfl, Or.inl ⟨rfl, hg9.mpr (Or.inr ⟨by omega, by omega⟩)⟩, gD1, hD9, rfl⟩
            · refine go_iload hK 94 6 dX6_codesOf_94 rfl ?_
              refine go_iconst hK 96 dX6_codesOf_96 ?_
              refine go_imul hK 97 dX6_codesOf_97 ?_
              refine go_istore (lo' := [(6, .int (iI (c1 * 2))), (0, .ref (b 0)), (1, .int (iI (a : Int))), (2, .int (iI (i : Int))), (3, .int (iI s1)), (4, .int (iI n1)), (5, .int (iI l1)), (7, .int (iI l))]) hK 98 6 dX6_codesOf_98 (by decide) rfl ?_
              refine go_iconst hK 100 dX6_codesOf_100 ?_
              refine go_istore (lo' := [(8, .int (iI 0)), (6, .int (iI (c1 * 2))), (0, .ref (b 0)), (1, .int (iI (a : Int))), (2, .int (iI (i : Int))), (3, .int (iI s1)), (4, .int (iI n1)), (5, .int (iI l1)), (7, .int (iI l))]) hK 101 8 dX6_codesOf_101 (by decide) rfl ?_
              refine go_lo [2, 3, 4, 5, 6, 7, 1, 8, 0] rfl ?_
              have lp3 : ∀ (fu : Nat) (j3 : Nat) (c2 : Int) (k3 : Int) (gD2 : Nat → Int), (j3 ≤ i) → (k3 = j3) → (c2 = ((basC T a i j + cntL T a j j3 : Nat) : Int)) → (∀ k, k < i → 0 < T.getD (a + k) 0 → T.getD (a + k) 0 < j + 1 → (T.getD (a + k) 0 = j → k < j3) → gD2 k = ((basC T a i (T.getD (a + k) 0) + cntL T a (T.getD (a + k) 0) k : Nat) : Int)) → i - j3 < fu → GO Z X (wM Z b sd sz os mo li de fa pl us re pk rd tp gT gO gF gE gN gQ gM gC gA gI gU gK gP gS gX gD2 gH gL) 0 0 103 [(0, .ref (b 0)), (1, .int (iI (a : Int))), (2, .int (iI (i : Int))), (3, .int (iI s1)), (4, .int (iI n1)), (5, .int (iI l1)), (6, .int (iI c2)), (7, .int (iI l)), (8, .int (iI k3))] [] := by
                intro fu
                induction fu with
                | zero => intro j3 c2 k3 gD2 hj3 hk3 hc2 hd2 hm; exact absurd hm (Nat.not_lt_zero _)
                | succ fu ih3 =>
                  intro j3 c2 k3 gD2 hj3 hk3 hc2 hd2 hm
                  refine go_iload hK 103 8 dX6_codesOf_103 rfl ?_
                  refine go_iload_n hK 105 2 dX6_codesOf_105 rfl rfl ?_
                  refine go_icmp_ge (tgt := 141) hK 106 dX6_codesOf_106 (by decide) (by omega) (by omega) (fun c6 => ?_) (fun c6 => ?_)
                  · refine go_iinc (lo' := [(7, .int (iI (l + 1))), (0, .ref (b 0)), (1, .int (iI (a : Int))), (2, .int (iI (i : Int))), (3, .int (iI s1)), (4, .int (iI n1)), (5, .int (iI l1)), (6, .int (iI c2)), (8, .int (iI k3))]) hK 141 7 7 dX6_codesOf_141 rfl (by decide) rfl ?_
                    refine go_goto (tgt := 87) hK 144 dX6_codesOf_144 (by decide) ?_
                    refine go_lo [1, 2, 3, 4, 5, 6, 7, 0] rfl ?_
                    obtain rfl : j3 = i := by omega
                    exact ih2 (j + 1) c2 (l + 1) gD2 (by omega) (by omega) (by rw [basC_succ]; unfold endC; rw [if_neg (by omega)]; omega) (fun k hk h1 h2 => by by_cases q : T.getD (a + k) 0 = j; (exact hd2 k hk h1 (by omega) (fun _ => hk)); (exact hd2 k hk h1 (by omega) (fun z => absurd z q))) (by omega)
                  · refine go_aload_n hK 109 0 dX6_codesOf_109 rfl rfl ?_
                    refine go_get hK 110 fl_X6_7 dX6_codesOf_110 0 rfl rfl ?_
                    refine go_iload_n hK 113 1 dX6_codesOf_113 rfl rfl ?_
                    refine go_iload hK 114 8 dX6_codesOf_114 rfl ?_
                    refine go_iadd hK 116 dX6_codesOf_116 ?_
                    refine go_iald hK 117 dX6_codesOf_117 1 rfl (by omega) (by decide) ?_
                    rw [show gT ((a : Int) + k3).toNat = ((T.getD (a + j3) 0 : Nat) : Int) by rw [show ((a : Int) + k3).toNat = a + j3 by omega]; exact hT.2 (a + j3) (by omega)]
                    refine go_iload hK 118 7 dX6_codesOf_118 rfl ?_
                    have h9 := h7 j3 (by omega)
                    refine go_icmp_ne (tgt := 135) hK 120 dX6_codesOf_120 (by decide) (by omega) (by omega) (fun c7 => ?_) (fun c7 => ?_)
                    · refine go_iinc (lo' := [(8, .int (iI (k3 + 1))), (0, .ref (b 0)), (1, .int (iI (a : Int))), (2, .int (iI (i : Int))), (3, .int (iI s1)), (4, .int (iI n1)), (5, .int (iI l1)), (6, .int (iI c2)), (7, .int (iI l))]) hK 135 8 8 dX6_codesOf_135 rfl (by decide) rfl ?_
                      refine go_goto (tgt := 103) hK 138 dX6_codesOf_138 (by decide) ?_
                      refine go_lo [1, 2, 3, 4, 5, 6, 7, 8, 0] rfl ?_
                      exact ih3 (j3 + 1) c2 (k3 + 1) gD2 (by omega) (by omega) (by rw [hc2]; show _ = ((basC T a i j + (cntL T a j j3 + if T.getD (a + j3) 0 = j then 1 else 0) : Nat) : Int); rw [if_neg (by omega), Nat.add_zero]) (fun k hk h1 h2 h3 => hd2 k hk h1 h2 (fun z => by have := h3 z; by_cases q : k = j3; (subst q; omega); omega)) (by omega)
                    · refine go_aload_n hK 123 0 dX6_codesOf_123 rfl rfl ?_
                      refine go_get hK 124 fl_X6_59 dX6_codesOf_124 0 rfl rfl ?_
                      refine go_iload hK 127 8 dX6_codesOf_127 rfl ?_
                      refine go_iload hK 129 6 dX6_codesOf_129 rfl ?_
                      refine go_iast (w' := (wM Z b sd sz os mo li de fa pl us re pk rd tp gT gO gF gE gN gQ gM gC gA gI gU gK gP gS gX (va_up gD2 k3.toNat c2) gH gL)) hK 131 dX6_codesOf_131 16 rfl (by omega) (by decide) rfl ?_
                      refine go_iinc (lo' := [(6, .int (iI (c2 + 1))), (0, .ref (b 0)), (1, .int (iI (a : Int))), (2, .int (iI (i : Int))), (3, .int (iI s1)), (4, .int (iI n1)), (5, .int (iI l1)), (7, .int (iI l)), (8, .int (iI k3))]) hK 132 6 6 dX6_codesOf_132 rfl (by decide) rfl ?_
                      refine go_iinc (lo' := [(8, .int (iI (k3 + 1))), (6, .int (iI (c2 + 1))), (0, .ref (b 0)), (1, .int (iI (a : Int))), (2, .int (iI (i : Int))), (3, .int (iI s1)), (4, .int (iI n1)), (5, .int (iI l1)), (7, .int (iI l))]) hK 135 8 8 dX6_codesOf_135 rfl (by decide) rfl ?_
                      refine go_goto (tgt := 103) hK 138 dX6_codesOf_138 (by decide) ?_
                      refine go_lo [2, 3, 4, 5, 6, 7, 1, 8, 0] rfl ?_
                      exact ih3 (j3 + 1) (c2 + 1) (k3 + 1) (va_up gD2 k3.toNat c2) (by omega) (by omega) (by rw [hc2]; show _ = ((basC T a i j + (cntL T a j j3 + if T.getD (a + j3) 0 = j then 1 else 0) : Nat) : Int); rw [if_pos (by omega)]; omega) (fun k hk h1 h2 h3 => by by_cases q : k = j3; (subst q; rw [va_up_s (by omega), hc2, show T.getD (a + k) 0 = j by omega]); (rw [va_up_n (by omega)]; exact hd2 k hk h1 h2 (fun z => by have := h3 z; omega))) (by omega)
              exact lp3 _ 0 (c1 * 2) 0 gD1 (by omega) rfl (by show _ = ((basC T a i j + 0 : Nat) : Int); omega) (fun k hk h1 h2 h3 => hd1 k hk h1 (by by_cases q : T.getD (a + k) 0 = j; (exact absurd (h3 q) (by omega)); omega)) (Nat.lt_succ_self _)
        exact lp2 _ 1 0 1 gD (by omega) rfl rfl (fun k hk h1 h2 => absurd h1 (by omega)) (Nat.lt_succ_self _)
      · refine go_aload_n hK 17 0 dX6_codesOf_17 rfl rfl ?_
        refine go_get hK 18 fl_X6_7 dX6_codesOf_18 0 rfl rfl ?_
        refine go_iload_n hK 21 1 dX6_codesOf_21 rfl rfl ?_
        refine go_iload hK 22 6 dX6_codesOf_22 rfl ?_
        refine go_iadd hK 24 dX6_codesOf_24 ?_
        refine go_iald hK 25 dX6_codesOf_25 1 rfl (by omega) (by decide) ?_
        have h9 := h7 i (by omega)
        rw [show gT ((a : Int) + k).toNat = ((T.getD (a + i) 0 : Nat) : Int) by rw [show ((a : Int) + k).toNat = a + i by omega]; exact hT.2 (a + i) (by omega)]
        refine go_istore (lo' := [(7, .int (iI ((T.getD (a + i) 0 : Nat) : Int))), (0, .ref (b 0)), (1, .int (iI (a : Int))), (2, .int (iI (m : Int))), (3, .int (iI s1)), (4, .int (iI n1)), (5, .int (iI l1)), (6, .int (iI k))]) hK 26 7 dX6_codesOf_26 (by decide) rfl ?_
        refine go_iload_n hK 28 3 dX6_codesOf_28 rfl rfl ?_
        refine go_iload hK 29 7 dX6_codesOf_29 rfl ?_
        have jn0 : GO Z X (wM Z b sd sz os mo li de fa pl us re pk rd tp gT gO gF gE gN gQ gM gC gA gI gU gK gP gS gX gD gH gL) 0 0 44 [(7, .int (iI ((T.getD (a + i) 0 : Nat) : Int))), (0, .ref (b 0)), (1, .int (iI (a : Int))), (2, .int (iI (m : Int))), (3, .int (iI s1)), (4, .int (iI n1)), (5, .int (iI l1)), (6, .int (iI k))] [.int (iI ((if 0 < T.getD (a + i) 0 then 128 / 2 ^ T.getD (a + i) 0 else 0 : Nat) : Int)), .int (iI s1)] := by
          refine go_iadd hK 44 dX6_codesOf_44 ?_
          refine go_istore_n (lo' := [(3, .int (iI (s1 + ((if 0 < T.getD (a + i) 0 then 128 / 2 ^ T.getD (a + i) 0 else 0 : Nat) : Int)))), (7, .int (iI ((T.getD (a + i) 0 : Nat) : Int))), (0, .ref (b 0)), (1, .int (iI (a : Int))), (2, .int (iI (m : Int))), (4, .int (iI n1)), (5, .int (iI l1)), (6, .int (iI k))]) hK 45 3 dX6_codesOf_45 rfl (by decide) rfl ?_
          refine go_iload hK 46 4 dX6_codesOf_46 rfl ?_
          refine go_iload hK 48 7 dX6_codesOf_48 rfl ?_
          have jn8 : GO Z X (wM Z b sd sz os mo li de fa pl us re pk rd tp gT gO gF gE gN gQ gM gC gA gI gU gK gP gS gX gD gH gL) 0 0 58 [(3, .int (iI (s1 + ((if 0 < T.getD (a + i) 0 then 128 / 2 ^ T.getD (a + i) 0 else 0 : Nat) : Int)))), (7, .int (iI ((T.getD (a + i) 0 : Nat) : Int))), (0, .ref (b 0)), (1, .int (iI (a : Int))), (2, .int (iI (m : Int))), (4, .int (iI n1)), (5, .int (iI l1)), (6, .int (iI k))] [.int (iI ((if 0 < T.getD (a + i) 0 then 1 else 0 : Nat) : Int)), .int (iI n1)] := by
            refine go_iadd hK 58 dX6_codesOf_58 ?_
            refine go_istore (lo' := [(4, .int (iI (n1 + ((if 0 < T.getD (a + i) 0 then 1 else 0 : Nat) : Int)))), (3, .int (iI (s1 + ((if 0 < T.getD (a + i) 0 then 128 / 2 ^ T.getD (a + i) 0 else 0 : Nat) : Int)))), (7, .int (iI ((T.getD (a + i) 0 : Nat) : Int))), (0, .ref (b 0)), (1, .int (iI (a : Int))), (2, .int (iI (m : Int))), (5, .int (iI l1)), (6, .int (iI k))]) hK 59 4 dX6_codesOf_59 (by decide) rfl ?_
            refine go_iload hK 61 7 dX6_codesOf_61 rfl ?_
            have jn9 : GO Z X (wM Z b sd sz os mo li de fa pl us re pk rd tp gT gO gF gE gN gQ gM gC gA gI gU gK gP gS gX gD gH gL) 0 0 73 [(4, .int (iI (n1 + ((if 0 < T.getD (a + i) 0 then 1 else 0 : Nat) : Int)))), (3, .int (iI (s1 + ((if 0 < T.getD (a + i) 0 then 128 / 2 ^ T.getD (a + i) 0 else 0 : Nat) : Int)))), (7, .int (iI ((T.getD (a + i) 0 : Nat) : Int))), (0, .ref (b 0)), (1, .int (iI (a : Int))), (2, .int (iI (m : Int))), (5, .int (iI l1)), (6, .int (iI k))] [.int (iI (if 0 < T.getD (a + i) 0 then ((T.getD (a + i) 0 : Nat) : Int) else l1))] := by
              refine go_istore (lo' := [(5, .int (iI (if 0 < T.getD (a + i) 0 then ((T.getD (a + i) 0 : Nat) : Int) else l1))), (4, .int (iI (n1 + ((if 0 < T.getD (a + i) 0 then 1 else 0 : Nat) : Int)))), (3, .int (iI (s1 + ((if 0 < T.getD (a + i) 0 then 128 / 2 ^ T.getD (a + i) 0 else 0 : Nat) : Int)))), (7, .int (iI ((T.getD (a + i) 0 : Nat) : Int))), (0, .ref (b 0)), (1, .int (iI (a : Int))), (2, .int (iI (m : Int))), (6, .int (iI k))]) hK 73 5 dX6_codesOf_73 (by decide) rfl ?_
              refine go_iinc (lo' := [(6, .int (iI (k + 1))), (5, .int (iI (if 0 < T.getD (a + i) 0 then ((T.getD (a + i) 0 : Nat) : Int) else l1))), (4, .int (iI (n1 + ((if 0 < T.getD (a + i) 0 then 1 else 0 : Nat) : Int)))), (3, .int (iI (s1 + ((if 0 < T.getD (a + i) 0 then 128 / 2 ^ T.getD (a + i) 0 else 0 : Nat) : Int)))), (7, .int (iI ((T.getD (a + i) 0 : Nat) : Int))), (0, .ref (b 0)), (1, .int (iI (a : Int))), (2, .int (iI (m : Int)))]) hK 75 6 7 dX6_codesOf_75 rfl (by decide) rfl ?_
              refine go_goto (tgt := 11) hK 78 dX6_codesOf_78 (by decide) ?_
              refine go_lo [5, 6, 7, 3, 2, 1, 0] rfl ?_
              exact ih (i + 1) (s1 + ((if 0 < T.getD (a + i) 0 then 128 / 2 ^ T.getD (a + i) 0 else 0 : Nat) : Int)) (n1 + ((if 0 < T.getD (a + i) 0 then 1 else 0 : Nat) : Int)) ((if 0 < T.getD (a + i) 0 then ((T.getD (a + i) 0 : Nat) : Int) else l1)) (k + 1) (by omega) (by omega) (by rw [hs1, sumK_s, Int.natCast_add]) (by rw [hn1, useK_s, Int.natCast_add]) (lastI (h9 := h9) hl1) (by omega)
            refine go_if_le (tgt := 71) hK 63 dX6_codesOf_63 (by decide) (by omega) (fun cj10 => ?_) (fun cj10 => ?_)
            · refine go_iload hK 71 5 dX6_codesOf_71 rfl ?_
              rw [show (if 0 < T.getD (a + i) 0 then ((T.getD (a + i) 0 : Nat) : Int) else l1) = l1 from if_neg (by omega)] at jn9
              exact jn9
            · refine go_iload hK 66 7 dX6_codesOf_66 rfl ?_
              refine go_goto (tgt := 73) hK 68 dX6_codesOf_68 (by decide) ?_
              rw [show (if 0 < T.getD (a + i) 0 then ((T.getD (a + i) 0 : Nat) : Int) else l1) = ((T.getD (a + i) 0 : Nat) : Int) from if_pos (by omega)] at jn9
              exact jn9
          refine go_if_le (tgt := 57) hK 50 dX6_codesOf_50 (by decide) (by omega) (fun cj11 => ?_) (fun cj11 => ?_)
          · refine go_iconst hK 57 dX6_codesOf_57 ?_
            rw [show ((if 0 < T.getD (a + i) 0 then 1 else 0 : Nat) : Int) = 0 from (by rw [if_neg (by omega)]; rfl)] at jn8
            exact jn8
          · refine go_iconst hK 53 dX6_codesOf_53 ?_
            refine go_goto (tgt := 58) hK 54 dX6_codesOf_54 (by decide) ?_
            rw [show ((if 0 < T.getD (a + i) 0 then 1 else 0 : Nat) : Int) = 1 from (by rw [if_pos (by omega)]; rfl)] at jn8
            exact jn8
        refine go_if_le (tgt := 43) hK 31 dX6_codesOf_31 (by decide) (by omega) (fun c12 => ?_) (fun c12 => ?_)
        · refine go_iconst hK 43 dX6_codesOf_43 ?_
          rw [if_neg (by omega)] at jn0
          exact jn0
        · refine go_sipush hK 34 dX6_codesOf_34 (by decide) ?_
          refine go_iload hK 37 7 dX6_codesOf_37 rfl ?_
          refine go_ishr (c := ((128 / 2 ^ T.getD (a + i) 0 : Nat) : Int)) hK 39 dX6_codesOf_39 (by rw [iI_shr (by decide) (by omega)]; rfl) ?_
          refine go_goto (tgt := 44) hK 40 dX6_codesOf_40 (by decide) ?_
          rw [if_pos (by omega)] at jn0
          exact jn0
  exact lp _ 0 0 0 0 0 (by omega) rfl rfl rfl ⟨fun q => (by cases q), by decide⟩ (Nat.lt_succ_self _)

