/-! the reference: reads (printed by gen/m14.py) -/
set_option maxRecDepth 100000
theorem spStore_k {T : List Nat} {M L e q : Nat} {O : List Nat} {u k p : Nat} {O' : List Nat} {u' : Nat} (h : spStore T M L e q O u = .error (k, p, O', u')) : 0 < k ∧ k < 100 := by
  unfold spStore at h
  split at h
  · injection h with h; injection h with h1 h; subst h1; exact ⟨by decide, by decide⟩
  split at h
  · injection h with h; injection h with h1 h; subst h1; exact ⟨by decide, by decide⟩
  split at h
  · injection h with h; injection h with h1 h; subst h1; exact ⟨by decide, by decide⟩
  split at h
  · injection h with h; injection h with h1 h; subst h1; exact ⟨by decide, by decide⟩
  cases h
theorem spRun_k {T : List Nat} {M L e q : Nat} {O : List Nat} {u k p : Nat} {O' : List Nat} {u' : Nat} (h : spRun T M L e q O u = .error (k, p, O', u')) : 0 < k ∧ k < 100 := by
  unfold spRun at h
  split at h
  · injection h with h; injection h with h1 h; subst h1; exact ⟨by decide, by decide⟩
  split at h
  · injection h with h; injection h with h1 h; subst h1; exact ⟨by decide, by decide⟩
  split at h
  · injection h with h; injection h with h1 h; subst h1; exact ⟨by decide, by decide⟩
  cases h
theorem spCopy_k {T : List Nat} {M L e q o0 : Nat} {O : List Nat} {u k p : Nat} {O' : List Nat} {u' : Nat} (h : spCopy T M L e q o0 O u = .error (k, p, O', u')) : 0 < k ∧ k < 100 := by
  unfold spCopy at h
  split at h
  · injection h with h; injection h with h1 h; subst h1; exact ⟨by decide, by decide⟩
  split at h
  · injection h with h; injection h with h1 h; subst h1; exact ⟨by decide, by decide⟩
  split at h
  · injection h with h; injection h with h1 h; subst h1; exact ⟨by decide, by decide⟩
  split at h
  · injection h with h; injection h with h1 h; subst h1; exact ⟨by decide, by decide⟩
  split at h
  · injection h with h; injection h with h1 h; subst h1; exact ⟨by decide, by decide⟩
  cases h
theorem spNote_k {T : List Nat} {M L e q : Nat} {O : List Nat} {u k p : Nat} {O' : List Nat} {u' : Nat} (h : spNote T M L e q O u = .error (k, p, O', u')) : 0 < k ∧ k < 100 := by
  unfold spNote at h
  split at h
  · injection h with h; injection h with h1 h; subst h1; exact ⟨by decide, by decide⟩
  split at h
  · injection h with h; injection h with h1 h; subst h1; exact ⟨by decide, by decide⟩
  split at h
  · injection h with h; injection h with h1 h; subst h1; exact ⟨by decide, by decide⟩
  split at h
  · injection h with h; injection h with h1 h; subst h1; exact ⟨by decide, by decide⟩
  cases h
theorem spAgain_k {T : List Nat} {M L e q o0 : Nat} {C O : List Nat} {u k p : Nat} {O' : List Nat} {u' : Nat} (h : spAgain T M L e q o0 C O u = .error (k, p, O', u')) : 0 < k ∧ k < 100 := by
  unfold spAgain at h
  split at h
  · injection h with h; injection h with h1 h; subst h1; exact ⟨by decide, by decide⟩
  split at h
  · injection h with h; injection h with h1 h; subst h1; exact ⟨by decide, by decide⟩
  split at h
  · injection h with h; injection h with h1 h; subst h1; exact ⟨by decide, by decide⟩
  split at h
  · injection h with h; injection h with h1 h; subst h1; exact ⟨by decide, by decide⟩
  cases h
theorem spSym_kk {T : List Nat} {e a m : Nat} : ∀ {f fst bp len code k p : Nat}, spSym T e a m f fst bp len code = .error (k, p) → 0 < k ∧ k < 100
  | 0, _, _, _, _, _, _, h => by unfold spSym at h; cases h; decide
  | f + 1, fst, bp, len, code, k, p, h => by
    unfold spSym at h
    split at h
    · cases h; decide
    · split at h
      · cases h
      · split at h
        · exact spSym_kk h
        · cases h; decide
theorem spBitN_k {T : List Nat} {e sy a m : Nat} : ∀ {n bp : Nat} {O : List Nat} {k p : Nat} {O' : List Nat}, spBitN T e sy a m n bp O = .error (k, p, O') → 0 < k ∧ k < 100
  | 0, _, _, _, _, _, h => by unfold spBitN at h; cases h
  | n + 1, bp, O, k, p, O', h => by
    unfold spBitN at h
    split at h
    · rename_i hs; cases h; exact spSym_kk hs
    · exact spBitN_k h
theorem spBits_k {T : List Nat} {e sy a m n bp : Nat} {O : List Nat} {u k p : Nat} {O' : List Nat} {u' : Nat} (h : spBits T e sy a m n bp O u = .error (k, p, O', u')) : 0 < k ∧ k < 100 := by
  unfold spBits at h
  split at h
  · rename_i hs
    cases h
    exact spBitN_k hs
  · split at h
    · rename_i ht
      unfold spTail at ht
      split at ht
      · cases ht; cases h; decide
      · cases ht
    · cases h
theorem spLen_k {T : List Nat} {e a : Nat} : ∀ {n k p : Nat}, spLen T e a n = some (k, p) → 0 < k ∧ k < 100
  | 0, _, _, h => by cases h
  | n + 1, k, p, h => by
    unfold spLen at h
    split at h
    · rename_i hs; cases h; exact spLen_k hs
    · split at h
      · cases h; decide
      · split at h
        · cases h; decide
        · cases h
theorem spCoded_k {T : List Nat} {M L e q : Nat} {O : List Nat} {u k p : Nat} {O' : List Nat} {u' : Nat} (h : spCoded T M L e q O u = .error (k, p, O', u')) : 0 < k ∧ k < 100 := by
  unfold spCoded at h
  split at h
  · injection h with h; injection h with h1 h; subst h1; exact ⟨by decide, by decide⟩
  split at h
  · injection h with h; injection h with h1 h; subst h1; exact ⟨by decide, by decide⟩
  split at h
  · injection h with h; injection h with h1 h; subst h1; exact ⟨by decide, by decide⟩
  cases hl : spLen T e (q + 2 + T.getD (q + 1) 0) (T.getD (q + 1) 0) with
  | some x => obtain ⟨k1, p1⟩ := x; rw [hl] at h; dsimp only at h; injection h with h; injection h with h1 h; subst h1; exact spLen_k hl
  | none =>
    rw [hl] at h; dsimp only at h
    split at h
    · injection h with h; injection h with h1 h; subst h1; exact ⟨by decide, by decide⟩
    split at h
    · injection h with h; injection h with h1 h; subst h1; exact ⟨by decide, by decide⟩
    split at h
    · injection h with h; injection h with h1 h; subst h1; exact ⟨by decide, by decide⟩
    split at h
    · injection h with h; injection h with h1 h; subst h1; exact ⟨by decide, by decide⟩
    exact spBits_k h
theorem spBody_k {kd : Nat} {T : List Nat} {M L e q o0 : Nat} {C O : List Nat} {u k p : Nat} {O' : List Nat} {u' : Nat} (h : spBody T M L kd e q o0 C O u = .error (k, p, O', u')) : 0 < k ∧ k < 100 := by
  unfold spBody at h
  by_cases c1 : kd = 1
  · rw [if_pos c1] at h; exact spStore_k h
  rw [if_neg c1] at h
  by_cases c2 : kd = 2
  · rw [if_pos c2] at h; exact spRun_k h
  rw [if_neg c2] at h
  by_cases c3 : kd = 3
  · rw [if_pos c3] at h; exact spCopy_k h
  rw [if_neg c3] at h
  by_cases c5 : kd = 5
  · rw [if_pos c5] at h; exact spNote_k h
  rw [if_neg c5] at h
  by_cases c6 : kd = 6
  · rw [if_pos c6] at h; exact spAgain_k h
  rw [if_neg c6] at h
  exact spCoded_k h
theorem spHd_k {T : List Nat} {L f e d : Nat} {r x : Rd} {k p : Nat} (h : spHd T L f e d r = .error (k, p, x)) : 0 < k ∧ k < 100 := by
  unfold spHd at h
  repeat (split at h; · cases h; decide)
  cases h
theorem spCl_k {T : List Nat} {f e q k p : Nat} (h : spCl T f e q = some (k, p)) : 0 < k ∧ k < 100 := by
  unfold spCl at h
  repeat (split at h; · cases h; decide)
  cases h
theorem spNe_k {T : List Nat} {L Dp d e q u k p : Nat} (h : spNe T L Dp d e q u = .error (k, p)) : 0 < k ∧ k < 100 := by
  unfold spNe at h
  repeat (split at h; · cases h; decide)
  cases h
theorem stepP_k {T : List Nat} {M L Dp : Nat} {fr : Fr} {ps : List Fr} {r x : Rd} {k p : Nat} (h : stepP T M L Dp fr ps r = .error (k, p, x)) : 0 < k ∧ k < 100 := by
  unfold stepP at h
  by_cases c1 : fr.e ≤ fr.q
  · rw [if_pos c1] at h; cases h; decide
  rw [if_neg c1] at h
  by_cases c2 : 7 < T.getD fr.q 0
  · rw [if_pos c2] at h; cases h; decide
  rw [if_neg c2] at h
  by_cases c3 : T.getD fr.q 0 = 0
  · rw [if_pos c3] at h
    cases hc : spCl T fr.f fr.e fr.q with
    | some x => rw [hc] at h; cases h; exact spCl_k hc
    | none => rw [hc] at h; cases h
  rw [if_neg c3] at h
  by_cases c4 : T.getD fr.q 0 = 4
  · rw [if_pos c4] at h
    cases hn : spNe T L Dp ps.length fr.e fr.q (rU r) with
    | error x => rw [hn] at h; cases h; exact spNe_k hn
    | ok n =>
      rw [hn] at h
      dsimp only at h
      cases hh : spHd T L (fr.q + 3) (fr.q + 3 + n) (ps.length + 1) (rO r, rU r + 3, rP r, rD r, rI r) with
      | error x => rw [hh] at h; cases h; exact spHd_k hh
      | ok r1 => rw [hh] at h; cases h
  rw [if_neg c4] at h
  cases hc : spBody T M L (T.getD fr.q 0) fr.e fr.q fr.o fr.C (rO r) (rU r) with
  | error x => rw [hc] at h; cases h; exact spBody_k hc
  | ok x => rw [hc] at h; cases h

theorem OkW_fst {Z : Gz} {b : Nat → Nat} {sd : Int64} {sz rd : Int} {gT gH gL : Nat → Int} {T : List Nat} {M L Dp : Nat} {pl : Int} {r : Rd} {w : va_W} (h : OkW Z b sd sz rd gT gH gL T M L Dp pl [] r w) : w.map Prod.fst = fM b := by obtain ⟨_, _, _, _, _, _, _, _, _, _, _, _, _, _, _, _, -, rfl⟩ := h; rfl
theorem ErrW_fst {Z : Gz} {b : Nat → Nat} {sd : Int64} {sz rd : Int} {gT gH gL : Nat → Int} {T : List Nat} {M L Dp : Nat} {pl : Int} {x : Nat × Nat × Rd} {w : va_W} (h : ErrW Z b sd sz rd gT gH gL T M L Dp pl x w) : w.map Prod.fst = fM b := by obtain ⟨k, p, r⟩ := x; obtain ⟨_, _, _, _, _, _, _, _, _, _, _, _, _, _, _, _, _, -, rfl⟩ := h; rfl
/-- behind reads -/
def rdP (Z : Gz) (b : Nat → Nat) (sd : Int64) (sz rd : Int) (gT gH gL : Nat → Int) (T : List Nat) (M L Dp : Nat) (pl : Int) (w : va_W) : Prop := match rdS T M L Dp with
  | .error x => ErrW Z b sd sz rd gT gH gL T M L Dp pl x w
  | .ok r => OkW Z b sd sz rd gT gH gL T M L Dp pl [] r w
abbrev rm_X6_reads : Room := { frames := 5, cells := 0, slots := 0, locals := 126 }
set_option maxHeartbeats 8000000 in
theorem ct_X6_reads (Z : Gz) (b : Nat → Nat) {sd : Int64} {sz os mo li de fa pl us re pk rd tp : Int} {gT gO gF gE gN gQ gM gC gA gI gU gK gP gS gX gD gH gL : Nat → Int} {T : List Nat} {M L Dp : Nat} (hT : pM T sz gT) (hTl : T.length ≤ 1200) (hT8 : ∀ j, T.getD j 0 < 256) (hM4 : M ≤ 4000) (hL2 : L ≤ 20000) (hD8 : Dp ≤ 8) : CT Z yX6_reads cX6_reads 4 none rm_X6_reads [.ref (b 0), .int (iI (M : Int)), .int (iI (L : Int)), .int (iI (Dp : Int))] (wM Z b sd sz os mo li de fa pl us re pk rd tp gT gO gF gE gN gQ gM gC gA gI gU gK gP gS gX gD gH gL) (fun v w => v = none ∧ rdP Z b sd sz (rd + 1) gT gH gL T M L Dp (-1) w) nopx := by
  refine ct_of (by decide) (Nat.le_of_ble_eq_true rfl) (fun X hK hR => ?_)
  show GO Z X (wM Z b sd sz os mo li de fa pl us re pk rd tp gT gO gF gE gN gQ gM gC gA gI gU gK gP gS gX gD gH gL) 0 0 0 [(0, .ref (b 0)), (1, .int (iI (M : Int))), (2, .int (iI (L : Int))), (3, .int (iI (Dp : Int)))] []
  obtain rfl : sz = (T.length : Int) := hT.1
  show GO Z X (wM Z b sd (T.length : Int) os mo li de fa pl us re pk rd tp gT gO gF gE gN gQ gM gC gA gI gU gK gP gS gX gD gH gL) 0 0 0 [(0, .ref (b 0)), (1, .int (iI (M : Int))), (2, .int (iI (L : Int))), (3, .int (iI (Dp : Int)))] []
  have hE : ∀ k p r, rdS T M L Dp = .error (k, p, r) → 0 < k → k < 100 → ∀ w1, ErrW Z b sd (T.length : Int) (rd + 1) gT gH gL T M L Dp (-1) (k, p, r) w1 → GO Z X w1 0 0 76 [(0, .ref (b 0)), (1, .int (iI (M : Int))), (2, .int (iI (L : Int))), (3, .int (iI (Dp : Int)))] [] := by
    intro k p r hr hk1 hk2 w1 hw
    obtain ⟨tp1, os1, gO1, gF1, gE1, gN1, gQ1, gM1, gC1, gA1, gI1, gU1, gK1, gP1, gS1, gX1, gD1, hend, rfl⟩ := hw
    have hw : ErrW Z b sd (T.length : Int) (rd + 1) gT gH gL T M L Dp (-1) (k, p, r) _ := ⟨tp1, os1, gO1, gF1, gE1, gN1, gQ1, gM1, gC1, gA1, gI1, gU1, gK1, gP1, gS1, gX1, gD1, hend, rfl⟩
    show GO Z X (wM Z b sd (T.length : Int) os1 (M : Int) (L : Int) (Dp : Int) (k : Int) (p : Int) (rU r : Int) (rD r : Int) (rP r : Int) (rd + 1) tp1 gT gO1 gF1 gE1 gN1 gQ1 gM1 gC1 gA1 gI1 gU1 gK1 gP1 gS1 gX1 gD1 gH gL) 0 0 76 [(0, .ref (b 0)), (1, .int (iI (M : Int))), (2, .int (iI (L : Int))), (3, .int (iI (Dp : Int)))] []
    refine go_aload_n hK 76 0 dX6_reads_76 rfl rfl ?_
    refine go_get hK 77 fl_X6_122 dX6_reads_77 0 rfl rfl ?_
    refine go_if_ne (tgt := 97) hK 80 dX6_reads_80 (by decide) (by omega) (fun _ => ?_) (fun q => absurd q (by omega))
    exact go_vret hK hR.1 97 [] dX6_reads_97 (by decide) (by decide) ((ErrW_fst hw).trans rfl) ⟨rfl, (by unfold rdP; rw [hr]; exact hw)⟩
  have hN : ∀ r, rdS T M L Dp = .ok r → ∀ w1, OkW Z b sd (T.length : Int) (rd + 1) gT gH gL T M L Dp (-1) [] r w1 → GO Z X w1 0 0 76 [(0, .ref (b 0)), (1, .int (iI (M : Int))), (2, .int (iI (L : Int))), (3, .int (iI (Dp : Int)))] [] := by
    intro r hr w1 hw
    obtain ⟨os1, gO1, gF1, gE1, gN1, gQ1, gM1, gC1, gA1, gI1, gU1, gK1, gP1, gS1, gX1, gD1, hend, rfl⟩ := hw
    have hw : OkW Z b sd (T.length : Int) (rd + 1) gT gH gL T M L Dp (-1) [] r _ := ⟨os1, gO1, gF1, gE1, gN1, gQ1, gM1, gC1, gA1, gI1, gU1, gK1, gP1, gS1, gX1, gD1, hend, rfl⟩
    show GO Z X (wM Z b sd (T.length : Int) os1 (M : Int) (L : Int) (Dp : Int) 0 (-1) (rU r : Int) (rD r : Int) (rP r : Int) (rd + 1) 0 gT gO1 gF1 gE1 gN1 gQ1 gM1 gC1 gA1 gI1 gU1 gK1 gP1 gS1 gX1 gD1 gH gL) 0 0 76 [(0, .ref (b 0)), (1, .int (iI (M : Int))), (2, .int (iI (L : Int))), (3, .int (iI (Dp : Int)))] []
    refine go_aload_n hK 76 0 dX6_reads_76 rfl rfl ?_
    refine go_get hK 77 fl_X6_122 dX6_reads_77 0 rfl rfl ?_
    refine go_if_ne (tgt := 97) hK 80 dX6_reads_80 (by decide) (by decide) (fun q => absurd q (by decide)) (fun _ => ?_)
    refine go_aload_n hK 83 0 dX6_reads_83 rfl rfl ?_
    refine go_get hK 84 fl_X6_137 dX6_reads_84 0 rfl rfl ?_
    refine go_if_le (tgt := 97) hK 87 dX6_reads_87 (by decide) (by decide) (fun _ => ?_) (fun q => absurd q (by decide))
    exact go_vret hK hR.1 97 [] dX6_reads_97 (by decide) (by decide) ((OkW_fst hw).trans rfl) ⟨rfl, (by unfold rdP; rw [hr]; exact hw)⟩
  have hs : ∀ (fr : Fr) (ps : List Fr) (r : Rd), (match stepP T M L Dp fr ps r with | .error x => (fun x => 0 < x.1 → x.1 < 100 → ∀ w1, ErrW Z b sd (T.length : Int) (rd + 1) gT gH gL T M L Dp (-1) x w1 → GO Z X w1 0 0 76 [(0, .ref (b 0)), (1, .int (iI (M : Int))), (2, .int (iI (L : Int))), (3, .int (iI (Dp : Int)))] []) x | .ok (ps', r') => (fun ps r => ∀ w1, OkW Z b sd (T.length : Int) (rd + 1) gT gH gL T M L Dp (-1) ps r w1 → GO Z X w1 0 0 76 [(0, .ref (b 0)), (1, .int (iI (M : Int))), (2, .int (iI (L : Int))), (3, .int (iI (Dp : Int)))] []) ps' r') → (fun ps r => ∀ w1, OkW Z b sd (T.length : Int) (rd + 1) gT gH gL T M L Dp (-1) ps r w1 → GO Z X w1 0 0 76 [(0, .ref (b 0)), (1, .int (iI (M : Int))), (2, .int (iI (L : Int))), (3, .int (iI (Dp : Int)))] []) (fr :: ps) r := by
    intro fr ps r h9 w1 hw
    obtain ⟨os1, gO1, gF1, gE1, gN1, gQ1, gM1, gC1, gA1, gI1, gU1, gK1, gP1, gS1, gX1, gD1, hPW, rfl⟩ := hw
    have hPW2 := hPW
    obtain ⟨hRS, hP4, hD9, hpd, ⟨f1, f2, f3, f4, f5, f6⟩, ⟨i1, i2, i3, i4, i5⟩, hbt, hpil, hit⟩ := hPW2
    have hRS2 := hRS
    obtain ⟨-, -, -, -, -, -, huL, hL2, -⟩ := hRS2
    show GO Z X (wM Z b sd (T.length : Int) os1 (M : Int) (L : Int) (Dp : Int) 0 (-1) (rU r : Int) (rD r : Int) (rP r : Int) (rd + 1) ((ps.length : Int) + 1) gT gO1 gF1 gE1 gN1 gQ1 gM1 gC1 gA1 gI1 gU1 gK1 gP1 gS1 gX1 gD1 gH gL) 0 0 76 [(0, .ref (b 0)), (1, .int (iI (M : Int))), (2, .int (iI (L : Int))), (3, .int (iI (Dp : Int)))] []
    refine go_aload_n hK 76 0 dX6_reads_76 rfl rfl ?_
    refine go_get hK 77 fl_X6_122 dX6_reads_77 0 rfl rfl ?_
    refine go_if_ne (tgt := 97) hK 80 dX6_reads_80 (by decide) (by decide) (fun q => absurd q (by decide)) (fun _ => ?_)
    refine go_aload_n hK 83 0 dX6_reads_83 rfl rfl ?_
    refine go_get hK 84 fl_X6_137 dX6_reads_84 0 rfl rfl ?_
    refine go_if_le (tgt := 97) hK 87 dX6_reads_87 (by decide) (by omega) (fun q => absurd q (by omega)) (fun _ => ?_)
    refine go_aload_n hK 90 0 dX6_reads_90 rfl rfl ?_
    have hpar : 0 < ps.length → gM1 (ps.length - 1) = ((hdF ps).C.length : Nat) ∧ (hdF ps).C.length < 600 ∧ gQ1 (ps.length - 1) = ((hdF ps).o : Nat) ∧ gA1 (ps.length - 1) = ((hdF ps).a : Nat) ∧ gI1 (ps.length - 1) = ((hdF ps).O0.length : Nat) ∧ gU1 (ps.length - 1) = ((hdF ps).u0 : Nat) ∧ (hdF ps).a < 1200 := by
      intro hp
      cases ps with
      | nil => exact absurd hp (Nat.lt_irrefl 0)
      | cons p pps =>
        obtain ⟨⟨⟨a1, a2, a3, a4, a5, a6⟩, ⟨b1, b2, b3, b4, b5⟩, d1, d2, d3, d4, d5, d6, d7, d8, d9, d10⟩, hb, hr⟩ := hpil
        exact ⟨a4, by show p.C.length < 600; omega, a3, d1, d2, d3, by show p.a < 1200; omega⟩
    refine go_callV (As := []) (rest := []) hK hR 91 (ct_X6_item Z b (I := rI r) (nP := (hdF ps).C.length) (oP := (hdF ps).o) (qP := (hdF ps).a) (iP := ((hdF ps).O0.length : Nat)) (uP := ((hdF ps).u0 : Nat)) hRS (C := fr.C) (t := ps.length) (f := fr.f) (e := fr.e) (q := fr.q) (o0 := fr.o) ⟨by omega, f1, f2, f3, f4, fun k hk => ⟨f5 k hk, i5 k hk⟩, i1, i2, i3, i4, f6⟩ (P := rP r) (D := rD r) ⟨by omega, by omega⟩ hpar) cw_X6_194 gn_X6_item rfl dX6_reads_91 gSel_all ⟨0, 5, _, _, _, rfl, rfl⟩ rfl (Nat.le_of_ble_eq_true rfl) ⟨(by decide), (by decide)⟩ (fun _ _ _ h => h.elim) (fun v w1 h => ?_)
    obtain ⟨rfl, hw9⟩ := h
    show GO Z X w1 0 0 94 [(0, .ref (b 0)), (1, .int (iI (M : Int))), (2, .int (iI (L : Int))), (3, .int (iI (Dp : Int)))] []
    refine go_goto (tgt := 76) hK 94 dX6_reads_94 (by decide) ?_
    have h8 := step_itM hPW hw9
    cases hst : stepP T M L Dp fr ps r with
    | error x => obtain ⟨k, p, x⟩ := x; rw [hst] at h9 h8; have hk := stepP_k hst; exact h9 hk.1 hk.2 _ h8
    | ok x => obtain ⟨ps', r'⟩ := x; rw [hst] at h9 h8; exact h9 _ h8
  refine go_aload_n hK 0 0 dX6_reads_0 rfl rfl ?_
  refine go_dup hK 1 dX6_reads_1 rfl ?_
  refine go_get hK 2 fl_X6_191 dX6_reads_2 0 rfl rfl ?_
  refine go_iconst hK 5 dX6_reads_5 ?_
  refine go_iadd hK 6 dX6_reads_6 ?_
  refine go_put (w' := (wM Z b sd (T.length : Int) os mo li de fa pl us re pk (rd + 1) tp gT gO gF gE gN gQ gM gC gA gI gU gK gP gS gX gD gH gL)) hK 7 fl_X6_191 fw_X6_13 dX6_reads_7 0 rfl rfl rfl (Nat.le_of_ble_eq_true rfl) rfl ?_
  refine go_aload_n hK 10 0 dX6_reads_10 rfl rfl ?_
  refine go_iload_n hK 11 1 dX6_reads_11 rfl rfl ?_
  refine go_put (w' := (wM Z b sd (T.length : Int) os (M : Int) li de fa pl us re pk (rd + 1) tp gT gO gF gE gN gQ gM gC gA gI gU gK gP gS gX gD gH gL)) hK 12 fl_X6_146 fw_X6_5 dX6_reads_12 0 rfl rfl rfl (Nat.le_of_ble_eq_true rfl) rfl ?_
  refine go_aload_n hK 15 0 dX6_reads_15 rfl rfl ?_
  refine go_iload_n hK 16 2 dX6_reads_16 rfl rfl ?_
  refine go_put (w' := (wM Z b sd (T.length : Int) os (M : Int) (L : Int) de fa pl us re pk (rd + 1) tp gT gO gF gE gN gQ gM gC gA gI gU gK gP gS gX gD gH gL)) hK 17 fl_X6_128 fw_X6_6 dX6_reads_17 0 rfl rfl rfl (Nat.le_of_ble_eq_true rfl) rfl ?_
  refine go_aload_n hK 20 0 dX6_reads_20 rfl rfl ?_
  refine go_iload_n hK 21 3 dX6_reads_21 rfl rfl ?_
  refine go_put (w' := (wM Z b sd (T.length : Int) os (M : Int) (L : Int) (Dp : Int) fa pl us re pk (rd + 1) tp gT gO gF gE gN gQ gM gC gA gI gU gK gP gS gX gD gH gL)) hK 22 fl_X6_178 fw_X6_7 dX6_reads_22 0 rfl rfl rfl (Nat.le_of_ble_eq_true rfl) rfl ?_
  refine go_aload_n hK 25 0 dX6_reads_25 rfl rfl ?_
  refine go_iconst hK 26 dX6_reads_26 ?_
  refine go_put (w' := (wM Z b sd (T.length : Int) 0 (M : Int) (L : Int) (Dp : Int) fa pl us re pk (rd + 1) tp gT gO gF gE gN gQ gM gC gA gI gU gK gP gS gX gD gH gL)) hK 27 fl_X6_140 fw_X6_4 dX6_reads_27 0 rfl rfl rfl (Nat.le_of_ble_eq_true rfl) rfl ?_
  refine go_aload_n hK 30 0 dX6_reads_30 rfl rfl ?_
  refine go_iconst hK 31 dX6_reads_31 ?_
  refine go_put (w' := (wM Z b sd (T.length : Int) 0 (M : Int) (L : Int) (Dp : Int) 0 pl us re pk (rd + 1) tp gT gO gF gE gN gQ gM gC gA gI gU gK gP gS gX gD gH gL)) hK 32 fl_X6_122 fw_X6_8 dX6_reads_32 0 rfl rfl rfl (Nat.le_of_ble_eq_true rfl) rfl ?_
  refine go_aload_n hK 35 0 dX6_reads_35 rfl rfl ?_
  refine go_iconst hK 36 dX6_reads_36 ?_
  refine go_put (w' := (wM Z b sd (T.length : Int) 0 (M : Int) (L : Int) (Dp : Int) 0 (-1) us re pk (rd + 1) tp gT gO gF gE gN gQ gM gC gA gI gU gK gP gS gX gD gH gL)) hK 37 fl_X6_16 fw_X6_9 dX6_reads_37 0 rfl rfl rfl (Nat.le_of_ble_eq_true rfl) rfl ?_
  refine go_aload_n hK 40 0 dX6_reads_40 rfl rfl ?_
  refine go_iconst hK 41 dX6_reads_41 ?_
  refine go_put (w' := (wM Z b sd (T.length : Int) 0 (M : Int) (L : Int) (Dp : Int) 0 (-1) 0 re pk (rd + 1) tp gT gO gF gE gN gQ gM gC gA gI gU gK gP gS gX gD gH gL)) hK 42 fl_X6_125 fw_X6_10 dX6_reads_42 0 rfl rfl rfl (Nat.le_of_ble_eq_true rfl) rfl ?_
  refine go_aload_n hK 45 0 dX6_reads_45 rfl rfl ?_
  refine go_iconst hK 46 dX6_reads_46 ?_
  refine go_put (w' := (wM Z b sd (T.length : Int) 0 (M : Int) (L : Int) (Dp : Int) 0 (-1) 0 0 pk (rd + 1) tp gT gO gF gE gN gQ gM gC gA gI gU gK gP gS gX gD gH gL)) hK 47 fl_X6_143 fw_X6_11 dX6_reads_47 0 rfl rfl rfl (Nat.le_of_ble_eq_true rfl) rfl ?_
  refine go_aload_n hK 50 0 dX6_reads_50 rfl rfl ?_
  refine go_iconst hK 51 dX6_reads_51 ?_
  refine go_put (w' := (wM Z b sd (T.length : Int) 0 (M : Int) (L : Int) (Dp : Int) 0 (-1) 0 0 0 (rd + 1) tp gT gO gF gE gN gQ gM gC gA gI gU gK gP gS gX gD gH gL)) hK 52 fl_X6_134 fw_X6_12 dX6_reads_52 0 rfl rfl rfl (Nat.le_of_ble_eq_true rfl) rfl ?_
  refine go_aload_n hK 55 0 dX6_reads_55 rfl rfl ?_
  refine go_iconst hK 56 dX6_reads_56 ?_
  refine go_put (w' := (wM Z b sd (T.length : Int) 0 (M : Int) (L : Int) (Dp : Int) 0 (-1) 0 0 0 (rd + 1) 0 gT gO gF gE gN gQ gM gC gA gI gU gK gP gS gX gD gH gL)) hK 57 fl_X6_137 fw_X6_14 dX6_reads_57 0 rfl rfl rfl (Nat.le_of_ble_eq_true rfl) rfl ?_
  refine go_aload_n hK 60 0 dX6_reads_60 rfl rfl ?_
  refine go_get hK 61 fl_X6_32 dX6_reads_61 0 rfl rfl ?_
  refine go_iconst hK 64 dX6_reads_64 ?_
  refine go_iconst hK 65 dX6_reads_65 ?_
  refine go_iast (w' := (wM Z b sd (T.length : Int) 0 (M : Int) (L : Int) (Dp : Int) 0 (-1) 0 0 0 (rd + 1) 0 gT gO gF gE gN gQ (va_up gM 0 0) gC gA gI gU gK gP gS gX gD gH gL)) hK 66 dX6_reads_66 7 rfl (by omega) (by decide) rfl ?_
  refine go_aload_n hK 67 0 dX6_reads_67 rfl rfl ?_
  refine go_iconst hK 68 dX6_reads_68 ?_
  refine go_aload_n hK 69 0 dX6_reads_69 rfl rfl ?_
  refine go_get hK 70 fl_X6_78 dX6_reads_70 0 rfl rfl ?_
  refine go_callV (As := [.int (iI 0), .int (iI (T.length : Int))]) (rest := []) hK hR 73 (ct_X6_begins Z b (O := []) (I := []) (u := 0) (M := M) (L := L) (Dp := Dp) (P := 0) (D := 0) (t := 0) (f := 0) (e := T.length) ⟨hT, hTl, hT8, ⟨rfl, fun j hj => absurd hj (Nat.not_lt_zero _)⟩, Nat.zero_le _, hM4, Nat.zero_le _, hL2, hD8⟩ (by omega) ⟨by omega, Nat.le_refl _⟩ ⟨by omega, by omega⟩) cw_X6_181 gn_X6_begins rfl dX6_reads_73 gSel_all ⟨0, 5, _, _, _, rfl, rfl⟩ rfl (Nat.le_of_ble_eq_true rfl) ⟨(by decide), (by decide)⟩ (fun _ _ _ h => h.elim) (fun v w1 h => ?_)
  obtain ⟨rfl, hw9⟩ := h
  show GO Z X w1 0 0 76 [(0, .ref (b 0)), (1, .int (iI (M : Int))), (2, .int (iI (L : Int))), (3, .int (iI (Dp : Int)))] []
  cases hh : spHd T L 0 T.length 0 ([], 0, 0, 0, []) with
  | error x =>
    obtain ⟨k, p, x⟩ := x
    rw [hh] at hw9
    have hx := spHd_er hh
    have hk := spHd_k hh
    have hr : rdS T M L Dp = .error (k, p, x) := by unfold rdS; rw [hh]
    have hx1 : rO x = [] := hx.1
    have hx2 : rI x = [] := hx.2
    rcases hw9 with rfl | rfl
    · exact hE k p x hr hk.1 hk.2 _ ⟨_, 0, gO, gF, gE, gN, gQ, va_up gM 0 0, gC, gA, gI, gU, gK, gP, gS, gX, gD, ⟨by rw [hx1]; exact ⟨rfl, fun j hj => absurd hj (Nat.not_lt_zero _)⟩, by rw [hx1]; exact Nat.zero_le _, by rw [hx2]; exact va_up_s rfl, by rw [hx2]; exact itR_nil _ _ _ _, 0, by rw [hx2]; exact ctg_nil _ _, fun z => absurd hx2 z⟩, rfl⟩
    · exact hE k p x hr hk.1 hk.2 _ ⟨_, 0, gO, va_up gF 0 ((0 : Nat) : Int), va_up gE 0 ((T.length : Nat) : Int), va_up gN 0 ((0 + 2 : Nat) : Int), va_up gQ 0 0, va_up (va_up gM 0 0) 0 0, gC, gA, gI, gU, gK, gP, gS, gX, gD, ⟨by rw [hx1]; exact ⟨rfl, fun j hj => absurd hj (Nat.not_lt_zero _)⟩, by rw [hx1]; exact Nat.zero_le _, by rw [hx2]; exact va_up_s rfl, by rw [hx2]; exact itR_nil _ _ _ _, 0, by rw [hx2]; exact ctg_nil _ _, fun z => absurd hx2 z⟩, rfl⟩
  | ok x =>
    rw [hh] at hw9
    obtain ⟨rfl, hL4, hf2⟩ := spHd_ok hh
    have hL5 : 4 ≤ L := hL4
    cases hw9
    have hr : rdS T M L Dp = itS T M L Dp (T.length + 1) 0 0 T.length 0 [] 2 ([], 4, 1, 0, []) := by unfold rdS; rw [hh]; rfl
    refine flat (H := (fun ps r => ∀ w1, OkW Z b sd (T.length : Int) (rd + 1) gT gH gL T M L Dp (-1) ps r w1 → GO Z X w1 0 0 76 [(0, .ref (b 0)), (1, .int (iI (M : Int))), (2, .int (iI (L : Int))), (3, .int (iI (Dp : Int)))] [])) (E := (fun x => 0 < x.1 → x.1 < 100 → ∀ w1, ErrW Z b sd (T.length : Int) (rd + 1) gT gH gL T M L Dp (-1) x w1 → GO Z X w1 0 0 76 [(0, .ref (b 0)), (1, .int (iI (M : Int))), (2, .int (iI (L : Int))), (3, .int (iI (Dp : Int)))] [])) hs (T.length + 1) (0, T.length, 0, [], 2, 0, [], 0) [] ([], 4, 1, 0, []) (Nat.succ_pos _) (by show T.length < 2 + (T.length + 1); omega) ?_ _ ⟨0, gO, va_up gF 0 ((0 : Nat) : Int), va_up gE 0 ((T.length : Nat) : Int), va_up gN 0 ((0 + 2 : Nat) : Int), va_up gQ 0 0, va_up (va_up gM 0 0) 0 0, gC, gA, gI, gU, gK, gP, gS, gX, gD, ⟨⟨hT, hTl, hT8, ⟨rfl, fun j hj => absurd hj (Nat.not_lt_zero _)⟩, Nat.zero_le _, hM4, hL5, hL2, hD8⟩, (by decide), (by decide), Nat.zero_le _, ⟨va_up_s rfl, va_up_s rfl, va_up_s rfl, va_up_s rfl, fun k hk => absurd hk (Nat.not_lt_zero _), va_up_s rfl⟩, ⟨by show 0 + 2 + 2 * 0 ≤ 2; omega, by show 2 ≤ T.length; omega, Nat.le_refl _, Nat.le_refl _, fun k hk => absurd hk (Nat.not_lt_zero _)⟩, fun _ => ⟨rfl, ctg_nil _ _⟩, trivial, itR_nil _ _ _ _⟩, rfl⟩
    show (match itS T M L Dp (T.length + 1) 0 0 T.length 0 [] 2 ([], 4, 1, 0, []) with | .error x => (fun x => 0 < x.1 → x.1 < 100 → ∀ w1, ErrW Z b sd (T.length : Int) (rd + 1) gT gH gL T M L Dp (-1) x w1 → GO Z X w1 0 0 76 [(0, .ref (b 0)), (1, .int (iI (M : Int))), (2, .int (iI (L : Int))), (3, .int (iI (Dp : Int)))] []) x | .ok r' => (fun ps r => ∀ w1, OkW Z b sd (T.length : Int) (rd + 1) gT gH gL T M L Dp (-1) ps r w1 → GO Z X w1 0 0 76 [(0, .ref (b 0)), (1, .int (iI (M : Int))), (2, .int (iI (L : Int))), (3, .int (iI (Dp : Int)))] []) (popP T.length r' []).1 (popP T.length r' []).2)
    cases hi : itS T M L Dp (T.length + 1) 0 0 T.length 0 [] 2 ([], 4, 1, 0, []) with
    | error x => obtain ⟨k, p, x⟩ := x; exact fun h1 h2 => hE k p x (hr.trans hi) h1 h2
    | ok r' => exact hN r' (hr.trans hi)

