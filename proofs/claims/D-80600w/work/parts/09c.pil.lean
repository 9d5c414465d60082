/-! the pile: the reading of packs as one loop over a pile of packs; plain -/
set_option maxRecDepth 100000
/-- a pack on the pile: from, end, where its bytes began, how many its items brought, the next place, the item at hand: its place, what had come, what was spent -/
abbrev Fr : Type := Nat × Nat × Nat × List Nat × Nat × Nat × List Nat × Nat
abbrev Fr.f (x : Fr) : Nat := x.1
abbrev Fr.e (x : Fr) : Nat := x.2.1
abbrev Fr.o (x : Fr) : Nat := x.2.2.1
abbrev Fr.C (x : Fr) : List Nat := x.2.2.2.1
abbrev Fr.q (x : Fr) : Nat := x.2.2.2.2.1
abbrev Fr.a (x : Fr) : Nat := x.2.2.2.2.2.1
abbrev Fr.O0 (x : Fr) : List Nat := x.2.2.2.2.2.2.1
abbrev Fr.u0 (x : Fr) : Nat := x.2.2.2.2.2.2.2
/-- behind a pack's end -/
def popP (e : Nat) (r : Rd) : List Fr → List Fr × Rd
  | [] => ([], r)
  | p :: pps => (⟨p.f, p.e, p.o, p.C ++ [(rO r).length - p.o], e, p.a, p.O0, p.u0⟩ :: pps, adI pps.length 4 p.a e p.O0 p.u0 r)
def stepP (T : List Nat) (M L Dp : Nat) (fr : Fr) (ps : List Fr) (r : Rd) : Except (Nat × Nat × Rd) (List Fr × Rd) :=
  if fr.e ≤ fr.q then .error (3, fr.e, r)
  else if 7 < T.getD fr.q 0 then .error (2, fr.q, r)
  else if T.getD fr.q 0 = 0 then (match spCl T fr.f fr.e fr.q with
    | some (k, p) => .error (k, p, r)
    | none => .ok (popP fr.e r ps))
  else if T.getD fr.q 0 = 4 then (match spNe T L Dp ps.length fr.e fr.q (rU r) with
    | .error (k, p) => .error (k, p, r)
    | .ok n => match spHd T L (fr.q + 3) (fr.q + 3 + n) (ps.length + 1) (rO r, rU r + 3, rP r, rD r, rI r) with
      | .error x => .error x
      | .ok r1 => .ok (⟨fr.q + 3, fr.q + 3 + n, (rO r).length, [], fr.q + 5, 0, [], 0⟩ :: ⟨fr.f, fr.e, fr.o, fr.C, fr.q, fr.q, rO r, rU r⟩ :: ps, r1))
  else (match spBody T M L (T.getD fr.q 0) fr.e fr.q fr.o fr.C (rO r) (rU r) with
    | .error (k, p, O', u') => .error (k, p, (O', u', rP r, rD r, rI r))
    | .ok (q', O', u') => .ok (⟨fr.f, fr.e, fr.o, fr.C ++ [O'.length - fr.o], q', fr.a, fr.O0, fr.u0⟩ :: ps, adI ps.length (T.getD fr.q 0) fr.q q' (rO r) (rU r) (O', u', rP r, rD r, rI r)))
/-! bounds -/
theorem spSym_b {T : List Nat} {e a m : Nat} : ∀ {f fst bp len code k bp' : Nat}, spSym T e a m f fst bp len code = .ok (k, bp') → bp < bp' ∧ bp' ≤ 8 * e
  | 0, _, _, _, _, _, _, h => by unfold spSym at h; cases h
  | f + 1, fst, bp, len, code, k, bp', h => by
    unfold spSym at h
    split at h
    · cases h
    · split at h
      · cases h; omega
      · split at h
        · have := spSym_b h; omega
        · cases h
theorem spBitN_b {T : List Nat} {e sy a m : Nat} : ∀ {n bp : Nat} {O : List Nat} {bp' : Nat} {O' : List Nat}, bp ≤ 8 * e → spBitN T e sy a m n bp O = .ok (bp', O') → bp ≤ bp' ∧ bp' ≤ 8 * e ∧ O'.length = O.length + n
  | 0, bp, O, bp', O', hb, h => by unfold spBitN at h; cases h; exact ⟨Nat.le_refl _, hb, rfl⟩
  | n + 1, bp, O, bp', O', hb, h => by
    unfold spBitN at h
    split at h
    · cases h
    · rename_i hs
      have h1 := spSym_b hs
      have h2 := spBitN_b h1.2 h
      rw [List.length_append] at h2
      simp at h2
      omega
theorem spBitN_e {T : List Nat} {e sy a m : Nat} : ∀ {n bp : Nat} {O : List Nat} {k p : Nat} {O' : List Nat}, spBitN T e sy a m n bp O = .error (k, p, O') → O.length ≤ O'.length ∧ O'.length ≤ O.length + n
  | 0, bp, O, k, p, O', h => by unfold spBitN at h; cases h
  | n + 1, bp, O, k, p, O', h => by
    unfold spBitN at h
    split at h
    · cases h; omega
    · have h2 := spBitN_e h
      rw [List.length_append] at h2
      simp at h2
      omega
theorem spBits_ok {T : List Nat} {e sy a m n bp : Nat} {O : List Nat} {u q' : Nat} {O' : List Nat} {u' : Nat} (hb : bp ≤ 8 * e) (h : spBits T e sy a m n bp O u = .ok (q', O', u')) : bp ≤ 8 * q' ∧ q' ≤ e ∧ O'.length = O.length + n ∧ u' = u := by
  unfold spBits at h
  split at h
  · cases h
  · rename_i hs
    have h1 := spBitN_b hb hs
    split at h
    · cases h
    · cases h; omega
theorem spBits_er {T : List Nat} {e sy a m n bp : Nat} {O : List Nat} {u k p : Nat} {O' : List Nat} {u' : Nat} (hb : bp ≤ 8 * e) (h : spBits T e sy a m n bp O u = .error (k, p, O', u')) : O.length ≤ O'.length ∧ O'.length ≤ O.length + n ∧ u' = u := by
  unfold spBits at h
  split at h
  · rename_i hs
    cases h
    have h1 := spBitN_e hs
    omega
  · rename_i hs
    have h1 := spBitN_b hb hs
    split at h
    · cases h; omega
    · cases h
theorem spStore_ok {T : List Nat} {M L e q o0 : Nat} {C O : List Nat} {u q' : Nat} {O' : List Nat} {u' : Nat} (h : spStore T M L e q O u = .ok (q', O', u')) : q + 2 ≤ q' ∧ q' ≤ e ∧ O.length ≤ O'.length ∧ O'.length ≤ M ∧ u ≤ u' ∧ u' ≤ L := by
  unfold spStore at h
  split at h
  · cases h
  split at h
  · cases h
  split at h
  · cases h
  split at h
  · cases h
  injection h with h; injection h with h1 h; injection h with h2 h3; subst h1 h2 h3
  rw [List.length_append, tkN_len]
  omega
theorem spStore_er {T : List Nat} {M L e q o0 : Nat} {C O : List Nat} {u k p : Nat} {O' : List Nat} {u' : Nat} (hO : O.length ≤ M) (h : spStore T M L e q O u = .error (k, p, O', u')) : O.length ≤ O'.length ∧ O'.length ≤ M := by
  unfold spStore at h
  split at h
  · injection h with h; injection h with h1 h; injection h with h2 h; injection h with h3 h; subst h3; omega
  split at h
  · injection h with h; injection h with h1 h; injection h with h2 h; injection h with h3 h; subst h3; omega
  split at h
  · injection h with h; injection h with h1 h; injection h with h2 h; injection h with h3 h; subst h3; omega
  split at h
  · injection h with h; injection h with h1 h; injection h with h2 h; injection h with h3 h; subst h3; omega
  cases h
theorem spRun_ok {T : List Nat} {M L e q o0 : Nat} {C O : List Nat} {u q' : Nat} {O' : List Nat} {u' : Nat} (h : spRun T M L e q O u = .ok (q', O', u')) : q + 2 ≤ q' ∧ q' ≤ e ∧ O.length ≤ O'.length ∧ O'.length ≤ M ∧ u ≤ u' ∧ u' ≤ L := by
  unfold spRun at h
  split at h
  · cases h
  split at h
  · cases h
  split at h
  · cases h
  injection h with h; injection h with h1 h; injection h with h2 h3; subst h1 h2 h3
  rw [List.length_append, List.length_replicate]
  omega
theorem spRun_er {T : List Nat} {M L e q o0 : Nat} {C O : List Nat} {u k p : Nat} {O' : List Nat} {u' : Nat} (hO : O.length ≤ M) (h : spRun T M L e q O u = .error (k, p, O', u')) : O.length ≤ O'.length ∧ O'.length ≤ M := by
  unfold spRun at h
  split at h
  · injection h with h; injection h with h1 h; injection h with h2 h; injection h with h3 h; subst h3; omega
  split at h
  · injection h with h; injection h with h1 h; injection h with h2 h; injection h with h3 h; subst h3; omega
  split at h
  · injection h with h; injection h with h1 h; injection h with h2 h; injection h with h3 h; subst h3; omega
  cases h
theorem spCopy_ok {T : List Nat} {M L e q o0 : Nat} {C O : List Nat} {u q' : Nat} {O' : List Nat} {u' : Nat} (h : spCopy T M L e q o0 O u = .ok (q', O', u')) : q + 2 ≤ q' ∧ q' ≤ e ∧ O.length ≤ O'.length ∧ O'.length ≤ M ∧ u ≤ u' ∧ u' ≤ L := by
  unfold spCopy at h
  split at h
  · cases h
  split at h
  · cases h
  split at h
  · cases h
  split at h
  · cases h
  split at h
  · cases h
  injection h with h; injection h with h1 h; injection h with h2 h3; subst h1 h2 h3
  rw [cpN_len]
  omega
theorem spCopy_er {T : List Nat} {M L e q o0 : Nat} {C O : List Nat} {u k p : Nat} {O' : List Nat} {u' : Nat} (hO : O.length ≤ M) (h : spCopy T M L e q o0 O u = .error (k, p, O', u')) : O.length ≤ O'.length ∧ O'.length ≤ M := by
  unfold spCopy at h
  split at h
  · injection h with h; injection h with h1 h; injection h with h2 h; injection h with h3 h; subst h3; omega
  split at h
  · injection h with h; injection h with h1 h; injection h with h2 h; injection h with h3 h; subst h3; omega
  split at h
  · injection h with h; injection h with h1 h; injection h with h2 h; injection h with h3 h; subst h3; omega
  split at h
  · injection h with h; injection h with h1 h; injection h with h2 h; injection h with h3 h; subst h3; omega
  split at h
  · injection h with h; injection h with h1 h; injection h with h2 h; injection h with h3 h; subst h3; omega
  cases h
theorem spNote_ok {T : List Nat} {M L e q o0 : Nat} {C O : List Nat} {u q' : Nat} {O' : List Nat} {u' : Nat} (h : spNote T M L e q O u = .ok (q', O', u')) : q + 2 ≤ q' ∧ q' ≤ e ∧ O.length ≤ O'.length ∧ O'.length ≤ M ∧ u ≤ u' ∧ u' ≤ L := by
  unfold spNote at h
  split at h
  · cases h
  split at h
  · cases h
  split at h
  · cases h
  split at h
  · cases h
  injection h with h; injection h with h1 h; injection h with h2 h3; subst h1 h2 h3
  omega
theorem spNote_er {T : List Nat} {M L e q o0 : Nat} {C O : List Nat} {u k p : Nat} {O' : List Nat} {u' : Nat} (hO : O.length ≤ M) (h : spNote T M L e q O u = .error (k, p, O', u')) : O.length ≤ O'.length ∧ O'.length ≤ M := by
  unfold spNote at h
  split at h
  · injection h with h; injection h with h1 h; injection h with h2 h; injection h with h3 h; subst h3; omega
  split at h
  · injection h with h; injection h with h1 h; injection h with h2 h; injection h with h3 h; subst h3; omega
  split at h
  · injection h with h; injection h with h1 h; injection h with h2 h; injection h with h3 h; subst h3; omega
  split at h
  · injection h with h; injection h with h1 h; injection h with h2 h; injection h with h3 h; subst h3; omega
  cases h
theorem spAgain_ok {T : List Nat} {M L e q o0 : Nat} {C O : List Nat} {u q' : Nat} {O' : List Nat} {u' : Nat} (h : spAgain T M L e q o0 C O u = .ok (q', O', u')) : q + 2 ≤ q' ∧ q' ≤ e ∧ O.length ≤ O'.length ∧ O'.length ≤ M ∧ u ≤ u' ∧ u' ≤ L := by
  unfold spAgain at h
  split at h
  · cases h
  split at h
  · cases h
  split at h
  · cases h
  split at h
  · cases h
  injection h with h; injection h with h1 h; injection h with h2 h3; subst h1 h2 h3
  rw [List.length_append, tkN_len]
  omega
theorem spAgain_er {T : List Nat} {M L e q o0 : Nat} {C O : List Nat} {u k p : Nat} {O' : List Nat} {u' : Nat} (hO : O.length ≤ M) (h : spAgain T M L e q o0 C O u = .error (k, p, O', u')) : O.length ≤ O'.length ∧ O'.length ≤ M := by
  unfold spAgain at h
  split at h
  · injection h with h; injection h with h1 h; injection h with h2 h; injection h with h3 h; subst h3; omega
  split at h
  · injection h with h; injection h with h1 h; injection h with h2 h; injection h with h3 h; subst h3; omega
  split at h
  · injection h with h; injection h with h1 h; injection h with h2 h; injection h with h3 h; subst h3; omega
  split at h
  · injection h with h; injection h with h1 h; injection h with h2 h; injection h with h3 h; subst h3; omega
  cases h
theorem spCoded_ok {T : List Nat} {M L e q o0 : Nat} {C O : List Nat} {u q' : Nat} {O' : List Nat} {u' : Nat} (h : spCoded T M L e q O u = .ok (q', O', u')) : q + 2 ≤ q' ∧ q' ≤ e ∧ O.length ≤ O'.length ∧ O'.length ≤ M ∧ u ≤ u' ∧ u' ≤ L := by
  unfold spCoded at h
  split at h
  · cases h
  split at h
  · cases h
  split at h
  · cases h
  cases hl : spLen T e (q + 2 + T.getD (q + 1) 0) (T.getD (q + 1) 0) with
  | some x => rw [hl] at h; dsimp only at h; cases h
  | none =>
    rw [hl] at h; dsimp only at h
    split at h
    · cases h
    split at h
    · cases h
    split at h
    · cases h
    split at h
    · cases h
    have := spBits_ok (by omega) h
    omega
theorem spCoded_er {T : List Nat} {M L e q o0 : Nat} {C O : List Nat} {u k p : Nat} {O' : List Nat} {u' : Nat} (hO : O.length ≤ M) (h : spCoded T M L e q O u = .error (k, p, O', u')) : O.length ≤ O'.length ∧ O'.length ≤ M := by
  unfold spCoded at h
  split at h
  · injection h with h; injection h with h1 h; injection h with h2 h; injection h with h3 h; subst h3; omega
  split at h
  · injection h with h; injection h with h1 h; injection h with h2 h; injection h with h3 h; subst h3; omega
  split at h
  · injection h with h; injection h with h1 h; injection h with h2 h; injection h with h3 h; subst h3; omega
  cases hl : spLen T e (q + 2 + T.getD (q + 1) 0) (T.getD (q + 1) 0) with
  | some x => rw [hl] at h; dsimp only at h; injection h with h; injection h with h1 h; injection h with h2 h; injection h with h3 h; subst h3; omega
  | none =>
    rw [hl] at h; dsimp only at h
    split at h
    · injection h with h; injection h with h1 h; injection h with h2 h; injection h with h3 h; subst h3; omega
    split at h
    · injection h with h; injection h with h1 h; injection h with h2 h; injection h with h3 h; subst h3; omega
    split at h
    · injection h with h; injection h with h1 h; injection h with h2 h; injection h with h3 h; subst h3; omega
    split at h
    · injection h with h; injection h with h1 h; injection h with h2 h; injection h with h3 h; subst h3; omega
    have := spBits_er (by omega) h
    omega
theorem spBody_ok {kd : Nat} {T : List Nat} {M L e q o0 : Nat} {C O : List Nat} {u q' : Nat} {O' : List Nat} {u' : Nat} (h : spBody T M L kd e q o0 C O u = .ok (q', O', u')) : q + 2 ≤ q' ∧ q' ≤ e ∧ O.length ≤ O'.length ∧ O'.length ≤ M ∧ u ≤ u' ∧ u' ≤ L := by
  unfold spBody at h
  by_cases c1 : kd = 1
  · rw [if_pos c1] at h; exact spStore_ok (C := C) (o0 := o0) (q' := q') h
  rw [if_neg c1] at h
  by_cases c2 : kd = 2
  · rw [if_pos c2] at h; exact spRun_ok (C := C) (o0 := o0) (q' := q') h
  rw [if_neg c2] at h
  by_cases c3 : kd = 3
  · rw [if_pos c3] at h; exact spCopy_ok (C := C) (o0 := o0) (q' := q') h
  rw [if_neg c3] at h
  by_cases c5 : kd = 5
  · rw [if_pos c5] at h; exact spNote_ok (C := C) (o0 := o0) (q' := q') h
  rw [if_neg c5] at h
  by_cases c6 : kd = 6
  · rw [if_pos c6] at h; exact spAgain_ok (C := C) (o0 := o0) (q' := q') h
  rw [if_neg c6] at h
  exact spCoded_ok (C := C) (o0 := o0) (q' := q') h
theorem spBody_er {kd : Nat} {T : List Nat} {M L e q o0 : Nat} {C O : List Nat} {u k p : Nat} {O' : List Nat} {u' : Nat} (hO : O.length ≤ M) (h : spBody T M L kd e q o0 C O u = .error (k, p, O', u')) : O.length ≤ O'.length ∧ O'.length ≤ M := by
  unfold spBody at h
  by_cases c1 : kd = 1
  · rw [if_pos c1] at h; exact spStore_er (C := C) (o0 := o0) (k := k) (p := p) hO h
  rw [if_neg c1] at h
  by_cases c2 : kd = 2
  · rw [if_pos c2] at h; exact spRun_er (C := C) (o0 := o0) (k := k) (p := p) hO h
  rw [if_neg c2] at h
  by_cases c3 : kd = 3
  · rw [if_pos c3] at h; exact spCopy_er (C := C) (o0 := o0) (k := k) (p := p) hO h
  rw [if_neg c3] at h
  by_cases c5 : kd = 5
  · rw [if_pos c5] at h; exact spNote_er (C := C) (o0 := o0) (k := k) (p := p) hO h
  rw [if_neg c5] at h
  by_cases c6 : kd = 6
  · rw [if_pos c6] at h; exact spAgain_er (C := C) (o0 := o0) (k := k) (p := p) hO h
  rw [if_neg c6] at h
  exact spCoded_er (C := C) (o0 := o0) (k := k) (p := p) hO h
theorem spNe_ok {T : List Nat} {L Dp d e q u n : Nat} (h : spNe T L Dp d e q u = .ok n) : q + 3 + n ≤ e ∧ u + 3 ≤ L ∧ d < Dp := by
  unfold spNe at h
  repeat (split at h; · cases h)
  cases h; omega
theorem spCl_n {T : List Nat} {f e q : Nat} (h : spCl T f e q = none) : q + 2 = e := by
  unfold spCl at h
  repeat (split at h; · cases h)
  omega
theorem spHd_ok {T : List Nat} {L f e d : Nat} {r x : Rd} (h : spHd T L f e d r = .ok x) : x = (rO r, rU r + 4, rP r + 1, max (rD r) d, rI r) ∧ rU r + 4 ≤ L ∧ f + 2 ≤ e := by
  unfold spHd at h
  repeat (split at h; · cases h)
  cases h
  exact ⟨rfl, by omega, by omega⟩
theorem spHd_er {T : List Nat} {L f e d : Nat} {r x : Rd} {k p : Nat} (h : spHd T L f e d r = .error (k, p, x)) : rO x = rO r ∧ rI x = rI r := by
  unfold spHd at h
  repeat (split at h; · cases h; exact ⟨rfl, rfl⟩)
  cases h
/-- the loop over the pile is the reading -/
theorem flat {T : List Nat} {M L Dp : Nat} {H : List Fr → Rd → Prop} {E : Nat × Nat × Rd → Prop}
    (hs : ∀ fr ps r, (match stepP T M L Dp fr ps r with | .error x => E x | .ok (ps', r') => H ps' r') → H (fr :: ps) r) :
    ∀ (fu : Nat) (fr : Fr) (ps : List Fr) (r : Rd), 0 < fu → fr.e < fr.q + fu → (match itS T M L Dp fu ps.length fr.f fr.e fr.o fr.C fr.q r with | .error x => E x | .ok r' => H (popP fr.e r' ps).1 (popP fr.e r' ps).2) → H (fr :: ps) r := by
  intro fu
  induction fu with
  | zero => intro fr ps r h; exact absurd h (Nat.lt_irrefl 0)
  | succ fu ih =>
    intro fr ps r h0 hf h
    refine hs fr ps r ?_
    unfold itS at h
    unfold stepP
    by_cases c1 : fr.e ≤ fr.q
    · rw [if_pos c1] at h ⊢; exact h
    rw [if_neg c1] at h ⊢
    by_cases c2 : 7 < T.getD fr.q 0
    · rw [if_pos c2] at h ⊢; exact h
    rw [if_neg c2] at h ⊢
    by_cases c3 : T.getD fr.q 0 = 0
    · rw [if_pos c3] at h ⊢
      cases hc : spCl T fr.f fr.e fr.q with
      | some x => rw [hc] at h; exact h
      | none => rw [hc] at h; exact h
    rw [if_neg c3] at h ⊢
    by_cases c4 : T.getD fr.q 0 = 4
    · rw [if_pos c4] at h ⊢
      cases hn : spNe T L Dp ps.length fr.e fr.q (rU r) with
      | error x => rw [hn] at h; exact h
      | ok n =>
        rw [hn] at h
        have hn2 := spNe_ok hn
        dsimp only at h ⊢
        cases hh : spHd T L (fr.q + 3) (fr.q + 3 + n) (ps.length + 1) (rO r, rU r + 3, rP r, rD r, rI r) with
        | error x => rw [hh] at h; exact h
        | ok r1 =>
          rw [hh] at h
          dsimp only at h ⊢
          refine ih ⟨fr.q + 3, fr.q + 3 + n, (rO r).length, [], fr.q + 5, 0, [], 0⟩ (⟨fr.f, fr.e, fr.o, fr.C, fr.q, fr.q, rO r, rU r⟩ :: ps) r1 (by omega) (by dsimp only [Fr.e, Fr.q] at *; omega) ?_
          dsimp only [List.length_cons]
          cases hi : itS T M L Dp fu (ps.length + 1) (fr.q + 3) (fr.q + 3 + n) (rO r).length [] (fr.q + 5) r1 with
          | error x => rw [hi] at h; exact h
          | ok r2 =>
            rw [hi] at h
            exact ih ⟨fr.f, fr.e, fr.o, fr.C ++ [(rO r2).length - fr.o], fr.q + 3 + n, fr.q, rO r, rU r⟩ ps _ (by omega) (by dsimp only [Fr.e, Fr.q] at *; omega) h
    rw [if_neg c4] at h ⊢
    cases hc : spBody T M L (T.getD fr.q 0) fr.e fr.q fr.o fr.C (rO r) (rU r) with
    | error x => rw [hc] at h; exact h
    | ok x =>
      obtain ⟨q', O', u'⟩ := x
      rw [hc] at h
      have := spBody_ok hc
      exact ih ⟨fr.f, fr.e, fr.o, fr.C ++ [O'.length - fr.o], q', fr.a, fr.O0, fr.u0⟩ ps _ (by omega) (by dsimp only [Fr.e, Fr.q] at *; omega) h
/-! the items of the tape's pack -/
abbrev iK (x : It) : Nat := x.1
abbrev iQ (x : It) : Nat := x.2.1
abbrev iE (x : It) : Nat := x.2.2.1
abbrev iC (x : It) : Nat := x.2.2.2.1
abbrev iU (x : It) : Nat := x.2.2.2.2
abbrev z0 : It := (0, 0, 0, 0, 0)
theorem getD_addI (I : List It) (c : It) (j : Nat) : (I ++ [c]).getD j z0 = if j < I.length then I.getD j z0 else if j = I.length then c else z0 := by
  by_cases h : j < I.length
  · rw [if_pos h, List.getD_eq_getElem?_getD, List.getElem?_append_left h, ← List.getD_eq_getElem?_getD]
  · rw [if_neg h, List.getD_eq_getElem?_getD, List.getElem?_append_right (by omega)]
    by_cases h2 : j = I.length
    · rw [if_pos h2, h2]; simp
    · rw [if_neg h2, List.getElem?_eq_none (by simp; omega)]; rfl
/-- the items lie one behind the other; the next begins at qn -/
def ctg (T : List Nat) (I : List It) (qn : Nat) : Prop := (I ≠ [] → 2 + 2 * I.length ≤ qn ∧ qn ≤ T.length) ∧ ∀ i, i < I.length → 2 ≤ iQ (I.getD i z0) ∧ iQ (I.getD i z0) + 2 ≤ iE (I.getD i z0) ∧ iE (I.getD i z0) ≤ T.length ∧ iE (I.getD i z0) = (if i + 1 < I.length then iQ (I.getD (i + 1) z0) else qn)
theorem ctg_nil (T : List Nat) (qn : Nat) : ctg T [] qn := ⟨fun h => absurd rfl h, fun i h => absurd h (Nat.not_lt_zero _)⟩
theorem ctg_add {T : List Nat} {I : List It} {q : Nat} (h : ctg T I q) {q' kd c x : Nat} (h1 : 2 + 2 * I.length ≤ q) (h2 : q + 2 ≤ q') (h3 : q' ≤ T.length) : ctg T (I ++ [(kd, q, q', c, x)]) q' := by
  refine ⟨fun _ => ⟨by simp only [List.length_append, List.length_cons, List.length_nil]; omega, h3⟩, fun i hi => ?_⟩
  simp only [List.length_append, List.length_cons, List.length_nil] at hi
  simp only [List.length_append, List.length_cons, List.length_nil]
  rw [getD_addI, getD_addI]
  by_cases c1 : i < I.length
  · have h4 := h.2 i c1
    rw [if_pos c1, if_pos (show i + 1 < I.length + (0 + 1) by omega)]
    by_cases c2 : i + 1 < I.length
    · rw [if_pos c2] at h4 ⊢; exact h4
    · rw [if_neg c2] at h4 ⊢
      rw [if_pos (show i + 1 = I.length by omega)]
      exact h4
  · rw [if_neg c1, if_pos (show i = I.length by omega), if_neg (show ¬ i + 1 < I.length + (0 + 1) by omega)]
    exact ⟨by show 2 ≤ q; omega, h2, h3, rfl⟩
/-- the items in the rows -/
def itR (I : List It) (gK gP gS gX : Nat → Int) : Prop := ∀ i, i < I.length → gK i = (iK (I.getD i z0) : Nat) ∧ gP i = (iQ (I.getD i z0) : Nat) ∧ gS i = (iC (I.getD i z0) : Nat) ∧ gX i = (iU (I.getD i z0) : Nat)
theorem itR_nil (gK gP gS gX : Nat → Int) : itR [] gK gP gS gX := fun i h => absurd h (Nat.not_lt_zero _)
theorem itR_add {I : List It} {gK gP gS gX : Nat → Int} (h : itR I gK gP gS gX) {n kd q q' c x : Nat} (hn : n = I.length) {k1 p1 s1 x1 : Int} (e1 : k1 = kd) (e2 : p1 = q) (e3 : s1 = c) (e4 : x1 = x) : itR (I ++ [(kd, q, q', c, x)]) (va_up gK n k1) (va_up gP n p1) (va_up gS n s1) (va_up gX n x1) := by
  subst hn e1 e2 e3 e4
  intro i hi
  simp only [List.length_append, List.length_cons, List.length_nil] at hi
  rw [getD_addI]
  by_cases c1 : i < I.length
  · rw [if_pos c1, va_up_n (by omega), va_up_n (by omega), va_up_n (by omega), va_up_n (by omega)]; exact h i c1
  · rw [if_neg c1, if_pos (show i = I.length by omega), va_up_s (by omega), va_up_s (by omega), va_up_s (by omega), va_up_s (by omega)]
    exact ⟨rfl, rfl, rfl, rfl⟩
