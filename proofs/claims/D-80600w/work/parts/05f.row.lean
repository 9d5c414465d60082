/-! rows: a lambda's object is called; null -/
set_option maxRecDepth 100000
section GR3
variable {Z : Gz} {X : Gx} {ws : va_W} {k n pc : Nat} {lo : List (Nat × Value)} {st rest : List Value} {y : MethodName} {cc : ByteArray} {nL : Nat} {ret : Option FieldType} {R : Room}
theorem go_run5 {w00 : va_W} {post0 : Option Value → va_W → Prop} {px0 : Nat → va_W → Prop} (hK : GK Z X y cc nL ret R) (hR : GR Z X w00 post0 px0 R) {w0 : va_W} {post : Option Value → va_W → Prop} {px : Nat → va_W → Prop} {mc ms : Nat} {a : Array Value} {f : va_W → va_W} (hs : gSel ws w0 f)
    (hr : ∀ (H : Heap) (locs : List Loc) (ls : Array Slot), va_P (zD Z) vwCl ws H → va_D (xA X) ws → va_S (xA X) (xs X).heap H locs → lv_has ls (xc X).maxLocals lo → vx_Run5 (xp X) (zL Z) (xe X) (xR X) (xs X) (xm X) (xa X) (xb X) (xk X) (xc X) H locs k n mc ms (F0 (xm X) pc ls st) rest (gQc Z w0 post (va_A w0 H.size) a) (gXC Z w0 px (va_A w0 H.size)) (va_A w0 H.size))
    (hcl : k + mc ≤ R.cells ∧ n + ms ≤ R.slots)
    (kx : ∀ (q : Nat) (w1 : va_W) (nw : List Nat), px q w1 → w1.map Prod.fst = w0.map Prod.fst ++ nw → (∃ nw', (f w1).map Prod.fst = w00.map Prod.fst ++ nw') ∧ px0 q (f w1))
    (kk : ∀ (v : Option Value) (w1 : va_W), post v w1 → GO Z X (f w1) (k + mc) (n + ms) (pc + 5) lo (v.toList ++ rest)) : GO Z X ws k n pc lo st := by
  obtain ⟨isC, hsel, hnd, hf9⟩ := hs
  intro H locs ls hP hD hS hl T hT X'
  have hFr := va_free hD hS hK.2.2.2.2.2.2.1 isC hsel
  rcases hr H locs ls hP hD hS hl T hT X' with ⟨v, st₀, t, T', L, h0, X2, hL, e1, e2, ⟨⟨v', w1, nw, hv, hp, hnw, hP1, hD1⟩, hF⟩, go⟩ | ⟨q, st₀, t, T', L, E, ce, h0, X2, hL, e1, e2, ⟨⟨hE, w1, nw, hp, hnw, hP1, hD1⟩, hF⟩, hce, hcv, hcl9, go⟩
  · cases hv
    obtain ⟨k1, k2, k3⟩ := vx_keep h0 e1 hS (fun q _ h => hFr q h) hFr hL hF
    rw [← e1] at hP1
    obtain ⟨hP2, hD2⟩ := va_rep_ok hP hD hsel hnd hnw k2 hFr hP1 hD1
    rw [hf9 w1 nw hnw] at hP2 hD2
    obtain ⟨t2, a1, b1⟩ := kk v w1 hp T'.heap (locs ++ L) ls hP2 hD2 k3 hl T' rfl X2
    exact ⟨t2, go t2 a1, b1⟩
  · obtain ⟨k1, k2, k3⟩ := vx_keep h0 e1 hS (fun q _ h => hFr q h) hFr hL hF
    rw [← e1] at hP1
    obtain ⟨hP2, hD2⟩ := va_rep_ok hP hD hsel hnd hnw k2 hFr hP1 hD1
    rw [hf9 w1 nw hnw] at hP2 hD2
    obtain ⟨⟨nw', hx⟩, hpx⟩ := kx q w1 nw hp hnw
    have ho : vx_W (xp X) (zL Z) (xe X) (xR X) (xs X) (xm X) (xa X) (xb X) (xk X) (xc X) T'.heap (locs ++ L) (k + mc) (n + ms) (xQ X) (F0 (xm X) pc ls rest) q := by
      rw [show xQ X = _ from hR.1]
      exact vx_out (E := E) (ce := ce) (fun x hx => (hR.2 x hx).elim) hK.2.2.2.2.2.2.2.1 (by rw [e1]; exact hce) hcv hcl9 (fun t9 ht9 hA9 => ⟨⟨hE, _, nw', hpx, hx, by rw [ht9]; exact hP2, hD2⟩, k3.F ht9⟩) k3.2.2 hcl.1 hcl.2
    obtain ⟨t2, a1, b1⟩ := ho T' rfl X2
    exact ⟨t2, go.trans a1, b1⟩
theorem go_lam {w00 : va_W} {post0 : Option Value → va_W → Prop} {px0 : Nat → va_W → Prop} (hK : GK Z X y cc nL ret R) (hR : GR Z X w00 post0 px0 R) (pc : Nat) {k8 : Nat} (hk8 : k8 < 8) {bytes : ByteArray} {maxL idx cnt b : Nat} {rm : Room} {w0 : va_W} {post : Option Value → va_W → Prop} {px : Nat → va_W → Prop}
    (hC : CT Z (yLam k8) bytes maxL none rm [.ref b] w0 post px) (hT : Cond.code (yLam k8) bytes maxL none ∈ lw_all) (hst0 : Cond.static (yLam k8) ∈ lw_all) (hini : Cond.initialized "BombFamilies" ∈ lw_all) (hlk : Cond.methodLink y.cls idx yKind ∈ lw_all) (hd : decode cc pc = .ok (.invokeinterface idx cnt, 5)) {f : va_W → va_W} (hs : gSel ws w0 f)
    (hst : st = .ref b :: .ref (zA Z k8) :: rest) (hsm : (rest.map fun v => v.category).sum ≤ 8) (hcl : k + rm.cells ≤ R.cells ∧ n + rm.slots ≤ R.slots) (hRf : rm.frames + 2 ≤ R.frames ∧ 8 + (2 + 11) + (8 + (maxL + 11) + rm.locals) ≤ R.locals) (hnone : ∀ v w, post v w → v = none)
    (kx : ∀ (q : Nat) (w1 : va_W) (nw : List Nat), px q w1 → w1.map Prod.fst = w0.map Prod.fst ++ nw → (∃ nw', (f w1).map Prod.fst = w00.map Prod.fst ++ nw') ∧ px0 q (f w1))
    (kk : ∀ (v : Option Value) (w1 : va_W), post v w1 → GO Z X (f w1) (k + rm.cells) (n + rm.slots) (pc + 5) lo (v.toList ++ rest)) : GO Z X ws k n pc lo st := by
  subst hst
  refine go_run5 hK hR (mc := rm.cells) (ms := rm.slots) (a := #[.ref b]) hs (fun H locs ls hP hD hS hl => ?_) hcl kx kk
  obtain ⟨isC, hsel, hnd, -⟩ := hs
  obtain ⟨g1, g2, g3⟩ := hK.2.2.2.2.2.2.2.2.2.1.2.2.2.2.1 k8 hk8
  have hts := hK.2.2.2.2.1
  rw [← hK.2.2.2.2.2.2.2.2.2.2.1] at hRf hcl
  exact lam_run hk8 ⟨hK.1, hK.2.1, hK.2.2.1, hK.2.2.2.1, hts⟩ (hC H.size) (lw_meth hT) (List.mem_cons_self) rfl rfl g1 (hS.2.1 _ g3 g2) (hts _ hlk) (va_Nw.use rfl (hK.2.2.2.2.2.2.2.2.2.1.2.2.2.1 _ q152n)) (va_Nw.use rfl (hK.2.2.2.2.2.2.2.2.2.1.2.2.1 _ q151n)) (hts _ hst0) (hts _ hini) ⟨gPc_blind, gPc_call hK hP hD hS hsel hnd⟩ (fun st v t h => by obtain ⟨⟨v1, w1, nw, hv, hp, -⟩, -⟩ := h; cases hv; exact hnone _ _ hp) (hl.1.trans hK.2.2.1) hsm hd hcl hRf
end GR3
