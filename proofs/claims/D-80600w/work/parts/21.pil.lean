/-! the reference: the pile in the rows (printed by gen/m13.py) -/
set_option maxRecDepth 100000
def frm (t : Nat) (p : Fr) (gF gE gQ gM gC gN : Nat → Int) : Prop := gF t = (p.f : Nat) ∧ gE t = (p.e : Nat) ∧ gQ t = (p.o : Nat) ∧ gM t = (p.C.length : Nat) ∧ (∀ k, k < p.C.length → gC (600 * t + k) = ((p.C.getD k 0 : Nat) : Int)) ∧ gN t = (p.q : Nat)
def frI (T O : List Nat) (p : Fr) : Prop := p.f + 2 + 2 * p.C.length ≤ p.q ∧ p.q ≤ p.e ∧ p.e ≤ T.length ∧ p.o ≤ O.length ∧ (∀ k, k < p.C.length → p.C.getD k 0 ≤ O.length - p.o)
def bot (T : List Nat) (I : List It) (p : Fr) (ps : List Fr) : Prop := ps = [] → I.length = p.C.length ∧ ctg T I p.q
def pilR (T O : List Nat) (u : Nat) (I : List It) (gF gE gQ gM gC gN gA gI gU : Nat → Int) : Nat → Nat → List Fr → Prop
  | _, _, [] => True
  | cf, ce, p :: pps => (frm pps.length p gF gE gQ gM gC gN ∧ frI T O p ∧ gA pps.length = (p.a : Nat) ∧ gI pps.length = (p.O0.length : Nat) ∧ gU pps.length = (p.u0 : Nat) ∧ p.a = p.q ∧ p.a + 3 = cf ∧ ce ≤ p.e ∧ p.O0.length ≤ O.length ∧ p.u0 ≤ u ∧ T.getD p.a 0 = 4 ∧ cf ≤ ce) ∧ bot T I p pps ∧ pilR T O u I gF gE gQ gM gC gN gA gI gU p.f p.e pps
theorem pil_mono {T O O' : List Nat} {u u' : Nat} {I I' : List It} {gF gE gQ gM gC gN gA gI gU gF' gE' gQ' gM' gC' gN' gA' gI' gU' : Nat → Int} (hT : T.length ≤ 1200) (hO : O.length ≤ O'.length) (hu : u ≤ u') : ∀ (ps : List Fr) {cf ce : Nat}, (ps = [] ∨ I' = I) → (∀ j, j < ps.length → gF' j = gF j ∧ gE' j = gE j ∧ gQ' j = gQ j ∧ gM' j = gM j ∧ gN' j = gN j ∧ gA' j = gA j ∧ gI' j = gI j ∧ gU' j = gU j) → (∀ j k, j < ps.length → k < 600 → gC' (600 * j + k) = gC (600 * j + k)) → pilR T O u I gF gE gQ gM gC gN gA gI gU cf ce ps → pilR T O' u' I' gF' gE' gQ' gM' gC' gN' gA' gI' gU' cf ce ps
  | [], _, _, _, _, _, _ => trivial
  | p :: pps, cf, ce, hI, h1, h2, h => by
    have hI2 : I' = I := by rcases hI with z | z; cases z; exact z
    subst hI2
    obtain ⟨⟨⟨a1, a2, a3, a4, a5, a6⟩, ⟨b1, b2, b3, b4, b5⟩, c1, c2, c3, c4, c5, c6, c7, c8, c9, c10⟩, hb, hr⟩ := h
    obtain ⟨e1, e2, e3, e4, e5, e6, e7, e8⟩ := h1 pps.length (by rw [List.length_cons]; omega)
    refine ⟨⟨⟨e1.trans a1, e2.trans a2, e3.trans a3, e4.trans a4, fun k hk => (h2 _ k (by rw [List.length_cons]; omega) (by omega)).trans (a5 k hk), e5.trans a6⟩, ⟨b1, b2, b3, by omega, fun k hk => by have := b5 k hk; omega⟩, e6.trans c1, e7.trans c2, e8.trans c3, c4, c5, c6, by omega, by omega, c9, c10⟩, hb, ?_⟩
    exact pil_mono hT hO hu pps (Or.inr rfl) (fun j hj => h1 j (by rw [List.length_cons]; omega)) (fun j k hj hk => h2 j k (by rw [List.length_cons]; omega) hk) hr
theorem pil_bot {T O : List Nat} {u : Nat} {I : List It} {gF gE gQ gM gC gN gA gI gU : Nat → Int} : ∀ (ps : List Fr) {fr : Fr}, frm ps.length fr gF gE gQ gM gC gN → bot T I fr ps → pilR T O u I gF gE gQ gM gC gN gA gI gU fr.f fr.e ps → ∃ qn : Nat, ctg T I qn ∧ gM 0 = (I.length : Nat) ∧ gN 0 = (qn : Nat)
  | [], fr, h1, h2, _ => ⟨fr.q, (h2 rfl).2, by rw [(h2 rfl).1]; exact h1.2.2.2.1, h1.2.2.2.2.2⟩
  | p :: pps, _, _, _, h3 => pil_bot pps h3.1.1 h3.2.1 h3.2.2
def endR (T : List Nat) (M : Nat) (r : Rd) (os : Int) (gO gM gN gK gP gS gX : Nat → Int) : Prop := pM (rO r) os gO ∧ (rO r).length ≤ M ∧ gM 0 = ((rI r).length : Nat) ∧ itR (rI r) gK gP gS gX ∧ ∃ qn : Nat, ctg T (rI r) qn ∧ (rI r ≠ [] → gN 0 = (qn : Nat))
def PWs (T : List Nat) (M L Dp : Nat) (fr : Fr) (ps : List Fr) (r : Rd) (sz os : Int) (gT gO gF gE gN gQ gM gC gA gI gU gK gP gS gX : Nat → Int) : Prop := RS T (rO r) (rU r) M L Dp sz os gT gO ∧ 4 * rP r ≤ rU r ∧ rD r ≤ 8 ∧ ps.length ≤ Dp ∧ frm ps.length fr gF gE gQ gM gC gN ∧ frI T (rO r) fr ∧ bot T (rI r) fr ps ∧ pilR T (rO r) (rU r) (rI r) gF gE gQ gM gC gN gA gI gU fr.f fr.e ps ∧ itR (rI r) gK gP gS gX
theorem PWs_end {T : List Nat} {M L Dp : Nat} {fr : Fr} {ps : List Fr} {r r' : Rd} {sz os os' : Int} {gT gO gO' gF gE gN gQ gM gC gA gI gU gK gP gS gX : Nat → Int} (h : PWs T M L Dp fr ps r sz os gT gO gF gE gN gQ gM gC gA gI gU gK gP gS gX) (hp : pM (rO r') os' gO') (hl : (rO r').length ≤ M) (hI : rI r' = rI r) : endR T M r' os' gO' gM gN gK gP gS gX := by
  obtain ⟨-, -, -, -, h1, -, h2, h3, h4⟩ := h
  obtain ⟨qn, q1, q2, q3⟩ := pil_bot ps h1 h2 h3
  exact ⟨hp, hl, by rw [hI]; exact q2, by rw [hI]; exact h4, qn, by rw [hI]; exact q1, fun _ => q3⟩
def OkW (Z : Gz) (b : Nat → Nat) (sd : Int64) (sz rd : Int) (gT gH gL : Nat → Int) (T : List Nat) (M L Dp : Nat) (pl : Int) : List Fr → Rd → va_W → Prop
  | [], r, w => ∃ (os : Int) (gO gF gE gN gQ gM gC gA gI gU gK gP gS gX gD : Nat → Int), endR T M r os gO gM gN gK gP gS gX ∧ w = (wM Z b sd sz os (M : Int) (L : Int) (Dp : Int) 0 pl (rU r : Int) (rD r : Int) (rP r : Int) rd 0 gT gO gF gE gN gQ gM gC gA gI gU gK gP gS gX gD gH gL)
  | fr :: ps, r, w => ∃ (os : Int) (gO gF gE gN gQ gM gC gA gI gU gK gP gS gX gD : Nat → Int), PWs T M L Dp fr ps r sz os gT gO gF gE gN gQ gM gC gA gI gU gK gP gS gX ∧ w = (wM Z b sd sz os (M : Int) (L : Int) (Dp : Int) 0 pl (rU r : Int) (rD r : Int) (rP r : Int) rd ((ps.length : Int) + 1) gT gO gF gE gN gQ gM gC gA gI gU gK gP gS gX gD gH gL)
def ErrW (Z : Gz) (b : Nat → Nat) (sd : Int64) (sz rd : Int) (gT gH gL : Nat → Int) (T : List Nat) (M L Dp : Nat) (pl : Int) : Nat × Nat × Rd → va_W → Prop
  | (k, p, r), w => ∃ (tp : Int) (os : Int) (gO gF gE gN gQ gM gC gA gI gU gK gP gS gX gD : Nat → Int), endR T M r os gO gM gN gK gP gS gX ∧ w = (wM Z b sd sz os (M : Int) (L : Int) (Dp : Int) (k : Int) (p : Int) (rU r : Int) (rD r : Int) (rP r : Int) rd tp gT gO gF gE gN gQ gM gC gA gI gU gK gP gS gX gD gH gL)
/-- the pack below -/
def hdF (ps : List Fr) : Fr := ps.headD (0, 0, 0, [], 0, 0, [], 0)
theorem step_itM {Z : Gz} {b : Nat → Nat} {sd : Int64} {sz rd : Int} {gT gH gL : Nat → Int} {T : List Nat} {M L Dp : Nat} {pl : Int} {fr : Fr} {ps : List Fr} {r : Rd} {os : Int} {gO gF gE gN gQ gM gC gA gI gU gK gP gS gX gD : Nat → Int} {w : va_W} (h : PWs T M L Dp fr ps r sz os gT gO gF gE gN gQ gM gC gA gI gU gK gP gS gX) (h2 : itM Z b sd sz os (M : Int) (L : Int) (Dp : Int) 0 pl (rU r : Int) (rD r : Int) (rP r : Int) rd ((ps.length : Int) + 1) gT gO gF gE gN gQ gM gC gA gI gU gK gP gS gX gD gH gL T M L Dp ps.length fr.f fr.e fr.q fr.o fr.C (rO r) (rU r) (rP r) (rD r) (rI r) (hdF ps).C.length (hdF ps).o (hdF ps).a (hdF ps).O0.length (hdF ps).u0 w) :
    (match stepP T M L Dp fr ps r with | .error x => ErrW Z b sd sz rd gT gH gL T M L Dp pl x w | .ok (ps', r') => OkW Z b sd sz rd gT gH gL T M L Dp pl ps' r' w) := by
  have h' := h
  obtain ⟨hRS, hP4, hD8, hpd, hfr, hfI, hbt, hpil, hit⟩ := h
  obtain ⟨hT, hTl, hT8, hO, hOM, hM4, huL, hL2, hD⟩ := hRS
  obtain ⟨f1, f2, f3, f4, f5, f6⟩ := hfr
  obtain ⟨i1, i2, i3, i4, i5⟩ := hfI
  have hOl := hO.1
  have er : ∀ {k p : Nat} {O' : List Nat} {u' : Nat} {A I U : Nat → Int}, O'.length ≤ M → mErr Z b sd sz os (M : Int) (L : Int) (Dp : Int) 0 pl (rU r : Int) (rD r : Int) (rP r : Int) rd ((ps.length : Int) + 1) gT gO gF gE gN gQ gM gC A I U gK gP gS gX gD gH gL k p O' u' w → ErrW Z b sd sz rd gT gH gL T M L Dp pl (k, p, (O', u', rP r, rD r, rI r)) w := by
    intro k p O' u' A I U hl hm
    obtain ⟨os', gO', gD', hp, rfl⟩ := hm
    exact ⟨_, os', gO', gF, gE, gN, gQ, gM, gC, A, I, U, gK, gP, gS, gX, gD', PWs_end (r' := (O', u', rP r, rD r, rI r)) h' hp hl rfl, rfl⟩
  unfold itM at h2
  unfold stepP
  by_cases c1 : fr.e ≤ fr.q
  · rw [if_pos c1] at h2 ⊢; exact er hOM h2
  rw [if_neg c1] at h2 ⊢
  by_cases c2 : 7 < T.getD fr.q 0
  · rw [if_pos c2] at h2 ⊢; exact er hOM h2
  rw [if_neg c2] at h2 ⊢
  by_cases c3 : T.getD fr.q 0 = 0
  · rw [if_pos c3] at h2 ⊢
    cases hc : spCl T fr.f fr.e fr.q with
    | some x => rw [hc] at h2; exact er hOM h2
    | none =>
      rw [hc] at h2
      have hq2 := spCl_n hc
      dsimp only at h2 ⊢
      cases ps with
      | nil =>
        rcases h2 with ⟨-, rfl⟩ | ⟨z, -⟩
        · exact ⟨os, gO, gF, gE, gN, gQ, gM, gC, va_up gA 0 (fr.q : Int), va_up gI 0 os, va_up gU 0 (rU r : Int), gK, gP, gS, gX, gD, PWs_end h' hO hOM rfl, rfl⟩
        · exact absurd z (by simp)
      | cons p pps =>
        rcases h2 with ⟨z, -⟩ | ⟨-, rfl⟩
        · exact absurd z (by simp)
        obtain ⟨⟨⟨a1, a2, a3, a4, a5, a6⟩, ⟨b1, b2, b3, b4, b5⟩, d1, d2, d3, d4, d5, d6, d7, d8, d9, d10⟩, hb, hr⟩ := hpil
        have hl : (p :: pps).length - 1 = pps.length := rfl
        refine ⟨os, gO, gF, gE, va_up gN pps.length ((fr.q + 2 : Nat) : Int), gQ, va_up gM pps.length ((p.C.length : Int) + 1), va_up gC (600 * pps.length + p.C.length) (os - (p.o : Int)), va_up gA (p :: pps).length (fr.q : Int), va_up gI (p :: pps).length os, va_up gU (p :: pps).length (rU r : Int), eK pps.length gK p.C.length (gT p.a), eK pps.length gP p.C.length (p.a : Int), eK pps.length gS p.C.length (os - (p.O0.length : Nat)), eK pps.length gX p.C.length ((rU r : Int) - (p.u0 : Nat)), gD, ⟨⟨hT, hTl, hT8, hO, hOM, hM4, huL, hL2, hD⟩, hP4, hD8, by rw [List.length_cons] at hpd; omega, ⟨a1, a2, a3, ?_, ?_, ?_⟩, ⟨?_, d6, b3, b4, ?_⟩, ?_, ?_, ?_⟩, by simp only [hl, List.length_cons, Int.natCast_add]; rfl⟩
        · rw [va_up_s rfl]; show (p.C.length : Int) + 1 = ((p.C ++ [_]).length : Nat); rw [List.length_append]; rfl
        · intro k hk
          have hk2 : k < p.C.length + 1 := by have : k < (p.C ++ [(rO r).length - p.o]).length := hk; rw [List.length_append] at this; exact this
          show _ = (((p.C ++ [(rO r).length - p.o]).getD k 0 : Nat) : Int)
          rw [getD_add]
          by_cases e : k = p.C.length
          · rw [va_up_s (by omega), if_neg (by omega), if_pos e]; omega
          · rw [va_up_n (by omega), if_pos (by omega)]; exact a5 k (by omega)
        · rw [va_up_s rfl]; show ((fr.q + 2 : Nat) : Int) = (fr.e : Nat); omega
        · show p.f + 2 + 2 * (p.C ++ [_]).length ≤ fr.e; rw [List.length_append]; show p.f + 2 + 2 * (p.C.length + 1) ≤ _; omega
        · intro k hk
          have hk2 : k < p.C.length + 1 := by have : k < (p.C ++ [(rO r).length - p.o]).length := hk; rw [List.length_append] at this; exact this
          show (p.C ++ [(rO r).length - p.o]).getD k 0 ≤ _
          rw [getD_add]
          by_cases e : k = p.C.length
          · rw [if_neg (by omega), if_pos e]; exact Nat.le_refl _
          · rw [if_pos (by omega)]; exact b5 k (by omega)
        · rintro rfl
          obtain ⟨q1, q2⟩ := hb rfl
          show (rI r ++ [_]).length = (p.C ++ [_]).length ∧ ctg T (rI r ++ [_]) fr.e
          refine ⟨by rw [List.length_append, List.length_append, q1]; rfl, ?_⟩
          exact ctg_add (by rw [d4]; exact q2) (by rw [q1]; omega) (by omega) (by omega)
        · refine pil_mono hTl (Nat.le_refl _) (Nat.le_refl _) pps ?_ (fun j hj => ⟨rfl, rfl, rfl, va_up_n (by omega), va_up_n (by omega), va_up_n (by rw [List.length_cons]; omega), va_up_n (by rw [List.length_cons]; omega), va_up_n (by rw [List.length_cons]; omega)⟩) (fun j k hj hk => va_up_n (by omega)) hr
          cases pps with
          | nil => exact Or.inl rfl
          | cons x y => exact Or.inr rfl
        · cases pps with
          | nil =>
            obtain ⟨q1, q2⟩ := hb rfl
            refine itR_add hit q1.symm ?_ rfl ?_ ?_
            · rw [hT.2 p.a (by omega), d9]
            · show os - _ = (((rO r).length - p.O0.length : Nat) : Int); omega
            · show _ = ((rU r - p.u0 : Nat) : Int); omega
          | cons x y => exact hit
  rw [if_neg c3] at h2 ⊢
  by_cases c4 : T.getD fr.q 0 = 4
  · rw [if_pos c4] at h2 ⊢
    cases hn : spNe T L Dp ps.length fr.e fr.q (rU r) with
    | error x => rw [hn] at h2; exact er hOM h2
    | ok n =>
      rw [hn] at h2
      have hn2 := spNe_ok hn
      dsimp only at h2 ⊢
      cases hh : spHd T L (fr.q + 3) (fr.q + 3 + n) (ps.length + 1) (rO r, rU r + 3, rP r, rD r, rI r) with
      | error x =>
        obtain ⟨k, p, x⟩ := x
        rw [hh] at h2
        have hx := spHd_er hh
        rcases h2 with rfl | rfl
        · exact ⟨_, os, gO, gF, gE, gN, gQ, gM, gC, va_up gA ps.length (fr.q : Int), va_up gI ps.length os, va_up gU ps.length (rU r : Int), gK, gP, gS, gX, gD, PWs_end (r' := x) h' (by rw [hx.1]; exact hO) (by rw [hx.1]; exact hOM) hx.2, rfl⟩
        · refine ⟨_, os, gO, va_up gF (ps.length + 1) ((fr.q + 3 : Nat) : Int), va_up gE (ps.length + 1) ((fr.q + 3 + n : Nat) : Int), va_up gN (ps.length + 1) ((fr.q + 3 + 2 : Nat) : Int), va_up gQ (ps.length + 1) os, va_up gM (ps.length + 1) 0, gC, va_up gA ps.length (fr.q : Int), va_up gI ps.length os, va_up gU ps.length (rU r : Int), gK, gP, gS, gX, gD, ?_, rfl⟩
          obtain ⟨y1, y2, y3, y4, qn, y5, y6⟩ := PWs_end (r' := x) h' (by rw [hx.1]; exact hO) (by rw [hx.1]; exact hOM) hx.2
          exact ⟨y1, y2, (va_up_n (by omega)).trans y3, y4, qn, y5, fun z => (va_up_n (by omega)).trans (y6 z)⟩
      | ok x =>
        rw [hh] at h2
        obtain ⟨rfl, hL4, hf2⟩ := spHd_ok hh
        have hf3 : fr.q + 3 + 2 ≤ fr.q + 3 + n := hf2
        have hL5 : rU r + 3 + 4 ≤ L := hL4
        cases h2
        refine ⟨os, gO, va_up gF (ps.length + 1) ((fr.q + 3 : Nat) : Int), va_up gE (ps.length + 1) ((fr.q + 3 + n : Nat) : Int), va_up gN (ps.length + 1) ((fr.q + 3 + 2 : Nat) : Int), va_up gQ (ps.length + 1) os, va_up gM (ps.length + 1) 0, gC, va_up gA ps.length (fr.q : Int), va_up gI ps.length os, va_up gU ps.length (rU r : Int), gK, gP, gS, gX, gD, ⟨⟨hT, hTl, hT8, hO, hOM, hM4, hL5, hL2, hD⟩, ?_, ?_, ?_, ⟨va_up_s rfl, va_up_s rfl, (va_up_s rfl).trans hOl, va_up_s rfl, fun k hk => absurd hk (Nat.not_lt_zero _), va_up_s rfl⟩, ⟨Nat.le_refl _, hf3, by show fr.q + 3 + n ≤ _; omega, Nat.le_refl _, fun k hk => absurd hk (Nat.not_lt_zero _)⟩, (fun z => absurd z (List.cons_ne_nil _ _)), ?_, hit⟩, rfl⟩
        · show 4 * (rP r + 1) ≤ rU r + 3 + 4; omega
        · show max (rD r) (ps.length + 1) ≤ 8; omega
        · rw [List.length_cons]; omega
        · refine ⟨⟨⟨(va_up_n (by omega)).trans f1, (va_up_n (by omega)).trans f2, (va_up_n (by omega)).trans f3, (va_up_n (by omega)).trans f4, f5, (va_up_n (by omega)).trans f6⟩, ⟨i1, i2, i3, i4, i5⟩, va_up_s rfl, (va_up_s rfl).trans hOl, va_up_s rfl, rfl, rfl, hn2.1, Nat.le_refl _, ?_, c4, ?_⟩, hbt, ?_⟩
          · show rU r ≤ rU r + 3 + 4; omega
          · show fr.q + 3 ≤ fr.q + 3 + n; omega
          · exact pil_mono hTl (Nat.le_refl _) (by show rU r ≤ rU r + 3 + 4; omega) ps (Or.inr rfl) (fun j hj => ⟨va_up_n (by omega), va_up_n (by omega), va_up_n (by omega), va_up_n (by omega), va_up_n (by omega), va_up_n (by omega), va_up_n (by omega), va_up_n (by omega)⟩) (fun j k hj hk => rfl) hpil
  rw [if_neg c4] at h2 ⊢
  cases hc : spBody T M L (T.getD fr.q 0) fr.e fr.q fr.o fr.C (rO r) (rU r) with
  | error x => rw [hc] at h2; exact er (spBody_er hOM hc).2 h2
  | ok x =>
    obtain ⟨q', O', u'⟩ := x
    rw [hc] at h2
    obtain ⟨os', gO', gD', hp, rfl⟩ := h2
    have hb := spBody_ok hc
    have hpl := hp.1
    refine ⟨os', gO', gF, gE, va_up gN ps.length (q' : Int), gQ, va_up gM ps.length ((fr.C.length : Int) + 1), va_up gC (600 * ps.length + fr.C.length) (os' - (fr.o : Int)), va_up gA ps.length (fr.q : Int), va_up gI ps.length os, va_up gU ps.length (rU r : Int), eK ps.length gK fr.C.length (gT fr.q), eK ps.length gP fr.C.length (fr.q : Int), eK ps.length gS fr.C.length (os' - os), eK ps.length gX fr.C.length ((u' : Int) - (rU r : Int)), gD', ⟨⟨hT, hTl, hT8, hp, hb.2.2.2.1, hM4, hb.2.2.2.2.2, hL2, hD⟩, ?_, hD8, hpd, ⟨f1, f2, f3, ?_, ?_, va_up_s rfl⟩, ⟨?_, hb.2.1, i3, by show fr.o ≤ O'.length; omega, ?_⟩, ?_, ?_, ?_⟩, rfl⟩
    · show 4 * rP r ≤ u'; omega
    · rw [va_up_s rfl]; show (fr.C.length : Int) + 1 = ((fr.C ++ [_]).length : Nat); rw [List.length_append]; rfl
    · intro k hk
      have hk2 : k < fr.C.length + 1 := by have : k < (fr.C ++ [O'.length - fr.o]).length := hk; rw [List.length_append] at this; exact this
      show _ = (((fr.C ++ [O'.length - fr.o]).getD k 0 : Nat) : Int)
      rw [getD_add]
      by_cases e : k = fr.C.length
      · rw [va_up_s (by omega), if_neg (by omega), if_pos e]; omega
      · rw [va_up_n (by omega), if_pos (by omega)]; exact f5 k (by omega)
    · show fr.f + 2 + 2 * (fr.C ++ [_]).length ≤ q'; rw [List.length_append]; show fr.f + 2 + 2 * (fr.C.length + 1) ≤ _; omega
    · intro k hk
      have hk2 : k < fr.C.length + 1 := by have : k < (fr.C ++ [O'.length - fr.o]).length := hk; rw [List.length_append] at this; exact this
      show (fr.C ++ [O'.length - fr.o]).getD k 0 ≤ O'.length - fr.o
      rw [getD_add]
      by_cases e : k = fr.C.length
      · rw [if_neg (by omega), if_pos e]; exact Nat.le_refl _
      · rw [if_pos (by omega)]; have := i5 k (by omega); omega
    · rintro rfl
      obtain ⟨q1, q2⟩ := hbt rfl
      show (rI r ++ [_]).length = (fr.C ++ [_]).length ∧ ctg T (rI r ++ [_]) q'
      refine ⟨by rw [List.length_append, List.length_append, q1]; rfl, ?_⟩
      exact ctg_add q2 (by rw [q1]; omega) (by omega) (by omega)
    · refine pil_mono hTl hb.2.2.1 hb.2.2.2.2.1 ps ?_ (fun j hj => ⟨rfl, rfl, rfl, va_up_n (by omega), va_up_n (by omega), va_up_n (by omega), va_up_n (by omega), va_up_n (by omega)⟩) (fun j k hj hk => va_up_n (by omega)) hpil
      cases ps with
      | nil => exact Or.inl rfl
      | cons x y => exact Or.inr rfl
    · cases ps with
      | nil =>
        obtain ⟨q1, q2⟩ := hbt rfl
        refine itR_add hit q1.symm ?_ rfl ?_ ?_
        · rw [hT.2 fr.q (by omega)]
        · show os' - os = ((O'.length - (rO r).length : Nat) : Int); omega
        · show _ = ((u' - rU r : Nat) : Int); omega
      | cons x y => exact hit
