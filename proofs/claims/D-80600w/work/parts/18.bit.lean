/-! the reference: bits (printed by gen/m10.py) -/
set_option maxRecDepth 100000
theorem spSym_e {T : List Nat} {e a m f fst bp len code : Nat} (h : e ≤ bp / 8) : spSym T e a m (f + 1) fst bp len code = .error (3, e) := by unfold spSym; rw [if_pos h]
theorem spSym_k {T : List Nat} {e a m f fst bp len code k : Nat} (h : bp / 8 < e) (hf : fndN T a m (len + 1) (2 * code + bitT T bp) m = some k) : spSym T e a m (f + 1) fst bp len code = .ok (k, bp + 1) := by unfold spSym; rw [if_neg (by omega), hf]
theorem spSym_n {T : List Nat} {e a m f fst bp len code : Nat} (h : bp / 8 < e) (hf : fndN T a m (len + 1) (2 * code + bitT T bp) m = none) (hl : lngN T a (len + 1) m = true) : spSym T e a m (f + 1) fst bp len code = spSym T e a m f fst (bp + 1) (len + 1) (2 * code + bitT T bp) := by rw [spSym, if_neg (by omega), hf]; dsimp only; rw [if_pos hl]
theorem spSym_x {T : List Nat} {e a m f fst bp len code : Nat} (h : bp / 8 < e) (hf : fndN T a m (len + 1) (2 * code + bitT T bp) m = none) (hl : lngN T a (len + 1) m = false) : spSym T e a m (f + 1) fst bp len code = .error (7, fst) := by rw [spSym, if_neg (by omega), hf]; dsimp only; rw [if_neg (by rw [hl]; decide)]
theorem fndN_mono {T : List Nat} {a m len code k n : Nat} (h : fndN T a m len code n = some k) : ∀ d, fndN T a m len code (n + d) = some k
  | 0 => h
  | d + 1 => by
    rw [← Nat.add_assoc]
    unfold fndN
    rw [fndN_mono h d]
theorem tail_step {x k : Nat} : x % 2 ^ (k + 1) = x % 2 ^ k + 2 ^ k * (x / 2 ^ k % 2) := Nat.mod_pow_succ
abbrev rm_X6_bits : Room := { frames := 2, cells := 0, slots := 0, locals := 44 }
set_option maxHeartbeats 8000000 in
theorem ct_X6_bits (Z : Gz) (b : Nat → Nat) {sd : Int64} {sz os pl re pk rd : Int} {gT gO gF gE gN gQ gM gC gA gI gU gK gP gS gX gD gH gL : Nat → Int} {T O C : List Nat} {u M L Dp t f e q o0 : Nat} (hRS : RS T O u M L Dp sz os gT gO) (hSC : SCp T O C u t f e q o0 os gF gE gQ gM gC gA gI gU) {u2 sy a m bg n : Nat} (hsy : a = sy + m ∧ a + m ≤ T.length) (hm8 : m ≤ 8) (hls : ∀ k, k < m → T.getD (a + k) 0 ≤ 7) (hgd : goodT T a m) (hbg : q < bg ∧ bg ≤ e) (hn : O.length + n ≤ M) (hDD : ∀ k, k < m → 0 < T.getD (a + k) 0 → gD k = ((basC T a m (T.getD (a + k) 0) + cntL T a (T.getD (a + k) 0) k : Nat) : Int)) : CT Z yX6_bits cX6_bits 15 none rm_X6_bits [.ref (b 0), .int (iI (t : Int)), .int (iI (sy : Int)), .int (iI (m : Int)), .int (iI (bg : Int)), .int (iI (n : Int))] (wM Z b sd sz os (M : Int) (L : Int) (Dp : Int) 0 pl (u2 : Int) re pk rd ((t : Int) + 1) gT gO gF gE gN gQ gM gC gA gI gU gK gP gS gX gD gH gL) (fun v w => v = none ∧ mRes Z b sd sz os (M : Int) (L : Int) (Dp : Int) 0 pl (u : Int) re pk rd ((t : Int) + 1) gT gO gF gE gN gQ gM gC gA gI gU gK gP gS gX gD gH gL t C.length o0 q (spBits T e sy a m n (8 * bg) O u2) w) nopx := by
  refine ct_of (by decide) (Nat.le_of_ble_eq_true rfl) (fun X hK hR => ?_)
  show GO Z X (wM Z b sd sz os (M : Int) (L : Int) (Dp : Int) 0 pl (u2 : Int) re pk rd ((t : Int) + 1) gT gO gF gE gN gQ gM gC gA gI gU gK gP gS gX gD gH gL) 0 0 0 [(0, .ref (b 0)), (1, .int (iI (t : Int))), (2, .int (iI (sy : Int))), (3, .int (iI (m : Int))), (4, .int (iI (bg : Int))), (5, .int (iI (n : Int)))] []
  obtain ⟨hT, hTl, hT8, hO, hOM, hM4, huL, hL2, hD8⟩ := hRS
  obtain ⟨ht8, hF, hE, hQ, hM, hC, hfq, hqe, heT, ho0, hA, hI, hU⟩ := hSC
  have hOl := hO.1
  have hE' : gE ((t : Int) + 1 - 1).toNat = (e : Int) := by rw [show ((t : Int) + 1 - 1).toNat = t by omega]; exact hE
  have hD9 := hDD
  have hbc := basC_le T a m hm8
  refine go_bipush hK 0 dX6_bits_0 (by decide) ?_
  refine go_iload hK 2 4 dX6_bits_2 rfl ?_
  refine go_imul hK 4 dX6_bits_4 ?_
  refine go_istore (lo' := [(6, .int (iI (8 * (bg : Int)))), (0, .ref (b 0)), (1, .int (iI (t : Int))), (2, .int (iI (sy : Int))), (3, .int (iI (m : Int))), (4, .int (iI (bg : Int))), (5, .int (iI (n : Int)))]) hK 5 6 dX6_bits_5 (by decide) rfl ?_
  refine go_iconst hK 7 dX6_bits_7 ?_
  refine go_istore (lo' := [(7, .int (iI 0)), (6, .int (iI (8 * (bg : Int)))), (0, .ref (b 0)), (1, .int (iI (t : Int))), (2, .int (iI (sy : Int))), (3, .int (iI (m : Int))), (4, .int (iI (bg : Int))), (5, .int (iI (n : Int)))]) hK 8 7 dX6_bits_8 (by decide) rfl ?_
  rw [show (8 : Int) * (bg : Int) = ((8 * bg : Nat) : Int) by push_cast; rfl]
  refine go_lo [2, 3, 4, 5, 7, 1, 0] rfl ?_
  have lp : ∀ (fu : Nat) (i : Nat) (bp : Nat) (ki : Int) (O1 : List Nat) (os1 : Int) (gO1 : Nat → Int), (i ≤ n) → (ki = i) → (O1.length = O.length + i) → (8 * bg ≤ bp ∧ bp ≤ 8 * e) → (pM O1 os1 gO1) → (spBitN T e sy a m n (8 * bg) O = spBitN T e sy a m (n - i) bp O1) → n - i < fu → GO Z X (wM Z b sd sz os1 (M : Int) (L : Int) (Dp : Int) 0 pl (u2 : Int) re pk rd ((t : Int) + 1) gT gO1 gF gE gN gQ gM gC gA gI gU gK gP gS gX gD gH gL) 0 0 10 [(0, .ref (b 0)), (1, .int (iI (t : Int))), (2, .int (iI (sy : Int))), (3, .int (iI (m : Int))), (5, .int (iI (n : Int))), (6, .int (iI (bp : Int))), (7, .int (iI ki))] [] := by
    intro fu
    induction fu with
    | zero => intro i bp ki O1 os1 gO1 hi hki hO1 hbp hp1 hB hm; exact absurd hm (Nat.not_lt_zero _)
    | succ fu ih =>
      intro i bp ki O1 os1 gO1 hi hki hO1 hbp hp1 hB hm
      have hz1 := hp1.1
      refine go_iload hK 10 7 dX6_bits_10 rfl ?_
      refine go_iload hK 12 5 dX6_bits_12 rfl ?_
      refine go_icmp_ge (tgt := 222) hK 14 dX6_bits_14 (by decide) (by omega) (by omega) (fun c1 => ?_) (fun c1 => ?_)
      · have hn0 : n - i = 0 := by omega
        rw [hn0] at hB
        have hB2 : spBitN T e sy a m n (8 * bg) O = .ok (bp, O1) := hB
        refine go_iload hK 222 6 dX6_bits_222 rfl ?_
        refine go_bipush hK 224 dX6_bits_224 (by decide) ?_
        refine go_iadd hK 226 dX6_bits_226 ?_
        refine go_bipush hK 227 dX6_bits_227 (by decide) ?_
        refine go_idiv hK 229 dX6_bits_229 (by omega) (by decide) ?_
        refine go_istore (lo' := [(7, .int (iI (((bp : Int) + 7) / 8))), (0, .ref (b 0)), (1, .int (iI (t : Int))), (2, .int (iI (sy : Int))), (3, .int (iI (m : Int))), (5, .int (iI (n : Int))), (6, .int (iI (bp : Int)))]) hK 230 7 dX6_bits_230 (by decide) rfl ?_
        rw [show ((bp : Int) + 7) / 8 = (((bp + 7) / 8 : Nat) : Int) by omega]
        refine go_lo [1, 2, 6, 0] rfl ?_
        have lp4 : ∀ (fu : Nat) (cu : Nat), (bp ≤ cu) → (cu ≤ 8 * ((bp + 7) / 8)) → (T.getD (bp / 8) 0 % 2 ^ (8 - bp % 8) = T.getD (bp / 8) 0 % 2 ^ (bp / 8 * 8 + 8 - cu)) → 8 * ((bp + 7) / 8) - cu < fu → GO Z X (wM Z b sd sz os1 (M : Int) (L : Int) (Dp : Int) 0 pl (u2 : Int) re pk rd ((t : Int) + 1) gT gO1 gF gE gN gQ gM gC gA gI gU gK gP gS gX gD gH gL) 0 0 232 [(0, .ref (b 0)), (1, .int (iI (t : Int))), (6, .int (iI (cu : Int))), (7, .int (iI (((bp + 7) / 8 : Nat) : Int)))] [] := by
          intro fu
          induction fu with
          | zero => intro cu hcu hcu2 hX hm; exact absurd hm (Nat.not_lt_zero _)
          | succ fu ih4 =>
            intro cu hcu hcu2 hX hm
            refine go_iload hK 232 6 dX6_bits_232 rfl ?_
            refine go_bipush hK 234 dX6_bits_234 (by decide) ?_
            refine go_iload hK 236 7 dX6_bits_236 rfl ?_
            refine go_imul hK 238 dX6_bits_238 ?_
            refine go_icmp_ge (tgt := 285) hK 239 dX6_bits_239 (by decide) (by omega) (by omega) (fun c2 => ?_) (fun c2 => ?_)
            · have ht9 : spTail T bp = none := by unfold spTail; rw [if_neg]; rintro ⟨q1, q2⟩; rw [hX, show bp / 8 * 8 + 8 - cu = 0 by omega] at q2; simp [Nat.mod_one] at q2
              refine go_aload_n hK 285 0 dX6_bits_285 rfl rfl ?_
              refine go_iload_n hK 286 1 dX6_bits_286 rfl rfl ?_
              refine go_iload hK 287 7 dX6_bits_287 rfl ?_
              refine go_callV (As := [.int (iI (t : Int)), .int (iI (((bp + 7) / 8 : Nat) : Int))]) (rest := []) hK hR 289 (ct_X6_ends Z b (q0 := q) hM (by omega) hQ (by omega) hA hI hU (by omega)) cw_X6_163 gn_X6_ends rfl dX6_bits_289 gSel_all ⟨0, 5, _, _, _, rfl, rfl⟩ rfl (Nat.le_of_ble_eq_true rfl) ⟨(by decide), (by decide)⟩ (fun _ _ _ h => h.elim) (fun v w1 h => ?_)
              obtain ⟨rfl, rfl⟩ := h
              show GO Z X (wM Z b sd sz os1 (M : Int) (L : Int) (Dp : Int) 0 pl (u2 : Int) re pk rd ((t : Int) + 1) gT gO1 gF gE (va_up gN t (((bp + 7) / 8 : Nat) : Int)) gQ (va_up gM t ((C.length : Int) + 1)) (va_up gC (600 * t + C.length) (os1 - (o0 : Int))) gA gI gU (eK t gK C.length (gT q)) (eK t gP C.length (q : Int)) (eK t gS C.length (os1 - os)) (eK t gX C.length ((u2 : Int) - (u : Int))) gD gH gL) 0 0 292 [(0, .ref (b 0)), (1, .int (iI (t : Int))), (6, .int (iI (cu : Int))), (7, .int (iI (((bp + 7) / 8 : Nat) : Int)))] []
              exact go_vret hK hR.1 292 [] dX6_bits_292 (by decide) (by decide) rfl ⟨rfl, mRes_ok (q' := (bp + 7) / 8) (O' := O1) (u' := u2) (by unfold spBits; rw [hB2]; dsimp only; rw [ht9]) ⟨_, _, _, hp1, rfl⟩⟩
            · refine go_aload_n hK 242 0 dX6_bits_242 rfl rfl ?_
              refine go_get hK 243 fl_X6_7 dX6_bits_243 0 rfl rfl ?_
              refine go_iload hK 246 6 dX6_bits_246 rfl ?_
              refine go_bipush hK 248 dX6_bits_248 (by decide) ?_
              refine go_idiv hK 250 dX6_bits_250 (by omega) (by decide) ?_
              refine go_iald hK 251 dX6_bits_251 1 rfl (by omega) (by decide) ?_
              rw [show gT ((cu : Int) / 8).toNat = ((T.getD (cu / 8) 0 : Nat) : Int) from hT.2 (cu / 8) (by omega)]
              have h89 := hT8 (cu / 8)
              have hdv := Nat.div_le_self (T.getD (cu / 8) 0) (2 ^ (7 - cu % 8))
              refine go_bipush hK 252 dX6_bits_252 (by decide) ?_
              refine go_iload hK 254 6 dX6_bits_254 rfl ?_
              refine go_bipush hK 256 dX6_bits_256 (by decide) ?_
              refine go_irem hK 258 dX6_bits_258 (by omega) (by decide) ?_
              refine go_isub hK 259 dX6_bits_259 ?_
              refine go_ishr (c := ((T.getD (cu / 8) 0 / 2 ^ (7 - cu % 8) : Nat) : Int)) hK 260 dX6_bits_260 (by rw [show (7 - (cu : Int) % 8) = ((7 - cu % 8 : Nat) : Int) by omega, iI_shr ⟨by omega, by omega⟩ (by omega)]; rfl) ?_
              have e8 : cu / 8 = bp / 8 := by omega
              have hts := tail_step (x := T.getD (bp / 8) 0) (k := 7 - cu % 8)
              rw [show 7 - cu % 8 + 1 = bp / 8 * 8 + 8 - cu by omega] at hts
              refine go_iconst hK 261 dX6_bits_261 ?_
              refine go_iand hK 262 dX6_bits_262 (iI_1 _) ?_
              refine go_iconst hK 263 dX6_bits_263 ?_
              refine go_icmp_ne (tgt := 279) hK 264 dX6_bits_264 (by decide) (by omega) (by decide) (fun c9 => ?_) (fun c9 => ?_)
              · refine go_iinc (lo' := [(6, .int (iI ((cu : Int) + 1))), (0, .ref (b 0)), (1, .int (iI (t : Int))), (7, .int (iI (((bp + 7) / 8 : Nat) : Int)))]) hK 279 6 2 dX6_bits_279 rfl (by decide) rfl ?_
                refine go_goto (tgt := 232) hK 282 dX6_bits_282 (by decide) ?_
                refine go_lo [1, 2, 0, 3] rfl ?_
                have z9 : T.getD (bp / 8) 0 / 2 ^ (7 - cu % 8) % 2 = 0 := by rw [e8] at c9; omega
                simp only [z9, Nat.mul_zero, Nat.add_zero] at hts
                exact ih4 (cu + 1) (by omega) (by omega) (by rw [hX, hts, show 7 - cu % 8 = bp / 8 * 8 + 8 - (cu + 1) by omega]) (by omega)
              · have z9 : T.getD (bp / 8) 0 / 2 ^ (7 - cu % 8) % 2 = 1 := by rw [e8] at c9; omega
                rw [z9, Nat.mul_one] at hts
                have hpp := Nat.two_pow_pos (7 - cu % 8)
                have ht9 : spTail T bp = some (8, bp / 8) := by unfold spTail; rw [if_pos]; exact ⟨by omega, by omega⟩
                refine go_aload_n hK 267 0 dX6_bits_267 rfl rfl ?_
                refine go_bipush hK 268 dX6_bits_268 (by decide) ?_
                refine go_iload hK 270 6 dX6_bits_270 rfl ?_
                refine go_bipush hK 272 dX6_bits_272 (by decide) ?_
                refine go_idiv hK 274 dX6_bits_274 (by omega) (by decide) ?_
                refine go_callV (As := [.int (iI 8), .int (iI ((cu : Int) / 8))]) (rest := []) hK hR 275 (ct_X6_fails Z b) cw_X6_131 gn_X6_fails rfl dX6_bits_275 gSel_all ⟨0, 5, _, _, _, rfl, rfl⟩ rfl (Nat.le_of_ble_eq_true rfl) ⟨(by decide), (by decide)⟩ (fun _ _ _ h => h.elim) (fun v w1 h => ?_)
                obtain ⟨rfl, rfl⟩ := h
                show GO Z X (wM Z b sd sz os1 (M : Int) (L : Int) (Dp : Int) 8 ((cu : Int) / 8) (u2 : Int) re pk rd ((t : Int) + 1) gT gO1 gF gE gN gQ gM gC gA gI gU gK gP gS gX gD gH gL) 0 0 278 [(0, .ref (b 0)), (1, .int (iI (t : Int))), (6, .int (iI (cu : Int))), (7, .int (iI (((bp + 7) / 8 : Nat) : Int)))] []
                rw [show (cu : Int) / 8 = ((bp / 8 : Nat) : Int) by omega]
                exact go_vret hK hR.1 278 [] dX6_bits_278 (by decide) (by decide) rfl ⟨rfl, mRes_er (k := 8) (p := bp / 8) (O' := O1) (u' := u2) (by unfold spBits; rw [hB2]; dsimp only; rw [ht9]) ⟨_, _, _, hp1, rfl⟩⟩
        exact lp4 _ bp (by omega) (by omega) (by rw [show 8 - bp % 8 = bp / 8 * 8 + 8 - bp by omega]) (Nat.lt_succ_self _)
      · obtain ⟨r, hr⟩ : ∃ r, n - i = r + 1 := ⟨n - i - 1, by omega⟩
        rw [hr] at hB
        have hB2 : spBitN T e sy a m n (8 * bg) O = (match spSym T e a m 9 (bp / 8) bp 0 0 with | .error (k, p) => .error (k, p, O1) | .ok (k, bp') => spBitN T e sy a m r bp' (O1 ++ [T.getD (sy + k) 0])) := hB
        refine go_iconst hK 17 dX6_bits_17 ?_
        refine go_istore (lo' := [(8, .int (iI 0)), (0, .ref (b 0)), (1, .int (iI (t : Int))), (2, .int (iI (sy : Int))), (3, .int (iI (m : Int))), (5, .int (iI (n : Int))), (6, .int (iI (bp : Int))), (7, .int (iI ki))]) hK 18 8 dX6_bits_18 (by decide) rfl ?_
        refine go_iconst hK 20 dX6_bits_20 ?_
        refine go_istore (lo' := [(9, .int (iI 0)), (8, .int (iI 0)), (0, .ref (b 0)), (1, .int (iI (t : Int))), (2, .int (iI (sy : Int))), (3, .int (iI (m : Int))), (5, .int (iI (n : Int))), (6, .int (iI (bp : Int))), (7, .int (iI ki))]) hK 21 9 dX6_bits_21 (by decide) rfl ?_
        refine go_iload hK 23 6 dX6_bits_23 rfl ?_
        refine go_bipush hK 25 dX6_bits_25 (by decide) ?_
        refine go_idiv hK 27 dX6_bits_27 (by omega) (by decide) ?_
        refine go_istore (lo' := [(10, .int (iI ((bp : Int) / 8))), (9, .int (iI 0)), (8, .int (iI 0)), (0, .ref (b 0)), (1, .int (iI (t : Int))), (2, .int (iI (sy : Int))), (3, .int (iI (m : Int))), (5, .int (iI (n : Int))), (6, .int (iI (bp : Int))), (7, .int (iI ki))]) hK 28 10 dX6_bits_28 (by decide) rfl ?_
        refine go_iconst hK 30 dX6_bits_30 ?_
        refine go_istore (lo' := [(11, .int (iI 0)), (10, .int (iI ((bp : Int) / 8))), (9, .int (iI 0)), (8, .int (iI 0)), (0, .ref (b 0)), (1, .int (iI (t : Int))), (2, .int (iI (sy : Int))), (3, .int (iI (m : Int))), (5, .int (iI (n : Int))), (6, .int (iI (bp : Int))), (7, .int (iI ki))]) hK 31 11 dX6_bits_31 (by decide) rfl ?_
        rw [show (bp : Int) / 8 = ((bp / 8 : Nat) : Int) by omega]
        refine go_lo [4, 5, 6, 7, 8, 10, 9, 3, 2, 1, 0] rfl ?_
        have lp2 : ∀ (fu : Nat) (cu : Nat) (cd : Nat) (len : Nat) (f : Nat), (f + 1 + len = 9) → (len ≤ 6) → (bp ≤ cu ∧ cu ≤ 8 * e) → (endC T a m len ≤ cd) → (cd < 2 ^ len) → (spSym T e a m 9 (bp / 8) bp 0 0 = spSym T e a m (f + 1) (bp / 8) cu len cd) → 7 - len < fu → GO Z X (wM Z b sd sz os1 (M : Int) (L : Int) (Dp : Int) 0 pl (u2 : Int) re pk rd ((t : Int) + 1) gT gO1 gF gE gN gQ gM gC gA gI gU gK gP gS gX gD gH gL) 0 0 33 [(0, .ref (b 0)), (1, .int (iI (t : Int))), (2, .int (iI (sy : Int))), (3, .int (iI (m : Int))), (5, .int (iI (n : Int))), (7, .int (iI ki)), (6, .int (iI (cu : Int))), (8, .int (iI (cd : Int))), (9, .int (iI (len : Int))), (10, .int (iI ((bp / 8 : Nat) : Int))), (11, .int (iI 0))] [] := by
          intro fu
          induction fu with
          | zero => intro cu cd len f hf hlen hcu h1 h2 hS hm; exact absurd hm (Nat.not_lt_zero _)
          | succ fu ih2 =>
            intro cu cd len f hf hlen hcu h1 h2 hS hm
            refine go_iload hK 33 11 dX6_bits_33 rfl ?_
            refine go_if_ne (tgt := 216) hK 35 dX6_bits_35 (by decide) (by decide) (fun q => absurd q (by decide)) (fun _ => ?_)
            refine go_aload_n hK 38 0 dX6_bits_38 rfl rfl ?_
            refine go_iload hK 39 6 dX6_bits_39 rfl ?_
            refine go_bipush hK 41 dX6_bits_41 (by decide) ?_
            refine go_idiv hK 43 dX6_bits_43 (by omega) (by decide) ?_
            refine go_iconst hK 44 dX6_bits_44 ?_
            refine go_callV (As := [.int (iI ((cu : Int) / 8)), .int (iI 1)]) (rest := []) hK hR 45 (ct_X6_has Z b rfl (by omega) hE' (by omega) (by omega)) cw_X6_149 gn_X6_has rfl dX6_bits_45 gSel_all ⟨0, 5, _, _, _, rfl, rfl⟩ rfl (Nat.le_of_ble_eq_true rfl) ⟨(by decide), (by decide)⟩ (fun _ _ _ h => h.elim) (fun v w1 h => ?_)
            rcases h with ⟨rfl, ch3, rfl⟩ | ⟨rfl, ch3, rfl⟩
            · show GO Z X (wM Z b sd sz os1 (M : Int) (L : Int) (Dp : Int) 0 pl (u2 : Int) re pk rd ((t : Int) + 1) gT gO1 gF gE gN gQ gM gC gA gI gU gK gP gS gX gD gH gL) 0 0 48 [(0, .ref (b 0)), (1, .int (iI (t : Int))), (2, .int (iI (sy : Int))), (3, .int (iI (m : Int))), (5, .int (iI (n : Int))), (7, .int (iI ki)), (6, .int (iI (cu : Int))), (8, .int (iI (cd : Int))), (9, .int (iI (len : Int))), (10, .int (iI ((bp / 8 : Nat) : Int))), (11, .int (iI 0))] [.int (iI 1)]
              refine go_if_ne (tgt := 52) hK 48 dX6_bits_48 (by decide) (by decide) (fun _ => ?_) (fun q => absurd q (by decide))
              refine go_iconst hK 52 dX6_bits_52 ?_
              refine go_iload hK 53 8 dX6_bits_53 rfl ?_
              refine go_imul hK 55 dX6_bits_55 ?_
              refine go_aload_n hK 56 0 dX6_bits_56 rfl rfl ?_
              refine go_get hK 57 fl_X6_7 dX6_bits_57 0 rfl rfl ?_
              refine go_iload hK 60 6 dX6_bits_60 rfl ?_
              refine go_bipush hK 62 dX6_bits_62 (by decide) ?_
              refine go_idiv hK 64 dX6_bits_64 (by omega) (by decide) ?_
              refine go_iald hK 65 dX6_bits_65 1 rfl (by omega) (by decide) ?_
              rw [show gT ((cu : Int) / 8).toNat = ((T.getD (cu / 8) 0 : Nat) : Int) from hT.2 (cu / 8) (by omega)]
              have h89 := hT8 (cu / 8)
              have hbt := bitT_lt T cu
              refine go_bipush hK 66 dX6_bits_66 (by decide) ?_
              refine go_iload hK 68 6 dX6_bits_68 rfl ?_
              refine go_bipush hK 70 dX6_bits_70 (by decide) ?_
              refine go_irem hK 72 dX6_bits_72 (by omega) (by decide) ?_
              refine go_isub hK 73 dX6_bits_73 ?_
              refine go_ishr (c := ((T.getD (cu / 8) 0 / 2 ^ (7 - cu % 8) : Nat) : Int)) hK 74 dX6_bits_74 (by rw [show (7 - (cu : Int) % 8) = ((7 - cu % 8 : Nat) : Int) by omega, iI_shr ⟨by omega, by omega⟩ (by omega)]; rfl) ?_
              refine go_iconst hK 75 dX6_bits_75 ?_
              refine go_iand hK 76 dX6_bits_76 (iI_1 _) ?_
              show GO Z X (wM Z b sd sz os1 (M : Int) (L : Int) (Dp : Int) 0 pl (u2 : Int) re pk rd ((t : Int) + 1) gT gO1 gF gE gN gQ gM gC gA gI gU gK gP gS gX gD gH gL) 0 0 77 [(0, .ref (b 0)), (1, .int (iI (t : Int))), (2, .int (iI (sy : Int))), (3, .int (iI (m : Int))), (5, .int (iI (n : Int))), (7, .int (iI ki)), (6, .int (iI (cu : Int))), (8, .int (iI (cd : Int))), (9, .int (iI (len : Int))), (10, .int (iI ((bp / 8 : Nat) : Int))), (11, .int (iI 0))] [.int (iI ((bitT T cu : Nat) : Int)), .int (iI (2 * (cd : Int)))]
              refine go_iadd hK 77 dX6_bits_77 ?_
              rw [show 2 * (cd : Int) + ((bitT T cu : Nat) : Int) = ((2 * cd + bitT T cu : Nat) : Int) by push_cast; rfl]
              refine go_istore (lo' := [(8, .int (iI ((2 * cd + bitT T cu : Nat) : Int))), (0, .ref (b 0)), (1, .int (iI (t : Int))), (2, .int (iI (sy : Int))), (3, .int (iI (m : Int))), (5, .int (iI (n : Int))), (7, .int (iI ki)), (6, .int (iI (cu : Int))), (9, .int (iI (len : Int))), (10, .int (iI ((bp / 8 : Nat) : Int))), (11, .int (iI 0))]) hK 78 8 dX6_bits_78 (by decide) rfl ?_
              refine go_iinc (lo' := [(9, .int (iI ((len : Int) + 1))), (8, .int (iI ((2 * cd + bitT T cu : Nat) : Int))), (0, .ref (b 0)), (1, .int (iI (t : Int))), (2, .int (iI (sy : Int))), (3, .int (iI (m : Int))), (5, .int (iI (n : Int))), (7, .int (iI ki)), (6, .int (iI (cu : Int))), (10, .int (iI ((bp / 8 : Nat) : Int))), (11, .int (iI 0))]) hK 80 9 8 dX6_bits_80 rfl (by decide) rfl ?_
              refine go_iinc (lo' := [(6, .int (iI ((cu : Int) + 1))), (9, .int (iI ((len : Int) + 1))), (8, .int (iI ((2 * cd + bitT T cu : Nat) : Int))), (0, .ref (b 0)), (1, .int (iI (t : Int))), (2, .int (iI (sy : Int))), (3, .int (iI (m : Int))), (5, .int (iI (n : Int))), (7, .int (iI ki)), (10, .int (iI ((bp / 8 : Nat) : Int))), (11, .int (iI 0))]) hK 83 6 8 dX6_bits_83 rfl (by decide) rfl ?_
              refine go_iconst hK 86 dX6_bits_86 ?_
              refine go_istore (lo' := [(12, .int (iI 0)), (6, .int (iI ((cu : Int) + 1))), (9, .int (iI ((len : Int) + 1))), (8, .int (iI ((2 * cd + bitT T cu : Nat) : Int))), (0, .ref (b 0)), (1, .int (iI (t : Int))), (2, .int (iI (sy : Int))), (3, .int (iI (m : Int))), (5, .int (iI (n : Int))), (7, .int (iI ki)), (10, .int (iI ((bp / 8 : Nat) : Int))), (11, .int (iI 0))]) hK 87 12 dX6_bits_87 (by decide) rfl ?_
              refine go_iconst hK 89 dX6_bits_89 ?_
              refine go_istore (lo' := [(13, .int (iI 0)), (12, .int (iI 0)), (6, .int (iI ((cu : Int) + 1))), (9, .int (iI ((len : Int) + 1))), (8, .int (iI ((2 * cd + bitT T cu : Nat) : Int))), (0, .ref (b 0)), (1, .int (iI (t : Int))), (2, .int (iI (sy : Int))), (3, .int (iI (m : Int))), (5, .int (iI (n : Int))), (7, .int (iI ki)), (10, .int (iI ((bp / 8 : Nat) : Int))), (11, .int (iI 0))]) hK 90 13 dX6_bits_90 (by decide) rfl ?_
              refine go_lo (lo' := [(0, .ref (b 0)), (1, .int (iI (t : Int))), (2, .int (iI (sy : Int))), (3, .int (iI (m : Int))), (5, .int (iI (n : Int))), (7, .int (iI ki)), (6, .int (iI ((cu + 1 : Nat) : Int))), (8, .int (iI ((2 * cd + bitT T cu : Nat) : Int))), (9, .int (iI ((len + 1 : Nat) : Int))), (10, .int (iI ((bp / 8 : Nat) : Int))), (11, .int (iI 0)), (12, .int (iI 0)), (13, .int (iI 0))]) [5, 6, 7, 8, 9, 10, 2, 4, 3, 11, 12, 1, 0] rfl ?_
              obtain ⟨cd2, hcd2⟩ : ∃ x, x = 2 * cd + bitT T cu := ⟨_, rfl⟩
              rw [← hcd2]
              have hc2 : cd2 < 2 ^ (len + 1) := by rw [Nat.pow_succ]; omega
              have hp7 : 2 ^ (len + 1) ≤ 2 ^ 7 := Nat.pow_le_pow_right (by omega) (by omega)
              have fnd : ∀ (x kx os2 : Int) (gO2 : Nat → Int) (k0 : Nat), iR kx → fndN T a m (len + 1) cd2 m = some k0 → pM (O1 ++ [T.getD (sy + k0) 0]) os2 gO2 → GO Z X (wM Z b sd sz os2 (M : Int) (L : Int) (Dp : Int) 0 pl (u2 : Int) re pk rd ((t : Int) + 1) gT gO2 gF gE gN gQ gM gC gA gI gU gK gP gS gX gD gH gL) 0 0 92 [(0, .ref (b 0)), (1, .int (iI (t : Int))), (2, .int (iI (sy : Int))), (3, .int (iI (m : Int))), (5, .int (iI (n : Int))), (7, .int (iI ki)), (6, .int (iI ((cu + 1 : Nat) : Int))), (8, .int (iI (cd2 : Int))), (9, .int (iI ((len + 1 : Nat) : Int))), (10, .int (iI ((bp / 8 : Nat) : Int))), (11, .int (iI 1)), (12, .int (iI x)), (13, .int (iI kx))] [] := by
                intro x kx os2 gO2 k0 hkx hf9 hp2
                replace hS := hS.trans (spSym_k (by omega) (by rw [← hcd2]; exact hf9))
                rw [hS] at hB2
                refine go_iload hK 92 13 dX6_bits_92 rfl ?_
                refine go_iload_n hK 94 3 dX6_bits_94 rfl rfl ?_
                refine go_icmp_ge (tgt := 194) hK 95 dX6_bits_95 (by decide) hkx (by omega) (fun c4 => ?_) (fun c4 => ?_)
                · refine go_iload hK 194 11 dX6_bits_194 rfl ?_
                  refine go_if_ne (tgt := 213) hK 196 dX6_bits_196 (by decide) (by decide) (fun _ => ?_) (fun q => absurd q (by decide))
                  refine go_goto (tgt := 33) hK 213 dX6_bits_213 (by decide) ?_
                  refine go_iload hK 33 11 dX6_bits_33 rfl ?_
                  refine go_if_ne (tgt := 216) hK 35 dX6_bits_35 (by decide) (by decide) (fun _ => ?_) (fun q => absurd q (by decide))
                  refine go_iinc (lo' := [(7, .int (iI (ki + 1))), (0, .ref (b 0)), (1, .int (iI (t : Int))), (2, .int (iI (sy : Int))), (3, .int (iI (m : Int))), (5, .int (iI (n : Int))), (6, .int (iI ((cu + 1 : Nat) : Int))), (8, .int (iI (cd2 : Int))), (9, .int (iI ((len + 1 : Nat) : Int))), (10, .int (iI ((bp / 8 : Nat) : Int))), (11, .int (iI 1)), (12, .int (iI x)), (13, .int (iI kx))]) hK 216 7 5 dX6_bits_216 rfl (by decide) rfl ?_
                  refine go_goto (tgt := 10) hK 219 dX6_bits_219 (by decide) ?_
                  refine go_lo [1, 2, 3, 4, 5, 6, 0] rfl ?_
                  exact ih (i + 1) (cu + 1) (ki + 1) (O1 ++ [T.getD (sy + k0) 0]) os2 gO2 (by omega) (by omega) (by rw [List.length_append]; simp; omega) ⟨by omega, by omega⟩ hp2 (by rw [hB2, show n - (i + 1) = r by omega]) (by omega)
                · refine go_iload hK 98 11 dX6_bits_98 rfl ?_
                  refine go_if_ne (tgt := 194) hK 100 dX6_bits_100 (by decide) (by decide) (fun _ => ?_) (fun q => absurd q (by decide))
                  refine go_iload hK 194 11 dX6_bits_194 rfl ?_
                  refine go_if_ne (tgt := 213) hK 196 dX6_bits_196 (by decide) (by decide) (fun _ => ?_) (fun q => absurd q (by decide))
                  refine go_goto (tgt := 33) hK 213 dX6_bits_213 (by decide) ?_
                  refine go_iload hK 33 11 dX6_bits_33 rfl ?_
                  refine go_if_ne (tgt := 216) hK 35 dX6_bits_35 (by decide) (by decide) (fun _ => ?_) (fun q => absurd q (by decide))
                  refine go_iinc (lo' := [(7, .int (iI (ki + 1))), (0, .ref (b 0)), (1, .int (iI (t : Int))), (2, .int (iI (sy : Int))), (3, .int (iI (m : Int))), (5, .int (iI (n : Int))), (6, .int (iI ((cu + 1 : Nat) : Int))), (8, .int (iI (cd2 : Int))), (9, .int (iI ((len + 1 : Nat) : Int))), (10, .int (iI ((bp / 8 : Nat) : Int))), (11, .int (iI 1)), (12, .int (iI x)), (13, .int (iI kx))]) hK 216 7 5 dX6_bits_216 rfl (by decide) rfl ?_
                  refine go_goto (tgt := 10) hK 219 dX6_bits_219 (by decide) ?_
                  refine go_lo [1, 2, 3, 4, 5, 6, 0] rfl ?_
                  exact ih (i + 1) (cu + 1) (ki + 1) (O1 ++ [T.getD (sy + k0) 0]) os2 gO2 (by omega) (by omega) (by rw [List.length_append]; simp; omega) ⟨by omega, by omega⟩ hp2 (by rw [hB2, show n - (i + 1) = r by omega]) (by omega)
              have lp3 : ∀ (fu : Nat) (j : Nat) (k : Int), (j ≤ m) → (k = j) → (fndN T a m (len + 1) cd2 j = none) → m - j < fu → GO Z X (wM Z b sd sz os1 (M : Int) (L : Int) (Dp : Int) 0 pl (u2 : Int) re pk rd ((t : Int) + 1) gT gO1 gF gE gN gQ gM gC gA gI gU gK gP gS gX gD gH gL) 0 0 92 [(0, .ref (b 0)), (1, .int (iI (t : Int))), (2, .int (iI (sy : Int))), (3, .int (iI (m : Int))), (5, .int (iI (n : Int))), (7, .int (iI ki)), (6, .int (iI ((cu + 1 : Nat) : Int))), (8, .int (iI (cd2 : Int))), (9, .int (iI ((len + 1 : Nat) : Int))), (10, .int (iI ((bp / 8 : Nat) : Int))), (11, .int (iI 0)), (12, .int (iI ((if begN T a m (len + 1) cd2 j = true then 1 else 0 : Nat) : Int))), (13, .int (iI k))] [] := by
                intro fu
                induction fu with
                | zero => intro j k hj hk hf3 hm; exact absurd hm (Nat.not_lt_zero _)
                | succ fu ih3 =>
                  intro j k hj hk hf3 hm
                  refine go_iload hK 92 13 dX6_bits_92 rfl ?_
                  refine go_iload_n hK 94 3 dX6_bits_94 rfl rfl ?_
                  refine go_icmp_ge (tgt := 194) hK 95 dX6_bits_95 (by decide) (by omega) (by omega) (fun c5 => ?_) (fun c5 => ?_)
                  · obtain rfl : j = m := by omega
                    have hul := end_step h1 (by rw [← hcd2]; exact hf3)
                    rw [← hcd2] at hul
                    have hbl := beg_lng hgd hls (by omega) hul hc2
                    rw [hbl]
                    refine go_iload hK 194 11 dX6_bits_194 rfl ?_
                    refine go_if_ne (tgt := 213) hK 196 dX6_bits_196 (by decide) (by decide) (fun q => absurd q (by decide)) (fun _ => ?_)
                    refine go_iload hK 199 12 dX6_bits_199 rfl ?_
                    refine go_if_ne (tgt := 213) hK 201 dX6_bits_201 (by decide) (by split <;> decide) (fun cb => ?_) (fun cb => ?_)
                    · have hl9 : lngN T a (len + 1) j = true := by cases hq : lngN T a (len + 1) j with | true => rfl | false => rw [hq] at cb; exact absurd rfl cb
                      obtain ⟨kl, kl1, kl2⟩ := lngN_iff.mp hl9
                      have hkl7 := hls kl kl1
                      replace hS := hS.trans (spSym_n (by omega) (by rw [← hcd2]; exact hf3) hl9)
                      rw [← hcd2] at hS
                      refine go_goto (tgt := 33) hK 213 dX6_bits_213 (by decide) ?_
                      refine go_lo [0, 1, 2, 3, 4, 5, 6, 7, 8, 9, 10] rfl ?_
                      obtain ⟨f2, rfl⟩ : ∃ f2, f = f2 + 1 := ⟨f - 1, by omega⟩
                      exact ih2 (cu + 1) cd2 (len + 1) f2 (by omega) (by omega) ⟨by omega, by omega⟩ hul hc2 hS (by omega)
                    · have hl9 : lngN T a (len + 1) j = false := by cases hq : lngN T a (len + 1) j with | false => rfl | true => rw [hq] at cb; exact absurd cb (by decide)
                      replace hS := hS.trans (spSym_x (by omega) (by rw [← hcd2]; exact hf3) hl9)
                      rw [hS] at hB2
                      refine go_aload_n hK 204 0 dX6_bits_204 rfl rfl ?_
                      refine go_bipush hK 205 dX6_bits_205 (by decide) ?_
                      refine go_iload hK 207 10 dX6_bits_207 rfl ?_
                      refine go_callV (As := [.int (iI 7), .int (iI ((bp / 8 : Nat) : Int))]) (rest := []) hK hR 209 (ct_X6_fails Z b) cw_X6_131 gn_X6_fails rfl dX6_bits_209 gSel_all ⟨0, 5, _, _, _, rfl, rfl⟩ rfl (Nat.le_of_ble_eq_true rfl) ⟨(by decide), (by decide)⟩ (fun _ _ _ h => h.elim) (fun v w1 h => ?_)
                      obtain ⟨rfl, rfl⟩ := h
                      show GO Z X (wM Z b sd sz os1 (M : Int) (L : Int) (Dp : Int) 7 ((bp / 8 : Nat) : Int) (u2 : Int) re pk rd ((t : Int) + 1) gT gO1 gF gE gN gQ gM gC gA gI gU gK gP gS gX gD gH gL) 0 0 212 [(0, .ref (b 0)), (1, .int (iI (t : Int))), (2, .int (iI (sy : Int))), (3, .int (iI (j : Int))), (5, .int (iI (n : Int))), (7, .int (iI ki)), (6, .int (iI ((cu + 1 : Nat) : Int))), (8, .int (iI (cd2 : Int))), (9, .int (iI ((len + 1 : Nat) : Int))), (10, .int (iI ((bp / 8 : Nat) : Int))), (11, .int (iI 0)), (12, .int (iI ((if lngN T a (len + 1) j = true then 1 else 0 : Nat) : Int))), (13, .int (iI k))] []
                      exact go_vret hK hR.1 212 [] dX6_bits_212 (by decide) (by decide) rfl ⟨rfl, mRes_er (by unfold spBits; rw [hB2]) ⟨_, _, _, hp1, rfl⟩⟩
                  · refine go_iload hK 98 11 dX6_bits_98 rfl ?_
                    refine go_if_ne (tgt := 194) hK 100 dX6_bits_100 (by decide) (by decide) (fun q => absurd q (by decide)) (fun _ => ?_)
                    refine go_aload_n hK 103 0 dX6_bits_103 rfl rfl ?_
                    refine go_get hK 104 fl_X6_7 dX6_bits_104 0 rfl rfl ?_
                    refine go_iload_n hK 107 2 dX6_bits_107 rfl rfl ?_
                    refine go_iload_n hK 108 3 dX6_bits_108 rfl rfl ?_
                    refine go_iadd hK 109 dX6_bits_109 ?_
                    refine go_iload hK 110 13 dX6_bits_110 rfl ?_
                    refine go_iadd hK 112 dX6_bits_112 ?_
                    refine go_iald hK 113 dX6_bits_113 1 rfl (by omega) (by decide) ?_
                    rw [show gT (((sy : Int) + (m : Int)) + k).toNat = ((T.getD (a + j) 0 : Nat) : Int) by rw [show ((sy : Int) + (m : Int) + k).toNat = a + j by omega]; exact hT.2 (a + j) (by omega)]
                    have h79 := hls j (by omega)
                    have hbj := hbc (T.getD (a + j) 0)
                    have hcj := cntL_le T a (T.getD (a + j) 0) j
                    have hpj : 2 ^ T.getD (a + j) 0 ≤ 2 ^ 7 := Nat.pow_le_pow_right (by omega) h79
                    refine go_istore (lo' := [(14, .int (iI ((T.getD (a + j) 0 : Nat) : Int))), (0, .ref (b 0)), (1, .int (iI (t : Int))), (2, .int (iI (sy : Int))), (3, .int (iI (m : Int))), (5, .int (iI (n : Int))), (7, .int (iI ki)), (6, .int (iI ((cu + 1 : Nat) : Int))), (8, .int (iI (cd2 : Int))), (9, .int (iI ((len + 1 : Nat) : Int))), (10, .int (iI ((bp / 8 : Nat) : Int))), (11, .int (iI 0)), (12, .int (iI ((if begN T a m (len + 1) cd2 j = true then 1 else 0 : Nat) : Int))), (13, .int (iI k))]) hK 114 14 dX6_bits_114 (by decide) rfl ?_
                    refine go_iload hK 116 14 dX6_bits_116 rfl ?_
                    refine go_iload hK 118 9 dX6_bits_118 rfl ?_
                    refine go_icmp_ne (tgt := 151) hK 120 dX6_bits_120 (by decide) (by omega) (by omega) (fun c6 => ?_) (fun c6 => ?_)
                    · have nf9 : ¬ (T.getD (a + j) 0 = len + 1 ∧ basC T a m (len + 1) + cntL T a (len + 1) j = cd2) := fun q => by omega
                      have jn : GO Z X (wM Z b sd sz os1 (M : Int) (L : Int) (Dp : Int) 0 pl (u2 : Int) re pk rd ((t : Int) + 1) gT gO1 gF gE gN gQ gM gC gA gI gU gK gP gS gX gD gH gL) 0 0 186 [(14, .int (iI ((T.getD (a + j) 0 : Nat) : Int))), (0, .ref (b 0)), (1, .int (iI (t : Int))), (2, .int (iI (sy : Int))), (3, .int (iI (m : Int))), (5, .int (iI (n : Int))), (7, .int (iI ki)), (6, .int (iI ((cu + 1 : Nat) : Int))), (8, .int (iI (cd2 : Int))), (9, .int (iI ((len + 1 : Nat) : Int))), (10, .int (iI ((bp / 8 : Nat) : Int))), (11, .int (iI 0)), (12, .int (iI ((if begN T a m (len + 1) cd2 j = true then 1 else 0 : Nat) : Int))), (13, .int (iI k))] [.int (iI ((if begN T a m (len + 1) cd2 (j + 1) = true then 1 else 0 : Nat) : Int))] := by
                        refine go_istore (lo' := [(12, .int (iI ((if begN T a m (len + 1) cd2 (j + 1) = true then 1 else 0 : Nat) : Int))), (14, .int (iI ((T.getD (a + j) 0 : Nat) : Int))), (0, .ref (b 0)), (1, .int (iI (t : Int))), (2, .int (iI (sy : Int))), (3, .int (iI (m : Int))), (5, .int (iI (n : Int))), (7, .int (iI ki)), (6, .int (iI ((cu + 1 : Nat) : Int))), (8, .int (iI (cd2 : Int))), (9, .int (iI ((len + 1 : Nat) : Int))), (10, .int (iI ((bp / 8 : Nat) : Int))), (11, .int (iI 0)), (13, .int (iI k))]) hK 186 12 dX6_bits_186 (by decide) rfl ?_
                        refine go_iinc (lo' := [(13, .int (iI (k + 1))), (12, .int (iI ((if begN T a m (len + 1) cd2 (j + 1) = true then 1 else 0 : Nat) : Int))), (14, .int (iI ((T.getD (a + j) 0 : Nat) : Int))), (0, .ref (b 0)), (1, .int (iI (t : Int))), (2, .int (iI (sy : Int))), (3, .int (iI (m : Int))), (5, .int (iI (n : Int))), (7, .int (iI ki)), (6, .int (iI ((cu + 1 : Nat) : Int))), (8, .int (iI (cd2 : Int))), (9, .int (iI ((len + 1 : Nat) : Int))), (10, .int (iI ((bp / 8 : Nat) : Int))), (11, .int (iI 0))]) hK 188 13 13 dX6_bits_188 rfl (by decide) rfl ?_
                        refine go_goto (tgt := 92) hK 191 dX6_bits_191 (by decide) ?_
                        refine go_lo [3, 4, 5, 6, 7, 8, 9, 10, 11, 12, 13, 1, 0] rfl ?_
                        exact ih3 (j + 1) (k + 1) (by omega) (by omega) (by unfold fndN; rw [hf3]; dsimp only; rw [if_neg nf9]) (by omega)
                      refine go_iload hK 151 12 dX6_bits_151 rfl ?_
                      refine go_if_ne (tgt := 181) hK 153 dX6_bits_153 (by decide) (by split <;> decide) (fun cw => ?_) (fun cw => ?_)
                      · refine go_iconst hK 181 dX6_bits_181 ?_
                        refine go_goto (tgt := 186) hK 182 dX6_bits_182 (by decide) ?_
                        have hq : begN T a m (len + 1) cd2 j = true := by cases hq : begN T a m (len + 1) cd2 j with | true => rfl | false => rw [hq] at cw; exact absurd rfl cw
                        rw [show begN T a m (len + 1) cd2 (j + 1) = true by unfold begN; rw [hq]; rfl] at jn
                        exact jn
                      · have hq : begN T a m (len + 1) cd2 j = false := by cases hq : begN T a m (len + 1) cd2 j with | false => rfl | true => rw [hq] at cw; exact absurd cw (by decide)
                        refine go_iload hK 156 14 dX6_bits_156 rfl ?_
                        refine go_iload hK 158 9 dX6_bits_158 rfl ?_
                        refine go_icmp_le (tgt := 185) hK 160 dX6_bits_160 (by decide) (by omega) (by omega) (fun c7 => ?_) (fun c7 => ?_)
                        · refine go_iconst hK 185 dX6_bits_185 ?_
                          rw [show begN T a m (len + 1) cd2 (j + 1) = false by unfold begN; rw [hq, decide_eq_false (show ¬ (len + 1 < T.getD (a + j) 0) by omega)]; rfl] at jn
                          exact jn
                        · refine go_aload_n hK 163 0 dX6_bits_163 rfl rfl ?_
                          refine go_get hK 164 fl_X6_59 dX6_bits_164 0 rfl rfl ?_
                          refine go_iload hK 167 13 dX6_bits_167 rfl ?_
                          refine go_iald hK 169 dX6_bits_169 16 rfl (by omega) (by decide) ?_
                          rw [show gD k.toNat = ((basC T a m (T.getD (a + j) 0) + cntL T a (T.getD (a + j) 0) j : Nat) : Int) by rw [show k.toNat = j by omega]; exact hD9 j (by omega) (by omega)]
                          refine go_iload hK 170 14 dX6_bits_170 rfl ?_
                          refine go_iload hK 172 9 dX6_bits_172 rfl ?_
                          refine go_isub hK 174 dX6_bits_174 ?_
                          have hdj := Nat.div_le_self (basC T a m (T.getD (a + j) 0) + cntL T a (T.getD (a + j) 0) j) (2 ^ (T.getD (a + j) 0 - (len + 1)))
                          have hdp : (0 : Int) ≤ (((basC T a m (T.getD (a + j) 0) + cntL T a (T.getD (a + j) 0) j) / 2 ^ (T.getD (a + j) 0 - (len + 1)) : Nat) : Int) := Int.natCast_nonneg _
                          refine go_ishr (c := (((basC T a m (T.getD (a + j) 0) + cntL T a (T.getD (a + j) 0) j) / 2 ^ (T.getD (a + j) 0 - (len + 1)) : Nat) : Int)) hK 175 dX6_bits_175 (by rw [show ((T.getD (a + j) 0 : Nat) : Int) - ((len + 1 : Nat) : Int) = ((T.getD (a + j) 0 - (len + 1) : Nat) : Int) by omega, iI_shr ⟨by omega, by omega⟩ (by omega)]; rfl) ?_
                          refine go_iload hK 176 8 dX6_bits_176 rfl ?_
                          refine go_icmp_ne (tgt := 185) hK 178 dX6_bits_178 (by decide) (by omega) (by omega) (fun c8 => ?_) (fun c8 => ?_)
                          · refine go_iconst hK 185 dX6_bits_185 ?_
                            rw [show begN T a m (len + 1) cd2 (j + 1) = false by unfold begN; rw [hq, decide_eq_false (show ¬ ((basC T a m (T.getD (a + j) 0) + cntL T a (T.getD (a + j) 0) j) / 2 ^ (T.getD (a + j) 0 - (len + 1)) = cd2) by omega), Bool.and_false]; rfl] at jn
                            exact jn
                          · refine go_iconst hK 181 dX6_bits_181 ?_
                            refine go_goto (tgt := 186) hK 182 dX6_bits_182 (by decide) ?_
                            rw [show begN T a m (len + 1) cd2 (j + 1) = true by unfold begN; rw [decide_eq_true (show len + 1 < T.getD (a + j) 0 by omega), decide_eq_true (show (basC T a m (T.getD (a + j) 0) + cntL T a (T.getD (a + j) 0) j) / 2 ^ (T.getD (a + j) 0 - (len + 1)) = cd2 by omega), Bool.and_true, Bool.or_true]] at jn
                            exact jn
                    · refine go_aload_n hK 123 0 dX6_bits_123 rfl rfl ?_
                      refine go_get hK 124 fl_X6_59 dX6_bits_124 0 rfl rfl ?_
                      refine go_iload hK 127 13 dX6_bits_127 rfl ?_
                      refine go_iald hK 129 dX6_bits_129 16 rfl (by omega) (by decide) ?_
                      rw [show gD k.toNat = ((basC T a m (T.getD (a + j) 0) + cntL T a (T.getD (a + j) 0) j : Nat) : Int) by rw [show k.toNat = j by omega]; exact hD9 j (by omega) (by omega)]
                      have e9 : T.getD (a + j) 0 = len + 1 := by omega
                      refine go_iload hK 130 8 dX6_bits_130 rfl ?_
                      refine go_icmp_ne (tgt := 151) hK 132 dX6_bits_132 (by decide) (by omega) (by omega) (fun cc => ?_) (fun cc => ?_)
                      · have nf9 : ¬ (T.getD (a + j) 0 = len + 1 ∧ basC T a m (len + 1) + cntL T a (len + 1) j = cd2) := fun q => by rw [e9] at cc; omega
                        have jn : GO Z X (wM Z b sd sz os1 (M : Int) (L : Int) (Dp : Int) 0 pl (u2 : Int) re pk rd ((t : Int) + 1) gT gO1 gF gE gN gQ gM gC gA gI gU gK gP gS gX gD gH gL) 0 0 186 [(14, .int (iI ((T.getD (a + j) 0 : Nat) : Int))), (0, .ref (b 0)), (1, .int (iI (t : Int))), (2, .int (iI (sy : Int))), (3, .int (iI (m : Int))), (5, .int (iI (n : Int))), (7, .int (iI ki)), (6, .int (iI ((cu + 1 : Nat) : Int))), (8, .int (iI (cd2 : Int))), (9, .int (iI ((len + 1 : Nat) : Int))), (10, .int (iI ((bp / 8 : Nat) : Int))), (11, .int (iI 0)), (12, .int (iI ((if begN T a m (len + 1) cd2 j = true then 1 else 0 : Nat) : Int))), (13, .int (iI k))] [.int (iI ((if begN T a m (len + 1) cd2 (j + 1) = true then 1 else 0 : Nat) : Int))] := by
                          refine go_istore (lo' := [(12, .int (iI ((if begN T a m (len + 1) cd2 (j + 1) = true then 1 else 0 : Nat) : Int))), (14, .int (iI ((T.getD (a + j) 0 : Nat) : Int))), (0, .ref (b 0)), (1, .int (iI (t : Int))), (2, .int (iI (sy : Int))), (3, .int (iI (m : Int))), (5, .int (iI (n : Int))), (7, .int (iI ki)), (6, .int (iI ((cu + 1 : Nat) : Int))), (8, .int (iI (cd2 : Int))), (9, .int (iI ((len + 1 : Nat) : Int))), (10, .int (iI ((bp / 8 : Nat) : Int))), (11, .int (iI 0)), (13, .int (iI k))]) hK 186 12 dX6_bits_186 (by decide) rfl ?_
                          refine go_iinc (lo' := [(13, .int (iI (k + 1))), (12, .int (iI ((if begN T a m (len + 1) cd2 (j + 1) = true then 1 else 0 : Nat) : Int))), (14, .int (iI ((T.getD (a + j) 0 : Nat) : Int))), (0, .ref (b 0)), (1, .int (iI (t : Int))), (2, .int (iI (sy : Int))), (3, .int (iI (m : Int))), (5, .int (iI (n : Int))), (7, .int (iI ki)), (6, .int (iI ((cu + 1 : Nat) : Int))), (8, .int (iI (cd2 : Int))), (9, .int (iI ((len + 1 : Nat) : Int))), (10, .int (iI ((bp / 8 : Nat) : Int))), (11, .int (iI 0))]) hK 188 13 13 dX6_bits_188 rfl (by decide) rfl ?_
                          refine go_goto (tgt := 92) hK 191 dX6_bits_191 (by decide) ?_
                          refine go_lo [3, 4, 5, 6, 7, 8, 9, 10, 11, 12, 13, 1, 0] rfl ?_
                          exact ih3 (j + 1) (k + 1) (by omega) (by omega) (by unfold fndN; rw [hf3]; dsimp only; rw [if_neg nf9]) (by omega)
                        refine go_iload hK 151 12 dX6_bits_151 rfl ?_
                        refine go_if_ne (tgt := 181) hK 153 dX6_bits_153 (by decide) (by split <;> decide) (fun cw => ?_) (fun cw => ?_)
                        · refine go_iconst hK 181 dX6_bits_181 ?_
                          refine go_goto (tgt := 186) hK 182 dX6_bits_182 (by decide) ?_
                          have hq : begN T a m (len + 1) cd2 j = true := by cases hq : begN T a m (len + 1) cd2 j with | true => rfl | false => rw [hq] at cw; exact absurd rfl cw
                          rw [show begN T a m (len + 1) cd2 (j + 1) = true by unfold begN; rw [hq]; rfl] at jn
                          exact jn
                        · have hq : begN T a m (len + 1) cd2 j = false := by cases hq : begN T a m (len + 1) cd2 j with | false => rfl | true => rw [hq] at cw; exact absurd cw (by decide)
                          refine go_iload hK 156 14 dX6_bits_156 rfl ?_
                          refine go_iload hK 158 9 dX6_bits_158 rfl ?_
                          refine go_icmp_le (tgt := 185) hK 160 dX6_bits_160 (by decide) (by omega) (by omega) (fun c9 => ?_) (fun c9 => ?_)
                          · refine go_iconst hK 185 dX6_bits_185 ?_
                            rw [show begN T a m (len + 1) cd2 (j + 1) = false by unfold begN; rw [hq, decide_eq_false (show ¬ (len + 1 < T.getD (a + j) 0) by omega)]; rfl] at jn
                            exact jn
                          · refine go_aload_n hK 163 0 dX6_bits_163 rfl rfl ?_
                            refine go_get hK 164 fl_X6_59 dX6_bits_164 0 rfl rfl ?_
                            refine go_iload hK 167 13 dX6_bits_167 rfl ?_
                            refine go_iald hK 169 dX6_bits_169 16 rfl (by omega) (by decide) ?_
                            rw [show gD k.toNat = ((basC T a m (T.getD (a + j) 0) + cntL T a (T.getD (a + j) 0) j : Nat) : Int) by rw [show k.toNat = j by omega]; exact hD9 j (by omega) (by omega)]
                            refine go_iload hK 170 14 dX6_bits_170 rfl ?_
                            refine go_iload hK 172 9 dX6_bits_172 rfl ?_
                            refine go_isub hK 174 dX6_bits_174 ?_
                            have hdj := Nat.div_le_self (basC T a m (T.getD (a + j) 0) + cntL T a (T.getD (a + j) 0) j) (2 ^ (T.getD (a + j) 0 - (len + 1)))
                            have hdp : (0 : Int) ≤ (((basC T a m (T.getD (a + j) 0) + cntL T a (T.getD (a + j) 0) j) / 2 ^ (T.getD (a + j) 0 - (len + 1)) : Nat) : Int) := Int.natCast_nonneg _
                            refine go_ishr (c := (((basC T a m (T.getD (a + j) 0) + cntL T a (T.getD (a + j) 0) j) / 2 ^ (T.getD (a + j) 0 - (len + 1)) : Nat) : Int)) hK 175 dX6_bits_175 (by rw [show ((T.getD (a + j) 0 : Nat) : Int) - ((len + 1 : Nat) : Int) = ((T.getD (a + j) 0 - (len + 1) : Nat) : Int) by omega, iI_shr ⟨by omega, by omega⟩ (by omega)]; rfl) ?_
                            refine go_iload hK 176 8 dX6_bits_176 rfl ?_
                            refine go_icmp_ne (tgt := 185) hK 178 dX6_bits_178 (by decide) (by omega) (by omega) (fun c10 => ?_) (fun c10 => ?_)
                            · refine go_iconst hK 185 dX6_bits_185 ?_
                              rw [show begN T a m (len + 1) cd2 (j + 1) = false by unfold begN; rw [hq, decide_eq_false (show ¬ ((basC T a m (T.getD (a + j) 0) + cntL T a (T.getD (a + j) 0) j) / 2 ^ (T.getD (a + j) 0 - (len + 1)) = cd2) by omega), Bool.and_false]; rfl] at jn
                              exact jn
                            · refine go_iconst hK 181 dX6_bits_181 ?_
                              refine go_goto (tgt := 186) hK 182 dX6_bits_182 (by decide) ?_
                              rw [show begN T a m (len + 1) cd2 (j + 1) = true by unfold begN; rw [decide_eq_true (show len + 1 < T.getD (a + j) 0 by omega), decide_eq_true (show (basC T a m (T.getD (a + j) 0) + cntL T a (T.getD (a + j) 0) j) / 2 ^ (T.getD (a + j) 0 - (len + 1)) = cd2 by omega), Bool.and_true, Bool.or_true]] at jn
                              exact jn
                      · have hf4 : fndN T a m (len + 1) cd2 (j + 1) = some j := by unfold fndN; rw [hf3]; dsimp only; rw [if_pos ⟨e9, by rw [e9] at cc; omega⟩]
                        have hf5 := fndN_mono hf4 (m - (j + 1))
                        rw [show j + 1 + (m - (j + 1)) = m by omega] at hf5
                        refine go_aload_n hK 135 0 dX6_bits_135 rfl rfl ?_
                        refine go_aload_n hK 136 0 dX6_bits_136 rfl rfl ?_
                        refine go_get hK 137 fl_X6_7 dX6_bits_137 0 rfl rfl ?_
                        refine go_iload_n hK 140 2 dX6_bits_140 rfl rfl ?_
                        refine go_iload hK 141 13 dX6_bits_141 rfl ?_
                        refine go_iadd hK 143 dX6_bits_143 ?_
                        refine go_iald hK 144 dX6_bits_144 1 rfl (by omega) (by decide) ?_
                        rw [show gT ((sy : Int) + k).toNat = ((T.getD (sy + j) 0 : Nat) : Int) by rw [show ((sy : Int) + k).toNat = sy + j by omega]; exact hT.2 (sy + j) (by omega)]
                        refine go_callV (As := [.int (iI ((T.getD (sy + j) 0 : Nat) : Int))]) (rest := []) hK hR 145 (ct_X6_comes Z b hp1 (T.getD (sy + j) 0) rfl (by omega)) cw_X6_160 gn_X6_comes rfl dX6_bits_145 gSel_all ⟨0, 5, _, _, _, rfl, rfl⟩ rfl (Nat.le_of_ble_eq_true rfl) ⟨(by decide), (by decide)⟩ (fun _ _ _ h => h.elim) (fun v w1 h => ?_)
                        obtain ⟨rfl, os11, gO12, hp13, rfl⟩ := h
                        show GO Z X (wM Z b sd sz os11 (M : Int) (L : Int) (Dp : Int) 0 pl (u2 : Int) re pk rd ((t : Int) + 1) gT gO12 gF gE gN gQ gM gC gA gI gU gK gP gS gX gD gH gL) 0 0 148 [(14, .int (iI ((T.getD (a + j) 0 : Nat) : Int))), (0, .ref (b 0)), (1, .int (iI (t : Int))), (2, .int (iI (sy : Int))), (3, .int (iI (m : Int))), (5, .int (iI (n : Int))), (7, .int (iI ki)), (6, .int (iI ((cu + 1 : Nat) : Int))), (8, .int (iI (cd2 : Int))), (9, .int (iI ((len + 1 : Nat) : Int))), (10, .int (iI ((bp / 8 : Nat) : Int))), (11, .int (iI 0)), (12, .int (iI ((if begN T a m (len + 1) cd2 j = true then 1 else 0 : Nat) : Int))), (13, .int (iI k))] []
                        refine go_iconst hK 148 dX6_bits_148 ?_
                        refine go_istore (lo' := [(11, .int (iI 1)), (14, .int (iI ((T.getD (a + j) 0 : Nat) : Int))), (0, .ref (b 0)), (1, .int (iI (t : Int))), (2, .int (iI (sy : Int))), (3, .int (iI (m : Int))), (5, .int (iI (n : Int))), (7, .int (iI ki)), (6, .int (iI ((cu + 1 : Nat) : Int))), (8, .int (iI (cd2 : Int))), (9, .int (iI ((len + 1 : Nat) : Int))), (10, .int (iI ((bp / 8 : Nat) : Int))), (12, .int (iI ((if begN T a m (len + 1) cd2 j = true then 1 else 0 : Nat) : Int))), (13, .int (iI k))]) hK 149 11 dX6_bits_149 (by decide) rfl ?_
                        refine go_iload hK 151 12 dX6_bits_151 rfl ?_
                        refine go_if_ne (tgt := 181) hK 153 dX6_bits_153 (by decide) (by split <;> decide) (fun cw => ?_) (fun cw => ?_)
                        · refine go_iconst hK 181 dX6_bits_181 ?_
                          refine go_goto (tgt := 186) hK 182 dX6_bits_182 (by decide) ?_
                          refine go_istore (lo' := [(12, .int (iI 1)), (11, .int (iI 1)), (14, .int (iI ((T.getD (a + j) 0 : Nat) : Int))), (0, .ref (b 0)), (1, .int (iI (t : Int))), (2, .int (iI (sy : Int))), (3, .int (iI (m : Int))), (5, .int (iI (n : Int))), (7, .int (iI ki)), (6, .int (iI ((cu + 1 : Nat) : Int))), (8, .int (iI (cd2 : Int))), (9, .int (iI ((len + 1 : Nat) : Int))), (10, .int (iI ((bp / 8 : Nat) : Int))), (13, .int (iI k))]) hK 186 12 dX6_bits_186 (by decide) rfl ?_
                          refine go_iinc (lo' := [(13, .int (iI (k + 1))), (12, .int (iI 1)), (11, .int (iI 1)), (14, .int (iI ((T.getD (a + j) 0 : Nat) : Int))), (0, .ref (b 0)), (1, .int (iI (t : Int))), (2, .int (iI (sy : Int))), (3, .int (iI (m : Int))), (5, .int (iI (n : Int))), (7, .int (iI ki)), (6, .int (iI ((cu + 1 : Nat) : Int))), (8, .int (iI (cd2 : Int))), (9, .int (iI ((len + 1 : Nat) : Int))), (10, .int (iI ((bp / 8 : Nat) : Int)))]) hK 188 13 13 dX6_bits_188 rfl (by decide) rfl ?_
                          refine go_goto (tgt := 92) hK 191 dX6_bits_191 (by decide) ?_
                          refine go_lo [4, 5, 6, 7, 8, 9, 10, 11, 12, 13, 2, 1, 0] rfl ?_
                          exact fnd _ _ _ _ j (by omega) hf5 hp13
                        · refine go_iload hK 156 14 dX6_bits_156 rfl ?_
                          refine go_iload hK 158 9 dX6_bits_158 rfl ?_
                          refine go_icmp_le (tgt := 185) hK 160 dX6_bits_160 (by decide) (by omega) (by omega) (fun cl => ?_) (fun cl => ?_)
                          · refine go_iconst hK 185 dX6_bits_185 ?_
                            refine go_istore (lo' := [(12, .int (iI 0)), (11, .int (iI 1)), (14, .int (iI ((T.getD (a + j) 0 : Nat) : Int))), (0, .ref (b 0)), (1, .int (iI (t : Int))), (2, .int (iI (sy : Int))), (3, .int (iI (m : Int))), (5, .int (iI (n : Int))), (7, .int (iI ki)), (6, .int (iI ((cu + 1 : Nat) : Int))), (8, .int (iI (cd2 : Int))), (9, .int (iI ((len + 1 : Nat) : Int))), (10, .int (iI ((bp / 8 : Nat) : Int))), (13, .int (iI k))]) hK 186 12 dX6_bits_186 (by decide) rfl ?_
                            refine go_iinc (lo' := [(13, .int (iI (k + 1))), (12, .int (iI 0)), (11, .int (iI 1)), (14, .int (iI ((T.getD (a + j) 0 : Nat) : Int))), (0, .ref (b 0)), (1, .int (iI (t : Int))), (2, .int (iI (sy : Int))), (3, .int (iI (m : Int))), (5, .int (iI (n : Int))), (7, .int (iI ki)), (6, .int (iI ((cu + 1 : Nat) : Int))), (8, .int (iI (cd2 : Int))), (9, .int (iI ((len + 1 : Nat) : Int))), (10, .int (iI ((bp / 8 : Nat) : Int)))]) hK 188 13 13 dX6_bits_188 rfl (by decide) rfl ?_
                            refine go_goto (tgt := 92) hK 191 dX6_bits_191 (by decide) ?_
                            refine go_lo [4, 5, 6, 7, 8, 9, 10, 11, 12, 13, 2, 1, 0] rfl ?_
                            exact fnd _ _ _ _ j (by omega) hf5 hp13
                          · exact absurd cl (by omega)
              exact lp3 _ 0 0 (by omega) rfl rfl (Nat.lt_succ_self _)
            · show GO Z X (wM Z b sd sz os1 (M : Int) (L : Int) (Dp : Int) 3 (e : Int) (u2 : Int) re pk rd ((t : Int) + 1) gT gO1 gF gE gN gQ gM gC gA gI gU gK gP gS gX gD gH gL) 0 0 48 [(0, .ref (b 0)), (1, .int (iI (t : Int))), (2, .int (iI (sy : Int))), (3, .int (iI (m : Int))), (5, .int (iI (n : Int))), (7, .int (iI ki)), (6, .int (iI (cu : Int))), (8, .int (iI (cd : Int))), (9, .int (iI (len : Int))), (10, .int (iI ((bp / 8 : Nat) : Int))), (11, .int (iI 0))] [.int (iI 0)]
              refine go_if_ne (tgt := 52) hK 48 dX6_bits_48 (by decide) (by decide) (fun q => absurd q (by decide)) (fun _ => ?_)
              replace hS := hS.trans (spSym_e (by omega))
              rw [hS] at hB2
              exact go_vret hK hR.1 51 [] dX6_bits_51 (by decide) (by decide) rfl ⟨rfl, mRes_er (by unfold spBits; rw [hB2]) ⟨_, _, _, hp1, rfl⟩⟩
        exact lp2 _ bp 0 0 8 (by omega) (by omega) (by omega) (Nat.le_refl _) (by decide) rfl (Nat.lt_succ_self _)
  exact lp _ 0 (8 * bg) 0 O _ _ (by omega) rfl rfl ⟨by omega, by omega⟩ hO rfl (Nat.lt_succ_self _)

