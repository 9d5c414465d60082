/-! codes: what a table says -/
set_option maxRecDepth 100000
/-- behind the codes of a length -/
def endC (T : List Nat) (a m l : Nat) : Nat := basC T a m l + if l = 0 then 0 else cntL T a l m
theorem basC_succ (T : List Nat) (a m l : Nat) : basC T a m (l + 1) = 2 * endC T a m l := rfl
theorem cntL_le (T : List Nat) (a l : Nat) : ∀ n, cntL T a l n ≤ n
  | 0 => Nat.le_refl _
  | n + 1 => by
    have := cntL_le T a l n
    unfold cntL
    split <;> omega
theorem basC_le (T : List Nat) (a m : Nat) (hm : m ≤ 8) : ∀ l, basC T a m l + 16 ≤ 16 * 2 ^ l
  | 0 => by simp [basC]
  | l + 1 => by
    have h1 := basC_le T a m hm l
    have h2 := cntL_le T a l m
    rw [basC_succ, Nat.pow_succ]
    unfold endC
    split <;> omega
theorem fndN_some {T : List Nat} {a m len code : Nat} : ∀ {n k : Nat}, fndN T a m len code n = some k → k < n ∧ T.getD (a + k) 0 = len ∧ basC T a m len + cntL T a len k = code
  | 0, _, h => by cases h
  | n + 1, k, h => by
    unfold fndN at h
    cases h1 : fndN T a m len code n with
    | some j =>
      rw [h1] at h
      cases h
      have := fndN_some h1
      exact ⟨by omega, this.2⟩
    | none =>
      rw [h1] at h
      dsimp only at h
      by_cases h2 : T.getD (a + n) 0 = len ∧ basC T a m len + cntL T a len n = code
      · rw [if_pos h2] at h
        cases h
        exact ⟨by omega, h2⟩
      · rw [if_neg h2] at h
        cases h
theorem fndN_none {T : List Nat} {a m len code : Nat} : ∀ {n : Nat}, fndN T a m len code n = none → ∀ j, j < n → ¬ (T.getD (a + j) 0 = len ∧ basC T a m len + cntL T a len j = code)
  | 0, _, j, hj => absurd hj (Nat.not_lt_zero _)
  | n + 1, h, j, hj => by
    unfold fndN at h
    cases h1 : fndN T a m len code n with
    | some k => rw [h1] at h; cases h
    | none =>
      rw [h1] at h
      dsimp only at h
      by_cases h2 : T.getD (a + n) 0 = len ∧ basC T a m len + cntL T a len n = code
      · rw [if_pos h2] at h; cases h
      · by_cases h3 : j = n
        · rw [h3]; exact h2
        · exact fndN_none h1 j (by omega)
/-- the place with a rank -/
theorem cntL_at {T : List Nat} {a l r : Nat} : ∀ {m : Nat}, r < cntL T a l m → ∃ k, k < m ∧ T.getD (a + k) 0 = l ∧ cntL T a l k = r
  | 0, h => absurd h (Nat.not_lt_zero _)
  | m + 1, h => by
    unfold cntL at h
    by_cases h1 : r < cntL T a l m
    · obtain ⟨k, h2, h3⟩ := cntL_at h1
      exact ⟨k, by omega, h3⟩
    · by_cases h2 : T.getD (a + m) 0 = l
      · rw [if_pos h2] at h
        exact ⟨m, by omega, h2, by omega⟩
      · rw [if_neg h2] at h
        omega
theorem lngN_iff {T : List Nat} {a len : Nat} : ∀ {n : Nat}, lngN T a len n = true ↔ ∃ k, k < n ∧ len < T.getD (a + k) 0
  | 0 => by simp [lngN]
  | n + 1 => by
    unfold lngN
    rw [Bool.or_eq_true, lngN_iff, decide_eq_true_eq]
    constructor
    · rintro (⟨k, h1, h2⟩ | h)
      · exact ⟨k, by omega, h2⟩
      · exact ⟨n, by omega, h⟩
    · rintro ⟨k, h1, h2⟩
      by_cases h3 : k = n
      · subst h3; exact Or.inr h2
      · exact Or.inl ⟨k, by omega, h2⟩
theorem sumK_cnt {T : List Nat} {a : Nat} : ∀ {n : Nat}, (∀ k, k < n → T.getD (a + k) 0 ≤ 7) → sumK T a n = 64 * cntL T a 1 n + 32 * cntL T a 2 n + 16 * cntL T a 3 n + 8 * cntL T a 4 n + 4 * cntL T a 5 n + 2 * cntL T a 6 n + cntL T a 7 n
  | 0, _ => by simp [sumK, cntL]
  | n + 1, h => by
    have ih := sumK_cnt (n := n) (fun k hk => h k (by omega))
    have h7 := h n (by omega)
    unfold sumK cntL
    rw [ih]
    rcases (show T.getD (a + n) 0 = 0 ∨ T.getD (a + n) 0 = 1 ∨ T.getD (a + n) 0 = 2 ∨ T.getD (a + n) 0 = 3 ∨ T.getD (a + n) 0 = 4 ∨ T.getD (a + n) 0 = 5 ∨ T.getD (a + n) 0 = 6 ∨ T.getD (a + n) 0 = 7 by omega) with e | e | e | e | e | e | e | e <;> rw [e] <;> simp <;> omega
theorem endC_7 (T : List Nat) (a m : Nat) : endC T a m 7 = 64 * cntL T a 1 m + 32 * cntL T a 2 m + 16 * cntL T a 3 m + 8 * cntL T a 4 m + 4 * cntL T a 5 m + 2 * cntL T a 6 m + cntL T a 7 m := by
  have f : ∀ l, endC T a m (l + 1) = 2 * endC T a m l + cntL T a (l + 1) m := fun l => by
    have e : endC T a m (l + 1) = basC T a m (l + 1) + cntL T a (l + 1) m := by unfold endC; rw [if_neg (by omega)]
    rw [e, basC_succ]
  have g : endC T a m 0 = 0 := rfl
  have h1 : endC T a m 1 = 2 * endC T a m 0 + cntL T a 1 m := f 0
  have h2 : endC T a m 2 = 2 * endC T a m 1 + cntL T a 2 m := f 1
  have h3 : endC T a m 3 = 2 * endC T a m 2 + cntL T a 3 m := f 2
  have h4 : endC T a m 4 = 2 * endC T a m 3 + cntL T a 4 m := f 3
  have h5 : endC T a m 5 = 2 * endC T a m 4 + cntL T a 5 m := f 4
  have h6 : endC T a m 6 = 2 * endC T a m 5 + cntL T a 6 m := f 5
  have h7 : endC T a m 7 = 2 * endC T a m 6 + cntL T a 7 m := f 6
  omega
theorem kraft {T : List Nat} {a m : Nat} (h7 : endC T a m 7 = 128) : ∀ (d l c : Nat), l + d = 7 → endC T a m l ≤ c → c < 2 ^ l → ∃ j, l < j ∧ j ≤ 7 ∧ basC T a m j ≤ c * 2 ^ (j - l) ∧ c * 2 ^ (j - l) < endC T a m j
  | 0, l, c, hd, h1, h2 => by
    have : l = 7 := by omega
    subst this
    rw [h7] at h1
    exact absurd h2 (by omega)
  | d + 1, l, c, hd, h1, h2 => by
    by_cases h : 2 * c < endC T a m (l + 1)
    · refine ⟨l + 1, by omega, by omega, ?_, ?_⟩
      · rw [basC_succ, show l + 1 - l = 1 by omega]; omega
      · rw [show l + 1 - l = 1 by omega]; omega
    · obtain ⟨j, a1, a2, a3, a4⟩ := kraft h7 d (l + 1) (2 * c) (by omega) (by omega) (by rw [Nat.pow_succ]; omega)
      have e : 2 * c * 2 ^ (j - (l + 1)) = c * 2 ^ (j - l) := by
        rw [show j - l = (j - (l + 1)) + 1 by omega, Nat.pow_succ]
        rw [Nat.mul_comm 2 c, Nat.mul_assoc, Nat.mul_comm 2]
      rw [e] at a3 a4
      exact ⟨j, by omega, a2, a3, a4⟩
/-- is the code the begin of a longer one, among the first n -/
def begN (T : List Nat) (a m len code : Nat) : Nat → Bool
  | 0 => false
  | n + 1 => begN T a m len code n || (decide (len < T.getD (a + n) 0) && decide ((basC T a m (T.getD (a + n) 0) + cntL T a (T.getD (a + n) 0) n) / 2 ^ (T.getD (a + n) 0 - len) = code))
theorem begN_iff {T : List Nat} {a m len code : Nat} : ∀ {n : Nat}, begN T a m len code n = true ↔ ∃ k, k < n ∧ len < T.getD (a + k) 0 ∧ (basC T a m (T.getD (a + k) 0) + cntL T a (T.getD (a + k) 0) k) / 2 ^ (T.getD (a + k) 0 - len) = code
  | 0 => by simp [begN]
  | n + 1 => by
    unfold begN
    rw [Bool.or_eq_true, begN_iff, Bool.and_eq_true, decide_eq_true_eq, decide_eq_true_eq]
    constructor
    · rintro (⟨k, h1, h2⟩ | h)
      · exact ⟨k, by omega, h2⟩
      · exact ⟨n, by omega, h⟩
    · rintro ⟨k, h1, h2⟩
      by_cases h3 : k = n
      · subst h3; exact Or.inr h2
      · exact Or.inl ⟨k, by omega, h2⟩
theorem useK_01 {T : List Nat} {a : Nat} : ∀ {n : Nat}, (useK T a n = 0 → sumK T a n = 0 ∧ ∀ k, k < n → T.getD (a + k) 0 = 0) ∧ (useK T a n = 1 → ∃ l, 0 < l ∧ sumK T a n = 128 / 2 ^ l ∧ (∃ k, k < n ∧ T.getD (a + k) 0 = l) ∧ ∀ k, k < n → T.getD (a + k) 0 = 0 ∨ T.getD (a + k) 0 = l)
  | 0 => ⟨fun _ => ⟨rfl, fun k hk => absurd hk (Nat.not_lt_zero _)⟩, fun h => by cases h⟩
  | n + 1 => by
    obtain ⟨ih0, ih1⟩ := useK_01 (T := T) (a := a) (n := n)
    unfold useK sumK
    by_cases h : 0 < T.getD (a + n) 0
    · rw [if_pos h, if_pos h]
      refine ⟨fun q => absurd q (by omega), fun q => ?_⟩
      obtain ⟨e, f⟩ := ih0 (by omega)
      refine ⟨T.getD (a + n) 0, h, by rw [e, Nat.zero_add], ⟨n, by omega, rfl⟩, fun k hk => ?_⟩
      by_cases hkn : k = n
      · subst hkn; exact Or.inr rfl
      · exact Or.inl (f k (by omega))
    · rw [if_neg h, if_neg h]
      refine ⟨fun q => ?_, fun q => ?_⟩
      · obtain ⟨e, f⟩ := ih0 (by omega)
        refine ⟨by omega, fun k hk => ?_⟩
        by_cases hkn : k = n
        · subst hkn; omega
        · exact f k (by omega)
      · obtain ⟨l, h0, e, ⟨k0, hk0, hk1⟩, f⟩ := ih1 (by omega)
        refine ⟨l, h0, by omega, ⟨k0, by omega, hk1⟩, fun k hk => ?_⟩
        by_cases hkn : k = n
        · subst hkn; exact Or.inl (by omega)
        · exact f k (by omega)
theorem pw64 : ∀ l, l ≤ 7 → 0 < l → 128 / 2 ^ l = 64 → l = 1 := by decide
/-- over a good table, of a code that isn't there: it is the begin of one just when there are longer ones -/
theorem beg_lng {T : List Nat} {a m len code : Nat} (hg : goodT T a m) (h7 : ∀ k, k < m → T.getD (a + k) 0 ≤ 7) (hl : 0 < len ∧ len ≤ 7) (h1 : endC T a m len ≤ code) (h2 : code < 2 ^ len) : begN T a m len code m = lngN T a len m := by
  rw [Bool.eq_iff_iff, begN_iff, lngN_iff]
  constructor
  · rintro ⟨k, a1, a2, -⟩; exact ⟨k, a1, a2⟩
  · rintro ⟨k, a1, a2⟩
    rcases hg with hs | ⟨hu, hs⟩
    · rw [sumK_cnt h7, ← endC_7] at hs
      obtain ⟨j, b1, b2, b3, b4⟩ := kraft hs (7 - len) len code (by omega) h1 h2
      have hj : endC T a m j = basC T a m j + cntL T a j m := by unfold endC; rw [if_neg (by omega)]
      obtain ⟨k', c1, c2, c3⟩ := cntL_at (T := T) (a := a) (l := j) (r := code * 2 ^ (j - len) - basC T a m j) (m := m) (by omega)
      refine ⟨k', c1, by omega, ?_⟩
      rw [c2, c3, show basC T a m j + (code * 2 ^ (j - len) - basC T a m j) = code * 2 ^ (j - len) by omega]
      exact Nat.mul_div_cancel _ (Nat.two_pow_pos _)
    · obtain ⟨l, h0, e, ⟨k0, hk0, hk1⟩, f⟩ := useK_01.2 hu
      have hl7 := h7 k0 hk0
      have e1 := pw64 l (by omega) h0 (by omega)
      have := f k a1
      omega
theorem end_step {T : List Nat} {a m len code bit : Nat} (h1 : endC T a m len ≤ code) (hf : fndN T a m (len + 1) (2 * code + bit) m = none) : endC T a m (len + 1) ≤ 2 * code + bit := by
  have hb := basC_succ T a m len
  have he : endC T a m (len + 1) = basC T a m (len + 1) + cntL T a (len + 1) m := by unfold endC; rw [if_neg (by omega)]
  refine Nat.not_lt.mp (fun q => ?_)
  obtain ⟨k, c1, c2, c3⟩ := cntL_at (T := T) (a := a) (l := len + 1) (r := 2 * code + bit - basC T a m (len + 1)) (m := m) (by omega)
  exact fndN_none hf k c1 ⟨c2, by omega⟩
theorem bitT_lt (T : List Nat) (bp : Nat) : bitT T bp < 2 := Nat.mod_lt _ (by omega)
/-- as the reference says it -/
theorem good_iff {T : List Nat} {a m last : Nat} (h7 : ∀ k, k < m → T.getD (a + k) 0 ≤ 7) (hlast : useK T a m = 1 → sumK T a m = 128 / 2 ^ last ∧ 0 < last ∧ last ≤ 7) : goodT T a m ↔ (sumK T a m = 128 ∨ useK T a m = 1 ∧ last = 1) := by
  constructor
  · rintro (h | ⟨h1, h2⟩)
    · exact Or.inl h
    · obtain ⟨a1, a2, a3⟩ := hlast h1
      exact Or.inr ⟨h1, pw64 last a3 a2 (by omega)⟩
  · rintro (h | ⟨h1, h2⟩)
    · exact Or.inl h
    · obtain ⟨a1, a2, a3⟩ := hlast h1
      subst h2
      exact Or.inr ⟨h1, by omega⟩
