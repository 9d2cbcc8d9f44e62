set_option maxRecDepth 100000
/-! TOKENS: what the reader sees, as the reference reads it -/
section TK
variable {tp : Nat → Int32} {t p : Nat}
def rng255 (tp : Nat → Int32) (t : Nat) : Prop := ∀ i, i < t → mIn (tp i) 0 255 = true
theorem lk_dg : isDg (lkA tp t p) = isDg (ltA tp t p) := by
  simp only [lkA, ltA]
  by_cases e : p < t
  · rw [if_pos e, if_pos e]
  · rw [if_neg e, if_neg e]; decide
theorem lt_at (h : p < t) : ltA tp t p = tp p := if_pos h
theorem tok_sign {v : Int32} (hv : v = 44 ∨ v = 59) : (nxT tp t p = 3 ∧ nxV tp t p = v) ↔ ltA tp t p = v := by
  by_cases e : p < t
  · rw [lt_at e]
    simp only [nxT, nxV, if_pos e]
    have hd : isDg v = false := by rcases hv with h | h <;> rw [h] <;> decide
    have hl : mIn v 97 122 = false := by rcases hv with h | h <;> rw [h] <;> decide
    constructor
    · rintro ⟨h1, h2⟩
      by_cases l : mIn (tp p) 97 122 = true
      · rw [if_pos l] at h1; exact absurd h1 (by decide)
      · by_cases dd : isDg (tp p) = true
        · rw [if_neg l, if_pos dd] at h1; split at h1 <;> exact absurd h1 (by decide)
        · rw [if_neg dd] at h2; exact h2
    · intro h
      rw [h, hl, hd]
      simp only [Bool.false_eq_true, if_false]
      rw [if_pos hv]
      exact ⟨rfl, trivial⟩
  · simp only [nxT, nxV, ltA, if_neg e]
    constructor
    · rintro ⟨h, -⟩; exact absurd h (by decide)
    · intro h; rcases hv with q | q <;> rw [q] at h <;> exact absurd h (by decide)
theorem tok_sign_p {v : Int32} (hv : v = 44 ∨ v = 59) (h : ltA tp t p = v) : nxP tp t p = p + 1 := by
  have hp : p < t := by
    by_cases e : p < t
    · exact e
    · simp only [ltA, if_neg e] at h; rcases hv with q | q <;> rw [q] at h <;> exact absurd h (by decide)
  rw [lt_at hp] at h
  have hd : isDg v = false := by rcases hv with h | h <;> rw [h] <;> decide
  simp only [nxP, if_pos hp, h, hd]; rfl
theorem tok_let {v : Int32} (hv : mIn v 97 122 = true) : (nxT tp t p = 1 ∧ nxV tp t p = v) ↔ ltA tp t p = v := by
  by_cases e : p < t
  · rw [lt_at e]
    simp only [nxT, nxV, if_pos e]
    constructor
    · rintro ⟨h1, h2⟩
      by_cases l : mIn (tp p) 97 122 = true
      · rw [if_neg (by rw [let_dg l]; decide)] at h2; exact h2
      · by_cases dd : isDg (tp p) = true
        · rw [if_neg l, if_pos dd] at h1; split at h1 <;> exact absurd h1 (by decide)
        · rw [if_neg l, if_neg dd] at h1; split at h1 <;> exact absurd h1 (by decide)
    · intro h
      rw [h, hv, let_dg hv]
      exact ⟨rfl, rfl⟩
  · simp only [nxT, nxV, ltA, if_neg e]
    constructor
    · rintro ⟨h, -⟩; exact absurd h (by decide)
    · intro h; rw [← h] at hv; exact absurd hv (by decide)
theorem tok_let_p (h : mIn (ltA tp t p) 97 122 = true) : nxP tp t p = p + 1 := by
  have hp : p < t := by
    by_cases e : p < t
    · exact e
    · simp only [ltA, if_neg e] at h; exact absurd h (by decide)
  rw [lt_at hp] at h
  simp only [nxP, if_pos hp, let_dg h]; rfl
/-- a rider's letter -/
theorem tok_rid : (nxT tp t p = 1 ∧ 0 ≤ sxI (nxV tp t p)) ↔ ¬ mKindB (ltA tp t p) = 0 := by
  have hK : ∀ v : Int32, ¬ mKindB v = 0 → (v = 115 ∨ v = 119 ∨ v = 114 ∨ v = 116 ∨ v = 99) := by
    intro v h
    simp only [mKindB] at h
    by_cases h1 : v = 115
    · exact Or.inl h1
    · by_cases h2 : v = 119
      · exact Or.inr (Or.inl h2)
      · by_cases h3 : v = 114
        · exact Or.inr (Or.inr (Or.inl h3))
        · by_cases h4 : v = 116
          · exact Or.inr (Or.inr (Or.inr (Or.inl h4)))
          · by_cases h5 : v = 99
            · exact Or.inr (Or.inr (Or.inr (Or.inr h5)))
            · rw [if_neg h1, if_neg h2, if_neg h3, if_neg h4, if_neg h5] at h; exact absurd rfl h
  constructor
  · rintro ⟨h1, h2⟩ h3
    by_cases e : p < t
    · simp only [nxT, nxV, if_pos e] at h1 h2
      rw [lt_at e] at h3
      by_cases l : mIn (tp p) 97 122 = true
      · rw [if_neg (by rw [let_dg l]; decide)] at h2
        simp only [sxI, h3] at h2
        exact absurd h2 (by decide)
      · by_cases dd : isDg (tp p) = true
        · rw [if_neg l, if_pos dd] at h1; split at h1 <;> exact absurd h1 (by decide)
        · rw [if_neg l, if_neg dd] at h1; split at h1 <;> exact absurd h1 (by decide)
    · simp only [nxT, if_neg e] at h1; exact absurd h1 (by decide)
  · intro h
    have hv := hK _ h
    have hl : mIn (ltA tp t p) 97 122 = true := by rcases hv with q | q | q | q | q <;> rw [q] <;> decide
    obtain ⟨h1, h2⟩ := (tok_let (tp := tp) (t := t) (p := p) hl).mpr rfl
    refine ⟨h1, ?_⟩
    rw [h2]
    rcases hv with q | q | q | q | q <;> rw [q] <;> decide
theorem rid_let (h : ¬ mKindB (ltA tp t p) = 0) : nxV tp t p = ltA tp t p ∧ nxP tp t p = p + 1 ∧ p < t := by
  have h1 := (tok_rid (tp := tp) (t := t) (p := p)).mpr h
  have e : p < t := by
    by_cases e : p < t
    · exact e
    · have := h1.1; simp only [nxT, if_neg e] at this; exact absurd this (by decide)
  have hd : isDg (tp p) = false := by
    cases q : isDg (tp p) with
    | false => rfl
    | true =>
      have := h1.1
      simp only [nxT, if_pos e] at this
      by_cases l : mIn (tp p) 97 122 = true
      · rw [let_dg l] at q; cases q
      · rw [if_neg l, if_pos q] at this; split at this <;> exact absurd this (by decide)
  refine ⟨?_, ?_, e⟩
  · simp only [nxV, if_pos e, hd, lt_at e]; rfl
  · simp only [nxP, if_pos e, hd]; rfl
theorem tok_end (h : rng255 tp t) : nxT tp t p = 0 ↔ ¬ p < t := by
  by_cases e : p < t
  · simp only [nxT, if_pos e]
    constructor
    · intro q
      split at q
      · exact absurd q (by decide)
      · split at q
        · split at q <;> exact absurd q (by decide)
        · split at q <;> exact absurd q (by decide)
    · intro q; exact absurd e q
  · simp only [nxT, if_neg e]; exact ⟨fun _ => e, fun _ => trivial⟩
/-- figures counted to three -/
theorem dg3 : dgF tp t 3 p = (if nxD tp t p ≤ 3 then nxD tp t p else 3) := by
  have h3 : ∀ i, isDg (ltA tp t i) = isDg (lkA tp t i) := fun i => lk_dg.symm
  simp only [dgF, h3]
  cases e0 : isDg (lkA tp t p) with
  | false => rw [dgN_0 e0]; rfl
  | true =>
    rw [dgN_s e0]
    cases e1 : isDg (lkA tp t (p + 1)) with
    | false => rw [dgN_0 e1]; rfl
    | true =>
      rw [dgN_s e1]
      cases e2 : isDg (lkA tp t (p + 1 + 1)) with
      | false => rw [dgN_0 e2]; rfl
      | true => rw [dgN_s e2]; simp only [if_true]; split <;> omega
theorem tok_num : nxT tp t p = 2 ↔ ¬ (dgF tp t 3 p = 0 ∨ dgF tp t 3 p = 3) := by
  rw [dg3]
  by_cases e : p < t
  · simp only [nxT, if_pos e]
    have hk : isDg (lkA tp t p) = isDg (tp p) := by rw [lkA, if_pos e]
    by_cases l : mIn (tp p) 97 122 = true
    · rw [if_pos l, dgN_0 (by rw [hk]; exact let_dg l)]
      simp
    · rw [if_neg l]
      by_cases dd : isDg (tp p) = true
      · rw [if_pos dd]
        have h1 := dgN_s (hk.trans dd)
        by_cases q : 2 < nxD tp t p
        · rw [if_pos q]
          constructor
          · intro z; exact absurd z (by decide)
          · intro z; exact absurd (by split <;> omega) z
        · rw [if_neg q]
          constructor
          · intro _ z; split at z <;> omega
          · intro _; rfl
      · rw [if_neg dd, dgN_0 (by rw [hk]; simpa using dd)]
        constructor
        · intro z; split at z <;> exact absurd z (by decide)
        · intro z; exact absurd (Or.inl rfl) z
  · simp only [nxT, if_neg e]
    rw [show nxD tp t p = 0 from dgN_0 (by rw [lkA, if_neg e]; decide)]
    simp
theorem tok_numv (h : nxT tp t p = 2) : nxP tp t p = p + dgF tp t 3 p ∧ nxV tp t p = numV tp p (dgF tp t 3 p) := by
  have e : p < t := by
    by_cases e : p < t
    · exact e
    · simp only [nxT, if_neg e] at h; exact absurd h (by decide)
  have h0 := h
  simp only [nxT, if_pos e] at h
  by_cases l : mIn (tp p) 97 122 = true
  · rw [if_pos l] at h; exact absurd h (by decide)
  · rw [if_neg l] at h
    by_cases dd : isDg (tp p) = true
    · rw [if_pos dd] at h
      by_cases q : 2 < nxD tp t p
      · rw [if_pos q] at h; exact absurd h (by decide)
      · have h1 := dgN_s (tp := tp) (t := t) (p := p) (by rw [lkA, if_pos e]; exact dd)
        have h2 : dgF tp t 3 p = nxD tp t p := by rw [dg3, if_pos (by omega)]
        rw [h2]
        refine ⟨by simp only [nxP, if_pos e, if_pos dd], ?_⟩
        simp only [nxV, if_pos e, if_pos dd]
        rcases (show nxD tp t p = 1 ∨ nxD tp t p = 2 by omega) with z | z
        · rw [if_pos z, z]; simp only [numV]; simp
        · rw [if_neg (by omega), z]; simp only [numV]; simp
    · rw [if_neg dd] at h; split at h <;> exact absurd h (by decide)
end TK

