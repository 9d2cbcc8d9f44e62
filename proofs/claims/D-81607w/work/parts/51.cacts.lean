set_option maxRecDepth 100000
/-! ACTS: nobody comes upon another; ticks, speed, cross, take, again, undo -/
theorem free_iff {c : Nat → Int32} {r : Nat} {step lane : Int32} : ∀ n, mFreeTo c r step lane n = true ↔ ∀ q, q < n → ¬ q = r → c (2 + q) = step → mMeets c r q lane = false
  | 0 => ⟨fun _ q hq => absurd hq (Nat.not_lt_zero _), fun _ => rfl⟩
  | n + 1 => by
    simp only [mFreeTo, Bool.and_eq_true, free_iff n]
    constructor
    · intro h q hq hne he
      rcases (show q < n ∨ q = n by omega) with e | e
      · exact h.1 q e hne he
      · subst e
        have := h.2
        simp only [hne, he, decide_true, decide_false, Bool.false_or, Bool.not_true, Bool.not_eq_true'] at this
        exact this
    · intro h
      refine ⟨fun q hq => h q (by omega), ?_⟩
      by_cases e : n = r
      · simp [e]
      · by_cases e2 : c (2 + n) = step
        · rw [h n (by omega) e e2]; simp
        · simp [e2]
theorem meets_sym {c : Nat → Int32} {r q : Nat} : mMeets c r q (c (9 + r)) = mMeets c q r (c (9 + q)) := by
  simp only [mMeets]
  rw [Bool.or_comm (decide (4 ≤ c (18 + r)))]
  congr 1
  by_cases e : c (9 + q) = c (9 + r)
  · rw [decide_eq_true e, decide_eq_true e.symm]
  · rw [decide_eq_false e, decide_eq_false (fun h => e h.symm)]
/-- one goes to a free place -/
theorem nC_to {n r : Nat} {c : Nat → Int32} {v : Int32} (h : nC n c) (hr : r < 7) (hf : mFreeTo c r v (c (9 + r)) n = true) : nC n (upd c (2 + r) v) := by
  intro a b ha hb hab hon he
  have hm : ∀ z w, mMeets (upd c (2 + r) v) z w (upd c (2 + r) v (9 + z)) = mMeets c z w (c (9 + z)) := by
    intro z w
    simp only [mMeets]
    rw [pk_un (show 9 + z ≠ 2 + r by omega), pk_un (show 18 + z ≠ 2 + r by omega), pk_un (show 18 + w ≠ 2 + r by omega), pk_un (show 9 + w ≠ 2 + r by omega)]
  rw [hm]
  by_cases e1 : a = r
  · subst e1
    rw [pk_us, pk_un (by omega)] at he
    exact (free_iff n).mp hf b hb (fun e => hab e.symm) he.symm
  · rw [pk_un (by omega)] at hon he
    by_cases e2 : b = r
    · subst e2
      rw [pk_us] at he
      rw [meets_sym]
      exact (free_iff n).mp hf a ha hab he
    · rw [pk_un (by omega)] at he
      exact h a b ha hb hab hon he
theorem nC_off {n r : Nat} {c : Nat → Int32} {v : Int32} (h : nC n c) (hr : r < 7) (hv : mOn v = false) : nC n (upd c (2 + r) v) := by
  intro a b ha hb hab hon he
  have hm : ∀ z w, mMeets (upd c (2 + r) v) z w (upd c (2 + r) v (9 + z)) = mMeets c z w (c (9 + z)) := by
    intro z w
    simp only [mMeets]
    rw [pk_un (show 9 + z ≠ 2 + r by omega), pk_un (show 18 + z ≠ 2 + r by omega), pk_un (show 18 + w ≠ 2 + r by omega), pk_un (show 9 + w ≠ 2 + r by omega)]
  rw [hm]
  by_cases e1 : a = r
  · subst e1; rw [pk_us, hv] at hon; cases hon
  · by_cases e2 : b = r
    · subst e2; rw [pk_us] at he; rw [he, hv] at hon; cases hon
    · rw [pk_un (by omega)] at hon he
      rw [pk_un (by omega)] at he
      exact h a b ha hb hab hon he
theorem nC_up {n j : Nat} {c : Nat → Int32} {v : Int32} (h : nC n c) (hj : j < 2) : nC n (upd c j v) := by
  intro a b ha hb hab hon he
  rw [pk_un (by omega)] at hon
  rw [pk_un (by omega), pk_un (by omega)] at he
  have := h a b ha hb hab hon he
  simp only [mMeets] at this ⊢
  rw [pk_un (show 9 + a ≠ j by omega), pk_un (show 18 + a ≠ j by omega), pk_un (show 18 + b ≠ j by omega), pk_un (show 9 + b ≠ j by omega)]
  exact this
theorem nC_go {n r : Nat} {c : Nat → Int32} {b : Int32} (h : nC n c) (hr : r < 7) : nC n (mGo n c r b) := by
  simp only [mGo]
  by_cases e : mMay n c r b = true
  · rw [if_pos e]
    simp only [mMay, Bool.and_eq_true] at e
    exact nC_to h hr e.2
  · rw [if_neg e, Int32.add_zero, upd_self]; exact h
theorem nC_mv {n r : Nat} {c : Nat → Int32} (h : nC n c) (hr : r < 7) : nC n (mMv n c r) := by
  simp only [mMv]
  split
  · exact nC_go h hr
  · split
    · split
      · exact nC_go (nC_go h hr) hr
      · exact nC_go h hr
    · split
      · exact nC_go h hr
      · exact h
theorem nC_fold {n : Nat} : ∀ (L : List Nat) (c : Nat → Int32), nC n c → (∀ r ∈ L, r < 7) → nC n (L.foldl (mMv n) c)
  | [], c, h, _ => h
  | r :: L, c, h, hL => nC_fold L _ (nC_mv h (hL r List.mem_cons_self)) (fun q hq => hL q (List.mem_cons_of_mem _ hq))
def rdV (c : Nat → Int32) (v : Int32) : Int32 := if mOn v = true then (if v + c 1 < c 16 then v + c 1 else 99) else v
theorem ph2_v {c : Nat → Int32} : ∀ m, m ≤ 7 → (∀ r, r < m → mPh2 c m (2 + r) = rdV c (c (2 + r))) ∧ (∀ r, m ≤ r → mPh2 c m (2 + r) = c (2 + r))
  | 0, _ => ⟨fun r h => absurd h (Nat.not_lt_zero _), fun _ _ => rfl⟩
  | m + 1, hm => by
    have ih := ph2_v (c := c) m (by omega)
    have f := Fr.ph2 (c := c) m (by omega)
    have e1 : mPh2 c m 1 = c 1 := f 1 (by omega)
    have e16 : mPh2 c m 16 = c 16 := f 16 (by omega)
    have em : mPh2 c m (2 + m) = c (2 + m) := ih.2 m (Nat.le_refl m)
    have hs : mPh2 c (m + 1) = upd (mPh2 c m) (2 + m) (rdV c (c (2 + m))) := by
      show mRide (mPh2 c m) m = _
      simp only [mRide, rdV, em, e1, e16]
      split
      · rfl
      · rw [← em, upd_self]
    rw [hs]
    refine ⟨fun r hr => ?_, fun r hr => ?_⟩
    · by_cases e : r = m
      · rw [e, pk_us]
      · rw [pk_un (by omega)]; exact ih.1 r (by omega)
    · rw [pk_un (by omega)]; exact ih.2 r (by omega)
theorem nC_ph2 {n : Nat} {c : Nat → Int32} (h : nC n c) (hn : n ≤ 7) : nC n (mPh2 c n) := by
  intro a b ha hb hab hon he
  have f := Fr.ph2 (c := c) n hn
  rw [(ph2_v n hn).1 a ha] at hon he
  rw [(ph2_v n hn).1 b hb] at he
  have hm : mMeets (mPh2 c n) a b (mPh2 c n (9 + a)) = mMeets c a b (c (9 + a)) := by
    simp only [mMeets]; rw [f (9 + a) (by omega), f (18 + a) (by omega), f (18 + b) (by omega), f (9 + b) (by omega)]
  rw [hm]
  have k99 : mOn 99 = false := by decide
  have onA : mOn (c (2 + a)) = true ∧ rdV c (c (2 + a)) = c (2 + a) + c 1 := by
    simp only [rdV] at hon ⊢
    by_cases e : mOn (c (2 + a)) = true
    · rw [if_pos e] at hon ⊢
      by_cases e2 : c (2 + a) + c 1 < c 16
      · rw [if_pos e2]; exact ⟨e, rfl⟩
      · rw [if_neg e2, k99] at hon; cases hon
    · rw [if_neg e] at hon; exact absurd hon e
  have onB : rdV c (c (2 + b)) = c (2 + b) + c 1 := by
    rw [he] at hon
    simp only [rdV] at hon ⊢
    by_cases e : mOn (c (2 + b)) = true
    · rw [if_pos e] at hon ⊢
      by_cases e2 : c (2 + b) + c 1 < c 16
      · rw [if_pos e2]
      · rw [if_neg e2, k99] at hon; cases hon
    · rw [if_neg e] at hon; exact absurd hon e
  rw [onA.2, onB] at he
  have e0 : c (2 + a) = c (2 + b) := by
    have := congrArg (fun z => z - c 1) he
    simp only [Int32.add_sub_cancel] at this
    exact this
  exact h a b ha hb hab onA.1 e0
theorem nC_come {n : Nat} {c : Nat → Int32} (h : nC n c) (hn : n ≤ 7) : nC n (mCome n c) := by
  cases e : fstF (mCand n c) n 0 with
  | none => simp only [mCome, e]; exact h
  | some r =>
    have hc := fst_true _ _ _ e
    have hr : r < n := by have := (fst_lt e).1; omega
    simp only [mCand, Bool.and_eq_true, decide_eq_true_eq] at hc
    simp only [mCome, e]
    exact nC_to h (by omega) hc.2
theorem nC_tick {n k : Nat} {c : Nat → Int32} (h : nC n c) (hn : n ≤ 7) : nC n (mTick n k c) := by
  simp only [mTick]
  exact nC_up (nC_come (nC_ph2 (nC_fold _ c h (fun r hr => by have := ordS_lt k r hr; omega)) hn) hn) (by omega)
theorem wide_free {n j : Nat} {c : Nat → Int32} {lane : Int32} (h : nC n c) (hj : j < n) (hw : 4 ≤ c (18 + j)) (hon : mOn (c (2 + j)) = true) : mFreeTo c j (c (2 + j)) lane n = true := by
  rw [free_iff]
  intro q hq hne he
  have := h j q hj hq (fun e => hne e.symm) hon he.symm
  simp only [mMeets, decide_eq_true hw, Bool.true_or] at this
  cases this
theorem nC_lane {n j : Nat} {c : Nat → Int32} {v : Int32} (hn : n ≤ 7) (h : nC n c) (hj : j < 7) (hf : mOn (c (2 + j)) = true → mFreeTo c j (c (2 + j)) v n = true) : nC n (upd c (9 + j) v) := by
  intro a b ha hb hab hon he
  rw [pk_un (by omega)] at hon
  rw [pk_un (by omega), pk_un (by omega)] at he
  by_cases e1 : a = j
  · subst e1
    have := (free_iff n).mp (hf hon) b hb (fun e => hab e.symm) he.symm
    simp only [mMeets] at this ⊢
    rw [pk_us, pk_un (show 18 + a ≠ 9 + a by omega), pk_un (show 18 + b ≠ 9 + a by omega), pk_un (show 9 + b ≠ 9 + a by omega)]
    exact this
  · by_cases e2 : b = j
    · subst e2
      have := (free_iff n).mp (hf (he ▸ hon)) a ha hab he
      simp only [mMeets] at this ⊢
      rw [pk_us, pk_un (show 18 + a ≠ 9 + b by omega), pk_un (show 18 + b ≠ 9 + b by omega), pk_un (show 9 + a ≠ 9 + b by omega)]
      rw [Bool.or_comm (decide (4 ≤ c (18 + a)))]
      have e3 : decide (v = c (9 + a)) = decide (c (9 + a) = v) := by
        by_cases e : v = c (9 + a)
        · rw [decide_eq_true e, decide_eq_true e.symm]
        · rw [decide_eq_false e, decide_eq_false (fun h => e h.symm)]
      rw [e3]
      exact this
    · have := h a b ha hb hab hon he
      simp only [mMeets] at this ⊢
      rw [pk_un (show 9 + a ≠ 9 + j by omega), pk_un (show 18 + a ≠ 9 + j by omega), pk_un (show 18 + b ≠ 9 + j by omega), pk_un (show 9 + b ≠ 9 + j by omega)]
      exact this
theorem wR_pl {n r : Nat} {c : Nat → Int32} {v : Int32} (h : wR n c) (hr : r < 7) (hv : mOn v = true → mIn v 0 (c 16 - 1) = true) : wR n (upd c (2 + r) v) := by
  refine ⟨by rw [pk_un (by omega)]; exact h.1, fun q hq => ?_⟩
  rw [pk_un (show 16 ≠ 2 + r by omega)]
  by_cases e : q = r
  · rw [e, pk_us]; exact hv
  · rw [pk_un (by omega)]; exact h.2 q hq
theorem wR_sp {n : Nat} {c : Nat → Int32} {v : Int32} (h : wR n c) (hv : mIn v 0 2 = true) : wR n (upd c 1 v) :=
  ⟨by rw [pk_us]; exact hv, fun q hq => by rw [pk_un (by omega), pk_un (by omega)]; exact h.2 q hq⟩
theorem wR_j {n j : Nat} {c : Nat → Int32} {v : Int32} (h : wR n c) (hn : n ≤ 7) (hj : j = 0 ∨ (9 ≤ j ∧ j < 16)) : wR n (upd c j v) :=
  ⟨by rw [pk_un (by omega)]; exact h.1, fun q hq => by rw [pk_un (by omega), pk_un (by omega)]; exact h.2 q hq⟩
theorem wR_go {n r : Nat} {c : Nat → Int32} {b : Int32} (h : wR n c) (hr : r < 7) : wR n (mGo n c r b) := by
  simp only [mGo]
  by_cases e : mMay n c r b = true
  · rw [if_pos e]
    simp only [mMay, Bool.and_eq_true] at e
    exact wR_pl h hr (fun _ => e.1)
  · rw [if_neg e, Int32.add_zero, upd_self]; exact h
theorem wR_mv {n r : Nat} {c : Nat → Int32} (h : wR n c) (hr : r < 7) : wR n (mMv n c r) := by
  simp only [mMv]
  split
  · exact wR_go h hr
  · split
    · split
      · exact wR_go (wR_go h hr) hr
      · exact wR_go h hr
    · split
      · exact wR_go h hr
      · exact h
theorem wR_fold {n : Nat} : ∀ (L : List Nat) (c : Nat → Int32), wR n c → (∀ r ∈ L, r < 7) → wR n (L.foldl (mMv n) c)
  | [], c, h, _ => h
  | r :: L, c, h, hL => wR_fold L _ (wR_mv h (hL r List.mem_cons_self)) (fun q hq => hL q (List.mem_cons_of_mem _ hq))
theorem inK {v : Int32} {k : Nat} (hk : k ≤ 12) (h : mIn v 0 (nI k - 1) = true) : ∃ p, p < k ∧ v = nI p := by
  cases k with
  | zero =>
    simp only [mIn, Bool.and_eq_true, decide_eq_true_eq] at h
    exact absurd (Int32.le_trans h.1 h.2) (by decide)
  | succ k =>
    rw [nI_pred] at h
    obtain ⟨j, hj, e⟩ := mIn_nat h k (nI_toInt (by omega))
    exact ⟨j, by omega, e⟩
theorem kIn {p k : Nat} (hk : k ≤ 12) (hp : p < k) : mIn (nI p) 0 (nI k - 1) = true := by
  have h : ∀ k : Nat, k ≤ 12 → ∀ p : Nat, p < k → mIn (nI p) 0 (nI k - 1) = true := by decide +kernel
  exact h k hk p hp
theorem wR_ph2 {n k : Nat} {c : Nat → Int32} (h : wR n c) (hn : n ≤ 7) (h16 : c 16 = nI k) (hk : k ≤ 12) : wR n (mPh2 c n) := by
  have f := Fr.ph2 (c := c) n hn
  refine ⟨by rw [f 1 (by omega)]; exact h.1, fun r hr hon => ?_⟩
  rw [f 16 (by omega)]
  rw [(ph2_v n hn).1 r hr] at hon ⊢
  simp only [rdV] at hon ⊢
  by_cases e : mOn (c (2 + r)) = true
  · rw [if_pos e] at hon ⊢
    by_cases e2 : c (2 + r) + c 1 < c 16
    · rw [if_pos e2]
      have hv := h.2 r hr e
      rw [h16] at hv e2 ⊢
      obtain ⟨p, hp, ep⟩ := inK hk hv
      obtain ⟨s, hs, es⟩ := mIn_nat h.1 2 (by decide)
      rw [ep, es, nI_add] at e2 ⊢
      exact kIn hk ((zn_lt (a := p + s) (b := k) (by omega) (by omega)).mp e2)
    · rw [if_neg e2] at hon; exact absurd hon (by decide)
  · rw [if_neg e] at hon; exact absurd hon e
theorem wR_come {n k : Nat} {c : Nat → Int32} (h : wR n c) (hn : n ≤ 7) (h16 : c 16 = nI k) (hk : k ≤ 12) (hk0 : 0 < k) : wR n (mCome n c) := by
  cases e : fstF (mCand n c) n 0 with
  | none => simp only [mCome, e]; exact h
  | some r =>
    have hr : r < n := by have := (fst_lt e).1; omega
    simp only [mCome, e]
    exact wR_pl h (by omega) (fun _ => by rw [h16]; exact kIn hk hk0)
theorem nW_tick {n k : Nat} {c : Nat → Int32} (h : nW n c) (hn : n ≤ 7) (h16 : c 16 = nI k) (hk : k ≤ 12) (hk0 : 0 < k) : nW n (mTick n k c) := by
  refine ⟨nC_tick h.1 hn, ?_⟩
  simp only [mTick]
  have hL : ∀ r ∈ ordC n c k, r < 7 := fun r hr => by have := ordS_lt k r hr; omega
  have f1 := Fr.foldl (n := n) _ hL c
  have g1 : mPh1 n k c 16 = nI k := (f1 16 (by omega)).trans h16
  have f2 := Fr.ph2 (c := mPh1 n k c) n hn
  exact wR_j (wR_come (wR_ph2 (wR_fold _ c h.2 hL) hn g1 hk) hn ((f2 16 (by omega)).trans g1) hk hk0) hn (Or.inl rfl)
theorem nW_sp {n : Nat} {c : Nat → Int32} {v : Int32} (h : nW n c) (hv : mIn v 0 2 = true) : nW n (upd c 1 v) := ⟨nC_up h.1 (by omega), wR_sp h.2 hv⟩
theorem nW_off {n r : Nat} {c : Nat → Int32} {v : Int32} (h : nW n c) (hr : r < 7) (hv : mOn v = false) : nW n (upd c (2 + r) v) := ⟨nC_off h.1 hr hv, wR_pl h.2 hr (fun e => by rw [hv] at e; cases e)⟩
theorem nW_lane {n j : Nat} {c : Nat → Int32} {v : Int32} (hn : n ≤ 7) (h : nW n c) (hj : j < 7) (hf : mOn (c (2 + j)) = true → mFreeTo c j (c (2 + j)) v n = true) : nW n (upd c (9 + j) v) := ⟨nC_lane hn h.1 hj hf, wR_j h.2 hn (Or.inr ⟨by omega, by omega⟩)⟩
def aOK (n k : Nat) (ra : Nat → Nat) (c xm : Nat → Int32) (kn : Nat) (pf : pF) (pa : Nat → Int32) : Prop := xm 3 = nI kn ∧ (0 < n → nW n c) ∧ (n = 0 → kn = 0) ∧ pastR n k ra pf kn pa c
theorem gOK.row {T : va_W} {n k : Nat} {ra : Nat → Nat} {c : Nat → Int32} (h : gOK T n k ra c) (hn : nW n c) : rowOK n k c := ⟨h.2.2.1, h.2.2.2.1, h.2.2.2.2.2.2.1, hn⟩
theorem gOK.to {T : va_W} {n k : Nat} {ra : Nat → Nat} {c c1 : Nat → Int32} (h : gOK T n k ra c) (h16 : ∀ j, 16 ≤ j → c1 j = c j) (hl : ∀ q, q < n → c1 (9 + q) = 0 ∨ c1 (9 + q) = 1) : gOK T n k ra c1 :=
  ⟨h.1, h.2.1, (h16 17 (by omega)).trans h.2.2.1, (h16 16 (by omega)).trans h.2.2.2.1, h.2.2.2.2.1, h.2.2.2.2.2.1, hl, by rw [show (fun r => c1 (18 + r)) = (fun r => c (18 + r)) from funext fun r => h16 (18 + r) (by omega)]; exact h.2.2.2.2.2.2.2⟩
theorem act_ok {T : va_W} {n k : Nat} {ra : Nat → Nat} {c c1 xm pa : Nat → Int32} {kn : Nat} {pf : pF} {s1 : sP} {wn : Int32} (hG : gOK T n k ra c) (hA : aOK n k ra c xm kn pf pa) (hs : ∃ d1 md1 od1, s1.2 = ((some d1, n, ra), (md1, wn, od1), c)) (h16 : ∀ j, 16 ≤ j → c1 j = c j) (hl : ∀ q, q < n → c1 (9 + q) = 0 ∨ c1 (9 + q) = 1) (hnC : nW n c1) : gOK T n k ra c1 ∧ aOK n k ra c1 (kx xm kn) (knK kn) (keepF kn pf s1) (mKeepP kn pa c) := by
  obtain ⟨d1, md1, od1, hs⟩ := hs
  have hn1 := hG.1
  exact ⟨hG.to h16 hl, pk_us, fun _ => hnC, fun e => by omega, (hA.2.2.2.keep hs hG.2.1 (hG.row (hA.2.1 (by omega)))).row h16⟩
theorem lane_t {n k : Nat} {c : Nat → Int32} (hn : n ≤ 7) (h : ∀ q, q < n → c (9 + q) = 0 ∨ c (9 + q) = 1) : ∀ q, q < n → mTick n k c (9 + q) = 0 ∨ mTick n k c (9 + q) = 1 := fun q hq => by rw [FrT.tick hn (9 + q) (by omega)]; exact h q hq
theorem lane_w {n j : Nat} {c : Nat → Int32} {v : Int32} (hj : j < 9) (h : ∀ q, q < n → c (9 + q) = 0 ∨ c (9 + q) = 1) : ∀ q, q < n → upd c j v (9 + q) = 0 ∨ upd c j v (9 + q) = 1 := fun q hq => by rw [pk_un (by omega)]; exact h q hq
theorem lane_l {n j : Nat} {c : Nat → Int32} {v : Int32} (hv : v = 0 ∨ v = 1) (h : ∀ q, q < n → c (9 + q) = 0 ∨ c (9 + q) = 1) : ∀ q, q < n → upd c (9 + j) v (9 + q) = 0 ∨ upd c (9 + j) v (9 + q) = 1 := fun q hq => by
  by_cases e : q = j
  · rw [e, pk_us]; exact hv
  · rw [pk_un (by omega)]; exact h q hq
theorem oth01 {v : Int32} (h : v = 0 ∨ v = 1) : 1 - v = 0 ∨ 1 - v = 1 := by rcases h with h | h <;> rw [h] <;> decide
theorem half01 {w : Int32} (h : mIn w 0 1 = true) : w = 0 ∨ w = 1 := by
  obtain ⟨j, hj, rfl⟩ := mIn_nat h 1 (by decide)
  rcases (show j = 0 ∨ j = 1 by omega) with e | e <;> rw [e]
  · exact Or.inl rfl
  · exact Or.inr rfl

set_option maxHeartbeats 4000000 in
theorem met_X0_speed (l : Launch) (D : va_G) (B0 : Nat) (A : Nat → Prop) (o : Nat) (ad : Nat → Nat) (sa : Nat → Nat) (sb : Nat → Nat) (tr : Nat) (x : Nat → Int32) (da : Option Nat) (n : Nat) (ra : Nat → Nat) (md : Int32) (wn : Int32) (od : Nat → Int32) (c : Nat → Int32) (T : va_W) (k : Nat) (xm : Nat → Int32) (pa : Nat → Int32) (pf : pF) (kn : Nat) (v : Int32) (hS : sOK T da n k ra c) (hx : x 2 = nI kn) (hA : aOK n k ra c xm kn pf pa) : Met l yX0_speed (ws_ yX0_speed cX0_speed 3 (some .int)) (zRm 8 6 42) (va_Pc [.ref o, .int v] (zPre B0 D A [cOb o ad (sa 0) (sb 0) tr x, [(ad 2, .inl (D.1 106, 24, .inr (.inr (.inr (.inr (pRef pf))))))], thP D sa ((da, n, ra), (md, wn, od), c), pstP D pf 24, T])) (zQ (S := Int32 × (Nat → Int32) × (Nat → Int32) × (Nat → Int32) × Nat × pF × Int32 × (Nat → Int32)) (fun u => (fun (r_ : Int32) (xm1 : Nat → Int32) (pa1 : Nat → Int32) (c1 : Nat → Int32) (kn1 : Nat) (pf1 : pF) (wn1 : Int32) (od1 : Nat → Int32) => (r_, xm1, pa1, c1) = mSpeed kn xm pa c v ∧ sOK T da n k ra c1 ∧ aOK n k ra c1 xm1 kn1 pf1 pa1) u.1 u.2.1 u.2.2.1 u.2.2.2.1 u.2.2.2.2.1 u.2.2.2.2.2.1 u.2.2.2.2.2.2.1 u.2.2.2.2.2.2.2) (fun u => (fun (r_ : Int32) (xm1 : Nat → Int32) (pa1 : Nat → Int32) (c1 : Nat → Int32) (kn1 : Nat) (pf1 : pF) (wn1 : Int32) (od1 : Nat → Int32) => some (.int r_)) u.1 u.2.1 u.2.2.1 u.2.2.2.1 u.2.2.2.2.1 u.2.2.2.2.2.1 u.2.2.2.2.2.2.1 u.2.2.2.2.2.2.2) (fun u => (fun (r_ : Int32) (xm1 : Nat → Int32) (pa1 : Nat → Int32) (c1 : Nat → Int32) (kn1 : Nat) (pf1 : pF) (wn1 : Int32) (od1 : Nat → Int32) => [cOb o ad (sa 0) (sb 0) tr (upd x 2 (nI kn1)), [(ad 2, .inl (D.1 106, 24, .inr (.inr (.inr (.inr (pRef pf1))))))], thP D sa ((da, n, ra), (md, wn1, od1), c1), pstP D pf1 24, T]) u.1 u.2.1 u.2.2.1 u.2.2.2.1 u.2.2.2.2.1 u.2.2.2.2.2.1 u.2.2.2.2.2.2.1 u.2.2.2.2.2.2.2) D A) 6 42 A := by
  refine z_entry (by decide +kernel) (Nat.le_of_ble_eq_true rfl) (fun pX eX sX mX argsX blX mtX cX QX hQX gX hAX hnm => ?_)
  refine z_eq (lv₂ := [(0, .ref o), (1, .int v)]) (st₂ := []) ?_ rfl rfl
  have hS0 := hS
  rcases hS with ⟨rfl, rfl, h16, h17⟩ | ⟨⟨d, rfl⟩, hG⟩
  · skip
    refine z_ws [cOb o ad (sa 0) (sb 0) tr x, [(ad 2, .inl (D.1 106, 24, .inr (.inr (.inr (.inr (pRef pf))))))], [(sa 0, .inr (2, [.int (c 16), .int (c 1), .int (c 0), .int wn, .ref (sa 1), .ref (sa 2), .ref (sa 3), .ref (sa 4)]))], [(sa 1, .inr (16, [.int md, .ref (zEE D), .int (nI 0)]))], [(sa 2, .inl (D.1 100, 7, .inl (fun i_ => c (9 + i_))))], [(sa 3, .inl (D.1 100, 7, .inl (fun i_ => c (2 + i_))))], [(sa 4, .inl (D.1 100, 7, .inl od))], pstP D pf 24, T] (List.Perm.refl _) ?_
    refine z_aload_n (pc := 0) gX 0 dX0_speed_0 rfl rfl ?_
    refine z_cOV (pc := 1) gX (zI_ok gX hAX) [] [] [0, 2] (met_X0_isThere l D B0 o ad sa sb tr x (c 16) (c 1) (c 0) wn ) q829 q831 qs18 q47 q832 (zm 0 rfl) (ci := 0) rfl rfl hd_X0_isThere ⟨rfl, rfl⟩ ⟨(Nat.le_of_ble_eq_true rfl), (Nat.le_of_ble_eq_true rfl)⟩ rfl rfl rfl (Nat.le_of_ble_eq_true rfl) ⟨(Nat.le_of_ble_eq_true rfl), (Nat.le_of_ble_eq_true rfl)⟩ dX0_speed_1 ?_
    intro _ hu1
    refine z_eq (lv₂ := [(0, .ref o), (1, .int v)]) (st₂ := [.int (bI (decide (0 < (c 16))))]) ?_ rfl rfl
    refine z_if_ne (pc := 4) gX 10 dX0_speed_4 (by decide) (fun c4 => ?_) (fun c4 => ?_)
    · skip
      have k4 : (decide (0 < (c 16))) = true := bI_ne0 c4
      exact absurd k4 (by rw [h16]; decide)
    · skip
      have k4 : (decide (0 < (c 16))) = false := bI_eq0 c4
      refine z_ldc (pc := 7) gX q833 dX0_speed_7 ?_
      refine z_ws [cOb o ad (sa 0) (sb 0) tr x, [(ad 2, .inl (D.1 106, 24, .inr (.inr (.inr (.inr (pRef pf))))))], thP D sa ((none, 0, ra), (md, wn, od), c), pstP D pf 24, T] (List.Perm.refl _) ?_
      exact z_rim gX hQX ((-1000002), xm, pa, c, kn, pf, wn, od) (⟨by simp [mSpeed, h17], hS0, hA⟩) rfl (by simp only [show upd x 2 (nI kn) = x by rw [← hx]; exact upd_self _ _]) (by first | decide | omega) (by first | decide | omega) dX0_speed_9
  · skip
    have hK := hG.k
    have hn1 := hG.1
    have hn7 := hG.2.1
    have h17 := hG.2.2.1
    have h16 := hG.2.2.2.1
    have hk4 := hG.2.2.2.2.1
    have hk12 := hG.2.2.2.2.2.1
    have hln := hG.2.2.2.2.2.2.1
    have hR := hG.2.2.2.2.2.2.2
    refine z_ws [cOb o ad (sa 0) (sb 0) tr x, [(ad 2, .inl (D.1 106, 24, .inr (.inr (.inr (.inr (pRef pf))))))], [(sa 0, .inr (2, [.int (c 16), .int (c 1), .int (c 0), .int wn, .ref (sa 1), .ref (sa 2), .ref (sa 3), .ref (sa 4)]))], [(sa 1, .inr (16, [.int md, .ref d, .int (nI n)]))], [(sa 2, .inl (D.1 100, 7, .inl (fun i_ => c (9 + i_))))], [(sa 3, .inl (D.1 100, 7, .inl (fun i_ => c (2 + i_))))], [(sa 4, .inl (D.1 100, 7, .inl od))], [(d, .inl (D.1 104, 10, .inr (.inr (.inr (.inr (rF ra n))))))], pstP D pf 24, T] (List.Perm.refl _) ?_
    refine z_aload_n (pc := 0) gX 0 dX0_speed_0 rfl rfl ?_
    refine z_cOV (pc := 1) gX (zI_ok gX hAX) [] [] [0, 2] (met_X0_isThere l D B0 o ad sa sb tr x (c 16) (c 1) (c 0) wn ) q829 q831 qs18 q47 q832 (zm 0 rfl) (ci := 0) rfl rfl hd_X0_isThere ⟨rfl, rfl⟩ ⟨(Nat.le_of_ble_eq_true rfl), (Nat.le_of_ble_eq_true rfl)⟩ rfl rfl rfl (Nat.le_of_ble_eq_true rfl) ⟨(Nat.le_of_ble_eq_true rfl), (Nat.le_of_ble_eq_true rfl)⟩ dX0_speed_1 ?_
    intro _ hu1
    refine z_eq (lv₂ := [(0, .ref o), (1, .int v)]) (st₂ := [.int (bI (decide (0 < (c 16))))]) ?_ rfl rfl
    refine z_if_ne (pc := 4) gX 10 dX0_speed_4 (by decide) (fun c4 => ?_) (fun c4 => ?_)
    · skip
      have k4 : (decide (0 < (c 16))) = true := bI_ne0 c4
      refine z_iload_n (pc := 10) gX 1 dX0_speed_10 rfl rfl ?_
      refine z_i2l (pc := 11) gX dX0_speed_11 ?_
      refine z_lconst (pc := 12) gX 0 dX0_speed_12 rfl ?_
      refine z_ldc2_w (pc := 13) gX q349 dX0_speed_13 ?_
      refine z_cOS (pc := 16) gX (zI_ok gX hAX) [.long v.toInt64, .long 0, .long 2] [] [] (met_X0_isIn l D B0 v.toInt64 0 2 ) q346 q347 q47 q348 hd_X0_isIn ⟨rfl, rfl⟩ ⟨(Nat.le_of_ble_eq_true rfl), (Nat.le_of_ble_eq_true rfl)⟩ rfl rfl rfl (Nat.le_of_ble_eq_true rfl) ⟨(Nat.le_of_ble_eq_true rfl), (Nat.le_of_ble_eq_true rfl)⟩ dX0_speed_16 ?_
      intro _ hu16
      refine z_eq (lv₂ := [(0, .ref o), (1, .int v)]) (st₂ := [.int (bI (lIn v.toInt64 0 2))]) ?_ rfl rfl
      refine z_top (bI (mIn v 0 2)) (congrArg bI (lIn_eq rfl (by decide) (by decide))) ?_
      refine z_if_ne (pc := 19) gX 25 dX0_speed_19 (by decide) (fun c19 => ?_) (fun c19 => ?_)
      · skip
        have k19 : (mIn v 0 2) = true := bI_ne0 c19
        refine z_aload_n (pc := 25) gX 0 dX0_speed_25 rfl rfl ?_
        refine z_cMV (pc := 26) gX hAX [] [] [0, 1, 2, 3, 4, 5, 6, 7, 8, 9] [] (fun A1 => met_X0_keep l D B0 A1 o ad sa sb tr x wn md d n c od ra T k pf kn hG hx hA.2.2.2.1 hA.2.2.2.some hA.2.2.2.2.1) q835 q837 qs19 q47 q838 (zm 0 rfl) (ci := 0) rfl rfl hd_X0_keep ⟨rfl, rfl⟩ ⟨(Nat.le_of_ble_eq_true rfl), (Nat.le_of_ble_eq_true rfl)⟩ rfl rfl (zpl 10 rfl (by decide +kernel)) rfl rfl (Nat.le_of_ble_eq_true rfl) ⟨(Nat.le_of_ble_eq_true rfl), (Nat.le_of_ble_eq_true rfl)⟩ dX0_speed_26 ?_
        intro u26 hu26
        obtain ⟨s1_26, rfl⟩ : ∃ z, z = u26 := ⟨_, rfl⟩
        have hu26 : ∃ d1 md1 od1, s1_26.2 = ((some d1, n, ra), (md1, wn, od1), c) := hu26
        refine z_re [0, 1, 2, 3, 4, 5, 6, 7, 8, 9] [cOb o ad (sa 0) (sb 0) tr (upd x 2 (nI (knK kn))), [(ad 2, .inl (D.1 106, 24, .inr (.inr (.inr (.inr (pRef (keepF kn pf s1_26)))))))], [(sa 0, .inr (2, [.int (c 16), .int (c 1), .int (c 0), .int wn, .ref (sa 1), .ref (sa 2), .ref (sa 3), .ref (sa 4)]))], [(sa 1, .inr (16, [.int md, .ref d, .int (nI n)]))], [(sa 2, .inl (D.1 100, 7, .inl (fun i_ => c (9 + i_))))], [(sa 3, .inl (D.1 100, 7, .inl (fun i_ => c (2 + i_))))], [(sa 4, .inl (D.1 100, 7, .inl od))], [(d, .inl (D.1 104, 10, .inr (.inr (.inr (.inr (rF ra n))))))], pstP D (keepF kn pf s1_26) 24, T] rfl (zpl 10 rfl (by decide +kernel)) ?_
        refine z_norm [cOb o ad (sa 0) (sb 0) tr (upd x 2 (nI (knK kn))), [(ad 2, .inl (D.1 106, 24, .inr (.inr (.inr (.inr (pRef (keepF kn pf s1_26)))))))], [(sa 0, .inr (2, [.int (c 16), .int (c 1), .int (c 0), .int wn, .ref (sa 1), .ref (sa 2), .ref (sa 3), .ref (sa 4)]))], [(sa 1, .inr (16, [.int md, .ref d, .int (nI n)]))], [(sa 2, .inl (D.1 100, 7, .inl (fun i_ => c (9 + i_))))], [(sa 3, .inl (D.1 100, 7, .inl (fun i_ => c (2 + i_))))], [(sa 4, .inl (D.1 100, 7, .inl od))], [(d, .inl (D.1 104, 10, .inr (.inr (.inr (.inr (rF ra n))))))], pstP D (keepF kn pf s1_26) 24, T] 6 42 ?_ rfl rfl rfl
        refine z_eq (lv₂ := [(0, .ref o), (1, .int v)]) (st₂ := []) ?_ rfl rfl
        refine z_aload_n (pc := 29) gX 0 dX0_speed_29 rfl rfl ?_
        refine z_get (pc := 30) gX (zI_ok gX hAX) (zm 0 rfl) (ci := 0) (C := RX0) (T := TX0) (N := 14) rfl in_X0 4 (by decide) q213 (fun _ h => h) (v := .ref (sa 0)) rfl dX0_speed_30 ?_
        refine z_get (pc := 33) gX (zI_ok gX hAX) (zm 2 rfl) (ci := 2) (C := RX2) (T := TX2) (N := 8) rfl in_X2 1 (by decide) q151 (fun _ h => h) (v := .int (c 1)) rfl dX0_speed_33 ?_
        refine z_istore_n (pc := 36) gX [1, 2, 0] [(0, .ref o), (1, .int v), (2, .int (c 1))] dX0_speed_36 rfl (by decide) rfl ?_
        refine z_aload_n (pc := 37) gX 0 dX0_speed_37 rfl rfl ?_
        refine z_get (pc := 38) gX (zI_ok gX hAX) (zm 0 rfl) (ci := 0) (C := RX0) (T := TX0) (N := 14) rfl in_X0 4 (by decide) q213 (fun _ h => h) (v := .ref (sa 0)) rfl dX0_speed_38 ?_
        refine z_iload_n (pc := 41) gX 1 dX0_speed_41 rfl rfl ?_
        refine z_put (pc := 42) gX hAX 2 rfl (ci := 2) (C := RX2) (T := TX2) (N := 8) rfl in_X2 tyX2 tyX2_ok nmX2 1 (by decide) q151 (fun _ h => h) rfl (v := .int v) rfl rfl (Nat.le_of_ble_eq_true rfl) [cOb o ad (sa 0) (sb 0) tr (upd x 2 (nI (knK kn))), [(ad 2, .inl (D.1 106, 24, .inr (.inr (.inr (.inr (pRef (keepF kn pf s1_26)))))))], [(sa 0, .inr (2, [.int (c 16), .int v, .int (c 0), .int wn, .ref (sa 1), .ref (sa 2), .ref (sa 3), .ref (sa 4)]))], [(sa 1, .inr (16, [.int md, .ref d, .int (nI n)]))], [(sa 2, .inl (D.1 100, 7, .inl (fun i_ => c (9 + i_))))], [(sa 3, .inl (D.1 100, 7, .inl (fun i_ => c (2 + i_))))], [(sa 4, .inl (D.1 100, 7, .inl od))], [(d, .inl (D.1 104, 10, .inr (.inr (.inr (.inr (rF ra n))))))], pstP D (keepF kn pf s1_26) 24, T] rfl dX0_speed_42 ?_
        refine z_ext 4 (fun i_ => (upd c 1 v) (9 + i_)) rfl (fun q hq => (pk_un (by omega)).symm) [cOb o ad (sa 0) (sb 0) tr (upd x 2 (nI (knK kn))), [(ad 2, .inl (D.1 106, 24, .inr (.inr (.inr (.inr (pRef (keepF kn pf s1_26)))))))], [(sa 0, .inr (2, [.int (c 16), .int v, .int (c 0), .int wn, .ref (sa 1), .ref (sa 2), .ref (sa 3), .ref (sa 4)]))], [(sa 1, .inr (16, [.int md, .ref d, .int (nI n)]))], [(sa 2, .inl (D.1 100, 7, .inl (fun i_ => (upd c 1 v) (9 + i_))))], [(sa 3, .inl (D.1 100, 7, .inl (fun i_ => c (2 + i_))))], [(sa 4, .inl (D.1 100, 7, .inl od))], [(d, .inl (D.1 104, 10, .inr (.inr (.inr (.inr (rF ra n))))))], pstP D (keepF kn pf s1_26) 24, T] rfl ?_
        refine z_ext 5 (fun i_ => (upd c 1 v) (2 + i_)) rfl (fun q hq => (pk_un (by omega)).symm) [cOb o ad (sa 0) (sb 0) tr (upd x 2 (nI (knK kn))), [(ad 2, .inl (D.1 106, 24, .inr (.inr (.inr (.inr (pRef (keepF kn pf s1_26)))))))], [(sa 0, .inr (2, [.int (c 16), .int v, .int (c 0), .int wn, .ref (sa 1), .ref (sa 2), .ref (sa 3), .ref (sa 4)]))], [(sa 1, .inr (16, [.int md, .ref d, .int (nI n)]))], [(sa 2, .inl (D.1 100, 7, .inl (fun i_ => (upd c 1 v) (9 + i_))))], [(sa 3, .inl (D.1 100, 7, .inl (fun i_ => (upd c 1 v) (2 + i_))))], [(sa 4, .inl (D.1 100, 7, .inl od))], [(d, .inl (D.1 104, 10, .inr (.inr (.inr (.inr (rF ra n))))))], pstP D (keepF kn pf s1_26) 24, T] rfl ?_
        refine z_weq [cOb o ad (sa 0) (sb 0) tr (upd x 2 (nI (knK kn))), [(ad 2, .inl (D.1 106, 24, .inr (.inr (.inr (.inr (pRef (keepF kn pf s1_26)))))))], [(sa 0, .inr (2, [.int ((upd c 1 v) 16), .int ((upd c 1 v) 1), .int ((upd c 1 v) 0), .int wn, .ref (sa 1), .ref (sa 2), .ref (sa 3), .ref (sa 4)]))], [(sa 1, .inr (16, [.int md, .ref d, .int (nI n)]))], [(sa 2, .inl (D.1 100, 7, .inl (fun i_ => (upd c 1 v) (9 + i_))))], [(sa 3, .inl (D.1 100, 7, .inl (fun i_ => (upd c 1 v) (2 + i_))))], [(sa 4, .inl (D.1 100, 7, .inl od))], [(d, .inl (D.1 104, 10, .inr (.inr (.inr (.inr (rF ra n))))))], pstP D (keepF kn pf s1_26) 24, T] (by rw [show (upd c 1 v) 16 = c 16 from pk_un (by omega), show (upd c 1 v) 1 = v from pk_us, show (upd c 1 v) 0 = c 0 from pk_un (by omega)]) ?_
        refine z_iload_n (pc := 45) gX 2 dX0_speed_45 rfl rfl ?_
        refine z_ws [cOb o ad (sa 0) (sb 0) tr (upd x 2 (nI (knK kn))), [(ad 2, .inl (D.1 106, 24, .inr (.inr (.inr (.inr (pRef (keepF kn pf s1_26)))))))], thP D sa ((some d, n, ra), (md, wn, od), upd c 1 v), pstP D (keepF kn pf s1_26) 24, T] (List.Perm.refl _) ?_
        exact z_rim gX hQX (c 1, kx xm kn, mKeepP kn pa c, upd c 1 v, knK kn, keepF kn pf s1_26, wn, od) ((fun h => ⟨by simp [mSpeed, poG hG, k19], Or.inr ⟨⟨d, rfl⟩, h.1⟩, h.2⟩) (act_ok hG hA hu26 (fun q hq => pk_un (by omega)) (lane_w (by omega) hln) (nW_sp (hA.2.1 (by omega)) k19))) rfl rfl (by first | decide | omega) (by first | decide | omega) dX0_speed_46
      · skip
        have k19 : (mIn v 0 2) = false := bI_eq0 c19
        refine z_ldc (pc := 22) gX q350 dX0_speed_22 ?_
        refine z_ws [cOb o ad (sa 0) (sb 0) tr x, [(ad 2, .inl (D.1 106, 24, .inr (.inr (.inr (.inr (pRef pf))))))], thP D sa ((some d, n, ra), (md, wn, od), c), pstP D pf 24, T] (List.Perm.refl _) ?_
        exact z_rim gX hQX ((-1000001), xm, pa, c, kn, pf, wn, od) (⟨by simp [mSpeed, poG hG, k19], hS0, hA⟩) rfl (by simp only [show upd x 2 (nI kn) = x by rw [← hx]; exact upd_self _ _]) (by first | decide | omega) (by first | decide | omega) dX0_speed_24
    · skip
      have k4 : (decide (0 < (c 16))) = false := bI_eq0 c4
      exact absurd k4 (by rw [thG hG]; decide)
theorem hd_X0_speed : zHd yX0_speed 1 := by unfold zHd; decide +kernel

set_option maxHeartbeats 4000000 in
theorem met_X0_take (l : Launch) (D : va_G) (B0 : Nat) (A : Nat → Prop) (o : Nat) (ad : Nat → Nat) (sa : Nat → Nat) (sb : Nat → Nat) (tr : Nat) (x : Nat → Int32) (da : Option Nat) (n : Nat) (ra : Nat → Nat) (md : Int32) (wn : Int32) (od : Nat → Int32) (c : Nat → Int32) (T : va_W) (k : Nat) (xm : Nat → Int32) (pa : Nat → Int32) (pf : pF) (kn : Nat) (r : Int32) (hS : sOK T da n k ra c) (hx : x 2 = nI kn) (hA : aOK n k ra c xm kn pf pa) : Met l yX0_take (ws_ yX0_take cX0_take 3 (some .int)) (zRm 8 6 42) (va_Pc [.ref o, .int r] (zPre B0 D A [cOb o ad (sa 0) (sb 0) tr x, [(ad 2, .inl (D.1 106, 24, .inr (.inr (.inr (.inr (pRef pf))))))], thP D sa ((da, n, ra), (md, wn, od), c), pstP D pf 24, T])) (zQ (S := Int32 × (Nat → Int32) × (Nat → Int32) × (Nat → Int32) × Nat × pF × Int32 × (Nat → Int32)) (fun u => (fun (r_ : Int32) (xm1 : Nat → Int32) (pa1 : Nat → Int32) (c1 : Nat → Int32) (kn1 : Nat) (pf1 : pF) (wn1 : Int32) (od1 : Nat → Int32) => (r_, xm1, pa1, c1) = mTake kn xm pa c r ∧ sOK T da n k ra c1 ∧ aOK n k ra c1 xm1 kn1 pf1 pa1) u.1 u.2.1 u.2.2.1 u.2.2.2.1 u.2.2.2.2.1 u.2.2.2.2.2.1 u.2.2.2.2.2.2.1 u.2.2.2.2.2.2.2) (fun u => (fun (r_ : Int32) (xm1 : Nat → Int32) (pa1 : Nat → Int32) (c1 : Nat → Int32) (kn1 : Nat) (pf1 : pF) (wn1 : Int32) (od1 : Nat → Int32) => some (.int r_)) u.1 u.2.1 u.2.2.1 u.2.2.2.1 u.2.2.2.2.1 u.2.2.2.2.2.1 u.2.2.2.2.2.2.1 u.2.2.2.2.2.2.2) (fun u => (fun (r_ : Int32) (xm1 : Nat → Int32) (pa1 : Nat → Int32) (c1 : Nat → Int32) (kn1 : Nat) (pf1 : pF) (wn1 : Int32) (od1 : Nat → Int32) => [cOb o ad (sa 0) (sb 0) tr (upd x 2 (nI kn1)), [(ad 2, .inl (D.1 106, 24, .inr (.inr (.inr (.inr (pRef pf1))))))], thP D sa ((da, n, ra), (md, wn1, od1), c1), pstP D pf1 24, T]) u.1 u.2.1 u.2.2.1 u.2.2.2.1 u.2.2.2.2.1 u.2.2.2.2.2.1 u.2.2.2.2.2.2.1 u.2.2.2.2.2.2.2) D A) 6 42 A := by
  refine z_entry (by decide +kernel) (Nat.le_of_ble_eq_true rfl) (fun pX eX sX mX argsX blX mtX cX QX hQX gX hAX hnm => ?_)
  refine z_eq (lv₂ := [(0, .ref o), (1, .int r)]) (st₂ := []) ?_ rfl rfl
  have hS0 := hS
  rcases hS with ⟨rfl, rfl, h16, h17⟩ | ⟨⟨d, rfl⟩, hG⟩
  · skip
    refine z_ws [cOb o ad (sa 0) (sb 0) tr x, [(ad 2, .inl (D.1 106, 24, .inr (.inr (.inr (.inr (pRef pf))))))], [(sa 0, .inr (2, [.int (c 16), .int (c 1), .int (c 0), .int wn, .ref (sa 1), .ref (sa 2), .ref (sa 3), .ref (sa 4)]))], [(sa 1, .inr (16, [.int md, .ref (zEE D), .int (nI 0)]))], [(sa 2, .inl (D.1 100, 7, .inl (fun i_ => c (9 + i_))))], [(sa 3, .inl (D.1 100, 7, .inl (fun i_ => c (2 + i_))))], [(sa 4, .inl (D.1 100, 7, .inl od))], pstP D pf 24, T] (List.Perm.refl _) ?_
    refine z_aload_n (pc := 0) gX 0 dX0_take_0 rfl rfl ?_
    refine z_iload_n (pc := 1) gX 1 dX0_take_1 rfl rfl ?_
    refine z_cOV (pc := 2) gX (zI_ok gX hAX) [.int r] [] [0, 2, 3] (met_X0_isRider l D B0 o ad sa sb tr x (c 16) (c 1) (c 0) wn md (zEE D) 0 r ) q947 q949 qs22 q47 q950 (zm 0 rfl) (ci := 0) rfl rfl hd_X0_isRider ⟨rfl, rfl⟩ ⟨(Nat.le_of_ble_eq_true rfl), (Nat.le_of_ble_eq_true rfl)⟩ rfl rfl rfl (Nat.le_of_ble_eq_true rfl) ⟨(Nat.le_of_ble_eq_true rfl), (Nat.le_of_ble_eq_true rfl)⟩ dX0_take_2 ?_
    intro _ hu2
    refine z_eq (lv₂ := [(0, .ref o), (1, .int r)]) (st₂ := [.int (bI (mIn r 0 (nI 0 - 1)))]) ?_ rfl rfl
    refine z_top (bI (mIn r 0 (c 17 - 1))) (congrArg (fun z => bI (mIn r 0 (z - 1))) h17.symm) ?_
    refine z_if_ne (pc := 5) gX 11 dX0_take_5 (by decide) (fun c5 => ?_) (fun c5 => ?_)
    · skip
      have k5 : (mIn r 0 (c 17 - 1)) = true := bI_ne0 c5
      exact absurd k5 (by rw [inF h17]; decide)
    · skip
      have k5 : (mIn r 0 (c 17 - 1)) = false := bI_eq0 c5
      refine z_ldc (pc := 8) gX q350 dX0_take_8 ?_
      refine z_ws [cOb o ad (sa 0) (sb 0) tr x, [(ad 2, .inl (D.1 106, 24, .inr (.inr (.inr (.inr (pRef pf))))))], thP D sa ((none, 0, ra), (md, wn, od), c), pstP D pf 24, T] (List.Perm.refl _) ?_
      exact z_rim gX hQX ((-1000001), xm, pa, c, kn, pf, wn, od) (⟨by simp [mTake, inF h17], hS0, hA⟩) rfl (by simp only [show upd x 2 (nI kn) = x by rw [← hx]; exact upd_self _ _]) (by first | decide | omega) (by first | decide | omega) dX0_take_10
  · skip
    have hK := hG.k
    have hn1 := hG.1
    have hn7 := hG.2.1
    have h17 := hG.2.2.1
    have h16 := hG.2.2.2.1
    have hk4 := hG.2.2.2.2.1
    have hk12 := hG.2.2.2.2.2.1
    have hln := hG.2.2.2.2.2.2.1
    have hR := hG.2.2.2.2.2.2.2
    refine z_ws [cOb o ad (sa 0) (sb 0) tr x, [(ad 2, .inl (D.1 106, 24, .inr (.inr (.inr (.inr (pRef pf))))))], [(sa 0, .inr (2, [.int (c 16), .int (c 1), .int (c 0), .int wn, .ref (sa 1), .ref (sa 2), .ref (sa 3), .ref (sa 4)]))], [(sa 1, .inr (16, [.int md, .ref d, .int (nI n)]))], [(sa 2, .inl (D.1 100, 7, .inl (fun i_ => c (9 + i_))))], [(sa 3, .inl (D.1 100, 7, .inl (fun i_ => c (2 + i_))))], [(sa 4, .inl (D.1 100, 7, .inl od))], [(d, .inl (D.1 104, 10, .inr (.inr (.inr (.inr (rF ra n))))))], pstP D pf 24, T] (List.Perm.refl _) ?_
    refine z_aload_n (pc := 0) gX 0 dX0_take_0 rfl rfl ?_
    refine z_iload_n (pc := 1) gX 1 dX0_take_1 rfl rfl ?_
    refine z_cOV (pc := 2) gX (zI_ok gX hAX) [.int r] [] [0, 2, 3] (met_X0_isRider l D B0 o ad sa sb tr x (c 16) (c 1) (c 0) wn md d n r ) q947 q949 qs22 q47 q950 (zm 0 rfl) (ci := 0) rfl rfl hd_X0_isRider ⟨rfl, rfl⟩ ⟨(Nat.le_of_ble_eq_true rfl), (Nat.le_of_ble_eq_true rfl)⟩ rfl rfl rfl (Nat.le_of_ble_eq_true rfl) ⟨(Nat.le_of_ble_eq_true rfl), (Nat.le_of_ble_eq_true rfl)⟩ dX0_take_2 ?_
    intro _ hu2
    refine z_eq (lv₂ := [(0, .ref o), (1, .int r)]) (st₂ := [.int (bI (mIn r 0 (nI n - 1)))]) ?_ rfl rfl
    refine z_top (bI (mIn r 0 (c 17 - 1))) (congrArg (fun z => bI (mIn r 0 (z - 1))) h17.symm) ?_
    refine z_if_ne (pc := 5) gX 11 dX0_take_5 (by decide) (fun c5 => ?_) (fun c5 => ?_)
    · skip
      have k5 : (mIn r 0 (c 17 - 1)) = true := bI_ne0 c5
      obtain ⟨j, hj, rfl⟩ := riderN k5 h17 hn7
      refine z_aload_n (pc := 11) gX 0 dX0_take_11 rfl rfl ?_
      refine z_get (pc := 12) gX (zI_ok gX hAX) (zm 0 rfl) (ci := 0) (C := RX0) (T := TX0) (N := 14) rfl in_X0 4 (by decide) q213 (fun _ h => h) (v := .ref (sa 0)) rfl dX0_take_12 ?_
      refine z_get (pc := 15) gX (zI_ok gX hAX) (zm 2 rfl) (ci := 2) (C := RX2) (T := TX2) (N := 8) rfl in_X2 6 (by decide) q171 (fun _ h => h) (v := .ref (sa 3)) rfl dX0_take_15 ?_
      refine z_iload_n (pc := 18) gX 1 dX0_take_18 rfl rfl ?_
      refine z_iald (pc := 19) gX (zI_ok gX hAX) (j := j) (n := 7) (f := (fun i_ => c (2 + i_))) (zm 5 rfl) (by omega) (by decide) dX0_take_19 ?_
      refine z_top (c (2 + j)) rfl ?_
      refine z_istore_n (pc := 20) gX [1, 2, 0] [(0, .ref o), (1, .int (nI j)), (2, .int (c (2 + j)))] dX0_take_20 rfl (by decide) rfl ?_
      refine z_iload_n (pc := 21) gX 2 dX0_take_21 rfl rfl ?_
      refine z_bipush (pc := 22) gX 99 dX0_take_22 (by decide) ?_
      refine z_icmp_ne (pc := 24) gX 30 dX0_take_24 (by decide) (fun c24 => ?_) (fun c24 => ?_)
      · skip
        refine z_aload_n (pc := 30) gX 0 dX0_take_30 rfl rfl ?_
        refine z_cMV (pc := 31) gX hAX [] [] [0, 1, 2, 3, 4, 5, 6, 7, 8, 9] [] (fun A1 => met_X0_keep l D B0 A1 o ad sa sb tr x wn md d n c od ra T k pf kn hG hx hA.2.2.2.1 hA.2.2.2.some hA.2.2.2.2.1) q835 q837 qs19 q47 q838 (zm 0 rfl) (ci := 0) rfl rfl hd_X0_keep ⟨rfl, rfl⟩ ⟨(Nat.le_of_ble_eq_true rfl), (Nat.le_of_ble_eq_true rfl)⟩ rfl rfl (zpl 10 rfl (by decide +kernel)) rfl rfl (Nat.le_of_ble_eq_true rfl) ⟨(Nat.le_of_ble_eq_true rfl), (Nat.le_of_ble_eq_true rfl)⟩ dX0_take_31 ?_
        intro u31 hu31
        obtain ⟨s1_31, rfl⟩ : ∃ z, z = u31 := ⟨_, rfl⟩
        have hu31 : ∃ d1 md1 od1, s1_31.2 = ((some d1, n, ra), (md1, wn, od1), c) := hu31
        refine z_re [0, 1, 2, 3, 4, 5, 6, 7, 8, 9] [cOb o ad (sa 0) (sb 0) tr (upd x 2 (nI (knK kn))), [(ad 2, .inl (D.1 106, 24, .inr (.inr (.inr (.inr (pRef (keepF kn pf s1_31)))))))], [(sa 0, .inr (2, [.int (c 16), .int (c 1), .int (c 0), .int wn, .ref (sa 1), .ref (sa 2), .ref (sa 3), .ref (sa 4)]))], [(sa 1, .inr (16, [.int md, .ref d, .int (nI n)]))], [(sa 2, .inl (D.1 100, 7, .inl (fun i_ => c (9 + i_))))], [(sa 3, .inl (D.1 100, 7, .inl (fun i_ => c (2 + i_))))], [(sa 4, .inl (D.1 100, 7, .inl od))], [(d, .inl (D.1 104, 10, .inr (.inr (.inr (.inr (rF ra n))))))], pstP D (keepF kn pf s1_31) 24, T] rfl (zpl 10 rfl (by decide +kernel)) ?_
        refine z_norm [cOb o ad (sa 0) (sb 0) tr (upd x 2 (nI (knK kn))), [(ad 2, .inl (D.1 106, 24, .inr (.inr (.inr (.inr (pRef (keepF kn pf s1_31)))))))], [(sa 0, .inr (2, [.int (c 16), .int (c 1), .int (c 0), .int wn, .ref (sa 1), .ref (sa 2), .ref (sa 3), .ref (sa 4)]))], [(sa 1, .inr (16, [.int md, .ref d, .int (nI n)]))], [(sa 2, .inl (D.1 100, 7, .inl (fun i_ => c (9 + i_))))], [(sa 3, .inl (D.1 100, 7, .inl (fun i_ => c (2 + i_))))], [(sa 4, .inl (D.1 100, 7, .inl od))], [(d, .inl (D.1 104, 10, .inr (.inr (.inr (.inr (rF ra n))))))], pstP D (keepF kn pf s1_31) 24, T] 6 42 ?_ rfl rfl rfl
        refine z_eq (lv₂ := [(0, .ref o), (1, .int (nI j)), (2, .int (c (2 + j)))]) (st₂ := []) ?_ rfl rfl
        refine z_aload_n (pc := 34) gX 0 dX0_take_34 rfl rfl ?_
        refine z_get (pc := 35) gX (zI_ok gX hAX) (zm 0 rfl) (ci := 0) (C := RX0) (T := TX0) (N := 14) rfl in_X0 4 (by decide) q213 (fun _ h => h) (v := .ref (sa 0)) rfl dX0_take_35 ?_
        refine z_get (pc := 38) gX (zI_ok gX hAX) (zm 2 rfl) (ci := 2) (C := RX2) (T := TX2) (N := 8) rfl in_X2 6 (by decide) q171 (fun _ h => h) (v := .ref (sa 3)) rfl dX0_take_38 ?_
        refine z_iload_n (pc := 41) gX 1 dX0_take_41 rfl rfl ?_
        refine z_bipush (pc := 42) gX 99 dX0_take_42 (by decide) ?_
        refine z_iast (pc := 44) gX hAX 5 (j := j) (n := 7) (f := (fun i_ => c (2 + i_))) rfl (by omega) (by decide) [cOb o ad (sa 0) (sb 0) tr (upd x 2 (nI (knK kn))), [(ad 2, .inl (D.1 106, 24, .inr (.inr (.inr (.inr (pRef (keepF kn pf s1_31)))))))], [(sa 0, .inr (2, [.int (c 16), .int (c 1), .int (c 0), .int wn, .ref (sa 1), .ref (sa 2), .ref (sa 3), .ref (sa 4)]))], [(sa 1, .inr (16, [.int md, .ref d, .int (nI n)]))], [(sa 2, .inl (D.1 100, 7, .inl (fun i_ => c (9 + i_))))], [(sa 3, .inl (D.1 100, 7, .inl (upd (fun i_ => c (2 + i_)) j 99)))], [(sa 4, .inl (D.1 100, 7, .inl od))], [(d, .inl (D.1 104, 10, .inr (.inr (.inr (.inr (rF ra n))))))], pstP D (keepF kn pf s1_31) 24, T] rfl dX0_take_44 ?_
        refine z_ext 4 (fun i_ => (upd c (2 + j) 99) (9 + i_)) rfl (fun q hq => (pk_un (by omega)).symm) [cOb o ad (sa 0) (sb 0) tr (upd x 2 (nI (knK kn))), [(ad 2, .inl (D.1 106, 24, .inr (.inr (.inr (.inr (pRef (keepF kn pf s1_31)))))))], [(sa 0, .inr (2, [.int (c 16), .int (c 1), .int (c 0), .int wn, .ref (sa 1), .ref (sa 2), .ref (sa 3), .ref (sa 4)]))], [(sa 1, .inr (16, [.int md, .ref d, .int (nI n)]))], [(sa 2, .inl (D.1 100, 7, .inl (fun i_ => (upd c (2 + j) 99) (9 + i_))))], [(sa 3, .inl (D.1 100, 7, .inl (upd (fun i_ => c (2 + i_)) j 99)))], [(sa 4, .inl (D.1 100, 7, .inl od))], [(d, .inl (D.1 104, 10, .inr (.inr (.inr (.inr (rF ra n))))))], pstP D (keepF kn pf s1_31) 24, T] rfl ?_
        refine z_ext 5 (fun i_ => (upd c (2 + j) 99) (2 + i_)) rfl (fun q hq => upW j q) [cOb o ad (sa 0) (sb 0) tr (upd x 2 (nI (knK kn))), [(ad 2, .inl (D.1 106, 24, .inr (.inr (.inr (.inr (pRef (keepF kn pf s1_31)))))))], [(sa 0, .inr (2, [.int (c 16), .int (c 1), .int (c 0), .int wn, .ref (sa 1), .ref (sa 2), .ref (sa 3), .ref (sa 4)]))], [(sa 1, .inr (16, [.int md, .ref d, .int (nI n)]))], [(sa 2, .inl (D.1 100, 7, .inl (fun i_ => (upd c (2 + j) 99) (9 + i_))))], [(sa 3, .inl (D.1 100, 7, .inl (fun i_ => (upd c (2 + j) 99) (2 + i_))))], [(sa 4, .inl (D.1 100, 7, .inl od))], [(d, .inl (D.1 104, 10, .inr (.inr (.inr (.inr (rF ra n))))))], pstP D (keepF kn pf s1_31) 24, T] rfl ?_
        refine z_weq [cOb o ad (sa 0) (sb 0) tr (upd x 2 (nI (knK kn))), [(ad 2, .inl (D.1 106, 24, .inr (.inr (.inr (.inr (pRef (keepF kn pf s1_31)))))))], [(sa 0, .inr (2, [.int ((upd c (2 + j) 99) 16), .int ((upd c (2 + j) 99) 1), .int ((upd c (2 + j) 99) 0), .int wn, .ref (sa 1), .ref (sa 2), .ref (sa 3), .ref (sa 4)]))], [(sa 1, .inr (16, [.int md, .ref d, .int (nI n)]))], [(sa 2, .inl (D.1 100, 7, .inl (fun i_ => (upd c (2 + j) 99) (9 + i_))))], [(sa 3, .inl (D.1 100, 7, .inl (fun i_ => (upd c (2 + j) 99) (2 + i_))))], [(sa 4, .inl (D.1 100, 7, .inl od))], [(d, .inl (D.1 104, 10, .inr (.inr (.inr (.inr (rF ra n))))))], pstP D (keepF kn pf s1_31) 24, T] (by rw [show (upd c (2 + j) 99) 16 = c 16 from pk_un (by omega), show (upd c (2 + j) 99) 1 = c 1 from pk_un (by omega), show (upd c (2 + j) 99) 0 = c 0 from pk_un (by omega)]) ?_
        refine z_iload_n (pc := 45) gX 2 dX0_take_45 rfl rfl ?_
        refine z_ws [cOb o ad (sa 0) (sb 0) tr (upd x 2 (nI (knK kn))), [(ad 2, .inl (D.1 106, 24, .inr (.inr (.inr (.inr (pRef (keepF kn pf s1_31)))))))], thP D sa ((some d, n, ra), (md, wn, od), upd c (2 + j) 99), pstP D (keepF kn pf s1_31) 24, T] (List.Perm.refl _) ?_
        exact z_rim gX hQX (c (2 + j), kx xm kn, mKeepP kn pa c, upd c (2 + j) 99, knK kn, keepF kn pf s1_31, wn, od) ((fun h => ⟨by simp [mTake, k5, c24, nI_clamp (show j < 2 ^ 31 by omega)], Or.inr ⟨⟨d, rfl⟩, h.1⟩, h.2⟩) (act_ok hG hA hu31 (fun q hq => pk_un (by omega)) (lane_w (by omega) hln) (nW_off (hA.2.1 (by omega)) (by omega) (by decide)))) rfl rfl (by first | decide | omega) (by first | decide | omega) dX0_take_46
      · skip
        refine z_ldc (pc := 27) gX q833 dX0_take_27 ?_
        refine z_ws [cOb o ad (sa 0) (sb 0) tr x, [(ad 2, .inl (D.1 106, 24, .inr (.inr (.inr (.inr (pRef pf))))))], thP D sa ((some d, n, ra), (md, wn, od), c), pstP D pf 24, T] (List.Perm.refl _) ?_
        exact z_rim gX hQX ((-1000002), xm, pa, c, kn, pf, wn, od) (⟨by simp [mTake, k5, c24, nI_clamp (show j < 2 ^ 31 by omega)], hS0, hA⟩) rfl (by simp only [show upd x 2 (nI kn) = x by rw [← hx]; exact upd_self _ _]) (by first | decide | omega) (by first | decide | omega) dX0_take_29
    · skip
      have k5 : (mIn r 0 (c 17 - 1)) = false := bI_eq0 c5
      refine z_ldc (pc := 8) gX q350 dX0_take_8 ?_
      refine z_ws [cOb o ad (sa 0) (sb 0) tr x, [(ad 2, .inl (D.1 106, 24, .inr (.inr (.inr (.inr (pRef pf))))))], thP D sa ((some d, n, ra), (md, wn, od), c), pstP D pf 24, T] (List.Perm.refl _) ?_
      exact z_rim gX hQX ((-1000001), xm, pa, c, kn, pf, wn, od) (⟨by simp [mTake, k5], hS0, hA⟩) rfl (by simp only [show upd x 2 (nI kn) = x by rw [← hx]; exact upd_self _ _]) (by first | decide | omega) (by first | decide | omega) dX0_take_10
theorem hd_X0_take : zHd yX0_take 1 := by unfold zHd; decide +kernel

set_option maxHeartbeats 4000000 in
theorem met_X0_again (l : Launch) (D : va_G) (B0 : Nat) (A : Nat → Prop) (o : Nat) (ad : Nat → Nat) (sa : Nat → Nat) (sb : Nat → Nat) (tr : Nat) (x : Nat → Int32) (da : Option Nat) (n : Nat) (ra : Nat → Nat) (md : Int32) (wn : Int32) (od : Nat → Int32) (c : Nat → Int32) (T : va_W) (k : Nat) (xm : Nat → Int32) (pa : Nat → Int32) (pf : pF) (kn : Nat) (r : Int32) (la : Int32) (hS : sOK T da n k ra c) (hx : x 2 = nI kn) (hA : aOK n k ra c xm kn pf pa) : Met l yX0_again (ws_ yX0_again cX0_again 3 (some .int)) (zRm 8 6 42) (va_Pc [.ref o, .int r, .int la] (zPre B0 D A [cOb o ad (sa 0) (sb 0) tr x, [(ad 2, .inl (D.1 106, 24, .inr (.inr (.inr (.inr (pRef pf))))))], thP D sa ((da, n, ra), (md, wn, od), c), pstP D pf 24, T])) (zQ (S := Int32 × (Nat → Int32) × (Nat → Int32) × (Nat → Int32) × Nat × pF × Int32 × (Nat → Int32)) (fun u => (fun (r_ : Int32) (xm1 : Nat → Int32) (pa1 : Nat → Int32) (c1 : Nat → Int32) (kn1 : Nat) (pf1 : pF) (wn1 : Int32) (od1 : Nat → Int32) => (r_, xm1, pa1, c1) = mAgain n kn xm pa c r la ∧ sOK T da n k ra c1 ∧ aOK n k ra c1 xm1 kn1 pf1 pa1) u.1 u.2.1 u.2.2.1 u.2.2.2.1 u.2.2.2.2.1 u.2.2.2.2.2.1 u.2.2.2.2.2.2.1 u.2.2.2.2.2.2.2) (fun u => (fun (r_ : Int32) (xm1 : Nat → Int32) (pa1 : Nat → Int32) (c1 : Nat → Int32) (kn1 : Nat) (pf1 : pF) (wn1 : Int32) (od1 : Nat → Int32) => some (.int r_)) u.1 u.2.1 u.2.2.1 u.2.2.2.1 u.2.2.2.2.1 u.2.2.2.2.2.1 u.2.2.2.2.2.2.1 u.2.2.2.2.2.2.2) (fun u => (fun (r_ : Int32) (xm1 : Nat → Int32) (pa1 : Nat → Int32) (c1 : Nat → Int32) (kn1 : Nat) (pf1 : pF) (wn1 : Int32) (od1 : Nat → Int32) => [cOb o ad (sa 0) (sb 0) tr (upd x 2 (nI kn1)), [(ad 2, .inl (D.1 106, 24, .inr (.inr (.inr (.inr (pRef pf1))))))], thP D sa ((da, n, ra), (md, wn1, od1), c1), pstP D pf1 24, T]) u.1 u.2.1 u.2.2.1 u.2.2.2.1 u.2.2.2.2.1 u.2.2.2.2.2.1 u.2.2.2.2.2.2.1 u.2.2.2.2.2.2.2) D A) 6 42 A := by
  refine z_entry (by decide +kernel) (Nat.le_of_ble_eq_true rfl) (fun pX eX sX mX argsX blX mtX cX QX hQX gX hAX hnm => ?_)
  refine z_eq (lv₂ := [(0, .ref o), (1, .int r), (2, .int la)]) (st₂ := []) ?_ rfl rfl
  have hS0 := hS
  rcases hS with ⟨rfl, rfl, h16, h17⟩ | ⟨⟨d, rfl⟩, hG⟩
  · skip
    refine z_ws [cOb o ad (sa 0) (sb 0) tr x, [(ad 2, .inl (D.1 106, 24, .inr (.inr (.inr (.inr (pRef pf))))))], [(sa 0, .inr (2, [.int (c 16), .int (c 1), .int (c 0), .int wn, .ref (sa 1), .ref (sa 2), .ref (sa 3), .ref (sa 4)]))], [(sa 1, .inr (16, [.int md, .ref (zEE D), .int (nI 0)]))], [(sa 2, .inl (D.1 100, 7, .inl (fun i_ => c (9 + i_))))], [(sa 3, .inl (D.1 100, 7, .inl (fun i_ => c (2 + i_))))], [(sa 4, .inl (D.1 100, 7, .inl od))], pstP D pf 24, T] (List.Perm.refl _) ?_
    refine z_aload_n (pc := 0) gX 0 dX0_again_0 rfl rfl ?_
    refine z_iload_n (pc := 1) gX 1 dX0_again_1 rfl rfl ?_
    refine z_cOV (pc := 2) gX (zI_ok gX hAX) [.int r] [] [0, 2, 3] (met_X0_isRider l D B0 o ad sa sb tr x (c 16) (c 1) (c 0) wn md (zEE D) 0 r ) q947 q949 qs22 q47 q950 (zm 0 rfl) (ci := 0) rfl rfl hd_X0_isRider ⟨rfl, rfl⟩ ⟨(Nat.le_of_ble_eq_true rfl), (Nat.le_of_ble_eq_true rfl)⟩ rfl rfl rfl (Nat.le_of_ble_eq_true rfl) ⟨(Nat.le_of_ble_eq_true rfl), (Nat.le_of_ble_eq_true rfl)⟩ dX0_again_2 ?_
    intro _ hu2
    refine z_eq (lv₂ := [(0, .ref o), (1, .int r), (2, .int la)]) (st₂ := [.int (bI (mIn r 0 (nI 0 - 1)))]) ?_ rfl rfl
    refine z_top (bI (mIn r 0 (c 17 - 1))) (congrArg (fun z => bI (mIn r 0 (z - 1))) h17.symm) ?_
    refine z_if_eq (pc := 5) gX 15 dX0_again_5 (by decide) (fun c5 => ?_) (fun c5 => ?_)
    · skip
      have k5 : (mIn r 0 (c 17 - 1)) = false := bI_eq0 c5
      refine z_ldc (pc := 15) gX q350 dX0_again_15 ?_
      refine z_ws [cOb o ad (sa 0) (sb 0) tr x, [(ad 2, .inl (D.1 106, 24, .inr (.inr (.inr (.inr (pRef pf))))))], thP D sa ((none, 0, ra), (md, wn, od), c), pstP D pf 24, T] (List.Perm.refl _) ?_
      exact z_rim gX hQX ((-1000001), xm, pa, c, kn, pf, wn, od) (⟨by simp [mAgain, inF h17], hS0, hA⟩) rfl (by simp only [show upd x 2 (nI kn) = x by rw [← hx]; exact upd_self _ _]) (by first | decide | omega) (by first | decide | omega) dX0_again_17
    · skip
      have k5 : (mIn r 0 (c 17 - 1)) = true := bI_ne0 c5
      exact absurd k5 (by rw [inF h17]; decide)
  · skip
    have hK := hG.k
    have hn1 := hG.1
    have hn7 := hG.2.1
    have h17 := hG.2.2.1
    have h16 := hG.2.2.2.1
    have hk4 := hG.2.2.2.2.1
    have hk12 := hG.2.2.2.2.2.1
    have hln := hG.2.2.2.2.2.2.1
    have hR := hG.2.2.2.2.2.2.2
    refine z_ws [cOb o ad (sa 0) (sb 0) tr x, [(ad 2, .inl (D.1 106, 24, .inr (.inr (.inr (.inr (pRef pf))))))], [(sa 0, .inr (2, [.int (c 16), .int (c 1), .int (c 0), .int wn, .ref (sa 1), .ref (sa 2), .ref (sa 3), .ref (sa 4)]))], [(sa 1, .inr (16, [.int md, .ref d, .int (nI n)]))], [(sa 2, .inl (D.1 100, 7, .inl (fun i_ => c (9 + i_))))], [(sa 3, .inl (D.1 100, 7, .inl (fun i_ => c (2 + i_))))], [(sa 4, .inl (D.1 100, 7, .inl od))], [(d, .inl (D.1 104, 10, .inr (.inr (.inr (.inr (rF ra n))))))], pstP D pf 24, T] (List.Perm.refl _) ?_
    refine z_aload_n (pc := 0) gX 0 dX0_again_0 rfl rfl ?_
    refine z_iload_n (pc := 1) gX 1 dX0_again_1 rfl rfl ?_
    refine z_cOV (pc := 2) gX (zI_ok gX hAX) [.int r] [] [0, 2, 3] (met_X0_isRider l D B0 o ad sa sb tr x (c 16) (c 1) (c 0) wn md d n r ) q947 q949 qs22 q47 q950 (zm 0 rfl) (ci := 0) rfl rfl hd_X0_isRider ⟨rfl, rfl⟩ ⟨(Nat.le_of_ble_eq_true rfl), (Nat.le_of_ble_eq_true rfl)⟩ rfl rfl rfl (Nat.le_of_ble_eq_true rfl) ⟨(Nat.le_of_ble_eq_true rfl), (Nat.le_of_ble_eq_true rfl)⟩ dX0_again_2 ?_
    intro _ hu2
    refine z_eq (lv₂ := [(0, .ref o), (1, .int r), (2, .int la)]) (st₂ := [.int (bI (mIn r 0 (nI n - 1)))]) ?_ rfl rfl
    refine z_top (bI (mIn r 0 (c 17 - 1))) (congrArg (fun z => bI (mIn r 0 (z - 1))) h17.symm) ?_
    refine z_if_eq (pc := 5) gX 15 dX0_again_5 (by decide) (fun c5 => ?_) (fun c5 => ?_)
    · skip
      have k5 : (mIn r 0 (c 17 - 1)) = false := bI_eq0 c5
      refine z_ldc (pc := 15) gX q350 dX0_again_15 ?_
      refine z_ws [cOb o ad (sa 0) (sb 0) tr x, [(ad 2, .inl (D.1 106, 24, .inr (.inr (.inr (.inr (pRef pf))))))], thP D sa ((some d, n, ra), (md, wn, od), c), pstP D pf 24, T] (List.Perm.refl _) ?_
      exact z_rim gX hQX ((-1000001), xm, pa, c, kn, pf, wn, od) (⟨by simp [mAgain, k5], hS0, hA⟩) rfl (by simp only [show upd x 2 (nI kn) = x by rw [← hx]; exact upd_self _ _]) (by first | decide | omega) (by first | decide | omega) dX0_again_17
    · skip
      have k5 : (mIn r 0 (c 17 - 1)) = true := bI_ne0 c5
      obtain ⟨j, hj, rfl⟩ := riderN k5 h17 hn7
      refine z_iload_n (pc := 8) gX 2 dX0_again_8 rfl rfl ?_
      refine z_cOS (pc := 9) gX (zI_ok gX hAX) [.int la] [] [] (met_X0_isHalf l D B0 la ) q961 q962 q47 q963 hd_X0_isHalf ⟨rfl, rfl⟩ ⟨(Nat.le_of_ble_eq_true rfl), (Nat.le_of_ble_eq_true rfl)⟩ rfl rfl rfl (Nat.le_of_ble_eq_true rfl) ⟨(Nat.le_of_ble_eq_true rfl), (Nat.le_of_ble_eq_true rfl)⟩ dX0_again_9 ?_
      intro _ hu9
      refine z_eq (lv₂ := [(0, .ref o), (1, .int (nI j)), (2, .int la)]) (st₂ := [.int (bI (mIn la 0 1))]) ?_ rfl rfl
      refine z_if_ne (pc := 12) gX 18 dX0_again_12 (by decide) (fun c12 => ?_) (fun c12 => ?_)
      · skip
        have k12 : (mIn la 0 1) = true := bI_ne0 c12
        refine z_aload_n (pc := 18) gX 0 dX0_again_18 rfl rfl ?_
        refine z_get (pc := 19) gX (zI_ok gX hAX) (zm 0 rfl) (ci := 0) (C := RX0) (T := TX0) (N := 14) rfl in_X0 4 (by decide) q213 (fun _ h => h) (v := .ref (sa 0)) rfl dX0_again_19 ?_
        refine z_get (pc := 22) gX (zI_ok gX hAX) (zm 2 rfl) (ci := 2) (C := RX2) (T := TX2) (N := 8) rfl in_X2 6 (by decide) q171 (fun _ h => h) (v := .ref (sa 3)) rfl dX0_again_22 ?_
        refine z_iload_n (pc := 25) gX 1 dX0_again_25 rfl rfl ?_
        refine z_iald (pc := 26) gX (zI_ok gX hAX) (j := j) (n := 7) (f := (fun i_ => c (2 + i_))) (zm 5 rfl) (by omega) (by decide) dX0_again_26 ?_
        refine z_top (c (2 + j)) rfl ?_
        refine z_bipush (pc := 27) gX 99 dX0_again_27 (by decide) ?_
        refine z_icmp_eq (pc := 29) gX 35 dX0_again_29 (by decide) (fun c29 => ?_) (fun c29 => ?_)
        · skip
          refine z_aload_n (pc := 35) gX 0 dX0_again_35 rfl rfl ?_
          refine z_cMV (pc := 36) gX hAX [] [] [0, 1, 2, 3, 4, 5, 6, 7, 8, 9] [] (fun A1 => met_X0_keep l D B0 A1 o ad sa sb tr x wn md d n c od ra T k pf kn hG hx hA.2.2.2.1 hA.2.2.2.some hA.2.2.2.2.1) q835 q837 qs19 q47 q838 (zm 0 rfl) (ci := 0) rfl rfl hd_X0_keep ⟨rfl, rfl⟩ ⟨(Nat.le_of_ble_eq_true rfl), (Nat.le_of_ble_eq_true rfl)⟩ rfl rfl (zpl 10 rfl (by decide +kernel)) rfl rfl (Nat.le_of_ble_eq_true rfl) ⟨(Nat.le_of_ble_eq_true rfl), (Nat.le_of_ble_eq_true rfl)⟩ dX0_again_36 ?_
          intro u36 hu36
          obtain ⟨s1_36, rfl⟩ : ∃ z, z = u36 := ⟨_, rfl⟩
          have hu36 : ∃ d1 md1 od1, s1_36.2 = ((some d1, n, ra), (md1, wn, od1), c) := hu36
          refine z_re [0, 1, 2, 3, 4, 5, 6, 7, 8, 9] [cOb o ad (sa 0) (sb 0) tr (upd x 2 (nI (knK kn))), [(ad 2, .inl (D.1 106, 24, .inr (.inr (.inr (.inr (pRef (keepF kn pf s1_36)))))))], [(sa 0, .inr (2, [.int (c 16), .int (c 1), .int (c 0), .int wn, .ref (sa 1), .ref (sa 2), .ref (sa 3), .ref (sa 4)]))], [(sa 1, .inr (16, [.int md, .ref d, .int (nI n)]))], [(sa 2, .inl (D.1 100, 7, .inl (fun i_ => c (9 + i_))))], [(sa 3, .inl (D.1 100, 7, .inl (fun i_ => c (2 + i_))))], [(sa 4, .inl (D.1 100, 7, .inl od))], [(d, .inl (D.1 104, 10, .inr (.inr (.inr (.inr (rF ra n))))))], pstP D (keepF kn pf s1_36) 24, T] rfl (zpl 10 rfl (by decide +kernel)) ?_
          refine z_norm [cOb o ad (sa 0) (sb 0) tr (upd x 2 (nI (knK kn))), [(ad 2, .inl (D.1 106, 24, .inr (.inr (.inr (.inr (pRef (keepF kn pf s1_36)))))))], [(sa 0, .inr (2, [.int (c 16), .int (c 1), .int (c 0), .int wn, .ref (sa 1), .ref (sa 2), .ref (sa 3), .ref (sa 4)]))], [(sa 1, .inr (16, [.int md, .ref d, .int (nI n)]))], [(sa 2, .inl (D.1 100, 7, .inl (fun i_ => c (9 + i_))))], [(sa 3, .inl (D.1 100, 7, .inl (fun i_ => c (2 + i_))))], [(sa 4, .inl (D.1 100, 7, .inl od))], [(d, .inl (D.1 104, 10, .inr (.inr (.inr (.inr (rF ra n))))))], pstP D (keepF kn pf s1_36) 24, T] 6 42 ?_ rfl rfl rfl
          refine z_eq (lv₂ := [(0, .ref o), (1, .int (nI j)), (2, .int la)]) (st₂ := []) ?_ rfl rfl
          refine z_aload_n (pc := 39) gX 0 dX0_again_39 rfl rfl ?_
          refine z_get (pc := 40) gX (zI_ok gX hAX) (zm 0 rfl) (ci := 0) (C := RX0) (T := TX0) (N := 14) rfl in_X0 4 (by decide) q213 (fun _ h => h) (v := .ref (sa 0)) rfl dX0_again_40 ?_
          refine z_get (pc := 43) gX (zI_ok gX hAX) (zm 2 rfl) (ci := 2) (C := RX2) (T := TX2) (N := 8) rfl in_X2 6 (by decide) q171 (fun _ h => h) (v := .ref (sa 3)) rfl dX0_again_43 ?_
          refine z_iload_n (pc := 46) gX 1 dX0_again_46 rfl rfl ?_
          refine z_iconst (pc := 47) gX (-1) dX0_again_47 (by decide) ?_
          refine z_iast (pc := 48) gX hAX 5 (j := j) (n := 7) (f := (fun i_ => c (2 + i_))) rfl (by omega) (by decide) [cOb o ad (sa 0) (sb 0) tr (upd x 2 (nI (knK kn))), [(ad 2, .inl (D.1 106, 24, .inr (.inr (.inr (.inr (pRef (keepF kn pf s1_36)))))))], [(sa 0, .inr (2, [.int (c 16), .int (c 1), .int (c 0), .int wn, .ref (sa 1), .ref (sa 2), .ref (sa 3), .ref (sa 4)]))], [(sa 1, .inr (16, [.int md, .ref d, .int (nI n)]))], [(sa 2, .inl (D.1 100, 7, .inl (fun i_ => c (9 + i_))))], [(sa 3, .inl (D.1 100, 7, .inl (upd (fun i_ => c (2 + i_)) j (-1))))], [(sa 4, .inl (D.1 100, 7, .inl od))], [(d, .inl (D.1 104, 10, .inr (.inr (.inr (.inr (rF ra n))))))], pstP D (keepF kn pf s1_36) 24, T] rfl dX0_again_48 ?_
          refine z_ext 4 (fun i_ => (upd c (2 + j) (-1)) (9 + i_)) rfl (fun q hq => (pk_un (by omega)).symm) [cOb o ad (sa 0) (sb 0) tr (upd x 2 (nI (knK kn))), [(ad 2, .inl (D.1 106, 24, .inr (.inr (.inr (.inr (pRef (keepF kn pf s1_36)))))))], [(sa 0, .inr (2, [.int (c 16), .int (c 1), .int (c 0), .int wn, .ref (sa 1), .ref (sa 2), .ref (sa 3), .ref (sa 4)]))], [(sa 1, .inr (16, [.int md, .ref d, .int (nI n)]))], [(sa 2, .inl (D.1 100, 7, .inl (fun i_ => (upd c (2 + j) (-1)) (9 + i_))))], [(sa 3, .inl (D.1 100, 7, .inl (upd (fun i_ => c (2 + i_)) j (-1))))], [(sa 4, .inl (D.1 100, 7, .inl od))], [(d, .inl (D.1 104, 10, .inr (.inr (.inr (.inr (rF ra n))))))], pstP D (keepF kn pf s1_36) 24, T] rfl ?_
          refine z_ext 5 (fun i_ => (upd c (2 + j) (-1)) (2 + i_)) rfl (fun q hq => upW j q) [cOb o ad (sa 0) (sb 0) tr (upd x 2 (nI (knK kn))), [(ad 2, .inl (D.1 106, 24, .inr (.inr (.inr (.inr (pRef (keepF kn pf s1_36)))))))], [(sa 0, .inr (2, [.int (c 16), .int (c 1), .int (c 0), .int wn, .ref (sa 1), .ref (sa 2), .ref (sa 3), .ref (sa 4)]))], [(sa 1, .inr (16, [.int md, .ref d, .int (nI n)]))], [(sa 2, .inl (D.1 100, 7, .inl (fun i_ => (upd c (2 + j) (-1)) (9 + i_))))], [(sa 3, .inl (D.1 100, 7, .inl (fun i_ => (upd c (2 + j) (-1)) (2 + i_))))], [(sa 4, .inl (D.1 100, 7, .inl od))], [(d, .inl (D.1 104, 10, .inr (.inr (.inr (.inr (rF ra n))))))], pstP D (keepF kn pf s1_36) 24, T] rfl ?_
          refine z_weq [cOb o ad (sa 0) (sb 0) tr (upd x 2 (nI (knK kn))), [(ad 2, .inl (D.1 106, 24, .inr (.inr (.inr (.inr (pRef (keepF kn pf s1_36)))))))], [(sa 0, .inr (2, [.int ((upd c (2 + j) (-1)) 16), .int ((upd c (2 + j) (-1)) 1), .int ((upd c (2 + j) (-1)) 0), .int wn, .ref (sa 1), .ref (sa 2), .ref (sa 3), .ref (sa 4)]))], [(sa 1, .inr (16, [.int md, .ref d, .int (nI n)]))], [(sa 2, .inl (D.1 100, 7, .inl (fun i_ => (upd c (2 + j) (-1)) (9 + i_))))], [(sa 3, .inl (D.1 100, 7, .inl (fun i_ => (upd c (2 + j) (-1)) (2 + i_))))], [(sa 4, .inl (D.1 100, 7, .inl od))], [(d, .inl (D.1 104, 10, .inr (.inr (.inr (.inr (rF ra n))))))], pstP D (keepF kn pf s1_36) 24, T] (by rw [show (upd c (2 + j) (-1)) 16 = c 16 from pk_un (by omega), show (upd c (2 + j) (-1)) 1 = c 1 from pk_un (by omega), show (upd c (2 + j) (-1)) 0 = c 0 from pk_un (by omega)]) ?_
          refine z_aload_n (pc := 49) gX 0 dX0_again_49 rfl rfl ?_
          refine z_get (pc := 50) gX (zI_ok gX hAX) (zm 0 rfl) (ci := 0) (C := RX0) (T := TX0) (N := 14) rfl in_X0 4 (by decide) q213 (fun _ h => h) (v := .ref (sa 0)) rfl dX0_again_50 ?_
          refine z_get (pc := 53) gX (zI_ok gX hAX) (zm 2 rfl) (ci := 2) (C := RX2) (T := TX2) (N := 8) rfl in_X2 5 (by decide) q166 (fun _ h => h) (v := .ref (sa 2)) rfl dX0_again_53 ?_
          refine z_iload_n (pc := 56) gX 1 dX0_again_56 rfl rfl ?_
          refine z_iload_n (pc := 57) gX 2 dX0_again_57 rfl rfl ?_
          refine z_iast (pc := 58) gX hAX 4 (j := j) (n := 7) (f := (fun i_ => (upd c (2 + j) (-1)) (9 + i_))) rfl (by omega) (by decide) [cOb o ad (sa 0) (sb 0) tr (upd x 2 (nI (knK kn))), [(ad 2, .inl (D.1 106, 24, .inr (.inr (.inr (.inr (pRef (keepF kn pf s1_36)))))))], [(sa 0, .inr (2, [.int ((upd c (2 + j) (-1)) 16), .int ((upd c (2 + j) (-1)) 1), .int ((upd c (2 + j) (-1)) 0), .int wn, .ref (sa 1), .ref (sa 2), .ref (sa 3), .ref (sa 4)]))], [(sa 1, .inr (16, [.int md, .ref d, .int (nI n)]))], [(sa 2, .inl (D.1 100, 7, .inl (upd (fun i_ => (upd c (2 + j) (-1)) (9 + i_)) j la)))], [(sa 3, .inl (D.1 100, 7, .inl (fun i_ => (upd c (2 + j) (-1)) (2 + i_))))], [(sa 4, .inl (D.1 100, 7, .inl od))], [(d, .inl (D.1 104, 10, .inr (.inr (.inr (.inr (rF ra n))))))], pstP D (keepF kn pf s1_36) 24, T] rfl dX0_again_58 ?_
          refine z_ext 4 (fun i_ => (upd (upd c (2 + j) (-1)) (9 + j) la) (9 + i_)) rfl (fun q hq => upL j q) [cOb o ad (sa 0) (sb 0) tr (upd x 2 (nI (knK kn))), [(ad 2, .inl (D.1 106, 24, .inr (.inr (.inr (.inr (pRef (keepF kn pf s1_36)))))))], [(sa 0, .inr (2, [.int ((upd c (2 + j) (-1)) 16), .int ((upd c (2 + j) (-1)) 1), .int ((upd c (2 + j) (-1)) 0), .int wn, .ref (sa 1), .ref (sa 2), .ref (sa 3), .ref (sa 4)]))], [(sa 1, .inr (16, [.int md, .ref d, .int (nI n)]))], [(sa 2, .inl (D.1 100, 7, .inl (fun i_ => (upd (upd c (2 + j) (-1)) (9 + j) la) (9 + i_))))], [(sa 3, .inl (D.1 100, 7, .inl (fun i_ => (upd c (2 + j) (-1)) (2 + i_))))], [(sa 4, .inl (D.1 100, 7, .inl od))], [(d, .inl (D.1 104, 10, .inr (.inr (.inr (.inr (rF ra n))))))], pstP D (keepF kn pf s1_36) 24, T] rfl ?_
          refine z_ext 5 (fun i_ => (upd (upd c (2 + j) (-1)) (9 + j) la) (2 + i_)) rfl (fun q hq => (pk_un (by omega)).symm) [cOb o ad (sa 0) (sb 0) tr (upd x 2 (nI (knK kn))), [(ad 2, .inl (D.1 106, 24, .inr (.inr (.inr (.inr (pRef (keepF kn pf s1_36)))))))], [(sa 0, .inr (2, [.int ((upd c (2 + j) (-1)) 16), .int ((upd c (2 + j) (-1)) 1), .int ((upd c (2 + j) (-1)) 0), .int wn, .ref (sa 1), .ref (sa 2), .ref (sa 3), .ref (sa 4)]))], [(sa 1, .inr (16, [.int md, .ref d, .int (nI n)]))], [(sa 2, .inl (D.1 100, 7, .inl (fun i_ => (upd (upd c (2 + j) (-1)) (9 + j) la) (9 + i_))))], [(sa 3, .inl (D.1 100, 7, .inl (fun i_ => (upd (upd c (2 + j) (-1)) (9 + j) la) (2 + i_))))], [(sa 4, .inl (D.1 100, 7, .inl od))], [(d, .inl (D.1 104, 10, .inr (.inr (.inr (.inr (rF ra n))))))], pstP D (keepF kn pf s1_36) 24, T] rfl ?_
          refine z_weq [cOb o ad (sa 0) (sb 0) tr (upd x 2 (nI (knK kn))), [(ad 2, .inl (D.1 106, 24, .inr (.inr (.inr (.inr (pRef (keepF kn pf s1_36)))))))], [(sa 0, .inr (2, [.int ((upd (upd c (2 + j) (-1)) (9 + j) la) 16), .int ((upd (upd c (2 + j) (-1)) (9 + j) la) 1), .int ((upd (upd c (2 + j) (-1)) (9 + j) la) 0), .int wn, .ref (sa 1), .ref (sa 2), .ref (sa 3), .ref (sa 4)]))], [(sa 1, .inr (16, [.int md, .ref d, .int (nI n)]))], [(sa 2, .inl (D.1 100, 7, .inl (fun i_ => (upd (upd c (2 + j) (-1)) (9 + j) la) (9 + i_))))], [(sa 3, .inl (D.1 100, 7, .inl (fun i_ => (upd (upd c (2 + j) (-1)) (9 + j) la) (2 + i_))))], [(sa 4, .inl (D.1 100, 7, .inl od))], [(d, .inl (D.1 104, 10, .inr (.inr (.inr (.inr (rF ra n))))))], pstP D (keepF kn pf s1_36) 24, T] (by rw [show (upd (upd c (2 + j) (-1)) (9 + j) la) 16 = (upd c (2 + j) (-1)) 16 from pk_un (by omega), show (upd (upd c (2 + j) (-1)) (9 + j) la) 1 = (upd c (2 + j) (-1)) 1 from pk_un (by omega), show (upd (upd c (2 + j) (-1)) (9 + j) la) 0 = (upd c (2 + j) (-1)) 0 from pk_un (by omega)]) ?_
          refine z_aload_n (pc := 59) gX 0 dX0_again_59 rfl rfl ?_
          refine z_get (pc := 60) gX (zI_ok gX hAX) (zm 0 rfl) (ci := 0) (C := RX0) (T := TX0) (N := 14) rfl in_X0 4 (by decide) q213 (fun _ h => h) (v := .ref (sa 0)) rfl dX0_again_60 ?_
          refine z_cOV (pc := 63) gX (zI_ok gX hAX) [] [] [2, 3, 5] (met_X2_offs l D B0 sa ((upd (upd c (2 + j) (-1)) (9 + j) la) 16) ((upd (upd c (2 + j) (-1)) (9 + j) la) 1) ((upd (upd c (2 + j) (-1)) (9 + j) la) 0) wn md d n (fun i_ => (upd (upd c (2 + j) (-1)) (9 + j) la) (2 + i_)) (by first | assumption | omega)) q925 q926 q927 q49 q928 (zm 2 rfl) (ci := 2) rfl rfl hd_X2_offs ⟨rfl, rfl⟩ ⟨(Nat.le_of_ble_eq_true rfl), (Nat.le_of_ble_eq_true rfl)⟩ rfl rfl rfl (Nat.le_of_ble_eq_true rfl) ⟨(Nat.le_of_ble_eq_true rfl), (Nat.le_of_ble_eq_true rfl)⟩ dX0_again_63 ?_
          intro _ hu63
          refine z_eq (lv₂ := [(0, .ref o), (1, .int (nI j)), (2, .int la)]) (st₂ := [.int (nI (cW (fun i_ => (upd (upd c (2 + j) (-1)) (9 + j) la) (2 + i_)) 99 n))]) ?_ rfl rfl
          refine z_top (nI (cntV (upd (upd c (2 + j) (-1)) (9 + j) la) 99 n)) (by rw [cW_c]) ?_
          refine z_ws [cOb o ad (sa 0) (sb 0) tr (upd x 2 (nI (knK kn))), [(ad 2, .inl (D.1 106, 24, .inr (.inr (.inr (.inr (pRef (keepF kn pf s1_36)))))))], thP D sa ((some d, n, ra), (md, wn, od), upd (upd c (2 + j) (-1)) (9 + j) la), pstP D (keepF kn pf s1_36) 24, T] (List.Perm.refl _) ?_
          exact z_rim gX hQX (nI (cntV (upd (upd c (2 + j) (-1)) (9 + j) la) 99 n), kx xm kn, mKeepP kn pa c, upd (upd c (2 + j) (-1)) (9 + j) la, knK kn, keepF kn pf s1_36, wn, od) ((fun h => ⟨by simp [mAgain, k5, k12, c29, nI_clamp (show j < 2 ^ 31 by omega)], Or.inr ⟨⟨d, rfl⟩, h.1⟩, h.2⟩) (act_ok hG hA hu36 (fun q hq => (pk_un (by omega)).trans (pk_un (by omega))) (lane_l (half01 k12) (lane_w (by omega) hln)) (nW_lane hn7 (nW_off (hA.2.1 (by omega)) (by omega) (by decide)) (by omega) (fun h => by rw [pk_us] at h; exact absurd h (by decide))))) rfl rfl (by first | decide | omega) (by first | decide | omega) dX0_again_66
        · skip
          refine z_ldc (pc := 32) gX q833 dX0_again_32 ?_
          refine z_ws [cOb o ad (sa 0) (sb 0) tr x, [(ad 2, .inl (D.1 106, 24, .inr (.inr (.inr (.inr (pRef pf))))))], thP D sa ((some d, n, ra), (md, wn, od), c), pstP D pf 24, T] (List.Perm.refl _) ?_
          exact z_rim gX hQX ((-1000002), xm, pa, c, kn, pf, wn, od) (⟨by simp [mAgain, k5, k12, c29, nI_clamp (show j < 2 ^ 31 by omega)], hS0, hA⟩) rfl (by simp only [show upd x 2 (nI kn) = x by rw [← hx]; exact upd_self _ _]) (by first | decide | omega) (by first | decide | omega) dX0_again_34
      · skip
        have k12 : (mIn la 0 1) = false := bI_eq0 c12
        refine z_ldc (pc := 15) gX q350 dX0_again_15 ?_
        refine z_ws [cOb o ad (sa 0) (sb 0) tr x, [(ad 2, .inl (D.1 106, 24, .inr (.inr (.inr (.inr (pRef pf))))))], thP D sa ((some d, n, ra), (md, wn, od), c), pstP D pf 24, T] (List.Perm.refl _) ?_
        exact z_rim gX hQX ((-1000001), xm, pa, c, kn, pf, wn, od) (⟨by simp [mAgain, k5, k12], hS0, hA⟩) rfl (by simp only [show upd x 2 (nI kn) = x by rw [← hx]; exact upd_self _ _]) (by first | decide | omega) (by first | decide | omega) dX0_again_17
theorem hd_X0_again : zHd yX0_again 2 := by unfold zHd; decide +kernel

theorem cross_b {n j : Nat} {c : Nat → Int32} (h : nC n c) (hj : j < n) (hon : mOn (c (2 + j)) = true) (hf : mFreeTo c j (c (2 + j)) (1 - c (9 + j)) n = false) : mCrossB n c j = true := by
  have hk : c (18 + j) < 4 := by
    rcases Int32.lt_or_le (c (18 + j)) 4 with e | e
    · exact e
    · rw [wide_free h hj e hon] at hf; cases hf
  simp only [mCrossB, hon, hf, decide_eq_true hk, Bool.and_self, Bool.not_false, Bool.or_true]

set_option maxHeartbeats 4000000 in
theorem met_X0_cross (l : Launch) (D : va_G) (B0 : Nat) (A : Nat → Prop) (o : Nat) (ad : Nat → Nat) (sa : Nat → Nat) (sb : Nat → Nat) (tr : Nat) (x : Nat → Int32) (da : Option Nat) (n : Nat) (ra : Nat → Nat) (md : Int32) (wn : Int32) (od : Nat → Int32) (c : Nat → Int32) (T : va_W) (k : Nat) (xm : Nat → Int32) (pa : Nat → Int32) (pf : pF) (kn : Nat) (r : Int32) (hS : sOK T da n k ra c) (hx : x 2 = nI kn) (hA : aOK n k ra c xm kn pf pa) : Met l yX0_cross (ws_ yX0_cross cX0_cross 3 (some .int)) (zRm 8 6 42) (va_Pc [.ref o, .int r] (zPre B0 D A [cOb o ad (sa 0) (sb 0) tr x, [(ad 2, .inl (D.1 106, 24, .inr (.inr (.inr (.inr (pRef pf))))))], thP D sa ((da, n, ra), (md, wn, od), c), pstP D pf 24, T])) (zQ (S := Int32 × (Nat → Int32) × (Nat → Int32) × (Nat → Int32) × Nat × pF × Int32 × (Nat → Int32)) (fun u => (fun (r_ : Int32) (xm1 : Nat → Int32) (pa1 : Nat → Int32) (c1 : Nat → Int32) (kn1 : Nat) (pf1 : pF) (wn1 : Int32) (od1 : Nat → Int32) => (r_, xm1, pa1, c1) = mCross n kn xm pa c r ∧ sOK T da n k ra c1 ∧ aOK n k ra c1 xm1 kn1 pf1 pa1) u.1 u.2.1 u.2.2.1 u.2.2.2.1 u.2.2.2.2.1 u.2.2.2.2.2.1 u.2.2.2.2.2.2.1 u.2.2.2.2.2.2.2) (fun u => (fun (r_ : Int32) (xm1 : Nat → Int32) (pa1 : Nat → Int32) (c1 : Nat → Int32) (kn1 : Nat) (pf1 : pF) (wn1 : Int32) (od1 : Nat → Int32) => some (.int r_)) u.1 u.2.1 u.2.2.1 u.2.2.2.1 u.2.2.2.2.1 u.2.2.2.2.2.1 u.2.2.2.2.2.2.1 u.2.2.2.2.2.2.2) (fun u => (fun (r_ : Int32) (xm1 : Nat → Int32) (pa1 : Nat → Int32) (c1 : Nat → Int32) (kn1 : Nat) (pf1 : pF) (wn1 : Int32) (od1 : Nat → Int32) => [cOb o ad (sa 0) (sb 0) tr (upd x 2 (nI kn1)), [(ad 2, .inl (D.1 106, 24, .inr (.inr (.inr (.inr (pRef pf1))))))], thP D sa ((da, n, ra), (md, wn1, od1), c1), pstP D pf1 24, T]) u.1 u.2.1 u.2.2.1 u.2.2.2.1 u.2.2.2.2.1 u.2.2.2.2.2.1 u.2.2.2.2.2.2.1 u.2.2.2.2.2.2.2) D A) 6 42 A := by
  refine z_entry (by decide +kernel) (Nat.le_of_ble_eq_true rfl) (fun pX eX sX mX argsX blX mtX cX QX hQX gX hAX hnm => ?_)
  refine z_eq (lv₂ := [(0, .ref o), (1, .int r)]) (st₂ := []) ?_ rfl rfl
  have hS0 := hS
  rcases hS with ⟨rfl, rfl, h16, h17⟩ | ⟨⟨d, rfl⟩, hG⟩
  · skip
    refine z_ws [cOb o ad (sa 0) (sb 0) tr x, [(ad 2, .inl (D.1 106, 24, .inr (.inr (.inr (.inr (pRef pf))))))], [(sa 0, .inr (2, [.int (c 16), .int (c 1), .int (c 0), .int wn, .ref (sa 1), .ref (sa 2), .ref (sa 3), .ref (sa 4)]))], [(sa 1, .inr (16, [.int md, .ref (zEE D), .int (nI 0)]))], [(sa 2, .inl (D.1 100, 7, .inl (fun i_ => c (9 + i_))))], [(sa 3, .inl (D.1 100, 7, .inl (fun i_ => c (2 + i_))))], [(sa 4, .inl (D.1 100, 7, .inl od))], pstP D pf 24, T] (List.Perm.refl _) ?_
    refine z_aload_n (pc := 0) gX 0 dX0_cross_0 rfl rfl ?_
    refine z_iload_n (pc := 1) gX 1 dX0_cross_1 rfl rfl ?_
    refine z_cOV (pc := 2) gX (zI_ok gX hAX) [.int r] [] [0, 2, 3] (met_X0_isRider l D B0 o ad sa sb tr x (c 16) (c 1) (c 0) wn md (zEE D) 0 r ) q947 q949 qs22 q47 q950 (zm 0 rfl) (ci := 0) rfl rfl hd_X0_isRider ⟨rfl, rfl⟩ ⟨(Nat.le_of_ble_eq_true rfl), (Nat.le_of_ble_eq_true rfl)⟩ rfl rfl rfl (Nat.le_of_ble_eq_true rfl) ⟨(Nat.le_of_ble_eq_true rfl), (Nat.le_of_ble_eq_true rfl)⟩ dX0_cross_2 ?_
    intro _ hu2
    refine z_eq (lv₂ := [(0, .ref o), (1, .int r)]) (st₂ := [.int (bI (mIn r 0 (nI 0 - 1)))]) ?_ rfl rfl
    refine z_top (bI (mIn r 0 (c 17 - 1))) (congrArg (fun z => bI (mIn r 0 (z - 1))) h17.symm) ?_
    refine z_if_ne (pc := 5) gX 11 dX0_cross_5 (by decide) (fun c5 => ?_) (fun c5 => ?_)
    · skip
      have k5 : (mIn r 0 (c 17 - 1)) = true := bI_ne0 c5
      exact absurd k5 (by rw [inF h17]; decide)
    · skip
      have k5 : (mIn r 0 (c 17 - 1)) = false := bI_eq0 c5
      refine z_ldc (pc := 8) gX q350 dX0_cross_8 ?_
      refine z_ws [cOb o ad (sa 0) (sb 0) tr x, [(ad 2, .inl (D.1 106, 24, .inr (.inr (.inr (.inr (pRef pf))))))], thP D sa ((none, 0, ra), (md, wn, od), c), pstP D pf 24, T] (List.Perm.refl _) ?_
      exact z_rim gX hQX ((-1000001), xm, pa, c, kn, pf, wn, od) (⟨by simp [mCross, inF h17], hS0, hA⟩) rfl (by simp only [show upd x 2 (nI kn) = x by rw [← hx]; exact upd_self _ _]) (by first | decide | omega) (by first | decide | omega) dX0_cross_10
  · skip
    have hK := hG.k
    have hn1 := hG.1
    have hn7 := hG.2.1
    have h17 := hG.2.2.1
    have h16 := hG.2.2.2.1
    have hk4 := hG.2.2.2.2.1
    have hk12 := hG.2.2.2.2.2.1
    have hln := hG.2.2.2.2.2.2.1
    have hR := hG.2.2.2.2.2.2.2
    refine z_ws [cOb o ad (sa 0) (sb 0) tr x, [(ad 2, .inl (D.1 106, 24, .inr (.inr (.inr (.inr (pRef pf))))))], [(sa 0, .inr (2, [.int (c 16), .int (c 1), .int (c 0), .int wn, .ref (sa 1), .ref (sa 2), .ref (sa 3), .ref (sa 4)]))], [(sa 1, .inr (16, [.int md, .ref d, .int (nI n)]))], [(sa 2, .inl (D.1 100, 7, .inl (fun i_ => c (9 + i_))))], [(sa 3, .inl (D.1 100, 7, .inl (fun i_ => c (2 + i_))))], [(sa 4, .inl (D.1 100, 7, .inl od))], [(d, .inl (D.1 104, 10, .inr (.inr (.inr (.inr (rF ra n))))))], pstP D pf 24, T] (List.Perm.refl _) ?_
    refine z_aload_n (pc := 0) gX 0 dX0_cross_0 rfl rfl ?_
    refine z_iload_n (pc := 1) gX 1 dX0_cross_1 rfl rfl ?_
    refine z_cOV (pc := 2) gX (zI_ok gX hAX) [.int r] [] [0, 2, 3] (met_X0_isRider l D B0 o ad sa sb tr x (c 16) (c 1) (c 0) wn md d n r ) q947 q949 qs22 q47 q950 (zm 0 rfl) (ci := 0) rfl rfl hd_X0_isRider ⟨rfl, rfl⟩ ⟨(Nat.le_of_ble_eq_true rfl), (Nat.le_of_ble_eq_true rfl)⟩ rfl rfl rfl (Nat.le_of_ble_eq_true rfl) ⟨(Nat.le_of_ble_eq_true rfl), (Nat.le_of_ble_eq_true rfl)⟩ dX0_cross_2 ?_
    intro _ hu2
    refine z_eq (lv₂ := [(0, .ref o), (1, .int r)]) (st₂ := [.int (bI (mIn r 0 (nI n - 1)))]) ?_ rfl rfl
    refine z_top (bI (mIn r 0 (c 17 - 1))) (congrArg (fun z => bI (mIn r 0 (z - 1))) h17.symm) ?_
    refine z_if_ne (pc := 5) gX 11 dX0_cross_5 (by decide) (fun c5 => ?_) (fun c5 => ?_)
    · skip
      have k5 : (mIn r 0 (c 17 - 1)) = true := bI_ne0 c5
      obtain ⟨j, hj, rfl⟩ := riderN k5 h17 hn7
      refine z_iconst (pc := 11) gX 1 dX0_cross_11 (by decide) ?_
      refine z_aload_n (pc := 12) gX 0 dX0_cross_12 rfl rfl ?_
      refine z_get (pc := 13) gX (zI_ok gX hAX) (zm 0 rfl) (ci := 0) (C := RX0) (T := TX0) (N := 14) rfl in_X0 4 (by decide) q213 (fun _ h => h) (v := .ref (sa 0)) rfl dX0_cross_13 ?_
      refine z_get (pc := 16) gX (zI_ok gX hAX) (zm 2 rfl) (ci := 2) (C := RX2) (T := TX2) (N := 8) rfl in_X2 5 (by decide) q166 (fun _ h => h) (v := .ref (sa 2)) rfl dX0_cross_16 ?_
      refine z_iload_n (pc := 19) gX 1 dX0_cross_19 rfl rfl ?_
      refine z_iald (pc := 20) gX (zI_ok gX hAX) (j := j) (n := 7) (f := (fun i_ => c (9 + i_))) (zm 4 rfl) (by omega) (by decide) dX0_cross_20 ?_
      refine z_top (c (9 + j)) rfl ?_
      refine z_isub (pc := 21) gX dX0_cross_21 ?_
      refine z_istore_n (pc := 22) gX [1, 2, 0] [(0, .ref o), (1, .int (nI j)), (2, .int (1 - (c (9 + j))))] dX0_cross_22 rfl (by decide) rfl ?_
      refine z_aload_n (pc := 23) gX 0 dX0_cross_23 rfl rfl ?_
      refine z_get (pc := 24) gX (zI_ok gX hAX) (zm 0 rfl) (ci := 0) (C := RX0) (T := TX0) (N := 14) rfl in_X0 4 (by decide) q213 (fun _ h => h) (v := .ref (sa 0)) rfl dX0_cross_24 ?_
      refine z_get (pc := 27) gX (zI_ok gX hAX) (zm 2 rfl) (ci := 2) (C := RX2) (T := TX2) (N := 8) rfl in_X2 6 (by decide) q171 (fun _ h => h) (v := .ref (sa 3)) rfl dX0_cross_27 ?_
      refine z_iload_n (pc := 30) gX 1 dX0_cross_30 rfl rfl ?_
      refine z_iald (pc := 31) gX (zI_ok gX hAX) (j := j) (n := 7) (f := (fun i_ => c (2 + i_))) (zm 5 rfl) (by omega) (by decide) dX0_cross_31 ?_
      refine z_top (c (2 + j)) rfl ?_
      refine z_bipush (pc := 32) gX 99 dX0_cross_32 (by decide) ?_
      refine z_icmp_eq (pc := 34) gX 69 dX0_cross_34 (by decide) (fun c34 => ?_) (fun c34 => ?_)
      · skip
        refine z_ldc (pc := 69) gX q833 dX0_cross_69 ?_
        refine z_ws [cOb o ad (sa 0) (sb 0) tr x, [(ad 2, .inl (D.1 106, 24, .inr (.inr (.inr (.inr (pRef pf))))))], thP D sa ((some d, n, ra), (md, wn, od), c), pstP D pf 24, T] (List.Perm.refl _) ?_
        exact z_rim gX hQX ((-1000002), xm, pa, c, kn, pf, wn, od) (⟨by simp [mCross, k5, mCrossB, c34, nI_clamp (show j < 2 ^ 31 by omega)], hS0, hA⟩) rfl (by simp only [show upd x 2 (nI kn) = x by rw [← hx]; exact upd_self _ _]) (by first | decide | omega) (by first | decide | omega) dX0_cross_71
      · skip
        refine z_aload_n (pc := 37) gX 0 dX0_cross_37 rfl rfl ?_
        refine z_get (pc := 38) gX (zI_ok gX hAX) (zm 0 rfl) (ci := 0) (C := RX0) (T := TX0) (N := 14) rfl in_X0 4 (by decide) q213 (fun _ h => h) (v := .ref (sa 0)) rfl dX0_cross_38 ?_
        refine z_iload_n (pc := 41) gX 1 dX0_cross_41 rfl rfl ?_
        refine z_cOV (pc := 42) gX (zI_ok gX hAX) [.int (nI j)] [] [2, 5] (met_X2_isOn l D B0 sa (c 16) (c 1) (c 0) wn (fun i_ => c (2 + i_)) j (by first | assumption | omega)) q951 q918 q919 q49 q920 (zm 2 rfl) (ci := 2) rfl rfl hd_X2_isOn ⟨rfl, rfl⟩ ⟨(Nat.le_of_ble_eq_true rfl), (Nat.le_of_ble_eq_true rfl)⟩ rfl rfl rfl (Nat.le_of_ble_eq_true rfl) ⟨(Nat.le_of_ble_eq_true rfl), (Nat.le_of_ble_eq_true rfl)⟩ dX0_cross_42 ?_
        intro _ hu42
        refine z_eq (lv₂ := [(0, .ref o), (1, .int (nI j)), (2, .int (1 - (c (9 + j))))]) (st₂ := [.int (bI (mOn ((fun i_ => c (2 + i_)) j)))]) ?_ rfl rfl
        refine z_top (bI (mOn (c (2 + j)))) (rfl) ?_
        refine z_if_eq (pc := 45) gX 72 dX0_cross_45 (by decide) (fun c45 => ?_) (fun c45 => ?_)
        · skip
          have k45 : (mOn (c (2 + j))) = false := bI_eq0 c45
          refine z_aload_n (pc := 72) gX 0 dX0_cross_72 rfl rfl ?_
          refine z_cMV (pc := 73) gX hAX [] [] [0, 1, 2, 3, 4, 5, 6, 7, 8, 9] [] (fun A1 => met_X0_keep l D B0 A1 o ad sa sb tr x wn md d n c od ra T k pf kn hG hx hA.2.2.2.1 hA.2.2.2.some hA.2.2.2.2.1) q835 q837 qs19 q47 q838 (zm 0 rfl) (ci := 0) rfl rfl hd_X0_keep ⟨rfl, rfl⟩ ⟨(Nat.le_of_ble_eq_true rfl), (Nat.le_of_ble_eq_true rfl)⟩ rfl rfl (zpl 10 rfl (by decide +kernel)) rfl rfl (Nat.le_of_ble_eq_true rfl) ⟨(Nat.le_of_ble_eq_true rfl), (Nat.le_of_ble_eq_true rfl)⟩ dX0_cross_73 ?_
          intro u73 hu73
          obtain ⟨s1_73, rfl⟩ : ∃ z, z = u73 := ⟨_, rfl⟩
          have hu73 : ∃ d1 md1 od1, s1_73.2 = ((some d1, n, ra), (md1, wn, od1), c) := hu73
          refine z_re [0, 1, 2, 3, 4, 5, 6, 7, 8, 9] [cOb o ad (sa 0) (sb 0) tr (upd x 2 (nI (knK kn))), [(ad 2, .inl (D.1 106, 24, .inr (.inr (.inr (.inr (pRef (keepF kn pf s1_73)))))))], [(sa 0, .inr (2, [.int (c 16), .int (c 1), .int (c 0), .int wn, .ref (sa 1), .ref (sa 2), .ref (sa 3), .ref (sa 4)]))], [(sa 1, .inr (16, [.int md, .ref d, .int (nI n)]))], [(sa 2, .inl (D.1 100, 7, .inl (fun i_ => c (9 + i_))))], [(sa 3, .inl (D.1 100, 7, .inl (fun i_ => c (2 + i_))))], [(sa 4, .inl (D.1 100, 7, .inl od))], [(d, .inl (D.1 104, 10, .inr (.inr (.inr (.inr (rF ra n))))))], pstP D (keepF kn pf s1_73) 24, T] rfl (zpl 10 rfl (by decide +kernel)) ?_
          refine z_norm [cOb o ad (sa 0) (sb 0) tr (upd x 2 (nI (knK kn))), [(ad 2, .inl (D.1 106, 24, .inr (.inr (.inr (.inr (pRef (keepF kn pf s1_73)))))))], [(sa 0, .inr (2, [.int (c 16), .int (c 1), .int (c 0), .int wn, .ref (sa 1), .ref (sa 2), .ref (sa 3), .ref (sa 4)]))], [(sa 1, .inr (16, [.int md, .ref d, .int (nI n)]))], [(sa 2, .inl (D.1 100, 7, .inl (fun i_ => c (9 + i_))))], [(sa 3, .inl (D.1 100, 7, .inl (fun i_ => c (2 + i_))))], [(sa 4, .inl (D.1 100, 7, .inl od))], [(d, .inl (D.1 104, 10, .inr (.inr (.inr (.inr (rF ra n))))))], pstP D (keepF kn pf s1_73) 24, T] 6 42 ?_ rfl rfl rfl
          refine z_eq (lv₂ := [(0, .ref o), (1, .int (nI j)), (2, .int (1 - (c (9 + j))))]) (st₂ := []) ?_ rfl rfl
          refine z_aload_n (pc := 76) gX 0 dX0_cross_76 rfl rfl ?_
          refine z_get (pc := 77) gX (zI_ok gX hAX) (zm 0 rfl) (ci := 0) (C := RX0) (T := TX0) (N := 14) rfl in_X0 4 (by decide) q213 (fun _ h => h) (v := .ref (sa 0)) rfl dX0_cross_77 ?_
          refine z_get (pc := 80) gX (zI_ok gX hAX) (zm 2 rfl) (ci := 2) (C := RX2) (T := TX2) (N := 8) rfl in_X2 5 (by decide) q166 (fun _ h => h) (v := .ref (sa 2)) rfl dX0_cross_80 ?_
          refine z_iload_n (pc := 83) gX 1 dX0_cross_83 rfl rfl ?_
          refine z_iload_n (pc := 84) gX 2 dX0_cross_84 rfl rfl ?_
          refine z_iast (pc := 85) gX hAX 4 (j := j) (n := 7) (f := (fun i_ => c (9 + i_))) rfl (by omega) (by decide) [cOb o ad (sa 0) (sb 0) tr (upd x 2 (nI (knK kn))), [(ad 2, .inl (D.1 106, 24, .inr (.inr (.inr (.inr (pRef (keepF kn pf s1_73)))))))], [(sa 0, .inr (2, [.int (c 16), .int (c 1), .int (c 0), .int wn, .ref (sa 1), .ref (sa 2), .ref (sa 3), .ref (sa 4)]))], [(sa 1, .inr (16, [.int md, .ref d, .int (nI n)]))], [(sa 2, .inl (D.1 100, 7, .inl (upd (fun i_ => c (9 + i_)) j (1 - (c (9 + j))))))], [(sa 3, .inl (D.1 100, 7, .inl (fun i_ => c (2 + i_))))], [(sa 4, .inl (D.1 100, 7, .inl od))], [(d, .inl (D.1 104, 10, .inr (.inr (.inr (.inr (rF ra n))))))], pstP D (keepF kn pf s1_73) 24, T] rfl dX0_cross_85 ?_
          refine z_ext 4 (fun i_ => (upd c (9 + j) (1 - (c (9 + j)))) (9 + i_)) rfl (fun q hq => upL j q) [cOb o ad (sa 0) (sb 0) tr (upd x 2 (nI (knK kn))), [(ad 2, .inl (D.1 106, 24, .inr (.inr (.inr (.inr (pRef (keepF kn pf s1_73)))))))], [(sa 0, .inr (2, [.int (c 16), .int (c 1), .int (c 0), .int wn, .ref (sa 1), .ref (sa 2), .ref (sa 3), .ref (sa 4)]))], [(sa 1, .inr (16, [.int md, .ref d, .int (nI n)]))], [(sa 2, .inl (D.1 100, 7, .inl (fun i_ => (upd c (9 + j) (1 - (c (9 + j)))) (9 + i_))))], [(sa 3, .inl (D.1 100, 7, .inl (fun i_ => c (2 + i_))))], [(sa 4, .inl (D.1 100, 7, .inl od))], [(d, .inl (D.1 104, 10, .inr (.inr (.inr (.inr (rF ra n))))))], pstP D (keepF kn pf s1_73) 24, T] rfl ?_
          refine z_ext 5 (fun i_ => (upd c (9 + j) (1 - (c (9 + j)))) (2 + i_)) rfl (fun q hq => (pk_un (by omega)).symm) [cOb o ad (sa 0) (sb 0) tr (upd x 2 (nI (knK kn))), [(ad 2, .inl (D.1 106, 24, .inr (.inr (.inr (.inr (pRef (keepF kn pf s1_73)))))))], [(sa 0, .inr (2, [.int (c 16), .int (c 1), .int (c 0), .int wn, .ref (sa 1), .ref (sa 2), .ref (sa 3), .ref (sa 4)]))], [(sa 1, .inr (16, [.int md, .ref d, .int (nI n)]))], [(sa 2, .inl (D.1 100, 7, .inl (fun i_ => (upd c (9 + j) (1 - (c (9 + j)))) (9 + i_))))], [(sa 3, .inl (D.1 100, 7, .inl (fun i_ => (upd c (9 + j) (1 - (c (9 + j)))) (2 + i_))))], [(sa 4, .inl (D.1 100, 7, .inl od))], [(d, .inl (D.1 104, 10, .inr (.inr (.inr (.inr (rF ra n))))))], pstP D (keepF kn pf s1_73) 24, T] rfl ?_
          refine z_weq [cOb o ad (sa 0) (sb 0) tr (upd x 2 (nI (knK kn))), [(ad 2, .inl (D.1 106, 24, .inr (.inr (.inr (.inr (pRef (keepF kn pf s1_73)))))))], [(sa 0, .inr (2, [.int ((upd c (9 + j) (1 - (c (9 + j)))) 16), .int ((upd c (9 + j) (1 - (c (9 + j)))) 1), .int ((upd c (9 + j) (1 - (c (9 + j)))) 0), .int wn, .ref (sa 1), .ref (sa 2), .ref (sa 3), .ref (sa 4)]))], [(sa 1, .inr (16, [.int md, .ref d, .int (nI n)]))], [(sa 2, .inl (D.1 100, 7, .inl (fun i_ => (upd c (9 + j) (1 - (c (9 + j)))) (9 + i_))))], [(sa 3, .inl (D.1 100, 7, .inl (fun i_ => (upd c (9 + j) (1 - (c (9 + j)))) (2 + i_))))], [(sa 4, .inl (D.1 100, 7, .inl od))], [(d, .inl (D.1 104, 10, .inr (.inr (.inr (.inr (rF ra n))))))], pstP D (keepF kn pf s1_73) 24, T] (by rw [show (upd c (9 + j) (1 - (c (9 + j)))) 16 = c 16 from pk_un (by omega), show (upd c (9 + j) (1 - (c (9 + j)))) 1 = c 1 from pk_un (by omega), show (upd c (9 + j) (1 - (c (9 + j)))) 0 = c 0 from pk_un (by omega)]) ?_
          refine z_iload_n (pc := 86) gX 2 dX0_cross_86 rfl rfl ?_
          refine z_ws [cOb o ad (sa 0) (sb 0) tr (upd x 2 (nI (knK kn))), [(ad 2, .inl (D.1 106, 24, .inr (.inr (.inr (.inr (pRef (keepF kn pf s1_73)))))))], thP D sa ((some d, n, ra), (md, wn, od), upd c (9 + j) (1 - (c (9 + j)))), pstP D (keepF kn pf s1_73) 24, T] (List.Perm.refl _) ?_
          exact z_rim gX hQX (1 - (c (9 + j)), kx xm kn, mKeepP kn pa c, upd c (9 + j) (1 - c (9 + j)), knK kn, keepF kn pf s1_73, wn, od) ((fun h => ⟨by simp [mCross, k5, mCrossB, c34, k45, nI_clamp (show j < 2 ^ 31 by omega)], Or.inr ⟨⟨d, rfl⟩, h.1⟩, h.2⟩) (act_ok hG hA hu73 (fun q hq => pk_un (by omega)) (lane_l (oth01 (hln j hj)) hln) (nW_lane hn7 (hA.2.1 (by omega)) (by omega) (fun h => by rw [k45] at h; cases h)))) rfl rfl (by first | decide | omega) (by first | decide | omega) dX0_cross_87
        · skip
          have k45 : (mOn (c (2 + j))) = true := bI_ne0 c45
          refine z_aload_n (pc := 48) gX 0 dX0_cross_48 rfl rfl ?_
          refine z_get (pc := 49) gX (zI_ok gX hAX) (zm 0 rfl) (ci := 0) (C := RX0) (T := TX0) (N := 14) rfl in_X0 4 (by decide) q213 (fun _ h => h) (v := .ref (sa 0)) rfl dX0_cross_49 ?_
          refine z_iload_n (pc := 52) gX 1 dX0_cross_52 rfl rfl ?_
          refine z_aload_n (pc := 53) gX 0 dX0_cross_53 rfl rfl ?_
          refine z_get (pc := 54) gX (zI_ok gX hAX) (zm 0 rfl) (ci := 0) (C := RX0) (T := TX0) (N := 14) rfl in_X0 4 (by decide) q213 (fun _ h => h) (v := .ref (sa 0)) rfl dX0_cross_54 ?_
          refine z_get (pc := 57) gX (zI_ok gX hAX) (zm 2 rfl) (ci := 2) (C := RX2) (T := TX2) (N := 8) rfl in_X2 6 (by decide) q171 (fun _ h => h) (v := .ref (sa 3)) rfl dX0_cross_57 ?_
          refine z_iload_n (pc := 60) gX 1 dX0_cross_60 rfl rfl ?_
          refine z_iald (pc := 61) gX (zI_ok gX hAX) (j := j) (n := 7) (f := (fun i_ => c (2 + i_))) (zm 5 rfl) (by omega) (by decide) dX0_cross_61 ?_
          refine z_top (c (2 + j)) rfl ?_
          refine z_iload_n (pc := 62) gX 2 dX0_cross_62 rfl rfl ?_
          refine z_cOV (pc := 63) gX (zI_ok gX hAX) [.int (nI j), .int (c (2 + j)), .int (1 - (c (9 + j)))] [] [2, 3, 4, 5, 6, 7, 9] (met_X2_isFree l D B0 sa (c 16) (c 1) (c 0) wn md d n (fun i_ => c (9 + i_)) (fun i_ => c (2 + i_)) od ra (fun i_ => c (18 + i_)) T j (c (2 + j)) (1 - (c (9 + j))) (by first | assumption | omega) (by first | assumption | omega) hln (by first | assumption | omega) (oth01 (hln j hj))) q952 q869 q870 q49 q871 (zm 2 rfl) (ci := 2) rfl rfl hd_X2_isFree ⟨rfl, rfl⟩ ⟨(Nat.le_of_ble_eq_true rfl), (Nat.le_of_ble_eq_true rfl)⟩ rfl rfl rfl (Nat.le_of_ble_eq_true rfl) ⟨(Nat.le_of_ble_eq_true rfl), (Nat.le_of_ble_eq_true rfl)⟩ dX0_cross_63 ?_
          intro _ hu63
          refine z_eq (lv₂ := [(0, .ref o), (1, .int (nI j)), (2, .int (1 - (c (9 + j))))]) (st₂ := [.int (bI (mFreeTo (pkC (c 16) (c 1) (c 0) n (fun i_ => c (9 + i_)) (fun i_ => c (2 + i_)) (fun i_ => c (18 + i_))) j (c (2 + j)) (1 - (c (9 + j))) n))]) ?_ rfl rfl
          refine z_top (bI (mFreeTo c j (c (2 + j)) (1 - (c (9 + j))) n)) (by rw [pkC_eta h17]) ?_
          refine z_if_ne (pc := 66) gX 72 dX0_cross_66 (by decide) (fun c66 => ?_) (fun c66 => ?_)
          · skip
            have k66 : (mFreeTo c j (c (2 + j)) (1 - (c (9 + j))) n) = true := bI_ne0 c66
            refine z_aload_n (pc := 72) gX 0 dX0_cross_72 rfl rfl ?_
            refine z_cMV (pc := 73) gX hAX [] [] [0, 1, 2, 3, 4, 5, 6, 7, 8, 9] [] (fun A1 => met_X0_keep l D B0 A1 o ad sa sb tr x wn md d n c od ra T k pf kn hG hx hA.2.2.2.1 hA.2.2.2.some hA.2.2.2.2.1) q835 q837 qs19 q47 q838 (zm 0 rfl) (ci := 0) rfl rfl hd_X0_keep ⟨rfl, rfl⟩ ⟨(Nat.le_of_ble_eq_true rfl), (Nat.le_of_ble_eq_true rfl)⟩ rfl rfl (zpl 10 rfl (by decide +kernel)) rfl rfl (Nat.le_of_ble_eq_true rfl) ⟨(Nat.le_of_ble_eq_true rfl), (Nat.le_of_ble_eq_true rfl)⟩ dX0_cross_73 ?_
            intro u73 hu73
            obtain ⟨s1_73, rfl⟩ : ∃ z, z = u73 := ⟨_, rfl⟩
            have hu73 : ∃ d1 md1 od1, s1_73.2 = ((some d1, n, ra), (md1, wn, od1), c) := hu73
            refine z_re [0, 1, 2, 3, 4, 5, 6, 7, 8, 9] [cOb o ad (sa 0) (sb 0) tr (upd x 2 (nI (knK kn))), [(ad 2, .inl (D.1 106, 24, .inr (.inr (.inr (.inr (pRef (keepF kn pf s1_73)))))))], [(sa 0, .inr (2, [.int (c 16), .int (c 1), .int (c 0), .int wn, .ref (sa 1), .ref (sa 2), .ref (sa 3), .ref (sa 4)]))], [(sa 1, .inr (16, [.int md, .ref d, .int (nI n)]))], [(sa 2, .inl (D.1 100, 7, .inl (fun i_ => c (9 + i_))))], [(sa 3, .inl (D.1 100, 7, .inl (fun i_ => c (2 + i_))))], [(sa 4, .inl (D.1 100, 7, .inl od))], [(d, .inl (D.1 104, 10, .inr (.inr (.inr (.inr (rF ra n))))))], pstP D (keepF kn pf s1_73) 24, T] rfl (zpl 10 rfl (by decide +kernel)) ?_
            refine z_norm [cOb o ad (sa 0) (sb 0) tr (upd x 2 (nI (knK kn))), [(ad 2, .inl (D.1 106, 24, .inr (.inr (.inr (.inr (pRef (keepF kn pf s1_73)))))))], [(sa 0, .inr (2, [.int (c 16), .int (c 1), .int (c 0), .int wn, .ref (sa 1), .ref (sa 2), .ref (sa 3), .ref (sa 4)]))], [(sa 1, .inr (16, [.int md, .ref d, .int (nI n)]))], [(sa 2, .inl (D.1 100, 7, .inl (fun i_ => c (9 + i_))))], [(sa 3, .inl (D.1 100, 7, .inl (fun i_ => c (2 + i_))))], [(sa 4, .inl (D.1 100, 7, .inl od))], [(d, .inl (D.1 104, 10, .inr (.inr (.inr (.inr (rF ra n))))))], pstP D (keepF kn pf s1_73) 24, T] 6 42 ?_ rfl rfl rfl
            refine z_eq (lv₂ := [(0, .ref o), (1, .int (nI j)), (2, .int (1 - (c (9 + j))))]) (st₂ := []) ?_ rfl rfl
            refine z_aload_n (pc := 76) gX 0 dX0_cross_76 rfl rfl ?_
            refine z_get (pc := 77) gX (zI_ok gX hAX) (zm 0 rfl) (ci := 0) (C := RX0) (T := TX0) (N := 14) rfl in_X0 4 (by decide) q213 (fun _ h => h) (v := .ref (sa 0)) rfl dX0_cross_77 ?_
            refine z_get (pc := 80) gX (zI_ok gX hAX) (zm 2 rfl) (ci := 2) (C := RX2) (T := TX2) (N := 8) rfl in_X2 5 (by decide) q166 (fun _ h => h) (v := .ref (sa 2)) rfl dX0_cross_80 ?_
            refine z_iload_n (pc := 83) gX 1 dX0_cross_83 rfl rfl ?_
            refine z_iload_n (pc := 84) gX 2 dX0_cross_84 rfl rfl ?_
            refine z_iast (pc := 85) gX hAX 4 (j := j) (n := 7) (f := (fun i_ => c (9 + i_))) rfl (by omega) (by decide) [cOb o ad (sa 0) (sb 0) tr (upd x 2 (nI (knK kn))), [(ad 2, .inl (D.1 106, 24, .inr (.inr (.inr (.inr (pRef (keepF kn pf s1_73)))))))], [(sa 0, .inr (2, [.int (c 16), .int (c 1), .int (c 0), .int wn, .ref (sa 1), .ref (sa 2), .ref (sa 3), .ref (sa 4)]))], [(sa 1, .inr (16, [.int md, .ref d, .int (nI n)]))], [(sa 2, .inl (D.1 100, 7, .inl (upd (fun i_ => c (9 + i_)) j (1 - (c (9 + j))))))], [(sa 3, .inl (D.1 100, 7, .inl (fun i_ => c (2 + i_))))], [(sa 4, .inl (D.1 100, 7, .inl od))], [(d, .inl (D.1 104, 10, .inr (.inr (.inr (.inr (rF ra n))))))], pstP D (keepF kn pf s1_73) 24, T] rfl dX0_cross_85 ?_
            refine z_ext 4 (fun i_ => (upd c (9 + j) (1 - (c (9 + j)))) (9 + i_)) rfl (fun q hq => upL j q) [cOb o ad (sa 0) (sb 0) tr (upd x 2 (nI (knK kn))), [(ad 2, .inl (D.1 106, 24, .inr (.inr (.inr (.inr (pRef (keepF kn pf s1_73)))))))], [(sa 0, .inr (2, [.int (c 16), .int (c 1), .int (c 0), .int wn, .ref (sa 1), .ref (sa 2), .ref (sa 3), .ref (sa 4)]))], [(sa 1, .inr (16, [.int md, .ref d, .int (nI n)]))], [(sa 2, .inl (D.1 100, 7, .inl (fun i_ => (upd c (9 + j) (1 - (c (9 + j)))) (9 + i_))))], [(sa 3, .inl (D.1 100, 7, .inl (fun i_ => c (2 + i_))))], [(sa 4, .inl (D.1 100, 7, .inl od))], [(d, .inl (D.1 104, 10, .inr (.inr (.inr (.inr (rF ra n))))))], pstP D (keepF kn pf s1_73) 24, T] rfl ?_
            refine z_ext 5 (fun i_ => (upd c (9 + j) (1 - (c (9 + j)))) (2 + i_)) rfl (fun q hq => (pk_un (by omega)).symm) [cOb o ad (sa 0) (sb 0) tr (upd x 2 (nI (knK kn))), [(ad 2, .inl (D.1 106, 24, .inr (.inr (.inr (.inr (pRef (keepF kn pf s1_73)))))))], [(sa 0, .inr (2, [.int (c 16), .int (c 1), .int (c 0), .int wn, .ref (sa 1), .ref (sa 2), .ref (sa 3), .ref (sa 4)]))], [(sa 1, .inr (16, [.int md, .ref d, .int (nI n)]))], [(sa 2, .inl (D.1 100, 7, .inl (fun i_ => (upd c (9 + j) (1 - (c (9 + j)))) (9 + i_))))], [(sa 3, .inl (D.1 100, 7, .inl (fun i_ => (upd c (9 + j) (1 - (c (9 + j)))) (2 + i_))))], [(sa 4, .inl (D.1 100, 7, .inl od))], [(d, .inl (D.1 104, 10, .inr (.inr (.inr (.inr (rF ra n))))))], pstP D (keepF kn pf s1_73) 24, T] rfl ?_
            refine z_weq [cOb o ad (sa 0) (sb 0) tr (upd x 2 (nI (knK kn))), [(ad 2, .inl (D.1 106, 24, .inr (.inr (.inr (.inr (pRef (keepF kn pf s1_73)))))))], [(sa 0, .inr (2, [.int ((upd c (9 + j) (1 - (c (9 + j)))) 16), .int ((upd c (9 + j) (1 - (c (9 + j)))) 1), .int ((upd c (9 + j) (1 - (c (9 + j)))) 0), .int wn, .ref (sa 1), .ref (sa 2), .ref (sa 3), .ref (sa 4)]))], [(sa 1, .inr (16, [.int md, .ref d, .int (nI n)]))], [(sa 2, .inl (D.1 100, 7, .inl (fun i_ => (upd c (9 + j) (1 - (c (9 + j)))) (9 + i_))))], [(sa 3, .inl (D.1 100, 7, .inl (fun i_ => (upd c (9 + j) (1 - (c (9 + j)))) (2 + i_))))], [(sa 4, .inl (D.1 100, 7, .inl od))], [(d, .inl (D.1 104, 10, .inr (.inr (.inr (.inr (rF ra n))))))], pstP D (keepF kn pf s1_73) 24, T] (by rw [show (upd c (9 + j) (1 - (c (9 + j)))) 16 = c 16 from pk_un (by omega), show (upd c (9 + j) (1 - (c (9 + j)))) 1 = c 1 from pk_un (by omega), show (upd c (9 + j) (1 - (c (9 + j)))) 0 = c 0 from pk_un (by omega)]) ?_
            refine z_iload_n (pc := 86) gX 2 dX0_cross_86 rfl rfl ?_
            refine z_ws [cOb o ad (sa 0) (sb 0) tr (upd x 2 (nI (knK kn))), [(ad 2, .inl (D.1 106, 24, .inr (.inr (.inr (.inr (pRef (keepF kn pf s1_73)))))))], thP D sa ((some d, n, ra), (md, wn, od), upd c (9 + j) (1 - (c (9 + j)))), pstP D (keepF kn pf s1_73) 24, T] (List.Perm.refl _) ?_
            exact z_rim gX hQX (1 - (c (9 + j)), kx xm kn, mKeepP kn pa c, upd c (9 + j) (1 - c (9 + j)), knK kn, keepF kn pf s1_73, wn, od) ((fun h => ⟨by simp [mCross, k5, mCrossB, c34, k66, nI_clamp (show j < 2 ^ 31 by omega)], Or.inr ⟨⟨d, rfl⟩, h.1⟩, h.2⟩) (act_ok hG hA hu73 (fun q hq => pk_un (by omega)) (lane_l (oth01 (hln j hj)) hln) (nW_lane hn7 (hA.2.1 (by omega)) (by omega) (fun h => k66)))) rfl rfl (by first | decide | omega) (by first | decide | omega) dX0_cross_87
          · skip
            have k66 : (mFreeTo c j (c (2 + j)) (1 - (c (9 + j))) n) = false := bI_eq0 c66
            refine z_ldc (pc := 69) gX q833 dX0_cross_69 ?_
            refine z_ws [cOb o ad (sa 0) (sb 0) tr x, [(ad 2, .inl (D.1 106, 24, .inr (.inr (.inr (.inr (pRef pf))))))], thP D sa ((some d, n, ra), (md, wn, od), c), pstP D pf 24, T] (List.Perm.refl _) ?_
            exact z_rim gX hQX ((-1000002), xm, pa, c, kn, pf, wn, od) (⟨by simp [mCross, k5, cross_b (hA.2.1 (by omega)).1 hj k45 k66, nI_clamp (show j < 2 ^ 31 by omega)], hS0, hA⟩) rfl (by simp only [show upd x 2 (nI kn) = x by rw [← hx]; exact upd_self _ _]) (by first | decide | omega) (by first | decide | omega) dX0_cross_71
    · skip
      have k5 : (mIn r 0 (c 17 - 1)) = false := bI_eq0 c5
      refine z_ldc (pc := 8) gX q350 dX0_cross_8 ?_
      refine z_ws [cOb o ad (sa 0) (sb 0) tr x, [(ad 2, .inl (D.1 106, 24, .inr (.inr (.inr (.inr (pRef pf))))))], thP D sa ((some d, n, ra), (md, wn, od), c), pstP D pf 24, T] (List.Perm.refl _) ?_
      exact z_rim gX hQX ((-1000001), xm, pa, c, kn, pf, wn, od) (⟨by simp [mCross, k5], hS0, hA⟩) rfl (by simp only [show upd x 2 (nI kn) = x by rw [← hx]; exact upd_self _ _]) (by first | decide | omega) (by first | decide | omega) dX0_cross_10
theorem hd_X0_cross : zHd yX0_cross 1 := by unfold zHd; decide +kernel

set_option maxHeartbeats 4000000 in
theorem met_X0_ticks (l : Launch) (D : va_G) (B0 : Nat) (A : Nat → Prop) (o : Nat) (ad : Nat → Nat) (sa : Nat → Nat) (sb : Nat → Nat) (tr : Nat) (x : Nat → Int32) (da : Option Nat) (n : Nat) (ra : Nat → Nat) (md : Int32) (wn : Int32) (od : Nat → Int32) (c : Nat → Int32) (T : va_W) (k : Nat) (xm : Nat → Int32) (pa : Nat → Int32) (pf : pF) (kn : Nat) (v : Int32) (hS : sOK T da n k ra c) (hx : x 2 = nI kn) (hA : aOK n k ra c xm kn pf pa) : Met l yX0_ticks (ws_ yX0_ticks cX0_ticks 3 (some .int)) (zRm 11 144 1008) (va_Pc [.ref o, .int v] (zPre B0 D A [cOb o ad (sa 0) (sb 0) tr x, [(ad 2, .inl (D.1 106, 24, .inr (.inr (.inr (.inr (pRef pf))))))], thP D sa ((da, n, ra), (md, wn, od), c), pstP D pf 24, T])) (zQ (S := Int32 × (Nat → Int32) × (Nat → Int32) × (Nat → Int32) × Nat × pF × Int32 × (Nat → Int32)) (fun u => (fun (r_ : Int32) (xm1 : Nat → Int32) (pa1 : Nat → Int32) (c1 : Nat → Int32) (kn1 : Nat) (pf1 : pF) (wn1 : Int32) (od1 : Nat → Int32) => (r_, xm1, pa1, c1) = mTicks n k kn xm pa c v ∧ sOK T da n k ra c1 ∧ aOK n k ra c1 xm1 kn1 pf1 pa1) u.1 u.2.1 u.2.2.1 u.2.2.2.1 u.2.2.2.2.1 u.2.2.2.2.2.1 u.2.2.2.2.2.2.1 u.2.2.2.2.2.2.2) (fun u => (fun (r_ : Int32) (xm1 : Nat → Int32) (pa1 : Nat → Int32) (c1 : Nat → Int32) (kn1 : Nat) (pf1 : pF) (wn1 : Int32) (od1 : Nat → Int32) => some (.int r_)) u.1 u.2.1 u.2.2.1 u.2.2.2.1 u.2.2.2.2.1 u.2.2.2.2.2.1 u.2.2.2.2.2.2.1 u.2.2.2.2.2.2.2) (fun u => (fun (r_ : Int32) (xm1 : Nat → Int32) (pa1 : Nat → Int32) (c1 : Nat → Int32) (kn1 : Nat) (pf1 : pF) (wn1 : Int32) (od1 : Nat → Int32) => [cOb o ad (sa 0) (sb 0) tr (upd x 2 (nI kn1)), [(ad 2, .inl (D.1 106, 24, .inr (.inr (.inr (.inr (pRef pf1))))))], thP D sa ((da, n, ra), (md, wn1, od1), c1), pstP D pf1 24, T]) u.1 u.2.1 u.2.2.1 u.2.2.2.1 u.2.2.2.2.1 u.2.2.2.2.2.1 u.2.2.2.2.2.2.1 u.2.2.2.2.2.2.2) D A) 144 1008 A := by
  refine z_entry (by decide +kernel) (Nat.le_of_ble_eq_true rfl) (fun pX eX sX mX argsX blX mtX cX QX hQX gX hAX hnm => ?_)
  refine z_eq (lv₂ := [(0, .ref o), (1, .int v)]) (st₂ := []) ?_ rfl rfl
  have hS0 := hS
  rcases hS with ⟨rfl, rfl, h16, h17⟩ | ⟨⟨d, rfl⟩, hG⟩
  · skip
    refine z_ws [cOb o ad (sa 0) (sb 0) tr x, [(ad 2, .inl (D.1 106, 24, .inr (.inr (.inr (.inr (pRef pf))))))], [(sa 0, .inr (2, [.int (c 16), .int (c 1), .int (c 0), .int wn, .ref (sa 1), .ref (sa 2), .ref (sa 3), .ref (sa 4)]))], [(sa 1, .inr (16, [.int md, .ref (zEE D), .int (nI 0)]))], [(sa 2, .inl (D.1 100, 7, .inl (fun i_ => c (9 + i_))))], [(sa 3, .inl (D.1 100, 7, .inl (fun i_ => c (2 + i_))))], [(sa 4, .inl (D.1 100, 7, .inl od))], pstP D pf 24, T] (List.Perm.refl _) ?_
    refine z_aload_n (pc := 0) gX 0 dX0_ticks_0 rfl rfl ?_
    refine z_cOV (pc := 1) gX (zI_ok gX hAX) [] [] [0, 2] (met_X0_isThere l D B0 o ad sa sb tr x (c 16) (c 1) (c 0) wn ) q829 q831 qs18 q47 q832 (zm 0 rfl) (ci := 0) rfl rfl hd_X0_isThere ⟨rfl, rfl⟩ ⟨(Nat.le_of_ble_eq_true rfl), (Nat.le_of_ble_eq_true rfl)⟩ rfl rfl rfl (Nat.le_of_ble_eq_true rfl) ⟨(Nat.le_of_ble_eq_true rfl), (Nat.le_of_ble_eq_true rfl)⟩ dX0_ticks_1 ?_
    intro _ hu1
    refine z_eq (lv₂ := [(0, .ref o), (1, .int v)]) (st₂ := [.int (bI (decide (0 < (c 16))))]) ?_ rfl rfl
    refine z_if_ne (pc := 4) gX 10 dX0_ticks_4 (by decide) (fun c4 => ?_) (fun c4 => ?_)
    · skip
      have k4 : (decide (0 < (c 16))) = true := bI_ne0 c4
      exact absurd k4 (by rw [h16]; decide)
    · skip
      have k4 : (decide (0 < (c 16))) = false := bI_eq0 c4
      refine z_ldc (pc := 7) gX q833 dX0_ticks_7 ?_
      refine z_ws [cOb o ad (sa 0) (sb 0) tr x, [(ad 2, .inl (D.1 106, 24, .inr (.inr (.inr (.inr (pRef pf))))))], thP D sa ((none, 0, ra), (md, wn, od), c), pstP D pf 24, T] (List.Perm.refl _) ?_
      exact z_rim gX hQX ((-1000002), xm, pa, c, kn, pf, wn, od) (⟨by simp [mTicks, h17], hS0, hA⟩) rfl (by simp only [show upd x 2 (nI kn) = x by rw [← hx]; exact upd_self _ _]) (by first | decide | omega) (by first | decide | omega) dX0_ticks_9
  · skip
    have hK := hG.k
    have hn1 := hG.1
    have hn7 := hG.2.1
    have h17 := hG.2.2.1
    have h16 := hG.2.2.2.1
    have hk4 := hG.2.2.2.2.1
    have hk12 := hG.2.2.2.2.2.1
    have hln := hG.2.2.2.2.2.2.1
    have hR := hG.2.2.2.2.2.2.2
    refine z_ws [cOb o ad (sa 0) (sb 0) tr x, [(ad 2, .inl (D.1 106, 24, .inr (.inr (.inr (.inr (pRef pf))))))], [(sa 0, .inr (2, [.int (c 16), .int (c 1), .int (c 0), .int wn, .ref (sa 1), .ref (sa 2), .ref (sa 3), .ref (sa 4)]))], [(sa 1, .inr (16, [.int md, .ref d, .int (nI n)]))], [(sa 2, .inl (D.1 100, 7, .inl (fun i_ => c (9 + i_))))], [(sa 3, .inl (D.1 100, 7, .inl (fun i_ => c (2 + i_))))], [(sa 4, .inl (D.1 100, 7, .inl od))], [(d, .inl (D.1 104, 10, .inr (.inr (.inr (.inr (rF ra n))))))], pstP D pf 24, T] (List.Perm.refl _) ?_
    refine z_aload_n (pc := 0) gX 0 dX0_ticks_0 rfl rfl ?_
    refine z_cOV (pc := 1) gX (zI_ok gX hAX) [] [] [0, 2] (met_X0_isThere l D B0 o ad sa sb tr x (c 16) (c 1) (c 0) wn ) q829 q831 qs18 q47 q832 (zm 0 rfl) (ci := 0) rfl rfl hd_X0_isThere ⟨rfl, rfl⟩ ⟨(Nat.le_of_ble_eq_true rfl), (Nat.le_of_ble_eq_true rfl)⟩ rfl rfl rfl (Nat.le_of_ble_eq_true rfl) ⟨(Nat.le_of_ble_eq_true rfl), (Nat.le_of_ble_eq_true rfl)⟩ dX0_ticks_1 ?_
    intro _ hu1
    refine z_eq (lv₂ := [(0, .ref o), (1, .int v)]) (st₂ := [.int (bI (decide (0 < (c 16))))]) ?_ rfl rfl
    refine z_if_ne (pc := 4) gX 10 dX0_ticks_4 (by decide) (fun c4 => ?_) (fun c4 => ?_)
    · skip
      have k4 : (decide (0 < (c 16))) = true := bI_ne0 c4
      refine z_iload_n (pc := 10) gX 1 dX0_ticks_10 rfl rfl ?_
      refine z_i2l (pc := 11) gX dX0_ticks_11 ?_
      refine z_lconst (pc := 12) gX 1 dX0_ticks_12 rfl ?_
      refine z_ldc2_w (pc := 13) gX q834 dX0_ticks_13 ?_
      refine z_cOS (pc := 16) gX (zI_ok gX hAX) [.long v.toInt64, .long 1, .long 24] [] [] (met_X0_isIn l D B0 v.toInt64 1 24 ) q346 q347 q47 q348 hd_X0_isIn ⟨rfl, rfl⟩ ⟨(Nat.le_of_ble_eq_true rfl), (Nat.le_of_ble_eq_true rfl)⟩ rfl rfl rfl (Nat.le_of_ble_eq_true rfl) ⟨(Nat.le_of_ble_eq_true rfl), (Nat.le_of_ble_eq_true rfl)⟩ dX0_ticks_16 ?_
      intro _ hu16
      refine z_eq (lv₂ := [(0, .ref o), (1, .int v)]) (st₂ := [.int (bI (lIn v.toInt64 1 24))]) ?_ rfl rfl
      refine z_top (bI (mIn v 1 24)) (congrArg bI (lIn_eq rfl (by decide) (by decide))) ?_
      refine z_if_ne (pc := 19) gX 25 dX0_ticks_19 (by decide) (fun c19 => ?_) (fun c19 => ?_)
      · skip
        have k19 : (mIn v 1 24) = true := bI_ne0 c19
        obtain ⟨dd, hdd, rfl⟩ := mIn_nat1 k19 24 (by decide)
        refine z_aload_n (pc := 25) gX 0 dX0_ticks_25 rfl rfl ?_
        refine z_get (pc := 26) gX (zI_ok gX hAX) (zm 0 rfl) (ci := 0) (C := RX0) (T := TX0) (N := 14) rfl in_X0 4 (by decide) q213 (fun _ h => h) (v := .ref (sa 0)) rfl dX0_ticks_26 ?_
        refine z_get (pc := 29) gX (zI_ok gX hAX) (zm 2 rfl) (ci := 2) (C := RX2) (T := TX2) (N := 8) rfl in_X2 2 (by decide) q154 (fun _ h => h) (v := .int (c 0)) rfl dX0_ticks_29 ?_
        refine z_iload_n (pc := 32) gX 1 dX0_ticks_32 rfl rfl ?_
        refine z_iadd (pc := 33) gX dX0_ticks_33 ?_
        refine z_sipush (pc := 34) gX 9999 dX0_ticks_34 (by decide) ?_
        refine z_icmp_le (pc := 37) gX 43 dX0_ticks_37 (by decide) (fun c37 => ?_) (fun c37 => ?_)
        · skip
          refine z_iconst (pc := 43) gX 0 dX0_ticks_43 (by decide) ?_
          refine z_istore_n (pc := 44) gX [1, 2, 0] [(0, .ref o), (1, .int (nI dd)), (2, .int 0)] dX0_ticks_44 rfl (by decide) rfl ?_
          have L45 : ∀ (n45 : Nat) (i : Nat) (x2 : Nat → Int32) (pf2 : pF) (c1 : Nat → Int32) (od1 : Nat → Int32) (wn1 : Int32), (i ≤ dd) → (x2 = upd x 2 (nI (tkS n k i (kn, pa, c)).1)) → (c1 = (tkS n k i (kn, pa, c)).2.2) → (gOK T n k ra c1) → (aOK n k ra c1 (upd xm 3 (nI (tkS n k i (kn, pa, c)).1)) (tkS n k i (kn, pa, c)).1 pf2 (tkS n k i (kn, pa, c)).2.1) → dd - i < n45 → zJ pX l eX (zRm 11 144 1008) sX mX argsX blX mtX cX QX 3 (zI D A sX [cOb o ad (sa 0) (sb 0) tr x2, [(ad 2, .inl (D.1 106, 24, .inr (.inr (.inr (.inr (pRef pf2))))))], [(sa 0, .inr (2, [.int (c1 16), .int (c1 1), .int (c1 0), .int wn1, .ref (sa 1), .ref (sa 2), .ref (sa 3), .ref (sa 4)]))], [(sa 1, .inr (16, [.int md, .ref d, .int (nI n)]))], [(sa 2, .inl (D.1 100, 7, .inl (fun i_ => c1 (9 + i_))))], [(sa 3, .inl (D.1 100, 7, .inl (fun i_ => c1 (2 + i_))))], [(sa 4, .inl (D.1 100, 7, .inl od1))], [(d, .inl (D.1 104, 10, .inr (.inr (.inr (.inr (rF ra n))))))], pstP D pf2 24, T]) (6 * i) (42 * i) 45 [(0, .ref o), (1, .int (nI dd)), (2, .int (nI i))] [] := by
            intro n45
            induction n45 with
            | zero => exact fun i x2 pf2 c1 od1 wn1 hi hx2 hc1 hG1 hA1 hm45 => absurd hm45 (Nat.not_lt_zero _)
            | succ n45 ih45 =>
              intro i x2 pf2 c1 od1 wn1 hi hx2 hc1 hG1 hA1 hm45
              refine z_iload_n (pc := 45) gX 2 dX0_ticks_45 rfl rfl ?_
              refine z_iload_n (pc := 46) gX 1 dX0_ticks_46 rfl rfl ?_
              refine z_icmp_ge (pc := 47) gX 68 dX0_ticks_47 (by decide) (fun c47 => ?_) (fun c47 => ?_)
              · skip
                have k47 : dd ≤ i := (zn_le (a := dd) (b := i) (by omega) (by omega)).mp c47
                refine z_aload_n (pc := 68) gX 0 dX0_ticks_68 rfl rfl ?_
                refine z_get (pc := 69) gX (zI_ok gX hAX) (zm 0 rfl) (ci := 0) (C := RX0) (T := TX0) (N := 14) rfl in_X0 4 (by decide) q213 (fun _ h => h) (v := .ref (sa 0)) rfl dX0_ticks_69 ?_
                refine z_cOV (pc := 72) gX (zI_ok gX hAX) [] [] [2, 3, 5] (met_X2_offs l D B0 sa (c1 16) (c1 1) (c1 0) wn1 md d n (fun i_ => c1 (2 + i_)) (by first | assumption | omega)) q925 q926 q927 q49 q928 (zm 2 rfl) (ci := 2) rfl rfl hd_X2_offs ⟨rfl, rfl⟩ ⟨(Nat.le_of_ble_eq_true rfl), (Nat.le_of_ble_eq_true rfl)⟩ rfl rfl rfl (Nat.le_of_ble_eq_true rfl) ⟨(by first | decide | (simp only [zRm]; omega)), (by first | decide | (simp only [zRm]; omega))⟩ dX0_ticks_72 ?_
                intro _ hu72
                refine z_eq (lv₂ := [(0, .ref o), (1, .int (nI dd)), (2, .int (nI i))]) (st₂ := [.int (nI (cW (fun i_ => c1 (2 + i_)) 99 n))]) ?_ rfl rfl
                refine z_top (nI (cntV c1 99 n)) (by rw [cW_c]) ?_
                refine z_ws [cOb o ad (sa 0) (sb 0) tr x2, [(ad 2, .inl (D.1 106, 24, .inr (.inr (.inr (.inr (pRef pf2))))))], thP D sa ((some d, n, ra), (md, wn1, od1), c1), pstP D pf2 24, T] (List.Perm.refl _) ?_
                exact z_rim gX hQX (nI (cntV c1 99 n), upd xm 3 (nI (tkS n k i (kn, pa, c)).1), (tkS n k i (kn, pa, c)).2.1, c1, (tkS n k i (kn, pa, c)).1, pf2, wn1, od1) (⟨by rw [hc1, show i = dd by omega]; simp [mTicks, poG hG, k19, c37, nI_clamp (show dd < 2 ^ 31 by omega)], Or.inr ⟨⟨d, rfl⟩, hG1⟩, hA1⟩) rfl (by simp only [hx2]) (by first | decide | omega) (by first | decide | omega) dX0_ticks_75
              · skip
                have k47 : i < dd := (zn_nle (a := dd) (b := i) (by omega) (by omega)).mp c47
                refine z_aload_n (pc := 50) gX 0 dX0_ticks_50 rfl rfl ?_
                refine z_cMV (pc := 51) gX hAX [] [] [0, 1, 2, 3, 4, 5, 6, 7, 8, 9] [] (fun A1 => met_X0_keep l D B0 A1 o ad sa sb tr x2 wn1 md d n c1 od1 ra T k pf2 ((tkS n k i (kn, pa, c)).1) hG1 (by rw [hx2, pk_us]) hA1.2.2.2.1 hA1.2.2.2.some hA1.2.2.2.2.1) q835 q837 qs19 q47 q838 (zm 0 rfl) (ci := 0) rfl rfl hd_X0_keep ⟨rfl, rfl⟩ ⟨(Nat.le_of_ble_eq_true rfl), (Nat.le_of_ble_eq_true rfl)⟩ rfl rfl (zpl 10 rfl (by decide +kernel)) rfl rfl (Nat.le_of_ble_eq_true rfl) ⟨(by first | decide | (simp only [zRm]; omega)), (by first | decide | (simp only [zRm]; omega))⟩ dX0_ticks_51 ?_
                intro u51 hu51
                obtain ⟨s1_51, rfl⟩ : ∃ z, z = u51 := ⟨_, rfl⟩
                have hu51 : ∃ d1 md1 od1, s1_51.2 = ((some d1, n, ra), (md1, wn1, od1), c1) := hu51
                refine z_re [0, 1, 2, 3, 4, 5, 6, 7, 8, 9] [cOb o ad (sa 0) (sb 0) tr (upd x2 2 (nI (knK ((tkS n k i (kn, pa, c)).1)))), [(ad 2, .inl (D.1 106, 24, .inr (.inr (.inr (.inr (pRef (keepF ((tkS n k i (kn, pa, c)).1) pf2 s1_51)))))))], [(sa 0, .inr (2, [.int (c1 16), .int (c1 1), .int (c1 0), .int wn1, .ref (sa 1), .ref (sa 2), .ref (sa 3), .ref (sa 4)]))], [(sa 1, .inr (16, [.int md, .ref d, .int (nI n)]))], [(sa 2, .inl (D.1 100, 7, .inl (fun i_ => c1 (9 + i_))))], [(sa 3, .inl (D.1 100, 7, .inl (fun i_ => c1 (2 + i_))))], [(sa 4, .inl (D.1 100, 7, .inl od1))], [(d, .inl (D.1 104, 10, .inr (.inr (.inr (.inr (rF ra n))))))], pstP D (keepF ((tkS n k i (kn, pa, c)).1) pf2 s1_51) 24, T] rfl (zpl 10 rfl (by decide +kernel)) ?_
                refine z_norm [cOb o ad (sa 0) (sb 0) tr (upd x2 2 (nI (knK ((tkS n k i (kn, pa, c)).1)))), [(ad 2, .inl (D.1 106, 24, .inr (.inr (.inr (.inr (pRef (keepF ((tkS n k i (kn, pa, c)).1) pf2 s1_51)))))))], [(sa 0, .inr (2, [.int (c1 16), .int (c1 1), .int (c1 0), .int wn1, .ref (sa 1), .ref (sa 2), .ref (sa 3), .ref (sa 4)]))], [(sa 1, .inr (16, [.int md, .ref d, .int (nI n)]))], [(sa 2, .inl (D.1 100, 7, .inl (fun i_ => c1 (9 + i_))))], [(sa 3, .inl (D.1 100, 7, .inl (fun i_ => c1 (2 + i_))))], [(sa 4, .inl (D.1 100, 7, .inl od1))], [(d, .inl (D.1 104, 10, .inr (.inr (.inr (.inr (rF ra n))))))], pstP D (keepF ((tkS n k i (kn, pa, c)).1) pf2 s1_51) 24, T] (6 * i + 6) (42 * i + 42) ?_ rfl rfl rfl
                refine z_eq (lv₂ := [(0, .ref o), (1, .int (nI dd)), (2, .int (nI i))]) (st₂ := []) ?_ rfl rfl
                refine z_aload_n (pc := 54) gX 0 dX0_ticks_54 rfl rfl ?_
                refine z_get (pc := 55) gX (zI_ok gX hAX) (zm 0 rfl) (ci := 0) (C := RX0) (T := TX0) (N := 14) rfl in_X0 4 (by decide) q213 (fun _ h => h) (v := .ref (sa 0)) rfl dX0_ticks_55 ?_
                refine z_cMV (pc := 58) gX hAX [] [] [2, 3, 4, 5, 6, 7, 9] [0, 1, 8] (fun A1 => met_goOnC l D B0 A1 sa wn1 md d n c1 od1 ra T k hG1.k) q839 q840 q841 q49 q842 (zm 2 rfl) (ci := 2) rfl rfl hd_X2_goOn ⟨rfl, rfl⟩ ⟨(Nat.le_of_ble_eq_true rfl), (Nat.le_of_ble_eq_true rfl)⟩ rfl rfl (zpl 10 rfl (by decide +kernel)) rfl rfl (Nat.le_of_ble_eq_true rfl) ⟨(by first | decide | (simp only [zRm]; omega)), (by first | decide | (simp only [zRm]; omega))⟩ dX0_ticks_58 ?_
                intro u58 hu58
                obtain ⟨od1_58, rfl⟩ : ∃ z, z = u58 := ⟨_, rfl⟩
                refine z_re [7, 8, 0, 1, 2, 3, 4, 5, 9, 6] [cOb o ad (sa 0) (sb 0) tr (upd x2 2 (nI (knK ((tkS n k i (kn, pa, c)).1)))), [(ad 2, .inl (D.1 106, 24, .inr (.inr (.inr (.inr (pRef (keepF ((tkS n k i (kn, pa, c)).1) pf2 s1_51)))))))], [(sa 0, .inr (2, [.int ((mTick n k c1) 16), .int ((mTick n k c1) 1), .int ((mTick n k c1) 0), .int (wn1 + nI (wnP (mPh1 n k c1) n)), .ref (sa 1), .ref (sa 2), .ref (sa 3), .ref (sa 4)]))], [(sa 1, .inr (16, [.int md, .ref d, .int (nI n)]))], [(sa 2, .inl (D.1 100, 7, .inl (fun i_ => (mTick n k c1) (9 + i_))))], [(sa 3, .inl (D.1 100, 7, .inl (fun i_ => (mTick n k c1) (2 + i_))))], [(sa 4, .inl (D.1 100, 7, .inl od1_58))], [(d, .inl (D.1 104, 10, .inr (.inr (.inr (.inr (rF ra n))))))], pstP D (keepF ((tkS n k i (kn, pa, c)).1) pf2 s1_51) 24, T] rfl (zpl 10 rfl (by decide +kernel)) ?_
                refine z_eq (lv₂ := [(0, .ref o), (1, .int (nI dd)), (2, .int (nI i))]) (st₂ := [.ref (sa 0)]) ?_ rfl rfl
                have hac := act_ok hG1 hA1 hu51 (fun q hq => FrT.tick hn7 q (by omega)) (lane_t hn7 hG1.2.2.2.2.2.2.1) (nW_tick (k := k) (hA1.2.1 (by omega)) hn7 hG1.2.2.2.1 hk12 (by omega))
                refine z_pop (pc := 61) gX dX0_ticks_61 rfl ?_
                refine z_iinc (pc := 62) gX 2 (nI (i + 1)) [1, 2, 0] [(0, .ref o), (1, .int (nI dd)), (2, .int (nI (i + 1)))] dX0_ticks_62 rfl (nI_1 _) (by decide) rfl ?_
                refine z_goto (pc := 65) gX 45 dX0_ticks_65 (by decide) ?_
                refine z_widen (k := 6 * (i + 1)) (n := 42 * (i + 1)) (by omega) (by omega) ?_
                exact ih45 (i + 1) (upd x2 2 (nI (knK ((tkS n k i (kn, pa, c)).1)))) (keepF ((tkS n k i (kn, pa, c)).1) pf2 s1_51) (mTick n k c1) od1_58 (wn1 + nI (wnP (mPh1 n k c1) n)) (by omega) (by rw [hx2, upd_upd]; rfl) (by rw [hc1]; rfl) hac.1 (⟨pk_us, by have h := hac.2.2; rw [hc1] at h ⊢; exact h⟩) (by omega)
          refine z_widen (k := 6 * 0) (n := 42 * 0) (by omega) (by omega) ?_
          exact L45 ((dd - 0) + 1) 0 x pf c od wn (by omega) (by rw [show (tkS n k 0 (kn, pa, c)).1 = kn from rfl, ← hx]; exact (upd_self _ _).symm) rfl hG (⟨pk_us, hA.2⟩) (Nat.lt_succ_self _)
        · skip
          refine z_ldc (pc := 40) gX q458 dX0_ticks_40 ?_
          refine z_ws [cOb o ad (sa 0) (sb 0) tr x, [(ad 2, .inl (D.1 106, 24, .inr (.inr (.inr (.inr (pRef pf))))))], thP D sa ((some d, n, ra), (md, wn, od), c), pstP D pf 24, T] (List.Perm.refl _) ?_
          exact z_rim gX hQX ((-1000003), xm, pa, c, kn, pf, wn, od) (⟨by simp [mTicks, poG hG, k19, c37], hS0, hA⟩) rfl (by simp only [show upd x 2 (nI kn) = x by rw [← hx]; exact upd_self _ _]) (by first | decide | omega) (by first | decide | omega) dX0_ticks_42
      · skip
        have k19 : (mIn v 1 24) = false := bI_eq0 c19
        refine z_ldc (pc := 22) gX q350 dX0_ticks_22 ?_
        refine z_ws [cOb o ad (sa 0) (sb 0) tr x, [(ad 2, .inl (D.1 106, 24, .inr (.inr (.inr (.inr (pRef pf))))))], thP D sa ((some d, n, ra), (md, wn, od), c), pstP D pf 24, T] (List.Perm.refl _) ?_
        exact z_rim gX hQX ((-1000001), xm, pa, c, kn, pf, wn, od) (⟨by simp [mTicks, poG hG, k19], hS0, hA⟩) rfl (by simp only [show upd x 2 (nI kn) = x by rw [← hx]; exact upd_self _ _]) (by first | decide | omega) (by first | decide | omega) dX0_ticks_24
    · skip
      have k4 : (decide (0 < (c 16))) = false := bI_eq0 c4
      exact absurd k4 (by rw [thG hG]; decide)
theorem hd_X0_ticks : zHd yX0_ticks 1 := by unfold zHd; decide +kernel

