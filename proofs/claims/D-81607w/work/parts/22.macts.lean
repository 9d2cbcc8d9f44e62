set_option maxRecDepth 100000
/-! THE REFERENCE: acts, and what is foretold -/
def cntV (c : Nat → Int32) (v : Int32) : Nat → Nat
  | 0 => 0
  | r + 1 => cntV c v r + (if c (2 + r) = v then 1 else 0)
theorem cntV_le (c : Nat → Int32) (v : Int32) : ∀ n, cntV c v n ≤ n
  | 0 => Nat.le_refl 0
  | n + 1 => by have := cntV_le c v n; simp only [cntV]; split <;> omega
def orF (f : Nat → Int32) : Nat → Int32
  | 0 => 0
  | r + 1 => orF f r ||| f r
def itT (n k : Nat) (c : Nat → Int32) : Nat → (Nat → Int32)
  | 0 => c
  | d + 1 => mTick n k (itT n k c d)
/-- what a tick leaves -/
def FrT (c c1 : Nat → Int32) : Prop := ∀ j : Nat, (j = 1 ∨ 9 ≤ j) → c1 j = c j
theorem FrT.rf {c : Nat → Int32} : FrT c c := fun _ _ => rfl
theorem FrT.tr {a b c : Nat → Int32} (h1 : FrT a b) (h2 : FrT b c) : FrT a c := fun j hj => (h2 j hj).trans (h1 j hj)
theorem Fr.foldl {n : Nat} (L : List Nat) (hL : ∀ r ∈ L, r < 7) : ∀ c : Nat → Int32, Fr c (L.foldl (mMv n) c) := by
  induction L with
  | nil => exact fun c => Fr.rf
  | cons r L ih =>
    intro c
    exact (Fr.mv (hL r List.mem_cons_self)).tr (ih (fun q hq => hL q (List.mem_cons_of_mem _ hq)) _)
theorem ordF_lt {w ln : Nat → Int32} {p sd : Int32} : ∀ (m r : Nat), ∀ q ∈ ordF w ln p sd m r, q < r + m
  | 0, r, q, h => by cases h
  | m + 1, r, q, h => by
    simp only [ordF] at h
    split at h
    · rcases List.mem_cons.mp h with h | h
      · omega
      · have := ordF_lt m (r + 1) q h; omega
    · have := ordF_lt m (r + 1) q h; omega
theorem ordS_lt {w ln : Nat → Int32} {n : Nat} : ∀ (k : Nat), ∀ q ∈ ordS w ln n k, q < n
  | 0, q, h => by cases h
  | k + 1, q, h => by
    simp only [ordS, lnF, List.mem_append] at h
    rcases h with (h | h) | h
    · have := ordF_lt n 0 q h; omega
    · have := ordF_lt n 0 q h; omega
    · exact ordS_lt k q h
theorem Fr.ph2 {c : Nat → Int32} : ∀ (n : Nat), n ≤ 7 → Fr c (mPh2 c n)
  | 0, _ => Fr.rf
  | n + 1, h => (Fr.ph2 n (by omega)).tr (Fr.ride (by omega))
theorem FrT.tick {n k : Nat} {c : Nat → Int32} (hn : n ≤ 7) : FrT c (mTick n k c) := by
  intro j hj
  have h1 : Fr c (mCome n (mPh2 (mPh1 n k c) n)) := ((Fr.foldl _ (fun r hr => by have := ordS_lt k r hr; omega) c).tr (Fr.ph2 n hn)).tr (Fr.come hn)
  simp only [mTick]
  rw [pk_un (by omega)]
  exact h1 j (by omega)
theorem FrT.it {n k : Nat} {c : Nat → Int32} (hn : n ≤ 7) : ∀ d, FrT c (itT n k c d)
  | 0 => FrT.rf
  | d + 1 => (FrT.it hn d).tr (FrT.tick hn)
theorem riderN {r z : Int32} {n : Nat} (h : mIn r 0 (z - 1) = true) (hn : z = nI n) (hn7 : n ≤ 7) : ∃ j : Nat, j < n ∧ r = nI j := by
  subst hn
  cases n with
  | zero =>
    simp only [mIn, Bool.and_eq_true, decide_eq_true_eq] at h
    have h2 : (nI 0 - 1 : Int32) < 0 := by decide
    exact absurd (Int32.le_trans h.1 h.2) (by rw [Int32.not_le]; exact h2)
  | succ n =>
    rw [nI_pred] at h
    obtain ⟨j, hj, e⟩ := mIn_nat h n (nI_toInt (by omega))
    exact ⟨j, by omega, e⟩
def knK (kn : Nat) : Nat := (if kn = 24 then 23 else kn) + 1
def shP (pa : Nat → Int32) (m : Nat) : Nat → Int32 := fun i => if i < m then pa (i + 16) else pa i
def mKeepP (kn : Nat) (pa c : Nat → Int32) : Nat → Int32 := cpT (if kn = 24 then shP pa 368 else pa) (16 * (if kn = 24 then 23 else kn)) c 16
def kx (x : Nat → Int32) (kn : Nat) : Nat → Int32 := upd x 3 (nI (knK kn))
theorem shP_0 (pa : Nat → Int32) : shP pa 0 = pa := by funext i; simp only [shP]; rw [if_neg (by omega)]
theorem shP_s (pa : Nat → Int32) (m : Nat) : upd (shP pa m) m (shP pa m (m + 16)) = shP pa (m + 1) := by
  funext i
  simp only [upd, shP]
  by_cases h : i = m
  · rw [if_pos h, if_neg (by omega), if_pos (by omega), h]
  · rw [if_neg h]
    by_cases h2 : i < m
    · rw [if_pos h2, if_pos (by omega)]
    · rw [if_neg h2, if_neg (by omega)]
/-- kept acts and the stair, through d ticks -/
def tkS (n k : Nat) : Nat → Nat × (Nat → Int32) × (Nat → Int32) → Nat × (Nat → Int32) × (Nat → Int32)
  | 0, t => t
  | d + 1, t => (knK (tkS n k d t).1, mKeepP (tkS n k d t).1 (tkS n k d t).2.1 (tkS n k d t).2.2, mTick n k (tkS n k d t).2.2)
theorem tkS_kn {n k : Nat} {t : Nat × (Nat → Int32) × (Nat → Int32)} (h : t.1 ≤ 24) : ∀ d, (tkS n k d t).1 ≤ 24
  | 0 => h
  | d + 1 => by
    have := tkS_kn (n := n) (k := k) h d
    simp only [tkS, knK]
    split <;> omega
theorem tkS_fr {n k : Nat} {t : Nat × (Nat → Int32) × (Nat → Int32)} (hn : n ≤ 7) : ∀ d, FrT t.2.2 (tkS n k d t).2.2
  | 0 => FrT.rf
  | d + 1 => (tkS_fr hn d).tr (FrT.tick hn)
def mTicks (n k kn : Nat) (x pa c : Nat → Int32) (v : Int32) : Int32 × (Nat → Int32) × (Nat → Int32) × (Nat → Int32) :=
  if 0 < c 17 then
    if mIn v 1 24 = true then
      if c 0 + v ≤ 9999 then (nI (cntV (tkS n k v.toNatClampNeg (kn, pa, c)).2.2 99 n), upd x 3 (nI (tkS n k v.toNatClampNeg (kn, pa, c)).1), (tkS n k v.toNatClampNeg (kn, pa, c)).2.1, (tkS n k v.toNatClampNeg (kn, pa, c)).2.2)
      else (-1000003, x, pa, c)
    else (-1000001, x, pa, c)
  else (-1000002, x, pa, c)
def mSpeed (kn : Nat) (x pa c : Nat → Int32) (v : Int32) : Int32 × (Nat → Int32) × (Nat → Int32) × (Nat → Int32) :=
  if 0 < c 17 then
    if mIn v 0 2 = true then (c 1, kx x kn, mKeepP kn pa c, upd c 1 v)
    else (-1000001, x, pa, c)
  else (-1000002, x, pa, c)
def mCrossBad (n : Nat) (c : Nat → Int32) (j : Nat) : Prop := c (2 + j) = 99 ∨ (mOn (c (2 + j)) = true ∧ c (18 + j) < 4 ∧ mFreeTo c j (c (2 + j)) (1 - c (9 + j)) n = false)

set_option maxHeartbeats 4000000 in
theorem met_X4_offIn (l : Launch) (D : va_G) (B0 : Nat) (a : Nat) (c : Nat → Int32) (n : Nat) (hn : c 17 = nI n) (hn7 : n ≤ 7) : Met l yX4_offIn (ws_ yX4_offIn cX4_offIn 3 (some .int)) (zRm 1 0 0) (va_Pc [.ref a] (zPreO B0 D [[(a, .inl (D.1 100, 25, .inl c))]])) (zQo (S := Unit) (fun _ => True) (fun _ => some (.int (nI (cntV c 99 n))))) 0 0 (fun _ => False) := by
  refine z_entryo (by decide +kernel) (Nat.le_of_ble_eq_true rfl) (fun pX eX sX mX argsX blX mtX cX QX hQX gX => ?_)
  refine z_eq (lv₂ := [(0, .ref a)]) (st₂ := []) ?_ rfl rfl
  refine z_iconst (pc := 0) gX 0 dX4_offIn_0 (by decide) ?_
  refine z_istore_n (pc := 1) gX [1, 0] [(0, .ref a), (1, .int 0)] dX4_offIn_1 rfl (by decide) rfl ?_
  refine z_iconst (pc := 2) gX 0 dX4_offIn_2 (by decide) ?_
  refine z_istore_n (pc := 3) gX [1, 2, 0] [(0, .ref a), (1, .int 0), (2, .int 0)] dX4_offIn_3 rfl (by decide) rfl ?_
  have L4 : ∀ (n4 : Nat) (r : Nat) (m : Nat), (r ≤ n) → (m = cntV c 99 r) → n - r < n4 → zJ pX l eX (zRm 1 0 0) sX mX argsX blX mtX cX QX 3 (zIo D sX [[(a, .inl (D.1 100, 25, .inl c))]]) 0 0 4 [(0, .ref a), (1, .int (nI m)), (2, .int (nI r))] [] := by
    intro n4
    induction n4 with
    | zero => exact fun r m hr hm hm4 => absurd hm4 (Nat.not_lt_zero _)
    | succ n4 ih4 =>
      intro r m hr hm hm4
      refine z_iload_n (pc := 4) gX 2 dX4_offIn_4 rfl rfl ?_
      refine z_aload_n (pc := 5) gX 0 dX4_offIn_5 rfl rfl ?_
      refine z_bipush (pc := 6) gX 17 dX4_offIn_6 (by decide) ?_
      refine z_top (nI 17) rfl ?_
      refine z_iald (pc := 8) gX (zIo_ok gX) (j := 17) (n := 25) (f := c) (zm 0 rfl) (by omega) (by decide) dX4_offIn_8 ?_
      refine z_top (nI n) hn ?_
      refine z_icmp_ge (pc := 9) gX 36 dX4_offIn_9 (by decide) (fun c9 => ?_) (fun c9 => ?_)
      · skip
        have k9 : n ≤ r := (zn_le (a := n) (b := r) (by omega) (by omega)).mp c9
        refine z_iload_n (pc := 36) gX 1 dX4_offIn_36 rfl rfl ?_
        exact z_rio gX hQX (by rw [hm, show r = n by omega]) dX4_offIn_37
      · skip
        have k9 : r < n := (zn_nle (a := n) (b := r) (by omega) (by omega)).mp c9
        refine z_iload_n (pc := 12) gX 1 dX4_offIn_12 rfl rfl ?_
        refine z_aload_n (pc := 13) gX 0 dX4_offIn_13 rfl rfl ?_
        refine z_iconst (pc := 14) gX 2 dX4_offIn_14 (by decide) ?_
        refine z_iload_n (pc := 15) gX 2 dX4_offIn_15 rfl rfl ?_
        refine z_iadd (pc := 16) gX dX4_offIn_16 ?_
        refine z_top (nI (2 + r)) (nI_add 2 r) ?_
        refine z_iald (pc := 17) gX (zIo_ok gX) (j := (2 + r)) (n := 25) (f := c) (zm 0 rfl) (by omega) (by decide) dX4_offIn_17 ?_
        refine z_bipush (pc := 18) gX 99 dX4_offIn_18 (by decide) ?_
        refine z_icmp_ne (pc := 20) gX 27 dX4_offIn_20 (by decide) (fun c20 => ?_) (fun c20 => ?_)
        · skip
          refine z_iconst (pc := 27) gX 0 dX4_offIn_27 (by decide) ?_
          refine z_iadd (pc := 28) gX dX4_offIn_28 ?_
          refine z_top (nI m) (nI_add m 0) ?_
          refine z_istore_n (pc := 29) gX [1, 0, 2] [(0, .ref a), (1, .int (nI m)), (2, .int (nI r))] dX4_offIn_29 rfl (by decide) rfl ?_
          refine z_iinc (pc := 30) gX 2 (nI (r + 1)) [1, 2, 0] [(0, .ref a), (1, .int (nI m)), (2, .int (nI (r + 1)))] dX4_offIn_30 rfl (nI_1 _) (by decide) rfl ?_
          refine z_goto (pc := 33) gX 4 dX4_offIn_33 (by decide) ?_
          exact ih4 (r + 1) m (by omega) (by simp only [cntV]; rw [← hm]; simp [c20]) (by omega)
        · skip
          refine z_iconst (pc := 23) gX 1 dX4_offIn_23 (by decide) ?_
          refine z_goto (pc := 24) gX 28 dX4_offIn_24 (by decide) ?_
          refine z_iadd (pc := 28) gX dX4_offIn_28 ?_
          refine z_top (nI (m + 1)) (nI_add m 1) ?_
          refine z_istore_n (pc := 29) gX [1, 0, 2] [(0, .ref a), (1, .int (nI (m + 1))), (2, .int (nI r))] dX4_offIn_29 rfl (by decide) rfl ?_
          refine z_iinc (pc := 30) gX 2 (nI (r + 1)) [1, 2, 0] [(0, .ref a), (1, .int (nI (m + 1))), (2, .int (nI (r + 1)))] dX4_offIn_30 rfl (nI_1 _) (by decide) rfl ?_
          refine z_goto (pc := 33) gX 4 dX4_offIn_33 (by decide) ?_
          exact ih4 (r + 1) (m + 1) (by omega) (by simp only [cntV]; rw [← hm]; simp [c20]) (by omega)
  exact L4 ((n - 0) + 1) 0 0 (by omega) rfl (Nat.lt_succ_self _)
theorem hd_X4_offIn : zHd yX4_offIn 1 := by unfold zHd; decide +kernel

set_option maxHeartbeats 4000000 in
theorem met_X4_starts (l : Launch) (D : va_G) (B0 : Nat) (A : Nat → Prop) (o : Nat) (ad : Nat → Nat) (x : Nat → Int32) (c : Nat → Int32) (th : Nat → Int32)  : Met l yX4_starts (ws_ yX4_starts cX4_starts 2 none) (zRm 1 0 0) (va_Pc [.ref o] (zPre B0 D A [mOb o ad x, [(ad 5, .inl (D.1 100, 25, .inl c))], [(ad 10, .inl (D.1 100, 25, .inl th))]])) (zQ (S := Unit) (fun _ => True) (fun _ => none) (fun _ => [mOb o ad x, [(ad 5, .inl (D.1 100, 25, .inl c))], [(ad 10, .inl (D.1 100, 25, .inl c))]]) D A) 0 0 A := by
  refine z_entry (by decide +kernel) (Nat.le_of_ble_eq_true rfl) (fun pX eX sX mX argsX blX mtX cX QX hQX gX hAX hnm => ?_)
  refine z_eq (lv₂ := [(0, .ref o)]) (st₂ := []) ?_ rfl rfl
  refine z_iconst (pc := 0) gX 0 dX4_starts_0 (by decide) ?_
  refine z_istore_n (pc := 1) gX [1, 0] [(0, .ref o), (1, .int 0)] dX4_starts_1 rfl (by decide) rfl ?_
  have L2 : ∀ (n2 : Nat) (i : Nat) (f : Nat → Int32), (i ≤ 25) → (∀ q, q < i → f q = c q) → 25 - i < n2 → zJ pX l eX (zRm 1 0 0) sX mX argsX blX mtX cX QX 2 (zI D A sX [mOb o ad x, [(ad 5, .inl (D.1 100, 25, .inl c))], [(ad 10, .inl (D.1 100, 25, .inl f))]]) 0 0 2 [(0, .ref o), (1, .int (nI i))] [] := by
    intro n2
    induction n2 with
    | zero => exact fun i f hi hf hm2 => absurd hm2 (Nat.not_lt_zero _)
    | succ n2 ih2 =>
      intro i f hi hf hm2
      refine z_iload_n (pc := 2) gX 1 dX4_starts_2 rfl rfl ?_
      refine z_bipush (pc := 3) gX 25 dX4_starts_3 (by decide) ?_
      refine z_icmp_ge (pc := 5) gX 26 dX4_starts_5 (by decide) (fun c5 => ?_) (fun c5 => ?_)
      · skip
        have k5 : 25 ≤ i := (zn_le (a := 25) (b := i) (by omega) (by omega)).mp c5
        refine z_ext 2 c rfl (fun q hq => hf q (by omega)) [mOb o ad x, [(ad 5, .inl (D.1 100, 25, .inl c))], [(ad 10, .inl (D.1 100, 25, .inl c))]] rfl ?_
        exact z_vret gX hQX () trivial rfl rfl (by first | decide | omega) (by first | decide | omega) dX4_starts_26
      · skip
        have k5 : i < 25 := (zn_nle (a := 25) (b := i) (by omega) (by omega)).mp c5
        refine z_aload_n (pc := 8) gX 0 dX4_starts_8 rfl rfl ?_
        refine z_get (pc := 9) gX (zI_ok gX hAX) (zm 0 rfl) (ci := 4) (C := RX4) (T := TX4) (N := 20) rfl in_X4 14 (by decide) q1397 (fun _ h => h) (v := .ref (ad 10)) rfl dX4_starts_9 ?_
        refine z_iload_n (pc := 12) gX 1 dX4_starts_12 rfl rfl ?_
        refine z_aload_n (pc := 13) gX 0 dX4_starts_13 rfl rfl ?_
        refine z_get (pc := 14) gX (zI_ok gX hAX) (zm 0 rfl) (ci := 4) (C := RX4) (T := TX4) (N := 20) rfl in_X4 8 (by decide) q1391 (fun _ h => h) (v := .ref (ad 5)) rfl dX4_starts_14 ?_
        refine z_iload_n (pc := 17) gX 1 dX4_starts_17 rfl rfl ?_
        refine z_iald (pc := 18) gX (zI_ok gX hAX) (j := i) (n := 25) (f := c) (zm 1 rfl) (by omega) (by decide) dX4_starts_18 ?_
        refine z_iast (pc := 19) gX hAX 2 (j := i) (n := 25) (f := f) rfl (by omega) (by decide) [mOb o ad x, [(ad 5, .inl (D.1 100, 25, .inl c))], [(ad 10, .inl (D.1 100, 25, .inl (upd f i (c i))))]] rfl dX4_starts_19 ?_
        refine z_iinc (pc := 20) gX 1 (nI (i + 1)) [1, 0] [(0, .ref o), (1, .int (nI (i + 1)))] dX4_starts_20 rfl (nI_1 _) (by decide) rfl ?_
        refine z_goto (pc := 23) gX 2 dX4_starts_23 (by decide) ?_
        exact ih2 (i + 1) (upd f i (c i)) (by omega) (fun q hq => by rcases (show q < i ∨ q = i by omega) with h | h; exact (pk_un (by omega)).trans (hf q h); rw [h, pk_us]) (by omega)
  exact L2 ((25 - 0) + 1) 0 th (by omega) (fun q hq => absurd hq (Nat.not_lt_zero _)) (Nat.lt_succ_self _)
theorem hd_X4_starts : zHd yX4_starts 0 := by unfold zHd; decide +kernel

set_option maxHeartbeats 4000000 in
theorem met_X4_keeps (l : Launch) (D : va_G) (B0 : Nat) (A : Nat → Prop) (o : Nat) (ad : Nat → Nat) (x : Nat → Int32) (c : Nat → Int32) (pa : Nat → Int32) (kn : Nat) (hkn : x 3 = nI kn) (hkn24 : kn ≤ 24) : Met l yX4_keeps (ws_ yX4_keeps cX4_keeps 2 none) (zRm 1 0 0) (va_Pc [.ref o] (zPre B0 D A [mOb o ad x, [(ad 5, .inl (D.1 100, 25, .inl c))], [(ad 9, .inl (D.1 100, 384, .inl pa))]])) (zQ (S := Unit) (fun _ => True) (fun _ => none) (fun _ => [mOb o ad (kx x kn), [(ad 5, .inl (D.1 100, 25, .inl c))], [(ad 9, .inl (D.1 100, 384, .inl (mKeepP kn pa c)))]]) D A) 0 0 A := by
  refine z_entry (by decide +kernel) (Nat.le_of_ble_eq_true rfl) (fun pX eX sX mX argsX blX mtX cX QX hQX gX hAX hnm => ?_)
  refine z_eq (lv₂ := [(0, .ref o)]) (st₂ := []) ?_ rfl rfl
  refine z_aload_n (pc := 0) gX 0 dX4_keeps_0 rfl rfl ?_
  refine z_get (pc := 1) gX (zI_ok gX hAX) (zm 0 rfl) (ci := 4) (C := RX4) (T := TX4) (N := 20) rfl in_X4 13 (by decide) q1396 (fun _ h => h) (v := .int (x 3)) rfl dX4_keeps_1 ?_
  refine z_top (nI kn) hkn ?_
  refine z_bipush (pc := 4) gX 24 dX4_keeps_4 (by decide) ?_
  refine z_icmp_ne (pc := 6) gX 49 dX4_keeps_6 (by decide) (fun c6 => ?_) (fun c6 => ?_)
  · skip
    have k6 : ¬ kn = 24 := fun h => c6 ((zn_eq (a := kn) (b := 24) (by omega) (by omega)).mpr h)
    refine z_iconst (pc := 49) gX 0 dX4_keeps_49 (by decide) ?_
    refine z_istore_n (pc := 50) gX [1, 0] [(0, .ref o), (1, .int 0)] dX4_keeps_50 rfl (by decide) rfl ?_
    obtain ⟨P0, hP0⟩ : ∃ P0, P0 = (if kn = 24 then shP pa 368 else pa) := ⟨_, rfl⟩
    obtain ⟨K0, hK0⟩ : ∃ K0, K0 = (if kn = 24 then 23 else kn) := ⟨_, rfl⟩
    have hK23 : K0 ≤ 23 := by rw [hK0]; split <;> omega
    have L51 : ∀ (n51 : Nat) (i2 : Nat) (f2 : Nat → Int32), (i2 ≤ 16) → (f2 = cpT P0 (16 * K0) c i2) → 16 - i2 < n51 → zJ pX l eX (zRm 1 0 0) sX mX argsX blX mtX cX QX 2 (zI D A sX [mOb o ad x, [(ad 5, .inl (D.1 100, 25, .inl c))], [(ad 9, .inl (D.1 100, 384, .inl f2))]]) 0 0 51 [(0, .ref o), (1, .int (nI i2))] [] := by
      intro n51
      induction n51 with
      | zero => exact fun i2 f2 hi2 hf2 hm51 => absurd hm51 (Nat.not_lt_zero _)
      | succ n51 ih51 =>
        intro i2 f2 hi2 hf2 hm51
        refine z_iload_n (pc := 51) gX 1 dX4_keeps_51 rfl rfl ?_
        refine z_bipush (pc := 52) gX 16 dX4_keeps_52 (by decide) ?_
        refine z_icmp_ge (pc := 54) gX 83 dX4_keeps_54 (by decide) (fun c54 => ?_) (fun c54 => ?_)
        · skip
          have k54 : 16 ≤ i2 := (zn_le (a := 16) (b := i2) (by omega) (by omega)).mp c54
          refine z_aload_n (pc := 83) gX 0 dX4_keeps_83 rfl rfl ?_
          refine z_dup (pc := 84) gX dX4_keeps_84 rfl ?_
          refine z_get (pc := 85) gX (zI_ok gX hAX) (zm 0 rfl) (ci := 4) (C := RX4) (T := TX4) (N := 20) rfl in_X4 13 (by decide) q1396 (fun _ h => h) (v := .int (x 3)) rfl dX4_keeps_85 ?_
          refine z_top (nI K0) (by first | (rw [hK0, if_neg k6]; exact hkn) | (rw [hK0, if_pos k6, k6]; rfl)) ?_
          refine z_iconst (pc := 88) gX 1 dX4_keeps_88 (by decide) ?_
          refine z_iadd (pc := 89) gX dX4_keeps_89 ?_
          refine z_top (nI (K0 + 1)) (nI_add K0 1) ?_
          refine z_put (pc := 90) gX hAX 0 rfl (ci := 4) (C := RX4) (T := TX4) (N := 20) rfl in_X4 tyX4 tyX4_ok nmX4 13 (by decide) q1396 (fun _ h => h) rfl (v := .int (nI (K0 + 1))) rfl rfl (Nat.le_of_ble_eq_true rfl) [mOb o ad (upd x 3 (nI (K0 + 1))), [(ad 5, .inl (D.1 100, 25, .inl c))], [(ad 9, .inl (D.1 100, 384, .inl f2))]] rfl dX4_keeps_90 ?_
          exact z_vret gX hQX () trivial rfl (by rw [show f2 = mKeepP kn pa c by rw [hf2, show i2 = 16 by omega, hP0, hK0]; rfl, show kx x kn = upd x 3 (nI (K0 + 1)) by rw [hK0]; rfl]) (by first | decide | omega) (by first | decide | omega) dX4_keeps_93
        · skip
          have k54 : i2 < 16 := (zn_nle (a := 16) (b := i2) (by omega) (by omega)).mp c54
          refine z_aload_n (pc := 57) gX 0 dX4_keeps_57 rfl rfl ?_
          refine z_get (pc := 58) gX (zI_ok gX hAX) (zm 0 rfl) (ci := 4) (C := RX4) (T := TX4) (N := 20) rfl in_X4 12 (by decide) q1395 (fun _ h => h) (v := .ref (ad 9)) rfl dX4_keeps_58 ?_
          refine z_bipush (pc := 61) gX 16 dX4_keeps_61 (by decide) ?_
          refine z_aload_n (pc := 63) gX 0 dX4_keeps_63 rfl rfl ?_
          refine z_get (pc := 64) gX (zI_ok gX hAX) (zm 0 rfl) (ci := 4) (C := RX4) (T := TX4) (N := 20) rfl in_X4 13 (by decide) q1396 (fun _ h => h) (v := .int (x 3)) rfl dX4_keeps_64 ?_
          refine z_top (nI K0) (by first | (rw [hK0, if_neg k6]; exact hkn) | (rw [hK0, if_pos k6, k6]; rfl)) ?_
          refine z_imul (pc := 67) gX dX4_keeps_67 ?_
          refine z_top (nI (16 * K0)) (pk_mul 16 K0) ?_
          refine z_iload_n (pc := 68) gX 1 dX4_keeps_68 rfl rfl ?_
          refine z_iadd (pc := 69) gX dX4_keeps_69 ?_
          refine z_top (nI (16 * K0 + i2)) (nI_add (16 * K0) i2) ?_
          refine z_aload_n (pc := 70) gX 0 dX4_keeps_70 rfl rfl ?_
          refine z_get (pc := 71) gX (zI_ok gX hAX) (zm 0 rfl) (ci := 4) (C := RX4) (T := TX4) (N := 20) rfl in_X4 8 (by decide) q1391 (fun _ h => h) (v := .ref (ad 5)) rfl dX4_keeps_71 ?_
          refine z_iload_n (pc := 74) gX 1 dX4_keeps_74 rfl rfl ?_
          refine z_iald (pc := 75) gX (zI_ok gX hAX) (j := i2) (n := 25) (f := c) (zm 1 rfl) (by omega) (by decide) dX4_keeps_75 ?_
          refine z_iast (pc := 76) gX hAX 2 (j := (16 * K0 + i2)) (n := 384) (f := f2) rfl (by omega) (by decide) [mOb o ad x, [(ad 5, .inl (D.1 100, 25, .inl c))], [(ad 9, .inl (D.1 100, 384, .inl (upd f2 (16 * K0 + i2) (c i2))))]] rfl dX4_keeps_76 ?_
          refine z_iinc (pc := 77) gX 1 (nI (i2 + 1)) [1, 0] [(0, .ref o), (1, .int (nI (i2 + 1)))] dX4_keeps_77 rfl (nI_1 _) (by decide) rfl ?_
          refine z_goto (pc := 80) gX 51 dX4_keeps_80 (by decide) ?_
          exact ih51 (i2 + 1) (upd f2 (16 * K0 + i2) (c i2)) (by omega) (by rw [hf2]; exact cpT_s _ _ _ _) (by omega)
    exact L51 ((16 - 0) + 1) 0 pa (by omega) (by first | (rw [cpT_0, hP0, if_neg k6]; done) | (rw [cpT_0, hP0, if_pos k6, hf, show i = 368 by omega]; done)) (Nat.lt_succ_self _)
  · skip
    have k6 : kn = 24 := (zn_eq (a := kn) (b := 24) (by omega) (by omega)).mp c6
    refine z_iconst (pc := 9) gX 0 dX4_keeps_9 (by decide) ?_
    refine z_istore_n (pc := 10) gX [1, 0] [(0, .ref o), (1, .int 0)] dX4_keeps_10 rfl (by decide) rfl ?_
    have L11 : ∀ (n11 : Nat) (i : Nat) (f : Nat → Int32), (i ≤ 368) → (f = shP pa i) → 368 - i < n11 → zJ pX l eX (zRm 1 0 0) sX mX argsX blX mtX cX QX 2 (zI D A sX [mOb o ad x, [(ad 5, .inl (D.1 100, 25, .inl c))], [(ad 9, .inl (D.1 100, 384, .inl f))]]) 0 0 11 [(0, .ref o), (1, .int (nI i))] [] := by
      intro n11
      induction n11 with
      | zero => exact fun i f hi hf hm11 => absurd hm11 (Nat.not_lt_zero _)
      | succ n11 ih11 =>
        intro i f hi hf hm11
        refine z_iload_n (pc := 11) gX 1 dX4_keeps_11 rfl rfl ?_
        refine z_sipush (pc := 12) gX 368 dX4_keeps_12 (by decide) ?_
        refine z_icmp_ge (pc := 15) gX 39 dX4_keeps_15 (by decide) (fun c15 => ?_) (fun c15 => ?_)
        · skip
          have k15 : 368 ≤ i := (zn_le (a := 368) (b := i) (by omega) (by omega)).mp c15
          refine z_aload_n (pc := 39) gX 0 dX4_keeps_39 rfl rfl ?_
          refine z_dup (pc := 40) gX dX4_keeps_40 rfl ?_
          refine z_get (pc := 41) gX (zI_ok gX hAX) (zm 0 rfl) (ci := 4) (C := RX4) (T := TX4) (N := 20) rfl in_X4 13 (by decide) q1396 (fun _ h => h) (v := .int (x 3)) rfl dX4_keeps_41 ?_
          refine z_top (nI kn) hkn ?_
          refine z_iconst (pc := 44) gX 1 dX4_keeps_44 (by decide) ?_
          refine z_isub (pc := 45) gX dX4_keeps_45 ?_
          refine z_put (pc := 46) gX hAX 0 rfl (ci := 4) (C := RX4) (T := TX4) (N := 20) rfl in_X4 tyX4 tyX4_ok nmX4 13 (by decide) q1396 (fun _ h => h) rfl (v := .int ((nI kn) - 1)) rfl rfl (Nat.le_of_ble_eq_true rfl) [mOb o ad (upd x 3 ((nI kn) - 1)), [(ad 5, .inl (D.1 100, 25, .inl c))], [(ad 9, .inl (D.1 100, 384, .inl f))]] rfl dX4_keeps_46 ?_
          refine z_iconst (pc := 49) gX 0 dX4_keeps_49 (by decide) ?_
          refine z_istore_n (pc := 50) gX [1, 0] [(0, .ref o), (1, .int 0)] dX4_keeps_50 rfl (by decide) rfl ?_
          obtain ⟨P0, hP0⟩ : ∃ P0, P0 = (if kn = 24 then shP pa 368 else pa) := ⟨_, rfl⟩
          obtain ⟨K0, hK0⟩ : ∃ K0, K0 = (if kn = 24 then 23 else kn) := ⟨_, rfl⟩
          have hK23 : K0 ≤ 23 := by rw [hK0]; split <;> omega
          have L51 : ∀ (n51 : Nat) (i2 : Nat) (f2 : Nat → Int32), (i2 ≤ 16) → (f2 = cpT P0 (16 * K0) c i2) → 16 - i2 < n51 → zJ pX l eX (zRm 1 0 0) sX mX argsX blX mtX cX QX 2 (zI D A sX [mOb o ad (upd x 3 ((nI kn) - 1)), [(ad 5, .inl (D.1 100, 25, .inl c))], [(ad 9, .inl (D.1 100, 384, .inl f2))]]) 0 0 51 [(0, .ref o), (1, .int (nI i2))] [] := by
            intro n51
            induction n51 with
            | zero => exact fun i2 f2 hi2 hf2 hm51 => absurd hm51 (Nat.not_lt_zero _)
            | succ n51 ih51 =>
              intro i2 f2 hi2 hf2 hm51
              refine z_iload_n (pc := 51) gX 1 dX4_keeps_51 rfl rfl ?_
              refine z_bipush (pc := 52) gX 16 dX4_keeps_52 (by decide) ?_
              refine z_icmp_ge (pc := 54) gX 83 dX4_keeps_54 (by decide) (fun c54 => ?_) (fun c54 => ?_)
              · skip
                have k54 : 16 ≤ i2 := (zn_le (a := 16) (b := i2) (by omega) (by omega)).mp c54
                refine z_aload_n (pc := 83) gX 0 dX4_keeps_83 rfl rfl ?_
                refine z_dup (pc := 84) gX dX4_keeps_84 rfl ?_
                refine z_get (pc := 85) gX (zI_ok gX hAX) (zm 0 rfl) (ci := 4) (C := RX4) (T := TX4) (N := 20) rfl in_X4 13 (by decide) q1396 (fun _ h => h) (v := .int ((nI kn) - 1)) rfl dX4_keeps_85 ?_
                refine z_top (nI K0) (by first | (rw [hK0, if_neg k6]; exact hkn) | (rw [hK0, if_pos k6, k6]; rfl)) ?_
                refine z_iconst (pc := 88) gX 1 dX4_keeps_88 (by decide) ?_
                refine z_iadd (pc := 89) gX dX4_keeps_89 ?_
                refine z_top (nI (K0 + 1)) (nI_add K0 1) ?_
                refine z_put (pc := 90) gX hAX 0 rfl (ci := 4) (C := RX4) (T := TX4) (N := 20) rfl in_X4 tyX4 tyX4_ok nmX4 13 (by decide) q1396 (fun _ h => h) rfl (v := .int (nI (K0 + 1))) rfl rfl (Nat.le_of_ble_eq_true rfl) [mOb o ad (upd x 3 (nI (K0 + 1))), [(ad 5, .inl (D.1 100, 25, .inl c))], [(ad 9, .inl (D.1 100, 384, .inl f2))]] rfl dX4_keeps_90 ?_
                exact z_vret gX hQX () trivial rfl (by rw [show f2 = mKeepP kn pa c by rw [hf2, show i2 = 16 by omega, hP0, hK0]; rfl, show kx x kn = upd x 3 (nI (K0 + 1)) by rw [hK0]; rfl]) (by first | decide | omega) (by first | decide | omega) dX4_keeps_93
              · skip
                have k54 : i2 < 16 := (zn_nle (a := 16) (b := i2) (by omega) (by omega)).mp c54
                refine z_aload_n (pc := 57) gX 0 dX4_keeps_57 rfl rfl ?_
                refine z_get (pc := 58) gX (zI_ok gX hAX) (zm 0 rfl) (ci := 4) (C := RX4) (T := TX4) (N := 20) rfl in_X4 12 (by decide) q1395 (fun _ h => h) (v := .ref (ad 9)) rfl dX4_keeps_58 ?_
                refine z_bipush (pc := 61) gX 16 dX4_keeps_61 (by decide) ?_
                refine z_aload_n (pc := 63) gX 0 dX4_keeps_63 rfl rfl ?_
                refine z_get (pc := 64) gX (zI_ok gX hAX) (zm 0 rfl) (ci := 4) (C := RX4) (T := TX4) (N := 20) rfl in_X4 13 (by decide) q1396 (fun _ h => h) (v := .int ((nI kn) - 1)) rfl dX4_keeps_64 ?_
                refine z_top (nI K0) (by first | (rw [hK0, if_neg k6]; exact hkn) | (rw [hK0, if_pos k6, k6]; rfl)) ?_
                refine z_imul (pc := 67) gX dX4_keeps_67 ?_
                refine z_top (nI (16 * K0)) (pk_mul 16 K0) ?_
                refine z_iload_n (pc := 68) gX 1 dX4_keeps_68 rfl rfl ?_
                refine z_iadd (pc := 69) gX dX4_keeps_69 ?_
                refine z_top (nI (16 * K0 + i2)) (nI_add (16 * K0) i2) ?_
                refine z_aload_n (pc := 70) gX 0 dX4_keeps_70 rfl rfl ?_
                refine z_get (pc := 71) gX (zI_ok gX hAX) (zm 0 rfl) (ci := 4) (C := RX4) (T := TX4) (N := 20) rfl in_X4 8 (by decide) q1391 (fun _ h => h) (v := .ref (ad 5)) rfl dX4_keeps_71 ?_
                refine z_iload_n (pc := 74) gX 1 dX4_keeps_74 rfl rfl ?_
                refine z_iald (pc := 75) gX (zI_ok gX hAX) (j := i2) (n := 25) (f := c) (zm 1 rfl) (by omega) (by decide) dX4_keeps_75 ?_
                refine z_iast (pc := 76) gX hAX 2 (j := (16 * K0 + i2)) (n := 384) (f := f2) rfl (by omega) (by decide) [mOb o ad (upd x 3 ((nI kn) - 1)), [(ad 5, .inl (D.1 100, 25, .inl c))], [(ad 9, .inl (D.1 100, 384, .inl (upd f2 (16 * K0 + i2) (c i2))))]] rfl dX4_keeps_76 ?_
                refine z_iinc (pc := 77) gX 1 (nI (i2 + 1)) [1, 0] [(0, .ref o), (1, .int (nI (i2 + 1)))] dX4_keeps_77 rfl (nI_1 _) (by decide) rfl ?_
                refine z_goto (pc := 80) gX 51 dX4_keeps_80 (by decide) ?_
                exact ih51 (i2 + 1) (upd f2 (16 * K0 + i2) (c i2)) (by omega) (by rw [hf2]; exact cpT_s _ _ _ _) (by omega)
          exact L51 ((16 - 0) + 1) 0 f (by omega) (by first | (rw [cpT_0, hP0, if_neg k6]; done) | (rw [cpT_0, hP0, if_pos k6, hf, show i = 368 by omega]; done)) (Nat.lt_succ_self _)
        · skip
          have k15 : i < 368 := (zn_nle (a := 368) (b := i) (by omega) (by omega)).mp c15
          refine z_aload_n (pc := 18) gX 0 dX4_keeps_18 rfl rfl ?_
          refine z_get (pc := 19) gX (zI_ok gX hAX) (zm 0 rfl) (ci := 4) (C := RX4) (T := TX4) (N := 20) rfl in_X4 12 (by decide) q1395 (fun _ h => h) (v := .ref (ad 9)) rfl dX4_keeps_19 ?_
          refine z_iload_n (pc := 22) gX 1 dX4_keeps_22 rfl rfl ?_
          refine z_aload_n (pc := 23) gX 0 dX4_keeps_23 rfl rfl ?_
          refine z_get (pc := 24) gX (zI_ok gX hAX) (zm 0 rfl) (ci := 4) (C := RX4) (T := TX4) (N := 20) rfl in_X4 12 (by decide) q1395 (fun _ h => h) (v := .ref (ad 9)) rfl dX4_keeps_24 ?_
          refine z_iload_n (pc := 27) gX 1 dX4_keeps_27 rfl rfl ?_
          refine z_bipush (pc := 28) gX 16 dX4_keeps_28 (by decide) ?_
          refine z_iadd (pc := 30) gX dX4_keeps_30 ?_
          refine z_top (nI (i + 16)) (nI_add i 16) ?_
          refine z_iald (pc := 31) gX (zI_ok gX hAX) (j := (i + 16)) (n := 384) (f := f) (zm 2 rfl) (by omega) (by decide) dX4_keeps_31 ?_
          refine z_iast (pc := 32) gX hAX 2 (j := i) (n := 384) (f := f) rfl (by omega) (by decide) [mOb o ad x, [(ad 5, .inl (D.1 100, 25, .inl c))], [(ad 9, .inl (D.1 100, 384, .inl (upd f i (f (i + 16)))))]] rfl dX4_keeps_32 ?_
          refine z_iinc (pc := 33) gX 1 (nI (i + 1)) [1, 0] [(0, .ref o), (1, .int (nI (i + 1)))] dX4_keeps_33 rfl (nI_1 _) (by decide) rfl ?_
          refine z_goto (pc := 36) gX 11 dX4_keeps_36 (by decide) ?_
          exact ih11 (i + 1) (upd f i (f (i + 16))) (by omega) (by rw [hf]; exact shP_s _ _) (by omega)
    exact L11 ((368 - 0) + 1) 0 pa (by omega) ((shP_0 _).symm) (Nat.lt_succ_self _)
theorem hd_X4_keeps : zHd yX4_keeps 0 := by unfold zHd; decide +kernel

set_option maxHeartbeats 4000000 in
theorem met_X4_speed (l : Launch) (D : va_G) (B0 : Nat) (A : Nat → Prop) (o : Nat) (ad : Nat → Nat) (x : Nat → Int32) (c : Nat → Int32) (pa : Nat → Int32) (kn : Nat) (v : Int32) (hkn : x 3 = nI kn) (hkn24 : kn ≤ 24) : Met l yX4_speed (ws_ yX4_speed cX4_speed 3 (some .int)) (zRm 3 0 0) (va_Pc [.ref o, .int v] (zPre B0 D A [mOb o ad x, [(ad 5, .inl (D.1 100, 25, .inl c))], [(ad 9, .inl (D.1 100, 384, .inl pa))]])) (zQ (S := Int32 × (Nat → Int32) × (Nat → Int32) × (Nat → Int32)) (fun u => (fun (r_ : Int32) (x1 : Nat → Int32) (pa1 : Nat → Int32) (c1 : Nat → Int32) => (r_, x1, pa1, c1) = mSpeed kn x pa c v) u.1 u.2.1 u.2.2.1 u.2.2.2) (fun u => (fun (r_ : Int32) (x1 : Nat → Int32) (pa1 : Nat → Int32) (c1 : Nat → Int32) => some (.int r_)) u.1 u.2.1 u.2.2.1 u.2.2.2) (fun u => (fun (r_ : Int32) (x1 : Nat → Int32) (pa1 : Nat → Int32) (c1 : Nat → Int32) => [mOb o ad x1, [(ad 5, .inl (D.1 100, 25, .inl c1))], [(ad 9, .inl (D.1 100, 384, .inl pa1))]]) u.1 u.2.1 u.2.2.1 u.2.2.2) D A) 0 0 A := by
  refine z_entry (by decide +kernel) (Nat.le_of_ble_eq_true rfl) (fun pX eX sX mX argsX blX mtX cX QX hQX gX hAX hnm => ?_)
  refine z_eq (lv₂ := [(0, .ref o), (1, .int v)]) (st₂ := []) ?_ rfl rfl
  refine z_aload_n (pc := 0) gX 0 dX4_speed_0 rfl rfl ?_
  refine z_cOV (pc := 1) gX (zI_ok gX hAX) [] [] [0, 1] (met_X4_isStair l D B0 o ad x c ) q1528 q1530 qs35 q54 q1531 (zm 0 rfl) (ci := 4) rfl rfl hd_X4_isStair ⟨rfl, rfl⟩ ⟨(Nat.le_of_ble_eq_true rfl), (Nat.le_of_ble_eq_true rfl)⟩ rfl rfl rfl (Nat.le_of_ble_eq_true rfl) ⟨(Nat.le_of_ble_eq_true rfl), (Nat.le_of_ble_eq_true rfl)⟩ dX4_speed_1 ?_
  intro _ hu1
  refine z_eq (lv₂ := [(0, .ref o), (1, .int v)]) (st₂ := [.int (bI (decide (0 < c 17)))]) ?_ rfl rfl
  refine z_if_ne (pc := 4) gX 10 dX4_speed_4 (by decide) (fun c4 => ?_) (fun c4 => ?_)
  · skip
    have k4 : (decide (0 < c 17)) = true := bI_ne0 c4
    refine z_iload_n (pc := 10) gX 1 dX4_speed_10 rfl rfl ?_
    refine z_iconst (pc := 11) gX 0 dX4_speed_11 (by decide) ?_
    refine z_iconst (pc := 12) gX 2 dX4_speed_12 (by decide) ?_
    refine z_cOS (pc := 13) gX (zI_ok gX hAX) [.int v, .int 0, .int 2] [] [] (met_X4_in l D B0 v 0 2 ) q1452 q1453 q54 q1454 hd_X4_in ⟨rfl, rfl⟩ ⟨(Nat.le_of_ble_eq_true rfl), (Nat.le_of_ble_eq_true rfl)⟩ rfl rfl rfl (Nat.le_of_ble_eq_true rfl) ⟨(Nat.le_of_ble_eq_true rfl), (Nat.le_of_ble_eq_true rfl)⟩ dX4_speed_13 ?_
    intro _ hu13
    refine z_eq (lv₂ := [(0, .ref o), (1, .int v)]) (st₂ := [.int (bI (mIn v 0 2))]) ?_ rfl rfl
    refine z_if_ne (pc := 16) gX 22 dX4_speed_16 (by decide) (fun c16 => ?_) (fun c16 => ?_)
    · skip
      have k16 : (mIn v 0 2) = true := bI_ne0 c16
      refine z_aload_n (pc := 22) gX 0 dX4_speed_22 rfl rfl ?_
      refine z_cMV (pc := 23) gX hAX [] [] [0, 1, 2] [] (fun A1 => met_X4_keeps l D B0 A1 o ad x c pa kn (by first | assumption | omega) (by first | assumption | omega)) q1533 q1535 qs36 q54 q1536 (zm 0 rfl) (ci := 4) rfl rfl hd_X4_keeps ⟨rfl, rfl⟩ ⟨(Nat.le_of_ble_eq_true rfl), (Nat.le_of_ble_eq_true rfl)⟩ rfl rfl rfl rfl rfl (Nat.le_of_ble_eq_true rfl) ⟨(Nat.le_of_ble_eq_true rfl), (Nat.le_of_ble_eq_true rfl)⟩ dX4_speed_23 ?_
      intro _ hu23
      refine z_re [0, 1, 2] [mOb o ad (kx x kn), [(ad 5, .inl (D.1 100, 25, .inl c))], [(ad 9, .inl (D.1 100, 384, .inl (mKeepP kn pa c)))]] rfl rfl ?_
      refine z_eq (lv₂ := [(0, .ref o), (1, .int v)]) (st₂ := []) ?_ rfl rfl
      refine z_aload_n (pc := 26) gX 0 dX4_speed_26 rfl rfl ?_
      refine z_get (pc := 27) gX (zI_ok gX hAX) (zm 0 rfl) (ci := 4) (C := RX4) (T := TX4) (N := 20) rfl in_X4 8 (by decide) q1391 (fun _ h => h) (v := .ref (ad 5)) rfl dX4_speed_27 ?_
      refine z_iconst (pc := 30) gX 1 dX4_speed_30 (by decide) ?_
      refine z_top (nI 1) rfl ?_
      refine z_iald (pc := 31) gX (zI_ok gX hAX) (j := 1) (n := 25) (f := c) (zm 1 rfl) (by omega) (by decide) dX4_speed_31 ?_
      refine z_istore_n (pc := 32) gX [1, 2, 0] [(0, .ref o), (1, .int v), (2, .int (c 1))] dX4_speed_32 rfl (by decide) rfl ?_
      refine z_aload_n (pc := 33) gX 0 dX4_speed_33 rfl rfl ?_
      refine z_get (pc := 34) gX (zI_ok gX hAX) (zm 0 rfl) (ci := 4) (C := RX4) (T := TX4) (N := 20) rfl in_X4 8 (by decide) q1391 (fun _ h => h) (v := .ref (ad 5)) rfl dX4_speed_34 ?_
      refine z_iconst (pc := 37) gX 1 dX4_speed_37 (by decide) ?_
      refine z_iload_n (pc := 38) gX 1 dX4_speed_38 rfl rfl ?_
      refine z_ixtop (nI 1) rfl ?_
      refine z_iast (pc := 39) gX hAX 1 (j := 1) (n := 25) (f := c) rfl (by omega) (by decide) [mOb o ad (kx x kn), [(ad 5, .inl (D.1 100, 25, .inl (upd c 1 v)))], [(ad 9, .inl (D.1 100, 384, .inl (mKeepP kn pa c)))]] rfl dX4_speed_39 ?_
      refine z_iload_n (pc := 40) gX 2 dX4_speed_40 rfl rfl ?_
      exact z_rim gX hQX (c 1, kx x kn, mKeepP kn pa c, upd c 1 v) (by simp [mSpeed, of_decide_eq_true k4, k16]) rfl rfl (by first | decide | omega) (by first | decide | omega) dX4_speed_41
    · skip
      have k16 : (mIn v 0 2) = false := bI_eq0 c16
      refine z_ldc (pc := 19) gX q1455 dX4_speed_19 ?_
      exact z_rim gX hQX ((-1000001), x, pa, c) (by simp [mSpeed, of_decide_eq_true k4, k16]) rfl rfl (by first | decide | omega) (by first | decide | omega) dX4_speed_21
  · skip
    have k4 : (decide (0 < c 17)) = false := bI_eq0 c4
    refine z_ldc (pc := 7) gX q1532 dX4_speed_7 ?_
    exact z_rim gX hQX ((-1000002), x, pa, c) (by simp [mSpeed, of_decide_eq_false k4]) rfl rfl (by first | decide | omega) (by first | decide | omega) dX4_speed_9
theorem hd_X4_speed : zHd yX4_speed 1 := by unfold zHd; decide +kernel

theorem upd_self (f : Nat → Int32) (k : Nat) : upd f k (f k) = f := by funext j; simp only [upd]; split <;> simp_all
theorem mIn_nat1 {v hi : Int32} (h : mIn v 1 hi = true) (k : Nat) (hk : hi.toInt = k) : ∃ j : Nat, j ≤ k ∧ v = nI j := by
  refine mIn_nat ?_ k hk
  simp only [mIn, Bool.and_eq_true, decide_eq_true_eq] at h ⊢
  exact ⟨Int32.le_trans (by decide) h.1, h.2⟩
def mCrossB (n : Nat) (c : Nat → Int32) (j : Nat) : Bool := decide (c (2 + j) = 99) || (mOn (c (2 + j)) && decide (c (18 + j) < 4) && !mFreeTo c j (c (2 + j)) (1 - c (9 + j)) n)
def mCross (n kn : Nat) (x pa c : Nat → Int32) (r : Int32) : Int32 × (Nat → Int32) × (Nat → Int32) × (Nat → Int32) :=
  if mIn r 0 (c 17 - 1) = true then
    if mCrossB n c r.toNatClampNeg = true then (-1000002, x, pa, c)
    else (1 - c (9 + r.toNatClampNeg), kx x kn, mKeepP kn pa c, upd c (9 + r.toNatClampNeg) (1 - c (9 + r.toNatClampNeg)))
  else (-1000001, x, pa, c)
def mTake (kn : Nat) (x pa c : Nat → Int32) (r : Int32) : Int32 × (Nat → Int32) × (Nat → Int32) × (Nat → Int32) :=
  if mIn r 0 (c 17 - 1) = true then
    if c (2 + r.toNatClampNeg) = 99 then (-1000002, x, pa, c)
    else (c (2 + r.toNatClampNeg), kx x kn, mKeepP kn pa c, upd c (2 + r.toNatClampNeg) 99)
  else (-1000001, x, pa, c)
def mAgain (n kn : Nat) (x pa c : Nat → Int32) (r la : Int32) : Int32 × (Nat → Int32) × (Nat → Int32) × (Nat → Int32) :=
  if (mIn r 0 (c 17 - 1) && mIn la 0 1) = true then
    if c (2 + r.toNatClampNeg) = 99 then (nI (cntV (upd (upd c (2 + r.toNatClampNeg) (-1)) (9 + r.toNatClampNeg) la) 99 n), kx x kn, mKeepP kn pa c, upd (upd c (2 + r.toNatClampNeg) (-1)) (9 + r.toNatClampNeg) la)
    else (-1000002, x, pa, c)
  else (-1000001, x, pa, c)
def mUndo (kn : Nat) (x pa c : Nat → Int32) : Int32 × (Nat → Int32) × (Nat → Int32) :=
  if kn = 0 then (-1000002, x, c)
  else (nI (kn - 1), upd x 3 (nI (kn - 1)), fun i => if i < 16 then pa (16 * (kn - 1) + i) else c i)
def mRider (n : Nat) (c : Nat → Int32) (r w : Int32) : Int32 :=
  if mIn r 0 (c 17 - 1) = true then
    if w = 0 then c (2 + r.toNatClampNeg) else if w = 1 then c (9 + r.toNatClampNeg) else if w = 2 then (if c (18 + r.toNatClampNeg) < 4 then 0 else 1)
    else if w = 3 then bI (mOn (c (2 + r.toNatClampNeg)) && decide (c (2 + r.toNatClampNeg) < c 16 - 1) && mFreeTo c r.toNatClampNeg (c (2 + r.toNatClampNeg) + 1) (c (9 + r.toNatClampNeg)) n)
    else -1000001
  else -1000001
def stepF (c : Nat → Int32) (p la : Int32) (r : Nat) : Int32 := if c (2 + r) = p ∧ (4 ≤ c (18 + r) ∨ c (9 + r) = la) then (1 : Int32) <<< (nI r &&& 31) else 0
def mStep (n : Nat) (c : Nat → Int32) (p la : Int32) : Int32 := if (mIn p 0 (c 16 - 1) && mIn la 0 1) = true then orF (stepF c p la) n else -1000001
def mKind (c : Nat → Int32) (r : Int32) : Int32 := if mIn r 0 (c 17 - 1) = true then c (18 + r.toNatClampNeg) else -1000001
def mAs (x c : Nat → Int32) (r w : Int32) : Int32 × (Nat → Int32) :=
  if (mIn r 0 (c 17 - 1) && mIn w 0 5) = true then
    if (w = 0 ∨ w = c (18 + r.toNatClampNeg)) ∨ (w = 1 ∧ c (18 + r.toNatClampNeg) < 4) ∨ (w = 4 ∧ c (18 + r.toNatClampNeg) = 5) then (r, mSt x r) else (-1000013, mSt x (-1000013))
  else (-1000001, x)
def mImage (c im kp : Nat → Int32) (v : Int32) : Int32 × (Nat → Int32) × (Nat → Int32) :=
  if mIn v 0 1 = true then
    if 0 < c 17 then (1, cpT im (25 * v.toNatClampNeg) c 25, upd kp v.toNatClampNeg (vp_nar .boolean 1)) else (-1000002, im, kp)
  else (-1000001, im, kp)
def mRestore (x c im kp : Nat → Int32) (v : Int32) : Int32 × (Nat → Int32) × (Nat → Int32) :=
  if mIn v 0 1 = true then
    if kp v.toNatClampNeg = 0 then (-1000002, x, c) else (1, upd x 3 0, fun i => im (25 * v.toNatClampNeg + i))
  else (-1000001, x, c)

set_option maxHeartbeats 4000000 in
theorem met_X4_cross (l : Launch) (D : va_G) (B0 : Nat) (A : Nat → Prop) (o : Nat) (ad : Nat → Nat) (x : Nat → Int32) (c : Nat → Int32) (pa : Nat → Int32) (n : Nat) (kn : Nat) (r : Int32) (hn : c 17 = nI n) (hn7 : n ≤ 7) (hkn : x 3 = nI kn) (hkn24 : kn ≤ 24) : Met l yX4_cross (ws_ yX4_cross cX4_cross 4 (some .int)) (zRm 3 0 0) (va_Pc [.ref o, .int r] (zPre B0 D A [mOb o ad x, [(ad 5, .inl (D.1 100, 25, .inl c))], [(ad 9, .inl (D.1 100, 384, .inl pa))]])) (zQ (S := Int32 × (Nat → Int32) × (Nat → Int32) × (Nat → Int32)) (fun u => (fun (r_ : Int32) (x1 : Nat → Int32) (pa1 : Nat → Int32) (c1 : Nat → Int32) => (r_, x1, pa1, c1) = mCross n kn x pa c r) u.1 u.2.1 u.2.2.1 u.2.2.2) (fun u => (fun (r_ : Int32) (x1 : Nat → Int32) (pa1 : Nat → Int32) (c1 : Nat → Int32) => some (.int r_)) u.1 u.2.1 u.2.2.1 u.2.2.2) (fun u => (fun (r_ : Int32) (x1 : Nat → Int32) (pa1 : Nat → Int32) (c1 : Nat → Int32) => [mOb o ad x1, [(ad 5, .inl (D.1 100, 25, .inl c1))], [(ad 9, .inl (D.1 100, 384, .inl pa1))]]) u.1 u.2.1 u.2.2.1 u.2.2.2) D A) 0 0 A := by
  refine z_entry (by decide +kernel) (Nat.le_of_ble_eq_true rfl) (fun pX eX sX mX argsX blX mtX cX QX hQX gX hAX hnm => ?_)
  refine z_eq (lv₂ := [(0, .ref o), (1, .int r)]) (st₂ := []) ?_ rfl rfl
  refine z_aload_n (pc := 0) gX 0 dX4_cross_0 rfl rfl ?_
  refine z_iload_n (pc := 1) gX 1 dX4_cross_1 rfl rfl ?_
  refine z_cOV (pc := 2) gX (zI_ok gX hAX) [.int r] [] [0, 1] (met_X4_isRider l D B0 o ad x c r ) q1564 q1566 qs38 q54 q1567 (zm 0 rfl) (ci := 4) rfl rfl hd_X4_isRider ⟨rfl, rfl⟩ ⟨(Nat.le_of_ble_eq_true rfl), (Nat.le_of_ble_eq_true rfl)⟩ rfl rfl rfl (Nat.le_of_ble_eq_true rfl) ⟨(Nat.le_of_ble_eq_true rfl), (Nat.le_of_ble_eq_true rfl)⟩ dX4_cross_2 ?_
  intro _ hu2
  refine z_eq (lv₂ := [(0, .ref o), (1, .int r)]) (st₂ := [.int (bI (mIn r 0 (c 17 - 1)))]) ?_ rfl rfl
  refine z_if_ne (pc := 5) gX 11 dX4_cross_5 (by decide) (fun c5 => ?_) (fun c5 => ?_)
  · skip
    have k5 : (mIn r 0 (c 17 - 1)) = true := bI_ne0 c5
    obtain ⟨j, hjn, rfl⟩ := riderN k5 hn hn7
    refine z_iconst (pc := 11) gX 1 dX4_cross_11 (by decide) ?_
    refine z_aload_n (pc := 12) gX 0 dX4_cross_12 rfl rfl ?_
    refine z_get (pc := 13) gX (zI_ok gX hAX) (zm 0 rfl) (ci := 4) (C := RX4) (T := TX4) (N := 20) rfl in_X4 8 (by decide) q1391 (fun _ h => h) (v := .ref (ad 5)) rfl dX4_cross_13 ?_
    refine z_bipush (pc := 16) gX 9 dX4_cross_16 (by decide) ?_
    refine z_iload_n (pc := 18) gX 1 dX4_cross_18 rfl rfl ?_
    refine z_iadd (pc := 19) gX dX4_cross_19 ?_
    refine z_top (nI (9 + j)) (nI_add 9 j) ?_
    refine z_iald (pc := 20) gX (zI_ok gX hAX) (j := (9 + j)) (n := 25) (f := c) (zm 1 rfl) (by omega) (by decide) dX4_cross_20 ?_
    refine z_isub (pc := 21) gX dX4_cross_21 ?_
    refine z_istore_n (pc := 22) gX [1, 2, 0] [(0, .ref o), (1, .int (nI j)), (2, .int (1 - (c (9 + j))))] dX4_cross_22 rfl (by decide) rfl ?_
    refine z_aload_n (pc := 23) gX 0 dX4_cross_23 rfl rfl ?_
    refine z_get (pc := 24) gX (zI_ok gX hAX) (zm 0 rfl) (ci := 4) (C := RX4) (T := TX4) (N := 20) rfl in_X4 8 (by decide) q1391 (fun _ h => h) (v := .ref (ad 5)) rfl dX4_cross_24 ?_
    refine z_iconst (pc := 27) gX 2 dX4_cross_27 (by decide) ?_
    refine z_iload_n (pc := 28) gX 1 dX4_cross_28 rfl rfl ?_
    refine z_iadd (pc := 29) gX dX4_cross_29 ?_
    refine z_top (nI (2 + j)) (nI_add 2 j) ?_
    refine z_iald (pc := 30) gX (zI_ok gX hAX) (j := (2 + j)) (n := 25) (f := c) (zm 1 rfl) (by omega) (by decide) dX4_cross_30 ?_
    refine z_istore_n (pc := 31) gX [1, 2, 3, 0] [(0, .ref o), (1, .int (nI j)), (2, .int (1 - (c (9 + j)))), (3, .int (c (2 + j)))] dX4_cross_31 rfl (by decide) rfl ?_
    refine z_iload_n (pc := 32) gX 3 dX4_cross_32 rfl rfl ?_
    refine z_bipush (pc := 33) gX 99 dX4_cross_33 (by decide) ?_
    refine z_icmp_eq (pc := 35) gX 71 dX4_cross_35 (by decide) (fun c35 => ?_) (fun c35 => ?_)
    · skip
      refine z_ldc (pc := 71) gX q1532 dX4_cross_71 ?_
      exact z_rim gX hQX ((-1000002), x, pa, c) (by simp only [mCross, k5, if_true, nI_clamp (show j < 2 ^ 31 by omega)]; rw [if_pos (by grind [mCrossB])]) rfl rfl (by first | decide | omega) (by first | decide | omega) dX4_cross_73
    · skip
      refine z_iload_n (pc := 38) gX 3 dX4_cross_38 rfl rfl ?_
      refine z_cOS (pc := 39) gX (zI_ok gX hAX) [.int (c (2 + j))] [] [] (met_X4_isOn l D B0 (c (2 + j)) ) q1550 q1551 q54 q1552 hd_X4_isOn ⟨rfl, rfl⟩ ⟨(Nat.le_of_ble_eq_true rfl), (Nat.le_of_ble_eq_true rfl)⟩ rfl rfl rfl (Nat.le_of_ble_eq_true rfl) ⟨(Nat.le_of_ble_eq_true rfl), (Nat.le_of_ble_eq_true rfl)⟩ dX4_cross_39 ?_
      intro _ hu39
      refine z_eq (lv₂ := [(0, .ref o), (1, .int (nI j)), (2, .int (1 - (c (9 + j)))), (3, .int (c (2 + j)))]) (st₂ := [.int (bI (mOn (c (2 + j))))]) ?_ rfl rfl
      refine z_if_eq (pc := 42) gX 74 dX4_cross_42 (by decide) (fun c42 => ?_) (fun c42 => ?_)
      · skip
        have k42 : (mOn (c (2 + j))) = false := bI_eq0 c42
        refine z_aload_n (pc := 74) gX 0 dX4_cross_74 rfl rfl ?_
        refine z_cMV (pc := 75) gX hAX [] [] [0, 1, 2] [] (fun A1 => met_X4_keeps l D B0 A1 o ad x c pa kn (by first | assumption | omega) (by first | assumption | omega)) q1533 q1535 qs36 q54 q1536 (zm 0 rfl) (ci := 4) rfl rfl hd_X4_keeps ⟨rfl, rfl⟩ ⟨(Nat.le_of_ble_eq_true rfl), (Nat.le_of_ble_eq_true rfl)⟩ rfl rfl rfl rfl rfl (Nat.le_of_ble_eq_true rfl) ⟨(Nat.le_of_ble_eq_true rfl), (Nat.le_of_ble_eq_true rfl)⟩ dX4_cross_75 ?_
        intro _ hu75
        refine z_re [0, 1, 2] [mOb o ad (kx x kn), [(ad 5, .inl (D.1 100, 25, .inl c))], [(ad 9, .inl (D.1 100, 384, .inl (mKeepP kn pa c)))]] rfl rfl ?_
        refine z_eq (lv₂ := [(0, .ref o), (1, .int (nI j)), (2, .int (1 - (c (9 + j)))), (3, .int (c (2 + j)))]) (st₂ := []) ?_ rfl rfl
        refine z_aload_n (pc := 78) gX 0 dX4_cross_78 rfl rfl ?_
        refine z_get (pc := 79) gX (zI_ok gX hAX) (zm 0 rfl) (ci := 4) (C := RX4) (T := TX4) (N := 20) rfl in_X4 8 (by decide) q1391 (fun _ h => h) (v := .ref (ad 5)) rfl dX4_cross_79 ?_
        refine z_bipush (pc := 82) gX 9 dX4_cross_82 (by decide) ?_
        refine z_iload_n (pc := 84) gX 1 dX4_cross_84 rfl rfl ?_
        refine z_iadd (pc := 85) gX dX4_cross_85 ?_
        refine z_top (nI (9 + j)) (nI_add 9 j) ?_
        refine z_iload_n (pc := 86) gX 2 dX4_cross_86 rfl rfl ?_
        refine z_iast (pc := 87) gX hAX 1 (j := (9 + j)) (n := 25) (f := c) rfl (by omega) (by decide) [mOb o ad (kx x kn), [(ad 5, .inl (D.1 100, 25, .inl (upd c (9 + j) (1 - (c (9 + j))))))], [(ad 9, .inl (D.1 100, 384, .inl (mKeepP kn pa c)))]] rfl dX4_cross_87 ?_
        refine z_iload_n (pc := 88) gX 2 dX4_cross_88 rfl rfl ?_
        exact z_rim gX hQX (1 - (c (9 + j)), kx x kn, mKeepP kn pa c, upd c (9 + j) (1 - (c (9 + j)))) (by simp only [mCross, k5, if_true, nI_clamp (show j < 2 ^ 31 by omega)]; rw [if_neg (by grind [mCrossB])]) rfl rfl (by first | decide | omega) (by first | decide | omega) dX4_cross_89
      · skip
        have k42 : (mOn (c (2 + j))) = true := bI_ne0 c42
        refine z_aload_n (pc := 45) gX 0 dX4_cross_45 rfl rfl ?_
        refine z_get (pc := 46) gX (zI_ok gX hAX) (zm 0 rfl) (ci := 4) (C := RX4) (T := TX4) (N := 20) rfl in_X4 8 (by decide) q1391 (fun _ h => h) (v := .ref (ad 5)) rfl dX4_cross_46 ?_
        refine z_bipush (pc := 49) gX 18 dX4_cross_49 (by decide) ?_
        refine z_iload_n (pc := 51) gX 1 dX4_cross_51 rfl rfl ?_
        refine z_iadd (pc := 52) gX dX4_cross_52 ?_
        refine z_top (nI (18 + j)) (nI_add 18 j) ?_
        refine z_iald (pc := 53) gX (zI_ok gX hAX) (j := (18 + j)) (n := 25) (f := c) (zm 1 rfl) (by omega) (by decide) dX4_cross_53 ?_
        refine z_iconst (pc := 54) gX 4 dX4_cross_54 (by decide) ?_
        refine z_icmp_ge (pc := 55) gX 74 dX4_cross_55 (by decide) (fun c55 => ?_) (fun c55 => ?_)
        · skip
          refine z_aload_n (pc := 74) gX 0 dX4_cross_74 rfl rfl ?_
          refine z_cMV (pc := 75) gX hAX [] [] [0, 1, 2] [] (fun A1 => met_X4_keeps l D B0 A1 o ad x c pa kn (by first | assumption | omega) (by first | assumption | omega)) q1533 q1535 qs36 q54 q1536 (zm 0 rfl) (ci := 4) rfl rfl hd_X4_keeps ⟨rfl, rfl⟩ ⟨(Nat.le_of_ble_eq_true rfl), (Nat.le_of_ble_eq_true rfl)⟩ rfl rfl rfl rfl rfl (Nat.le_of_ble_eq_true rfl) ⟨(Nat.le_of_ble_eq_true rfl), (Nat.le_of_ble_eq_true rfl)⟩ dX4_cross_75 ?_
          intro _ hu75
          refine z_re [0, 1, 2] [mOb o ad (kx x kn), [(ad 5, .inl (D.1 100, 25, .inl c))], [(ad 9, .inl (D.1 100, 384, .inl (mKeepP kn pa c)))]] rfl rfl ?_
          refine z_eq (lv₂ := [(0, .ref o), (1, .int (nI j)), (2, .int (1 - (c (9 + j)))), (3, .int (c (2 + j)))]) (st₂ := []) ?_ rfl rfl
          refine z_aload_n (pc := 78) gX 0 dX4_cross_78 rfl rfl ?_
          refine z_get (pc := 79) gX (zI_ok gX hAX) (zm 0 rfl) (ci := 4) (C := RX4) (T := TX4) (N := 20) rfl in_X4 8 (by decide) q1391 (fun _ h => h) (v := .ref (ad 5)) rfl dX4_cross_79 ?_
          refine z_bipush (pc := 82) gX 9 dX4_cross_82 (by decide) ?_
          refine z_iload_n (pc := 84) gX 1 dX4_cross_84 rfl rfl ?_
          refine z_iadd (pc := 85) gX dX4_cross_85 ?_
          refine z_top (nI (9 + j)) (nI_add 9 j) ?_
          refine z_iload_n (pc := 86) gX 2 dX4_cross_86 rfl rfl ?_
          refine z_iast (pc := 87) gX hAX 1 (j := (9 + j)) (n := 25) (f := c) rfl (by omega) (by decide) [mOb o ad (kx x kn), [(ad 5, .inl (D.1 100, 25, .inl (upd c (9 + j) (1 - (c (9 + j))))))], [(ad 9, .inl (D.1 100, 384, .inl (mKeepP kn pa c)))]] rfl dX4_cross_87 ?_
          refine z_iload_n (pc := 88) gX 2 dX4_cross_88 rfl rfl ?_
          exact z_rim gX hQX (1 - (c (9 + j)), kx x kn, mKeepP kn pa c, upd c (9 + j) (1 - (c (9 + j)))) (by simp only [mCross, k5, if_true, nI_clamp (show j < 2 ^ 31 by omega)]; rw [if_neg (by grind [mCrossB])]) rfl rfl (by first | decide | omega) (by first | decide | omega) dX4_cross_89
        · skip
          refine z_aload_n (pc := 58) gX 0 dX4_cross_58 rfl rfl ?_
          refine z_get (pc := 59) gX (zI_ok gX hAX) (zm 0 rfl) (ci := 4) (C := RX4) (T := TX4) (N := 20) rfl in_X4 8 (by decide) q1391 (fun _ h => h) (v := .ref (ad 5)) rfl dX4_cross_59 ?_
          refine z_iload_n (pc := 62) gX 1 dX4_cross_62 rfl rfl ?_
          refine z_iload_n (pc := 63) gX 3 dX4_cross_63 rfl rfl ?_
          refine z_iload_n (pc := 64) gX 2 dX4_cross_64 rfl rfl ?_
          refine z_cOS (pc := 65) gX (zI_ok gX hAX) [.ref (ad 5), .int (nI j), .int (c (2 + j)), .int (1 - (c (9 + j)))] [] [1] (met_X4_isFree l D B0 (ad 5) c n j (c (2 + j)) (1 - (c (9 + j))) (by first | assumption | omega) (by first | assumption | omega) (by first | assumption | omega)) q1547 q1548 q54 q1549 hd_X4_isFree ⟨rfl, rfl⟩ ⟨(Nat.le_of_ble_eq_true rfl), (Nat.le_of_ble_eq_true rfl)⟩ rfl rfl rfl (Nat.le_of_ble_eq_true rfl) ⟨(Nat.le_of_ble_eq_true rfl), (Nat.le_of_ble_eq_true rfl)⟩ dX4_cross_65 ?_
          intro _ hu65
          refine z_eq (lv₂ := [(0, .ref o), (1, .int (nI j)), (2, .int (1 - (c (9 + j)))), (3, .int (c (2 + j)))]) (st₂ := [.int (bI (mFreeTo c j (c (2 + j)) (1 - (c (9 + j))) n))]) ?_ rfl rfl
          refine z_if_ne (pc := 68) gX 74 dX4_cross_68 (by decide) (fun c68 => ?_) (fun c68 => ?_)
          · skip
            have k68 : (mFreeTo c j (c (2 + j)) (1 - (c (9 + j))) n) = true := bI_ne0 c68
            refine z_aload_n (pc := 74) gX 0 dX4_cross_74 rfl rfl ?_
            refine z_cMV (pc := 75) gX hAX [] [] [0, 1, 2] [] (fun A1 => met_X4_keeps l D B0 A1 o ad x c pa kn (by first | assumption | omega) (by first | assumption | omega)) q1533 q1535 qs36 q54 q1536 (zm 0 rfl) (ci := 4) rfl rfl hd_X4_keeps ⟨rfl, rfl⟩ ⟨(Nat.le_of_ble_eq_true rfl), (Nat.le_of_ble_eq_true rfl)⟩ rfl rfl rfl rfl rfl (Nat.le_of_ble_eq_true rfl) ⟨(Nat.le_of_ble_eq_true rfl), (Nat.le_of_ble_eq_true rfl)⟩ dX4_cross_75 ?_
            intro _ hu75
            refine z_re [0, 1, 2] [mOb o ad (kx x kn), [(ad 5, .inl (D.1 100, 25, .inl c))], [(ad 9, .inl (D.1 100, 384, .inl (mKeepP kn pa c)))]] rfl rfl ?_
            refine z_eq (lv₂ := [(0, .ref o), (1, .int (nI j)), (2, .int (1 - (c (9 + j)))), (3, .int (c (2 + j)))]) (st₂ := []) ?_ rfl rfl
            refine z_aload_n (pc := 78) gX 0 dX4_cross_78 rfl rfl ?_
            refine z_get (pc := 79) gX (zI_ok gX hAX) (zm 0 rfl) (ci := 4) (C := RX4) (T := TX4) (N := 20) rfl in_X4 8 (by decide) q1391 (fun _ h => h) (v := .ref (ad 5)) rfl dX4_cross_79 ?_
            refine z_bipush (pc := 82) gX 9 dX4_cross_82 (by decide) ?_
            refine z_iload_n (pc := 84) gX 1 dX4_cross_84 rfl rfl ?_
            refine z_iadd (pc := 85) gX dX4_cross_85 ?_
            refine z_top (nI (9 + j)) (nI_add 9 j) ?_
            refine z_iload_n (pc := 86) gX 2 dX4_cross_86 rfl rfl ?_
            refine z_iast (pc := 87) gX hAX 1 (j := (9 + j)) (n := 25) (f := c) rfl (by omega) (by decide) [mOb o ad (kx x kn), [(ad 5, .inl (D.1 100, 25, .inl (upd c (9 + j) (1 - (c (9 + j))))))], [(ad 9, .inl (D.1 100, 384, .inl (mKeepP kn pa c)))]] rfl dX4_cross_87 ?_
            refine z_iload_n (pc := 88) gX 2 dX4_cross_88 rfl rfl ?_
            exact z_rim gX hQX (1 - (c (9 + j)), kx x kn, mKeepP kn pa c, upd c (9 + j) (1 - (c (9 + j)))) (by simp only [mCross, k5, if_true, nI_clamp (show j < 2 ^ 31 by omega)]; rw [if_neg (by grind [mCrossB])]) rfl rfl (by first | decide | omega) (by first | decide | omega) dX4_cross_89
          · skip
            have k68 : (mFreeTo c j (c (2 + j)) (1 - (c (9 + j))) n) = false := bI_eq0 c68
            refine z_ldc (pc := 71) gX q1532 dX4_cross_71 ?_
            exact z_rim gX hQX ((-1000002), x, pa, c) (by simp only [mCross, k5, if_true, nI_clamp (show j < 2 ^ 31 by omega)]; rw [if_pos (by grind [mCrossB])]) rfl rfl (by first | decide | omega) (by first | decide | omega) dX4_cross_73
  · skip
    have k5 : (mIn r 0 (c 17 - 1)) = false := bI_eq0 c5
    refine z_ldc (pc := 8) gX q1455 dX4_cross_8 ?_
    exact z_rim gX hQX ((-1000001), x, pa, c) (by simp [mCross, k5]) rfl rfl (by first | decide | omega) (by first | decide | omega) dX4_cross_10
theorem hd_X4_cross : zHd yX4_cross 1 := by unfold zHd; decide +kernel

set_option maxHeartbeats 4000000 in
theorem met_X4_take (l : Launch) (D : va_G) (B0 : Nat) (A : Nat → Prop) (o : Nat) (ad : Nat → Nat) (x : Nat → Int32) (c : Nat → Int32) (pa : Nat → Int32) (n : Nat) (kn : Nat) (r : Int32) (hn : c 17 = nI n) (hn7 : n ≤ 7) (hkn : x 3 = nI kn) (hkn24 : kn ≤ 24) : Met l yX4_take (ws_ yX4_take cX4_take 3 (some .int)) (zRm 3 0 0) (va_Pc [.ref o, .int r] (zPre B0 D A [mOb o ad x, [(ad 5, .inl (D.1 100, 25, .inl c))], [(ad 9, .inl (D.1 100, 384, .inl pa))]])) (zQ (S := Int32 × (Nat → Int32) × (Nat → Int32) × (Nat → Int32)) (fun u => (fun (r_ : Int32) (x1 : Nat → Int32) (pa1 : Nat → Int32) (c1 : Nat → Int32) => (r_, x1, pa1, c1) = mTake kn x pa c r) u.1 u.2.1 u.2.2.1 u.2.2.2) (fun u => (fun (r_ : Int32) (x1 : Nat → Int32) (pa1 : Nat → Int32) (c1 : Nat → Int32) => some (.int r_)) u.1 u.2.1 u.2.2.1 u.2.2.2) (fun u => (fun (r_ : Int32) (x1 : Nat → Int32) (pa1 : Nat → Int32) (c1 : Nat → Int32) => [mOb o ad x1, [(ad 5, .inl (D.1 100, 25, .inl c1))], [(ad 9, .inl (D.1 100, 384, .inl pa1))]]) u.1 u.2.1 u.2.2.1 u.2.2.2) D A) 0 0 A := by
  refine z_entry (by decide +kernel) (Nat.le_of_ble_eq_true rfl) (fun pX eX sX mX argsX blX mtX cX QX hQX gX hAX hnm => ?_)
  refine z_eq (lv₂ := [(0, .ref o), (1, .int r)]) (st₂ := []) ?_ rfl rfl
  refine z_aload_n (pc := 0) gX 0 dX4_take_0 rfl rfl ?_
  refine z_iload_n (pc := 1) gX 1 dX4_take_1 rfl rfl ?_
  refine z_cOV (pc := 2) gX (zI_ok gX hAX) [.int r] [] [0, 1] (met_X4_isRider l D B0 o ad x c r ) q1564 q1566 qs38 q54 q1567 (zm 0 rfl) (ci := 4) rfl rfl hd_X4_isRider ⟨rfl, rfl⟩ ⟨(Nat.le_of_ble_eq_true rfl), (Nat.le_of_ble_eq_true rfl)⟩ rfl rfl rfl (Nat.le_of_ble_eq_true rfl) ⟨(Nat.le_of_ble_eq_true rfl), (Nat.le_of_ble_eq_true rfl)⟩ dX4_take_2 ?_
  intro _ hu2
  refine z_eq (lv₂ := [(0, .ref o), (1, .int r)]) (st₂ := [.int (bI (mIn r 0 (c 17 - 1)))]) ?_ rfl rfl
  refine z_if_ne (pc := 5) gX 11 dX4_take_5 (by decide) (fun c5 => ?_) (fun c5 => ?_)
  · skip
    have k5 : (mIn r 0 (c 17 - 1)) = true := bI_ne0 c5
    obtain ⟨j, hjn, rfl⟩ := riderN k5 hn hn7
    refine z_aload_n (pc := 11) gX 0 dX4_take_11 rfl rfl ?_
    refine z_get (pc := 12) gX (zI_ok gX hAX) (zm 0 rfl) (ci := 4) (C := RX4) (T := TX4) (N := 20) rfl in_X4 8 (by decide) q1391 (fun _ h => h) (v := .ref (ad 5)) rfl dX4_take_12 ?_
    refine z_iconst (pc := 15) gX 2 dX4_take_15 (by decide) ?_
    refine z_iload_n (pc := 16) gX 1 dX4_take_16 rfl rfl ?_
    refine z_iadd (pc := 17) gX dX4_take_17 ?_
    refine z_top (nI (2 + j)) (nI_add 2 j) ?_
    refine z_iald (pc := 18) gX (zI_ok gX hAX) (j := (2 + j)) (n := 25) (f := c) (zm 1 rfl) (by omega) (by decide) dX4_take_18 ?_
    refine z_istore_n (pc := 19) gX [1, 2, 0] [(0, .ref o), (1, .int (nI j)), (2, .int (c (2 + j)))] dX4_take_19 rfl (by decide) rfl ?_
    refine z_iload_n (pc := 20) gX 2 dX4_take_20 rfl rfl ?_
    refine z_bipush (pc := 21) gX 99 dX4_take_21 (by decide) ?_
    refine z_icmp_ne (pc := 23) gX 29 dX4_take_23 (by decide) (fun c23 => ?_) (fun c23 => ?_)
    · skip
      refine z_aload_n (pc := 29) gX 0 dX4_take_29 rfl rfl ?_
      refine z_cMV (pc := 30) gX hAX [] [] [0, 1, 2] [] (fun A1 => met_X4_keeps l D B0 A1 o ad x c pa kn (by first | assumption | omega) (by first | assumption | omega)) q1533 q1535 qs36 q54 q1536 (zm 0 rfl) (ci := 4) rfl rfl hd_X4_keeps ⟨rfl, rfl⟩ ⟨(Nat.le_of_ble_eq_true rfl), (Nat.le_of_ble_eq_true rfl)⟩ rfl rfl rfl rfl rfl (Nat.le_of_ble_eq_true rfl) ⟨(Nat.le_of_ble_eq_true rfl), (Nat.le_of_ble_eq_true rfl)⟩ dX4_take_30 ?_
      intro _ hu30
      refine z_re [0, 1, 2] [mOb o ad (kx x kn), [(ad 5, .inl (D.1 100, 25, .inl c))], [(ad 9, .inl (D.1 100, 384, .inl (mKeepP kn pa c)))]] rfl rfl ?_
      refine z_eq (lv₂ := [(0, .ref o), (1, .int (nI j)), (2, .int (c (2 + j)))]) (st₂ := []) ?_ rfl rfl
      refine z_aload_n (pc := 33) gX 0 dX4_take_33 rfl rfl ?_
      refine z_get (pc := 34) gX (zI_ok gX hAX) (zm 0 rfl) (ci := 4) (C := RX4) (T := TX4) (N := 20) rfl in_X4 8 (by decide) q1391 (fun _ h => h) (v := .ref (ad 5)) rfl dX4_take_34 ?_
      refine z_iconst (pc := 37) gX 2 dX4_take_37 (by decide) ?_
      refine z_iload_n (pc := 38) gX 1 dX4_take_38 rfl rfl ?_
      refine z_iadd (pc := 39) gX dX4_take_39 ?_
      refine z_top (nI (2 + j)) (nI_add 2 j) ?_
      refine z_bipush (pc := 40) gX 99 dX4_take_40 (by decide) ?_
      refine z_iast (pc := 42) gX hAX 1 (j := (2 + j)) (n := 25) (f := c) rfl (by omega) (by decide) [mOb o ad (kx x kn), [(ad 5, .inl (D.1 100, 25, .inl (upd c (2 + j) 99)))], [(ad 9, .inl (D.1 100, 384, .inl (mKeepP kn pa c)))]] rfl dX4_take_42 ?_
      refine z_iload_n (pc := 43) gX 2 dX4_take_43 rfl rfl ?_
      exact z_rim gX hQX (c (2 + j), kx x kn, mKeepP kn pa c, upd c (2 + j) 99) (by simp [mTake, k5, c23, nI_clamp (show j < 2 ^ 31 by omega)]) rfl rfl (by first | decide | omega) (by first | decide | omega) dX4_take_44
    · skip
      refine z_ldc (pc := 26) gX q1532 dX4_take_26 ?_
      exact z_rim gX hQX ((-1000002), x, pa, c) (by simp [mTake, k5, c23, nI_clamp (show j < 2 ^ 31 by omega)]) rfl rfl (by first | decide | omega) (by first | decide | omega) dX4_take_28
  · skip
    have k5 : (mIn r 0 (c 17 - 1)) = false := bI_eq0 c5
    refine z_ldc (pc := 8) gX q1455 dX4_take_8 ?_
    exact z_rim gX hQX ((-1000001), x, pa, c) (by simp [mTake, k5]) rfl rfl (by first | decide | omega) (by first | decide | omega) dX4_take_10
theorem hd_X4_take : zHd yX4_take 1 := by unfold zHd; decide +kernel

set_option maxHeartbeats 4000000 in
theorem met_X4_again (l : Launch) (D : va_G) (B0 : Nat) (A : Nat → Prop) (o : Nat) (ad : Nat → Nat) (x : Nat → Int32) (c : Nat → Int32) (pa : Nat → Int32) (n : Nat) (kn : Nat) (r : Int32) (la : Int32) (hn : c 17 = nI n) (hn7 : n ≤ 7) (hkn : x 3 = nI kn) (hkn24 : kn ≤ 24) : Met l yX4_again (ws_ yX4_again cX4_again 3 (some .int)) (zRm 3 0 0) (va_Pc [.ref o, .int r, .int la] (zPre B0 D A [mOb o ad x, [(ad 5, .inl (D.1 100, 25, .inl c))], [(ad 9, .inl (D.1 100, 384, .inl pa))]])) (zQ (S := Int32 × (Nat → Int32) × (Nat → Int32) × (Nat → Int32)) (fun u => (fun (r_ : Int32) (x1 : Nat → Int32) (pa1 : Nat → Int32) (c1 : Nat → Int32) => (r_, x1, pa1, c1) = mAgain n kn x pa c r la) u.1 u.2.1 u.2.2.1 u.2.2.2) (fun u => (fun (r_ : Int32) (x1 : Nat → Int32) (pa1 : Nat → Int32) (c1 : Nat → Int32) => some (.int r_)) u.1 u.2.1 u.2.2.1 u.2.2.2) (fun u => (fun (r_ : Int32) (x1 : Nat → Int32) (pa1 : Nat → Int32) (c1 : Nat → Int32) => [mOb o ad x1, [(ad 5, .inl (D.1 100, 25, .inl c1))], [(ad 9, .inl (D.1 100, 384, .inl pa1))]]) u.1 u.2.1 u.2.2.1 u.2.2.2) D A) 0 0 A := by
  refine z_entry (by decide +kernel) (Nat.le_of_ble_eq_true rfl) (fun pX eX sX mX argsX blX mtX cX QX hQX gX hAX hnm => ?_)
  refine z_eq (lv₂ := [(0, .ref o), (1, .int r), (2, .int la)]) (st₂ := []) ?_ rfl rfl
  refine z_aload_n (pc := 0) gX 0 dX4_again_0 rfl rfl ?_
  refine z_iload_n (pc := 1) gX 1 dX4_again_1 rfl rfl ?_
  refine z_cOV (pc := 2) gX (zI_ok gX hAX) [.int r] [] [0, 1] (met_X4_isRider l D B0 o ad x c r ) q1564 q1566 qs38 q54 q1567 (zm 0 rfl) (ci := 4) rfl rfl hd_X4_isRider ⟨rfl, rfl⟩ ⟨(Nat.le_of_ble_eq_true rfl), (Nat.le_of_ble_eq_true rfl)⟩ rfl rfl rfl (Nat.le_of_ble_eq_true rfl) ⟨(Nat.le_of_ble_eq_true rfl), (Nat.le_of_ble_eq_true rfl)⟩ dX4_again_2 ?_
  intro _ hu2
  refine z_eq (lv₂ := [(0, .ref o), (1, .int r), (2, .int la)]) (st₂ := [.int (bI (mIn r 0 (c 17 - 1)))]) ?_ rfl rfl
  refine z_if_eq (pc := 5) gX 17 dX4_again_5 (by decide) (fun c5 => ?_) (fun c5 => ?_)
  · skip
    have k5 : (mIn r 0 (c 17 - 1)) = false := bI_eq0 c5
    refine z_ldc (pc := 17) gX q1455 dX4_again_17 ?_
    exact z_rim gX hQX ((-1000001), x, pa, c) (by simp [mAgain, k5]) rfl rfl (by first | decide | omega) (by first | decide | omega) dX4_again_19
  · skip
    have k5 : (mIn r 0 (c 17 - 1)) = true := bI_ne0 c5
    obtain ⟨j, hjn, rfl⟩ := riderN k5 hn hn7
    refine z_iload_n (pc := 8) gX 2 dX4_again_8 rfl rfl ?_
    refine z_iconst (pc := 9) gX 0 dX4_again_9 (by decide) ?_
    refine z_iconst (pc := 10) gX 1 dX4_again_10 (by decide) ?_
    refine z_cOS (pc := 11) gX (zI_ok gX hAX) [.int la, .int 0, .int 1] [] [] (met_X4_in l D B0 la 0 1 ) q1452 q1453 q54 q1454 hd_X4_in ⟨rfl, rfl⟩ ⟨(Nat.le_of_ble_eq_true rfl), (Nat.le_of_ble_eq_true rfl)⟩ rfl rfl rfl (Nat.le_of_ble_eq_true rfl) ⟨(Nat.le_of_ble_eq_true rfl), (Nat.le_of_ble_eq_true rfl)⟩ dX4_again_11 ?_
    intro _ hu11
    refine z_eq (lv₂ := [(0, .ref o), (1, .int (nI j)), (2, .int la)]) (st₂ := [.int (bI (mIn la 0 1))]) ?_ rfl rfl
    refine z_if_ne (pc := 14) gX 20 dX4_again_14 (by decide) (fun c14 => ?_) (fun c14 => ?_)
    · skip
      have k14 : (mIn la 0 1) = true := bI_ne0 c14
      refine z_aload_n (pc := 20) gX 0 dX4_again_20 rfl rfl ?_
      refine z_get (pc := 21) gX (zI_ok gX hAX) (zm 0 rfl) (ci := 4) (C := RX4) (T := TX4) (N := 20) rfl in_X4 8 (by decide) q1391 (fun _ h => h) (v := .ref (ad 5)) rfl dX4_again_21 ?_
      refine z_iconst (pc := 24) gX 2 dX4_again_24 (by decide) ?_
      refine z_iload_n (pc := 25) gX 1 dX4_again_25 rfl rfl ?_
      refine z_iadd (pc := 26) gX dX4_again_26 ?_
      refine z_top (nI (2 + j)) (nI_add 2 j) ?_
      refine z_iald (pc := 27) gX (zI_ok gX hAX) (j := (2 + j)) (n := 25) (f := c) (zm 1 rfl) (by omega) (by decide) dX4_again_27 ?_
      refine z_bipush (pc := 28) gX 99 dX4_again_28 (by decide) ?_
      refine z_icmp_eq (pc := 30) gX 36 dX4_again_30 (by decide) (fun c30 => ?_) (fun c30 => ?_)
      · skip
        refine z_aload_n (pc := 36) gX 0 dX4_again_36 rfl rfl ?_
        refine z_cMV (pc := 37) gX hAX [] [] [0, 1, 2] [] (fun A1 => met_X4_keeps l D B0 A1 o ad x c pa kn (by first | assumption | omega) (by first | assumption | omega)) q1533 q1535 qs36 q54 q1536 (zm 0 rfl) (ci := 4) rfl rfl hd_X4_keeps ⟨rfl, rfl⟩ ⟨(Nat.le_of_ble_eq_true rfl), (Nat.le_of_ble_eq_true rfl)⟩ rfl rfl rfl rfl rfl (Nat.le_of_ble_eq_true rfl) ⟨(Nat.le_of_ble_eq_true rfl), (Nat.le_of_ble_eq_true rfl)⟩ dX4_again_37 ?_
        intro _ hu37
        refine z_re [0, 1, 2] [mOb o ad (kx x kn), [(ad 5, .inl (D.1 100, 25, .inl c))], [(ad 9, .inl (D.1 100, 384, .inl (mKeepP kn pa c)))]] rfl rfl ?_
        refine z_eq (lv₂ := [(0, .ref o), (1, .int (nI j)), (2, .int la)]) (st₂ := []) ?_ rfl rfl
        refine z_aload_n (pc := 40) gX 0 dX4_again_40 rfl rfl ?_
        refine z_get (pc := 41) gX (zI_ok gX hAX) (zm 0 rfl) (ci := 4) (C := RX4) (T := TX4) (N := 20) rfl in_X4 8 (by decide) q1391 (fun _ h => h) (v := .ref (ad 5)) rfl dX4_again_41 ?_
        refine z_iconst (pc := 44) gX 2 dX4_again_44 (by decide) ?_
        refine z_iload_n (pc := 45) gX 1 dX4_again_45 rfl rfl ?_
        refine z_iadd (pc := 46) gX dX4_again_46 ?_
        refine z_top (nI (2 + j)) (nI_add 2 j) ?_
        refine z_iconst (pc := 47) gX (-1) dX4_again_47 (by decide) ?_
        refine z_iast (pc := 48) gX hAX 1 (j := (2 + j)) (n := 25) (f := c) rfl (by omega) (by decide) [mOb o ad (kx x kn), [(ad 5, .inl (D.1 100, 25, .inl (upd c (2 + j) (-1))))], [(ad 9, .inl (D.1 100, 384, .inl (mKeepP kn pa c)))]] rfl dX4_again_48 ?_
        refine z_aload_n (pc := 49) gX 0 dX4_again_49 rfl rfl ?_
        refine z_get (pc := 50) gX (zI_ok gX hAX) (zm 0 rfl) (ci := 4) (C := RX4) (T := TX4) (N := 20) rfl in_X4 8 (by decide) q1391 (fun _ h => h) (v := .ref (ad 5)) rfl dX4_again_50 ?_
        refine z_bipush (pc := 53) gX 9 dX4_again_53 (by decide) ?_
        refine z_iload_n (pc := 55) gX 1 dX4_again_55 rfl rfl ?_
        refine z_iadd (pc := 56) gX dX4_again_56 ?_
        refine z_top (nI (9 + j)) (nI_add 9 j) ?_
        refine z_iload_n (pc := 57) gX 2 dX4_again_57 rfl rfl ?_
        refine z_iast (pc := 58) gX hAX 1 (j := (9 + j)) (n := 25) (f := (upd c (2 + j) (-1))) rfl (by omega) (by decide) [mOb o ad (kx x kn), [(ad 5, .inl (D.1 100, 25, .inl (upd (upd c (2 + j) (-1)) (9 + j) la)))], [(ad 9, .inl (D.1 100, 384, .inl (mKeepP kn pa c)))]] rfl dX4_again_58 ?_
        refine z_aload_n (pc := 59) gX 0 dX4_again_59 rfl rfl ?_
        refine z_get (pc := 60) gX (zI_ok gX hAX) (zm 0 rfl) (ci := 4) (C := RX4) (T := TX4) (N := 20) rfl in_X4 8 (by decide) q1391 (fun _ h => h) (v := .ref (ad 5)) rfl dX4_again_60 ?_
        refine z_cOS (pc := 63) gX (zI_ok gX hAX) [.ref (ad 5)] [] [1] (met_X4_offIn l D B0 (ad 5) (upd (upd c (2 + j) (-1)) (9 + j) la) n (by rw [pk_un (by omega), pk_un (by omega)]; exact hn) (by first | assumption | omega)) q1553 q1554 q54 q1555 hd_X4_offIn ⟨rfl, rfl⟩ ⟨(Nat.le_of_ble_eq_true rfl), (Nat.le_of_ble_eq_true rfl)⟩ rfl rfl rfl (Nat.le_of_ble_eq_true rfl) ⟨(Nat.le_of_ble_eq_true rfl), (Nat.le_of_ble_eq_true rfl)⟩ dX4_again_63 ?_
        intro _ hu63
        refine z_eq (lv₂ := [(0, .ref o), (1, .int (nI j)), (2, .int la)]) (st₂ := [.int (nI (cntV (upd (upd c (2 + j) (-1)) (9 + j) la) 99 n))]) ?_ rfl rfl
        exact z_rim gX hQX (nI (cntV (upd (upd c (2 + j) (-1)) (9 + j) la) 99 n), kx x kn, mKeepP kn pa c, upd (upd c (2 + j) (-1)) (9 + j) la) (by simp [mAgain, k5, k14, c30, nI_clamp (show j < 2 ^ 31 by omega)]) rfl rfl (by first | decide | omega) (by first | decide | omega) dX4_again_66
      · skip
        refine z_ldc (pc := 33) gX q1532 dX4_again_33 ?_
        exact z_rim gX hQX ((-1000002), x, pa, c) (by simp [mAgain, k5, k14, c30, nI_clamp (show j < 2 ^ 31 by omega)]) rfl rfl (by first | decide | omega) (by first | decide | omega) dX4_again_35
    · skip
      have k14 : (mIn la 0 1) = false := bI_eq0 c14
      refine z_ldc (pc := 17) gX q1455 dX4_again_17 ?_
      exact z_rim gX hQX ((-1000001), x, pa, c) (by simp [mAgain, k5, k14]) rfl rfl (by first | decide | omega) (by first | decide | omega) dX4_again_19
theorem hd_X4_again : zHd yX4_again 2 := by unfold zHd; decide +kernel


theorem undo_s (pa c : Nat → Int32) (b i : Nat) : upd (fun q => if q < i then pa (b + q) else c q) i (pa (b + i)) = fun q => if q < i + 1 then pa (b + q) else c q := by
  funext q
  simp only [upd]
  by_cases h : q = i
  · rw [if_pos h, if_pos (by omega), h]
  · rw [if_neg h]
    by_cases h2 : q < i
    · rw [if_pos h2, if_pos (by omega)]
    · rw [if_neg h2, if_neg (by omega)]

set_option maxHeartbeats 4000000 in
theorem met_X4_undo (l : Launch) (D : va_G) (B0 : Nat) (A : Nat → Prop) (o : Nat) (ad : Nat → Nat) (x : Nat → Int32) (c : Nat → Int32) (pa : Nat → Int32) (kn : Nat) (hkn : x 3 = nI kn) (hkn24 : kn ≤ 24) : Met l yX4_undo (ws_ yX4_undo cX4_undo 2 (some .int)) (zRm 1 0 0) (va_Pc [.ref o] (zPre B0 D A [mOb o ad x, [(ad 5, .inl (D.1 100, 25, .inl c))], [(ad 9, .inl (D.1 100, 384, .inl pa))]])) (zQ (S := Int32 × (Nat → Int32) × (Nat → Int32)) (fun u => (fun (r_ : Int32) (x1 : Nat → Int32) (c1 : Nat → Int32) => (r_, x1, c1) = mUndo kn x pa c) u.1 u.2.1 u.2.2) (fun u => (fun (r_ : Int32) (x1 : Nat → Int32) (c1 : Nat → Int32) => some (.int r_)) u.1 u.2.1 u.2.2) (fun u => (fun (r_ : Int32) (x1 : Nat → Int32) (c1 : Nat → Int32) => [mOb o ad x1, [(ad 5, .inl (D.1 100, 25, .inl c1))], [(ad 9, .inl (D.1 100, 384, .inl pa))]]) u.1 u.2.1 u.2.2) D A) 0 0 A := by
  refine z_entry (by decide +kernel) (Nat.le_of_ble_eq_true rfl) (fun pX eX sX mX argsX blX mtX cX QX hQX gX hAX hnm => ?_)
  refine z_eq (lv₂ := [(0, .ref o)]) (st₂ := []) ?_ rfl rfl
  refine z_aload_n (pc := 0) gX 0 dX4_undo_0 rfl rfl ?_
  refine z_get (pc := 1) gX (zI_ok gX hAX) (zm 0 rfl) (ci := 4) (C := RX4) (T := TX4) (N := 20) rfl in_X4 13 (by decide) q1396 (fun _ h => h) (v := .int (x 3)) rfl dX4_undo_1 ?_
  refine z_top (nI kn) hkn ?_
  refine z_if_ne (pc := 4) gX 10 dX4_undo_4 (by decide) (fun c4 => ?_) (fun c4 => ?_)
  · skip
    obtain ⟨k1, rfl⟩ : ∃ k1, kn = k1 + 1 := ⟨kn - 1, by rcases Nat.eq_zero_or_pos kn with h | h; exact absurd (by rw [h]; rfl) c4; omega⟩
    refine z_aload_n (pc := 10) gX 0 dX4_undo_10 rfl rfl ?_
    refine z_dup (pc := 11) gX dX4_undo_11 rfl ?_
    refine z_get (pc := 12) gX (zI_ok gX hAX) (zm 0 rfl) (ci := 4) (C := RX4) (T := TX4) (N := 20) rfl in_X4 13 (by decide) q1396 (fun _ h => h) (v := .int (x 3)) rfl dX4_undo_12 ?_
    refine z_top (nI (k1 + 1)) hkn ?_
    refine z_iconst (pc := 15) gX 1 dX4_undo_15 (by decide) ?_
    refine z_isub (pc := 16) gX dX4_undo_16 ?_
    refine z_top (nI k1) (nI_pred _) ?_
    refine z_put (pc := 17) gX hAX 0 rfl (ci := 4) (C := RX4) (T := TX4) (N := 20) rfl in_X4 tyX4 tyX4_ok nmX4 13 (by decide) q1396 (fun _ h => h) rfl (v := .int (nI k1)) rfl rfl (Nat.le_of_ble_eq_true rfl) [mOb o ad (upd x 3 (nI k1)), [(ad 5, .inl (D.1 100, 25, .inl c))], [(ad 9, .inl (D.1 100, 384, .inl pa))]] rfl dX4_undo_17 ?_
    refine z_iconst (pc := 20) gX 0 dX4_undo_20 (by decide) ?_
    refine z_istore_n (pc := 21) gX [1, 0] [(0, .ref o), (1, .int 0)] dX4_undo_21 rfl (by decide) rfl ?_
    have L22 : ∀ (n22 : Nat) (i : Nat) (f : Nat → Int32), (i ≤ 16) → (f = fun q => if q < i then pa (16 * k1 + q) else c q) → 16 - i < n22 → zJ pX l eX (zRm 1 0 0) sX mX argsX blX mtX cX QX 2 (zI D A sX [mOb o ad (upd x 3 (nI k1)), [(ad 5, .inl (D.1 100, 25, .inl f))], [(ad 9, .inl (D.1 100, 384, .inl pa))]]) 0 0 22 [(0, .ref o), (1, .int (nI i))] [] := by
      intro n22
      induction n22 with
      | zero => exact fun i f hi hf hm22 => absurd hm22 (Nat.not_lt_zero _)
      | succ n22 ih22 =>
        intro i f hi hf hm22
        refine z_iload_n (pc := 22) gX 1 dX4_undo_22 rfl rfl ?_
        refine z_bipush (pc := 23) gX 16 dX4_undo_23 (by decide) ?_
        refine z_icmp_ge (pc := 25) gX 54 dX4_undo_25 (by decide) (fun c25 => ?_) (fun c25 => ?_)
        · skip
          have k25 : 16 ≤ i := (zn_le (a := 16) (b := i) (by omega) (by omega)).mp c25
          refine z_aload_n (pc := 54) gX 0 dX4_undo_54 rfl rfl ?_
          refine z_get (pc := 55) gX (zI_ok gX hAX) (zm 0 rfl) (ci := 4) (C := RX4) (T := TX4) (N := 20) rfl in_X4 13 (by decide) q1396 (fun _ h => h) (v := .int (nI k1)) rfl dX4_undo_55 ?_
          exact z_rim gX hQX (nI k1, upd x 3 (nI k1), f) (by rw [hf, show i = 16 by omega]; rfl) rfl rfl (by first | decide | omega) (by first | decide | omega) dX4_undo_58
        · skip
          have k25 : i < 16 := (zn_nle (a := 16) (b := i) (by omega) (by omega)).mp c25
          refine z_aload_n (pc := 28) gX 0 dX4_undo_28 rfl rfl ?_
          refine z_get (pc := 29) gX (zI_ok gX hAX) (zm 0 rfl) (ci := 4) (C := RX4) (T := TX4) (N := 20) rfl in_X4 8 (by decide) q1391 (fun _ h => h) (v := .ref (ad 5)) rfl dX4_undo_29 ?_
          refine z_iload_n (pc := 32) gX 1 dX4_undo_32 rfl rfl ?_
          refine z_aload_n (pc := 33) gX 0 dX4_undo_33 rfl rfl ?_
          refine z_get (pc := 34) gX (zI_ok gX hAX) (zm 0 rfl) (ci := 4) (C := RX4) (T := TX4) (N := 20) rfl in_X4 12 (by decide) q1395 (fun _ h => h) (v := .ref (ad 9)) rfl dX4_undo_34 ?_
          refine z_bipush (pc := 37) gX 16 dX4_undo_37 (by decide) ?_
          refine z_aload_n (pc := 39) gX 0 dX4_undo_39 rfl rfl ?_
          refine z_get (pc := 40) gX (zI_ok gX hAX) (zm 0 rfl) (ci := 4) (C := RX4) (T := TX4) (N := 20) rfl in_X4 13 (by decide) q1396 (fun _ h => h) (v := .int (nI k1)) rfl dX4_undo_40 ?_
          refine z_imul (pc := 43) gX dX4_undo_43 ?_
          refine z_top (nI (16 * k1)) (pk_mul 16 k1) ?_
          refine z_iload_n (pc := 44) gX 1 dX4_undo_44 rfl rfl ?_
          refine z_iadd (pc := 45) gX dX4_undo_45 ?_
          refine z_top (nI (16 * k1 + i)) (nI_add (16 * k1) i) ?_
          refine z_iald (pc := 46) gX (zI_ok gX hAX) (j := (16 * k1 + i)) (n := 384) (f := pa) (zm 2 rfl) (by omega) (by decide) dX4_undo_46 ?_
          refine z_iast (pc := 47) gX hAX 1 (j := i) (n := 25) (f := f) rfl (by omega) (by decide) [mOb o ad (upd x 3 (nI k1)), [(ad 5, .inl (D.1 100, 25, .inl (upd f i (pa (16 * k1 + i)))))], [(ad 9, .inl (D.1 100, 384, .inl pa))]] rfl dX4_undo_47 ?_
          refine z_iinc (pc := 48) gX 1 (nI (i + 1)) [1, 0] [(0, .ref o), (1, .int (nI (i + 1)))] dX4_undo_48 rfl (nI_1 _) (by decide) rfl ?_
          refine z_goto (pc := 51) gX 22 dX4_undo_51 (by decide) ?_
          exact ih22 (i + 1) (upd f i (pa (16 * k1 + i))) (by omega) (by rw [hf]; exact undo_s _ _ _ _) (by omega)
    exact L22 ((16 - 0) + 1) 0 c (by omega) (by funext q; simp) (Nat.lt_succ_self _)
  · skip
    have hk0 : kn = 0 := (zn_eq (a := kn) (b := 0) (by omega) (by omega)).mp c4
    refine z_ldc (pc := 7) gX q1532 dX4_undo_7 ?_
    exact z_rim gX hQX ((-1000002), x, c) (by simp [mUndo, hk0]) rfl rfl (by first | decide | omega) (by first | decide | omega) dX4_undo_9
theorem hd_X4_undo : zHd yX4_undo 0 := by unfold zHd; decide +kernel

set_option maxHeartbeats 4000000 in
theorem met_X4_rider (l : Launch) (D : va_G) (B0 : Nat) (o : Nat) (ad : Nat → Nat) (x : Nat → Int32) (c : Nat → Int32) (n : Nat) (r : Int32) (w : Int32) (hn : c 17 = nI n) (hn7 : n ≤ 7) : Met l yX4_rider (ws_ yX4_rider cX4_rider 4 (some .int)) (zRm 3 0 0) (va_Pc [.ref o, .int r, .int w] (zPreO B0 D [mOb o ad x, [(ad 5, .inl (D.1 100, 25, .inl c))]])) (zQo (S := Unit) (fun _ => True) (fun _ => some (.int (mRider n c r w)))) 0 0 (fun _ => False) := by
  refine z_entryo (by decide +kernel) (Nat.le_of_ble_eq_true rfl) (fun pX eX sX mX argsX blX mtX cX QX hQX gX => ?_)
  refine z_eq (lv₂ := [(0, .ref o), (1, .int r), (2, .int w)]) (st₂ := []) ?_ rfl rfl
  refine z_aload_n (pc := 0) gX 0 dX4_rider_0 rfl rfl ?_
  refine z_iload_n (pc := 1) gX 1 dX4_rider_1 rfl rfl ?_
  refine z_cOV (pc := 2) gX (zIo_ok gX) [.int r] [] [0, 1] (met_X4_isRider l D B0 o ad x c r ) q1564 q1566 qs38 q54 q1567 (zm 0 rfl) (ci := 4) rfl rfl hd_X4_isRider ⟨rfl, rfl⟩ ⟨(Nat.le_of_ble_eq_true rfl), (Nat.le_of_ble_eq_true rfl)⟩ rfl rfl rfl (Nat.le_of_ble_eq_true rfl) ⟨(Nat.le_of_ble_eq_true rfl), (Nat.le_of_ble_eq_true rfl)⟩ dX4_rider_2 ?_
  intro _ hu2
  refine z_eq (lv₂ := [(0, .ref o), (1, .int r), (2, .int w)]) (st₂ := [.int (bI (mIn r 0 (c 17 - 1)))]) ?_ rfl rfl
  refine z_if_ne (pc := 5) gX 11 dX4_rider_5 (by decide) (fun c5 => ?_) (fun c5 => ?_)
  · skip
    have k5 : (mIn r 0 (c 17 - 1)) = true := bI_ne0 c5
    obtain ⟨j, hjn, rfl⟩ := riderN k5 hn hn7
    refine z_aload_n (pc := 11) gX 0 dX4_rider_11 rfl rfl ?_
    refine z_get (pc := 12) gX (zIo_ok gX) (zm 0 rfl) (ci := 4) (C := RX4) (T := TX4) (N := 20) rfl in_X4 8 (by decide) q1391 (fun _ h => h) (v := .ref (ad 5)) rfl dX4_rider_12 ?_
    refine z_iconst (pc := 15) gX 2 dX4_rider_15 (by decide) ?_
    refine z_iload_n (pc := 16) gX 1 dX4_rider_16 rfl rfl ?_
    refine z_iadd (pc := 17) gX dX4_rider_17 ?_
    refine z_top (nI (2 + j)) (nI_add 2 j) ?_
    refine z_iald (pc := 18) gX (zIo_ok gX) (j := (2 + j)) (n := 25) (f := c) (zm 1 rfl) (by omega) (by decide) dX4_rider_18 ?_
    refine z_istore_n (pc := 19) gX [1, 2, 3, 0] [(0, .ref o), (1, .int (nI j)), (2, .int w), (3, .int (c (2 + j)))] dX4_rider_19 rfl (by decide) rfl ?_
    refine z_iload_n (pc := 20) gX 2 dX4_rider_20 rfl rfl ?_
    by_cases c21_0 : w = 0
    · refine z_tableIn (pc := 21) gX 52 dX4_rider_21 (by rw [c21_0]; decide) (by rw [c21_0]; decide) (by rw [c21_0]; rfl) (by decide) ?_
      refine z_iload_n (pc := 52) gX 3 dX4_rider_52 rfl rfl ?_
      exact z_rio gX hQX (by simp [mRider, k5, c21_0, nI_clamp (show j < 2 ^ 31 by omega)]) dX4_rider_53
    by_cases c21_1 : w = 1
    · refine z_tableIn (pc := 21) gX 54 dX4_rider_21 (by rw [c21_1]; decide) (by rw [c21_1]; decide) (by rw [c21_1]; rfl) (by decide) ?_
      refine z_aload_n (pc := 54) gX 0 dX4_rider_54 rfl rfl ?_
      refine z_get (pc := 55) gX (zIo_ok gX) (zm 0 rfl) (ci := 4) (C := RX4) (T := TX4) (N := 20) rfl in_X4 8 (by decide) q1391 (fun _ h => h) (v := .ref (ad 5)) rfl dX4_rider_55 ?_
      refine z_bipush (pc := 58) gX 9 dX4_rider_58 (by decide) ?_
      refine z_iload_n (pc := 60) gX 1 dX4_rider_60 rfl rfl ?_
      refine z_iadd (pc := 61) gX dX4_rider_61 ?_
      refine z_top (nI (9 + j)) (nI_add 9 j) ?_
      refine z_iald (pc := 62) gX (zIo_ok gX) (j := (9 + j)) (n := 25) (f := c) (zm 1 rfl) (by omega) (by decide) dX4_rider_62 ?_
      exact z_rio gX hQX (by simp [mRider, k5, c21_1, nI_clamp (show j < 2 ^ 31 by omega)]) dX4_rider_63
    by_cases c21_2 : w = 2
    · refine z_tableIn (pc := 21) gX 64 dX4_rider_21 (by rw [c21_2]; decide) (by rw [c21_2]; decide) (by rw [c21_2]; rfl) (by decide) ?_
      refine z_aload_n (pc := 64) gX 0 dX4_rider_64 rfl rfl ?_
      refine z_get (pc := 65) gX (zIo_ok gX) (zm 0 rfl) (ci := 4) (C := RX4) (T := TX4) (N := 20) rfl in_X4 8 (by decide) q1391 (fun _ h => h) (v := .ref (ad 5)) rfl dX4_rider_65 ?_
      refine z_bipush (pc := 68) gX 18 dX4_rider_68 (by decide) ?_
      refine z_iload_n (pc := 70) gX 1 dX4_rider_70 rfl rfl ?_
      refine z_iadd (pc := 71) gX dX4_rider_71 ?_
      refine z_top (nI (18 + j)) (nI_add 18 j) ?_
      refine z_iald (pc := 72) gX (zIo_ok gX) (j := (18 + j)) (n := 25) (f := c) (zm 1 rfl) (by omega) (by decide) dX4_rider_72 ?_
      refine z_iconst (pc := 73) gX 4 dX4_rider_73 (by decide) ?_
      refine z_icmp_lt (pc := 74) gX 81 dX4_rider_74 (by decide) (fun c74 => ?_) (fun c74 => ?_)
      · skip
        refine z_iconst (pc := 81) gX 0 dX4_rider_81 (by decide) ?_
        exact z_rio gX hQX (by simp [mRider, k5, c21_2, nI_clamp (show j < 2 ^ 31 by omega), c74]) dX4_rider_82
      · skip
        refine z_iconst (pc := 77) gX 1 dX4_rider_77 (by decide) ?_
        refine z_goto (pc := 78) gX 82 dX4_rider_78 (by decide) ?_
        exact z_rio gX hQX (by simp [mRider, k5, c21_2, nI_clamp (show j < 2 ^ 31 by omega), c74]) dX4_rider_82
    by_cases c21_3 : w = 3
    · refine z_tableIn (pc := 21) gX 83 dX4_rider_21 (by rw [c21_3]; decide) (by rw [c21_3]; decide) (by rw [c21_3]; rfl) (by decide) ?_
      refine z_iload_n (pc := 83) gX 3 dX4_rider_83 rfl rfl ?_
      refine z_cOS (pc := 84) gX (zIo_ok gX) [.int (c (2 + j))] [] [] (met_X4_isOn l D B0 (c (2 + j)) ) q1550 q1551 q54 q1552 hd_X4_isOn ⟨rfl, rfl⟩ ⟨(Nat.le_of_ble_eq_true rfl), (Nat.le_of_ble_eq_true rfl)⟩ rfl rfl rfl (Nat.le_of_ble_eq_true rfl) ⟨(Nat.le_of_ble_eq_true rfl), (Nat.le_of_ble_eq_true rfl)⟩ dX4_rider_84 ?_
      intro _ hu84
      refine z_eq (lv₂ := [(0, .ref o), (1, .int (nI j)), (2, .int w), (3, .int (c (2 + j)))]) (st₂ := [.int (bI (mOn (c (2 + j))))]) ?_ rfl rfl
      refine z_if_eq (pc := 87) gX 130 dX4_rider_87 (by decide) (fun c87 => ?_) (fun c87 => ?_)
      · skip
        have k87 : (mOn (c (2 + j))) = false := bI_eq0 c87
        refine z_iconst (pc := 130) gX 0 dX4_rider_130 (by decide) ?_
        exact z_rio gX hQX (by simp only [mRider, k5, if_true, c21_3, nI_clamp (show j < 2 ^ 31 by omega)]; grind [bI]) dX4_rider_131
      · skip
        have k87 : (mOn (c (2 + j))) = true := bI_ne0 c87
        refine z_iload_n (pc := 90) gX 3 dX4_rider_90 rfl rfl ?_
        refine z_aload_n (pc := 91) gX 0 dX4_rider_91 rfl rfl ?_
        refine z_get (pc := 92) gX (zIo_ok gX) (zm 0 rfl) (ci := 4) (C := RX4) (T := TX4) (N := 20) rfl in_X4 8 (by decide) q1391 (fun _ h => h) (v := .ref (ad 5)) rfl dX4_rider_92 ?_
        refine z_bipush (pc := 95) gX 16 dX4_rider_95 (by decide) ?_
        refine z_top (nI 16) rfl ?_
        refine z_iald (pc := 97) gX (zIo_ok gX) (j := 16) (n := 25) (f := c) (zm 1 rfl) (by omega) (by decide) dX4_rider_97 ?_
        refine z_iconst (pc := 98) gX 1 dX4_rider_98 (by decide) ?_
        refine z_isub (pc := 99) gX dX4_rider_99 ?_
        refine z_icmp_ge (pc := 100) gX 130 dX4_rider_100 (by decide) (fun c100 => ?_) (fun c100 => ?_)
        · skip
          refine z_iconst (pc := 130) gX 0 dX4_rider_130 (by decide) ?_
          exact z_rio gX hQX (by simp only [mRider, k5, if_true, c21_3, nI_clamp (show j < 2 ^ 31 by omega)]; grind [bI]) dX4_rider_131
        · skip
          refine z_aload_n (pc := 103) gX 0 dX4_rider_103 rfl rfl ?_
          refine z_get (pc := 104) gX (zIo_ok gX) (zm 0 rfl) (ci := 4) (C := RX4) (T := TX4) (N := 20) rfl in_X4 8 (by decide) q1391 (fun _ h => h) (v := .ref (ad 5)) rfl dX4_rider_104 ?_
          refine z_iload_n (pc := 107) gX 1 dX4_rider_107 rfl rfl ?_
          refine z_iload_n (pc := 108) gX 3 dX4_rider_108 rfl rfl ?_
          refine z_iconst (pc := 109) gX 1 dX4_rider_109 (by decide) ?_
          refine z_iadd (pc := 110) gX dX4_rider_110 ?_
          refine z_aload_n (pc := 111) gX 0 dX4_rider_111 rfl rfl ?_
          refine z_get (pc := 112) gX (zIo_ok gX) (zm 0 rfl) (ci := 4) (C := RX4) (T := TX4) (N := 20) rfl in_X4 8 (by decide) q1391 (fun _ h => h) (v := .ref (ad 5)) rfl dX4_rider_112 ?_
          refine z_bipush (pc := 115) gX 9 dX4_rider_115 (by decide) ?_
          refine z_iload_n (pc := 117) gX 1 dX4_rider_117 rfl rfl ?_
          refine z_iadd (pc := 118) gX dX4_rider_118 ?_
          refine z_top (nI (9 + j)) (nI_add 9 j) ?_
          refine z_iald (pc := 119) gX (zIo_ok gX) (j := (9 + j)) (n := 25) (f := c) (zm 1 rfl) (by omega) (by decide) dX4_rider_119 ?_
          refine z_cOS (pc := 120) gX (zIo_ok gX) [.ref (ad 5), .int (nI j), .int ((c (2 + j)) + 1), .int (c (9 + j))] [] [1] (met_X4_isFree l D B0 (ad 5) c n j ((c (2 + j)) + 1) (c (9 + j)) (by first | assumption | omega) (by first | assumption | omega) (by first | assumption | omega)) q1547 q1548 q54 q1549 hd_X4_isFree ⟨rfl, rfl⟩ ⟨(Nat.le_of_ble_eq_true rfl), (Nat.le_of_ble_eq_true rfl)⟩ rfl rfl rfl (Nat.le_of_ble_eq_true rfl) ⟨(Nat.le_of_ble_eq_true rfl), (Nat.le_of_ble_eq_true rfl)⟩ dX4_rider_120 ?_
          intro _ hu120
          refine z_eq (lv₂ := [(0, .ref o), (1, .int (nI j)), (2, .int w), (3, .int (c (2 + j)))]) (st₂ := [.int (bI (mFreeTo c j ((c (2 + j)) + 1) (c (9 + j)) n))]) ?_ rfl rfl
          refine z_if_eq (pc := 123) gX 130 dX4_rider_123 (by decide) (fun c123 => ?_) (fun c123 => ?_)
          · skip
            have k123 : (mFreeTo c j ((c (2 + j)) + 1) (c (9 + j)) n) = false := bI_eq0 c123
            refine z_iconst (pc := 130) gX 0 dX4_rider_130 (by decide) ?_
            exact z_rio gX hQX (by simp only [mRider, k5, if_true, c21_3, nI_clamp (show j < 2 ^ 31 by omega)]; grind [bI]) dX4_rider_131
          · skip
            have k123 : (mFreeTo c j ((c (2 + j)) + 1) (c (9 + j)) n) = true := bI_ne0 c123
            refine z_iconst (pc := 126) gX 1 dX4_rider_126 (by decide) ?_
            refine z_goto (pc := 127) gX 131 dX4_rider_127 (by decide) ?_
            exact z_rio gX hQX (by simp only [mRider, k5, if_true, c21_3, nI_clamp (show j < 2 ^ 31 by omega)]; grind [bI]) dX4_rider_131
    have t21_0 : ¬ w.toInt = 0 := lv_neT c21_0 (by decide)
    have t21_1 : ¬ w.toInt = 1 := lv_neT c21_1 (by decide)
    have t21_2 : ¬ w.toInt = 2 := lv_neT c21_2 (by decide)
    have t21_3 : ¬ w.toInt = 3 := lv_neT c21_3 (by decide)
    refine z_tableOut (pc := 21) gX 132 dX4_rider_21 (by omega) (by decide) ?_
    refine z_ldc (pc := 132) gX q1455 dX4_rider_132 ?_
    exact z_rio gX hQX (by simp [mRider, k5, c21_0, c21_1, c21_2, c21_3]) dX4_rider_134
  · skip
    have k5 : (mIn r 0 (c 17 - 1)) = false := bI_eq0 c5
    refine z_ldc (pc := 8) gX q1455 dX4_rider_8 ?_
    exact z_rio gX hQX (by simp [mRider, k5]) dX4_rider_10
theorem hd_X4_rider : zHd yX4_rider 2 := by unfold zHd; decide +kernel

set_option maxHeartbeats 4000000 in
theorem met_X4_step (l : Launch) (D : va_G) (B0 : Nat) (o : Nat) (ad : Nat → Nat) (x : Nat → Int32) (c : Nat → Int32) (n : Nat) (p : Int32) (la : Int32) (hn : c 17 = nI n) (hn7 : n ≤ 7) : Met l yX4_step (ws_ yX4_step cX4_step 6 (some .int)) (zRm 2 0 0) (va_Pc [.ref o, .int p, .int la] (zPreO B0 D [mOb o ad x, [(ad 5, .inl (D.1 100, 25, .inl c))]])) (zQo (S := Unit) (fun _ => True) (fun _ => some (.int (mStep n c p la)))) 0 0 (fun _ => False) := by
  refine z_entryo (by decide +kernel) (Nat.le_of_ble_eq_true rfl) (fun pX eX sX mX argsX blX mtX cX QX hQX gX => ?_)
  refine z_eq (lv₂ := [(0, .ref o), (1, .int p), (2, .int la)]) (st₂ := []) ?_ rfl rfl
  refine z_iload_n (pc := 0) gX 1 dX4_step_0 rfl rfl ?_
  refine z_iconst (pc := 1) gX 0 dX4_step_1 (by decide) ?_
  refine z_aload_n (pc := 2) gX 0 dX4_step_2 rfl rfl ?_
  refine z_get (pc := 3) gX (zIo_ok gX) (zm 0 rfl) (ci := 4) (C := RX4) (T := TX4) (N := 20) rfl in_X4 8 (by decide) q1391 (fun _ h => h) (v := .ref (ad 5)) rfl dX4_step_3 ?_
  refine z_bipush (pc := 6) gX 16 dX4_step_6 (by decide) ?_
  refine z_top (nI 16) rfl ?_
  refine z_iald (pc := 8) gX (zIo_ok gX) (j := 16) (n := 25) (f := c) (zm 1 rfl) (by omega) (by decide) dX4_step_8 ?_
  refine z_iconst (pc := 9) gX 1 dX4_step_9 (by decide) ?_
  refine z_isub (pc := 10) gX dX4_step_10 ?_
  refine z_cOS (pc := 11) gX (zIo_ok gX) [.int p, .int 0, .int ((c 16) - 1)] [] [] (met_X4_in l D B0 p 0 ((c 16) - 1) ) q1452 q1453 q54 q1454 hd_X4_in ⟨rfl, rfl⟩ ⟨(Nat.le_of_ble_eq_true rfl), (Nat.le_of_ble_eq_true rfl)⟩ rfl rfl rfl (Nat.le_of_ble_eq_true rfl) ⟨(Nat.le_of_ble_eq_true rfl), (Nat.le_of_ble_eq_true rfl)⟩ dX4_step_11 ?_
  intro _ hu11
  refine z_eq (lv₂ := [(0, .ref o), (1, .int p), (2, .int la)]) (st₂ := [.int (bI (mIn p 0 ((c 16) - 1)))]) ?_ rfl rfl
  refine z_if_eq (pc := 14) gX 26 dX4_step_14 (by decide) (fun c14 => ?_) (fun c14 => ?_)
  · skip
    have k14 : (mIn p 0 ((c 16) - 1)) = false := bI_eq0 c14
    refine z_ldc (pc := 26) gX q1455 dX4_step_26 ?_
    exact z_rio gX hQX (by simp [mStep, k14]) dX4_step_28
  · skip
    have k14 : (mIn p 0 ((c 16) - 1)) = true := bI_ne0 c14
    refine z_iload_n (pc := 17) gX 2 dX4_step_17 rfl rfl ?_
    refine z_iconst (pc := 18) gX 0 dX4_step_18 (by decide) ?_
    refine z_iconst (pc := 19) gX 1 dX4_step_19 (by decide) ?_
    refine z_cOS (pc := 20) gX (zIo_ok gX) [.int la, .int 0, .int 1] [] [] (met_X4_in l D B0 la 0 1 ) q1452 q1453 q54 q1454 hd_X4_in ⟨rfl, rfl⟩ ⟨(Nat.le_of_ble_eq_true rfl), (Nat.le_of_ble_eq_true rfl)⟩ rfl rfl rfl (Nat.le_of_ble_eq_true rfl) ⟨(Nat.le_of_ble_eq_true rfl), (Nat.le_of_ble_eq_true rfl)⟩ dX4_step_20 ?_
    intro _ hu20
    refine z_eq (lv₂ := [(0, .ref o), (1, .int p), (2, .int la)]) (st₂ := [.int (bI (mIn la 0 1))]) ?_ rfl rfl
    refine z_if_ne (pc := 23) gX 29 dX4_step_23 (by decide) (fun c23 => ?_) (fun c23 => ?_)
    · skip
      have k23 : (mIn la 0 1) = true := bI_ne0 c23
      refine z_iconst (pc := 29) gX 0 dX4_step_29 (by decide) ?_
      refine z_istore_n (pc := 30) gX [1, 2, 3, 0] [(0, .ref o), (1, .int p), (2, .int la), (3, .int 0)] dX4_step_30 rfl (by decide) rfl ?_
      refine z_iconst (pc := 31) gX 0 dX4_step_31 (by decide) ?_
      refine z_istore (pc := 32) gX [1, 2, 3, 4, 0] [(0, .ref o), (1, .int p), (2, .int la), (3, .int 0), (4, .int 0)] dX4_step_32 (by decide) rfl ?_
      have L34 : ∀ (n34 : Nat) (r : Nat) (v : Int32), (r ≤ n) → (v = orF (stepF c p la) r) → n - r < n34 → zJ pX l eX (zRm 2 0 0) sX mX argsX blX mtX cX QX 6 (zIo D sX [mOb o ad x, [(ad 5, .inl (D.1 100, 25, .inl c))]]) 0 0 34 [(0, .ref o), (1, .int p), (2, .int la), (3, .int v), (4, .int (nI r))] [] := by
        intro n34
        induction n34 with
        | zero => exact fun r v hr hv hm34 => absurd hm34 (Nat.not_lt_zero _)
        | succ n34 ih34 =>
          intro r v hr hv hm34
          refine z_iload (pc := 34) gX 4 dX4_step_34 rfl ?_
          refine z_aload_n (pc := 36) gX 0 dX4_step_36 rfl rfl ?_
          refine z_get (pc := 37) gX (zIo_ok gX) (zm 0 rfl) (ci := 4) (C := RX4) (T := TX4) (N := 20) rfl in_X4 8 (by decide) q1391 (fun _ h => h) (v := .ref (ad 5)) rfl dX4_step_37 ?_
          refine z_bipush (pc := 40) gX 17 dX4_step_40 (by decide) ?_
          refine z_top (nI 17) rfl ?_
          refine z_iald (pc := 42) gX (zIo_ok gX) (j := 17) (n := 25) (f := c) (zm 1 rfl) (by omega) (by decide) dX4_step_42 ?_
          refine z_top (nI n) hn ?_
          refine z_icmp_ge (pc := 43) gX 116 dX4_step_43 (by decide) (fun c43 => ?_) (fun c43 => ?_)
          · skip
            have k43 : n ≤ r := (zn_le (a := n) (b := r) (by omega) (by omega)).mp c43
            refine z_iload_n (pc := 116) gX 3 dX4_step_116 rfl rfl ?_
            exact z_rio gX hQX (by rw [hv, show r = n by omega]; simp [mStep, k14, k23]) dX4_step_117
          · skip
            have k43 : r < n := (zn_nle (a := n) (b := r) (by omega) (by omega)).mp c43
            refine z_aload_n (pc := 46) gX 0 dX4_step_46 rfl rfl ?_
            refine z_get (pc := 47) gX (zIo_ok gX) (zm 0 rfl) (ci := 4) (C := RX4) (T := TX4) (N := 20) rfl in_X4 8 (by decide) q1391 (fun _ h => h) (v := .ref (ad 5)) rfl dX4_step_47 ?_
            refine z_iconst (pc := 50) gX 2 dX4_step_50 (by decide) ?_
            refine z_iload (pc := 51) gX 4 dX4_step_51 rfl ?_
            refine z_iadd (pc := 53) gX dX4_step_53 ?_
            refine z_top (nI (2 + r)) (nI_add 2 r) ?_
            refine z_iald (pc := 54) gX (zIo_ok gX) (j := (2 + r)) (n := 25) (f := c) (zm 1 rfl) (by omega) (by decide) dX4_step_54 ?_
            refine z_iload_n (pc := 55) gX 1 dX4_step_55 rfl rfl ?_
            refine z_icmp_ne (pc := 56) gX 91 dX4_step_56 (by decide) (fun c56 => ?_) (fun c56 => ?_)
            · skip
              refine z_iconst (pc := 91) gX 0 dX4_step_91 (by decide) ?_
              refine z_istore (pc := 92) gX [1, 2, 3, 4, 5, 0] [(0, .ref o), (1, .int p), (2, .int la), (3, .int v), (4, .int (nI r)), (5, .int 0)] dX4_step_92 (by decide) rfl ?_
              refine z_iload_n (pc := 94) gX 3 dX4_step_94 rfl rfl ?_
              refine z_iload (pc := 95) gX 5 dX4_step_95 rfl ?_
              refine z_if_eq (pc := 97) gX 107 dX4_step_97 (by decide) (fun c97 => ?_) (fun c97 => ?_)
              · skip
                refine z_iconst (pc := 107) gX 0 dX4_step_107 (by decide) ?_
                refine z_ior (pc := 108) gX dX4_step_108 ?_
                refine z_istore_n (pc := 109) gX [1, 2, 3, 0, 4, 5] [(0, .ref o), (1, .int p), (2, .int la), (3, .int (v ||| 0)), (4, .int (nI r)), (5, .int 0)] dX4_step_109 rfl (by decide) rfl ?_
                refine z_iinc (pc := 110) gX 4 (nI (r + 1)) [1, 2, 3, 4, 0, 5] [(0, .ref o), (1, .int p), (2, .int la), (3, .int (v ||| 0)), (4, .int (nI (r + 1))), (5, .int 0)] dX4_step_110 rfl (nI_1 _) (by decide) rfl ?_
                refine z_goto (pc := 113) gX 34 dX4_step_113 (by decide) ?_
                refine z_lv [0, 1, 2, 3, 4] [(0, .ref o), (1, .int p), (2, .int la), (3, .int (v ||| 0)), (4, .int (nI (r + 1)))] rfl ?_
                exact ih34 (r + 1) (v ||| 0) (by omega) (by simp only [orF]; rw [← hv]; congr 1; simp only [stepF]; grind) (by omega)
              · skip
                exact absurd c97 (by decide)
            · skip
              refine z_aload_n (pc := 59) gX 0 dX4_step_59 rfl rfl ?_
              refine z_get (pc := 60) gX (zIo_ok gX) (zm 0 rfl) (ci := 4) (C := RX4) (T := TX4) (N := 20) rfl in_X4 8 (by decide) q1391 (fun _ h => h) (v := .ref (ad 5)) rfl dX4_step_60 ?_
              refine z_bipush (pc := 63) gX 18 dX4_step_63 (by decide) ?_
              refine z_iload (pc := 65) gX 4 dX4_step_65 rfl ?_
              refine z_iadd (pc := 67) gX dX4_step_67 ?_
              refine z_top (nI (18 + r)) (nI_add 18 r) ?_
              refine z_iald (pc := 68) gX (zIo_ok gX) (j := (18 + r)) (n := 25) (f := c) (zm 1 rfl) (by omega) (by decide) dX4_step_68 ?_
              refine z_iconst (pc := 69) gX 4 dX4_step_69 (by decide) ?_
              refine z_icmp_ge (pc := 70) gX 87 dX4_step_70 (by decide) (fun c70 => ?_) (fun c70 => ?_)
              · skip
                refine z_iconst (pc := 87) gX 1 dX4_step_87 (by decide) ?_
                refine z_goto (pc := 88) gX 92 dX4_step_88 (by decide) ?_
                refine z_istore (pc := 92) gX [1, 2, 3, 4, 5, 0] [(0, .ref o), (1, .int p), (2, .int la), (3, .int v), (4, .int (nI r)), (5, .int 1)] dX4_step_92 (by decide) rfl ?_
                refine z_iload_n (pc := 94) gX 3 dX4_step_94 rfl rfl ?_
                refine z_iload (pc := 95) gX 5 dX4_step_95 rfl ?_
                refine z_if_eq (pc := 97) gX 107 dX4_step_97 (by decide) (fun c97 => ?_) (fun c97 => ?_)
                · skip
                  exact absurd c97 (by decide)
                · skip
                  refine z_iconst (pc := 100) gX 1 dX4_step_100 (by decide) ?_
                  refine z_iload (pc := 101) gX 4 dX4_step_101 rfl ?_
                  refine z_ishl (pc := 103) gX dX4_step_103 ?_
                  refine z_goto (pc := 104) gX 108 dX4_step_104 (by decide) ?_
                  refine z_ior (pc := 108) gX dX4_step_108 ?_
                  refine z_istore_n (pc := 109) gX [1, 2, 3, 0, 4, 5] [(0, .ref o), (1, .int p), (2, .int la), (3, .int (v ||| (1 <<< ((nI r) &&& 31)))), (4, .int (nI r)), (5, .int 1)] dX4_step_109 rfl (by decide) rfl ?_
                  refine z_iinc (pc := 110) gX 4 (nI (r + 1)) [1, 2, 3, 4, 0, 5] [(0, .ref o), (1, .int p), (2, .int la), (3, .int (v ||| (1 <<< ((nI r) &&& 31)))), (4, .int (nI (r + 1))), (5, .int 1)] dX4_step_110 rfl (nI_1 _) (by decide) rfl ?_
                  refine z_goto (pc := 113) gX 34 dX4_step_113 (by decide) ?_
                  refine z_lv [0, 1, 2, 3, 4] [(0, .ref o), (1, .int p), (2, .int la), (3, .int (v ||| (1 <<< ((nI r) &&& 31)))), (4, .int (nI (r + 1)))] rfl ?_
                  exact ih34 (r + 1) (v ||| (1 <<< ((nI r) &&& 31))) (by omega) (by simp only [orF]; rw [← hv]; congr 1; simp only [stepF]; grind) (by omega)
              · skip
                refine z_aload_n (pc := 73) gX 0 dX4_step_73 rfl rfl ?_
                refine z_get (pc := 74) gX (zIo_ok gX) (zm 0 rfl) (ci := 4) (C := RX4) (T := TX4) (N := 20) rfl in_X4 8 (by decide) q1391 (fun _ h => h) (v := .ref (ad 5)) rfl dX4_step_74 ?_
                refine z_bipush (pc := 77) gX 9 dX4_step_77 (by decide) ?_
                refine z_iload (pc := 79) gX 4 dX4_step_79 rfl ?_
                refine z_iadd (pc := 81) gX dX4_step_81 ?_
                refine z_top (nI (9 + r)) (nI_add 9 r) ?_
                refine z_iald (pc := 82) gX (zIo_ok gX) (j := (9 + r)) (n := 25) (f := c) (zm 1 rfl) (by omega) (by decide) dX4_step_82 ?_
                refine z_iload_n (pc := 83) gX 2 dX4_step_83 rfl rfl ?_
                refine z_icmp_ne (pc := 84) gX 91 dX4_step_84 (by decide) (fun c84 => ?_) (fun c84 => ?_)
                · skip
                  refine z_iconst (pc := 91) gX 0 dX4_step_91 (by decide) ?_
                  refine z_istore (pc := 92) gX [1, 2, 3, 4, 5, 0] [(0, .ref o), (1, .int p), (2, .int la), (3, .int v), (4, .int (nI r)), (5, .int 0)] dX4_step_92 (by decide) rfl ?_
                  refine z_iload_n (pc := 94) gX 3 dX4_step_94 rfl rfl ?_
                  refine z_iload (pc := 95) gX 5 dX4_step_95 rfl ?_
                  refine z_if_eq (pc := 97) gX 107 dX4_step_97 (by decide) (fun c97 => ?_) (fun c97 => ?_)
                  · skip
                    refine z_iconst (pc := 107) gX 0 dX4_step_107 (by decide) ?_
                    refine z_ior (pc := 108) gX dX4_step_108 ?_
                    refine z_istore_n (pc := 109) gX [1, 2, 3, 0, 4, 5] [(0, .ref o), (1, .int p), (2, .int la), (3, .int (v ||| 0)), (4, .int (nI r)), (5, .int 0)] dX4_step_109 rfl (by decide) rfl ?_
                    refine z_iinc (pc := 110) gX 4 (nI (r + 1)) [1, 2, 3, 4, 0, 5] [(0, .ref o), (1, .int p), (2, .int la), (3, .int (v ||| 0)), (4, .int (nI (r + 1))), (5, .int 0)] dX4_step_110 rfl (nI_1 _) (by decide) rfl ?_
                    refine z_goto (pc := 113) gX 34 dX4_step_113 (by decide) ?_
                    refine z_lv [0, 1, 2, 3, 4] [(0, .ref o), (1, .int p), (2, .int la), (3, .int (v ||| 0)), (4, .int (nI (r + 1)))] rfl ?_
                    exact ih34 (r + 1) (v ||| 0) (by omega) (by simp only [orF]; rw [← hv]; congr 1; simp only [stepF]; grind) (by omega)
                  · skip
                    exact absurd c97 (by decide)
                · skip
                  refine z_iconst (pc := 87) gX 1 dX4_step_87 (by decide) ?_
                  refine z_goto (pc := 88) gX 92 dX4_step_88 (by decide) ?_
                  refine z_istore (pc := 92) gX [1, 2, 3, 4, 5, 0] [(0, .ref o), (1, .int p), (2, .int la), (3, .int v), (4, .int (nI r)), (5, .int 1)] dX4_step_92 (by decide) rfl ?_
                  refine z_iload_n (pc := 94) gX 3 dX4_step_94 rfl rfl ?_
                  refine z_iload (pc := 95) gX 5 dX4_step_95 rfl ?_
                  refine z_if_eq (pc := 97) gX 107 dX4_step_97 (by decide) (fun c97 => ?_) (fun c97 => ?_)
                  · skip
                    exact absurd c97 (by decide)
                  · skip
                    refine z_iconst (pc := 100) gX 1 dX4_step_100 (by decide) ?_
                    refine z_iload (pc := 101) gX 4 dX4_step_101 rfl ?_
                    refine z_ishl (pc := 103) gX dX4_step_103 ?_
                    refine z_goto (pc := 104) gX 108 dX4_step_104 (by decide) ?_
                    refine z_ior (pc := 108) gX dX4_step_108 ?_
                    refine z_istore_n (pc := 109) gX [1, 2, 3, 0, 4, 5] [(0, .ref o), (1, .int p), (2, .int la), (3, .int (v ||| (1 <<< ((nI r) &&& 31)))), (4, .int (nI r)), (5, .int 1)] dX4_step_109 rfl (by decide) rfl ?_
                    refine z_iinc (pc := 110) gX 4 (nI (r + 1)) [1, 2, 3, 4, 0, 5] [(0, .ref o), (1, .int p), (2, .int la), (3, .int (v ||| (1 <<< ((nI r) &&& 31)))), (4, .int (nI (r + 1))), (5, .int 1)] dX4_step_110 rfl (nI_1 _) (by decide) rfl ?_
                    refine z_goto (pc := 113) gX 34 dX4_step_113 (by decide) ?_
                    refine z_lv [0, 1, 2, 3, 4] [(0, .ref o), (1, .int p), (2, .int la), (3, .int (v ||| (1 <<< ((nI r) &&& 31)))), (4, .int (nI (r + 1)))] rfl ?_
                    exact ih34 (r + 1) (v ||| (1 <<< ((nI r) &&& 31))) (by omega) (by simp only [orF]; rw [← hv]; congr 1; simp only [stepF]; grind) (by omega)
      exact L34 ((n - 0) + 1) 0 0 (by omega) rfl (Nat.lt_succ_self _)
    · skip
      have k23 : (mIn la 0 1) = false := bI_eq0 c23
      refine z_ldc (pc := 26) gX q1455 dX4_step_26 ?_
      exact z_rio gX hQX (by simp [mStep, k14, k23]) dX4_step_28
theorem hd_X4_step : zHd yX4_step 2 := by unfold zHd; decide +kernel

set_option maxHeartbeats 4000000 in
theorem met_X4_kind (l : Launch) (D : va_G) (B0 : Nat) (o : Nat) (ad : Nat → Nat) (x : Nat → Int32) (c : Nat → Int32) (n : Nat) (r : Int32) (hn : c 17 = nI n) (hn7 : n ≤ 7) : Met l yX4_kind (ws_ yX4_kind cX4_kind 2 (some .int)) (zRm 3 0 0) (va_Pc [.ref o, .int r] (zPreO B0 D [mOb o ad x, [(ad 5, .inl (D.1 100, 25, .inl c))]])) (zQo (S := Unit) (fun _ => True) (fun _ => some (.int (mKind c r)))) 0 0 (fun _ => False) := by
  refine z_entryo (by decide +kernel) (Nat.le_of_ble_eq_true rfl) (fun pX eX sX mX argsX blX mtX cX QX hQX gX => ?_)
  refine z_eq (lv₂ := [(0, .ref o), (1, .int r)]) (st₂ := []) ?_ rfl rfl
  refine z_aload_n (pc := 0) gX 0 dX4_kind_0 rfl rfl ?_
  refine z_iload_n (pc := 1) gX 1 dX4_kind_1 rfl rfl ?_
  refine z_cOV (pc := 2) gX (zIo_ok gX) [.int r] [] [0, 1] (met_X4_isRider l D B0 o ad x c r ) q1564 q1566 qs38 q54 q1567 (zm 0 rfl) (ci := 4) rfl rfl hd_X4_isRider ⟨rfl, rfl⟩ ⟨(Nat.le_of_ble_eq_true rfl), (Nat.le_of_ble_eq_true rfl)⟩ rfl rfl rfl (Nat.le_of_ble_eq_true rfl) ⟨(Nat.le_of_ble_eq_true rfl), (Nat.le_of_ble_eq_true rfl)⟩ dX4_kind_2 ?_
  intro _ hu2
  refine z_eq (lv₂ := [(0, .ref o), (1, .int r)]) (st₂ := [.int (bI (mIn r 0 (c 17 - 1)))]) ?_ rfl rfl
  refine z_if_eq (pc := 5) gX 20 dX4_kind_5 (by decide) (fun c5 => ?_) (fun c5 => ?_)
  · skip
    have k5 : (mIn r 0 (c 17 - 1)) = false := bI_eq0 c5
    refine z_ldc (pc := 20) gX q1455 dX4_kind_20 ?_
    exact z_rio gX hQX (by simp [mKind, k5]) dX4_kind_22
  · skip
    have k5 : (mIn r 0 (c 17 - 1)) = true := bI_ne0 c5
    obtain ⟨j, hjn, rfl⟩ := riderN k5 hn hn7
    refine z_aload_n (pc := 8) gX 0 dX4_kind_8 rfl rfl ?_
    refine z_get (pc := 9) gX (zIo_ok gX) (zm 0 rfl) (ci := 4) (C := RX4) (T := TX4) (N := 20) rfl in_X4 8 (by decide) q1391 (fun _ h => h) (v := .ref (ad 5)) rfl dX4_kind_9 ?_
    refine z_bipush (pc := 12) gX 18 dX4_kind_12 (by decide) ?_
    refine z_iload_n (pc := 14) gX 1 dX4_kind_14 rfl rfl ?_
    refine z_iadd (pc := 15) gX dX4_kind_15 ?_
    refine z_top (nI (18 + j)) (nI_add 18 j) ?_
    refine z_iald (pc := 16) gX (zIo_ok gX) (j := (18 + j)) (n := 25) (f := c) (zm 1 rfl) (by omega) (by decide) dX4_kind_16 ?_
    refine z_goto (pc := 17) gX 22 dX4_kind_17 (by decide) ?_
    exact z_rio gX hQX (by simp [mKind, k5, nI_clamp (show j < 2 ^ 31 by omega)]) dX4_kind_22
theorem hd_X4_kind : zHd yX4_kind 1 := by unfold zHd; decide +kernel

set_option maxHeartbeats 4000000 in
theorem met_X4_as (l : Launch) (D : va_G) (B0 : Nat) (A : Nat → Prop) (o : Nat) (ad : Nat → Nat) (x : Nat → Int32) (c : Nat → Int32) (n : Nat) (r : Int32) (w : Int32) (hn : c 17 = nI n) (hn7 : n ≤ 7) : Met l yX4_as (ws_ yX4_as cX4_as 5 (some .int)) (zRm 3 0 0) (va_Pc [.ref o, .int r, .int w] (zPre B0 D A [mOb o ad x, [(ad 5, .inl (D.1 100, 25, .inl c))]])) (zQ (S := Int32 × (Nat → Int32)) (fun u => (fun (r_ : Int32) (x1 : Nat → Int32) => (r_, x1) = mAs x c r w) u.1 u.2) (fun u => (fun (r_ : Int32) (x1 : Nat → Int32) => some (.int r_)) u.1 u.2) (fun u => (fun (r_ : Int32) (x1 : Nat → Int32) => [mOb o ad x1, [(ad 5, .inl (D.1 100, 25, .inl c))]]) u.1 u.2) D A) 0 0 A := by
  refine z_entry (by decide +kernel) (Nat.le_of_ble_eq_true rfl) (fun pX eX sX mX argsX blX mtX cX QX hQX gX hAX hnm => ?_)
  refine z_eq (lv₂ := [(0, .ref o), (1, .int r), (2, .int w)]) (st₂ := []) ?_ rfl rfl
  refine z_aload_n (pc := 0) gX 0 dX4_as_0 rfl rfl ?_
  refine z_iload_n (pc := 1) gX 1 dX4_as_1 rfl rfl ?_
  refine z_cOV (pc := 2) gX (zI_ok gX hAX) [.int r] [] [0, 1] (met_X4_isRider l D B0 o ad x c r ) q1564 q1566 qs38 q54 q1567 (zm 0 rfl) (ci := 4) rfl rfl hd_X4_isRider ⟨rfl, rfl⟩ ⟨(Nat.le_of_ble_eq_true rfl), (Nat.le_of_ble_eq_true rfl)⟩ rfl rfl rfl (Nat.le_of_ble_eq_true rfl) ⟨(Nat.le_of_ble_eq_true rfl), (Nat.le_of_ble_eq_true rfl)⟩ dX4_as_2 ?_
  intro _ hu2
  refine z_eq (lv₂ := [(0, .ref o), (1, .int r), (2, .int w)]) (st₂ := [.int (bI (mIn r 0 (c 17 - 1)))]) ?_ rfl rfl
  refine z_if_eq (pc := 5) gX 17 dX4_as_5 (by decide) (fun c5 => ?_) (fun c5 => ?_)
  · skip
    have k5 : (mIn r 0 (c 17 - 1)) = false := bI_eq0 c5
    refine z_ldc (pc := 17) gX q1455 dX4_as_17 ?_
    exact z_rim gX hQX ((-1000001), x) (by simp [mAs, k5]) rfl rfl (by first | decide | omega) (by first | decide | omega) dX4_as_19
  · skip
    have k5 : (mIn r 0 (c 17 - 1)) = true := bI_ne0 c5
    obtain ⟨j, hjn, rfl⟩ := riderN k5 hn hn7
    refine z_iload_n (pc := 8) gX 2 dX4_as_8 rfl rfl ?_
    refine z_iconst (pc := 9) gX 0 dX4_as_9 (by decide) ?_
    refine z_iconst (pc := 10) gX 5 dX4_as_10 (by decide) ?_
    refine z_cOS (pc := 11) gX (zI_ok gX hAX) [.int w, .int 0, .int 5] [] [] (met_X4_in l D B0 w 0 5 ) q1452 q1453 q54 q1454 hd_X4_in ⟨rfl, rfl⟩ ⟨(Nat.le_of_ble_eq_true rfl), (Nat.le_of_ble_eq_true rfl)⟩ rfl rfl rfl (Nat.le_of_ble_eq_true rfl) ⟨(Nat.le_of_ble_eq_true rfl), (Nat.le_of_ble_eq_true rfl)⟩ dX4_as_11 ?_
    intro _ hu11
    refine z_eq (lv₂ := [(0, .ref o), (1, .int (nI j)), (2, .int w)]) (st₂ := [.int (bI (mIn w 0 5))]) ?_ rfl rfl
    refine z_if_ne (pc := 14) gX 20 dX4_as_14 (by decide) (fun c14 => ?_) (fun c14 => ?_)
    · skip
      have k14 : (mIn w 0 5) = true := bI_ne0 c14
      refine z_aload_n (pc := 20) gX 0 dX4_as_20 rfl rfl ?_
      refine z_get (pc := 21) gX (zI_ok gX hAX) (zm 0 rfl) (ci := 4) (C := RX4) (T := TX4) (N := 20) rfl in_X4 8 (by decide) q1391 (fun _ h => h) (v := .ref (ad 5)) rfl dX4_as_21 ?_
      refine z_bipush (pc := 24) gX 18 dX4_as_24 (by decide) ?_
      refine z_iload_n (pc := 26) gX 1 dX4_as_26 rfl rfl ?_
      refine z_iadd (pc := 27) gX dX4_as_27 ?_
      refine z_top (nI (18 + j)) (nI_add 18 j) ?_
      refine z_iald (pc := 28) gX (zI_ok gX hAX) (j := (18 + j)) (n := 25) (f := c) (zm 1 rfl) (by omega) (by decide) dX4_as_28 ?_
      refine z_istore_n (pc := 29) gX [1, 2, 3, 0] [(0, .ref o), (1, .int (nI j)), (2, .int w), (3, .int (c (18 + j)))] dX4_as_29 rfl (by decide) rfl ?_
      refine z_iload_n (pc := 30) gX 2 dX4_as_30 rfl rfl ?_
      refine z_if_eq (pc := 31) gX 59 dX4_as_31 (by decide) (fun c31 => ?_) (fun c31 => ?_)
      · skip
        refine z_iconst (pc := 59) gX 1 dX4_as_59 (by decide) ?_
        refine z_goto (pc := 60) gX 64 dX4_as_60 (by decide) ?_
        refine z_istore (pc := 64) gX [1, 2, 3, 4, 0] [(0, .ref o), (1, .int (nI j)), (2, .int w), (3, .int (c (18 + j))), (4, .int 1)] dX4_as_64 (by decide) rfl ?_
        refine z_aload_n (pc := 66) gX 0 dX4_as_66 rfl rfl ?_
        refine z_iload (pc := 67) gX 4 dX4_as_67 rfl ?_
        refine z_if_eq (pc := 69) gX 76 dX4_as_69 (by decide) (fun c69 => ?_) (fun c69 => ?_)
        · skip
          exact absurd c69 (by decide)
        · skip
          refine z_iload_n (pc := 72) gX 1 dX4_as_72 rfl rfl ?_
          refine z_goto (pc := 73) gX 78 dX4_as_73 (by decide) ?_
          refine z_cMV (pc := 78) gX hAX [.int (nI j)] [] [0] [1] (fun A1 => met_X4_ends l D B0 A1 o ad x (nI j) ) q1457 q1459 qs28 q54 q1460 (zm 0 rfl) (ci := 4) rfl rfl hd_X4_ends ⟨rfl, rfl⟩ ⟨(Nat.le_of_ble_eq_true rfl), (Nat.le_of_ble_eq_true rfl)⟩ rfl rfl rfl rfl rfl (Nat.le_of_ble_eq_true rfl) ⟨(Nat.le_of_ble_eq_true rfl), (Nat.le_of_ble_eq_true rfl)⟩ dX4_as_78 ?_
          intro _ hu78
          refine z_re [0, 1] [mOb o ad (mSt x (nI j)), [(ad 5, .inl (D.1 100, 25, .inl c))]] rfl rfl ?_
          refine z_eq (lv₂ := [(0, .ref o), (1, .int (nI j)), (2, .int w), (3, .int (c (18 + j))), (4, .int 1)]) (st₂ := [.int (nI j)]) ?_ rfl rfl
          exact z_rim gX hQX ((nI j), mSt x (nI j)) (by simp only [mAs, k5, k14, nI_clamp (show j < 2 ^ 31 by omega), Bool.and_self, if_true]; first | (rw [if_pos (by grind)]; done) | (rw [if_neg (by grind)]; done)) rfl rfl (by first | decide | omega) (by first | decide | omega) dX4_as_81
      · skip
        refine z_iload_n (pc := 34) gX 2 dX4_as_34 rfl rfl ?_
        refine z_iload_n (pc := 35) gX 3 dX4_as_35 rfl rfl ?_
        refine z_icmp_eq (pc := 36) gX 59 dX4_as_36 (by decide) (fun c36 => ?_) (fun c36 => ?_)
        · skip
          refine z_iconst (pc := 59) gX 1 dX4_as_59 (by decide) ?_
          refine z_goto (pc := 60) gX 64 dX4_as_60 (by decide) ?_
          refine z_istore (pc := 64) gX [1, 2, 3, 4, 0] [(0, .ref o), (1, .int (nI j)), (2, .int w), (3, .int (c (18 + j))), (4, .int 1)] dX4_as_64 (by decide) rfl ?_
          refine z_aload_n (pc := 66) gX 0 dX4_as_66 rfl rfl ?_
          refine z_iload (pc := 67) gX 4 dX4_as_67 rfl ?_
          refine z_if_eq (pc := 69) gX 76 dX4_as_69 (by decide) (fun c69 => ?_) (fun c69 => ?_)
          · skip
            exact absurd c69 (by decide)
          · skip
            refine z_iload_n (pc := 72) gX 1 dX4_as_72 rfl rfl ?_
            refine z_goto (pc := 73) gX 78 dX4_as_73 (by decide) ?_
            refine z_cMV (pc := 78) gX hAX [.int (nI j)] [] [0] [1] (fun A1 => met_X4_ends l D B0 A1 o ad x (nI j) ) q1457 q1459 qs28 q54 q1460 (zm 0 rfl) (ci := 4) rfl rfl hd_X4_ends ⟨rfl, rfl⟩ ⟨(Nat.le_of_ble_eq_true rfl), (Nat.le_of_ble_eq_true rfl)⟩ rfl rfl rfl rfl rfl (Nat.le_of_ble_eq_true rfl) ⟨(Nat.le_of_ble_eq_true rfl), (Nat.le_of_ble_eq_true rfl)⟩ dX4_as_78 ?_
            intro _ hu78
            refine z_re [0, 1] [mOb o ad (mSt x (nI j)), [(ad 5, .inl (D.1 100, 25, .inl c))]] rfl rfl ?_
            refine z_eq (lv₂ := [(0, .ref o), (1, .int (nI j)), (2, .int w), (3, .int (c (18 + j))), (4, .int 1)]) (st₂ := [.int (nI j)]) ?_ rfl rfl
            exact z_rim gX hQX ((nI j), mSt x (nI j)) (by simp only [mAs, k5, k14, nI_clamp (show j < 2 ^ 31 by omega), Bool.and_self, if_true]; first | (rw [if_pos (by grind)]; done) | (rw [if_neg (by grind)]; done)) rfl rfl (by first | decide | omega) (by first | decide | omega) dX4_as_81
        · skip
          refine z_iload_n (pc := 39) gX 2 dX4_as_39 rfl rfl ?_
          refine z_iconst (pc := 40) gX 1 dX4_as_40 (by decide) ?_
          refine z_icmp_ne (pc := 41) gX 49 dX4_as_41 (by decide) (fun c41 => ?_) (fun c41 => ?_)
          · skip
            refine z_iload_n (pc := 49) gX 2 dX4_as_49 rfl rfl ?_
            refine z_iconst (pc := 50) gX 4 dX4_as_50 (by decide) ?_
            refine z_icmp_ne (pc := 51) gX 63 dX4_as_51 (by decide) (fun c51 => ?_) (fun c51 => ?_)
            · skip
              refine z_iconst (pc := 63) gX 0 dX4_as_63 (by decide) ?_
              refine z_istore (pc := 64) gX [1, 2, 3, 4, 0] [(0, .ref o), (1, .int (nI j)), (2, .int w), (3, .int (c (18 + j))), (4, .int 0)] dX4_as_64 (by decide) rfl ?_
              refine z_aload_n (pc := 66) gX 0 dX4_as_66 rfl rfl ?_
              refine z_iload (pc := 67) gX 4 dX4_as_67 rfl ?_
              refine z_if_eq (pc := 69) gX 76 dX4_as_69 (by decide) (fun c69 => ?_) (fun c69 => ?_)
              · skip
                refine z_ldc (pc := 76) gX q1670 dX4_as_76 ?_
                refine z_cMV (pc := 78) gX hAX [.int (-1000013)] [] [0] [1] (fun A1 => met_X4_ends l D B0 A1 o ad x (-1000013) ) q1457 q1459 qs28 q54 q1460 (zm 0 rfl) (ci := 4) rfl rfl hd_X4_ends ⟨rfl, rfl⟩ ⟨(Nat.le_of_ble_eq_true rfl), (Nat.le_of_ble_eq_true rfl)⟩ rfl rfl rfl rfl rfl (Nat.le_of_ble_eq_true rfl) ⟨(Nat.le_of_ble_eq_true rfl), (Nat.le_of_ble_eq_true rfl)⟩ dX4_as_78 ?_
                intro _ hu78
                refine z_re [0, 1] [mOb o ad (mSt x (-1000013)), [(ad 5, .inl (D.1 100, 25, .inl c))]] rfl rfl ?_
                refine z_eq (lv₂ := [(0, .ref o), (1, .int (nI j)), (2, .int w), (3, .int (c (18 + j))), (4, .int 0)]) (st₂ := [.int (-1000013)]) ?_ rfl rfl
                exact z_rim gX hQX ((-1000013), mSt x (-1000013)) (by simp only [mAs, k5, k14, nI_clamp (show j < 2 ^ 31 by omega), Bool.and_self, if_true]; first | (rw [if_pos (by grind)]; done) | (rw [if_neg (by grind)]; done)) rfl rfl (by first | decide | omega) (by first | decide | omega) dX4_as_81
              · skip
                exact absurd c69 (by decide)
            · skip
              refine z_iload_n (pc := 54) gX 3 dX4_as_54 rfl rfl ?_
              refine z_iconst (pc := 55) gX 5 dX4_as_55 (by decide) ?_
              refine z_icmp_ne (pc := 56) gX 63 dX4_as_56 (by decide) (fun c56 => ?_) (fun c56 => ?_)
              · skip
                refine z_iconst (pc := 63) gX 0 dX4_as_63 (by decide) ?_
                refine z_istore (pc := 64) gX [1, 2, 3, 4, 0] [(0, .ref o), (1, .int (nI j)), (2, .int w), (3, .int (c (18 + j))), (4, .int 0)] dX4_as_64 (by decide) rfl ?_
                refine z_aload_n (pc := 66) gX 0 dX4_as_66 rfl rfl ?_
                refine z_iload (pc := 67) gX 4 dX4_as_67 rfl ?_
                refine z_if_eq (pc := 69) gX 76 dX4_as_69 (by decide) (fun c69 => ?_) (fun c69 => ?_)
                · skip
                  refine z_ldc (pc := 76) gX q1670 dX4_as_76 ?_
                  refine z_cMV (pc := 78) gX hAX [.int (-1000013)] [] [0] [1] (fun A1 => met_X4_ends l D B0 A1 o ad x (-1000013) ) q1457 q1459 qs28 q54 q1460 (zm 0 rfl) (ci := 4) rfl rfl hd_X4_ends ⟨rfl, rfl⟩ ⟨(Nat.le_of_ble_eq_true rfl), (Nat.le_of_ble_eq_true rfl)⟩ rfl rfl rfl rfl rfl (Nat.le_of_ble_eq_true rfl) ⟨(Nat.le_of_ble_eq_true rfl), (Nat.le_of_ble_eq_true rfl)⟩ dX4_as_78 ?_
                  intro _ hu78
                  refine z_re [0, 1] [mOb o ad (mSt x (-1000013)), [(ad 5, .inl (D.1 100, 25, .inl c))]] rfl rfl ?_
                  refine z_eq (lv₂ := [(0, .ref o), (1, .int (nI j)), (2, .int w), (3, .int (c (18 + j))), (4, .int 0)]) (st₂ := [.int (-1000013)]) ?_ rfl rfl
                  exact z_rim gX hQX ((-1000013), mSt x (-1000013)) (by simp only [mAs, k5, k14, nI_clamp (show j < 2 ^ 31 by omega), Bool.and_self, if_true]; first | (rw [if_pos (by grind)]; done) | (rw [if_neg (by grind)]; done)) rfl rfl (by first | decide | omega) (by first | decide | omega) dX4_as_81
                · skip
                  exact absurd c69 (by decide)
              · skip
                refine z_iconst (pc := 59) gX 1 dX4_as_59 (by decide) ?_
                refine z_goto (pc := 60) gX 64 dX4_as_60 (by decide) ?_
                refine z_istore (pc := 64) gX [1, 2, 3, 4, 0] [(0, .ref o), (1, .int (nI j)), (2, .int w), (3, .int (c (18 + j))), (4, .int 1)] dX4_as_64 (by decide) rfl ?_
                refine z_aload_n (pc := 66) gX 0 dX4_as_66 rfl rfl ?_
                refine z_iload (pc := 67) gX 4 dX4_as_67 rfl ?_
                refine z_if_eq (pc := 69) gX 76 dX4_as_69 (by decide) (fun c69 => ?_) (fun c69 => ?_)
                · skip
                  exact absurd c69 (by decide)
                · skip
                  refine z_iload_n (pc := 72) gX 1 dX4_as_72 rfl rfl ?_
                  refine z_goto (pc := 73) gX 78 dX4_as_73 (by decide) ?_
                  refine z_cMV (pc := 78) gX hAX [.int (nI j)] [] [0] [1] (fun A1 => met_X4_ends l D B0 A1 o ad x (nI j) ) q1457 q1459 qs28 q54 q1460 (zm 0 rfl) (ci := 4) rfl rfl hd_X4_ends ⟨rfl, rfl⟩ ⟨(Nat.le_of_ble_eq_true rfl), (Nat.le_of_ble_eq_true rfl)⟩ rfl rfl rfl rfl rfl (Nat.le_of_ble_eq_true rfl) ⟨(Nat.le_of_ble_eq_true rfl), (Nat.le_of_ble_eq_true rfl)⟩ dX4_as_78 ?_
                  intro _ hu78
                  refine z_re [0, 1] [mOb o ad (mSt x (nI j)), [(ad 5, .inl (D.1 100, 25, .inl c))]] rfl rfl ?_
                  refine z_eq (lv₂ := [(0, .ref o), (1, .int (nI j)), (2, .int w), (3, .int (c (18 + j))), (4, .int 1)]) (st₂ := [.int (nI j)]) ?_ rfl rfl
                  exact z_rim gX hQX ((nI j), mSt x (nI j)) (by simp only [mAs, k5, k14, nI_clamp (show j < 2 ^ 31 by omega), Bool.and_self, if_true]; first | (rw [if_pos (by grind)]; done) | (rw [if_neg (by grind)]; done)) rfl rfl (by first | decide | omega) (by first | decide | omega) dX4_as_81
          · skip
            refine z_iload_n (pc := 44) gX 3 dX4_as_44 rfl rfl ?_
            refine z_iconst (pc := 45) gX 4 dX4_as_45 (by decide) ?_
            refine z_icmp_lt (pc := 46) gX 59 dX4_as_46 (by decide) (fun c46 => ?_) (fun c46 => ?_)
            · skip
              refine z_iconst (pc := 59) gX 1 dX4_as_59 (by decide) ?_
              refine z_goto (pc := 60) gX 64 dX4_as_60 (by decide) ?_
              refine z_istore (pc := 64) gX [1, 2, 3, 4, 0] [(0, .ref o), (1, .int (nI j)), (2, .int w), (3, .int (c (18 + j))), (4, .int 1)] dX4_as_64 (by decide) rfl ?_
              refine z_aload_n (pc := 66) gX 0 dX4_as_66 rfl rfl ?_
              refine z_iload (pc := 67) gX 4 dX4_as_67 rfl ?_
              refine z_if_eq (pc := 69) gX 76 dX4_as_69 (by decide) (fun c69 => ?_) (fun c69 => ?_)
              · skip
                exact absurd c69 (by decide)
              · skip
                refine z_iload_n (pc := 72) gX 1 dX4_as_72 rfl rfl ?_
                refine z_goto (pc := 73) gX 78 dX4_as_73 (by decide) ?_
                refine z_cMV (pc := 78) gX hAX [.int (nI j)] [] [0] [1] (fun A1 => met_X4_ends l D B0 A1 o ad x (nI j) ) q1457 q1459 qs28 q54 q1460 (zm 0 rfl) (ci := 4) rfl rfl hd_X4_ends ⟨rfl, rfl⟩ ⟨(Nat.le_of_ble_eq_true rfl), (Nat.le_of_ble_eq_true rfl)⟩ rfl rfl rfl rfl rfl (Nat.le_of_ble_eq_true rfl) ⟨(Nat.le_of_ble_eq_true rfl), (Nat.le_of_ble_eq_true rfl)⟩ dX4_as_78 ?_
                intro _ hu78
                refine z_re [0, 1] [mOb o ad (mSt x (nI j)), [(ad 5, .inl (D.1 100, 25, .inl c))]] rfl rfl ?_
                refine z_eq (lv₂ := [(0, .ref o), (1, .int (nI j)), (2, .int w), (3, .int (c (18 + j))), (4, .int 1)]) (st₂ := [.int (nI j)]) ?_ rfl rfl
                exact z_rim gX hQX ((nI j), mSt x (nI j)) (by simp only [mAs, k5, k14, nI_clamp (show j < 2 ^ 31 by omega), Bool.and_self, if_true]; first | (rw [if_pos (by grind)]; done) | (rw [if_neg (by grind)]; done)) rfl rfl (by first | decide | omega) (by first | decide | omega) dX4_as_81
            · skip
              refine z_iload_n (pc := 49) gX 2 dX4_as_49 rfl rfl ?_
              refine z_iconst (pc := 50) gX 4 dX4_as_50 (by decide) ?_
              refine z_icmp_ne (pc := 51) gX 63 dX4_as_51 (by decide) (fun c51 => ?_) (fun c51 => ?_)
              · skip
                refine z_iconst (pc := 63) gX 0 dX4_as_63 (by decide) ?_
                refine z_istore (pc := 64) gX [1, 2, 3, 4, 0] [(0, .ref o), (1, .int (nI j)), (2, .int w), (3, .int (c (18 + j))), (4, .int 0)] dX4_as_64 (by decide) rfl ?_
                refine z_aload_n (pc := 66) gX 0 dX4_as_66 rfl rfl ?_
                refine z_iload (pc := 67) gX 4 dX4_as_67 rfl ?_
                refine z_if_eq (pc := 69) gX 76 dX4_as_69 (by decide) (fun c69 => ?_) (fun c69 => ?_)
                · skip
                  refine z_ldc (pc := 76) gX q1670 dX4_as_76 ?_
                  refine z_cMV (pc := 78) gX hAX [.int (-1000013)] [] [0] [1] (fun A1 => met_X4_ends l D B0 A1 o ad x (-1000013) ) q1457 q1459 qs28 q54 q1460 (zm 0 rfl) (ci := 4) rfl rfl hd_X4_ends ⟨rfl, rfl⟩ ⟨(Nat.le_of_ble_eq_true rfl), (Nat.le_of_ble_eq_true rfl)⟩ rfl rfl rfl rfl rfl (Nat.le_of_ble_eq_true rfl) ⟨(Nat.le_of_ble_eq_true rfl), (Nat.le_of_ble_eq_true rfl)⟩ dX4_as_78 ?_
                  intro _ hu78
                  refine z_re [0, 1] [mOb o ad (mSt x (-1000013)), [(ad 5, .inl (D.1 100, 25, .inl c))]] rfl rfl ?_
                  refine z_eq (lv₂ := [(0, .ref o), (1, .int (nI j)), (2, .int w), (3, .int (c (18 + j))), (4, .int 0)]) (st₂ := [.int (-1000013)]) ?_ rfl rfl
                  exact z_rim gX hQX ((-1000013), mSt x (-1000013)) (by simp only [mAs, k5, k14, nI_clamp (show j < 2 ^ 31 by omega), Bool.and_self, if_true]; first | (rw [if_pos (by grind)]; done) | (rw [if_neg (by grind)]; done)) rfl rfl (by first | decide | omega) (by first | decide | omega) dX4_as_81
                · skip
                  exact absurd c69 (by decide)
              · skip
                refine z_iload_n (pc := 54) gX 3 dX4_as_54 rfl rfl ?_
                refine z_iconst (pc := 55) gX 5 dX4_as_55 (by decide) ?_
                refine z_icmp_ne (pc := 56) gX 63 dX4_as_56 (by decide) (fun c56 => ?_) (fun c56 => ?_)
                · skip
                  refine z_iconst (pc := 63) gX 0 dX4_as_63 (by decide) ?_
                  refine z_istore (pc := 64) gX [1, 2, 3, 4, 0] [(0, .ref o), (1, .int (nI j)), (2, .int w), (3, .int (c (18 + j))), (4, .int 0)] dX4_as_64 (by decide) rfl ?_
                  refine z_aload_n (pc := 66) gX 0 dX4_as_66 rfl rfl ?_
                  refine z_iload (pc := 67) gX 4 dX4_as_67 rfl ?_
                  refine z_if_eq (pc := 69) gX 76 dX4_as_69 (by decide) (fun c69 => ?_) (fun c69 => ?_)
                  · skip
                    refine z_ldc (pc := 76) gX q1670 dX4_as_76 ?_
                    refine z_cMV (pc := 78) gX hAX [.int (-1000013)] [] [0] [1] (fun A1 => met_X4_ends l D B0 A1 o ad x (-1000013) ) q1457 q1459 qs28 q54 q1460 (zm 0 rfl) (ci := 4) rfl rfl hd_X4_ends ⟨rfl, rfl⟩ ⟨(Nat.le_of_ble_eq_true rfl), (Nat.le_of_ble_eq_true rfl)⟩ rfl rfl rfl rfl rfl (Nat.le_of_ble_eq_true rfl) ⟨(Nat.le_of_ble_eq_true rfl), (Nat.le_of_ble_eq_true rfl)⟩ dX4_as_78 ?_
                    intro _ hu78
                    refine z_re [0, 1] [mOb o ad (mSt x (-1000013)), [(ad 5, .inl (D.1 100, 25, .inl c))]] rfl rfl ?_
                    refine z_eq (lv₂ := [(0, .ref o), (1, .int (nI j)), (2, .int w), (3, .int (c (18 + j))), (4, .int 0)]) (st₂ := [.int (-1000013)]) ?_ rfl rfl
                    exact z_rim gX hQX ((-1000013), mSt x (-1000013)) (by simp only [mAs, k5, k14, nI_clamp (show j < 2 ^ 31 by omega), Bool.and_self, if_true]; first | (rw [if_pos (by grind)]; done) | (rw [if_neg (by grind)]; done)) rfl rfl (by first | decide | omega) (by first | decide | omega) dX4_as_81
                  · skip
                    exact absurd c69 (by decide)
                · skip
                  refine z_iconst (pc := 59) gX 1 dX4_as_59 (by decide) ?_
                  refine z_goto (pc := 60) gX 64 dX4_as_60 (by decide) ?_
                  refine z_istore (pc := 64) gX [1, 2, 3, 4, 0] [(0, .ref o), (1, .int (nI j)), (2, .int w), (3, .int (c (18 + j))), (4, .int 1)] dX4_as_64 (by decide) rfl ?_
                  refine z_aload_n (pc := 66) gX 0 dX4_as_66 rfl rfl ?_
                  refine z_iload (pc := 67) gX 4 dX4_as_67 rfl ?_
                  refine z_if_eq (pc := 69) gX 76 dX4_as_69 (by decide) (fun c69 => ?_) (fun c69 => ?_)
                  · skip
                    exact absurd c69 (by decide)
                  · skip
                    refine z_iload_n (pc := 72) gX 1 dX4_as_72 rfl rfl ?_
                    refine z_goto (pc := 73) gX 78 dX4_as_73 (by decide) ?_
                    refine z_cMV (pc := 78) gX hAX [.int (nI j)] [] [0] [1] (fun A1 => met_X4_ends l D B0 A1 o ad x (nI j) ) q1457 q1459 qs28 q54 q1460 (zm 0 rfl) (ci := 4) rfl rfl hd_X4_ends ⟨rfl, rfl⟩ ⟨(Nat.le_of_ble_eq_true rfl), (Nat.le_of_ble_eq_true rfl)⟩ rfl rfl rfl rfl rfl (Nat.le_of_ble_eq_true rfl) ⟨(Nat.le_of_ble_eq_true rfl), (Nat.le_of_ble_eq_true rfl)⟩ dX4_as_78 ?_
                    intro _ hu78
                    refine z_re [0, 1] [mOb o ad (mSt x (nI j)), [(ad 5, .inl (D.1 100, 25, .inl c))]] rfl rfl ?_
                    refine z_eq (lv₂ := [(0, .ref o), (1, .int (nI j)), (2, .int w), (3, .int (c (18 + j))), (4, .int 1)]) (st₂ := [.int (nI j)]) ?_ rfl rfl
                    exact z_rim gX hQX ((nI j), mSt x (nI j)) (by simp only [mAs, k5, k14, nI_clamp (show j < 2 ^ 31 by omega), Bool.and_self, if_true]; first | (rw [if_pos (by grind)]; done) | (rw [if_neg (by grind)]; done)) rfl rfl (by first | decide | omega) (by first | decide | omega) dX4_as_81
    · skip
      have k14 : (mIn w 0 5) = false := bI_eq0 c14
      refine z_ldc (pc := 17) gX q1455 dX4_as_17 ?_
      exact z_rim gX hQX ((-1000001), x) (by simp [mAs, k5, k14]) rfl rfl (by first | decide | omega) (by first | decide | omega) dX4_as_19
theorem hd_X4_as : zHd yX4_as 2 := by unfold zHd; decide +kernel

set_option maxHeartbeats 4000000 in
theorem met_X4_image (l : Launch) (D : va_G) (B0 : Nat) (A : Nat → Prop) (o : Nat) (ad : Nat → Nat) (x : Nat → Int32) (c : Nat → Int32) (im : Nat → Int32) (kp : Nat → Int32) (v : Int32)  : Met l yX4_image (ws_ yX4_image cX4_image 3 (some .int)) (zRm 2 0 0) (va_Pc [.ref o, .int v] (zPre B0 D A [mOb o ad x, [(ad 5, .inl (D.1 100, 25, .inl c))], [(ad 7, .inl (D.1 100, 50, .inl im))], [(ad 8, .inl (D.1 103, 2, .inl kp))]])) (zQ (S := Int32 × (Nat → Int32) × (Nat → Int32)) (fun u => (fun (r_ : Int32) (im1 : Nat → Int32) (kp1 : Nat → Int32) => (r_, im1, kp1) = mImage c im kp v) u.1 u.2.1 u.2.2) (fun u => (fun (r_ : Int32) (im1 : Nat → Int32) (kp1 : Nat → Int32) => some (.int r_)) u.1 u.2.1 u.2.2) (fun u => (fun (r_ : Int32) (im1 : Nat → Int32) (kp1 : Nat → Int32) => [mOb o ad x, [(ad 5, .inl (D.1 100, 25, .inl c))], [(ad 7, .inl (D.1 100, 50, .inl im1))], [(ad 8, .inl (D.1 103, 2, .inl kp1))]]) u.1 u.2.1 u.2.2) D A) 0 0 A := by
  refine z_entry (by decide +kernel) (Nat.le_of_ble_eq_true rfl) (fun pX eX sX mX argsX blX mtX cX QX hQX gX hAX hnm => ?_)
  refine z_eq (lv₂ := [(0, .ref o), (1, .int v)]) (st₂ := []) ?_ rfl rfl
  refine z_iload_n (pc := 0) gX 1 dX4_image_0 rfl rfl ?_
  refine z_iconst (pc := 1) gX 0 dX4_image_1 (by decide) ?_
  refine z_iconst (pc := 2) gX 1 dX4_image_2 (by decide) ?_
  refine z_cOS (pc := 3) gX (zI_ok gX hAX) [.int v, .int 0, .int 1] [] [] (met_X4_in l D B0 v 0 1 ) q1452 q1453 q54 q1454 hd_X4_in ⟨rfl, rfl⟩ ⟨(Nat.le_of_ble_eq_true rfl), (Nat.le_of_ble_eq_true rfl)⟩ rfl rfl rfl (Nat.le_of_ble_eq_true rfl) ⟨(Nat.le_of_ble_eq_true rfl), (Nat.le_of_ble_eq_true rfl)⟩ dX4_image_3 ?_
  intro _ hu3
  refine z_eq (lv₂ := [(0, .ref o), (1, .int v)]) (st₂ := [.int (bI (mIn v 0 1))]) ?_ rfl rfl
  refine z_if_ne (pc := 6) gX 12 dX4_image_6 (by decide) (fun c6 => ?_) (fun c6 => ?_)
  · skip
    have k6 : (mIn v 0 1) = true := bI_ne0 c6
    obtain ⟨j, hj, rfl⟩ := mIn_nat k6 1 (by decide)
    refine z_aload_n (pc := 12) gX 0 dX4_image_12 rfl rfl ?_
    refine z_cOV (pc := 13) gX (zI_ok gX hAX) [] [] [0, 1] (met_X4_isStair l D B0 o ad x c ) q1528 q1530 qs35 q54 q1531 (zm 0 rfl) (ci := 4) rfl rfl hd_X4_isStair ⟨rfl, rfl⟩ ⟨(Nat.le_of_ble_eq_true rfl), (Nat.le_of_ble_eq_true rfl)⟩ rfl rfl rfl (Nat.le_of_ble_eq_true rfl) ⟨(Nat.le_of_ble_eq_true rfl), (Nat.le_of_ble_eq_true rfl)⟩ dX4_image_13 ?_
    intro _ hu13
    refine z_eq (lv₂ := [(0, .ref o), (1, .int (nI j))]) (st₂ := [.int (bI (decide (0 < c 17)))]) ?_ rfl rfl
    refine z_if_ne (pc := 16) gX 22 dX4_image_16 (by decide) (fun c16 => ?_) (fun c16 => ?_)
    · skip
      have k16 : (decide (0 < c 17)) = true := bI_ne0 c16
      refine z_iconst (pc := 22) gX 0 dX4_image_22 (by decide) ?_
      refine z_istore_n (pc := 23) gX [1, 2, 0] [(0, .ref o), (1, .int (nI j)), (2, .int 0)] dX4_image_23 rfl (by decide) rfl ?_
      have L24 : ∀ (n24 : Nat) (i : Nat) (f : Nat → Int32), (i ≤ 25) → (f = cpT im (25 * j) c i) → 25 - i < n24 → zJ pX l eX (zRm 2 0 0) sX mX argsX blX mtX cX QX 3 (zI D A sX [mOb o ad x, [(ad 5, .inl (D.1 100, 25, .inl c))], [(ad 7, .inl (D.1 100, 50, .inl f))], [(ad 8, .inl (D.1 103, 2, .inl kp))]]) 0 0 24 [(0, .ref o), (1, .int (nI j)), (2, .int (nI i))] [] := by
        intro n24
        induction n24 with
        | zero => exact fun i f hi hf hm24 => absurd hm24 (Nat.not_lt_zero _)
        | succ n24 ih24 =>
          intro i f hi hf hm24
          refine z_iload_n (pc := 24) gX 2 dX4_image_24 rfl rfl ?_
          refine z_bipush (pc := 25) gX 25 dX4_image_25 (by decide) ?_
          refine z_icmp_ge (pc := 27) gX 53 dX4_image_27 (by decide) (fun c27 => ?_) (fun c27 => ?_)
          · skip
            have k27 : 25 ≤ i := (zn_le (a := 25) (b := i) (by omega) (by omega)).mp c27
            refine z_aload_n (pc := 53) gX 0 dX4_image_53 rfl rfl ?_
            refine z_get (pc := 54) gX (zI_ok gX hAX) (zm 0 rfl) (ci := 4) (C := RX4) (T := TX4) (N := 20) rfl in_X4 11 (by decide) q1394 (fun _ h => h) (v := .ref (ad 8)) rfl dX4_image_54 ?_
            refine z_iload_n (pc := 57) gX 1 dX4_image_57 rfl rfl ?_
            refine z_iconst (pc := 58) gX 1 dX4_image_58 (by decide) ?_
            refine z_zast (pc := 59) gX hAX 3 (j := j) (n := 2) (f := kp) rfl (by omega) (by decide) [mOb o ad x, [(ad 5, .inl (D.1 100, 25, .inl c))], [(ad 7, .inl (D.1 100, 50, .inl f))], [(ad 8, .inl (D.1 103, 2, .inl (upd kp j (vp_nar .boolean 1))))]] rfl dX4_image_59 ?_
            refine z_iconst (pc := 60) gX 1 dX4_image_60 (by decide) ?_
            exact z_rim gX hQX (1, f, upd kp j (vp_nar .boolean 1)) (by rw [hf, show i = 25 by omega]; simp [mImage, k6, of_decide_eq_true k16, nI_clamp (show j < 2 ^ 31 by omega)]) rfl rfl (by first | decide | omega) (by first | decide | omega) dX4_image_61
          · skip
            have k27 : i < 25 := (zn_nle (a := 25) (b := i) (by omega) (by omega)).mp c27
            refine z_aload_n (pc := 30) gX 0 dX4_image_30 rfl rfl ?_
            refine z_get (pc := 31) gX (zI_ok gX hAX) (zm 0 rfl) (ci := 4) (C := RX4) (T := TX4) (N := 20) rfl in_X4 10 (by decide) q1393 (fun _ h => h) (v := .ref (ad 7)) rfl dX4_image_31 ?_
            refine z_bipush (pc := 34) gX 25 dX4_image_34 (by decide) ?_
            refine z_iload_n (pc := 36) gX 1 dX4_image_36 rfl rfl ?_
            refine z_imul (pc := 37) gX dX4_image_37 ?_
            refine z_top (nI (25 * j)) (pk_mul 25 j) ?_
            refine z_iload_n (pc := 38) gX 2 dX4_image_38 rfl rfl ?_
            refine z_iadd (pc := 39) gX dX4_image_39 ?_
            refine z_top (nI (25 * j + i)) (nI_add (25 * j) i) ?_
            refine z_aload_n (pc := 40) gX 0 dX4_image_40 rfl rfl ?_
            refine z_get (pc := 41) gX (zI_ok gX hAX) (zm 0 rfl) (ci := 4) (C := RX4) (T := TX4) (N := 20) rfl in_X4 8 (by decide) q1391 (fun _ h => h) (v := .ref (ad 5)) rfl dX4_image_41 ?_
            refine z_iload_n (pc := 44) gX 2 dX4_image_44 rfl rfl ?_
            refine z_iald (pc := 45) gX (zI_ok gX hAX) (j := i) (n := 25) (f := c) (zm 1 rfl) (by omega) (by decide) dX4_image_45 ?_
            refine z_iast (pc := 46) gX hAX 2 (j := (25 * j + i)) (n := 50) (f := f) rfl (by omega) (by decide) [mOb o ad x, [(ad 5, .inl (D.1 100, 25, .inl c))], [(ad 7, .inl (D.1 100, 50, .inl (upd f (25 * j + i) (c i))))], [(ad 8, .inl (D.1 103, 2, .inl kp))]] rfl dX4_image_46 ?_
            refine z_iinc (pc := 47) gX 2 (nI (i + 1)) [1, 2, 0] [(0, .ref o), (1, .int (nI j)), (2, .int (nI (i + 1)))] dX4_image_47 rfl (nI_1 _) (by decide) rfl ?_
            refine z_goto (pc := 50) gX 24 dX4_image_50 (by decide) ?_
            exact ih24 (i + 1) (upd f (25 * j + i) (c i)) (by omega) (by rw [hf]; exact cpT_s _ _ _ _) (by omega)
      exact L24 ((25 - 0) + 1) 0 im (by omega) ((cpT_0 _ _ _).symm) (Nat.lt_succ_self _)
    · skip
      have k16 : (decide (0 < c 17)) = false := bI_eq0 c16
      refine z_ldc (pc := 19) gX q1532 dX4_image_19 ?_
      exact z_rim gX hQX ((-1000002), im, kp) (by simp [mImage, k6, of_decide_eq_false k16]) rfl rfl (by first | decide | omega) (by first | decide | omega) dX4_image_21
  · skip
    have k6 : (mIn v 0 1) = false := bI_eq0 c6
    refine z_ldc (pc := 9) gX q1455 dX4_image_9 ?_
    exact z_rim gX hQX ((-1000001), im, kp) (by simp [mImage, k6]) rfl rfl (by first | decide | omega) (by first | decide | omega) dX4_image_11
theorem hd_X4_image : zHd yX4_image 1 := by unfold zHd; decide +kernel

set_option maxHeartbeats 4000000 in
theorem met_X4_restore (l : Launch) (D : va_G) (B0 : Nat) (A : Nat → Prop) (o : Nat) (ad : Nat → Nat) (x : Nat → Int32) (c : Nat → Int32) (im : Nat → Int32) (kp : Nat → Int32) (v : Int32)  : Met l yX4_restore (ws_ yX4_restore cX4_restore 3 (some .int)) (zRm 2 0 0) (va_Pc [.ref o, .int v] (zPre B0 D A [mOb o ad x, [(ad 5, .inl (D.1 100, 25, .inl c))], [(ad 7, .inl (D.1 100, 50, .inl im))], [(ad 8, .inl (D.1 103, 2, .inl kp))]])) (zQ (S := Int32 × (Nat → Int32) × (Nat → Int32)) (fun u => (fun (r_ : Int32) (x1 : Nat → Int32) (c1 : Nat → Int32) => (r_, x1, c1) = mRestore x c im kp v) u.1 u.2.1 u.2.2) (fun u => (fun (r_ : Int32) (x1 : Nat → Int32) (c1 : Nat → Int32) => some (.int r_)) u.1 u.2.1 u.2.2) (fun u => (fun (r_ : Int32) (x1 : Nat → Int32) (c1 : Nat → Int32) => [mOb o ad x1, [(ad 5, .inl (D.1 100, 25, .inl c1))], [(ad 7, .inl (D.1 100, 50, .inl im))], [(ad 8, .inl (D.1 103, 2, .inl kp))]]) u.1 u.2.1 u.2.2) D A) 0 0 A := by
  refine z_entry (by decide +kernel) (Nat.le_of_ble_eq_true rfl) (fun pX eX sX mX argsX blX mtX cX QX hQX gX hAX hnm => ?_)
  refine z_eq (lv₂ := [(0, .ref o), (1, .int v)]) (st₂ := []) ?_ rfl rfl
  refine z_iload_n (pc := 0) gX 1 dX4_restore_0 rfl rfl ?_
  refine z_iconst (pc := 1) gX 0 dX4_restore_1 (by decide) ?_
  refine z_iconst (pc := 2) gX 1 dX4_restore_2 (by decide) ?_
  refine z_cOS (pc := 3) gX (zI_ok gX hAX) [.int v, .int 0, .int 1] [] [] (met_X4_in l D B0 v 0 1 ) q1452 q1453 q54 q1454 hd_X4_in ⟨rfl, rfl⟩ ⟨(Nat.le_of_ble_eq_true rfl), (Nat.le_of_ble_eq_true rfl)⟩ rfl rfl rfl (Nat.le_of_ble_eq_true rfl) ⟨(Nat.le_of_ble_eq_true rfl), (Nat.le_of_ble_eq_true rfl)⟩ dX4_restore_3 ?_
  intro _ hu3
  refine z_eq (lv₂ := [(0, .ref o), (1, .int v)]) (st₂ := [.int (bI (mIn v 0 1))]) ?_ rfl rfl
  refine z_if_ne (pc := 6) gX 12 dX4_restore_6 (by decide) (fun c6 => ?_) (fun c6 => ?_)
  · skip
    have k6 : (mIn v 0 1) = true := bI_ne0 c6
    obtain ⟨j, hj, rfl⟩ := mIn_nat k6 1 (by decide)
    refine z_aload_n (pc := 12) gX 0 dX4_restore_12 rfl rfl ?_
    refine z_get (pc := 13) gX (zI_ok gX hAX) (zm 0 rfl) (ci := 4) (C := RX4) (T := TX4) (N := 20) rfl in_X4 11 (by decide) q1394 (fun _ h => h) (v := .ref (ad 8)) rfl dX4_restore_13 ?_
    refine z_iload_n (pc := 16) gX 1 dX4_restore_16 rfl rfl ?_
    refine z_zald (pc := 17) gX (zI_ok gX hAX) (j := j) (n := 2) (f := kp) (zm 3 rfl) (by omega) (by decide) dX4_restore_17 ?_
    refine z_if_ne (pc := 18) gX 24 dX4_restore_18 (by decide) (fun c18 => ?_) (fun c18 => ?_)
    · skip
      refine z_iconst (pc := 24) gX 0 dX4_restore_24 (by decide) ?_
      refine z_istore_n (pc := 25) gX [1, 2, 0] [(0, .ref o), (1, .int (nI j)), (2, .int 0)] dX4_restore_25 rfl (by decide) rfl ?_
      have L26 : ∀ (n26 : Nat) (i : Nat) (f : Nat → Int32), (i ≤ 25) → (∀ q, q < i → f q = im (25 * j + q)) → 25 - i < n26 → zJ pX l eX (zRm 2 0 0) sX mX argsX blX mtX cX QX 3 (zI D A sX [mOb o ad x, [(ad 5, .inl (D.1 100, 25, .inl f))], [(ad 7, .inl (D.1 100, 50, .inl im))], [(ad 8, .inl (D.1 103, 2, .inl kp))]]) 0 0 26 [(0, .ref o), (1, .int (nI j)), (2, .int (nI i))] [] := by
        intro n26
        induction n26 with
        | zero => exact fun i f hi hf hm26 => absurd hm26 (Nat.not_lt_zero _)
        | succ n26 ih26 =>
          intro i f hi hf hm26
          refine z_iload_n (pc := 26) gX 2 dX4_restore_26 rfl rfl ?_
          refine z_bipush (pc := 27) gX 25 dX4_restore_27 (by decide) ?_
          refine z_icmp_ge (pc := 29) gX 55 dX4_restore_29 (by decide) (fun c29 => ?_) (fun c29 => ?_)
          · skip
            have k29 : 25 ≤ i := (zn_le (a := 25) (b := i) (by omega) (by omega)).mp c29
            refine z_ext 1 (fun q => im (25 * j + q)) rfl (fun q hq => hf q (by omega)) [mOb o ad x, [(ad 5, .inl (D.1 100, 25, .inl (fun q => im (25 * j + q))))], [(ad 7, .inl (D.1 100, 50, .inl im))], [(ad 8, .inl (D.1 103, 2, .inl kp))]] rfl ?_
            refine z_aload_n (pc := 55) gX 0 dX4_restore_55 rfl rfl ?_
            refine z_iconst (pc := 56) gX 0 dX4_restore_56 (by decide) ?_
            refine z_put (pc := 57) gX hAX 0 rfl (ci := 4) (C := RX4) (T := TX4) (N := 20) rfl in_X4 tyX4 tyX4_ok nmX4 13 (by decide) q1396 (fun _ h => h) rfl (v := .int 0) rfl rfl (Nat.le_of_ble_eq_true rfl) [mOb o ad (upd x 3 0), [(ad 5, .inl (D.1 100, 25, .inl (fun q => im (25 * j + q))))], [(ad 7, .inl (D.1 100, 50, .inl im))], [(ad 8, .inl (D.1 103, 2, .inl kp))]] rfl dX4_restore_57 ?_
            refine z_iconst (pc := 60) gX 1 dX4_restore_60 (by decide) ?_
            exact z_rim gX hQX (1, upd x 3 0, fun q => im (25 * j + q)) (by simp [mRestore, k6, c18, nI_clamp (show j < 2 ^ 31 by omega)]) rfl rfl (by first | decide | omega) (by first | decide | omega) dX4_restore_61
          · skip
            have k29 : i < 25 := (zn_nle (a := 25) (b := i) (by omega) (by omega)).mp c29
            refine z_aload_n (pc := 32) gX 0 dX4_restore_32 rfl rfl ?_
            refine z_get (pc := 33) gX (zI_ok gX hAX) (zm 0 rfl) (ci := 4) (C := RX4) (T := TX4) (N := 20) rfl in_X4 8 (by decide) q1391 (fun _ h => h) (v := .ref (ad 5)) rfl dX4_restore_33 ?_
            refine z_iload_n (pc := 36) gX 2 dX4_restore_36 rfl rfl ?_
            refine z_aload_n (pc := 37) gX 0 dX4_restore_37 rfl rfl ?_
            refine z_get (pc := 38) gX (zI_ok gX hAX) (zm 0 rfl) (ci := 4) (C := RX4) (T := TX4) (N := 20) rfl in_X4 10 (by decide) q1393 (fun _ h => h) (v := .ref (ad 7)) rfl dX4_restore_38 ?_
            refine z_bipush (pc := 41) gX 25 dX4_restore_41 (by decide) ?_
            refine z_iload_n (pc := 43) gX 1 dX4_restore_43 rfl rfl ?_
            refine z_imul (pc := 44) gX dX4_restore_44 ?_
            refine z_top (nI (25 * j)) (pk_mul 25 j) ?_
            refine z_iload_n (pc := 45) gX 2 dX4_restore_45 rfl rfl ?_
            refine z_iadd (pc := 46) gX dX4_restore_46 ?_
            refine z_top (nI (25 * j + i)) (nI_add (25 * j) i) ?_
            refine z_iald (pc := 47) gX (zI_ok gX hAX) (j := (25 * j + i)) (n := 50) (f := im) (zm 2 rfl) (by omega) (by decide) dX4_restore_47 ?_
            refine z_iast (pc := 48) gX hAX 1 (j := i) (n := 25) (f := f) rfl (by omega) (by decide) [mOb o ad x, [(ad 5, .inl (D.1 100, 25, .inl (upd f i (im (25 * j + i)))))], [(ad 7, .inl (D.1 100, 50, .inl im))], [(ad 8, .inl (D.1 103, 2, .inl kp))]] rfl dX4_restore_48 ?_
            refine z_iinc (pc := 49) gX 2 (nI (i + 1)) [1, 2, 0] [(0, .ref o), (1, .int (nI j)), (2, .int (nI (i + 1)))] dX4_restore_49 rfl (nI_1 _) (by decide) rfl ?_
            refine z_goto (pc := 52) gX 26 dX4_restore_52 (by decide) ?_
            exact ih26 (i + 1) (upd f i (im (25 * j + i))) (by omega) (fun q hq => by rcases (show q < i ∨ q = i by omega) with h | h; exact (pk_un (by omega)).trans (hf q h); rw [h, pk_us]) (by omega)
      exact L26 ((25 - 0) + 1) 0 c (by omega) (fun q hq => absurd hq (Nat.not_lt_zero _)) (Nat.lt_succ_self _)
    · skip
      refine z_ldc (pc := 21) gX q1532 dX4_restore_21 ?_
      exact z_rim gX hQX ((-1000002), x, c) (by simp [mRestore, k6, c18, nI_clamp (show j < 2 ^ 31 by omega)]) rfl rfl (by first | decide | omega) (by first | decide | omega) dX4_restore_23
  · skip
    have k6 : (mIn v 0 1) = false := bI_eq0 c6
    refine z_ldc (pc := 9) gX q1455 dX4_restore_9 ?_
    exact z_rim gX hQX ((-1000001), x, c) (by simp [mRestore, k6]) rfl rfl (by first | decide | omega) (by first | decide | omega) dX4_restore_11
theorem hd_X4_restore : zHd yX4_restore 1 := by unfold zHd; decide +kernel

