set_option maxRecDepth 100000
/-! THE REFERENCE (StepRidersModel): rows -/
/-- its object: refs ad 0.. (sizes widths items moved tape s draft images kept past then went traces), ints x 0.. (status typed fault known traced at wrong) -/
def mOb (o : Nat) (ad : Nat → Nat) (x : Nat → Int32) : va_W := [(o, .inr (4, [.ref (ad 0), .ref (ad 1), .ref (ad 2), .ref (ad 3), .int (x 0), .ref (ad 4), .int (x 1), .int (x 2), .ref (ad 5), .ref (ad 6), .ref (ad 7), .ref (ad 8), .ref (ad 9), .int (x 3), .ref (ad 10), .ref (ad 11), .ref (ad 12), .int (x 4), .int (x 5), .int (x 6)]))]
def mIn (v lo hi : Int32) : Bool := decide (lo ≤ v) && decide (v ≤ hi)
def mSt (x : Nat → Int32) (a : Int32) : Nat → Int32 := upd x 0 (if mIn a (-1000015) (-1000011) = true then -1000010 - a else 0)
def mCut (w v : Int32) : Int32 := if w = 0 then v.toInt8.toInt32 else if w = 1 then v.toInt16.toInt32 else v
def mLies (z i n : Int32) : Bool := decide (0 ≤ i) && decide (0 ≤ n) && decide (n ≤ z) && decide (i ≤ z - n)
theorem mIn_nat {v hi : Int32} (h : mIn v 0 hi = true) (k : Nat) (hk : hi.toInt = k) : ∃ j : Nat, j ≤ k ∧ v = nI j := by
  simp only [mIn, Bool.and_eq_true, decide_eq_true_eq] at h
  exact nI_of2 hk (by rw [Int32.not_lt]; exact h.1) h.2
def zer (f : Nat → Int32) (b k : Nat) : Nat → Int32 := fun i => if b ≤ i ∧ i < b + k then 0 else f i
theorem zer_0 (f : Nat → Int32) (b : Nat) : zer f b 0 = f := by funext i; simp only [zer]; rw [if_neg (by omega)]
theorem zer_s (f : Nat → Int32) (b k : Nat) : upd (zer f b k) (b + k) 0 = zer f b (k + 1) := by
  funext i
  simp only [upd, zer]
  by_cases h : i = b + k
  · rw [if_pos h, if_pos (by omega)]
  · rw [if_neg h]
    by_cases h2 : b ≤ i ∧ i < b + k
    · rw [if_pos h2, if_pos (by omega)]
    · rw [if_neg h2, if_neg (by omega)]
def mRow (x sz wd it : Nat → Int32) (row w n : Int32) : Int32 × (Nat → Int32) × (Nat → Int32) × (Nat → Int32) × (Nat → Int32) :=
  if (mIn row 0 7 && mIn w 0 2 && decide (n ≤ 40)) = true then
    if n < 0 then (-1000014, mSt x (-1000014), sz, wd, it)
    else (n, mSt x n, upd sz row.toNatClampNeg n, upd wd row.toNatClampNeg w, zer it (40 * row.toNatClampNeg) 40)
  else (-1000001, x, sz, wd, it)
/-- n cells from b + i on, one by one, out of g from 0 on -/
def cpT (f : Nat → Int32) (b : Nat) (g : Nat → Int32) (k : Nat) : Nat → Int32 := fun i => if b ≤ i ∧ i < b + k then g (i - b) else f i
theorem cpT_0 (f g : Nat → Int32) (b : Nat) : cpT f b g 0 = f := by funext i; simp only [cpT]; rw [if_neg (by omega)]
theorem cpT_s (f g : Nat → Int32) (b k : Nat) : upd (cpT f b g k) (b + k) (g k) = cpT f b g (k + 1) := by
  funext i
  simp only [upd, cpT]
  by_cases h : i = b + k
  · rw [if_pos h, if_pos (by omega), h, Nat.add_sub_cancel_left]
  · rw [if_neg h]
    by_cases h2 : b ≤ i ∧ i < b + k
    · rw [if_pos h2, if_pos (by omega)]
    · rw [if_neg h2, if_neg (by omega)]
def mSet (x sz wd it : Nat → Int32) (row i v : Int32) : Int32 × (Nat → Int32) × (Nat → Int32) :=
  if mIn row 0 7 = true then
    if sz row.toNatClampNeg < 0 then (-1000011, mSt x (-1000011), it)
    else if mLies (sz row.toNatClampNeg) i 1 = true then (mCut (wd row.toNatClampNeg) v, upd x 0 0, upd it (40 * row.toNatClampNeg + i.toNatClampNeg) (mCut (wd row.toNatClampNeg) v))
    else (-1000012, mSt x (-1000012), it)
  else (-1000001, x, it)
def mCopy (x sz wd it : Nat → Int32) (a i b j n : Int32) : Int32 × (Nat → Int32) × (Nat → Int32) :=
  if (mIn a 0 7 && mIn b 0 7) = true then
    if sz a.toNatClampNeg < 0 ∨ sz b.toNatClampNeg < 0 then (-1000011, mSt x (-1000011), it)
    else if wd a.toNatClampNeg = wd b.toNatClampNeg then
      if (mLies (sz a.toNatClampNeg) i n && mLies (sz b.toNatClampNeg) j n) = true then (n, mSt x n, cpT it (40 * b.toNatClampNeg + j.toNatClampNeg) (fun k => it (40 * a.toNatClampNeg + i.toNatClampNeg + k)) n.toNatClampNeg)
      else (-1000012, mSt x (-1000012), it)
    else (-1000015, mSt x (-1000015), it)
  else (-1000001, x, it)
def mDrop (x sz : Nat → Int32) (row : Int32) : Int32 × (Nat → Int32) × (Nat → Int32) :=
  if mIn row 0 7 = true then
    if sz row.toNatClampNeg < 0 then (-1000011, mSt x (-1000011), sz)
    else (sz row.toNatClampNeg, mSt x (sz row.toNatClampNeg), upd sz row.toNatClampNeg (-1))
  else (-1000001, x, sz)
def mFeed (x tp : Nat → Int32) (v : Int32) : Int32 × (Nat → Int32) × (Nat → Int32) :=
  if mIn v 0 255 = true then
    if x 1 = 90 then (-1000003, x, tp)
    else (x 1 + 1, upd x 1 (x 1 + 1), upd tp (x 1).toNatClampNeg v)
  else (-1000001, x, tp)

set_option maxHeartbeats 4000000 in
theorem met_X4_in (l : Launch) (D : va_G) (B0 : Nat) (v : Int32) (lo : Int32) (hi : Int32)  : Met l yX4_in (ws_ yX4_in cX4_in 3 (some .boolean)) (zRm 1 0 0) (va_Pc [.int v, .int lo, .int hi] (zPreO B0 D [])) (zQo (S := Unit) (fun _ => True) (fun _ => some (.int (bI (mIn v lo hi))))) 0 0 (fun _ => False) := by
  refine z_entryo (by decide +kernel) (Nat.le_of_ble_eq_true rfl) (fun pX eX sX mX argsX blX mtX cX QX hQX gX => ?_)
  refine z_eq (lv₂ := [(0, .int v), (1, .int lo), (2, .int hi)]) (st₂ := []) ?_ rfl rfl
  refine z_iload_n (pc := 0) gX 0 dX4_in_0 rfl rfl ?_
  refine z_iload_n (pc := 1) gX 1 dX4_in_1 rfl rfl ?_
  refine z_icmp_lt (pc := 2) gX 14 dX4_in_2 (by decide) (fun c2 => ?_) (fun c2 => ?_)
  · skip
    refine z_iconst (pc := 14) gX 0 dX4_in_14 (by decide) ?_
    exact z_rzo gX hQX (by grind [mIn, bI]) dX4_in_15
  · skip
    refine z_iload_n (pc := 5) gX 0 dX4_in_5 rfl rfl ?_
    refine z_iload_n (pc := 6) gX 2 dX4_in_6 rfl rfl ?_
    refine z_icmp_gt (pc := 7) gX 14 dX4_in_7 (by decide) (fun c7 => ?_) (fun c7 => ?_)
    · skip
      refine z_iconst (pc := 14) gX 0 dX4_in_14 (by decide) ?_
      exact z_rzo gX hQX (by grind [mIn, bI]) dX4_in_15
    · skip
      refine z_iconst (pc := 10) gX 1 dX4_in_10 (by decide) ?_
      refine z_goto (pc := 11) gX 15 dX4_in_11 (by decide) ?_
      exact z_rzo gX hQX (by grind [mIn, bI]) dX4_in_15
theorem hd_X4_in : zHd yX4_in 3 := by unfold zHd; decide +kernel

set_option maxHeartbeats 4000000 in
theorem met_X4_isRow (l : Launch) (D : va_G) (B0 : Nat) (v : Int32)  : Met l yX4_isRow (ws_ yX4_isRow cX4_isRow 1 (some .boolean)) (zRm 2 0 0) (va_Pc [.int v] (zPreO B0 D [])) (zQo (S := Unit) (fun _ => True) (fun _ => some (.int (bI (mIn v 0 7))))) 0 0 (fun _ => False) := by
  refine z_entryo (by decide +kernel) (Nat.le_of_ble_eq_true rfl) (fun pX eX sX mX argsX blX mtX cX QX hQX gX => ?_)
  refine z_eq (lv₂ := [(0, .int v)]) (st₂ := []) ?_ rfl rfl
  refine z_iload_n (pc := 0) gX 0 dX4_isRow_0 rfl rfl ?_
  refine z_iconst (pc := 1) gX 0 dX4_isRow_1 (by decide) ?_
  refine z_bipush (pc := 2) gX 7 dX4_isRow_2 (by decide) ?_
  refine z_cOS (pc := 4) gX (zIo_ok gX) [.int v, .int 0, .int 7] [] [] (met_X4_in l D B0 v 0 7 ) q1452 q1453 q54 q1454 hd_X4_in ⟨rfl, rfl⟩ ⟨(Nat.le_of_ble_eq_true rfl), (Nat.le_of_ble_eq_true rfl)⟩ rfl rfl rfl (Nat.le_of_ble_eq_true rfl) ⟨(Nat.le_of_ble_eq_true rfl), (Nat.le_of_ble_eq_true rfl)⟩ dX4_isRow_4 ?_
  intro _ hu4
  refine z_eq (lv₂ := [(0, .int v)]) (st₂ := [.int (bI (mIn v 0 7))]) ?_ rfl rfl
  exact z_rzo gX hQX rfl dX4_isRow_7
theorem hd_X4_isRow : zHd yX4_isRow 1 := by unfold zHd; decide +kernel

set_option maxHeartbeats 4000000 in
theorem met_X4_ends (l : Launch) (D : va_G) (B0 : Nat) (A : Nat → Prop) (o : Nat) (ad : Nat → Nat) (x : Nat → Int32) (a : Int32)  : Met l yX4_ends (ws_ yX4_ends cX4_ends 2 (some .int)) (zRm 2 0 0) (va_Pc [.ref o, .int a] (zPre B0 D A [mOb o ad x])) (zQ (S := Unit) (fun _ => True) (fun _ => some (.int a)) (fun _ => [mOb o ad (mSt x a)]) D A) 0 0 A := by
  refine z_entry (by decide +kernel) (Nat.le_of_ble_eq_true rfl) (fun pX eX sX mX argsX blX mtX cX QX hQX gX hAX hnm => ?_)
  refine z_eq (lv₂ := [(0, .ref o), (1, .int a)]) (st₂ := []) ?_ rfl rfl
  refine z_aload_n (pc := 0) gX 0 dX4_ends_0 rfl rfl ?_
  refine z_iload_n (pc := 1) gX 1 dX4_ends_1 rfl rfl ?_
  refine z_ldc (pc := 2) gX q1461 dX4_ends_2 ?_
  refine z_ldc (pc := 4) gX q1462 dX4_ends_4 ?_
  refine z_cOS (pc := 6) gX (zI_ok gX hAX) [.int a, .int (-1000015), .int (-1000011)] [.ref o] [] (met_X4_in l D B0 a (-1000015) (-1000011) ) q1452 q1453 q54 q1454 hd_X4_in ⟨rfl, rfl⟩ ⟨(Nat.le_of_ble_eq_true rfl), (Nat.le_of_ble_eq_true rfl)⟩ rfl rfl rfl (Nat.le_of_ble_eq_true rfl) ⟨(Nat.le_of_ble_eq_true rfl), (Nat.le_of_ble_eq_true rfl)⟩ dX4_ends_6 ?_
  intro _ hu6
  refine z_eq (lv₂ := [(0, .ref o), (1, .int a)]) (st₂ := [.int (bI (mIn a (-1000015) (-1000011))), .ref o]) ?_ rfl rfl
  refine z_if_eq (pc := 9) gX 19 dX4_ends_9 (by decide) (fun c9 => ?_) (fun c9 => ?_)
  · skip
    have k9 : (mIn a (-1000015) (-1000011)) = false := bI_eq0 c9
    refine z_iconst (pc := 19) gX 0 dX4_ends_19 (by decide) ?_
    refine z_put (pc := 20) gX hAX 0 rfl (ci := 4) (C := RX4) (T := TX4) (N := 20) rfl in_X4 tyX4 tyX4_ok nmX4 4 (by decide) q1387 (fun _ h => h) rfl (v := .int 0) rfl rfl (Nat.le_of_ble_eq_true rfl) [mOb o ad (upd x 0 0)] rfl dX4_ends_20 ?_
    refine z_iload_n (pc := 23) gX 1 dX4_ends_23 rfl rfl ?_
    exact z_rim gX hQX () trivial (zsv rfl) (by simp [mSt, k9]) (by first | decide | omega) (by first | decide | omega) dX4_ends_24
  · skip
    have k9 : (mIn a (-1000015) (-1000011)) = true := bI_ne0 c9
    refine z_ldc (pc := 12) gX q1463 dX4_ends_12 ?_
    refine z_iload_n (pc := 14) gX 1 dX4_ends_14 rfl rfl ?_
    refine z_isub (pc := 15) gX dX4_ends_15 ?_
    refine z_goto (pc := 16) gX 20 dX4_ends_16 (by decide) ?_
    refine z_put (pc := 20) gX hAX 0 rfl (ci := 4) (C := RX4) (T := TX4) (N := 20) rfl in_X4 tyX4 tyX4_ok nmX4 4 (by decide) q1387 (fun _ h => h) rfl (v := .int ((-1000010) - a)) rfl rfl (Nat.le_of_ble_eq_true rfl) [mOb o ad (upd x 0 ((-1000010) - a))] rfl dX4_ends_20 ?_
    refine z_iload_n (pc := 23) gX 1 dX4_ends_23 rfl rfl ?_
    exact z_rim gX hQX () trivial (zsv rfl) (by simp [mSt, k9]) (by first | decide | omega) (by first | decide | omega) dX4_ends_24
theorem hd_X4_ends : zHd yX4_ends 1 := by unfold zHd; decide +kernel

set_option maxHeartbeats 4000000 in
theorem met_X4_cut (l : Launch) (D : va_G) (B0 : Nat) (w : Int32) (v : Int32)  : Met l yX4_cut (ws_ yX4_cut cX4_cut 2 (some .int)) (zRm 1 0 0) (va_Pc [.int w, .int v] (zPreO B0 D [])) (zQo (S := Unit) (fun _ => True) (fun _ => some (.int (mCut w v)))) 0 0 (fun _ => False) := by
  refine z_entryo (by decide +kernel) (Nat.le_of_ble_eq_true rfl) (fun pX eX sX mX argsX blX mtX cX QX hQX gX => ?_)
  refine z_eq (lv₂ := [(0, .int w), (1, .int v)]) (st₂ := []) ?_ rfl rfl
  refine z_iload_n (pc := 0) gX 0 dX4_cut_0 rfl rfl ?_
  refine z_if_ne (pc := 1) gX 9 dX4_cut_1 (by decide) (fun c1 => ?_) (fun c1 => ?_)
  · skip
    refine z_iload_n (pc := 9) gX 0 dX4_cut_9 rfl rfl ?_
    refine z_iconst (pc := 10) gX 1 dX4_cut_10 (by decide) ?_
    refine z_icmp_ne (pc := 11) gX 19 dX4_cut_11 (by decide) (fun c11 => ?_) (fun c11 => ?_)
    · skip
      refine z_iload_n (pc := 19) gX 1 dX4_cut_19 rfl rfl ?_
      exact z_rio gX hQX (by simp [mCut, c1, c11]) dX4_cut_20
    · skip
      refine z_iload_n (pc := 14) gX 1 dX4_cut_14 rfl rfl ?_
      refine z_i2s (pc := 15) gX dX4_cut_15 ?_
      refine z_goto (pc := 16) gX 20 dX4_cut_16 (by decide) ?_
      exact z_rio gX hQX (by simp [mCut, c1, c11]) dX4_cut_20
  · skip
    refine z_iload_n (pc := 4) gX 1 dX4_cut_4 rfl rfl ?_
    refine z_i2b (pc := 5) gX dX4_cut_5 ?_
    refine z_goto (pc := 6) gX 20 dX4_cut_6 (by decide) ?_
    exact z_rio gX hQX (by simp [mCut, c1]) dX4_cut_20
theorem hd_X4_cut : zHd yX4_cut 2 := by unfold zHd; decide +kernel

set_option maxHeartbeats 4000000 in
theorem met_X4_lies (l : Launch) (D : va_G) (B0 : Nat) (o : Nat) (ad : Nat → Nat) (x : Nat → Int32) (sz : Nat → Int32) (r : Nat) (i : Int32) (n : Int32) (hr : r < 8) : Met l yX4_lies (ws_ yX4_lies cX4_lies 4 (some .boolean)) (zRm 1 0 0) (va_Pc [.ref o, .int (nI r), .int i, .int n] (zPreO B0 D [mOb o ad x, [(ad 0, .inl (D.1 100, 8, .inl sz))]])) (zQo (S := Unit) (fun _ => True) (fun _ => some (.int (bI (mLies (sz r) i n))))) 0 0 (fun _ => False) := by
  refine z_entryo (by decide +kernel) (Nat.le_of_ble_eq_true rfl) (fun pX eX sX mX argsX blX mtX cX QX hQX gX => ?_)
  refine z_eq (lv₂ := [(0, .ref o), (1, .int (nI r)), (2, .int i), (3, .int n)]) (st₂ := []) ?_ rfl rfl
  refine z_iload_n (pc := 0) gX 2 dX4_lies_0 rfl rfl ?_
  refine z_if_lt (pc := 1) gX 34 dX4_lies_1 (by decide) (fun c1 => ?_) (fun c1 => ?_)
  · skip
    refine z_iconst (pc := 34) gX 0 dX4_lies_34 (by decide) ?_
    exact z_rzo gX hQX (by grind [mLies, bI]) dX4_lies_35
  · skip
    refine z_iload_n (pc := 4) gX 3 dX4_lies_4 rfl rfl ?_
    refine z_if_lt (pc := 5) gX 34 dX4_lies_5 (by decide) (fun c5 => ?_) (fun c5 => ?_)
    · skip
      refine z_iconst (pc := 34) gX 0 dX4_lies_34 (by decide) ?_
      exact z_rzo gX hQX (by grind [mLies, bI]) dX4_lies_35
    · skip
      refine z_iload_n (pc := 8) gX 3 dX4_lies_8 rfl rfl ?_
      refine z_aload_n (pc := 9) gX 0 dX4_lies_9 rfl rfl ?_
      refine z_get (pc := 10) gX (zIo_ok gX) (zm 0 rfl) (ci := 4) (C := RX4) (T := TX4) (N := 20) rfl in_X4 0 (by decide) q1383 (fun _ h => h) (v := .ref (ad 0)) rfl dX4_lies_10 ?_
      refine z_iload_n (pc := 13) gX 1 dX4_lies_13 rfl rfl ?_
      refine z_iald (pc := 14) gX (zIo_ok gX) (j := r) (n := 8) (f := sz) (zm 1 rfl) (by omega) (by decide) dX4_lies_14 ?_
      refine z_icmp_gt (pc := 15) gX 34 dX4_lies_15 (by decide) (fun c15 => ?_) (fun c15 => ?_)
      · skip
        refine z_iconst (pc := 34) gX 0 dX4_lies_34 (by decide) ?_
        exact z_rzo gX hQX (by grind [mLies, bI]) dX4_lies_35
      · skip
        refine z_iload_n (pc := 18) gX 2 dX4_lies_18 rfl rfl ?_
        refine z_aload_n (pc := 19) gX 0 dX4_lies_19 rfl rfl ?_
        refine z_get (pc := 20) gX (zIo_ok gX) (zm 0 rfl) (ci := 4) (C := RX4) (T := TX4) (N := 20) rfl in_X4 0 (by decide) q1383 (fun _ h => h) (v := .ref (ad 0)) rfl dX4_lies_20 ?_
        refine z_iload_n (pc := 23) gX 1 dX4_lies_23 rfl rfl ?_
        refine z_iald (pc := 24) gX (zIo_ok gX) (j := r) (n := 8) (f := sz) (zm 1 rfl) (by omega) (by decide) dX4_lies_24 ?_
        refine z_iload_n (pc := 25) gX 3 dX4_lies_25 rfl rfl ?_
        refine z_isub (pc := 26) gX dX4_lies_26 ?_
        refine z_icmp_gt (pc := 27) gX 34 dX4_lies_27 (by decide) (fun c27 => ?_) (fun c27 => ?_)
        · skip
          refine z_iconst (pc := 34) gX 0 dX4_lies_34 (by decide) ?_
          exact z_rzo gX hQX (by grind [mLies, bI]) dX4_lies_35
        · skip
          refine z_iconst (pc := 30) gX 1 dX4_lies_30 (by decide) ?_
          refine z_goto (pc := 31) gX 35 dX4_lies_31 (by decide) ?_
          exact z_rzo gX hQX (by grind [mLies, bI]) dX4_lies_35
theorem hd_X4_lies : zHd yX4_lies 3 := by unfold zHd; decide +kernel

set_option maxHeartbeats 4000000 in
theorem met_X4_status (l : Launch) (D : va_G) (B0 : Nat) (o : Nat) (ad : Nat → Nat) (x : Nat → Int32)  : Met l yX4_status (ws_ yX4_status cX4_status 1 (some .int)) (zRm 1 0 0) (va_Pc [.ref o] (zPreO B0 D [mOb o ad x])) (zQo (S := Unit) (fun _ => True) (fun _ => some (.int (x 0)))) 0 0 (fun _ => False) := by
  refine z_entryo (by decide +kernel) (Nat.le_of_ble_eq_true rfl) (fun pX eX sX mX argsX blX mtX cX QX hQX gX => ?_)
  refine z_eq (lv₂ := [(0, .ref o)]) (st₂ := []) ?_ rfl rfl
  refine z_aload_n (pc := 0) gX 0 dX4_status_0 rfl rfl ?_
  refine z_get (pc := 1) gX (zIo_ok gX) (zm 0 rfl) (ci := 4) (C := RX4) (T := TX4) (N := 20) rfl in_X4 4 (by decide) q1387 (fun _ h => h) (v := .int (x 0)) rfl dX4_status_1 ?_
  exact z_rio gX hQX rfl dX4_status_4
theorem hd_X4_status : zHd yX4_status 0 := by unfold zHd; decide +kernel

set_option maxHeartbeats 4000000 in
theorem met_X4_fault (l : Launch) (D : va_G) (B0 : Nat) (o : Nat) (ad : Nat → Nat) (x : Nat → Int32)  : Met l yX4_fault (ws_ yX4_fault cX4_fault 1 (some .int)) (zRm 1 0 0) (va_Pc [.ref o] (zPreO B0 D [mOb o ad x])) (zQo (S := Unit) (fun _ => True) (fun _ => some (.int (x 2)))) 0 0 (fun _ => False) := by
  refine z_entryo (by decide +kernel) (Nat.le_of_ble_eq_true rfl) (fun pX eX sX mX argsX blX mtX cX QX hQX gX => ?_)
  refine z_eq (lv₂ := [(0, .ref o)]) (st₂ := []) ?_ rfl rfl
  refine z_aload_n (pc := 0) gX 0 dX4_fault_0 rfl rfl ?_
  refine z_get (pc := 1) gX (zIo_ok gX) (zm 0 rfl) (ci := 4) (C := RX4) (T := TX4) (N := 20) rfl in_X4 7 (by decide) q1390 (fun _ h => h) (v := .int (x 2)) rfl dX4_fault_1 ?_
  exact z_rio gX hQX rfl dX4_fault_4
theorem hd_X4_fault : zHd yX4_fault 0 := by unfold zHd; decide +kernel

set_option maxHeartbeats 4000000 in
theorem met_X4_row (l : Launch) (D : va_G) (B0 : Nat) (A : Nat → Prop) (o : Nat) (ad : Nat → Nat) (x : Nat → Int32) (sz : Nat → Int32) (wd : Nat → Int32) (it : Nat → Int32) (row : Int32) (w : Int32) (n : Int32)  : Met l yX4_row (ws_ yX4_row cX4_row 5 (some .int)) (zRm 3 0 0) (va_Pc [.ref o, .int row, .int w, .int n] (zPre B0 D A [mOb o ad x, [(ad 0, .inl (D.1 100, 8, .inl sz))], [(ad 1, .inl (D.1 100, 8, .inl wd))], [(ad 2, .inl (D.1 100, 320, .inl it))]])) (zQ (S := Int32 × (Nat → Int32) × (Nat → Int32) × (Nat → Int32) × (Nat → Int32)) (fun u => (fun (r : Int32) (x1 : Nat → Int32) (sz1 : Nat → Int32) (wd1 : Nat → Int32) (it1 : Nat → Int32) => (r, x1, sz1, wd1, it1) = mRow x sz wd it row w n) u.1 u.2.1 u.2.2.1 u.2.2.2.1 u.2.2.2.2) (fun u => (fun (r : Int32) (x1 : Nat → Int32) (sz1 : Nat → Int32) (wd1 : Nat → Int32) (it1 : Nat → Int32) => some (.int r)) u.1 u.2.1 u.2.2.1 u.2.2.2.1 u.2.2.2.2) (fun u => (fun (r : Int32) (x1 : Nat → Int32) (sz1 : Nat → Int32) (wd1 : Nat → Int32) (it1 : Nat → Int32) => [mOb o ad x1, [(ad 0, .inl (D.1 100, 8, .inl sz1))], [(ad 1, .inl (D.1 100, 8, .inl wd1))], [(ad 2, .inl (D.1 100, 320, .inl it1))]]) u.1 u.2.1 u.2.2.1 u.2.2.2.1 u.2.2.2.2) D A) 0 0 A := by
  refine z_entry (by decide +kernel) (Nat.le_of_ble_eq_true rfl) (fun pX eX sX mX argsX blX mtX cX QX hQX gX hAX hnm => ?_)
  refine z_eq (lv₂ := [(0, .ref o), (1, .int row), (2, .int w), (3, .int n)]) (st₂ := []) ?_ rfl rfl
  refine z_iload_n (pc := 0) gX 1 dX4_row_0 rfl rfl ?_
  refine z_cOS (pc := 1) gX (zI_ok gX hAX) [.int row] [] [] (met_X4_isRow l D B0 row ) q1449 q1450 q54 q1451 hd_X4_isRow ⟨rfl, rfl⟩ ⟨(Nat.le_of_ble_eq_true rfl), (Nat.le_of_ble_eq_true rfl)⟩ rfl rfl rfl (Nat.le_of_ble_eq_true rfl) ⟨(Nat.le_of_ble_eq_true rfl), (Nat.le_of_ble_eq_true rfl)⟩ dX4_row_1 ?_
  intro _ hu1
  refine z_eq (lv₂ := [(0, .ref o), (1, .int row), (2, .int w), (3, .int n)]) (st₂ := [.int (bI (mIn row 0 7))]) ?_ rfl rfl
  refine z_if_eq (pc := 4) gX 22 dX4_row_4 (by decide) (fun c4 => ?_) (fun c4 => ?_)
  · skip
    have k4 : (mIn row 0 7) = false := bI_eq0 c4
    refine z_ldc (pc := 22) gX q1455 dX4_row_22 ?_
    exact z_rim gX hQX ((-1000001), x, sz, wd, it) (by simp [mRow, k4, Int32.not_le]) rfl rfl (by first | decide | omega) (by first | decide | omega) dX4_row_24
  · skip
    have k4 : (mIn row 0 7) = true := bI_ne0 c4
    refine z_iload_n (pc := 7) gX 2 dX4_row_7 rfl rfl ?_
    refine z_iconst (pc := 8) gX 0 dX4_row_8 (by decide) ?_
    refine z_iconst (pc := 9) gX 2 dX4_row_9 (by decide) ?_
    refine z_cOS (pc := 10) gX (zI_ok gX hAX) [.int w, .int 0, .int 2] [] [] (met_X4_in l D B0 w 0 2 ) q1452 q1453 q54 q1454 hd_X4_in ⟨rfl, rfl⟩ ⟨(Nat.le_of_ble_eq_true rfl), (Nat.le_of_ble_eq_true rfl)⟩ rfl rfl rfl (Nat.le_of_ble_eq_true rfl) ⟨(Nat.le_of_ble_eq_true rfl), (Nat.le_of_ble_eq_true rfl)⟩ dX4_row_10 ?_
    intro _ hu10
    refine z_eq (lv₂ := [(0, .ref o), (1, .int row), (2, .int w), (3, .int n)]) (st₂ := [.int (bI (mIn w 0 2))]) ?_ rfl rfl
    refine z_if_eq (pc := 13) gX 22 dX4_row_13 (by decide) (fun c13 => ?_) (fun c13 => ?_)
    · skip
      have k13 : (mIn w 0 2) = false := bI_eq0 c13
      refine z_ldc (pc := 22) gX q1455 dX4_row_22 ?_
      exact z_rim gX hQX ((-1000001), x, sz, wd, it) (by simp [mRow, k4, k13, Int32.not_le]) rfl rfl (by first | decide | omega) (by first | decide | omega) dX4_row_24
    · skip
      have k13 : (mIn w 0 2) = true := bI_ne0 c13
      refine z_iload_n (pc := 16) gX 3 dX4_row_16 rfl rfl ?_
      refine z_bipush (pc := 17) gX 40 dX4_row_17 (by decide) ?_
      refine z_icmp_le (pc := 19) gX 25 dX4_row_19 (by decide) (fun c19 => ?_) (fun c19 => ?_)
      · skip
        refine z_iload_n (pc := 25) gX 3 dX4_row_25 rfl rfl ?_
        refine z_if_ge (pc := 26) gX 36 dX4_row_26 (by decide) (fun c26 => ?_) (fun c26 => ?_)
        · skip
          obtain ⟨j, hj, rfl⟩ := mIn_nat k4 7 (by decide)
          refine z_aload_n (pc := 36) gX 0 dX4_row_36 rfl rfl ?_
          refine z_get (pc := 37) gX (zI_ok gX hAX) (zm 0 rfl) (ci := 4) (C := RX4) (T := TX4) (N := 20) rfl in_X4 0 (by decide) q1383 (fun _ h => h) (v := .ref (ad 0)) rfl dX4_row_37 ?_
          refine z_iload_n (pc := 40) gX 1 dX4_row_40 rfl rfl ?_
          refine z_iload_n (pc := 41) gX 3 dX4_row_41 rfl rfl ?_
          refine z_iast (pc := 42) gX hAX 1 (j := j) (n := 8) (f := sz) rfl (by omega) (by decide) [mOb o ad x, [(ad 0, .inl (D.1 100, 8, .inl (upd sz j n)))], [(ad 1, .inl (D.1 100, 8, .inl wd))], [(ad 2, .inl (D.1 100, 320, .inl it))]] rfl dX4_row_42 ?_
          refine z_aload_n (pc := 43) gX 0 dX4_row_43 rfl rfl ?_
          refine z_get (pc := 44) gX (zI_ok gX hAX) (zm 0 rfl) (ci := 4) (C := RX4) (T := TX4) (N := 20) rfl in_X4 1 (by decide) q1384 (fun _ h => h) (v := .ref (ad 1)) rfl dX4_row_44 ?_
          refine z_iload_n (pc := 47) gX 1 dX4_row_47 rfl rfl ?_
          refine z_iload_n (pc := 48) gX 2 dX4_row_48 rfl rfl ?_
          refine z_iast (pc := 49) gX hAX 2 (j := j) (n := 8) (f := wd) rfl (by omega) (by decide) [mOb o ad x, [(ad 0, .inl (D.1 100, 8, .inl (upd sz j n)))], [(ad 1, .inl (D.1 100, 8, .inl (upd wd j w)))], [(ad 2, .inl (D.1 100, 320, .inl it))]] rfl dX4_row_49 ?_
          refine z_iconst (pc := 50) gX 0 dX4_row_50 (by decide) ?_
          refine z_istore (pc := 51) gX [1, 2, 3, 4, 0] [(0, .ref o), (1, .int (nI j)), (2, .int w), (3, .int n), (4, .int 0)] dX4_row_51 (by decide) rfl ?_
          have L53 : ∀ (n53 : Nat) (k : Nat) (f : Nat → Int32), (k ≤ 40) → (f = zer it (40 * j) k) → 40 - k < n53 → zJ pX l eX (zRm 3 0 0) sX mX argsX blX mtX cX QX 5 (zI D A sX [mOb o ad x, [(ad 0, .inl (D.1 100, 8, .inl (upd sz j n)))], [(ad 1, .inl (D.1 100, 8, .inl (upd wd j w)))], [(ad 2, .inl (D.1 100, 320, .inl f))]]) 0 0 53 [(0, .ref o), (1, .int (nI j)), (2, .int w), (3, .int n), (4, .int (nI k))] [] := by
            intro n53
            induction n53 with
            | zero => exact fun k f hk hf hm53 => absurd hm53 (Nat.not_lt_zero _)
            | succ n53 ih53 =>
              intro k f hk hf hm53
              refine z_iload (pc := 53) gX 4 dX4_row_53 rfl ?_
              refine z_bipush (pc := 55) gX 40 dX4_row_55 (by decide) ?_
              refine z_icmp_ge (pc := 57) gX 79 dX4_row_57 (by decide) (fun c57 => ?_) (fun c57 => ?_)
              · skip
                have k57 : 40 ≤ k := (zn_le (a := 40) (b := k) (by omega) (by omega)).mp c57
                refine z_aload_n (pc := 79) gX 0 dX4_row_79 rfl rfl ?_
                refine z_iload_n (pc := 80) gX 3 dX4_row_80 rfl rfl ?_
                refine z_cMV (pc := 81) gX hAX [.int n] [] [0] [1, 2, 3] (fun A1 => met_X4_ends l D B0 A1 o ad x n ) q1457 q1459 qs28 q54 q1460 (zm 0 rfl) (ci := 4) rfl rfl hd_X4_ends ⟨rfl, rfl⟩ ⟨(Nat.le_of_ble_eq_true rfl), (Nat.le_of_ble_eq_true rfl)⟩ rfl rfl rfl rfl rfl (Nat.le_of_ble_eq_true rfl) ⟨(Nat.le_of_ble_eq_true rfl), (Nat.le_of_ble_eq_true rfl)⟩ dX4_row_81 ?_
                intro _ hu81
                refine z_re [0, 1, 2, 3] [mOb o ad (mSt x n), [(ad 0, .inl (D.1 100, 8, .inl (upd sz j n)))], [(ad 1, .inl (D.1 100, 8, .inl (upd wd j w)))], [(ad 2, .inl (D.1 100, 320, .inl f))]] rfl rfl ?_
                refine z_eq (lv₂ := [(0, .ref o), (1, .int (nI j)), (2, .int w), (3, .int n), (4, .int (nI k))]) (st₂ := [.int n]) ?_ rfl rfl
                exact z_rim gX hQX (n, mSt x n, upd sz j n, upd wd j w, f) (by rw [hf, show k = 40 by omega]; simp [mRow, k4, k13, c19, Int32.not_lt.mpr c26, nI_clamp (show j < 2 ^ 31 by omega)]) rfl rfl (by first | decide | omega) (by first | decide | omega) dX4_row_84
              · skip
                have k57 : k < 40 := (zn_nle (a := 40) (b := k) (by omega) (by omega)).mp c57
                refine z_aload_n (pc := 60) gX 0 dX4_row_60 rfl rfl ?_
                refine z_get (pc := 61) gX (zI_ok gX hAX) (zm 0 rfl) (ci := 4) (C := RX4) (T := TX4) (N := 20) rfl in_X4 2 (by decide) q1385 (fun _ h => h) (v := .ref (ad 2)) rfl dX4_row_61 ?_
                refine z_bipush (pc := 64) gX 40 dX4_row_64 (by decide) ?_
                refine z_iload_n (pc := 66) gX 1 dX4_row_66 rfl rfl ?_
                refine z_imul (pc := 67) gX dX4_row_67 ?_
                refine z_top (nI (40 * j)) (pk_mul 40 j) ?_
                refine z_iload (pc := 68) gX 4 dX4_row_68 rfl ?_
                refine z_iadd (pc := 70) gX dX4_row_70 ?_
                refine z_top (nI (40 * j + k)) (nI_add (40 * j) k) ?_
                refine z_iconst (pc := 71) gX 0 dX4_row_71 (by decide) ?_
                refine z_iast (pc := 72) gX hAX 3 (j := (40 * j + k)) (n := 320) (f := f) rfl (by omega) (by decide) [mOb o ad x, [(ad 0, .inl (D.1 100, 8, .inl (upd sz j n)))], [(ad 1, .inl (D.1 100, 8, .inl (upd wd j w)))], [(ad 2, .inl (D.1 100, 320, .inl (upd f (40 * j + k) 0)))]] rfl dX4_row_72 ?_
                refine z_iinc (pc := 73) gX 4 (nI (k + 1)) [1, 2, 3, 4, 0] [(0, .ref o), (1, .int (nI j)), (2, .int w), (3, .int n), (4, .int (nI (k + 1)))] dX4_row_73 rfl (nI_1 _) (by decide) rfl ?_
                refine z_goto (pc := 76) gX 53 dX4_row_76 (by decide) ?_
                exact ih53 (k + 1) (upd f (40 * j + k) 0) (by omega) (by rw [hf]; exact zer_s _ _ _) (by omega)
          exact L53 ((40 - 0) + 1) 0 it (by omega) ((zer_0 _ _).symm) (Nat.lt_succ_self _)
        · skip
          refine z_aload_n (pc := 29) gX 0 dX4_row_29 rfl rfl ?_
          refine z_ldc (pc := 30) gX q1456 dX4_row_30 ?_
          refine z_cMV (pc := 32) gX hAX [.int (-1000014)] [] [0] [1, 2, 3] (fun A1 => met_X4_ends l D B0 A1 o ad x (-1000014) ) q1457 q1459 qs28 q54 q1460 (zm 0 rfl) (ci := 4) rfl rfl hd_X4_ends ⟨rfl, rfl⟩ ⟨(Nat.le_of_ble_eq_true rfl), (Nat.le_of_ble_eq_true rfl)⟩ rfl rfl rfl rfl rfl (Nat.le_of_ble_eq_true rfl) ⟨(Nat.le_of_ble_eq_true rfl), (Nat.le_of_ble_eq_true rfl)⟩ dX4_row_32 ?_
          intro _ hu32
          refine z_re [0, 1, 2, 3] [mOb o ad (mSt x (-1000014)), [(ad 0, .inl (D.1 100, 8, .inl sz))], [(ad 1, .inl (D.1 100, 8, .inl wd))], [(ad 2, .inl (D.1 100, 320, .inl it))]] rfl rfl ?_
          refine z_eq (lv₂ := [(0, .ref o), (1, .int row), (2, .int w), (3, .int n)]) (st₂ := [.int (-1000014)]) ?_ rfl rfl
          exact z_rim gX hQX ((-1000014), mSt x (-1000014), sz, wd, it) (by simp [mRow, k4, k13, c19, c26, Int32.not_le]) rfl rfl (by first | decide | omega) (by first | decide | omega) dX4_row_35
      · skip
        refine z_ldc (pc := 22) gX q1455 dX4_row_22 ?_
        exact z_rim gX hQX ((-1000001), x, sz, wd, it) (by simp [mRow, k4, k13, c19, Int32.not_le]) rfl rfl (by first | decide | omega) (by first | decide | omega) dX4_row_24
theorem hd_X4_row : zHd yX4_row 3 := by unfold zHd; decide +kernel

theorem mLies_nat {z i n : Int32} (h : mLies z i n = true) (hz : z ≤ 40) : ∃ a b m : Nat, i = nI a ∧ n = nI b ∧ z = nI m ∧ a + b ≤ m ∧ m ≤ 40 := by
  simp only [mLies, Bool.and_eq_true, decide_eq_true_eq] at h
  obtain ⟨⟨⟨h1, h2⟩, h3⟩, h4⟩ := h
  obtain ⟨b, hb, rfl⟩ := nI_of2 (x := n) (M := 40) (n := 40) (by decide) (by rw [Int32.not_lt]; exact h2) (Int32.le_trans h3 hz)
  obtain ⟨m, hm, rfl⟩ := nI_of2 (x := z) (M := 40) (n := 40) (by decide) (by rw [Int32.not_lt]; exact Int32.le_trans h2 h3) hz
  have h3 := (zn_le (by omega) (by omega)).mp h3
  rw [pk_sub h3] at h4
  obtain ⟨a, ha, rfl⟩ := nI_of2 (x := i) (M := nI (m - b)) (n := m - b) (nI_toInt (by omega)) (by rw [Int32.not_lt]; exact h1) h4
  exact ⟨a, b, m, rfl, rfl, rfl, by omega, hm⟩
theorem cpT_s0 (f g : Nat → Int32) (k : Nat) : upd (cpT f 0 g k) k (g k) = cpT f 0 g (k + 1) := by
  have := cpT_s f g 0 k
  rwa [Nat.zero_add] at this
theorem cpT_at (f g : Nat → Int32) {n k : Nat} (h : k < n) : cpT f 0 g n k = g k := by simp only [cpT]; rw [if_pos (by omega), Nat.sub_zero]
theorem nI_1e {b : Nat} (h : (1 : Int32) = nI b) (hb : b < 2147483648) : b = 1 := ((zn_eq (a := 1) (b := b) (by omega) hb).mp h).symm

set_option maxHeartbeats 4000000 in
theorem met_X4_set (l : Launch) (D : va_G) (B0 : Nat) (A : Nat → Prop) (o : Nat) (ad : Nat → Nat) (x : Nat → Int32) (sz : Nat → Int32) (wd : Nat → Int32) (it : Nat → Int32) (row : Int32) (i : Int32) (v : Int32) (hsz : ∀ q : Nat, q < 8 → sz q ≤ 40) : Met l yX4_set (ws_ yX4_set cX4_set 5 (some .int)) (zRm 3 0 0) (va_Pc [.ref o, .int row, .int i, .int v] (zPre B0 D A [mOb o ad x, [(ad 0, .inl (D.1 100, 8, .inl sz))], [(ad 1, .inl (D.1 100, 8, .inl wd))], [(ad 2, .inl (D.1 100, 320, .inl it))]])) (zQ (S := Int32 × (Nat → Int32) × (Nat → Int32)) (fun u => (fun (r : Int32) (x1 : Nat → Int32) (it1 : Nat → Int32) => (r, x1, it1) = mSet x sz wd it row i v) u.1 u.2.1 u.2.2) (fun u => (fun (r : Int32) (x1 : Nat → Int32) (it1 : Nat → Int32) => some (.int r)) u.1 u.2.1 u.2.2) (fun u => (fun (r : Int32) (x1 : Nat → Int32) (it1 : Nat → Int32) => [mOb o ad x1, [(ad 0, .inl (D.1 100, 8, .inl sz))], [(ad 1, .inl (D.1 100, 8, .inl wd))], [(ad 2, .inl (D.1 100, 320, .inl it1))]]) u.1 u.2.1 u.2.2) D A) 0 0 A := by
  refine z_entry (by decide +kernel) (Nat.le_of_ble_eq_true rfl) (fun pX eX sX mX argsX blX mtX cX QX hQX gX hAX hnm => ?_)
  refine z_eq (lv₂ := [(0, .ref o), (1, .int row), (2, .int i), (3, .int v)]) (st₂ := []) ?_ rfl rfl
  refine z_iload_n (pc := 0) gX 1 dX4_set_0 rfl rfl ?_
  refine z_cOS (pc := 1) gX (zI_ok gX hAX) [.int row] [] [] (met_X4_isRow l D B0 row ) q1449 q1450 q54 q1451 hd_X4_isRow ⟨rfl, rfl⟩ ⟨(Nat.le_of_ble_eq_true rfl), (Nat.le_of_ble_eq_true rfl)⟩ rfl rfl rfl (Nat.le_of_ble_eq_true rfl) ⟨(Nat.le_of_ble_eq_true rfl), (Nat.le_of_ble_eq_true rfl)⟩ dX4_set_1 ?_
  intro _ hu1
  refine z_eq (lv₂ := [(0, .ref o), (1, .int row), (2, .int i), (3, .int v)]) (st₂ := [.int (bI (mIn row 0 7))]) ?_ rfl rfl
  refine z_if_ne (pc := 4) gX 10 dX4_set_4 (by decide) (fun c4 => ?_) (fun c4 => ?_)
  · skip
    have k4 : (mIn row 0 7) = true := bI_ne0 c4
    obtain ⟨j, hj, rfl⟩ := mIn_nat k4 7 (by decide)
    refine z_aload_n (pc := 10) gX 0 dX4_set_10 rfl rfl ?_
    refine z_get (pc := 11) gX (zI_ok gX hAX) (zm 0 rfl) (ci := 4) (C := RX4) (T := TX4) (N := 20) rfl in_X4 0 (by decide) q1383 (fun _ h => h) (v := .ref (ad 0)) rfl dX4_set_11 ?_
    refine z_iload_n (pc := 14) gX 1 dX4_set_14 rfl rfl ?_
    refine z_iald (pc := 15) gX (zI_ok gX hAX) (j := j) (n := 8) (f := sz) (zm 1 rfl) (by omega) (by decide) dX4_set_15 ?_
    refine z_if_ge (pc := 16) gX 26 dX4_set_16 (by decide) (fun c16 => ?_) (fun c16 => ?_)
    · skip
      refine z_aload_n (pc := 26) gX 0 dX4_set_26 rfl rfl ?_
      refine z_iload_n (pc := 27) gX 1 dX4_set_27 rfl rfl ?_
      refine z_iload_n (pc := 28) gX 2 dX4_set_28 rfl rfl ?_
      refine z_iconst (pc := 29) gX 1 dX4_set_29 (by decide) ?_
      refine z_cOV (pc := 30) gX (zI_ok gX hAX) [.int (nI j), .int i, .int 1] [] [0, 1] (met_X4_lies l D B0 o ad x sz j i 1 (by first | assumption | omega)) q1468 q1470 qs29 q54 q1471 (zm 0 rfl) (ci := 4) rfl rfl hd_X4_lies ⟨rfl, rfl⟩ ⟨(Nat.le_of_ble_eq_true rfl), (Nat.le_of_ble_eq_true rfl)⟩ rfl rfl rfl (Nat.le_of_ble_eq_true rfl) ⟨(Nat.le_of_ble_eq_true rfl), (Nat.le_of_ble_eq_true rfl)⟩ dX4_set_30 ?_
      intro _ hu30
      refine z_eq (lv₂ := [(0, .ref o), (1, .int (nI j)), (2, .int i), (3, .int v)]) (st₂ := [.int (bI (mLies (sz j) i 1))]) ?_ rfl rfl
      refine z_if_ne (pc := 33) gX 43 dX4_set_33 (by decide) (fun c33 => ?_) (fun c33 => ?_)
      · skip
        have k33 : (mLies (sz j) i 1) = true := bI_ne0 c33
        obtain ⟨a, b, m0, hai, hb1, hzm, hab, hm⟩ := mLies_nat k33 (hsz j (by omega))
        subst hai
        have hb := nI_1e hb1 (by omega)
        refine z_aload_n (pc := 43) gX 0 dX4_set_43 rfl rfl ?_
        refine z_get (pc := 44) gX (zI_ok gX hAX) (zm 0 rfl) (ci := 4) (C := RX4) (T := TX4) (N := 20) rfl in_X4 1 (by decide) q1384 (fun _ h => h) (v := .ref (ad 1)) rfl dX4_set_44 ?_
        refine z_iload_n (pc := 47) gX 1 dX4_set_47 rfl rfl ?_
        refine z_iald (pc := 48) gX (zI_ok gX hAX) (j := j) (n := 8) (f := wd) (zm 2 rfl) (by omega) (by decide) dX4_set_48 ?_
        refine z_iload_n (pc := 49) gX 3 dX4_set_49 rfl rfl ?_
        refine z_cOS (pc := 50) gX (zI_ok gX hAX) [.int (wd j), .int v] [] [] (met_X4_cut l D B0 (wd j) v ) q1473 q1474 q54 q1475 hd_X4_cut ⟨rfl, rfl⟩ ⟨(Nat.le_of_ble_eq_true rfl), (Nat.le_of_ble_eq_true rfl)⟩ rfl rfl rfl (Nat.le_of_ble_eq_true rfl) ⟨(Nat.le_of_ble_eq_true rfl), (Nat.le_of_ble_eq_true rfl)⟩ dX4_set_50 ?_
        intro _ hu50
        refine z_eq (lv₂ := [(0, .ref o), (1, .int (nI j)), (2, .int (nI a)), (3, .int v)]) (st₂ := [.int (mCut (wd j) v)]) ?_ rfl rfl
        refine z_istore (pc := 53) gX [1, 2, 3, 4, 0] [(0, .ref o), (1, .int (nI j)), (2, .int (nI a)), (3, .int v), (4, .int (mCut (wd j) v))] dX4_set_53 (by decide) rfl ?_
        refine z_aload_n (pc := 55) gX 0 dX4_set_55 rfl rfl ?_
        refine z_get (pc := 56) gX (zI_ok gX hAX) (zm 0 rfl) (ci := 4) (C := RX4) (T := TX4) (N := 20) rfl in_X4 2 (by decide) q1385 (fun _ h => h) (v := .ref (ad 2)) rfl dX4_set_56 ?_
        refine z_bipush (pc := 59) gX 40 dX4_set_59 (by decide) ?_
        refine z_iload_n (pc := 61) gX 1 dX4_set_61 rfl rfl ?_
        refine z_imul (pc := 62) gX dX4_set_62 ?_
        refine z_top (nI (40 * j)) (pk_mul 40 j) ?_
        refine z_iload_n (pc := 63) gX 2 dX4_set_63 rfl rfl ?_
        refine z_iadd (pc := 64) gX dX4_set_64 ?_
        refine z_top (nI (40 * j + a)) (nI_add (40 * j) a) ?_
        refine z_iload (pc := 65) gX 4 dX4_set_65 rfl ?_
        refine z_iast (pc := 67) gX hAX 3 (j := (40 * j + a)) (n := 320) (f := it) rfl (by omega) (by decide) [mOb o ad x, [(ad 0, .inl (D.1 100, 8, .inl sz))], [(ad 1, .inl (D.1 100, 8, .inl wd))], [(ad 2, .inl (D.1 100, 320, .inl (upd it (40 * j + a) (mCut (wd j) v))))]] rfl dX4_set_67 ?_
        refine z_aload_n (pc := 68) gX 0 dX4_set_68 rfl rfl ?_
        refine z_iconst (pc := 69) gX 0 dX4_set_69 (by decide) ?_
        refine z_put (pc := 70) gX hAX 0 rfl (ci := 4) (C := RX4) (T := TX4) (N := 20) rfl in_X4 tyX4 tyX4_ok nmX4 4 (by decide) q1387 (fun _ h => h) rfl (v := .int 0) rfl rfl (Nat.le_of_ble_eq_true rfl) [mOb o ad (upd x 0 0), [(ad 0, .inl (D.1 100, 8, .inl sz))], [(ad 1, .inl (D.1 100, 8, .inl wd))], [(ad 2, .inl (D.1 100, 320, .inl (upd it (40 * j + a) (mCut (wd j) v))))]] rfl dX4_set_70 ?_
        refine z_iload (pc := 73) gX 4 dX4_set_73 rfl ?_
        exact z_rim gX hQX (mCut (wd j) v, upd x 0 0, upd it (40 * j + a) (mCut (wd j) v)) (by simp [mSet, k4, Int32.not_lt.mpr c16, nI_clamp (show j < 2 ^ 31 by omega), k33, nI_clamp (show a < 2 ^ 31 by omega)]) rfl rfl (by first | decide | omega) (by first | decide | omega) dX4_set_75
      · skip
        have k33 : (mLies (sz j) i 1) = false := bI_eq0 c33
        refine z_aload_n (pc := 36) gX 0 dX4_set_36 rfl rfl ?_
        refine z_ldc (pc := 37) gX q1472 dX4_set_37 ?_
        refine z_cMV (pc := 39) gX hAX [.int (-1000012)] [] [0] [1, 2, 3] (fun A1 => met_X4_ends l D B0 A1 o ad x (-1000012) ) q1457 q1459 qs28 q54 q1460 (zm 0 rfl) (ci := 4) rfl rfl hd_X4_ends ⟨rfl, rfl⟩ ⟨(Nat.le_of_ble_eq_true rfl), (Nat.le_of_ble_eq_true rfl)⟩ rfl rfl rfl rfl rfl (Nat.le_of_ble_eq_true rfl) ⟨(Nat.le_of_ble_eq_true rfl), (Nat.le_of_ble_eq_true rfl)⟩ dX4_set_39 ?_
        intro _ hu39
        refine z_re [0, 1, 2, 3] [mOb o ad (mSt x (-1000012)), [(ad 0, .inl (D.1 100, 8, .inl sz))], [(ad 1, .inl (D.1 100, 8, .inl wd))], [(ad 2, .inl (D.1 100, 320, .inl it))]] rfl rfl ?_
        refine z_eq (lv₂ := [(0, .ref o), (1, .int (nI j)), (2, .int i), (3, .int v)]) (st₂ := [.int (-1000012)]) ?_ rfl rfl
        exact z_rim gX hQX ((-1000012), mSt x (-1000012), it) (by simp [mSet, k4, Int32.not_lt.mpr c16, nI_clamp (show j < 2 ^ 31 by omega), k33]) rfl rfl (by first | decide | omega) (by first | decide | omega) dX4_set_42
    · skip
      refine z_aload_n (pc := 19) gX 0 dX4_set_19 rfl rfl ?_
      refine z_ldc (pc := 20) gX q1462 dX4_set_20 ?_
      refine z_cMV (pc := 22) gX hAX [.int (-1000011)] [] [0] [1, 2, 3] (fun A1 => met_X4_ends l D B0 A1 o ad x (-1000011) ) q1457 q1459 qs28 q54 q1460 (zm 0 rfl) (ci := 4) rfl rfl hd_X4_ends ⟨rfl, rfl⟩ ⟨(Nat.le_of_ble_eq_true rfl), (Nat.le_of_ble_eq_true rfl)⟩ rfl rfl rfl rfl rfl (Nat.le_of_ble_eq_true rfl) ⟨(Nat.le_of_ble_eq_true rfl), (Nat.le_of_ble_eq_true rfl)⟩ dX4_set_22 ?_
      intro _ hu22
      refine z_re [0, 1, 2, 3] [mOb o ad (mSt x (-1000011)), [(ad 0, .inl (D.1 100, 8, .inl sz))], [(ad 1, .inl (D.1 100, 8, .inl wd))], [(ad 2, .inl (D.1 100, 320, .inl it))]] rfl rfl ?_
      refine z_eq (lv₂ := [(0, .ref o), (1, .int (nI j)), (2, .int i), (3, .int v)]) (st₂ := [.int (-1000011)]) ?_ rfl rfl
      exact z_rim gX hQX ((-1000011), mSt x (-1000011), it) (by simp [mSet, k4, Int32.not_le.mp c16, nI_clamp (show j < 2 ^ 31 by omega)]) rfl rfl (by first | decide | omega) (by first | decide | omega) dX4_set_25
  · skip
    have k4 : (mIn row 0 7) = false := bI_eq0 c4
    refine z_ldc (pc := 7) gX q1455 dX4_set_7 ?_
    exact z_rim gX hQX ((-1000001), x, it) (by simp [mSet, k4]) rfl rfl (by first | decide | omega) (by first | decide | omega) dX4_set_9
theorem hd_X4_set : zHd yX4_set 3 := by unfold zHd; decide +kernel

set_option maxHeartbeats 4000000 in
theorem met_X4_drop (l : Launch) (D : va_G) (B0 : Nat) (A : Nat → Prop) (o : Nat) (ad : Nat → Nat) (x : Nat → Int32) (sz : Nat → Int32) (row : Int32)  : Met l yX4_drop (ws_ yX4_drop cX4_drop 3 (some .int)) (zRm 3 0 0) (va_Pc [.ref o, .int row] (zPre B0 D A [mOb o ad x, [(ad 0, .inl (D.1 100, 8, .inl sz))]])) (zQ (S := Int32 × (Nat → Int32) × (Nat → Int32)) (fun u => (fun (r : Int32) (x1 : Nat → Int32) (sz1 : Nat → Int32) => (r, x1, sz1) = mDrop x sz row) u.1 u.2.1 u.2.2) (fun u => (fun (r : Int32) (x1 : Nat → Int32) (sz1 : Nat → Int32) => some (.int r)) u.1 u.2.1 u.2.2) (fun u => (fun (r : Int32) (x1 : Nat → Int32) (sz1 : Nat → Int32) => [mOb o ad x1, [(ad 0, .inl (D.1 100, 8, .inl sz1))]]) u.1 u.2.1 u.2.2) D A) 0 0 A := by
  refine z_entry (by decide +kernel) (Nat.le_of_ble_eq_true rfl) (fun pX eX sX mX argsX blX mtX cX QX hQX gX hAX hnm => ?_)
  refine z_eq (lv₂ := [(0, .ref o), (1, .int row)]) (st₂ := []) ?_ rfl rfl
  refine z_iload_n (pc := 0) gX 1 dX4_drop_0 rfl rfl ?_
  refine z_cOS (pc := 1) gX (zI_ok gX hAX) [.int row] [] [] (met_X4_isRow l D B0 row ) q1449 q1450 q54 q1451 hd_X4_isRow ⟨rfl, rfl⟩ ⟨(Nat.le_of_ble_eq_true rfl), (Nat.le_of_ble_eq_true rfl)⟩ rfl rfl rfl (Nat.le_of_ble_eq_true rfl) ⟨(Nat.le_of_ble_eq_true rfl), (Nat.le_of_ble_eq_true rfl)⟩ dX4_drop_1 ?_
  intro _ hu1
  refine z_eq (lv₂ := [(0, .ref o), (1, .int row)]) (st₂ := [.int (bI (mIn row 0 7))]) ?_ rfl rfl
  refine z_if_ne (pc := 4) gX 10 dX4_drop_4 (by decide) (fun c4 => ?_) (fun c4 => ?_)
  · skip
    have k4 : (mIn row 0 7) = true := bI_ne0 c4
    obtain ⟨j, hj, rfl⟩ := mIn_nat k4 7 (by decide)
    refine z_aload_n (pc := 10) gX 0 dX4_drop_10 rfl rfl ?_
    refine z_get (pc := 11) gX (zI_ok gX hAX) (zm 0 rfl) (ci := 4) (C := RX4) (T := TX4) (N := 20) rfl in_X4 0 (by decide) q1383 (fun _ h => h) (v := .ref (ad 0)) rfl dX4_drop_11 ?_
    refine z_iload_n (pc := 14) gX 1 dX4_drop_14 rfl rfl ?_
    refine z_iald (pc := 15) gX (zI_ok gX hAX) (j := j) (n := 8) (f := sz) (zm 1 rfl) (by omega) (by decide) dX4_drop_15 ?_
    refine z_if_ge (pc := 16) gX 26 dX4_drop_16 (by decide) (fun c16 => ?_) (fun c16 => ?_)
    · skip
      refine z_aload_n (pc := 26) gX 0 dX4_drop_26 rfl rfl ?_
      refine z_get (pc := 27) gX (zI_ok gX hAX) (zm 0 rfl) (ci := 4) (C := RX4) (T := TX4) (N := 20) rfl in_X4 0 (by decide) q1383 (fun _ h => h) (v := .ref (ad 0)) rfl dX4_drop_27 ?_
      refine z_iload_n (pc := 30) gX 1 dX4_drop_30 rfl rfl ?_
      refine z_iald (pc := 31) gX (zI_ok gX hAX) (j := j) (n := 8) (f := sz) (zm 1 rfl) (by omega) (by decide) dX4_drop_31 ?_
      refine z_istore_n (pc := 32) gX [1, 2, 0] [(0, .ref o), (1, .int (nI j)), (2, .int (sz j))] dX4_drop_32 rfl (by decide) rfl ?_
      refine z_aload_n (pc := 33) gX 0 dX4_drop_33 rfl rfl ?_
      refine z_get (pc := 34) gX (zI_ok gX hAX) (zm 0 rfl) (ci := 4) (C := RX4) (T := TX4) (N := 20) rfl in_X4 0 (by decide) q1383 (fun _ h => h) (v := .ref (ad 0)) rfl dX4_drop_34 ?_
      refine z_iload_n (pc := 37) gX 1 dX4_drop_37 rfl rfl ?_
      refine z_iconst (pc := 38) gX (-1) dX4_drop_38 (by decide) ?_
      refine z_iast (pc := 39) gX hAX 1 (j := j) (n := 8) (f := sz) rfl (by omega) (by decide) [mOb o ad x, [(ad 0, .inl (D.1 100, 8, .inl (upd sz j (-1))))]] rfl dX4_drop_39 ?_
      refine z_aload_n (pc := 40) gX 0 dX4_drop_40 rfl rfl ?_
      refine z_iload_n (pc := 41) gX 2 dX4_drop_41 rfl rfl ?_
      refine z_cMV (pc := 42) gX hAX [.int (sz j)] [] [0] [1] (fun A1 => met_X4_ends l D B0 A1 o ad x (sz j) ) q1457 q1459 qs28 q54 q1460 (zm 0 rfl) (ci := 4) rfl rfl hd_X4_ends ⟨rfl, rfl⟩ ⟨(Nat.le_of_ble_eq_true rfl), (Nat.le_of_ble_eq_true rfl)⟩ rfl rfl rfl rfl rfl (Nat.le_of_ble_eq_true rfl) ⟨(Nat.le_of_ble_eq_true rfl), (Nat.le_of_ble_eq_true rfl)⟩ dX4_drop_42 ?_
      intro _ hu42
      refine z_re [0, 1] [mOb o ad (mSt x (sz j)), [(ad 0, .inl (D.1 100, 8, .inl (upd sz j (-1))))]] rfl rfl ?_
      refine z_eq (lv₂ := [(0, .ref o), (1, .int (nI j)), (2, .int (sz j))]) (st₂ := [.int (sz j)]) ?_ rfl rfl
      exact z_rim gX hQX ((sz j), mSt x (sz j), upd sz j (-1)) (by simp [mDrop, k4, Int32.not_lt.mpr c16, nI_clamp (show j < 2 ^ 31 by omega)]) rfl rfl (by first | decide | omega) (by first | decide | omega) dX4_drop_45
    · skip
      refine z_aload_n (pc := 19) gX 0 dX4_drop_19 rfl rfl ?_
      refine z_ldc (pc := 20) gX q1462 dX4_drop_20 ?_
      refine z_cMV (pc := 22) gX hAX [.int (-1000011)] [] [0] [1] (fun A1 => met_X4_ends l D B0 A1 o ad x (-1000011) ) q1457 q1459 qs28 q54 q1460 (zm 0 rfl) (ci := 4) rfl rfl hd_X4_ends ⟨rfl, rfl⟩ ⟨(Nat.le_of_ble_eq_true rfl), (Nat.le_of_ble_eq_true rfl)⟩ rfl rfl rfl rfl rfl (Nat.le_of_ble_eq_true rfl) ⟨(Nat.le_of_ble_eq_true rfl), (Nat.le_of_ble_eq_true rfl)⟩ dX4_drop_22 ?_
      intro _ hu22
      refine z_re [0, 1] [mOb o ad (mSt x (-1000011)), [(ad 0, .inl (D.1 100, 8, .inl sz))]] rfl rfl ?_
      refine z_eq (lv₂ := [(0, .ref o), (1, .int (nI j))]) (st₂ := [.int (-1000011)]) ?_ rfl rfl
      exact z_rim gX hQX ((-1000011), mSt x (-1000011), sz) (by simp [mDrop, k4, Int32.not_le.mp c16, nI_clamp (show j < 2 ^ 31 by omega)]) rfl rfl (by first | decide | omega) (by first | decide | omega) dX4_drop_25
  · skip
    have k4 : (mIn row 0 7) = false := bI_eq0 c4
    refine z_ldc (pc := 7) gX q1455 dX4_drop_7 ?_
    exact z_rim gX hQX ((-1000001), x, sz) (by simp [mDrop, k4]) rfl rfl (by first | decide | omega) (by first | decide | omega) dX4_drop_9
theorem hd_X4_drop : zHd yX4_drop 1 := by unfold zHd; decide +kernel

set_option maxHeartbeats 4000000 in
theorem met_X4_feed (l : Launch) (D : va_G) (B0 : Nat) (A : Nat → Prop) (o : Nat) (ad : Nat → Nat) (x : Nat → Int32) (tp : Nat → Int32) (t : Nat) (v : Int32) (ht : x 1 = nI t) (ht90 : t ≤ 90) : Met l yX4_feed (ws_ yX4_feed cX4_feed 2 (some .int)) (zRm 2 0 0) (va_Pc [.ref o, .int v] (zPre B0 D A [mOb o ad x, [(ad 4, .inl (D.1 100, 90, .inl tp))]])) (zQ (S := Int32 × (Nat → Int32) × (Nat → Int32)) (fun u => (fun (r : Int32) (x1 : Nat → Int32) (tp1 : Nat → Int32) => (r, x1, tp1) = mFeed x tp v) u.1 u.2.1 u.2.2) (fun u => (fun (r : Int32) (x1 : Nat → Int32) (tp1 : Nat → Int32) => some (.int r)) u.1 u.2.1 u.2.2) (fun u => (fun (r : Int32) (x1 : Nat → Int32) (tp1 : Nat → Int32) => [mOb o ad x1, [(ad 4, .inl (D.1 100, 90, .inl tp1))]]) u.1 u.2.1 u.2.2) D A) 0 0 A := by
  refine z_entry (by decide +kernel) (Nat.le_of_ble_eq_true rfl) (fun pX eX sX mX argsX blX mtX cX QX hQX gX hAX hnm => ?_)
  refine z_eq (lv₂ := [(0, .ref o), (1, .int v)]) (st₂ := []) ?_ rfl rfl
  refine z_iload_n (pc := 0) gX 1 dX4_feed_0 rfl rfl ?_
  refine z_iconst (pc := 1) gX 0 dX4_feed_1 (by decide) ?_
  refine z_sipush (pc := 2) gX 255 dX4_feed_2 (by decide) ?_
  refine z_cOS (pc := 5) gX (zI_ok gX hAX) [.int v, .int 0, .int 255] [] [] (met_X4_in l D B0 v 0 255 ) q1452 q1453 q54 q1454 hd_X4_in ⟨rfl, rfl⟩ ⟨(Nat.le_of_ble_eq_true rfl), (Nat.le_of_ble_eq_true rfl)⟩ rfl rfl rfl (Nat.le_of_ble_eq_true rfl) ⟨(Nat.le_of_ble_eq_true rfl), (Nat.le_of_ble_eq_true rfl)⟩ dX4_feed_5 ?_
  intro _ hu5
  refine z_eq (lv₂ := [(0, .ref o), (1, .int v)]) (st₂ := [.int (bI (mIn v 0 255))]) ?_ rfl rfl
  refine z_if_ne (pc := 8) gX 14 dX4_feed_8 (by decide) (fun c8 => ?_) (fun c8 => ?_)
  · skip
    have k8 : (mIn v 0 255) = true := bI_ne0 c8
    refine z_aload_n (pc := 14) gX 0 dX4_feed_14 rfl rfl ?_
    refine z_get (pc := 15) gX (zI_ok gX hAX) (zm 0 rfl) (ci := 4) (C := RX4) (T := TX4) (N := 20) rfl in_X4 6 (by decide) q1389 (fun _ h => h) (v := .int (x 1)) rfl dX4_feed_15 ?_
    refine z_top (nI t) ht ?_
    refine z_bipush (pc := 18) gX 90 dX4_feed_18 (by decide) ?_
    refine z_icmp_ne (pc := 20) gX 26 dX4_feed_20 (by decide) (fun c20 => ?_) (fun c20 => ?_)
    · skip
      have k20 : ¬ t = 90 := fun h => c20 ((zn_eq (a := t) (b := 90) (by omega) (by omega)).mpr h)
      refine z_aload_n (pc := 26) gX 0 dX4_feed_26 rfl rfl ?_
      refine z_get (pc := 27) gX (zI_ok gX hAX) (zm 0 rfl) (ci := 4) (C := RX4) (T := TX4) (N := 20) rfl in_X4 5 (by decide) q1388 (fun _ h => h) (v := .ref (ad 4)) rfl dX4_feed_27 ?_
      refine z_aload_n (pc := 30) gX 0 dX4_feed_30 rfl rfl ?_
      refine z_get (pc := 31) gX (zI_ok gX hAX) (zm 0 rfl) (ci := 4) (C := RX4) (T := TX4) (N := 20) rfl in_X4 6 (by decide) q1389 (fun _ h => h) (v := .int (x 1)) rfl dX4_feed_31 ?_
      refine z_top (nI t) ht ?_
      refine z_iload_n (pc := 34) gX 1 dX4_feed_34 rfl rfl ?_
      refine z_iast (pc := 35) gX hAX 1 (j := t) (n := 90) (f := tp) rfl (by omega) (by decide) [mOb o ad x, [(ad 4, .inl (D.1 100, 90, .inl (upd tp t v)))]] rfl dX4_feed_35 ?_
      refine z_aload_n (pc := 36) gX 0 dX4_feed_36 rfl rfl ?_
      refine z_dup (pc := 37) gX dX4_feed_37 rfl ?_
      refine z_get (pc := 38) gX (zI_ok gX hAX) (zm 0 rfl) (ci := 4) (C := RX4) (T := TX4) (N := 20) rfl in_X4 6 (by decide) q1389 (fun _ h => h) (v := .int (x 1)) rfl dX4_feed_38 ?_
      refine z_top (nI t) ht ?_
      refine z_iconst (pc := 41) gX 1 dX4_feed_41 (by decide) ?_
      refine z_iadd (pc := 42) gX dX4_feed_42 ?_
      refine z_top (nI (t + 1)) (nI_add t 1) ?_
      refine z_put (pc := 43) gX hAX 0 rfl (ci := 4) (C := RX4) (T := TX4) (N := 20) rfl in_X4 tyX4 tyX4_ok nmX4 6 (by decide) q1389 (fun _ h => h) rfl (v := .int (nI (t + 1))) rfl rfl (Nat.le_of_ble_eq_true rfl) [mOb o ad (upd x 1 (nI (t + 1))), [(ad 4, .inl (D.1 100, 90, .inl (upd tp t v)))]] rfl dX4_feed_43 ?_
      refine z_aload_n (pc := 46) gX 0 dX4_feed_46 rfl rfl ?_
      refine z_get (pc := 47) gX (zI_ok gX hAX) (zm 0 rfl) (ci := 4) (C := RX4) (T := TX4) (N := 20) rfl in_X4 6 (by decide) q1389 (fun _ h => h) (v := .int (nI (t + 1))) rfl dX4_feed_47 ?_
      exact z_rim gX hQX (nI (t + 1), upd x 1 (nI (t + 1)), upd tp t v) (by simp only [mFeed, k8, ht, if_true, if_neg c20, nI_clamp (show t < 2 ^ 31 by omega), nI_1]) rfl rfl (by first | decide | omega) (by first | decide | omega) dX4_feed_50
    · skip
      have k20 : t = 90 := (zn_eq (a := t) (b := 90) (by omega) (by omega)).mp c20
      refine z_ldc (pc := 23) gX q1488 dX4_feed_23 ?_
      exact z_rim gX hQX ((-1000003), x, tp) (by simp [mFeed, k8, ht, c20]) rfl rfl (by first | decide | omega) (by first | decide | omega) dX4_feed_25
  · skip
    have k8 : (mIn v 0 255) = false := bI_eq0 c8
    refine z_ldc (pc := 11) gX q1455 dX4_feed_11 ?_
    exact z_rim gX hQX ((-1000001), x, tp) (by simp [mFeed, k8]) rfl rfl (by first | decide | omega) (by first | decide | omega) dX4_feed_13
theorem hd_X4_feed : zHd yX4_feed 1 := by unfold zHd; decide +kernel

set_option maxHeartbeats 4000000 in
theorem met_X4_copy (l : Launch) (D : va_G) (B0 : Nat) (A : Nat → Prop) (o : Nat) (ad : Nat → Nat) (x : Nat → Int32) (sz : Nat → Int32) (wd : Nat → Int32) (it : Nat → Int32) (mv : Nat → Int32) (a : Int32) (i : Int32) (b : Int32) (j : Int32) (n : Int32) (hsz : ∀ q : Nat, q < 8 → sz q ≤ 40) : Met l yX4_copy (ws_ yX4_copy cX4_copy 7 (some .int)) (zRm 3 0 0) (va_Pc [.ref o, .int a, .int i, .int b, .int j, .int n] (zPre B0 D A [mOb o ad x, [(ad 0, .inl (D.1 100, 8, .inl sz))], [(ad 1, .inl (D.1 100, 8, .inl wd))], [(ad 2, .inl (D.1 100, 320, .inl it))], [(ad 3, .inl (D.1 100, 40, .inl mv))]])) (zQ (S := Int32 × (Nat → Int32) × (Nat → Int32) × (Nat → Int32)) (fun u => (fun (r : Int32) (x1 : Nat → Int32) (it1 : Nat → Int32) (mv1 : Nat → Int32) => (r, x1, it1) = mCopy x sz wd it a i b j n) u.1 u.2.1 u.2.2.1 u.2.2.2) (fun u => (fun (r : Int32) (x1 : Nat → Int32) (it1 : Nat → Int32) (mv1 : Nat → Int32) => some (.int r)) u.1 u.2.1 u.2.2.1 u.2.2.2) (fun u => (fun (r : Int32) (x1 : Nat → Int32) (it1 : Nat → Int32) (mv1 : Nat → Int32) => [mOb o ad x1, [(ad 0, .inl (D.1 100, 8, .inl sz))], [(ad 1, .inl (D.1 100, 8, .inl wd))], [(ad 2, .inl (D.1 100, 320, .inl it1))], [(ad 3, .inl (D.1 100, 40, .inl mv1))]]) u.1 u.2.1 u.2.2.1 u.2.2.2) D A) 0 0 A := by
  refine z_entry (by decide +kernel) (Nat.le_of_ble_eq_true rfl) (fun pX eX sX mX argsX blX mtX cX QX hQX gX hAX hnm => ?_)
  refine z_eq (lv₂ := [(0, .ref o), (1, .int a), (2, .int i), (3, .int b), (4, .int j), (5, .int n)]) (st₂ := []) ?_ rfl rfl
  refine z_iload_n (pc := 0) gX 1 dX4_copy_0 rfl rfl ?_
  refine z_cOS (pc := 1) gX (zI_ok gX hAX) [.int a] [] [] (met_X4_isRow l D B0 a ) q1449 q1450 q54 q1451 hd_X4_isRow ⟨rfl, rfl⟩ ⟨(Nat.le_of_ble_eq_true rfl), (Nat.le_of_ble_eq_true rfl)⟩ rfl rfl rfl (Nat.le_of_ble_eq_true rfl) ⟨(Nat.le_of_ble_eq_true rfl), (Nat.le_of_ble_eq_true rfl)⟩ dX4_copy_1 ?_
  intro _ hu1
  refine z_eq (lv₂ := [(0, .ref o), (1, .int a), (2, .int i), (3, .int b), (4, .int j), (5, .int n)]) (st₂ := [.int (bI (mIn a 0 7))]) ?_ rfl rfl
  refine z_if_eq (pc := 4) gX 14 dX4_copy_4 (by decide) (fun c4 => ?_) (fun c4 => ?_)
  · skip
    have k4 : (mIn a 0 7) = false := bI_eq0 c4
    refine z_ldc (pc := 14) gX q1455 dX4_copy_14 ?_
    exact z_rim gX hQX ((-1000001), x, it, mv) (by simp [mCopy, k4]) rfl rfl (by first | decide | omega) (by first | decide | omega) dX4_copy_16
  · skip
    have k4 : (mIn a 0 7) = true := bI_ne0 c4
    refine z_iload_n (pc := 7) gX 3 dX4_copy_7 rfl rfl ?_
    refine z_cOS (pc := 8) gX (zI_ok gX hAX) [.int b] [] [] (met_X4_isRow l D B0 b ) q1449 q1450 q54 q1451 hd_X4_isRow ⟨rfl, rfl⟩ ⟨(Nat.le_of_ble_eq_true rfl), (Nat.le_of_ble_eq_true rfl)⟩ rfl rfl rfl (Nat.le_of_ble_eq_true rfl) ⟨(Nat.le_of_ble_eq_true rfl), (Nat.le_of_ble_eq_true rfl)⟩ dX4_copy_8 ?_
    intro _ hu8
    refine z_eq (lv₂ := [(0, .ref o), (1, .int a), (2, .int i), (3, .int b), (4, .int j), (5, .int n)]) (st₂ := [.int (bI (mIn b 0 7))]) ?_ rfl rfl
    refine z_if_ne (pc := 11) gX 17 dX4_copy_11 (by decide) (fun c11 => ?_) (fun c11 => ?_)
    · skip
      have k11 : (mIn b 0 7) = true := bI_ne0 c11
      obtain ⟨ja, hja, rfl⟩ := mIn_nat k4 7 (by decide)
      obtain ⟨jb, hjb, rfl⟩ := mIn_nat k11 7 (by decide)
      refine z_aload_n (pc := 17) gX 0 dX4_copy_17 rfl rfl ?_
      refine z_get (pc := 18) gX (zI_ok gX hAX) (zm 0 rfl) (ci := 4) (C := RX4) (T := TX4) (N := 20) rfl in_X4 0 (by decide) q1383 (fun _ h => h) (v := .ref (ad 0)) rfl dX4_copy_18 ?_
      refine z_iload_n (pc := 21) gX 1 dX4_copy_21 rfl rfl ?_
      refine z_iald (pc := 22) gX (zI_ok gX hAX) (j := ja) (n := 8) (f := sz) (zm 1 rfl) (by omega) (by decide) dX4_copy_22 ?_
      refine z_if_lt (pc := 23) gX 35 dX4_copy_23 (by decide) (fun c23 => ?_) (fun c23 => ?_)
      · skip
        refine z_aload_n (pc := 35) gX 0 dX4_copy_35 rfl rfl ?_
        refine z_ldc (pc := 36) gX q1462 dX4_copy_36 ?_
        refine z_cMV (pc := 38) gX hAX [.int (-1000011)] [] [0] [1, 2, 3, 4] (fun A1 => met_X4_ends l D B0 A1 o ad x (-1000011) ) q1457 q1459 qs28 q54 q1460 (zm 0 rfl) (ci := 4) rfl rfl hd_X4_ends ⟨rfl, rfl⟩ ⟨(Nat.le_of_ble_eq_true rfl), (Nat.le_of_ble_eq_true rfl)⟩ rfl rfl rfl rfl rfl (Nat.le_of_ble_eq_true rfl) ⟨(Nat.le_of_ble_eq_true rfl), (Nat.le_of_ble_eq_true rfl)⟩ dX4_copy_38 ?_
        intro _ hu38
        refine z_re [0, 1, 2, 3, 4] [mOb o ad (mSt x (-1000011)), [(ad 0, .inl (D.1 100, 8, .inl sz))], [(ad 1, .inl (D.1 100, 8, .inl wd))], [(ad 2, .inl (D.1 100, 320, .inl it))], [(ad 3, .inl (D.1 100, 40, .inl mv))]] rfl rfl ?_
        refine z_eq (lv₂ := [(0, .ref o), (1, .int (nI ja)), (2, .int i), (3, .int (nI jb)), (4, .int j), (5, .int n)]) (st₂ := [.int (-1000011)]) ?_ rfl rfl
        exact z_rim gX hQX ((-1000011), mSt x (-1000011), it, mv) (by simp [mCopy, k4, k11, nI_clamp (show ja < 2 ^ 31 by omega), nI_clamp (show jb < 2 ^ 31 by omega)]; grind) rfl rfl (by first | decide | omega) (by first | decide | omega) dX4_copy_41
      · skip
        refine z_aload_n (pc := 26) gX 0 dX4_copy_26 rfl rfl ?_
        refine z_get (pc := 27) gX (zI_ok gX hAX) (zm 0 rfl) (ci := 4) (C := RX4) (T := TX4) (N := 20) rfl in_X4 0 (by decide) q1383 (fun _ h => h) (v := .ref (ad 0)) rfl dX4_copy_27 ?_
        refine z_iload_n (pc := 30) gX 3 dX4_copy_30 rfl rfl ?_
        refine z_iald (pc := 31) gX (zI_ok gX hAX) (j := jb) (n := 8) (f := sz) (zm 1 rfl) (by omega) (by decide) dX4_copy_31 ?_
        refine z_if_ge (pc := 32) gX 42 dX4_copy_32 (by decide) (fun c32 => ?_) (fun c32 => ?_)
        · skip
          refine z_aload_n (pc := 42) gX 0 dX4_copy_42 rfl rfl ?_
          refine z_get (pc := 43) gX (zI_ok gX hAX) (zm 0 rfl) (ci := 4) (C := RX4) (T := TX4) (N := 20) rfl in_X4 1 (by decide) q1384 (fun _ h => h) (v := .ref (ad 1)) rfl dX4_copy_43 ?_
          refine z_iload_n (pc := 46) gX 1 dX4_copy_46 rfl rfl ?_
          refine z_iald (pc := 47) gX (zI_ok gX hAX) (j := ja) (n := 8) (f := wd) (zm 2 rfl) (by omega) (by decide) dX4_copy_47 ?_
          refine z_aload_n (pc := 48) gX 0 dX4_copy_48 rfl rfl ?_
          refine z_get (pc := 49) gX (zI_ok gX hAX) (zm 0 rfl) (ci := 4) (C := RX4) (T := TX4) (N := 20) rfl in_X4 1 (by decide) q1384 (fun _ h => h) (v := .ref (ad 1)) rfl dX4_copy_49 ?_
          refine z_iload_n (pc := 52) gX 3 dX4_copy_52 rfl rfl ?_
          refine z_iald (pc := 53) gX (zI_ok gX hAX) (j := jb) (n := 8) (f := wd) (zm 2 rfl) (by omega) (by decide) dX4_copy_53 ?_
          refine z_icmp_eq (pc := 54) gX 64 dX4_copy_54 (by decide) (fun c54 => ?_) (fun c54 => ?_)
          · skip
            refine z_aload_n (pc := 64) gX 0 dX4_copy_64 rfl rfl ?_
            refine z_iload_n (pc := 65) gX 1 dX4_copy_65 rfl rfl ?_
            refine z_iload_n (pc := 66) gX 2 dX4_copy_66 rfl rfl ?_
            refine z_iload (pc := 67) gX 5 dX4_copy_67 rfl ?_
            refine z_cOV (pc := 69) gX (zI_ok gX hAX) [.int (nI ja), .int i, .int n] [] [0, 1] (met_X4_lies l D B0 o ad x sz ja i n (by first | assumption | omega)) q1468 q1470 qs29 q54 q1471 (zm 0 rfl) (ci := 4) rfl rfl hd_X4_lies ⟨rfl, rfl⟩ ⟨(Nat.le_of_ble_eq_true rfl), (Nat.le_of_ble_eq_true rfl)⟩ rfl rfl rfl (Nat.le_of_ble_eq_true rfl) ⟨(Nat.le_of_ble_eq_true rfl), (Nat.le_of_ble_eq_true rfl)⟩ dX4_copy_69 ?_
            intro _ hu69
            refine z_eq (lv₂ := [(0, .ref o), (1, .int (nI ja)), (2, .int i), (3, .int (nI jb)), (4, .int j), (5, .int n)]) (st₂ := [.int (bI (mLies (sz ja) i n))]) ?_ rfl rfl
            refine z_if_eq (pc := 72) gX 87 dX4_copy_72 (by decide) (fun c72 => ?_) (fun c72 => ?_)
            · skip
              have k72 : (mLies (sz ja) i n) = false := bI_eq0 c72
              refine z_aload_n (pc := 87) gX 0 dX4_copy_87 rfl rfl ?_
              refine z_ldc (pc := 88) gX q1472 dX4_copy_88 ?_
              refine z_cMV (pc := 90) gX hAX [.int (-1000012)] [] [0] [1, 2, 3, 4] (fun A1 => met_X4_ends l D B0 A1 o ad x (-1000012) ) q1457 q1459 qs28 q54 q1460 (zm 0 rfl) (ci := 4) rfl rfl hd_X4_ends ⟨rfl, rfl⟩ ⟨(Nat.le_of_ble_eq_true rfl), (Nat.le_of_ble_eq_true rfl)⟩ rfl rfl rfl rfl rfl (Nat.le_of_ble_eq_true rfl) ⟨(Nat.le_of_ble_eq_true rfl), (Nat.le_of_ble_eq_true rfl)⟩ dX4_copy_90 ?_
              intro _ hu90
              refine z_re [0, 1, 2, 3, 4] [mOb o ad (mSt x (-1000012)), [(ad 0, .inl (D.1 100, 8, .inl sz))], [(ad 1, .inl (D.1 100, 8, .inl wd))], [(ad 2, .inl (D.1 100, 320, .inl it))], [(ad 3, .inl (D.1 100, 40, .inl mv))]] rfl rfl ?_
              refine z_eq (lv₂ := [(0, .ref o), (1, .int (nI ja)), (2, .int i), (3, .int (nI jb)), (4, .int j), (5, .int n)]) (st₂ := [.int (-1000012)]) ?_ rfl rfl
              exact z_rim gX hQX ((-1000012), mSt x (-1000012), it, mv) (by simp [mCopy, k4, k11, nI_clamp (show ja < 2 ^ 31 by omega), nI_clamp (show jb < 2 ^ 31 by omega), Int32.not_lt.mpr c32, c23, c54, k4, k11, c23, c32, c54, k72]) rfl rfl (by first | decide | omega) (by first | decide | omega) dX4_copy_93
            · skip
              have k72 : (mLies (sz ja) i n) = true := bI_ne0 c72
              refine z_aload_n (pc := 75) gX 0 dX4_copy_75 rfl rfl ?_
              refine z_iload_n (pc := 76) gX 3 dX4_copy_76 rfl rfl ?_
              refine z_iload (pc := 77) gX 4 dX4_copy_77 rfl ?_
              refine z_iload (pc := 79) gX 5 dX4_copy_79 rfl ?_
              refine z_cOV (pc := 81) gX (zI_ok gX hAX) [.int (nI jb), .int j, .int n] [] [0, 1] (met_X4_lies l D B0 o ad x sz jb j n (by first | assumption | omega)) q1468 q1470 qs29 q54 q1471 (zm 0 rfl) (ci := 4) rfl rfl hd_X4_lies ⟨rfl, rfl⟩ ⟨(Nat.le_of_ble_eq_true rfl), (Nat.le_of_ble_eq_true rfl)⟩ rfl rfl rfl (Nat.le_of_ble_eq_true rfl) ⟨(Nat.le_of_ble_eq_true rfl), (Nat.le_of_ble_eq_true rfl)⟩ dX4_copy_81 ?_
              intro _ hu81
              refine z_eq (lv₂ := [(0, .ref o), (1, .int (nI ja)), (2, .int i), (3, .int (nI jb)), (4, .int j), (5, .int n)]) (st₂ := [.int (bI (mLies (sz jb) j n))]) ?_ rfl rfl
              refine z_if_ne (pc := 84) gX 94 dX4_copy_84 (by decide) (fun c84 => ?_) (fun c84 => ?_)
              · skip
                have k84 : (mLies (sz jb) j n) = true := bI_ne0 c84
                obtain ⟨ia, nn, ma, hia, hnn, hma, hab, hm⟩ := mLies_nat k72 (hsz ja (by omega))
                subst hia
                subst hnn
                obtain ⟨ib, nn2, mb, hib, hnn2, hmb, hab2, hm2⟩ := mLies_nat k84 (hsz jb (by omega))
                subst hib
                have hnn3 := (zn_eq (by omega) (by omega)).mp hnn2
                subst hnn3
                refine z_iconst (pc := 94) gX 0 dX4_copy_94 (by decide) ?_
                refine z_istore (pc := 95) gX [1, 2, 3, 4, 5, 6, 0] [(0, .ref o), (1, .int (nI ja)), (2, .int (nI ia)), (3, .int (nI jb)), (4, .int (nI ib)), (5, .int (nI nn)), (6, .int 0)] dX4_copy_95 (by decide) rfl ?_
                have L97 : ∀ (n97 : Nat) (k : Nat) (gm : Nat → Int32), (k ≤ nn) → (gm = cpT mv 0 (fun t => it (40 * ja + ia + t)) k) → nn - k < n97 → zJ pX l eX (zRm 3 0 0) sX mX argsX blX mtX cX QX 7 (zI D A sX [mOb o ad x, [(ad 0, .inl (D.1 100, 8, .inl sz))], [(ad 1, .inl (D.1 100, 8, .inl wd))], [(ad 2, .inl (D.1 100, 320, .inl it))], [(ad 3, .inl (D.1 100, 40, .inl gm))]]) 0 0 97 [(0, .ref o), (1, .int (nI ja)), (2, .int (nI ia)), (3, .int (nI jb)), (4, .int (nI ib)), (5, .int (nI nn)), (6, .int (nI k))] [] := by
                  intro n97
                  induction n97 with
                  | zero => exact fun k gm hk hgm hm97 => absurd hm97 (Nat.not_lt_zero _)
                  | succ n97 ih97 =>
                    intro k gm hk hgm hm97
                    refine z_iload (pc := 97) gX 6 dX4_copy_97 rfl ?_
                    refine z_iload (pc := 99) gX 5 dX4_copy_99 rfl ?_
                    refine z_icmp_ge (pc := 101) gX 131 dX4_copy_101 (by decide) (fun c101 => ?_) (fun c101 => ?_)
                    · skip
                      have k101 : nn ≤ k := (zn_le (a := nn) (b := k) (by omega) (by omega)).mp c101
                      refine z_iconst (pc := 131) gX 0 dX4_copy_131 (by decide) ?_
                      refine z_istore (pc := 132) gX [1, 2, 3, 4, 5, 6, 0] [(0, .ref o), (1, .int (nI ja)), (2, .int (nI ia)), (3, .int (nI jb)), (4, .int (nI ib)), (5, .int (nI nn)), (6, .int 0)] dX4_copy_132 (by decide) rfl ?_
                      have hgn : gm = cpT mv 0 (fun t => it (40 * ja + ia + t)) nn := by rw [hgm, show k = nn by omega]
                      have L134 : ∀ (n134 : Nat) (k2 : Nat) (f : Nat → Int32), (k2 ≤ nn) → (f = cpT it (40 * jb + ib) (fun t => it (40 * ja + ia + t)) k2) → nn - k2 < n134 → zJ pX l eX (zRm 3 0 0) sX mX argsX blX mtX cX QX 7 (zI D A sX [mOb o ad x, [(ad 0, .inl (D.1 100, 8, .inl sz))], [(ad 1, .inl (D.1 100, 8, .inl wd))], [(ad 2, .inl (D.1 100, 320, .inl f))], [(ad 3, .inl (D.1 100, 40, .inl gm))]]) 0 0 134 [(0, .ref o), (1, .int (nI ja)), (2, .int (nI ia)), (3, .int (nI jb)), (4, .int (nI ib)), (5, .int (nI nn)), (6, .int (nI k2))] [] := by
                        intro n134
                        induction n134 with
                        | zero => exact fun k2 f hk2 hf hm134 => absurd hm134 (Nat.not_lt_zero _)
                        | succ n134 ih134 =>
                          intro k2 f hk2 hf hm134
                          refine z_iload (pc := 134) gX 6 dX4_copy_134 rfl ?_
                          refine z_iload (pc := 136) gX 5 dX4_copy_136 rfl ?_
                          refine z_icmp_ge (pc := 138) gX 169 dX4_copy_138 (by decide) (fun c138 => ?_) (fun c138 => ?_)
                          · skip
                            have k138 : nn ≤ k2 := (zn_le (a := nn) (b := k2) (by omega) (by omega)).mp c138
                            refine z_aload_n (pc := 169) gX 0 dX4_copy_169 rfl rfl ?_
                            refine z_iload (pc := 170) gX 5 dX4_copy_170 rfl ?_
                            refine z_cMV (pc := 172) gX hAX [.int (nI nn)] [] [0] [1, 2, 3, 4] (fun A1 => met_X4_ends l D B0 A1 o ad x (nI nn) ) q1457 q1459 qs28 q54 q1460 (zm 0 rfl) (ci := 4) rfl rfl hd_X4_ends ⟨rfl, rfl⟩ ⟨(Nat.le_of_ble_eq_true rfl), (Nat.le_of_ble_eq_true rfl)⟩ rfl rfl rfl rfl rfl (Nat.le_of_ble_eq_true rfl) ⟨(Nat.le_of_ble_eq_true rfl), (Nat.le_of_ble_eq_true rfl)⟩ dX4_copy_172 ?_
                            intro _ hu172
                            refine z_re [0, 1, 2, 3, 4] [mOb o ad (mSt x (nI nn)), [(ad 0, .inl (D.1 100, 8, .inl sz))], [(ad 1, .inl (D.1 100, 8, .inl wd))], [(ad 2, .inl (D.1 100, 320, .inl f))], [(ad 3, .inl (D.1 100, 40, .inl gm))]] rfl rfl ?_
                            refine z_eq (lv₂ := [(0, .ref o), (1, .int (nI ja)), (2, .int (nI ia)), (3, .int (nI jb)), (4, .int (nI ib)), (5, .int (nI nn)), (6, .int (nI k2))]) (st₂ := [.int (nI nn)]) ?_ rfl rfl
                            exact z_rim gX hQX ((nI nn), mSt x (nI nn), f, gm) (by rw [hf, show k2 = nn by omega]; simp [mCopy, k4, k11, nI_clamp (show ja < 2 ^ 31 by omega), nI_clamp (show jb < 2 ^ 31 by omega), Int32.not_lt.mpr c32, c23, c54, k72, k84, nI_clamp (show ia < 2 ^ 31 by omega), nI_clamp (show ib < 2 ^ 31 by omega), nI_clamp (show nn < 2 ^ 31 by omega)]) rfl rfl (by first | decide | omega) (by first | decide | omega) dX4_copy_175
                          · skip
                            have k138 : k2 < nn := (zn_nle (a := nn) (b := k2) (by omega) (by omega)).mp c138
                            refine z_aload_n (pc := 141) gX 0 dX4_copy_141 rfl rfl ?_
                            refine z_get (pc := 142) gX (zI_ok gX hAX) (zm 0 rfl) (ci := 4) (C := RX4) (T := TX4) (N := 20) rfl in_X4 2 (by decide) q1385 (fun _ h => h) (v := .ref (ad 2)) rfl dX4_copy_142 ?_
                            refine z_bipush (pc := 145) gX 40 dX4_copy_145 (by decide) ?_
                            refine z_iload_n (pc := 147) gX 3 dX4_copy_147 rfl rfl ?_
                            refine z_imul (pc := 148) gX dX4_copy_148 ?_
                            refine z_top (nI (40 * jb)) (pk_mul 40 jb) ?_
                            refine z_iload (pc := 149) gX 4 dX4_copy_149 rfl ?_
                            refine z_iadd (pc := 151) gX dX4_copy_151 ?_
                            refine z_top (nI (40 * jb + ib)) (nI_add (40 * jb) ib) ?_
                            refine z_iload (pc := 152) gX 6 dX4_copy_152 rfl ?_
                            refine z_iadd (pc := 154) gX dX4_copy_154 ?_
                            refine z_top (nI (40 * jb + ib + k2)) (nI_add (40 * jb + ib) k2) ?_
                            refine z_aload_n (pc := 155) gX 0 dX4_copy_155 rfl rfl ?_
                            refine z_get (pc := 156) gX (zI_ok gX hAX) (zm 0 rfl) (ci := 4) (C := RX4) (T := TX4) (N := 20) rfl in_X4 3 (by decide) q1386 (fun _ h => h) (v := .ref (ad 3)) rfl dX4_copy_156 ?_
                            refine z_iload (pc := 159) gX 6 dX4_copy_159 rfl ?_
                            refine z_iald (pc := 161) gX (zI_ok gX hAX) (j := k2) (n := 40) (f := gm) (zm 4 rfl) (by omega) (by decide) dX4_copy_161 ?_
                            refine z_top (it (40 * ja + ia + k2)) (by rw [hgn]; exact cpT_at _ _ (by omega)) ?_
                            refine z_iast (pc := 162) gX hAX 3 (j := (40 * jb + ib + k2)) (n := 320) (f := f) rfl (by omega) (by decide) [mOb o ad x, [(ad 0, .inl (D.1 100, 8, .inl sz))], [(ad 1, .inl (D.1 100, 8, .inl wd))], [(ad 2, .inl (D.1 100, 320, .inl (upd f (40 * jb + ib + k2) (it (40 * ja + ia + k2)))))], [(ad 3, .inl (D.1 100, 40, .inl gm))]] rfl dX4_copy_162 ?_
                            refine z_iinc (pc := 163) gX 6 (nI (k2 + 1)) [1, 2, 3, 4, 5, 6, 0] [(0, .ref o), (1, .int (nI ja)), (2, .int (nI ia)), (3, .int (nI jb)), (4, .int (nI ib)), (5, .int (nI nn)), (6, .int (nI (k2 + 1)))] dX4_copy_163 rfl (nI_1 _) (by decide) rfl ?_
                            refine z_goto (pc := 166) gX 134 dX4_copy_166 (by decide) ?_
                            exact ih134 (k2 + 1) (upd f (40 * jb + ib + k2) (it (40 * ja + ia + k2))) (by omega) (by rw [hf]; exact cpT_s _ _ _ _) (by omega)
                      exact L134 ((nn - 0) + 1) 0 it (by omega) ((cpT_0 _ _ _).symm) (Nat.lt_succ_self _)
                    · skip
                      have k101 : k < nn := (zn_nle (a := nn) (b := k) (by omega) (by omega)).mp c101
                      refine z_aload_n (pc := 104) gX 0 dX4_copy_104 rfl rfl ?_
                      refine z_get (pc := 105) gX (zI_ok gX hAX) (zm 0 rfl) (ci := 4) (C := RX4) (T := TX4) (N := 20) rfl in_X4 3 (by decide) q1386 (fun _ h => h) (v := .ref (ad 3)) rfl dX4_copy_105 ?_
                      refine z_iload (pc := 108) gX 6 dX4_copy_108 rfl ?_
                      refine z_aload_n (pc := 110) gX 0 dX4_copy_110 rfl rfl ?_
                      refine z_get (pc := 111) gX (zI_ok gX hAX) (zm 0 rfl) (ci := 4) (C := RX4) (T := TX4) (N := 20) rfl in_X4 2 (by decide) q1385 (fun _ h => h) (v := .ref (ad 2)) rfl dX4_copy_111 ?_
                      refine z_bipush (pc := 114) gX 40 dX4_copy_114 (by decide) ?_
                      refine z_iload_n (pc := 116) gX 1 dX4_copy_116 rfl rfl ?_
                      refine z_imul (pc := 117) gX dX4_copy_117 ?_
                      refine z_top (nI (40 * ja)) (pk_mul 40 ja) ?_
                      refine z_iload_n (pc := 118) gX 2 dX4_copy_118 rfl rfl ?_
                      refine z_iadd (pc := 119) gX dX4_copy_119 ?_
                      refine z_top (nI (40 * ja + ia)) (nI_add (40 * ja) ia) ?_
                      refine z_iload (pc := 120) gX 6 dX4_copy_120 rfl ?_
                      refine z_iadd (pc := 122) gX dX4_copy_122 ?_
                      refine z_top (nI (40 * ja + ia + k)) (nI_add (40 * ja + ia) k) ?_
                      refine z_iald (pc := 123) gX (zI_ok gX hAX) (j := (40 * ja + ia + k)) (n := 320) (f := it) (zm 3 rfl) (by omega) (by decide) dX4_copy_123 ?_
                      refine z_iast (pc := 124) gX hAX 4 (j := k) (n := 40) (f := gm) rfl (by omega) (by decide) [mOb o ad x, [(ad 0, .inl (D.1 100, 8, .inl sz))], [(ad 1, .inl (D.1 100, 8, .inl wd))], [(ad 2, .inl (D.1 100, 320, .inl it))], [(ad 3, .inl (D.1 100, 40, .inl (upd gm k (it (40 * ja + ia + k)))))]] rfl dX4_copy_124 ?_
                      refine z_iinc (pc := 125) gX 6 (nI (k + 1)) [1, 2, 3, 4, 5, 6, 0] [(0, .ref o), (1, .int (nI ja)), (2, .int (nI ia)), (3, .int (nI jb)), (4, .int (nI ib)), (5, .int (nI nn)), (6, .int (nI (k + 1)))] dX4_copy_125 rfl (nI_1 _) (by decide) rfl ?_
                      refine z_goto (pc := 128) gX 97 dX4_copy_128 (by decide) ?_
                      exact ih97 (k + 1) (upd gm k (it (40 * ja + ia + k))) (by omega) (by rw [hgm]; exact cpT_s0 _ _ _) (by omega)
                exact L97 ((nn - 0) + 1) 0 mv (by omega) ((cpT_0 _ _ _).symm) (Nat.lt_succ_self _)
              · skip
                have k84 : (mLies (sz jb) j n) = false := bI_eq0 c84
                refine z_aload_n (pc := 87) gX 0 dX4_copy_87 rfl rfl ?_
                refine z_ldc (pc := 88) gX q1472 dX4_copy_88 ?_
                refine z_cMV (pc := 90) gX hAX [.int (-1000012)] [] [0] [1, 2, 3, 4] (fun A1 => met_X4_ends l D B0 A1 o ad x (-1000012) ) q1457 q1459 qs28 q54 q1460 (zm 0 rfl) (ci := 4) rfl rfl hd_X4_ends ⟨rfl, rfl⟩ ⟨(Nat.le_of_ble_eq_true rfl), (Nat.le_of_ble_eq_true rfl)⟩ rfl rfl rfl rfl rfl (Nat.le_of_ble_eq_true rfl) ⟨(Nat.le_of_ble_eq_true rfl), (Nat.le_of_ble_eq_true rfl)⟩ dX4_copy_90 ?_
                intro _ hu90
                refine z_re [0, 1, 2, 3, 4] [mOb o ad (mSt x (-1000012)), [(ad 0, .inl (D.1 100, 8, .inl sz))], [(ad 1, .inl (D.1 100, 8, .inl wd))], [(ad 2, .inl (D.1 100, 320, .inl it))], [(ad 3, .inl (D.1 100, 40, .inl mv))]] rfl rfl ?_
                refine z_eq (lv₂ := [(0, .ref o), (1, .int (nI ja)), (2, .int i), (3, .int (nI jb)), (4, .int j), (5, .int n)]) (st₂ := [.int (-1000012)]) ?_ rfl rfl
                exact z_rim gX hQX ((-1000012), mSt x (-1000012), it, mv) (by simp [mCopy, k4, k11, nI_clamp (show ja < 2 ^ 31 by omega), nI_clamp (show jb < 2 ^ 31 by omega), Int32.not_lt.mpr c32, c23, c54, k4, k11, c23, c32, c54, k72, k84]) rfl rfl (by first | decide | omega) (by first | decide | omega) dX4_copy_93
          · skip
            refine z_aload_n (pc := 57) gX 0 dX4_copy_57 rfl rfl ?_
            refine z_ldc (pc := 58) gX q1461 dX4_copy_58 ?_
            refine z_cMV (pc := 60) gX hAX [.int (-1000015)] [] [0] [1, 2, 3, 4] (fun A1 => met_X4_ends l D B0 A1 o ad x (-1000015) ) q1457 q1459 qs28 q54 q1460 (zm 0 rfl) (ci := 4) rfl rfl hd_X4_ends ⟨rfl, rfl⟩ ⟨(Nat.le_of_ble_eq_true rfl), (Nat.le_of_ble_eq_true rfl)⟩ rfl rfl rfl rfl rfl (Nat.le_of_ble_eq_true rfl) ⟨(Nat.le_of_ble_eq_true rfl), (Nat.le_of_ble_eq_true rfl)⟩ dX4_copy_60 ?_
            intro _ hu60
            refine z_re [0, 1, 2, 3, 4] [mOb o ad (mSt x (-1000015)), [(ad 0, .inl (D.1 100, 8, .inl sz))], [(ad 1, .inl (D.1 100, 8, .inl wd))], [(ad 2, .inl (D.1 100, 320, .inl it))], [(ad 3, .inl (D.1 100, 40, .inl mv))]] rfl rfl ?_
            refine z_eq (lv₂ := [(0, .ref o), (1, .int (nI ja)), (2, .int i), (3, .int (nI jb)), (4, .int j), (5, .int n)]) (st₂ := [.int (-1000015)]) ?_ rfl rfl
            exact z_rim gX hQX ((-1000015), mSt x (-1000015), it, mv) (by simp [mCopy, k4, k11, nI_clamp (show ja < 2 ^ 31 by omega), nI_clamp (show jb < 2 ^ 31 by omega), Int32.not_lt.mpr c32, c23, c54]) rfl rfl (by first | decide | omega) (by first | decide | omega) dX4_copy_63
        · skip
          refine z_aload_n (pc := 35) gX 0 dX4_copy_35 rfl rfl ?_
          refine z_ldc (pc := 36) gX q1462 dX4_copy_36 ?_
          refine z_cMV (pc := 38) gX hAX [.int (-1000011)] [] [0] [1, 2, 3, 4] (fun A1 => met_X4_ends l D B0 A1 o ad x (-1000011) ) q1457 q1459 qs28 q54 q1460 (zm 0 rfl) (ci := 4) rfl rfl hd_X4_ends ⟨rfl, rfl⟩ ⟨(Nat.le_of_ble_eq_true rfl), (Nat.le_of_ble_eq_true rfl)⟩ rfl rfl rfl rfl rfl (Nat.le_of_ble_eq_true rfl) ⟨(Nat.le_of_ble_eq_true rfl), (Nat.le_of_ble_eq_true rfl)⟩ dX4_copy_38 ?_
          intro _ hu38
          refine z_re [0, 1, 2, 3, 4] [mOb o ad (mSt x (-1000011)), [(ad 0, .inl (D.1 100, 8, .inl sz))], [(ad 1, .inl (D.1 100, 8, .inl wd))], [(ad 2, .inl (D.1 100, 320, .inl it))], [(ad 3, .inl (D.1 100, 40, .inl mv))]] rfl rfl ?_
          refine z_eq (lv₂ := [(0, .ref o), (1, .int (nI ja)), (2, .int i), (3, .int (nI jb)), (4, .int j), (5, .int n)]) (st₂ := [.int (-1000011)]) ?_ rfl rfl
          exact z_rim gX hQX ((-1000011), mSt x (-1000011), it, mv) (by simp [mCopy, k4, k11, nI_clamp (show ja < 2 ^ 31 by omega), nI_clamp (show jb < 2 ^ 31 by omega)]; grind) rfl rfl (by first | decide | omega) (by first | decide | omega) dX4_copy_41
    · skip
      have k11 : (mIn b 0 7) = false := bI_eq0 c11
      refine z_ldc (pc := 14) gX q1455 dX4_copy_14 ?_
      exact z_rim gX hQX ((-1000001), x, it, mv) (by simp [mCopy, k4, k11]) rfl rfl (by first | decide | omega) (by first | decide | omega) dX4_copy_16
theorem hd_X4_copy : zHd yX4_copy 5 := by unfold zHd; decide +kernel

