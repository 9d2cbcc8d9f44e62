set_option maxRecDepth 100000
/-! THE STAIR of the component: its numbers as the reference's row of 25 -/
def lIn (a b c : Int64) : Bool := decide (b ≤ a) && decide (a ≤ c)
theorem lIn_eq {a b c : Int32} {a' b' c' : Int64} (ha : a' = a.toInt64) (hb : b' = b.toInt64) (hc : c' = c.toInt64) : lIn a' b' c' = mIn a b c := by
  subst ha hb hc
  have h1 : (b.toInt64 ≤ a.toInt64) = (b ≤ a) := by rw [Int64.le_iff_toInt_le, Int32.le_iff_toInt_le]; simp
  have h2 : (a.toInt64 ≤ c.toInt64) = (a ≤ c) := by rw [Int64.le_iff_toInt_le, Int32.le_iff_toInt_le]; simp
  simp only [lIn, mIn, h1, h2]
theorem lcmp_lt {a b : Int64} : lg_cmp a b < 0 ↔ a < b := by
  rw [← Int32.not_le, lg_cmp_ge, Int64.not_le]
theorem lcmp_gt {a b : Int64} : 0 < lg_cmp a b ↔ b < a := by
  rw [← Int32.not_le, lg_cmp_le, Int64.not_le]
def pkC (st sp tk : Int32) (n : Nat) (ln wh kd : Nat → Int32) : Nat → Int32 := fun j => if j = 0 then tk else if j = 1 then sp else if j < 9 then wh (j - 2) else if j < 16 then ln (j - 9) else if j = 16 then st else if j = 17 then nI n else kd (j - 18)
section PK
variable {st sp tk : Int32} {n : Nat} {ln wh kd : Nat → Int32}
theorem pkC_0 : pkC st sp tk n ln wh kd 0 = tk := rfl
theorem pkC_1 : pkC st sp tk n ln wh kd 1 = sp := rfl
theorem pkC_16 : pkC st sp tk n ln wh kd 16 = st := rfl
theorem pkC_17 : pkC st sp tk n ln wh kd 17 = nI n := rfl
theorem pkC_wh {r : Nat} (h : r < 7) : pkC st sp tk n ln wh kd (2 + r) = wh r := by
  simp only [pkC]; rw [if_neg (by omega), if_neg (by omega), if_pos (by omega), show 2 + r - 2 = r by omega]
theorem pkC_ln {r : Nat} (h : r < 7) : pkC st sp tk n ln wh kd (9 + r) = ln r := by
  simp only [pkC]; rw [if_neg (by omega), if_neg (by omega), if_neg (by omega), if_pos (by omega), show 9 + r - 9 = r by omega]
theorem pkC_kd {r : Nat} : pkC st sp tk n ln wh kd (18 + r) = kd r := by
  simp only [pkC]; rw [if_neg (by omega), if_neg (by omega), if_neg (by omega), if_neg (by omega), if_neg (by omega), if_neg (by omega), show 18 + r - 18 = r by omega]
theorem pkC_up {r : Nat} {v : Int32} (h : r < 7) : pkC st sp tk n ln (upd wh r v) kd = upd (pkC st sp tk n ln wh kd) (2 + r) v := by
  funext j
  simp only [pkC, upd]
  by_cases e : j = 2 + r
  · rw [if_pos e, if_neg (by omega), if_neg (by omega), if_pos (by omega), if_pos (by omega)]
  · rw [if_neg e]
    by_cases h0 : j = 0
    · rw [if_pos h0, if_pos h0]
    · rw [if_neg h0, if_neg h0]
      by_cases h1 : j = 1
      · rw [if_pos h1, if_pos h1]
      · rw [if_neg h1, if_neg h1]
        by_cases h2 : j < 9
        · rw [if_pos h2, if_pos h2, if_neg (by omega)]
        · rw [if_neg h2, if_neg h2]
/-- a row that differs in the places alone is one of the component's -/
theorem pkC_proj {X : Nat → Int32} (h : Fr (pkC st sp tk n ln wh kd) X) : pkC st sp tk n ln (fun q => X (2 + q)) kd = X := by
  funext j
  by_cases h2 : 2 ≤ j ∧ j < 9
  · simp only [pkC]; rw [if_neg (by omega), if_neg (by omega), if_pos h2.2, show 2 + (j - 2) = j by omega]
  · rw [h j (by omega)]
    simp only [pkC]
    by_cases h0 : j = 0
    · rw [if_pos h0, if_pos h0]
    · rw [if_neg h0, if_neg h0]
      by_cases h1 : j = 1
      · rw [if_pos h1, if_pos h1]
      · rw [if_neg h1, if_neg h1, if_neg (show ¬ j < 9 by omega), if_neg (show ¬ j < 9 by omega)]
theorem pkC_ext {wh1 : Nat → Int32} (h : ∀ q, q < 7 → wh1 q = wh q) : pkC st sp tk n ln wh1 kd = pkC st sp tk n ln wh kd := by
  funext j
  simp only [pkC]
  by_cases h0 : j = 0
  · rw [if_pos h0, if_pos h0]
  · rw [if_neg h0, if_neg h0]
    by_cases h1 : j = 1
    · rw [if_pos h1, if_pos h1]
    · rw [if_neg h1, if_neg h1]
      by_cases h2 : j < 9
      · rw [if_pos h2, if_pos h2, h _ (by omega)]
      · rw [if_neg h2, if_neg h2]
end PK
theorem pkC_eta {c : Nat → Int32} {n : Nat} (hn : c 17 = nI n) : pkC (c 16) (c 1) (c 0) n (fun r => c (9 + r)) (fun r => c (2 + r)) (fun r => c (18 + r)) = c := by
  funext j
  simp only [pkC]
  by_cases h0 : j = 0
  · rw [if_pos h0, h0]
  · rw [if_neg h0]
    by_cases h1 : j = 1
    · rw [if_pos h1, h1]
    · rw [if_neg h1]
      by_cases h2 : j < 9
      · rw [if_pos h2, show 2 + (j - 2) = j by omega]
      · rw [if_neg h2]
        by_cases h3 : j < 16
        · rw [if_pos h3, show 9 + (j - 9) = j by omega]
        · rw [if_neg h3]
          by_cases h4 : j = 16
          · rw [if_pos h4, h4]
          · rw [if_neg h4]
            by_cases h5 : j = 17
            · rw [if_pos h5, h5, hn]
            · rw [if_neg h5, show 18 + (j - 18) = j by omega]
/-- the riders' references -/
def rF (ra : Nat → Nat) (n : Nat) : Nat → Option Nat := fun i => if i < n then some (ra i) else none
theorem rF_lt {ra : Nat → Nat} {n i : Nat} (h : i < n) : rF ra n i = some (ra i) := if_pos h
/-- the riders as cells of the pool T: of kinds kd, numbered -/
def rOK (T : va_W) (n : Nat) (ra : Nat → Nat) (kd : Nat → Int32) : Prop := ∀ i, i < n → ∃ k : Nat, 1 ≤ k ∧ k ≤ 5 ∧ kd i = nI k ∧ (ra i, (Sum.inr (6 + k, [Value.int (nI i)]) : va_E)) ∈ T
theorem five {k : Nat} (h1 : 1 ≤ k) (h5 : k ≤ 5) : k = 1 ∨ k = 2 ∨ k = 3 ∨ k = 4 ∨ k = 5 := by omega
def cTk (ln wh kd : Nat → Int32) (r : Nat) (step side : Int32) : Bool := decide (wh r = step) && (decide (4 ≤ kd r) || decide (ln r = side))
theorem free_s {st sp tk : Int32} {n : Nat} {ln wh kd : Nat → Int32} {r o : Nat} {step side : Int32} (ho : o < 7) (hne : ¬ o = r) (hl : ln o = 0 ∨ ln o = 1) (hs : side = 0 ∨ side = 1) :
    mFreeTo (pkC st sp tk n ln wh kd) r step side (o + 1) = (mFreeTo (pkC st sp tk n ln wh kd) r step side o && !(cTk ln wh kd o step side || (decide (4 ≤ kd r) && cTk ln wh kd o step (1 - side)))) := by
  simp only [mFreeTo, mMeets, pkC_wh ho, pkC_ln ho, pkC_kd, cTk]
  congr 1
  have h1 : (1 - side : Int32) = 0 ∨ (1 - side : Int32) = 1 := by rcases hs with h | h <;> subst h <;> decide
  by_cases a : wh o = step <;> by_cases b : (4 ≤ kd r) <;> by_cases c : (4 ≤ kd o) <;> simp [a, b, c, hne]
  rcases hl with h | h <;> rcases hs with h2 | h2 <;> subst h2 <;> rw [h] <;> decide
theorem free_r {c : Nat → Int32} {r : Nat} {step side : Int32} : mFreeTo c r step side (r + 1) = mFreeTo c r step side r := by simp [mFreeTo]
def climbW (n : Nat) (C wh : Nat → Int32) (r : Nat) (b : Int32) : Nat → Int32 := if mMay n C r b = true then upd wh r (wh r + b) else wh
theorem pkC_climb {st sp tk : Int32} {n : Nat} {ln wh kd : Nat → Int32} {r : Nat} {b : Int32} (h : r < 7) : pkC st sp tk n ln (climbW n (pkC st sp tk n ln wh kd) wh r b) kd = mGo n (pkC st sp tk n ln wh kd) r b := by
  unfold climbW mGo
  split
  · rw [pkC_up h, pkC_wh h]
  · rw [pkC_wh h]
    funext j
    simp only [upd]
    split
    · rename_i e; rw [e, pkC_wh h]; simp
    · rfl

set_option maxHeartbeats 4000000 in
theorem met_X0_isIn (l : Launch) (D : va_G) (B0 : Nat) (a : Int64) (b : Int64) (x : Int64)  : Met l yX0_isIn (ws_ yX0_isIn cX0_isIn 6 (some .boolean)) (zRm 1 0 0) (va_Pc [.long a, .long b, .long x] (zPreO B0 D [])) (zQo (S := Unit) (fun _ => True) (fun _ => some (.int (bI (lIn a b x))))) 0 0 (fun _ => False) := by
  refine z_entryo (by decide +kernel) (Nat.le_of_ble_eq_true rfl) (fun pX eX sX mX argsX blX mtX cX QX hQX gX => ?_)
  refine z_eq (lv₂ := [(0, .long a), (2, .long b), (4, .long x)]) (st₂ := []) ?_ rfl rfl
  refine z_lload_n (pc := 0) gX 0 dX0_isIn_0 rfl rfl ?_
  refine z_lload_n (pc := 1) gX 1 dX0_isIn_1 rfl rfl ?_
  refine z_lcmp (pc := 2) gX dX0_isIn_2 ?_
  refine z_if_lt (pc := 3) gX 17 dX0_isIn_3 (by decide) (fun c3 => ?_) (fun c3 => ?_)
  · skip
    refine z_iconst (pc := 17) gX 0 dX0_isIn_17 (by decide) ?_
    exact z_rzo gX hQX (by first | (have h := lcmp_lt.mp c3; simp [lIn, bI, Int64.not_le.mpr h]; done) | (have h1 := Int64.not_lt.mp (fun h => c3 (lcmp_lt.mpr h)); have h := lcmp_gt.mp c10; simp [lIn, bI, h1, Int64.not_le.mpr h]; done) | (have h1 := Int64.not_lt.mp (fun h => c3 (lcmp_lt.mpr h)); have h := Int64.not_lt.mp (fun h => c10 (lcmp_gt.mpr h)); simp [lIn, bI, h1, h])) dX0_isIn_18
  · skip
    refine z_lload_n (pc := 6) gX 0 dX0_isIn_6 rfl rfl ?_
    refine z_lload (pc := 7) gX 2 dX0_isIn_7 rfl ?_
    refine z_lcmp (pc := 9) gX dX0_isIn_9 ?_
    refine z_if_gt (pc := 10) gX 17 dX0_isIn_10 (by decide) (fun c10 => ?_) (fun c10 => ?_)
    · skip
      refine z_iconst (pc := 17) gX 0 dX0_isIn_17 (by decide) ?_
      exact z_rzo gX hQX (by first | (have h := lcmp_lt.mp c3; simp [lIn, bI, Int64.not_le.mpr h]; done) | (have h1 := Int64.not_lt.mp (fun h => c3 (lcmp_lt.mpr h)); have h := lcmp_gt.mp c10; simp [lIn, bI, h1, Int64.not_le.mpr h]; done) | (have h1 := Int64.not_lt.mp (fun h => c3 (lcmp_lt.mpr h)); have h := Int64.not_lt.mp (fun h => c10 (lcmp_gt.mpr h)); simp [lIn, bI, h1, h])) dX0_isIn_18
    · skip
      refine z_iconst (pc := 13) gX 1 dX0_isIn_13 (by decide) ?_
      refine z_goto (pc := 14) gX 18 dX0_isIn_14 (by decide) ?_
      exact z_rzo gX hQX (by first | (have h := lcmp_lt.mp c3; simp [lIn, bI, Int64.not_le.mpr h]; done) | (have h1 := Int64.not_lt.mp (fun h => c3 (lcmp_lt.mpr h)); have h := lcmp_gt.mp c10; simp [lIn, bI, h1, Int64.not_le.mpr h]; done) | (have h1 := Int64.not_lt.mp (fun h => c3 (lcmp_lt.mpr h)); have h := Int64.not_lt.mp (fun h => c10 (lcmp_gt.mpr h)); simp [lIn, bI, h1, h])) dX0_isIn_18
theorem hd_X0_isIn : zHd yX0_isIn 3 := by unfold zHd; decide +kernel

set_option maxHeartbeats 4000000 in
theorem met_X0_isRow (l : Launch) (D : va_G) (B0 : Nat) (v : Int32)  : Met l yX0_isRow (ws_ yX0_isRow cX0_isRow 1 (some .boolean)) (zRm 2 0 0) (va_Pc [.int v] (zPreO B0 D [])) (zQo (S := Unit) (fun _ => True) (fun _ => some (.int (bI (mIn v 0 7))))) 0 0 (fun _ => False) := by
  refine z_entryo (by decide +kernel) (Nat.le_of_ble_eq_true rfl) (fun pX eX sX mX argsX blX mtX cX QX hQX gX => ?_)
  refine z_eq (lv₂ := [(0, .int v)]) (st₂ := []) ?_ rfl rfl
  refine z_iload_n (pc := 0) gX 0 dX0_isRow_0 rfl rfl ?_
  refine z_i2l (pc := 1) gX dX0_isRow_1 ?_
  refine z_lconst (pc := 2) gX 0 dX0_isRow_2 rfl ?_
  refine z_ldc2_w (pc := 3) gX q345 dX0_isRow_3 ?_
  refine z_cOS (pc := 6) gX (zIo_ok gX) [.long v.toInt64, .long 0, .long 7] [] [] (met_X0_isIn l D B0 v.toInt64 0 7 ) q346 q347 q47 q348 hd_X0_isIn ⟨rfl, rfl⟩ ⟨(Nat.le_of_ble_eq_true rfl), (Nat.le_of_ble_eq_true rfl)⟩ rfl rfl rfl (Nat.le_of_ble_eq_true rfl) ⟨(Nat.le_of_ble_eq_true rfl), (Nat.le_of_ble_eq_true rfl)⟩ dX0_isRow_6 ?_
  intro _ hu6
  refine z_eq (lv₂ := [(0, .int v)]) (st₂ := [.int (bI (lIn v.toInt64 0 7))]) ?_ rfl rfl
  refine z_top (bI (mIn v 0 7)) (congrArg bI (lIn_eq rfl (by decide) (by decide))) ?_
  exact z_rzo gX hQX rfl dX0_isRow_9
theorem hd_X0_isRow : zHd yX0_isRow 1 := by unfold zHd; decide +kernel

set_option maxHeartbeats 4000000 in
theorem met_X0_isFar (l : Launch) (D : va_G) (B0 : Nat) (v : Int32)  : Met l yX0_isFar (ws_ yX0_isFar cX0_isFar 1 (some .boolean)) (zRm 2 0 0) (va_Pc [.int v] (zPreO B0 D [])) (zQo (S := Unit) (fun _ => True) (fun _ => some (.int (bI (mIn v 0 60))))) 0 0 (fun _ => False) := by
  refine z_entryo (by decide +kernel) (Nat.le_of_ble_eq_true rfl) (fun pX eX sX mX argsX blX mtX cX QX hQX gX => ?_)
  refine z_eq (lv₂ := [(0, .int v)]) (st₂ := []) ?_ rfl rfl
  refine z_iload_n (pc := 0) gX 0 dX0_isFar_0 rfl rfl ?_
  refine z_i2l (pc := 1) gX dX0_isFar_1 ?_
  refine z_lconst (pc := 2) gX 0 dX0_isFar_2 rfl ?_
  refine z_ldc2_w (pc := 3) gX q985 dX0_isFar_3 ?_
  refine z_cOS (pc := 6) gX (zIo_ok gX) [.long v.toInt64, .long 0, .long 60] [] [] (met_X0_isIn l D B0 v.toInt64 0 60 ) q346 q347 q47 q348 hd_X0_isIn ⟨rfl, rfl⟩ ⟨(Nat.le_of_ble_eq_true rfl), (Nat.le_of_ble_eq_true rfl)⟩ rfl rfl rfl (Nat.le_of_ble_eq_true rfl) ⟨(Nat.le_of_ble_eq_true rfl), (Nat.le_of_ble_eq_true rfl)⟩ dX0_isFar_6 ?_
  intro _ hu6
  refine z_eq (lv₂ := [(0, .int v)]) (st₂ := [.int (bI (lIn v.toInt64 0 60))]) ?_ rfl rfl
  refine z_top (bI (mIn v 0 60)) (congrArg bI (lIn_eq rfl (by decide) (by decide))) ?_
  exact z_rzo gX hQX rfl dX0_isFar_9
theorem hd_X0_isFar : zHd yX0_isFar 1 := by unfold zHd; decide +kernel

set_option maxHeartbeats 4000000 in
theorem met_X0_isHalf (l : Launch) (D : va_G) (B0 : Nat) (v : Int32)  : Met l yX0_isHalf (ws_ yX0_isHalf cX0_isHalf 1 (some .boolean)) (zRm 2 0 0) (va_Pc [.int v] (zPreO B0 D [])) (zQo (S := Unit) (fun _ => True) (fun _ => some (.int (bI (mIn v 0 1))))) 0 0 (fun _ => False) := by
  refine z_entryo (by decide +kernel) (Nat.le_of_ble_eq_true rfl) (fun pX eX sX mX argsX blX mtX cX QX hQX gX => ?_)
  refine z_eq (lv₂ := [(0, .int v)]) (st₂ := []) ?_ rfl rfl
  refine z_iload_n (pc := 0) gX 0 dX0_isHalf_0 rfl rfl ?_
  refine z_i2l (pc := 1) gX dX0_isHalf_1 ?_
  refine z_lconst (pc := 2) gX 0 dX0_isHalf_2 rfl ?_
  refine z_lconst (pc := 3) gX 1 dX0_isHalf_3 rfl ?_
  refine z_cOS (pc := 4) gX (zIo_ok gX) [.long v.toInt64, .long 0, .long 1] [] [] (met_X0_isIn l D B0 v.toInt64 0 1 ) q346 q347 q47 q348 hd_X0_isIn ⟨rfl, rfl⟩ ⟨(Nat.le_of_ble_eq_true rfl), (Nat.le_of_ble_eq_true rfl)⟩ rfl rfl rfl (Nat.le_of_ble_eq_true rfl) ⟨(Nat.le_of_ble_eq_true rfl), (Nat.le_of_ble_eq_true rfl)⟩ dX0_isHalf_4 ?_
  intro _ hu4
  refine z_eq (lv₂ := [(0, .int v)]) (st₂ := [.int (bI (lIn v.toInt64 0 1))]) ?_ rfl rfl
  refine z_top (bI (mIn v 0 1)) (congrArg bI (lIn_eq rfl (by decide) (by decide))) ?_
  exact z_rzo gX hQX rfl dX0_isHalf_7
theorem hd_X0_isHalf : zHd yX0_isHalf 1 := by unfold zHd; decide +kernel

set_option maxHeartbeats 4000000 in
theorem met_X0_has (l : Launch) (D : va_G) (B0 : Nat) (a : Int32) (k : Int32)  : Met l yX0_has (ws_ yX0_has cX0_has 2 (some .boolean)) (zRm 1 0 0) (va_Pc [.int a, .int k] (zPreO B0 D [])) (zQo (S := Unit) (fun _ => True) (fun _ => some (.int (bI (decide ((a >>> (k &&& 31)) &&& 1 = 1)))))) 0 0 (fun _ => False) := by
  refine z_entryo (by decide +kernel) (Nat.le_of_ble_eq_true rfl) (fun pX eX sX mX argsX blX mtX cX QX hQX gX => ?_)
  refine z_eq (lv₂ := [(0, .int a), (1, .int k)]) (st₂ := []) ?_ rfl rfl
  refine z_iload_n (pc := 0) gX 0 dX0_has_0 rfl rfl ?_
  refine z_iload_n (pc := 1) gX 1 dX0_has_1 rfl rfl ?_
  refine z_ishr (pc := 2) gX dX0_has_2 ?_
  refine z_iconst (pc := 3) gX 1 dX0_has_3 (by decide) ?_
  refine z_iand (pc := 4) gX dX0_has_4 ?_
  refine z_iconst (pc := 5) gX 1 dX0_has_5 (by decide) ?_
  refine z_icmp_ne (pc := 6) gX 13 dX0_has_6 (by decide) (fun c6 => ?_) (fun c6 => ?_)
  · skip
    refine z_iconst (pc := 13) gX 0 dX0_has_13 (by decide) ?_
    exact z_rzo gX hQX (by simp [c6, bI]) dX0_has_14
  · skip
    refine z_iconst (pc := 9) gX 1 dX0_has_9 (by decide) ?_
    refine z_goto (pc := 10) gX 14 dX0_has_10 (by decide) ?_
    exact z_rzo gX hQX (by simp [c6, bI]) dX0_has_14
theorem hd_X0_has : zHd yX0_has 2 := by unfold zHd; decide +kernel

set_option maxHeartbeats 4000000 in
theorem met_X2_many (l : Launch) (D : va_G) (B0 : Nat) (sa : Nat → Nat) (st : Int32) (sp : Int32) (tk : Int32) (wn : Int32) (md : Int32) (x : Nat) (n : Nat)  : Met l yX2_many (ws_ yX2_many cX2_many 1 (some .int)) (zRm 2 0 0) (va_Pc [.ref (sa 0)] (zPreO B0 D [[(sa 0, .inr (2, [.int st, .int sp, .int tk, .int wn, .ref (sa 1), .ref (sa 2), .ref (sa 3), .ref (sa 4)]))], [(sa 1, .inr (16, [.int md, .ref x, .int (nI n)]))]])) (zQo (S := Unit) (fun _ => True) (fun _ => some (.int (nI n)))) 0 0 (fun _ => False) := by
  refine z_entryo (by decide +kernel) (Nat.le_of_ble_eq_true rfl) (fun pX eX sX mX argsX blX mtX cX QX hQX gX => ?_)
  refine z_eq (lv₂ := [(0, .ref (sa 0))]) (st₂ := []) ?_ rfl rfl
  refine z_aload_n (pc := 0) gX 0 dX2_many_0 rfl rfl ?_
  refine z_get (pc := 1) gX (zIo_ok gX) (zm 0 rfl) (ci := 2) (C := RX2) (T := TX2) (N := 8) rfl in_X2 4 (by decide) q157 (fun _ h => h) (v := .ref (sa 1)) rfl dX2_many_1 ?_
  refine z_cOF (n := 0) (pc := 4) gX (zIo_ok gX) [] [] [1] (met_J2_size l D B0 (sa 1) md x n ) q657 q663 q661 q52 (gX.zk.face ⟨by decide +kernel, by decide +kernel⟩ q659 q658 q664 q662 q660) (by unfold zHd; decide +kernel) q665 (zm 1 rfl) (ci := 16) rfl ⟨rfl, rfl⟩ ⟨(Nat.le_of_ble_eq_true rfl), (Nat.le_of_ble_eq_true rfl)⟩ rfl rfl rfl (Nat.le_of_ble_eq_true rfl) ⟨(Nat.le_of_ble_eq_true rfl), (Nat.le_of_ble_eq_true rfl)⟩ dX2_many_4 ?_
  intro _ hu4
  refine z_eq (lv₂ := [(0, .ref (sa 0))]) (st₂ := [.int (nI n)]) ?_ rfl rfl
  exact z_rio gX hQX rfl dX2_many_9
theorem hd_X2_many : zHd yX2_many 0 := by unfold zHd; decide +kernel

set_option maxHeartbeats 4000000 in
theorem met_X2_isOn (l : Launch) (D : va_G) (B0 : Nat) (sa : Nat → Nat) (st : Int32) (sp : Int32) (tk : Int32) (wn : Int32) (wh : Nat → Int32) (r : Nat) (hr : r < 7) : Met l yX2_isOn (ws_ yX2_isOn cX2_isOn 2 (some .boolean)) (zRm 1 0 0) (va_Pc [.ref (sa 0), .int (nI r)] (zPreO B0 D [[(sa 0, .inr (2, [.int st, .int sp, .int tk, .int wn, .ref (sa 1), .ref (sa 2), .ref (sa 3), .ref (sa 4)]))], [(sa 3, .inl (D.1 100, 7, .inl wh))]])) (zQo (S := Unit) (fun _ => True) (fun _ => some (.int (bI (mOn (wh r)))))) 0 0 (fun _ => False) := by
  refine z_entryo (by decide +kernel) (Nat.le_of_ble_eq_true rfl) (fun pX eX sX mX argsX blX mtX cX QX hQX gX => ?_)
  refine z_eq (lv₂ := [(0, .ref (sa 0)), (1, .int (nI r))]) (st₂ := []) ?_ rfl rfl
  refine z_aload_n (pc := 0) gX 0 dX2_isOn_0 rfl rfl ?_
  refine z_get (pc := 1) gX (zIo_ok gX) (zm 0 rfl) (ci := 2) (C := RX2) (T := TX2) (N := 8) rfl in_X2 6 (by decide) q167 (fun _ h => h) (v := .ref (sa 3)) rfl dX2_isOn_1 ?_
  refine z_iload_n (pc := 4) gX 1 dX2_isOn_4 rfl rfl ?_
  refine z_iald (pc := 5) gX (zIo_ok gX) (j := r) (n := 7) (f := wh) (zm 1 rfl) (by omega) (by decide) dX2_isOn_5 ?_
  refine z_iconst (pc := 6) gX (-1) dX2_isOn_6 (by decide) ?_
  refine z_icmp_eq (pc := 7) gX 25 dX2_isOn_7 (by decide) (fun c7 => ?_) (fun c7 => ?_)
  · skip
    refine z_iconst (pc := 25) gX 0 dX2_isOn_25 (by decide) ?_
    exact z_rzo gX hQX (by simp [mOn, c7, bI]) dX2_isOn_26
  · skip
    refine z_aload_n (pc := 10) gX 0 dX2_isOn_10 rfl rfl ?_
    refine z_get (pc := 11) gX (zIo_ok gX) (zm 0 rfl) (ci := 2) (C := RX2) (T := TX2) (N := 8) rfl in_X2 6 (by decide) q167 (fun _ h => h) (v := .ref (sa 3)) rfl dX2_isOn_11 ?_
    refine z_iload_n (pc := 14) gX 1 dX2_isOn_14 rfl rfl ?_
    refine z_iald (pc := 15) gX (zIo_ok gX) (j := r) (n := 7) (f := wh) (zm 1 rfl) (by omega) (by decide) dX2_isOn_15 ?_
    refine z_bipush (pc := 16) gX 99 dX2_isOn_16 (by decide) ?_
    refine z_icmp_eq (pc := 18) gX 25 dX2_isOn_18 (by decide) (fun c18 => ?_) (fun c18 => ?_)
    · skip
      refine z_iconst (pc := 25) gX 0 dX2_isOn_25 (by decide) ?_
      exact z_rzo gX hQX (by simp [mOn, c7, c18, bI]) dX2_isOn_26
    · skip
      refine z_iconst (pc := 21) gX 1 dX2_isOn_21 (by decide) ?_
      refine z_goto (pc := 22) gX 26 dX2_isOn_22 (by decide) ?_
      exact z_rzo gX hQX (by simp [mOn, c7, c18, bI]) dX2_isOn_26
theorem hd_X2_isOn : zHd yX2_isOn 1 := by unfold zHd; decide +kernel

set_option maxHeartbeats 4000000 in
theorem met_X7_isWide (l : Launch) (D : va_G) (B0 : Nat) (v : Nat)  : Met l yX7_isWide (ws_ yX7_isWide cX7_isWide 1 (some .boolean)) (zRm 1 0 0) (va_Pc [.ref v] (zPreO B0 D [])) (zQo (S := Unit) (fun _ => True) (fun _ => some (.int (bI false)))) 0 0 (fun _ => False) := by
  refine z_entryo (by decide +kernel) (Nat.le_of_ble_eq_true rfl) (fun pX eX sX mX argsX blX mtX cX QX hQX gX => ?_)
  refine z_eq (lv₂ := [(0, .ref v)]) (st₂ := []) ?_ rfl rfl
  refine z_iconst (pc := 0) gX 0 dX7_isWide_0 (by decide) ?_
  exact z_rzo gX hQX rfl dX7_isWide_1
theorem hd_X7_isWide : zHd yX7_isWide 0 := by unfold zHd; decide +kernel

set_option maxHeartbeats 4000000 in
theorem met_X11_isWide_4 (l : Launch) (D : va_G) (B0 : Nat) (v : Nat) (r : Nat) (T : va_W) (hv : (v, (Sum.inr (10, [Value.int (nI r)]) : va_E)) ∈ T) : Met l yX11_isWide (ws_ yX11_isWide cX11_isWide 1 (some .boolean)) (zRm 2 0 0) (va_Pc [.ref v] (zPreO B0 D [T])) (zQo (S := Unit) (fun _ => True) (fun _ => some (.int (bI true)))) 0 0 (fun _ => False) := by
  refine z_entryo (by decide +kernel) (Nat.le_of_ble_eq_true rfl) (fun pX eX sX mX argsX blX mtX cX QX hQX gX => ?_)
  refine z_eq (lv₂ := [(0, .ref v)]) (st₂ := []) ?_ rfl rfl
  refine z_aload_n (pc := 0) gX 0 dX11_isWide_0 rfl rfl ?_
  refine z_cOSU (pc := 1) gX (zIo_ok gX) [] [] [] (met_X7_isWide l D B0 v ) q886 q882 q705 q881 q72 (by decide +kernel) hd_X7_isWide q891 (zpm 0 rfl hv) (ci := 10) rfl ⟨rfl, rfl⟩ ⟨(Nat.le_of_ble_eq_true rfl), (Nat.le_of_ble_eq_true rfl)⟩ rfl rfl rfl (Nat.le_of_ble_eq_true rfl) ⟨(Nat.le_of_ble_eq_true rfl), (Nat.le_of_ble_eq_true rfl)⟩ dX11_isWide_1 ?_
  intro _ hu1
  refine z_eq (lv₂ := [(0, .ref v)]) (st₂ := [.int (bI false)]) ?_ rfl rfl
  refine z_if_ne (pc := 4) gX 11 dX11_isWide_4 (by decide) (fun c4 => ?_) (fun c4 => ?_)
  · skip
    have k4 : false = true := bI_ne0 c4
    exact absurd k4 (by decide)
  · skip
    have k4 : false = false := bI_eq0 c4
    refine z_iconst (pc := 7) gX 1 dX11_isWide_7 (by decide) ?_
    refine z_goto (pc := 8) gX 12 dX11_isWide_8 (by decide) ?_
    exact z_rzo gX hQX rfl dX11_isWide_12
theorem hd_X11_isWide : zHd yX11_isWide 0 := by unfold zHd; decide +kernel

set_option maxHeartbeats 4000000 in
theorem met_X11_isWide_5 (l : Launch) (D : va_G) (B0 : Nat) (v : Nat) (r : Nat) (T : va_W) (hv : (v, (Sum.inr (11, [Value.int (nI r)]) : va_E)) ∈ T) : Met l yX11_isWide (ws_ yX11_isWide cX11_isWide 1 (some .boolean)) (zRm 2 0 0) (va_Pc [.ref v] (zPreO B0 D [T])) (zQo (S := Unit) (fun _ => True) (fun _ => some (.int (bI true)))) 0 0 (fun _ => False) := by
  refine z_entryo (by decide +kernel) (Nat.le_of_ble_eq_true rfl) (fun pX eX sX mX argsX blX mtX cX QX hQX gX => ?_)
  refine z_eq (lv₂ := [(0, .ref v)]) (st₂ := []) ?_ rfl rfl
  refine z_aload_n (pc := 0) gX 0 dX11_isWide_0 rfl rfl ?_
  refine z_cOSU (pc := 1) gX (zIo_ok gX) [] [] [] (met_X7_isWide l D B0 v ) q886 q882 q705 q881 q72 (by decide +kernel) hd_X7_isWide q891 (zpm 0 rfl hv) (ci := 11) rfl ⟨rfl, rfl⟩ ⟨(Nat.le_of_ble_eq_true rfl), (Nat.le_of_ble_eq_true rfl)⟩ rfl rfl rfl (Nat.le_of_ble_eq_true rfl) ⟨(Nat.le_of_ble_eq_true rfl), (Nat.le_of_ble_eq_true rfl)⟩ dX11_isWide_1 ?_
  intro _ hu1
  refine z_eq (lv₂ := [(0, .ref v)]) (st₂ := [.int (bI false)]) ?_ rfl rfl
  refine z_if_ne (pc := 4) gX 11 dX11_isWide_4 (by decide) (fun c4 => ?_) (fun c4 => ?_)
  · skip
    have k4 : false = true := bI_ne0 c4
    exact absurd k4 (by decide)
  · skip
    have k4 : false = false := bI_eq0 c4
    refine z_iconst (pc := 7) gX 1 dX11_isWide_7 (by decide) ?_
    refine z_goto (pc := 8) gX 12 dX11_isWide_8 (by decide) ?_
    exact z_rzo gX hQX rfl dX11_isWide_12

set_option maxHeartbeats 4000000 in
theorem met_X2_isWide (l : Launch) (D : va_G) (B0 : Nat) (sa : Nat → Nat) (st : Int32) (sp : Int32) (tk : Int32) (wn : Int32) (md : Int32) (d : Nat) (n : Nat) (ln : Nat → Int32) (wh : Nat → Int32) (od : Nat → Int32) (ra : Nat → Nat) (kd : Nat → Int32) (T : va_W) (r : Nat) (hn7 : n ≤ 7) (hR : rOK T n ra kd) (hr : r < n) : Met l yX2_isWide (ws_ yX2_isWide cX2_isWide 2 (some .boolean)) (zRm 4 0 0) (va_Pc [.ref (sa 0), .int (nI r)] (zPreO B0 D [[(sa 0, .inr (2, [.int st, .int sp, .int tk, .int wn, .ref (sa 1), .ref (sa 2), .ref (sa 3), .ref (sa 4)]))], [(sa 1, .inr (16, [.int md, .ref d, .int (nI n)]))], [(sa 2, .inl (D.1 100, 7, .inl ln))], [(sa 3, .inl (D.1 100, 7, .inl wh))], [(sa 4, .inl (D.1 100, 7, .inl od))], [(d, .inl (D.1 104, 10, .inr (.inr (.inr (.inr (rF ra n))))))], T])) (zQo (S := Unit) (fun _ => True) (fun _ => some (.int (bI (decide (4 ≤ kd r)))))) 0 0 (fun _ => False) := by
  refine z_entryo (by decide +kernel) (Nat.le_of_ble_eq_true rfl) (fun pX eX sX mX argsX blX mtX cX QX hQX gX => ?_)
  refine z_eq (lv₂ := [(0, .ref (sa 0)), (1, .int (nI r))]) (st₂ := []) ?_ rfl rfl
  refine z_aload_n (pc := 0) gX 0 dX2_isWide_0 rfl rfl ?_
  refine z_get (pc := 1) gX (zIo_ok gX) (zm 0 rfl) (ci := 2) (C := RX2) (T := TX2) (N := 8) rfl in_X2 4 (by decide) q157 (fun _ h => h) (v := .ref (sa 1)) rfl dX2_isWide_1 ?_
  refine z_iload_n (pc := 4) gX 1 dX2_isWide_4 rfl rfl ?_
  refine z_cOF (n := 1) (pc := 5) gX (zIo_ok gX) [.int (nI r)] [] [1, 5] (met_J2_get l D B0 (sa 1) md d n (rF ra n) r (ra r) (by first | assumption | omega) (by first | assumption | omega) (rF_lt hr)) q799 q804 q802 q52 (gX.zk.face ⟨by decide +kernel, by decide +kernel⟩ q801 q800 q805 q803 q660) (by unfold zHd; decide +kernel) q806 (zm 1 rfl) (ci := 16) rfl ⟨rfl, rfl⟩ ⟨(Nat.le_of_ble_eq_true rfl), (Nat.le_of_ble_eq_true rfl)⟩ rfl rfl rfl (Nat.le_of_ble_eq_true rfl) ⟨(Nat.le_of_ble_eq_true rfl), (Nat.le_of_ble_eq_true rfl)⟩ dX2_isWide_5 ?_
  intro _ hu5
  refine z_eq (lv₂ := [(0, .ref (sa 0)), (1, .int (nI r))]) (st₂ := [.ref (ra r)]) ?_ rfl rfl
  obtain ⟨k, hk1, hk5, hkd, hv⟩ := hR r (by omega)
  rcases five hk1 hk5 with rfl | rfl | rfl | rfl | rfl
  · skip
    refine z_castY (pc := 10) gX (zIo_ok gX) (zpm 6 rfl hv) (ci := 7) rfl q817 (gX.zk.cast q1714) dX2_isWide_10 ?_
    refine z_cOU (n := 0) (pc := 13) gX (zIo_ok gX) [] [] [] (met_X7_isWide l D B0 (ra r) ) (gX.ts _ q880) (gX.ts _ q882) (va_Decl.of (gX.ts _ q881) (gX.ts _ q891)) q881 q888 q72 ⟨by decide +kernel, by decide +kernel, by decide +kernel⟩ q891 (zpm 6 rfl hv) (ci := 7) rfl ⟨rfl, rfl⟩ ⟨(Nat.le_of_ble_eq_true rfl), (Nat.le_of_ble_eq_true rfl)⟩ rfl rfl rfl (Nat.le_of_ble_eq_true rfl) ⟨(Nat.le_of_ble_eq_true rfl), (Nat.le_of_ble_eq_true rfl)⟩ dX2_isWide_13 ?_
    intro _ hu13
    refine z_eq (lv₂ := [(0, .ref (sa 0)), (1, .int (nI r))]) (st₂ := [.int (bI false)]) ?_ rfl rfl
    exact z_rzo gX hQX (by rw [hkd]; rfl) dX2_isWide_16
  · skip
    refine z_castY (pc := 10) gX (zIo_ok gX) (zpm 6 rfl hv) (ci := 8) rfl q817 (gX.zk.cast q1716) dX2_isWide_10 ?_
    refine z_cOU (n := 0) (pc := 13) gX (zIo_ok gX) [] [] [] (met_X7_isWide l D B0 (ra r) ) (gX.ts _ q880) (gX.ts _ q882) (va_Decl.of (gX.ts _ q881) (gX.ts _ q891)) q881 q890 q72 ⟨by decide +kernel, by decide +kernel, by decide +kernel⟩ q891 (zpm 6 rfl hv) (ci := 8) rfl ⟨rfl, rfl⟩ ⟨(Nat.le_of_ble_eq_true rfl), (Nat.le_of_ble_eq_true rfl)⟩ rfl rfl rfl (Nat.le_of_ble_eq_true rfl) ⟨(Nat.le_of_ble_eq_true rfl), (Nat.le_of_ble_eq_true rfl)⟩ dX2_isWide_13 ?_
    intro _ hu13
    refine z_eq (lv₂ := [(0, .ref (sa 0)), (1, .int (nI r))]) (st₂ := [.int (bI false)]) ?_ rfl rfl
    exact z_rzo gX hQX (by rw [hkd]; rfl) dX2_isWide_16
  · skip
    refine z_castY (pc := 10) gX (zIo_ok gX) (zpm 6 rfl hv) (ci := 9) rfl q817 (gX.zk.cast q1713) dX2_isWide_10 ?_
    refine z_cOU (n := 0) (pc := 13) gX (zIo_ok gX) [] [] [] (met_X7_isWide l D B0 (ra r) ) (gX.ts _ q880) (gX.ts _ q882) (va_Decl.of (gX.ts _ q881) (gX.ts _ q891)) q881 q887 q72 ⟨by decide +kernel, by decide +kernel, by decide +kernel⟩ q891 (zpm 6 rfl hv) (ci := 9) rfl ⟨rfl, rfl⟩ ⟨(Nat.le_of_ble_eq_true rfl), (Nat.le_of_ble_eq_true rfl)⟩ rfl rfl rfl (Nat.le_of_ble_eq_true rfl) ⟨(Nat.le_of_ble_eq_true rfl), (Nat.le_of_ble_eq_true rfl)⟩ dX2_isWide_13 ?_
    intro _ hu13
    refine z_eq (lv₂ := [(0, .ref (sa 0)), (1, .int (nI r))]) (st₂ := [.int (bI false)]) ?_ rfl rfl
    exact z_rzo gX hQX (by rw [hkd]; rfl) dX2_isWide_16
  · skip
    refine z_castY (pc := 10) gX (zIo_ok gX) (zpm 6 rfl hv) (ci := 10) rfl q817 (gX.zk.cast q1715) dX2_isWide_10 ?_
    refine z_cOU (n := 0) (pc := 13) gX (zIo_ok gX) [] [] [6] (met_X11_isWide_4 l D B0 (ra r) r T (by first | assumption | omega)) (gX.ts _ q880) (gX.ts _ q882) (va_Decl.of (gX.ts _ q881) (gX.ts _ q891)) q884 q889 q76 ⟨by decide +kernel, by decide +kernel, by decide +kernel⟩ q885 (zpm 6 rfl hv) (ci := 10) rfl ⟨rfl, rfl⟩ ⟨(Nat.le_of_ble_eq_true rfl), (Nat.le_of_ble_eq_true rfl)⟩ rfl rfl rfl (Nat.le_of_ble_eq_true rfl) ⟨(Nat.le_of_ble_eq_true rfl), (Nat.le_of_ble_eq_true rfl)⟩ dX2_isWide_13 ?_
    intro _ hu13
    refine z_eq (lv₂ := [(0, .ref (sa 0)), (1, .int (nI r))]) (st₂ := [.int (bI true)]) ?_ rfl rfl
    exact z_rzo gX hQX (by rw [hkd]; rfl) dX2_isWide_16
  · skip
    refine z_castY (pc := 10) gX (zIo_ok gX) (zpm 6 rfl hv) (ci := 11) rfl q817 (gX.zk.cast q1712) dX2_isWide_10 ?_
    refine z_cOU (n := 0) (pc := 13) gX (zIo_ok gX) [] [] [6] (met_X11_isWide_5 l D B0 (ra r) r T (by first | assumption | omega)) (gX.ts _ q880) (gX.ts _ q882) (va_Decl.of (gX.ts _ q881) (gX.ts _ q891)) q884 q883 q76 ⟨by decide +kernel, by decide +kernel, by decide +kernel⟩ q885 (zpm 6 rfl hv) (ci := 11) rfl ⟨rfl, rfl⟩ ⟨(Nat.le_of_ble_eq_true rfl), (Nat.le_of_ble_eq_true rfl)⟩ rfl rfl rfl (Nat.le_of_ble_eq_true rfl) ⟨(Nat.le_of_ble_eq_true rfl), (Nat.le_of_ble_eq_true rfl)⟩ dX2_isWide_13 ?_
    intro _ hu13
    refine z_eq (lv₂ := [(0, .ref (sa 0)), (1, .int (nI r))]) (st₂ := [.int (bI true)]) ?_ rfl rfl
    exact z_rzo gX hQX (by rw [hkd]; rfl) dX2_isWide_16
theorem hd_X2_isWide : zHd yX2_isWide 1 := by unfold zHd; decide +kernel

set_option maxHeartbeats 4000000 in
theorem met_X2_takes (l : Launch) (D : va_G) (B0 : Nat) (sa : Nat → Nat) (st : Int32) (sp : Int32) (tk : Int32) (wn : Int32) (md : Int32) (d : Nat) (n : Nat) (ln : Nat → Int32) (wh : Nat → Int32) (od : Nat → Int32) (ra : Nat → Nat) (kd : Nat → Int32) (T : va_W) (r : Nat) (step : Int32) (side : Int32) (hn7 : n ≤ 7) (hR : rOK T n ra kd) (hr : r < n) : Met l yX2_takes (ws_ yX2_takes cX2_takes 4 (some .boolean)) (zRm 5 0 0) (va_Pc [.ref (sa 0), .int (nI r), .int step, .int side] (zPreO B0 D [[(sa 0, .inr (2, [.int st, .int sp, .int tk, .int wn, .ref (sa 1), .ref (sa 2), .ref (sa 3), .ref (sa 4)]))], [(sa 1, .inr (16, [.int md, .ref d, .int (nI n)]))], [(sa 2, .inl (D.1 100, 7, .inl ln))], [(sa 3, .inl (D.1 100, 7, .inl wh))], [(sa 4, .inl (D.1 100, 7, .inl od))], [(d, .inl (D.1 104, 10, .inr (.inr (.inr (.inr (rF ra n))))))], T])) (zQo (S := Unit) (fun _ => True) (fun _ => some (.int (bI (cTk ln wh kd r step side))))) 0 0 (fun _ => False) := by
  refine z_entryo (by decide +kernel) (Nat.le_of_ble_eq_true rfl) (fun pX eX sX mX argsX blX mtX cX QX hQX gX => ?_)
  refine z_eq (lv₂ := [(0, .ref (sa 0)), (1, .int (nI r)), (2, .int step), (3, .int side)]) (st₂ := []) ?_ rfl rfl
  refine z_aload_n (pc := 0) gX 0 dX2_takes_0 rfl rfl ?_
  refine z_get (pc := 1) gX (zIo_ok gX) (zm 0 rfl) (ci := 2) (C := RX2) (T := TX2) (N := 8) rfl in_X2 6 (by decide) q167 (fun _ h => h) (v := .ref (sa 3)) rfl dX2_takes_1 ?_
  refine z_iload_n (pc := 4) gX 1 dX2_takes_4 rfl rfl ?_
  refine z_iald (pc := 5) gX (zIo_ok gX) (j := r) (n := 7) (f := wh) (zm 3 rfl) (by omega) (by decide) dX2_takes_5 ?_
  refine z_iload_n (pc := 6) gX 2 dX2_takes_6 rfl rfl ?_
  refine z_icmp_ne (pc := 7) gX 32 dX2_takes_7 (by decide) (fun c7 => ?_) (fun c7 => ?_)
  · skip
    refine z_iconst (pc := 32) gX 0 dX2_takes_32 (by decide) ?_
    exact z_rzo gX hQX (by simp only [cTk, bI]; simp_all) dX2_takes_33
  · skip
    refine z_aload_n (pc := 10) gX 0 dX2_takes_10 rfl rfl ?_
    refine z_iload_n (pc := 11) gX 1 dX2_takes_11 rfl rfl ?_
    refine z_cOV (pc := 12) gX (zIo_ok gX) [.int (nI r)] [] [0, 1, 2, 3, 4, 5, 6] (met_X2_isWide l D B0 sa st sp tk wn md d n ln wh od ra kd T r (by first | assumption | omega) (by first | assumption | omega) (by first | assumption | omega)) q876 q877 q878 q49 q879 (zm 0 rfl) (ci := 2) rfl rfl hd_X2_isWide ⟨rfl, rfl⟩ ⟨(Nat.le_of_ble_eq_true rfl), (Nat.le_of_ble_eq_true rfl)⟩ rfl rfl rfl (Nat.le_of_ble_eq_true rfl) ⟨(Nat.le_of_ble_eq_true rfl), (Nat.le_of_ble_eq_true rfl)⟩ dX2_takes_12 ?_
    intro _ hu12
    refine z_eq (lv₂ := [(0, .ref (sa 0)), (1, .int (nI r)), (2, .int step), (3, .int side)]) (st₂ := [.int (bI (decide (4 ≤ kd r)))]) ?_ rfl rfl
    refine z_if_ne (pc := 15) gX 28 dX2_takes_15 (by decide) (fun c15 => ?_) (fun c15 => ?_)
    · skip
      have k15 : (decide (4 ≤ kd r)) = true := bI_ne0 c15
      refine z_iconst (pc := 28) gX 1 dX2_takes_28 (by decide) ?_
      refine z_goto (pc := 29) gX 33 dX2_takes_29 (by decide) ?_
      exact z_rzo gX hQX (by simp only [cTk, bI]; simp_all) dX2_takes_33
    · skip
      have k15 : (decide (4 ≤ kd r)) = false := bI_eq0 c15
      refine z_aload_n (pc := 18) gX 0 dX2_takes_18 rfl rfl ?_
      refine z_get (pc := 19) gX (zIo_ok gX) (zm 0 rfl) (ci := 2) (C := RX2) (T := TX2) (N := 8) rfl in_X2 5 (by decide) q161 (fun _ h => h) (v := .ref (sa 2)) rfl dX2_takes_19 ?_
      refine z_iload_n (pc := 22) gX 1 dX2_takes_22 rfl rfl ?_
      refine z_iald (pc := 23) gX (zIo_ok gX) (j := r) (n := 7) (f := ln) (zm 2 rfl) (by omega) (by decide) dX2_takes_23 ?_
      refine z_iload_n (pc := 24) gX 3 dX2_takes_24 rfl rfl ?_
      refine z_icmp_ne (pc := 25) gX 32 dX2_takes_25 (by decide) (fun c25 => ?_) (fun c25 => ?_)
      · skip
        refine z_iconst (pc := 32) gX 0 dX2_takes_32 (by decide) ?_
        exact z_rzo gX hQX (by simp only [cTk, bI]; simp_all) dX2_takes_33
      · skip
        refine z_iconst (pc := 28) gX 1 dX2_takes_28 (by decide) ?_
        refine z_goto (pc := 29) gX 33 dX2_takes_29 (by decide) ?_
        exact z_rzo gX hQX (by simp only [cTk, bI]; simp_all) dX2_takes_33
theorem hd_X2_takes : zHd yX2_takes 3 := by unfold zHd; decide +kernel

theorem free_false {c : Nat → Int32} {r : Nat} {step side : Int32} {o : Nat} (h : mFreeTo c r step side (o + 1) = false) : ∀ n, o < n → mFreeTo c r step side n = false := by
  intro n hn
  induction n with
  | zero => omega
  | succ n ih =>
    rcases Nat.lt_or_ge o n with h1 | h1
    · simp only [mFreeTo, ih h1, Bool.false_and]
    · rw [show n = o by omega]; exact h

set_option maxHeartbeats 4000000 in
theorem met_X2_isFree (l : Launch) (D : va_G) (B0 : Nat) (sa : Nat → Nat) (st : Int32) (sp : Int32) (tk : Int32) (wn : Int32) (md : Int32) (d : Nat) (n : Nat) (ln : Nat → Int32) (wh : Nat → Int32) (od : Nat → Int32) (ra : Nat → Nat) (kd : Nat → Int32) (T : va_W) (r : Nat) (step : Int32) (side : Int32) (hn7 : n ≤ 7) (hR : rOK T n ra kd) (hl : ∀ q, q < n → ln q = 0 ∨ ln q = 1) (hr : r < n) (hs : side = 0 ∨ side = 1) : Met l yX2_isFree (ws_ yX2_isFree cX2_isFree 5 (some .boolean)) (zRm 6 0 0) (va_Pc [.ref (sa 0), .int (nI r), .int step, .int side] (zPreO B0 D [[(sa 0, .inr (2, [.int st, .int sp, .int tk, .int wn, .ref (sa 1), .ref (sa 2), .ref (sa 3), .ref (sa 4)]))], [(sa 1, .inr (16, [.int md, .ref d, .int (nI n)]))], [(sa 2, .inl (D.1 100, 7, .inl ln))], [(sa 3, .inl (D.1 100, 7, .inl wh))], [(sa 4, .inl (D.1 100, 7, .inl od))], [(d, .inl (D.1 104, 10, .inr (.inr (.inr (.inr (rF ra n))))))], T])) (zQo (S := Unit) (fun _ => True) (fun _ => some (.int (bI (mFreeTo (pkC st sp tk n ln wh kd) r step side n))))) 0 0 (fun _ => False) := by
  refine z_entryo (by decide +kernel) (Nat.le_of_ble_eq_true rfl) (fun pX eX sX mX argsX blX mtX cX QX hQX gX => ?_)
  refine z_eq (lv₂ := [(0, .ref (sa 0)), (1, .int (nI r)), (2, .int step), (3, .int side)]) (st₂ := []) ?_ rfl rfl
  refine z_iconst (pc := 0) gX 0 dX2_isFree_0 (by decide) ?_
  refine z_istore (pc := 1) gX [1, 2, 3, 4, 0] [(0, .ref (sa 0)), (1, .int (nI r)), (2, .int step), (3, .int side), (4, .int 0)] dX2_isFree_1 (by decide) rfl ?_
  have L3 : ∀ (n3 : Nat) (o : Nat), (o ≤ n) → (mFreeTo (pkC st sp tk n ln wh kd) r step side o = true) → n - o < n3 → zJ pX l eX (zRm 6 0 0) sX mX argsX blX mtX cX QX 5 (zIo D sX [[(sa 0, .inr (2, [.int st, .int sp, .int tk, .int wn, .ref (sa 1), .ref (sa 2), .ref (sa 3), .ref (sa 4)]))], [(sa 1, .inr (16, [.int md, .ref d, .int (nI n)]))], [(sa 2, .inl (D.1 100, 7, .inl ln))], [(sa 3, .inl (D.1 100, 7, .inl wh))], [(sa 4, .inl (D.1 100, 7, .inl od))], [(d, .inl (D.1 104, 10, .inr (.inr (.inr (.inr (rF ra n))))))], T]) 0 0 3 [(0, .ref (sa 0)), (1, .int (nI r)), (2, .int step), (3, .int side), (4, .int (nI o))] [] := by
    intro n3
    induction n3 with
    | zero => exact fun o ho hf hm3 => absurd hm3 (Nat.not_lt_zero _)
    | succ n3 ih3 =>
      intro o ho hf hm3
      refine z_iload (pc := 3) gX 4 dX2_isFree_3 rfl ?_
      refine z_aload_n (pc := 5) gX 0 dX2_isFree_5 rfl rfl ?_
      refine z_cOV (pc := 6) gX (zIo_ok gX) [] [.int (nI o)] [0, 1] (met_X2_many l D B0 sa st sp tk wn md d n ) q847 q653 q654 q49 q655 (zm 0 rfl) (ci := 2) rfl rfl hd_X2_many ⟨rfl, rfl⟩ ⟨(Nat.le_of_ble_eq_true rfl), (Nat.le_of_ble_eq_true rfl)⟩ rfl rfl rfl (Nat.le_of_ble_eq_true rfl) ⟨(Nat.le_of_ble_eq_true rfl), (Nat.le_of_ble_eq_true rfl)⟩ dX2_isFree_6 ?_
      intro _ hu6
      refine z_eq (lv₂ := [(0, .ref (sa 0)), (1, .int (nI r)), (2, .int step), (3, .int side), (4, .int (nI o))]) (st₂ := [.int (nI n), .int (nI o)]) ?_ rfl rfl
      refine z_icmp_ge (pc := 9) gX 61 dX2_isFree_9 (by decide) (fun c9 => ?_) (fun c9 => ?_)
      · skip
        have k9 : n ≤ o := (zn_le (a := n) (b := o) (by omega) (by omega)).mp c9
        refine z_iconst (pc := 61) gX 1 dX2_isFree_61 (by decide) ?_
        exact z_rzo gX hQX ((fun (e : o = n) => by subst e; rw [hf]; rfl) (by omega)) dX2_isFree_62
      · skip
        have k9 : o < n := (zn_nle (a := n) (b := o) (by omega) (by omega)).mp c9
        refine z_iload (pc := 12) gX 4 dX2_isFree_12 rfl ?_
        refine z_iload_n (pc := 14) gX 1 dX2_isFree_14 rfl rfl ?_
        refine z_icmp_ne (pc := 15) gX 21 dX2_isFree_15 (by decide) (fun c15 => ?_) (fun c15 => ?_)
        · skip
          have k15 : ¬ o = r := fun h => c15 ((zn_eq (a := o) (b := r) (by omega) (by omega)).mpr h)
          refine z_aload_n (pc := 21) gX 0 dX2_isFree_21 rfl rfl ?_
          refine z_iload (pc := 22) gX 4 dX2_isFree_22 rfl ?_
          refine z_iload_n (pc := 24) gX 2 dX2_isFree_24 rfl rfl ?_
          refine z_iload_n (pc := 25) gX 3 dX2_isFree_25 rfl rfl ?_
          refine z_cOV (pc := 26) gX (zIo_ok gX) [.int (nI o), .int step, .int side] [] [0, 1, 2, 3, 4, 5, 6] (met_X2_takes l D B0 sa st sp tk wn md d n ln wh od ra kd T o step side (by first | assumption | omega) (by first | assumption | omega) (by first | assumption | omega)) q872 q873 q874 q49 q875 (zm 0 rfl) (ci := 2) rfl rfl hd_X2_takes ⟨rfl, rfl⟩ ⟨(Nat.le_of_ble_eq_true rfl), (Nat.le_of_ble_eq_true rfl)⟩ rfl rfl rfl (Nat.le_of_ble_eq_true rfl) ⟨(Nat.le_of_ble_eq_true rfl), (Nat.le_of_ble_eq_true rfl)⟩ dX2_isFree_26 ?_
          intro _ hu26
          refine z_eq (lv₂ := [(0, .ref (sa 0)), (1, .int (nI r)), (2, .int step), (3, .int side), (4, .int (nI o))]) (st₂ := [.int (bI (cTk ln wh kd o step side))]) ?_ rfl rfl
          refine z_if_ne (pc := 29) gX 53 dX2_isFree_29 (by decide) (fun c29 => ?_) (fun c29 => ?_)
          · skip
            have k29 : (cTk ln wh kd o step side) = true := bI_ne0 c29
            refine z_iconst (pc := 53) gX 0 dX2_isFree_53 (by decide) ?_
            exact z_rzo gX hQX (by rw [free_false (o := o) (by rw [free_s (by omega) k15 (hl o (by omega)) hs]; simp [k29]) n (by omega)]; rfl) dX2_isFree_54
          · skip
            have k29 : (cTk ln wh kd o step side) = false := bI_eq0 c29
            refine z_aload_n (pc := 32) gX 0 dX2_isFree_32 rfl rfl ?_
            refine z_iload_n (pc := 33) gX 1 dX2_isFree_33 rfl rfl ?_
            refine z_cOV (pc := 34) gX (zIo_ok gX) [.int (nI r)] [] [0, 1, 2, 3, 4, 5, 6] (met_X2_isWide l D B0 sa st sp tk wn md d n ln wh od ra kd T r (by first | assumption | omega) (by first | assumption | omega) (by first | assumption | omega)) q876 q877 q878 q49 q879 (zm 0 rfl) (ci := 2) rfl rfl hd_X2_isWide ⟨rfl, rfl⟩ ⟨(Nat.le_of_ble_eq_true rfl), (Nat.le_of_ble_eq_true rfl)⟩ rfl rfl rfl (Nat.le_of_ble_eq_true rfl) ⟨(Nat.le_of_ble_eq_true rfl), (Nat.le_of_ble_eq_true rfl)⟩ dX2_isFree_34 ?_
            intro _ hu34
            refine z_eq (lv₂ := [(0, .ref (sa 0)), (1, .int (nI r)), (2, .int step), (3, .int side), (4, .int (nI o))]) (st₂ := [.int (bI (decide (4 ≤ kd r)))]) ?_ rfl rfl
            refine z_if_eq (pc := 37) gX 55 dX2_isFree_37 (by decide) (fun c37 => ?_) (fun c37 => ?_)
            · skip
              have k37 : (decide (4 ≤ kd r)) = false := bI_eq0 c37
              refine z_iinc (pc := 55) gX 4 (nI (o + 1)) [1, 2, 3, 4, 0] [(0, .ref (sa 0)), (1, .int (nI r)), (2, .int step), (3, .int side), (4, .int (nI (o + 1)))] dX2_isFree_55 rfl (nI_1 _) (by decide) rfl ?_
              refine z_goto (pc := 58) gX 3 dX2_isFree_58 (by decide) ?_
              exact ih3 (o + 1) (by omega) (by rw [free_s (by omega) k15 (hl o (by omega)) hs, hf]; simp [k29, k37]) (by omega)
            · skip
              have k37 : (decide (4 ≤ kd r)) = true := bI_ne0 c37
              refine z_aload_n (pc := 40) gX 0 dX2_isFree_40 rfl rfl ?_
              refine z_iload (pc := 41) gX 4 dX2_isFree_41 rfl ?_
              refine z_iload_n (pc := 43) gX 2 dX2_isFree_43 rfl rfl ?_
              refine z_iconst (pc := 44) gX 1 dX2_isFree_44 (by decide) ?_
              refine z_iload_n (pc := 45) gX 3 dX2_isFree_45 rfl rfl ?_
              refine z_isub (pc := 46) gX dX2_isFree_46 ?_
              refine z_cOV (pc := 47) gX (zIo_ok gX) [.int (nI o), .int step, .int (1 - side)] [] [0, 1, 2, 3, 4, 5, 6] (met_X2_takes l D B0 sa st sp tk wn md d n ln wh od ra kd T o step (1 - side) (by first | assumption | omega) (by first | assumption | omega) (by first | assumption | omega)) q872 q873 q874 q49 q875 (zm 0 rfl) (ci := 2) rfl rfl hd_X2_takes ⟨rfl, rfl⟩ ⟨(Nat.le_of_ble_eq_true rfl), (Nat.le_of_ble_eq_true rfl)⟩ rfl rfl rfl (Nat.le_of_ble_eq_true rfl) ⟨(Nat.le_of_ble_eq_true rfl), (Nat.le_of_ble_eq_true rfl)⟩ dX2_isFree_47 ?_
              intro _ hu47
              refine z_eq (lv₂ := [(0, .ref (sa 0)), (1, .int (nI r)), (2, .int step), (3, .int side), (4, .int (nI o))]) (st₂ := [.int (bI (cTk ln wh kd o step (1 - side)))]) ?_ rfl rfl
              refine z_if_eq (pc := 50) gX 55 dX2_isFree_50 (by decide) (fun c50 => ?_) (fun c50 => ?_)
              · skip
                have k50 : (cTk ln wh kd o step (1 - side)) = false := bI_eq0 c50
                refine z_iinc (pc := 55) gX 4 (nI (o + 1)) [1, 2, 3, 4, 0] [(0, .ref (sa 0)), (1, .int (nI r)), (2, .int step), (3, .int side), (4, .int (nI (o + 1)))] dX2_isFree_55 rfl (nI_1 _) (by decide) rfl ?_
                refine z_goto (pc := 58) gX 3 dX2_isFree_58 (by decide) ?_
                exact ih3 (o + 1) (by omega) (by rw [free_s (by omega) k15 (hl o (by omega)) hs, hf]; simp [k29, k37, k50]) (by omega)
              · skip
                have k50 : (cTk ln wh kd o step (1 - side)) = true := bI_ne0 c50
                refine z_iconst (pc := 53) gX 0 dX2_isFree_53 (by decide) ?_
                exact z_rzo gX hQX (by rw [free_false (o := o) (by rw [free_s (by omega) k15 (hl o (by omega)) hs]; simp [k29, k37, k50]) n (by omega)]; rfl) dX2_isFree_54
        · skip
          have k15 : o = r := (zn_eq (a := o) (b := r) (by omega) (by omega)).mp c15
          refine z_goto (pc := 18) gX 55 dX2_isFree_18 (by decide) ?_
          refine z_iinc (pc := 55) gX 4 (nI (o + 1)) [1, 2, 3, 4, 0] [(0, .ref (sa 0)), (1, .int (nI r)), (2, .int step), (3, .int side), (4, .int (nI (o + 1)))] dX2_isFree_55 rfl (nI_1 _) (by decide) rfl ?_
          refine z_goto (pc := 58) gX 3 dX2_isFree_58 (by decide) ?_
          exact ih3 (o + 1) (by omega) (by subst k15; rw [free_r]; exact hf) (by omega)
  exact L3 ((n - 0) + 1) 0 (by omega) rfl (Nat.lt_succ_self _)
theorem hd_X2_isFree : zHd yX2_isFree 3 := by unfold zHd; decide +kernel

set_option maxHeartbeats 4000000 in
theorem met_X2_climbs (l : Launch) (D : va_G) (B0 : Nat) (A : Nat → Prop) (sa : Nat → Nat) (st : Int32) (sp : Int32) (tk : Int32) (wn : Int32) (md : Int32) (d : Nat) (n : Nat) (ln : Nat → Int32) (wh : Nat → Int32) (od : Nat → Int32) (ra : Nat → Nat) (kd : Nat → Int32) (T : va_W) (r : Nat) (b : Int32) (hn7 : n ≤ 7) (hR : rOK T n ra kd) (hl : ∀ q, q < n → ln q = 0 ∨ ln q = 1) (hr : r < n) : Met l yX2_climbs (ws_ yX2_climbs cX2_climbs 4 none) (zRm 7 0 0) (va_Pc [.ref (sa 0), .int (nI r), .int b] (zPre B0 D A [[(sa 0, .inr (2, [.int st, .int sp, .int tk, .int wn, .ref (sa 1), .ref (sa 2), .ref (sa 3), .ref (sa 4)]))], [(sa 1, .inr (16, [.int md, .ref d, .int (nI n)]))], [(sa 2, .inl (D.1 100, 7, .inl ln))], [(sa 3, .inl (D.1 100, 7, .inl wh))], [(sa 4, .inl (D.1 100, 7, .inl od))], [(d, .inl (D.1 104, 10, .inr (.inr (.inr (.inr (rF ra n))))))], T])) (zQ (S := Unit) (fun _ => True) (fun _ => none) (fun _ => [[(sa 0, .inr (2, [.int st, .int sp, .int tk, .int wn, .ref (sa 1), .ref (sa 2), .ref (sa 3), .ref (sa 4)]))], [(sa 1, .inr (16, [.int md, .ref d, .int (nI n)]))], [(sa 2, .inl (D.1 100, 7, .inl ln))], [(sa 3, .inl (D.1 100, 7, .inl (climbW n (pkC st sp tk n ln wh kd) wh r b)))], [(sa 4, .inl (D.1 100, 7, .inl od))], [(d, .inl (D.1 104, 10, .inr (.inr (.inr (.inr (rF ra n))))))], T]) D A) 0 0 A := by
  refine z_entry (by decide +kernel) (Nat.le_of_ble_eq_true rfl) (fun pX eX sX mX argsX blX mtX cX QX hQX gX hAX hnm => ?_)
  refine z_eq (lv₂ := [(0, .ref (sa 0)), (1, .int (nI r)), (2, .int b)]) (st₂ := []) ?_ rfl rfl
  refine z_aload_n (pc := 0) gX 0 dX2_climbs_0 rfl rfl ?_
  refine z_get (pc := 1) gX (zI_ok gX hAX) (zm 0 rfl) (ci := 2) (C := RX2) (T := TX2) (N := 8) rfl in_X2 6 (by decide) q167 (fun _ h => h) (v := .ref (sa 3)) rfl dX2_climbs_1 ?_
  refine z_iload_n (pc := 4) gX 1 dX2_climbs_4 rfl rfl ?_
  refine z_iald (pc := 5) gX (zI_ok gX hAX) (j := r) (n := 7) (f := wh) (zm 3 rfl) (by omega) (by decide) dX2_climbs_5 ?_
  refine z_iload_n (pc := 6) gX 2 dX2_climbs_6 rfl rfl ?_
  refine z_iadd (pc := 7) gX dX2_climbs_7 ?_
  refine z_istore_n (pc := 8) gX [1, 2, 3, 0] [(0, .ref (sa 0)), (1, .int (nI r)), (2, .int b), (3, .int ((wh r) + b))] dX2_climbs_8 rfl (by decide) rfl ?_
  refine z_iload_n (pc := 9) gX 3 dX2_climbs_9 rfl rfl ?_
  refine z_i2l (pc := 10) gX dX2_climbs_10 ?_
  refine z_lconst (pc := 11) gX 0 dX2_climbs_11 rfl ?_
  refine z_aload_n (pc := 12) gX 0 dX2_climbs_12 rfl rfl ?_
  refine z_get (pc := 13) gX (zI_ok gX hAX) (zm 0 rfl) (ci := 2) (C := RX2) (T := TX2) (N := 8) rfl in_X2 0 (by decide) q144 (fun _ h => h) (v := .int st) rfl dX2_climbs_13 ?_
  refine z_iconst (pc := 16) gX 1 dX2_climbs_16 (by decide) ?_
  refine z_isub (pc := 17) gX dX2_climbs_17 ?_
  refine z_i2l (pc := 18) gX dX2_climbs_18 ?_
  refine z_cOSN2 (pc := 19) gX (zI_ok gX hAX) [.long (((wh r) + b).toInt64), .long 0, .long ((st - 1).toInt64)] [] [] (met_X0_isIn l D B0 (((wh r) + b).toInt64) 0 ((st - 1).toInt64) ) (zm 13 rfl) q347 q47 hd_X0_isIn q348 ⟨rfl, rfl⟩ ⟨(Nat.le_of_ble_eq_true rfl), (Nat.le_of_ble_eq_true rfl)⟩ rfl rfl rfl (Nat.le_of_ble_eq_true rfl) ⟨(Nat.le_of_ble_eq_true rfl), (Nat.le_of_ble_eq_true rfl)⟩ dX2_climbs_19 ?_
  intro _ hu19
  refine z_eq (lv₂ := [(0, .ref (sa 0)), (1, .int (nI r)), (2, .int b), (3, .int ((wh r) + b))]) (st₂ := [.int (bI (lIn (((wh r) + b).toInt64) 0 ((st - 1).toInt64)))]) ?_ rfl rfl
  refine z_top (bI (mIn ((wh r) + b) 0 (st - 1))) (congrArg bI (lIn_eq rfl (by decide) rfl)) ?_
  refine z_if_eq (pc := 22) gX 47 dX2_climbs_22 (by decide) (fun c22 => ?_) (fun c22 => ?_)
  · skip
    have k22 : (mIn ((wh r) + b) 0 (st - 1)) = false := bI_eq0 c22
    exact z_vret gX hQX () trivial rfl (by rw [show climbW n (pkC st sp tk n ln wh kd) wh r b = wh by simp only [climbW, mMay, pkC_wh (show r < 7 by omega), pkC_ln (show r < 7 by omega), pkC_16]; simp [k22]]) (by first | decide | omega) (by first | decide | omega) dX2_climbs_47
  · skip
    have k22 : (mIn ((wh r) + b) 0 (st - 1)) = true := bI_ne0 c22
    refine z_aload_n (pc := 25) gX 0 dX2_climbs_25 rfl rfl ?_
    refine z_iload_n (pc := 26) gX 1 dX2_climbs_26 rfl rfl ?_
    refine z_iload_n (pc := 27) gX 3 dX2_climbs_27 rfl rfl ?_
    refine z_aload_n (pc := 28) gX 0 dX2_climbs_28 rfl rfl ?_
    refine z_get (pc := 29) gX (zI_ok gX hAX) (zm 0 rfl) (ci := 2) (C := RX2) (T := TX2) (N := 8) rfl in_X2 5 (by decide) q161 (fun _ h => h) (v := .ref (sa 2)) rfl dX2_climbs_29 ?_
    refine z_iload_n (pc := 32) gX 1 dX2_climbs_32 rfl rfl ?_
    refine z_iald (pc := 33) gX (zI_ok gX hAX) (j := r) (n := 7) (f := ln) (zm 2 rfl) (by omega) (by decide) dX2_climbs_33 ?_
    refine z_cOV (pc := 34) gX (zI_ok gX hAX) [.int (nI r), .int ((wh r) + b), .int (ln r)] [] [0, 1, 2, 3, 4, 5, 6] (met_X2_isFree l D B0 sa st sp tk wn md d n ln wh od ra kd T r ((wh r) + b) (ln r) (by first | assumption | omega) (by first | assumption | omega) (by first | assumption | omega) (by first | assumption | omega) (hl r hr)) q868 q869 q870 q49 q871 (zm 0 rfl) (ci := 2) rfl rfl hd_X2_isFree ⟨rfl, rfl⟩ ⟨(Nat.le_of_ble_eq_true rfl), (Nat.le_of_ble_eq_true rfl)⟩ rfl rfl rfl (Nat.le_of_ble_eq_true rfl) ⟨(Nat.le_of_ble_eq_true rfl), (Nat.le_of_ble_eq_true rfl)⟩ dX2_climbs_34 ?_
    intro _ hu34
    refine z_eq (lv₂ := [(0, .ref (sa 0)), (1, .int (nI r)), (2, .int b), (3, .int ((wh r) + b))]) (st₂ := [.int (bI (mFreeTo (pkC st sp tk n ln wh kd) r ((wh r) + b) (ln r) n))]) ?_ rfl rfl
    refine z_if_eq (pc := 37) gX 47 dX2_climbs_37 (by decide) (fun c37 => ?_) (fun c37 => ?_)
    · skip
      have k37 : (mFreeTo (pkC st sp tk n ln wh kd) r ((wh r) + b) (ln r) n) = false := bI_eq0 c37
      exact z_vret gX hQX () trivial rfl (by rw [show climbW n (pkC st sp tk n ln wh kd) wh r b = wh by simp only [climbW, mMay, pkC_wh (show r < 7 by omega), pkC_ln (show r < 7 by omega), pkC_16]; simp [k22, k37]]) (by first | decide | omega) (by first | decide | omega) dX2_climbs_47
    · skip
      have k37 : (mFreeTo (pkC st sp tk n ln wh kd) r ((wh r) + b) (ln r) n) = true := bI_ne0 c37
      refine z_aload_n (pc := 40) gX 0 dX2_climbs_40 rfl rfl ?_
      refine z_get (pc := 41) gX (zI_ok gX hAX) (zm 0 rfl) (ci := 2) (C := RX2) (T := TX2) (N := 8) rfl in_X2 6 (by decide) q167 (fun _ h => h) (v := .ref (sa 3)) rfl dX2_climbs_41 ?_
      refine z_iload_n (pc := 44) gX 1 dX2_climbs_44 rfl rfl ?_
      refine z_iload_n (pc := 45) gX 3 dX2_climbs_45 rfl rfl ?_
      refine z_iast (pc := 46) gX hAX 3 (j := r) (n := 7) (f := wh) rfl (by omega) (by decide) [[(sa 0, .inr (2, [.int st, .int sp, .int tk, .int wn, .ref (sa 1), .ref (sa 2), .ref (sa 3), .ref (sa 4)]))], [(sa 1, .inr (16, [.int md, .ref d, .int (nI n)]))], [(sa 2, .inl (D.1 100, 7, .inl ln))], [(sa 3, .inl (D.1 100, 7, .inl (upd wh r ((wh r) + b))))], [(sa 4, .inl (D.1 100, 7, .inl od))], [(d, .inl (D.1 104, 10, .inr (.inr (.inr (.inr (rF ra n))))))], T] rfl dX2_climbs_46 ?_
      exact z_vret gX hQX () trivial rfl (by rw [show climbW n (pkC st sp tk n ln wh kd) wh r b = upd wh r ((wh r) + b) by simp only [climbW, mMay, pkC_wh (show r < 7 by omega), pkC_ln (show r < 7 by omega), pkC_16]; simp [k22, k37]]) (by first | decide | omega) (by first | decide | omega) dX2_climbs_47
theorem hd_X2_climbs : zHd yX2_climbs 2 := by unfold zHd; decide +kernel

