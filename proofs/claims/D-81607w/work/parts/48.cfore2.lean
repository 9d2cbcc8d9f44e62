set_option maxRecDepth 100000
/-! WHAT IS FORETOLD, by the component: absent, drawn -/
def sumN (f : Nat → Nat) : Nat → Nat
  | 0 => 0
  | s + 1 => sumN f s + f s
theorem sumN_add (f : Nat → Nat) (a : Nat) : ∀ b, sumN f (a + b) = sumN f a + sumN (fun s => f (a + s)) b
  | 0 => rfl
  | b + 1 => by
    show sumN f (a + b) + f (a + b) = sumN f a + (sumN (fun s => f (a + s)) b + f (a + b))
    rw [sumN_add f a b]; omega
theorem sumN_congr {f g : Nat → Nat} : ∀ m, (∀ s, s < m → f s = g s) → sumN f m = sumN g m
  | 0, _ => rfl
  | m + 1, h => by
    simp only [sumN]
    rw [sumN_congr m (fun s hs => h s (by omega)), h m (by omega)]
theorem sumN_mul (f : Nat → Nat) (x : Nat) : ∀ m, sumN (fun s => f s * x) m = sumN f m * x
  | 0 => by simp [sumN]
  | m + 1 => by simp only [sumN]; rw [sumN_mul f x m, Nat.add_mul]
theorem sumN_0 : ∀ m, sumN (fun _ => 0) m = 0
  | 0 => rfl
  | m + 1 => by simp only [sumN]; rw [sumN_0 m]
def subB (W s : Nat) : Nat → Bool
  | 0 => true
  | r + 1 => subB W s r && (!s.testBit r || W.testBit r)
theorem subB_congr {W s t : Nat} : ∀ n, (∀ r, r < n → s.testBit r = t.testBit r) → subB W s n = subB W t n
  | 0, _ => rfl
  | n + 1, h => by simp only [subB]; rw [subB_congr n (fun r hr => h r (by omega)), h n (by omega)]
theorem wayQ_congr {W s t cc : Nat} : ∀ n, (∀ r, r < n → s.testBit r = t.testBit r) → wayQ W s cc n = wayQ W t cc n
  | 0, _ => rfl
  | n + 1, h => by simp only [wayQ]; rw [wayQ_congr n (fun r hr => h r (by omega)), h n (by omega)]
theorem subB_iff {W s : Nat} : ∀ n, subB W s n = true ↔ ∀ r, r < n → s.testBit r = true → W.testBit r = true
  | 0 => ⟨fun _ r hr => absurd hr (Nat.not_lt_zero _), fun _ => rfl⟩
  | n + 1 => by
    simp only [subB, Bool.and_eq_true, subB_iff n]
    constructor
    · intro h r hr hs
      rcases (show r < n ∨ r = n by omega) with e | e
      · exact h.1 r e hs
      · subst e; have := h.2; rw [hs] at this; simpa using this
    · intro h
      refine ⟨fun r hr => h r (by omega), ?_⟩
      cases e : s.testBit n with
      | false => rfl
      | true => rw [h n (by omega) e]; rfl
theorem sub_bits {W s n : Nat} (hs : s < 2 ^ n) : s &&& W = s ↔ subB W s n = true := by
  rw [subB_iff]
  constructor
  · intro h r _ hr
    rw [← h, Nat.testBit_and, Bool.and_eq_true] at hr
    exact hr.2
  · intro h
    apply Nat.eq_of_testBit_eq
    intro r
    rw [Nat.testBit_and]
    cases e : s.testBit r with
    | false => rfl
    | true =>
      rcases Nat.lt_or_ge r n with h1 | h1
      · rw [h r h1 e]; rfl
      · rw [Nat.testBit_lt_two_pow (Nat.lt_of_lt_of_le hs (Nat.pow_le_pow_right (by decide) h1))] at e; cases e
theorem bel_all {W cc : Nat} (hc : cc ≤ 10) : ∀ n, sumN (fun s => if subB W s n = true then wayQ W s cc n else 0) (2 ^ n) = belP W n
  | 0 => by simp [sumN, subB, wayQ, belP]
  | n + 1 => by
    have ih := bel_all (W := W) hc n
    rw [Nat.pow_succ, Nat.mul_two, sumN_add]
    have hlo : sumN (fun s => if subB W s (n + 1) = true then wayQ W s cc (n + 1) else 0) (2 ^ n) = belP W n * (if W.testBit n = true then 10 - cc else 1) := by
      rw [← ih, ← sumN_mul]
      refine sumN_congr _ (fun s hs => ?_)
      have hb : s.testBit n = false := Nat.testBit_lt_two_pow hs
      simp only [subB, wayQ, hb, Bool.not_false, Bool.true_or, Bool.and_true, Bool.false_eq_true, if_false]
      split
      · split <;> simp
      · simp
    have hhi : sumN (fun s => if subB W (2 ^ n + s) (n + 1) = true then wayQ W (2 ^ n + s) cc (n + 1) else 0) (2 ^ n) = belP W n * (if W.testBit n = true then cc else 0) := by
      rw [← ih, ← sumN_mul]
      refine sumN_congr _ (fun s hs => ?_)
      have hb : (2 ^ n + s).testBit n = true := by rw [Nat.testBit_two_pow_add_eq, Nat.testBit_lt_two_pow hs]; rfl
      have hl : ∀ r, r < n → (2 ^ n + s).testBit r = s.testBit r := fun r hr => Nat.testBit_two_pow_add_gt hr s
      simp only [subB, wayQ, hb, subB_congr n hl, wayQ_congr n hl, Bool.not_true, Bool.false_or, if_true]
      cases W.testBit n with
      | false => simp
      | true => simp only [Bool.and_true, if_true]; split <;> simp
    rw [hlo, hhi]
    simp only [belP]
    rw [← Nat.mul_add]
    cases W.testBit n with
    | false => simp
    | true => simp only [if_true]; rw [show 10 - cc + cc = 10 by omega]
/-- the sum of all ways of those sets below m -/
def belS (W cc n m : Nat) : Nat := sumN (fun s => if s &&& W = s then wayQ W s cc n else 0) m
theorem belS_far {W cc n : Nat} : ∀ m, W < m → belS W cc n m = belS W cc n (W + 1)
  | 0, h => by omega
  | m + 1, h => by
    rcases Nat.lt_or_ge W m with h1 | h1
    · rw [← belS_far m h1]
      show sumN _ m + (if m &&& W = m then wayQ W m cc n else 0) = sumN _ m
      rw [if_neg (fun e => by have := Nat.and_le_right (n := m) (m := W); omega)]; rfl
    · rw [show m = W by omega]
theorem belS_P {W cc n : Nat} (hc : cc ≤ 10) (hW : W < 2 ^ n) : belS W cc n (W + 1) = belP W n := by
  rw [← belS_far (2 ^ n) hW, ← bel_all hc n]
  unfold belS
  refine sumN_congr _ (fun s hs => ?_)
  by_cases e : s &&& W = s
  · rw [if_pos e, if_pos ((sub_bits hs).mp e)]
  · rw [if_neg e, if_neg (fun h => e ((sub_bits hs).mpr h))]
theorem abv_far {n k dd cc j : Nat} {c : Nat → Int32} {W : Nat} : ∀ m, W < m → abvP n k dd cc j c W m = abvP n k dd cc j c W (W + 1)
  | 0, h => by omega
  | m + 1, h => by
    rcases Nat.lt_or_ge W m with h1 | h1
    · rw [← abv_far m h1]
      simp only [abvP]
      rw [if_neg (fun e => by have := Nat.and_le_right (n := m) (m := W); have := e.1; omega)]; rfl
    · rw [show m = W by omega]
theorem kOK_absQ {T : va_W} {n k : Nat} {ra : Nat → Nat} {c : Nat → Int32} {W s : Nat} (h : kOK T n k ra c) : ∀ m, m ≤ 7 → kOK T n k ra (absQ c W s m)
  | 0, _ => h
  | m + 1, hm => by
    simp only [absQ]
    split
    · exact (kOK_absQ h m (by omega)).up (by omega)
    · exact kOK_absQ h m (by omega)

set_option maxHeartbeats 4000000 in
theorem met_X0_common (l : Launch) (D : va_G) (B0 : Nat) (a : Nat) (b : Nat) (ha : a < 2147483648) (hb : b < 2147483648) : Met l yX0_common (ws_ yX0_common cX0_common 5 (some .int)) (zRm 1 0 0) (va_Pc [.int (nI a), .int (nI b)] (zPreO B0 D [])) (zQo (S := Unit) (fun _ => True) (fun _ => some (.int (nI (Nat.gcd a b))))) 0 0 (fun _ => False) := by
  refine z_entryo (by decide +kernel) (Nat.le_of_ble_eq_true rfl) (fun pX eX sX mX argsX blX mtX cX QX hQX gX => ?_)
  refine z_eq (lv₂ := [(0, .int (nI a)), (1, .int (nI b))]) (st₂ := []) ?_ rfl rfl
  refine z_iload_n (pc := 0) gX 0 dX0_common_0 rfl rfl ?_
  refine z_istore_n (pc := 1) gX [1, 2, 0] [(0, .int (nI a)), (1, .int (nI b)), (2, .int (nI a))] dX0_common_1 rfl (by decide) rfl ?_
  refine z_iload_n (pc := 2) gX 1 dX0_common_2 rfl rfl ?_
  refine z_istore_n (pc := 3) gX [1, 2, 3, 0] [(0, .int (nI a)), (1, .int (nI b)), (2, .int (nI a)), (3, .int (nI b))] dX0_common_3 rfl (by decide) rfl ?_
  have L4 : ∀ (n4 : Nat) (x : Nat) (y : Nat), (x < 2147483648) → (y < 2147483648) → (Nat.gcd x y = Nat.gcd a b) → y < n4 → zJ pX l eX (zRm 1 0 0) sX mX argsX blX mtX cX QX 5 (zIo D sX []) 0 0 4 [(0, .int (nI a)), (1, .int (nI b)), (2, .int (nI x)), (3, .int (nI y))] [] := by
    intro n4
    induction n4 with
    | zero => exact fun x y hx hy hg hm4 => absurd hm4 (Nat.not_lt_zero _)
    | succ n4 ih4 =>
      intro x y hx hy hg hm4
      refine z_iload_n (pc := 4) gX 3 dX0_common_4 rfl rfl ?_
      refine z_if_eq (pc := 5) gX 21 dX0_common_5 (by decide) (fun c5 => ?_) (fun c5 => ?_)
      · skip
        have hy0 : y = 0 := (zn_eq (a := y) (b := 0) (by omega) (by omega)).mp c5
        refine z_iload_n (pc := 21) gX 2 dX0_common_21 rfl rfl ?_
        exact z_rio gX hQX (by rw [← hg, hy0, Nat.gcd_zero_right]) dX0_common_22
      · skip
        have hy0 : 0 < y := by rcases Nat.eq_zero_or_pos y with h | h; exact absurd (by rw [h]; rfl) c5; exact h
        refine z_iload_n (pc := 8) gX 2 dX0_common_8 rfl rfl ?_
        refine z_iload_n (pc := 9) gX 3 dX0_common_9 rfl rfl ?_
        refine z_irem (pc := 10) gX dX0_common_10 (nI_ne0 hy0 (by omega)) ?_
        refine z_top (nI (x % y)) (pk_rem (a := x) (d := y) (by omega) (by omega) (by omega)) ?_
        refine z_istore (pc := 11) gX [1, 2, 3, 4, 0] [(0, .int (nI a)), (1, .int (nI b)), (2, .int (nI x)), (3, .int (nI y)), (4, .int (nI (x % y)))] dX0_common_11 (by decide) rfl ?_
        refine z_iload_n (pc := 13) gX 3 dX0_common_13 rfl rfl ?_
        refine z_istore_n (pc := 14) gX [1, 2, 0, 3, 4] [(0, .int (nI a)), (1, .int (nI b)), (2, .int (nI y)), (3, .int (nI y)), (4, .int (nI (x % y)))] dX0_common_14 rfl (by decide) rfl ?_
        refine z_iload (pc := 15) gX 4 dX0_common_15 rfl ?_
        refine z_istore_n (pc := 17) gX [1, 2, 3, 0, 4] [(0, .int (nI a)), (1, .int (nI b)), (2, .int (nI y)), (3, .int (nI (x % y))), (4, .int (nI (x % y)))] dX0_common_17 rfl (by decide) rfl ?_
        refine z_goto (pc := 18) gX 4 dX0_common_18 (by decide) ?_
        refine z_lv [0, 1, 2, 3] [(0, .int (nI a)), (1, .int (nI b)), (2, .int (nI y)), (3, .int (nI (x % y)))] rfl ?_
        exact ih4 y (x % y) (by omega) (by have := Nat.mod_lt x hy0; omega) (by rw [Nat.gcd_comm, ← Nat.gcd_rec, Nat.gcd_comm]; exact hg) (by have := Nat.mod_lt x hy0; omega)
  refine z_lv [0, 1, 2, 3] [(0, .int (nI a)), (1, .int (nI b)), (2, .int (nI a)), (3, .int (nI b))] rfl ?_
  exact L4 (b + 1) a b ha hb rfl (Nat.lt_succ_self _)
theorem hd_X0_common : zHd yX0_common 2 := by unfold zHd; decide +kernel

set_option maxHeartbeats 4000000 in
theorem met_X0_absent (l : Launch) (D : va_G) (B0 : Nat) (A : Nat → Prop) (o : Nat) (ad : Nat → Nat) (sa : Nat → Nat) (sb : Nat → Nat) (tr : Nat) (x : Nat → Int32) (da : Option Nat) (n : Nat) (ra : Nat → Nat) (md : Int32) (wn : Int32) (od : Nat → Int32) (c : Nat → Int32) (T : va_W) (k : Nat) (ht : sT) (r : Int32) (dd_ : Int32) (p : Int32) (w : Int32) (hS : sOK T da n k ra c) (ht0 : tOK ht) : Met l yX0_absent (ws_ yX0_absent cX0_absent 11 (some .int)) (zRm 11 129 1290) (va_Pc [.ref o, .int r, .int dd_, .int p, .int w] (zPre B0 D A [cOb o ad (sa 0) (sb 0) tr x, thP D sa ((da, n, ra), (md, wn, od), c), thP D sb ht, T])) (zQ (S := sT) (fun u => (fun (ht1 : sT) => tOK ht1) u) (fun u => (fun (ht1 : sT) => some (.int (mAbsent n k c r dd_ p w))) u) (fun u => (fun (ht1 : sT) => [cOb o ad (sa 0) (sb 0) tr x, thP D sa ((da, n, ra), (md, wn, od), c), thP D sb ht1, T]) u) D A) 129 1290 A := by
  refine z_entry (by decide +kernel) (Nat.le_of_ble_eq_true rfl) (fun pX eX sX mX argsX blX mtX cX QX hQX gX hAX hnm => ?_)
  refine z_eq (lv₂ := [(0, .ref o), (1, .int r), (2, .int dd_), (3, .int p), (4, .int w)]) (st₂ := []) ?_ rfl rfl
  rcases hS with ⟨rfl, rfl, h16, h17⟩ | ⟨⟨d, rfl⟩, hG⟩
  · skip
    refine z_ws [cOb o ad (sa 0) (sb 0) tr x, [(sa 0, .inr (2, [.int (c 16), .int (c 1), .int (c 0), .int wn, .ref (sa 1), .ref (sa 2), .ref (sa 3), .ref (sa 4)]))], [(sa 1, .inr (16, [.int md, .ref (zEE D), .int (nI 0)]))], [(sa 2, .inl (D.1 100, 7, .inl (fun i_ => c (9 + i_))))], [(sa 3, .inl (D.1 100, 7, .inl (fun i_ => c (2 + i_))))], [(sa 4, .inl (D.1 100, 7, .inl od))], thP D sb ht, T] (List.Perm.refl _) ?_
    refine z_aload_n (pc := 0) gX 0 dX0_absent_0 rfl rfl ?_
    refine z_iload_n (pc := 1) gX 1 dX0_absent_1 rfl rfl ?_
    refine z_cOV (pc := 2) gX (zI_ok gX hAX) [.int r] [] [0, 1, 2] (met_X0_isRider l D B0 o ad sa sb tr x (c 16) (c 1) (c 0) wn md (zEE D) 0 r ) q947 q949 qs22 q47 q950 (zm 0 rfl) (ci := 0) rfl rfl hd_X0_isRider ⟨rfl, rfl⟩ ⟨(Nat.le_of_ble_eq_true rfl), (Nat.le_of_ble_eq_true rfl)⟩ rfl rfl rfl (Nat.le_of_ble_eq_true rfl) ⟨(Nat.le_of_ble_eq_true rfl), (Nat.le_of_ble_eq_true rfl)⟩ dX0_absent_2 ?_
    intro _ hu2
    refine z_eq (lv₂ := [(0, .ref o), (1, .int r), (2, .int dd_), (3, .int p), (4, .int w)]) (st₂ := [.int (bI (mIn r 0 (nI 0 - 1)))]) ?_ rfl rfl
    refine z_top (bI (mIn r 0 (c 17 - 1))) (congrArg (fun z => bI (mIn r 0 (z - 1))) h17.symm) ?_
    refine z_if_eq (pc := 5) gX 35 dX0_absent_5 (by decide) (fun c5 => ?_) (fun c5 => ?_)
    · skip
      have k5 : (mIn r 0 (c 17 - 1)) = false := bI_eq0 c5
      refine z_ldc (pc := 35) gX q350 dX0_absent_35 ?_
      refine z_ws [cOb o ad (sa 0) (sb 0) tr x, thP D sa ((none, 0, ra), (md, wn, od), c), thP D sb ht, T] (List.Perm.refl _) ?_
      exact z_rim gX hQX ht ht0 (zsv (by simp [mAbsent, inF h17])) rfl (by first | decide | omega) (by first | decide | omega) dX0_absent_37
    · skip
      have k5 : (mIn r 0 (c 17 - 1)) = true := bI_ne0 c5
      exact absurd k5 (by rw [inF h17]; decide)
  · skip
    have hK := hG.k
    have hn1 := hG.1
    have hn7 := hG.2.1
    have h17 := hG.2.2.1
    have h16 := hG.2.2.2.1
    have hk4 := hG.2.2.2.2.1
    have hk12 := hG.2.2.2.2.2.1
    have hln := hG.2.2.2.2.2.2.1
    have hR := hG.2.2.2.2.2.2.2
    refine z_ws [cOb o ad (sa 0) (sb 0) tr x, [(sa 0, .inr (2, [.int (c 16), .int (c 1), .int (c 0), .int wn, .ref (sa 1), .ref (sa 2), .ref (sa 3), .ref (sa 4)]))], [(sa 1, .inr (16, [.int md, .ref d, .int (nI n)]))], [(sa 2, .inl (D.1 100, 7, .inl (fun i_ => c (9 + i_))))], [(sa 3, .inl (D.1 100, 7, .inl (fun i_ => c (2 + i_))))], [(sa 4, .inl (D.1 100, 7, .inl od))], [(d, .inl (D.1 104, 10, .inr (.inr (.inr (.inr (rF ra n))))))], thP D sb ht, T] (List.Perm.refl _) ?_
    refine z_aload_n (pc := 0) gX 0 dX0_absent_0 rfl rfl ?_
    refine z_iload_n (pc := 1) gX 1 dX0_absent_1 rfl rfl ?_
    refine z_cOV (pc := 2) gX (zI_ok gX hAX) [.int r] [] [0, 1, 2] (met_X0_isRider l D B0 o ad sa sb tr x (c 16) (c 1) (c 0) wn md d n r ) q947 q949 qs22 q47 q950 (zm 0 rfl) (ci := 0) rfl rfl hd_X0_isRider ⟨rfl, rfl⟩ ⟨(Nat.le_of_ble_eq_true rfl), (Nat.le_of_ble_eq_true rfl)⟩ rfl rfl rfl (Nat.le_of_ble_eq_true rfl) ⟨(Nat.le_of_ble_eq_true rfl), (Nat.le_of_ble_eq_true rfl)⟩ dX0_absent_2 ?_
    intro _ hu2
    refine z_eq (lv₂ := [(0, .ref o), (1, .int r), (2, .int dd_), (3, .int p), (4, .int w)]) (st₂ := [.int (bI (mIn r 0 (nI n - 1)))]) ?_ rfl rfl
    refine z_top (bI (mIn r 0 (c 17 - 1))) (congrArg (fun z => bI (mIn r 0 (z - 1))) h17.symm) ?_
    refine z_if_eq (pc := 5) gX 35 dX0_absent_5 (by decide) (fun c5 => ?_) (fun c5 => ?_)
    · skip
      have k5 : (mIn r 0 (c 17 - 1)) = false := bI_eq0 c5
      refine z_ldc (pc := 35) gX q350 dX0_absent_35 ?_
      refine z_ws [cOb o ad (sa 0) (sb 0) tr x, thP D sa ((some d, n, ra), (md, wn, od), c), thP D sb ht, T] (List.Perm.refl _) ?_
      exact z_rim gX hQX ht ht0 (zsv (by simp [mAbsent, k5])) rfl (by first | decide | omega) (by first | decide | omega) dX0_absent_37
    · skip
      have k5 : (mIn r 0 (c 17 - 1)) = true := bI_ne0 c5
      obtain ⟨j, hj, rfl⟩ := riderN k5 h17 hn7
      refine z_iload_n (pc := 8) gX 2 dX0_absent_8 rfl rfl ?_
      refine z_cOS (pc := 9) gX (zI_ok gX hAX) [.int dd_] [] [] (met_X0_isFar l D B0 dd_ ) q982 q983 q47 q984 hd_X0_isFar ⟨rfl, rfl⟩ ⟨(Nat.le_of_ble_eq_true rfl), (Nat.le_of_ble_eq_true rfl)⟩ rfl rfl rfl (Nat.le_of_ble_eq_true rfl) ⟨(Nat.le_of_ble_eq_true rfl), (Nat.le_of_ble_eq_true rfl)⟩ dX0_absent_9 ?_
      intro _ hu9
      refine z_eq (lv₂ := [(0, .ref o), (1, .int (nI j)), (2, .int dd_), (3, .int p), (4, .int w)]) (st₂ := [.int (bI (mIn dd_ 0 60))]) ?_ rfl rfl
      refine z_if_eq (pc := 12) gX 35 dX0_absent_12 (by decide) (fun c12 => ?_) (fun c12 => ?_)
      · skip
        have k12 : (mIn dd_ 0 60) = false := bI_eq0 c12
        refine z_ldc (pc := 35) gX q350 dX0_absent_35 ?_
        refine z_ws [cOb o ad (sa 0) (sb 0) tr x, thP D sa ((some d, n, ra), (md, wn, od), c), thP D sb ht, T] (List.Perm.refl _) ?_
        exact z_rim gX hQX ht ht0 (zsv (by simp [mAbsent, k5, k12])) rfl (by first | decide | omega) (by first | decide | omega) dX0_absent_37
      · skip
        have k12 : (mIn dd_ 0 60) = true := bI_ne0 c12
        obtain ⟨dd, hdd, rfl⟩ := mIn_nat k12 60 (by decide)
        refine z_iload_n (pc := 15) gX 3 dX0_absent_15 rfl rfl ?_
        refine z_i2l (pc := 16) gX dX0_absent_16 ?_
        refine z_lconst (pc := 17) gX 0 dX0_absent_17 rfl ?_
        refine z_ldc2_w (pc := 18) gX q1188 dX0_absent_18 ?_
        refine z_cOS (pc := 21) gX (zI_ok gX hAX) [.long p.toInt64, .long 0, .long 10] [] [] (met_X0_isIn l D B0 p.toInt64 0 10 ) q346 q347 q47 q348 hd_X0_isIn ⟨rfl, rfl⟩ ⟨(Nat.le_of_ble_eq_true rfl), (Nat.le_of_ble_eq_true rfl)⟩ rfl rfl rfl (Nat.le_of_ble_eq_true rfl) ⟨(Nat.le_of_ble_eq_true rfl), (Nat.le_of_ble_eq_true rfl)⟩ dX0_absent_21 ?_
        intro _ hu21
        refine z_eq (lv₂ := [(0, .ref o), (1, .int (nI j)), (2, .int (nI dd)), (3, .int p), (4, .int w)]) (st₂ := [.int (bI (lIn p.toInt64 0 10))]) ?_ rfl rfl
        refine z_top (bI (mIn p 0 10)) (congrArg bI (lIn_eq rfl (by decide) (by decide))) ?_
        refine z_if_eq (pc := 24) gX 35 dX0_absent_24 (by decide) (fun c24 => ?_) (fun c24 => ?_)
        · skip
          have k24 : (mIn p 0 10) = false := bI_eq0 c24
          refine z_ldc (pc := 35) gX q350 dX0_absent_35 ?_
          refine z_ws [cOb o ad (sa 0) (sb 0) tr x, thP D sa ((some d, n, ra), (md, wn, od), c), thP D sb ht, T] (List.Perm.refl _) ?_
          exact z_rim gX hQX ht ht0 (zsv (by simp [mAbsent, k5, k12, k24])) rfl (by first | decide | omega) (by first | decide | omega) dX0_absent_37
        · skip
          have k24 : (mIn p 0 10) = true := bI_ne0 c24
          obtain ⟨cc, hcc, rfl⟩ := mIn_nat k24 10 (by decide)
          refine z_iload (pc := 27) gX 4 dX0_absent_27 rfl ?_
          refine z_cOS (pc := 29) gX (zI_ok gX hAX) [.int w] [] [] (met_X0_isHalf l D B0 w ) q961 q962 q47 q963 hd_X0_isHalf ⟨rfl, rfl⟩ ⟨(Nat.le_of_ble_eq_true rfl), (Nat.le_of_ble_eq_true rfl)⟩ rfl rfl rfl (Nat.le_of_ble_eq_true rfl) ⟨(Nat.le_of_ble_eq_true rfl), (Nat.le_of_ble_eq_true rfl)⟩ dX0_absent_29 ?_
          intro _ hu29
          refine z_eq (lv₂ := [(0, .ref o), (1, .int (nI j)), (2, .int (nI dd)), (3, .int (nI cc)), (4, .int w)]) (st₂ := [.int (bI (mIn w 0 1))]) ?_ rfl rfl
          refine z_if_ne (pc := 32) gX 38 dX0_absent_32 (by decide) (fun c32 => ?_) (fun c32 => ?_)
          · skip
            have k32 : (mIn w 0 1) = true := bI_ne0 c32
            obtain ⟨W, hW⟩ : ∃ W, W = qN c n := ⟨_, rfl⟩
            have hW128 : W < 128 := by rw [hW]; have := qN_lt c n; have := pow7 hn7; omega
            have hW2n : W < 2 ^ n := by rw [hW]; exact qN_lt c n
            refine z_aload_n (pc := 38) gX 0 dX0_absent_38 rfl rfl ?_
            refine z_get (pc := 39) gX (zI_ok gX hAX) (zm 0 rfl) (ci := 0) (C := RX0) (T := TX0) (N := 14) rfl in_X0 4 (by decide) q213 (fun _ h => h) (v := .ref (sa 0)) rfl dX0_absent_39 ?_
            refine z_iconst (pc := 42) gX (-1) dX0_absent_42 (by decide) ?_
            refine z_cOV (pc := 43) gX (zI_ok gX hAX) [.int (-1)] [] [1, 2, 4] (met_X2_those l D B0 sa (c 16) (c 1) (c 0) wn md d n (fun i_ => c (2 + i_)) (-1) (by first | assumption | omega)) q1017 q930 q931 q49 q932 (zm 1 rfl) (ci := 2) rfl rfl hd_X2_those ⟨rfl, rfl⟩ ⟨(Nat.le_of_ble_eq_true rfl), (Nat.le_of_ble_eq_true rfl)⟩ rfl rfl rfl (Nat.le_of_ble_eq_true rfl) ⟨(Nat.le_of_ble_eq_true rfl), (Nat.le_of_ble_eq_true rfl)⟩ dX0_absent_43 ?_
            intro _ hu43
            refine z_eq (lv₂ := [(0, .ref o), (1, .int (nI j)), (2, .int (nI dd)), (3, .int (nI cc)), (4, .int w)]) (st₂ := [.int (nI (tN (fun i_ => c (2 + i_)) (-1) n))]) ?_ rfl rfl
            refine z_top (nI (qN c n)) (by rw [tN_q]) ?_
            refine z_top (nI W) (by rw [hW]) ?_
            refine z_istore (pc := 46) gX [1, 2, 3, 4, 5, 0] [(0, .ref o), (1, .int (nI j)), (2, .int (nI dd)), (3, .int (nI cc)), (4, .int w), (5, .int (nI W))] dX0_absent_46 (by decide) rfl ?_
            refine z_iconst (pc := 48) gX 0 dX0_absent_48 (by decide) ?_
            refine z_istore (pc := 49) gX [1, 2, 3, 4, 5, 6, 0] [(0, .ref o), (1, .int (nI j)), (2, .int (nI dd)), (3, .int (nI cc)), (4, .int w), (5, .int (nI W)), (6, .int 0)] dX0_absent_49 (by decide) rfl ?_
            refine z_iconst (pc := 51) gX 0 dX0_absent_51 (by decide) ?_
            refine z_istore (pc := 52) gX [1, 2, 3, 4, 5, 6, 7, 0] [(0, .ref o), (1, .int (nI j)), (2, .int (nI dd)), (3, .int (nI cc)), (4, .int w), (5, .int (nI W)), (6, .int 0), (7, .int 0)] dX0_absent_52 (by decide) rfl ?_
            refine z_iconst (pc := 54) gX 0 dX0_absent_54 (by decide) ?_
            refine z_istore (pc := 55) gX [1, 2, 3, 4, 5, 6, 7, 8, 0] [(0, .ref o), (1, .int (nI j)), (2, .int (nI dd)), (3, .int (nI cc)), (4, .int w), (5, .int (nI W)), (6, .int 0), (7, .int 0), (8, .int 0)] dX0_absent_55 (by decide) rfl ?_
            have L57 : ∀ (n57 : Nat) (s : Nat) (ab : Nat) (be : Nat) (h2 : sT), (s ≤ W + 1) → (tOK h2) → (ab = abvP n k dd cc j c W s) → (be = belS W cc n s) → W + 1 - s < n57 → zJ pX l eX (zRm 11 129 1290) sX mX argsX blX mtX cX QX 11 (zI D A sX [cOb o ad (sa 0) (sb 0) tr x, [(sa 0, .inr (2, [.int (c 16), .int (c 1), .int (c 0), .int wn, .ref (sa 1), .ref (sa 2), .ref (sa 3), .ref (sa 4)]))], [(sa 1, .inr (16, [.int md, .ref d, .int (nI n)]))], [(sa 2, .inl (D.1 100, 7, .inl (fun i_ => c (9 + i_))))], [(sa 3, .inl (D.1 100, 7, .inl (fun i_ => c (2 + i_))))], [(sa 4, .inl (D.1 100, 7, .inl od))], [(d, .inl (D.1 104, 10, .inr (.inr (.inr (.inr (rF ra n))))))], thP D sb h2, T]) s (10 * s) 57 [(0, .ref o), (1, .int (nI j)), (2, .int (nI dd)), (3, .int (nI cc)), (4, .int w), (5, .int (nI W)), (6, .int (nI ab)), (7, .int (nI be)), (8, .int (nI s))] [] := by
              intro n57
              induction n57 with
              | zero => exact fun s ab be h2 hs ht2 hab hbe hm57 => absurd hm57 (Nat.not_lt_zero _)
              | succ n57 ih57 =>
                intro s ab be h2 hs ht2 hab hbe hm57
                refine z_iload (pc := 57) gX 8 dX0_absent_57 rfl ?_
                refine z_iload (pc := 59) gX 5 dX0_absent_59 rfl ?_
                refine z_icmp_gt (pc := 61) gX 210 dX0_absent_61 (by decide) (fun c61 => ?_) (fun c61 => ?_)
                · skip
                  have k61 : W < s := (zn_lt (a := W) (b := s) (by omega) (by omega)).mp c61
                  have habn : ab = abvP n k dd cc j c W (2 ^ n) := by rw [hab, show s = W + 1 by omega, ← abv_far (2 ^ n) hW2n]
                  have habl := abvP_le (k := k) (dd := dd) (j := j) (c := c) (W := W) hcc hn7 s
                  rw [← hab] at habl
                  have hben : be = belP W n := by rw [hbe, show s = W + 1 by omega, belS_P hcc hW2n]
                  have hbel := belP_le (W := W) n
                  rw [← hben] at hbel
                  have hp10 := pow10 hn7
                  have hgp : 0 < Nat.gcd ab be := Nat.gcd_pos_of_pos_right _ (by omega)
                  have hgl : Nat.gcd ab be ≤ be := Nat.gcd_le_right _ (by omega)
                  refine z_iload (pc := 210) gX 6 dX0_absent_210 rfl ?_
                  refine z_iload (pc := 212) gX 7 dX0_absent_212 rfl ?_
                  refine z_cOS (pc := 214) gX (zI_ok gX hAX) [.int (nI ab), .int (nI be)] [] [] (met_X0_common l D B0 ab be (by omega) (by omega)) q1189 q1190 q47 q1191 hd_X0_common ⟨rfl, rfl⟩ ⟨(Nat.le_of_ble_eq_true rfl), (Nat.le_of_ble_eq_true rfl)⟩ rfl rfl rfl (Nat.le_of_ble_eq_true rfl) ⟨(by first | decide | (simp only [zRm]; omega)), (by first | decide | (simp only [zRm]; omega))⟩ dX0_absent_214 ?_
                  intro _ hu214
                  refine z_eq (lv₂ := [(0, .ref o), (1, .int (nI j)), (2, .int (nI dd)), (3, .int (nI cc)), (4, .int w), (5, .int (nI W)), (6, .int (nI ab)), (7, .int (nI be)), (8, .int (nI s))]) (st₂ := [.int (nI (Nat.gcd ab be))]) ?_ rfl rfl
                  refine z_istore (pc := 217) gX [1, 2, 3, 4, 5, 6, 7, 8, 0] [(0, .ref o), (1, .int (nI j)), (2, .int (nI dd)), (3, .int (nI cc)), (4, .int w), (5, .int (nI W)), (6, .int (nI ab)), (7, .int (nI be)), (8, .int (nI (Nat.gcd ab be)))] dX0_absent_217 (by decide) rfl ?_
                  refine z_iload (pc := 219) gX 4 dX0_absent_219 rfl ?_
                  refine z_if_ne (pc := 221) gX 229 dX0_absent_221 (by decide) (fun c221 => ?_) (fun c221 => ?_)
                  · skip
                    refine z_iload (pc := 229) gX 7 dX0_absent_229 rfl ?_
                    refine z_iload (pc := 231) gX 8 dX0_absent_231 rfl ?_
                    refine z_idiv (pc := 233) gX dX0_absent_233 (nI_ne0 hgp (by omega)) ?_
                    refine z_top (nI (be / (Nat.gcd ab be))) (pk_div (by omega) hgp (by omega)) ?_
                    refine z_ws [cOb o ad (sa 0) (sb 0) tr x, thP D sa ((some d, n, ra), (md, wn, od), c), thP D sb h2, T] (List.Perm.refl _) ?_
                    exact z_rim gX hQX h2 ht2 (zsv (by simp only [mAbsent, k5, k12, k24, k32, Bool.and_self, if_true, nI_clamp (show j < 2 ^ 31 by omega), nI_clamp (show dd < 2 ^ 31 by omega), nI_clamp (show cc < 2 ^ 31 by omega), ← hW, ← habn, ← hben]; rw [if_neg c221])) rfl (by first | decide | omega) (by first | decide | omega) dX0_absent_234
                  · skip
                    refine z_iload (pc := 224) gX 6 dX0_absent_224 rfl ?_
                    refine z_goto (pc := 226) gX 231 dX0_absent_226 (by decide) ?_
                    refine z_iload (pc := 231) gX 8 dX0_absent_231 rfl ?_
                    refine z_idiv (pc := 233) gX dX0_absent_233 (nI_ne0 hgp (by omega)) ?_
                    refine z_top (nI (ab / (Nat.gcd ab be))) (pk_div (by omega) hgp (by omega)) ?_
                    refine z_ws [cOb o ad (sa 0) (sb 0) tr x, thP D sa ((some d, n, ra), (md, wn, od), c), thP D sb h2, T] (List.Perm.refl _) ?_
                    exact z_rim gX hQX h2 ht2 (zsv (by simp only [mAbsent, k5, k12, k24, k32, Bool.and_self, if_true, nI_clamp (show j < 2 ^ 31 by omega), nI_clamp (show dd < 2 ^ 31 by omega), nI_clamp (show cc < 2 ^ 31 by omega), ← hW, ← habn, ← hben]; rw [if_pos c221])) rfl (by first | decide | omega) (by first | decide | omega) dX0_absent_234
                · skip
                  have k61 : s ≤ W := (zn_nlt (a := W) (b := s) (by omega) (by omega)).mp c61
                  refine z_iload (pc := 64) gX 8 dX0_absent_64 rfl ?_
                  refine z_iload (pc := 66) gX 5 dX0_absent_66 rfl ?_
                  refine z_iconst (pc := 68) gX (-1) dX0_absent_68 (by decide) ?_
                  refine z_ixor (pc := 69) gX dX0_absent_69 ?_
                  refine z_iand (pc := 70) gX dX0_absent_70 ?_
                  refine z_if_eq (pc := 71) gX 77 dX0_absent_71 (by decide) (fun c71 => ?_) (fun c71 => ?_)
                  · skip
                    have hsub : s &&& W = s := (sub_iff s (by omega) W (by omega)).mp c71
                    refine z_iconst (pc := 77) gX 1 dX0_absent_77 (by decide) ?_
                    refine z_istore (pc := 78) gX [1, 2, 3, 4, 5, 6, 7, 8, 9, 0] [(0, .ref o), (1, .int (nI j)), (2, .int (nI dd)), (3, .int (nI cc)), (4, .int w), (5, .int (nI W)), (6, .int (nI ab)), (7, .int (nI be)), (8, .int (nI s)), (9, .int 1)] dX0_absent_78 (by decide) rfl ?_
                    refine z_aload_n (pc := 80) gX 0 dX0_absent_80 rfl rfl ?_
                    refine z_cMV (pc := 81) gX hAX [] [] [0, 1, 2, 3, 4, 5, 6, 7, 8] [] (fun A1 => met_X0_asNow l D B0 A1 o ad sa sb tr x wn md d n c od ra T k h2 hG ht2) q986 q988 qs23 q47 q989 (zm 0 rfl) (ci := 0) rfl rfl hd_X0_asNow ⟨rfl, rfl⟩ ⟨(Nat.le_of_ble_eq_true rfl), (Nat.le_of_ble_eq_true rfl)⟩ rfl rfl (zpl 9 rfl (by decide +kernel)) rfl rfl (Nat.le_of_ble_eq_true rfl) ⟨(by first | decide | (simp only [zRm]; omega)), (by first | decide | (simp only [zRm]; omega))⟩ dX0_absent_81 ?_
                    intro u81 hu81
                    obtain ⟨zmd_81, zd_81, zod_81⟩ := u81
                    refine z_re [0, 1, 2, 3, 4, 5, 6, 7, 9, 10, 11, 12, 13, 8] [cOb o ad (sa 0) (sb 0) tr x, [(sa 0, .inr (2, [.int (c 16), .int (c 1), .int (c 0), .int wn, .ref (sa 1), .ref (sa 2), .ref (sa 3), .ref (sa 4)]))], [(sa 1, .inr (16, [.int md, .ref d, .int (nI n)]))], [(sa 2, .inl (D.1 100, 7, .inl (fun i_ => c (9 + i_))))], [(sa 3, .inl (D.1 100, 7, .inl (fun i_ => c (2 + i_))))], [(sa 4, .inl (D.1 100, 7, .inl od))], [(d, .inl (D.1 104, 10, .inr (.inr (.inr (.inr (rF ra n))))))], [(sb 0, .inr (2, [.int (c 16), .int (c 1), .int (c 0), .int wn, .ref (sb 1), .ref (sb 2), .ref (sb 3), .ref (sb 4)]))], [(sb 1, .inr (16, [.int zmd_81, .ref zd_81, .int (nI n)]))], [(sb 2, .inl (D.1 100, 7, .inl (fun i_ => c (9 + i_))))], [(sb 3, .inl (D.1 100, 7, .inl (fun i_ => c (2 + i_))))], [(sb 4, .inl (D.1 100, 7, .inl zod_81))], [(zd_81, .inl (D.1 104, 10, .inr (.inr (.inr (.inr (rF ra n))))))], T] rfl (zpl 14 rfl (by decide +kernel)) ?_
                    refine z_norm [cOb o ad (sa 0) (sb 0) tr x, [(sa 0, .inr (2, [.int (c 16), .int (c 1), .int (c 0), .int wn, .ref (sa 1), .ref (sa 2), .ref (sa 3), .ref (sa 4)]))], [(sa 1, .inr (16, [.int md, .ref d, .int (nI n)]))], [(sa 2, .inl (D.1 100, 7, .inl (fun i_ => c (9 + i_))))], [(sa 3, .inl (D.1 100, 7, .inl (fun i_ => c (2 + i_))))], [(sa 4, .inl (D.1 100, 7, .inl od))], [(d, .inl (D.1 104, 10, .inr (.inr (.inr (.inr (rF ra n))))))], [(sb 0, .inr (2, [.int (c 16), .int (c 1), .int (c 0), .int wn, .ref (sb 1), .ref (sb 2), .ref (sb 3), .ref (sb 4)]))], [(sb 1, .inr (16, [.int zmd_81, .ref zd_81, .int (nI n)]))], [(sb 2, .inl (D.1 100, 7, .inl (fun i_ => c (9 + i_))))], [(sb 3, .inl (D.1 100, 7, .inl (fun i_ => c (2 + i_))))], [(sb 4, .inl (D.1 100, 7, .inl zod_81))], [(zd_81, .inl (D.1 104, 10, .inr (.inr (.inr (.inr (rF ra n))))))], T] (s + 1) (10 * s + 10) ?_ rfl rfl rfl
                    refine z_eq (lv₂ := [(0, .ref o), (1, .int (nI j)), (2, .int (nI dd)), (3, .int (nI cc)), (4, .int w), (5, .int (nI W)), (6, .int (nI ab)), (7, .int (nI be)), (8, .int (nI s)), (9, .int 1)]) (st₂ := [.ref (sb 0)]) ?_ rfl rfl
                    refine z_pop (pc := 84) gX dX0_absent_84 rfl ?_
                    refine z_iconst (pc := 85) gX 0 dX0_absent_85 (by decide) ?_
                    refine z_istore (pc := 86) gX [1, 2, 3, 4, 5, 6, 7, 8, 9, 10, 0] [(0, .ref o), (1, .int (nI j)), (2, .int (nI dd)), (3, .int (nI cc)), (4, .int w), (5, .int (nI W)), (6, .int (nI ab)), (7, .int (nI be)), (8, .int (nI s)), (9, .int 1), (10, .int 0)] dX0_absent_86 (by decide) rfl ?_
                    have L88 : ∀ (n88 : Nat) (r2 : Nat) (its : Nat) (c1 : Nat → Int32), (r2 ≤ n) → (c1 = absQ c W s r2) → (its = wayQ W s cc r2) → n - r2 < n88 → zJ pX l eX (zRm 11 129 1290) sX mX argsX blX mtX cX QX 11 (zI D A sX [cOb o ad (sa 0) (sb 0) tr x, [(sa 0, .inr (2, [.int (c 16), .int (c 1), .int (c 0), .int wn, .ref (sa 1), .ref (sa 2), .ref (sa 3), .ref (sa 4)]))], [(sa 1, .inr (16, [.int md, .ref d, .int (nI n)]))], [(sa 2, .inl (D.1 100, 7, .inl (fun i_ => c (9 + i_))))], [(sa 3, .inl (D.1 100, 7, .inl (fun i_ => c (2 + i_))))], [(sa 4, .inl (D.1 100, 7, .inl od))], [(d, .inl (D.1 104, 10, .inr (.inr (.inr (.inr (rF ra n))))))], [(sb 0, .inr (2, [.int (c1 16), .int (c1 1), .int (c1 0), .int wn, .ref (sb 1), .ref (sb 2), .ref (sb 3), .ref (sb 4)]))], [(sb 1, .inr (16, [.int zmd_81, .ref zd_81, .int (nI n)]))], [(sb 2, .inl (D.1 100, 7, .inl (fun i_ => c1 (9 + i_))))], [(sb 3, .inl (D.1 100, 7, .inl (fun i_ => c1 (2 + i_))))], [(sb 4, .inl (D.1 100, 7, .inl zod_81))], [(zd_81, .inl (D.1 104, 10, .inr (.inr (.inr (.inr (rF ra n))))))], T]) (s + 1) (10 * s + 10) 88 [(0, .ref o), (1, .int (nI j)), (2, .int (nI dd)), (3, .int (nI cc)), (4, .int w), (5, .int (nI W)), (6, .int (nI ab)), (7, .int (nI be)), (8, .int (nI s)), (9, .int (nI its)), (10, .int (nI r2))] [] := by
                      intro n88
                      induction n88 with
                      | zero => exact fun r2 its c1 hr2 hc1 hits hm88 => absurd hm88 (Nat.not_lt_zero _)
                      | succ n88 ih88 =>
                        intro r2 its c1 hr2 hc1 hits hm88
                        refine z_iload (pc := 88) gX 10 dX0_absent_88 rfl ?_
                        refine z_aload_n (pc := 90) gX 0 dX0_absent_90 rfl rfl ?_
                        refine z_get (pc := 91) gX (zI_ok gX hAX) (zm 0 rfl) (ci := 0) (C := RX0) (T := TX0) (N := 14) rfl in_X0 4 (by decide) q213 (fun _ h => h) (v := .ref (sa 0)) rfl dX0_absent_91 ?_
                        refine z_cOV (pc := 94) gX (zI_ok gX hAX) [] [.int (nI r2)] [1, 2] (met_X2_many l D B0 sa (c 16) (c 1) (c 0) wn md d n ) q820 q653 q654 q49 q655 (zm 1 rfl) (ci := 2) rfl rfl hd_X2_many ⟨rfl, rfl⟩ ⟨(Nat.le_of_ble_eq_true rfl), (Nat.le_of_ble_eq_true rfl)⟩ rfl rfl rfl (Nat.le_of_ble_eq_true rfl) ⟨(by first | decide | (simp only [zRm]; omega)), (by first | decide | (simp only [zRm]; omega))⟩ dX0_absent_94 ?_
                        intro _ hu94
                        refine z_eq (lv₂ := [(0, .ref o), (1, .int (nI j)), (2, .int (nI dd)), (3, .int (nI cc)), (4, .int w), (5, .int (nI W)), (6, .int (nI ab)), (7, .int (nI be)), (8, .int (nI s)), (9, .int (nI its)), (10, .int (nI r2))]) (st₂ := [.int (nI n), .int (nI r2)]) ?_ rfl rfl
                        refine z_icmp_ge (pc := 97) gX 168 dX0_absent_97 (by decide) (fun c97 => ?_) (fun c97 => ?_)
                        · skip
                          have k97 : n ≤ r2 := (zn_le (a := n) (b := r2) (by omega) (by omega)).mp c97
                          have hlq : c1 = absQ c W s n := by rw [hc1, show r2 = n by omega]
                          have hits2 : its = wayQ W s cc n := by rw [hits, show r2 = n by omega]
                          refine z_iload (pc := 168) gX 7 dX0_absent_168 rfl ?_
                          refine z_iload (pc := 170) gX 9 dX0_absent_170 rfl ?_
                          refine z_iadd (pc := 172) gX dX0_absent_172 ?_
                          refine z_top (nI (be + its)) (nI_add be its) ?_
                          refine z_istore (pc := 173) gX [1, 2, 3, 4, 5, 6, 7, 0, 8, 9, 10] [(0, .ref o), (1, .int (nI j)), (2, .int (nI dd)), (3, .int (nI cc)), (4, .int w), (5, .int (nI W)), (6, .int (nI ab)), (7, .int (nI (be + its))), (8, .int (nI s)), (9, .int (nI its)), (10, .int (nI r2))] dX0_absent_173 (by decide) rfl ?_
                          refine z_iload (pc := 175) gX 6 dX0_absent_175 rfl ?_
                          refine z_aload_n (pc := 177) gX 0 dX0_absent_177 rfl rfl ?_
                          refine z_get (pc := 178) gX (zI_ok gX hAX) (zm 0 rfl) (ci := 0) (C := RX0) (T := TX0) (N := 14) rfl in_X0 5 (by decide) q214 (fun _ h => h) (v := .ref (sb 0)) rfl dX0_absent_178 ?_
                          refine z_iload_n (pc := 181) gX 2 dX0_absent_181 rfl rfl ?_
                          refine z_cMV (pc := 182) gX hAX [.int (nI dd)] [.int (nI ab)] [7, 8, 9, 10, 11, 12, 13] [0, 1, 2, 3, 4, 5, 6] (fun A1 => met_goOn2C l D B0 A1 sb wn zmd_81 zd_81 n c1 zod_81 ra T k dd (by rw [hlq]; exact kOK_absQ hK n hn7) (by first | assumption | omega)) q990 q991 q992 q49 q993 (zm 7 rfl) (ci := 2) rfl rfl hd_X2_goOn_2 ⟨rfl, rfl⟩ ⟨(Nat.le_of_ble_eq_true rfl), (Nat.le_of_ble_eq_true rfl)⟩ rfl rfl (zpl 14 rfl (by decide +kernel)) rfl rfl (Nat.le_of_ble_eq_true rfl) ⟨(by first | decide | (simp only [zRm]; omega)), (by first | decide | (simp only [zRm]; omega))⟩ dX0_absent_182 ?_
                          intro u182 hu182
                          obtain ⟨od1_182, wn1_182⟩ := u182
                          refine z_re [7, 8, 9, 10, 11, 12, 13, 0, 1, 2, 3, 4, 5, 6] [cOb o ad (sa 0) (sb 0) tr x, [(sa 0, .inr (2, [.int (c 16), .int (c 1), .int (c 0), .int wn, .ref (sa 1), .ref (sa 2), .ref (sa 3), .ref (sa 4)]))], [(sa 1, .inr (16, [.int md, .ref d, .int (nI n)]))], [(sa 2, .inl (D.1 100, 7, .inl (fun i_ => c (9 + i_))))], [(sa 3, .inl (D.1 100, 7, .inl (fun i_ => c (2 + i_))))], [(sa 4, .inl (D.1 100, 7, .inl od))], [(d, .inl (D.1 104, 10, .inr (.inr (.inr (.inr (rF ra n))))))], [(sb 0, .inr (2, [.int ((itT n k c1 dd) 16), .int ((itT n k c1 dd) 1), .int ((itT n k c1 dd) 0), .int wn1_182, .ref (sb 1), .ref (sb 2), .ref (sb 3), .ref (sb 4)]))], [(sb 1, .inr (16, [.int zmd_81, .ref zd_81, .int (nI n)]))], [(sb 2, .inl (D.1 100, 7, .inl (fun i_ => (itT n k c1 dd) (9 + i_))))], [(sb 3, .inl (D.1 100, 7, .inl (fun i_ => (itT n k c1 dd) (2 + i_))))], [(sb 4, .inl (D.1 100, 7, .inl od1_182))], [(zd_81, .inl (D.1 104, 10, .inr (.inr (.inr (.inr (rF ra n))))))], T] rfl (zpl 14 rfl (by decide +kernel)) ?_
                          refine z_eq (lv₂ := [(0, .ref o), (1, .int (nI j)), (2, .int (nI dd)), (3, .int (nI cc)), (4, .int w), (5, .int (nI W)), (6, .int (nI ab)), (7, .int (nI (be + its))), (8, .int (nI s)), (9, .int (nI its)), (10, .int (nI r2))]) (st₂ := [.ref (sb 0), .int (nI ab)]) ?_ rfl rfl
                          refine z_get (pc := 185) gX (zI_ok gX hAX) (zm 7 rfl) (ci := 2) (C := RX2) (T := TX2) (N := 8) rfl in_X2 6 (by decide) q171 (fun _ h => h) (v := .ref (sb 3)) rfl dX0_absent_185 ?_
                          refine z_iload_n (pc := 188) gX 1 dX0_absent_188 rfl rfl ?_
                          refine z_iald (pc := 189) gX (zI_ok gX hAX) (j := j) (n := 7) (f := (fun i_ => (itT n k c1 dd) (2 + i_))) (zm 10 rfl) (by omega) (by decide) dX0_absent_189 ?_
                          refine z_top ((itT n k c1 dd) (2 + j)) rfl ?_
                          refine z_bipush (pc := 190) gX 99 dX0_absent_190 (by decide) ?_
                          refine z_icmp_ne (pc := 192) gX 200 dX0_absent_192 (by decide) (fun c192 => ?_) (fun c192 => ?_)
                          · skip
                            refine z_iconst (pc := 200) gX 0 dX0_absent_200 (by decide) ?_
                            refine z_iadd (pc := 201) gX dX0_absent_201 ?_
                            refine z_top (nI ab) (nI_add ab 0) ?_
                            refine z_istore (pc := 202) gX [1, 2, 3, 4, 5, 6, 0, 7, 8, 9, 10] [(0, .ref o), (1, .int (nI j)), (2, .int (nI dd)), (3, .int (nI cc)), (4, .int w), (5, .int (nI W)), (6, .int (nI ab)), (7, .int (nI (be + its))), (8, .int (nI s)), (9, .int (nI its)), (10, .int (nI r2))] dX0_absent_202 (by decide) rfl ?_
                            refine z_ws [cOb o ad (sa 0) (sb 0) tr x, [(sa 0, .inr (2, [.int (c 16), .int (c 1), .int (c 0), .int wn, .ref (sa 1), .ref (sa 2), .ref (sa 3), .ref (sa 4)]))], [(sa 1, .inr (16, [.int md, .ref d, .int (nI n)]))], [(sa 2, .inl (D.1 100, 7, .inl (fun i_ => c (9 + i_))))], [(sa 3, .inl (D.1 100, 7, .inl (fun i_ => c (2 + i_))))], [(sa 4, .inl (D.1 100, 7, .inl od))], [(d, .inl (D.1 104, 10, .inr (.inr (.inr (.inr (rF ra n))))))], thP D sb ((some zd_81, n, ra), (zmd_81, wn1_182, od1_182), itT n k c1 dd), T] (List.Perm.refl _) ?_
                            refine z_iinc (pc := 204) gX 8 (nI (s + 1)) [1, 2, 3, 4, 5, 6, 7, 8, 0, 9, 10] [(0, .ref o), (1, .int (nI j)), (2, .int (nI dd)), (3, .int (nI cc)), (4, .int w), (5, .int (nI W)), (6, .int (nI ab)), (7, .int (nI (be + its))), (8, .int (nI (s + 1))), (9, .int (nI its)), (10, .int (nI r2))] dX0_absent_204 rfl (nI_1 _) (by decide) rfl ?_
                            refine z_goto (pc := 207) gX 57 dX0_absent_207 (by decide) ?_
                            refine z_lv [0, 1, 2, 3, 4, 5, 6, 7, 8] [(0, .ref o), (1, .int (nI j)), (2, .int (nI dd)), (3, .int (nI cc)), (4, .int w), (5, .int (nI W)), (6, .int (nI ab)), (7, .int (nI (be + its))), (8, .int (nI (s + 1)))] rfl ?_
                            refine z_widen (k := (s + 1)) (n := 10 * (s + 1)) (by omega) (by omega) ?_
                            exact ih57 (s + 1) ab (be + its) ((some zd_81, n, ra), (zmd_81, wn1_182, od1_182), itT n k c1 dd) (by omega) (tOK_g hn7) (by rw [show abvP n k dd cc j c W (s + 1) = abvP n k dd cc j c W s + (if s &&& W = s ∧ itT n k (absQ c W s n) dd (2 + j) = 99 then wayQ W s cc n else 0) from rfl, ← hab]; rw [if_neg (fun h => c192 (by rw [hlq]; exact h.2))]; rfl) (by rw [show belS W cc n (s + 1) = belS W cc n s + (if s &&& W = s then wayQ W s cc n else 0) from rfl, ← hbe]; rw [if_pos hsub, hits2]) (by omega)
                          · skip
                            refine z_iload (pc := 195) gX 9 dX0_absent_195 rfl ?_
                            refine z_goto (pc := 197) gX 201 dX0_absent_197 (by decide) ?_
                            refine z_iadd (pc := 201) gX dX0_absent_201 ?_
                            refine z_top (nI (ab + its)) (nI_add ab its) ?_
                            refine z_istore (pc := 202) gX [1, 2, 3, 4, 5, 6, 0, 7, 8, 9, 10] [(0, .ref o), (1, .int (nI j)), (2, .int (nI dd)), (3, .int (nI cc)), (4, .int w), (5, .int (nI W)), (6, .int (nI (ab + its))), (7, .int (nI (be + its))), (8, .int (nI s)), (9, .int (nI its)), (10, .int (nI r2))] dX0_absent_202 (by decide) rfl ?_
                            refine z_ws [cOb o ad (sa 0) (sb 0) tr x, [(sa 0, .inr (2, [.int (c 16), .int (c 1), .int (c 0), .int wn, .ref (sa 1), .ref (sa 2), .ref (sa 3), .ref (sa 4)]))], [(sa 1, .inr (16, [.int md, .ref d, .int (nI n)]))], [(sa 2, .inl (D.1 100, 7, .inl (fun i_ => c (9 + i_))))], [(sa 3, .inl (D.1 100, 7, .inl (fun i_ => c (2 + i_))))], [(sa 4, .inl (D.1 100, 7, .inl od))], [(d, .inl (D.1 104, 10, .inr (.inr (.inr (.inr (rF ra n))))))], thP D sb ((some zd_81, n, ra), (zmd_81, wn1_182, od1_182), itT n k c1 dd), T] (List.Perm.refl _) ?_
                            refine z_iinc (pc := 204) gX 8 (nI (s + 1)) [1, 2, 3, 4, 5, 6, 7, 8, 0, 9, 10] [(0, .ref o), (1, .int (nI j)), (2, .int (nI dd)), (3, .int (nI cc)), (4, .int w), (5, .int (nI W)), (6, .int (nI (ab + its))), (7, .int (nI (be + its))), (8, .int (nI (s + 1))), (9, .int (nI its)), (10, .int (nI r2))] dX0_absent_204 rfl (nI_1 _) (by decide) rfl ?_
                            refine z_goto (pc := 207) gX 57 dX0_absent_207 (by decide) ?_
                            refine z_lv [0, 1, 2, 3, 4, 5, 6, 7, 8] [(0, .ref o), (1, .int (nI j)), (2, .int (nI dd)), (3, .int (nI cc)), (4, .int w), (5, .int (nI W)), (6, .int (nI (ab + its))), (7, .int (nI (be + its))), (8, .int (nI (s + 1)))] rfl ?_
                            refine z_widen (k := (s + 1)) (n := 10 * (s + 1)) (by omega) (by omega) ?_
                            exact ih57 (s + 1) (ab + its) (be + its) ((some zd_81, n, ra), (zmd_81, wn1_182, od1_182), itT n k c1 dd) (by omega) (tOK_g hn7) (by rw [show abvP n k dd cc j c W (s + 1) = abvP n k dd cc j c W s + (if s &&& W = s ∧ itT n k (absQ c W s n) dd (2 + j) = 99 then wayQ W s cc n else 0) from rfl, ← hab]; rw [if_pos ⟨hsub, by rw [← hlq]; exact c192⟩, hits2]) (by rw [show belS W cc n (s + 1) = belS W cc n s + (if s &&& W = s then wayQ W s cc n else 0) from rfl, ← hbe]; rw [if_pos hsub, hits2]) (by omega)
                        · skip
                          have k97 : r2 < n := (zn_nle (a := n) (b := r2) (by omega) (by omega)).mp c97
                          refine z_iload (pc := 100) gX 5 dX0_absent_100 rfl ?_
                          refine z_iload (pc := 102) gX 10 dX0_absent_102 rfl ?_
                          refine z_cOS (pc := 104) gX (zI_ok gX hAX) [.int (nI W), .int (nI r2)] [] [] (met_X0_has l D B0 (nI W) (nI r2) ) q1018 q1019 q47 q1020 hd_X0_has ⟨rfl, rfl⟩ ⟨(Nat.le_of_ble_eq_true rfl), (Nat.le_of_ble_eq_true rfl)⟩ rfl rfl rfl (Nat.le_of_ble_eq_true rfl) ⟨(by first | decide | (simp only [zRm]; omega)), (by first | decide | (simp only [zRm]; omega))⟩ dX0_absent_104 ?_
                          intro _ hu104
                          refine z_eq (lv₂ := [(0, .ref o), (1, .int (nI j)), (2, .int (nI dd)), (3, .int (nI cc)), (4, .int w), (5, .int (nI W)), (6, .int (nI ab)), (7, .int (nI be)), (8, .int (nI s)), (9, .int (nI its)), (10, .int (nI r2))]) (st₂ := [.int (bI (decide (((nI W) >>> ((nI r2) &&& 31)) &&& 1 = 1)))]) ?_ rfl rfl
                          refine z_top (bI (W.testBit r2)) (by rw [has_eq (by omega) (by omega)]) ?_
                          refine z_if_ne (pc := 107) gX 113 dX0_absent_107 (by decide) (fun c107 => ?_) (fun c107 => ?_)
                          · skip
                            have k107 : (W.testBit r2) = true := bI_ne0 c107
                            refine z_iload (pc := 113) gX 9 dX0_absent_113 rfl ?_
                            refine z_iload (pc := 115) gX 8 dX0_absent_115 rfl ?_
                            refine z_iload (pc := 117) gX 10 dX0_absent_117 rfl ?_
                            refine z_cOS (pc := 119) gX (zI_ok gX hAX) [.int (nI s), .int (nI r2)] [.int (nI its)] [] (met_X0_has l D B0 (nI s) (nI r2) ) q1018 q1019 q47 q1020 hd_X0_has ⟨rfl, rfl⟩ ⟨(Nat.le_of_ble_eq_true rfl), (Nat.le_of_ble_eq_true rfl)⟩ rfl rfl rfl (Nat.le_of_ble_eq_true rfl) ⟨(by first | decide | (simp only [zRm]; omega)), (by first | decide | (simp only [zRm]; omega))⟩ dX0_absent_119 ?_
                            intro _ hu119
                            refine z_eq (lv₂ := [(0, .ref o), (1, .int (nI j)), (2, .int (nI dd)), (3, .int (nI cc)), (4, .int w), (5, .int (nI W)), (6, .int (nI ab)), (7, .int (nI be)), (8, .int (nI s)), (9, .int (nI its)), (10, .int (nI r2))]) (st₂ := [.int (bI (decide (((nI s) >>> ((nI r2) &&& 31)) &&& 1 = 1))), .int (nI its)]) ?_ rfl rfl
                            refine z_top (bI (s.testBit r2)) (by rw [has_eq (by omega) (by omega)]) ?_
                            refine z_if_eq (pc := 122) gX 129 dX0_absent_122 (by decide) (fun c122 => ?_) (fun c122 => ?_)
                            · skip
                              have k122 : (s.testBit r2) = false := bI_eq0 c122
                              refine z_bipush (pc := 129) gX 10 dX0_absent_129 (by decide) ?_
                              refine z_iload_n (pc := 131) gX 3 dX0_absent_131 rfl rfl ?_
                              refine z_isub (pc := 132) gX dX0_absent_132 ?_
                              refine z_top (nI (10 - cc)) (pk_sub (a := 10) (b := cc) (by omega)) ?_
                              refine z_imul (pc := 133) gX dX0_absent_133 ?_
                              refine z_top (nI (its * (10 - cc))) (pk_mul its (10 - cc)) ?_
                              refine z_istore (pc := 134) gX [1, 2, 3, 4, 5, 6, 7, 8, 9, 0, 10] [(0, .ref o), (1, .int (nI j)), (2, .int (nI dd)), (3, .int (nI cc)), (4, .int w), (5, .int (nI W)), (6, .int (nI ab)), (7, .int (nI be)), (8, .int (nI s)), (9, .int (nI (its * (10 - cc)))), (10, .int (nI r2))] dX0_absent_134 (by decide) rfl ?_
                              refine z_aload_n (pc := 136) gX 0 dX0_absent_136 rfl rfl ?_
                              refine z_get (pc := 137) gX (zI_ok gX hAX) (zm 0 rfl) (ci := 0) (C := RX0) (T := TX0) (N := 14) rfl in_X0 5 (by decide) q214 (fun _ h => h) (v := .ref (sb 0)) rfl dX0_absent_137 ?_
                              refine z_get (pc := 140) gX (zI_ok gX hAX) (zm 7 rfl) (ci := 2) (C := RX2) (T := TX2) (N := 8) rfl in_X2 6 (by decide) q171 (fun _ h => h) (v := .ref (sb 3)) rfl dX0_absent_140 ?_
                              refine z_iload (pc := 143) gX 10 dX0_absent_143 rfl ?_
                              refine z_iload (pc := 145) gX 8 dX0_absent_145 rfl ?_
                              refine z_iload (pc := 147) gX 10 dX0_absent_147 rfl ?_
                              refine z_cOS (pc := 149) gX (zI_ok gX hAX) [.int (nI s), .int (nI r2)] [.int (nI r2), .ref (sb 3)] [] (met_X0_has l D B0 (nI s) (nI r2) ) q1018 q1019 q47 q1020 hd_X0_has ⟨rfl, rfl⟩ ⟨(Nat.le_of_ble_eq_true rfl), (Nat.le_of_ble_eq_true rfl)⟩ rfl rfl rfl (Nat.le_of_ble_eq_true rfl) ⟨(by first | decide | (simp only [zRm]; omega)), (by first | decide | (simp only [zRm]; omega))⟩ dX0_absent_149 ?_
                              intro _ hu149
                              refine z_eq (lv₂ := [(0, .ref o), (1, .int (nI j)), (2, .int (nI dd)), (3, .int (nI cc)), (4, .int w), (5, .int (nI W)), (6, .int (nI ab)), (7, .int (nI be)), (8, .int (nI s)), (9, .int (nI (its * (10 - cc)))), (10, .int (nI r2))]) (st₂ := [.int (bI (decide (((nI s) >>> ((nI r2) &&& 31)) &&& 1 = 1))), .int (nI r2), .ref (sb 3)]) ?_ rfl rfl
                              refine z_top (bI (s.testBit r2)) (by rw [has_eq (by omega) (by omega)]) ?_
                              refine z_if_eq (pc := 152) gX 160 dX0_absent_152 (by decide) (fun c152 => ?_) (fun c152 => ?_)
                              · skip
                                have k152 : (s.testBit r2) = false := bI_eq0 c152
                                refine z_iconst (pc := 160) gX (-1) dX0_absent_160 (by decide) ?_
                                refine z_iast (pc := 161) gX hAX 10 (j := r2) (n := 7) (f := (fun i_ => c1 (2 + i_))) rfl (by omega) (by decide) [cOb o ad (sa 0) (sb 0) tr x, [(sa 0, .inr (2, [.int (c 16), .int (c 1), .int (c 0), .int wn, .ref (sa 1), .ref (sa 2), .ref (sa 3), .ref (sa 4)]))], [(sa 1, .inr (16, [.int md, .ref d, .int (nI n)]))], [(sa 2, .inl (D.1 100, 7, .inl (fun i_ => c (9 + i_))))], [(sa 3, .inl (D.1 100, 7, .inl (fun i_ => c (2 + i_))))], [(sa 4, .inl (D.1 100, 7, .inl od))], [(d, .inl (D.1 104, 10, .inr (.inr (.inr (.inr (rF ra n))))))], [(sb 0, .inr (2, [.int (c1 16), .int (c1 1), .int (c1 0), .int wn, .ref (sb 1), .ref (sb 2), .ref (sb 3), .ref (sb 4)]))], [(sb 1, .inr (16, [.int zmd_81, .ref zd_81, .int (nI n)]))], [(sb 2, .inl (D.1 100, 7, .inl (fun i_ => c1 (9 + i_))))], [(sb 3, .inl (D.1 100, 7, .inl (upd (fun i_ => c1 (2 + i_)) r2 (-1))))], [(sb 4, .inl (D.1 100, 7, .inl zod_81))], [(zd_81, .inl (D.1 104, 10, .inr (.inr (.inr (.inr (rF ra n))))))], T] rfl dX0_absent_161 ?_
                                refine z_ext 9 (fun i_ => (upd c1 (2 + r2) (-1)) (9 + i_)) rfl (fun q hq => (pk_un (by omega)).symm) [cOb o ad (sa 0) (sb 0) tr x, [(sa 0, .inr (2, [.int (c 16), .int (c 1), .int (c 0), .int wn, .ref (sa 1), .ref (sa 2), .ref (sa 3), .ref (sa 4)]))], [(sa 1, .inr (16, [.int md, .ref d, .int (nI n)]))], [(sa 2, .inl (D.1 100, 7, .inl (fun i_ => c (9 + i_))))], [(sa 3, .inl (D.1 100, 7, .inl (fun i_ => c (2 + i_))))], [(sa 4, .inl (D.1 100, 7, .inl od))], [(d, .inl (D.1 104, 10, .inr (.inr (.inr (.inr (rF ra n))))))], [(sb 0, .inr (2, [.int (c1 16), .int (c1 1), .int (c1 0), .int wn, .ref (sb 1), .ref (sb 2), .ref (sb 3), .ref (sb 4)]))], [(sb 1, .inr (16, [.int zmd_81, .ref zd_81, .int (nI n)]))], [(sb 2, .inl (D.1 100, 7, .inl (fun i_ => (upd c1 (2 + r2) (-1)) (9 + i_))))], [(sb 3, .inl (D.1 100, 7, .inl (upd (fun i_ => c1 (2 + i_)) r2 (-1))))], [(sb 4, .inl (D.1 100, 7, .inl zod_81))], [(zd_81, .inl (D.1 104, 10, .inr (.inr (.inr (.inr (rF ra n))))))], T] rfl ?_
                                refine z_ext 10 (fun i_ => (upd c1 (2 + r2) (-1)) (2 + i_)) rfl (fun q hq => upW r2 q) [cOb o ad (sa 0) (sb 0) tr x, [(sa 0, .inr (2, [.int (c 16), .int (c 1), .int (c 0), .int wn, .ref (sa 1), .ref (sa 2), .ref (sa 3), .ref (sa 4)]))], [(sa 1, .inr (16, [.int md, .ref d, .int (nI n)]))], [(sa 2, .inl (D.1 100, 7, .inl (fun i_ => c (9 + i_))))], [(sa 3, .inl (D.1 100, 7, .inl (fun i_ => c (2 + i_))))], [(sa 4, .inl (D.1 100, 7, .inl od))], [(d, .inl (D.1 104, 10, .inr (.inr (.inr (.inr (rF ra n))))))], [(sb 0, .inr (2, [.int (c1 16), .int (c1 1), .int (c1 0), .int wn, .ref (sb 1), .ref (sb 2), .ref (sb 3), .ref (sb 4)]))], [(sb 1, .inr (16, [.int zmd_81, .ref zd_81, .int (nI n)]))], [(sb 2, .inl (D.1 100, 7, .inl (fun i_ => (upd c1 (2 + r2) (-1)) (9 + i_))))], [(sb 3, .inl (D.1 100, 7, .inl (fun i_ => (upd c1 (2 + r2) (-1)) (2 + i_))))], [(sb 4, .inl (D.1 100, 7, .inl zod_81))], [(zd_81, .inl (D.1 104, 10, .inr (.inr (.inr (.inr (rF ra n))))))], T] rfl ?_
                                refine z_weq [cOb o ad (sa 0) (sb 0) tr x, [(sa 0, .inr (2, [.int (c 16), .int (c 1), .int (c 0), .int wn, .ref (sa 1), .ref (sa 2), .ref (sa 3), .ref (sa 4)]))], [(sa 1, .inr (16, [.int md, .ref d, .int (nI n)]))], [(sa 2, .inl (D.1 100, 7, .inl (fun i_ => c (9 + i_))))], [(sa 3, .inl (D.1 100, 7, .inl (fun i_ => c (2 + i_))))], [(sa 4, .inl (D.1 100, 7, .inl od))], [(d, .inl (D.1 104, 10, .inr (.inr (.inr (.inr (rF ra n))))))], [(sb 0, .inr (2, [.int ((upd c1 (2 + r2) (-1)) 16), .int ((upd c1 (2 + r2) (-1)) 1), .int ((upd c1 (2 + r2) (-1)) 0), .int wn, .ref (sb 1), .ref (sb 2), .ref (sb 3), .ref (sb 4)]))], [(sb 1, .inr (16, [.int zmd_81, .ref zd_81, .int (nI n)]))], [(sb 2, .inl (D.1 100, 7, .inl (fun i_ => (upd c1 (2 + r2) (-1)) (9 + i_))))], [(sb 3, .inl (D.1 100, 7, .inl (fun i_ => (upd c1 (2 + r2) (-1)) (2 + i_))))], [(sb 4, .inl (D.1 100, 7, .inl zod_81))], [(zd_81, .inl (D.1 104, 10, .inr (.inr (.inr (.inr (rF ra n))))))], T] (by rw [show (upd c1 (2 + r2) (-1)) 16 = c1 16 from pk_un (by omega), show (upd c1 (2 + r2) (-1)) 1 = c1 1 from pk_un (by omega), show (upd c1 (2 + r2) (-1)) 0 = c1 0 from pk_un (by omega)]) ?_
                                refine z_iinc (pc := 162) gX 10 (nI (r2 + 1)) [1, 2, 3, 4, 5, 6, 7, 8, 9, 10, 0] [(0, .ref o), (1, .int (nI j)), (2, .int (nI dd)), (3, .int (nI cc)), (4, .int w), (5, .int (nI W)), (6, .int (nI ab)), (7, .int (nI be)), (8, .int (nI s)), (9, .int (nI (its * (10 - cc)))), (10, .int (nI (r2 + 1)))] dX0_absent_162 rfl (nI_1 _) (by decide) rfl ?_
                                refine z_goto (pc := 165) gX 88 dX0_absent_165 (by decide) ?_
                                exact ih88 (r2 + 1) (its * (10 - cc)) (upd c1 (2 + r2) (-1)) (by omega) (by simp only [absQ, k107, k152, if_true, Bool.false_eq_true, if_false]; rw [← hc1]) (by simp only [wayQ, k107, k122, if_true, Bool.false_eq_true, if_false]; rw [← hits]) (by omega)
                              · skip
                                have k152 : (s.testBit r2) = true := bI_ne0 c152
                                exact absurd (k122.symm.trans k152) (by decide)
                            · skip
                              have k122 : (s.testBit r2) = true := bI_ne0 c122
                              refine z_iload_n (pc := 125) gX 3 dX0_absent_125 rfl rfl ?_
                              refine z_goto (pc := 126) gX 133 dX0_absent_126 (by decide) ?_
                              refine z_imul (pc := 133) gX dX0_absent_133 ?_
                              refine z_top (nI (its * cc)) (pk_mul its cc) ?_
                              refine z_istore (pc := 134) gX [1, 2, 3, 4, 5, 6, 7, 8, 9, 0, 10] [(0, .ref o), (1, .int (nI j)), (2, .int (nI dd)), (3, .int (nI cc)), (4, .int w), (5, .int (nI W)), (6, .int (nI ab)), (7, .int (nI be)), (8, .int (nI s)), (9, .int (nI (its * cc))), (10, .int (nI r2))] dX0_absent_134 (by decide) rfl ?_
                              refine z_aload_n (pc := 136) gX 0 dX0_absent_136 rfl rfl ?_
                              refine z_get (pc := 137) gX (zI_ok gX hAX) (zm 0 rfl) (ci := 0) (C := RX0) (T := TX0) (N := 14) rfl in_X0 5 (by decide) q214 (fun _ h => h) (v := .ref (sb 0)) rfl dX0_absent_137 ?_
                              refine z_get (pc := 140) gX (zI_ok gX hAX) (zm 7 rfl) (ci := 2) (C := RX2) (T := TX2) (N := 8) rfl in_X2 6 (by decide) q171 (fun _ h => h) (v := .ref (sb 3)) rfl dX0_absent_140 ?_
                              refine z_iload (pc := 143) gX 10 dX0_absent_143 rfl ?_
                              refine z_iload (pc := 145) gX 8 dX0_absent_145 rfl ?_
                              refine z_iload (pc := 147) gX 10 dX0_absent_147 rfl ?_
                              refine z_cOS (pc := 149) gX (zI_ok gX hAX) [.int (nI s), .int (nI r2)] [.int (nI r2), .ref (sb 3)] [] (met_X0_has l D B0 (nI s) (nI r2) ) q1018 q1019 q47 q1020 hd_X0_has ⟨rfl, rfl⟩ ⟨(Nat.le_of_ble_eq_true rfl), (Nat.le_of_ble_eq_true rfl)⟩ rfl rfl rfl (Nat.le_of_ble_eq_true rfl) ⟨(by first | decide | (simp only [zRm]; omega)), (by first | decide | (simp only [zRm]; omega))⟩ dX0_absent_149 ?_
                              intro _ hu149
                              refine z_eq (lv₂ := [(0, .ref o), (1, .int (nI j)), (2, .int (nI dd)), (3, .int (nI cc)), (4, .int w), (5, .int (nI W)), (6, .int (nI ab)), (7, .int (nI be)), (8, .int (nI s)), (9, .int (nI (its * cc))), (10, .int (nI r2))]) (st₂ := [.int (bI (decide (((nI s) >>> ((nI r2) &&& 31)) &&& 1 = 1))), .int (nI r2), .ref (sb 3)]) ?_ rfl rfl
                              refine z_top (bI (s.testBit r2)) (by rw [has_eq (by omega) (by omega)]) ?_
                              refine z_if_eq (pc := 152) gX 160 dX0_absent_152 (by decide) (fun c152 => ?_) (fun c152 => ?_)
                              · skip
                                have k152 : (s.testBit r2) = false := bI_eq0 c152
                                exact absurd (k122.symm.trans k152) (by decide)
                              · skip
                                have k152 : (s.testBit r2) = true := bI_ne0 c152
                                refine z_bipush (pc := 155) gX 99 dX0_absent_155 (by decide) ?_
                                refine z_goto (pc := 157) gX 161 dX0_absent_157 (by decide) ?_
                                refine z_iast (pc := 161) gX hAX 10 (j := r2) (n := 7) (f := (fun i_ => c1 (2 + i_))) rfl (by omega) (by decide) [cOb o ad (sa 0) (sb 0) tr x, [(sa 0, .inr (2, [.int (c 16), .int (c 1), .int (c 0), .int wn, .ref (sa 1), .ref (sa 2), .ref (sa 3), .ref (sa 4)]))], [(sa 1, .inr (16, [.int md, .ref d, .int (nI n)]))], [(sa 2, .inl (D.1 100, 7, .inl (fun i_ => c (9 + i_))))], [(sa 3, .inl (D.1 100, 7, .inl (fun i_ => c (2 + i_))))], [(sa 4, .inl (D.1 100, 7, .inl od))], [(d, .inl (D.1 104, 10, .inr (.inr (.inr (.inr (rF ra n))))))], [(sb 0, .inr (2, [.int (c1 16), .int (c1 1), .int (c1 0), .int wn, .ref (sb 1), .ref (sb 2), .ref (sb 3), .ref (sb 4)]))], [(sb 1, .inr (16, [.int zmd_81, .ref zd_81, .int (nI n)]))], [(sb 2, .inl (D.1 100, 7, .inl (fun i_ => c1 (9 + i_))))], [(sb 3, .inl (D.1 100, 7, .inl (upd (fun i_ => c1 (2 + i_)) r2 99)))], [(sb 4, .inl (D.1 100, 7, .inl zod_81))], [(zd_81, .inl (D.1 104, 10, .inr (.inr (.inr (.inr (rF ra n))))))], T] rfl dX0_absent_161 ?_
                                refine z_ext 9 (fun i_ => (upd c1 (2 + r2) 99) (9 + i_)) rfl (fun q hq => (pk_un (by omega)).symm) [cOb o ad (sa 0) (sb 0) tr x, [(sa 0, .inr (2, [.int (c 16), .int (c 1), .int (c 0), .int wn, .ref (sa 1), .ref (sa 2), .ref (sa 3), .ref (sa 4)]))], [(sa 1, .inr (16, [.int md, .ref d, .int (nI n)]))], [(sa 2, .inl (D.1 100, 7, .inl (fun i_ => c (9 + i_))))], [(sa 3, .inl (D.1 100, 7, .inl (fun i_ => c (2 + i_))))], [(sa 4, .inl (D.1 100, 7, .inl od))], [(d, .inl (D.1 104, 10, .inr (.inr (.inr (.inr (rF ra n))))))], [(sb 0, .inr (2, [.int (c1 16), .int (c1 1), .int (c1 0), .int wn, .ref (sb 1), .ref (sb 2), .ref (sb 3), .ref (sb 4)]))], [(sb 1, .inr (16, [.int zmd_81, .ref zd_81, .int (nI n)]))], [(sb 2, .inl (D.1 100, 7, .inl (fun i_ => (upd c1 (2 + r2) 99) (9 + i_))))], [(sb 3, .inl (D.1 100, 7, .inl (upd (fun i_ => c1 (2 + i_)) r2 99)))], [(sb 4, .inl (D.1 100, 7, .inl zod_81))], [(zd_81, .inl (D.1 104, 10, .inr (.inr (.inr (.inr (rF ra n))))))], T] rfl ?_
                                refine z_ext 10 (fun i_ => (upd c1 (2 + r2) 99) (2 + i_)) rfl (fun q hq => upW r2 q) [cOb o ad (sa 0) (sb 0) tr x, [(sa 0, .inr (2, [.int (c 16), .int (c 1), .int (c 0), .int wn, .ref (sa 1), .ref (sa 2), .ref (sa 3), .ref (sa 4)]))], [(sa 1, .inr (16, [.int md, .ref d, .int (nI n)]))], [(sa 2, .inl (D.1 100, 7, .inl (fun i_ => c (9 + i_))))], [(sa 3, .inl (D.1 100, 7, .inl (fun i_ => c (2 + i_))))], [(sa 4, .inl (D.1 100, 7, .inl od))], [(d, .inl (D.1 104, 10, .inr (.inr (.inr (.inr (rF ra n))))))], [(sb 0, .inr (2, [.int (c1 16), .int (c1 1), .int (c1 0), .int wn, .ref (sb 1), .ref (sb 2), .ref (sb 3), .ref (sb 4)]))], [(sb 1, .inr (16, [.int zmd_81, .ref zd_81, .int (nI n)]))], [(sb 2, .inl (D.1 100, 7, .inl (fun i_ => (upd c1 (2 + r2) 99) (9 + i_))))], [(sb 3, .inl (D.1 100, 7, .inl (fun i_ => (upd c1 (2 + r2) 99) (2 + i_))))], [(sb 4, .inl (D.1 100, 7, .inl zod_81))], [(zd_81, .inl (D.1 104, 10, .inr (.inr (.inr (.inr (rF ra n))))))], T] rfl ?_
                                refine z_weq [cOb o ad (sa 0) (sb 0) tr x, [(sa 0, .inr (2, [.int (c 16), .int (c 1), .int (c 0), .int wn, .ref (sa 1), .ref (sa 2), .ref (sa 3), .ref (sa 4)]))], [(sa 1, .inr (16, [.int md, .ref d, .int (nI n)]))], [(sa 2, .inl (D.1 100, 7, .inl (fun i_ => c (9 + i_))))], [(sa 3, .inl (D.1 100, 7, .inl (fun i_ => c (2 + i_))))], [(sa 4, .inl (D.1 100, 7, .inl od))], [(d, .inl (D.1 104, 10, .inr (.inr (.inr (.inr (rF ra n))))))], [(sb 0, .inr (2, [.int ((upd c1 (2 + r2) 99) 16), .int ((upd c1 (2 + r2) 99) 1), .int ((upd c1 (2 + r2) 99) 0), .int wn, .ref (sb 1), .ref (sb 2), .ref (sb 3), .ref (sb 4)]))], [(sb 1, .inr (16, [.int zmd_81, .ref zd_81, .int (nI n)]))], [(sb 2, .inl (D.1 100, 7, .inl (fun i_ => (upd c1 (2 + r2) 99) (9 + i_))))], [(sb 3, .inl (D.1 100, 7, .inl (fun i_ => (upd c1 (2 + r2) 99) (2 + i_))))], [(sb 4, .inl (D.1 100, 7, .inl zod_81))], [(zd_81, .inl (D.1 104, 10, .inr (.inr (.inr (.inr (rF ra n))))))], T] (by rw [show (upd c1 (2 + r2) 99) 16 = c1 16 from pk_un (by omega), show (upd c1 (2 + r2) 99) 1 = c1 1 from pk_un (by omega), show (upd c1 (2 + r2) 99) 0 = c1 0 from pk_un (by omega)]) ?_
                                refine z_iinc (pc := 162) gX 10 (nI (r2 + 1)) [1, 2, 3, 4, 5, 6, 7, 8, 9, 10, 0] [(0, .ref o), (1, .int (nI j)), (2, .int (nI dd)), (3, .int (nI cc)), (4, .int w), (5, .int (nI W)), (6, .int (nI ab)), (7, .int (nI be)), (8, .int (nI s)), (9, .int (nI (its * cc))), (10, .int (nI (r2 + 1)))] dX0_absent_162 rfl (nI_1 _) (by decide) rfl ?_
                                refine z_goto (pc := 165) gX 88 dX0_absent_165 (by decide) ?_
                                exact ih88 (r2 + 1) (its * cc) (upd c1 (2 + r2) 99) (by omega) (by simp only [absQ, k107, k152, if_true, Bool.false_eq_true, if_false]; rw [← hc1]) (by simp only [wayQ, k107, k122, if_true, Bool.false_eq_true, if_false]; rw [← hits]) (by omega)
                          · skip
                            have k107 : (W.testBit r2) = false := bI_eq0 c107
                            refine z_goto (pc := 110) gX 162 dX0_absent_110 (by decide) ?_
                            refine z_iinc (pc := 162) gX 10 (nI (r2 + 1)) [1, 2, 3, 4, 5, 6, 7, 8, 9, 10, 0] [(0, .ref o), (1, .int (nI j)), (2, .int (nI dd)), (3, .int (nI cc)), (4, .int w), (5, .int (nI W)), (6, .int (nI ab)), (7, .int (nI be)), (8, .int (nI s)), (9, .int (nI its)), (10, .int (nI (r2 + 1)))] dX0_absent_162 rfl (nI_1 _) (by decide) rfl ?_
                            refine z_goto (pc := 165) gX 88 dX0_absent_165 (by decide) ?_
                            exact ih88 (r2 + 1) its c1 (by omega) (by simp only [absQ, k107]; exact hc1) (by simp only [wayQ, k107]; exact hits) (by omega)
                    exact L88 ((n - 0) + 1) 0 1 c (by omega) rfl rfl (Nat.lt_succ_self _)
                  · skip
                    have hnsub : ¬ s &&& W = s := fun h => c71 ((sub_iff s (by omega) W (by omega)).mpr h)
                    refine z_goto (pc := 74) gX 204 dX0_absent_74 (by decide) ?_
                    refine z_iinc (pc := 204) gX 8 (nI (s + 1)) [1, 2, 3, 4, 5, 6, 7, 8, 0] [(0, .ref o), (1, .int (nI j)), (2, .int (nI dd)), (3, .int (nI cc)), (4, .int w), (5, .int (nI W)), (6, .int (nI ab)), (7, .int (nI be)), (8, .int (nI (s + 1)))] dX0_absent_204 rfl (nI_1 _) (by decide) rfl ?_
                    refine z_goto (pc := 207) gX 57 dX0_absent_207 (by decide) ?_
                    refine z_widen (k := (s + 1)) (n := 10 * (s + 1)) (by omega) (by omega) ?_
                    exact ih57 (s + 1) ab be h2 (by omega) ht2 (by rw [show abvP n k dd cc j c W (s + 1) = abvP n k dd cc j c W s + (if s &&& W = s ∧ itT n k (absQ c W s n) dd (2 + j) = 99 then wayQ W s cc n else 0) from rfl, ← hab]; rw [if_neg (fun h => hnsub h.1)]; rfl) (by rw [show belS W cc n (s + 1) = belS W cc n s + (if s &&& W = s then wayQ W s cc n else 0) from rfl, ← hbe]; rw [if_neg hnsub]; rfl) (by omega)
            refine z_lv [0, 1, 2, 3, 4, 5, 6, 7, 8] [(0, .ref o), (1, .int (nI j)), (2, .int (nI dd)), (3, .int (nI cc)), (4, .int w), (5, .int (nI W)), (6, .int 0), (7, .int 0), (8, .int 0)] rfl ?_
            refine z_widen (k := 0) (n := 10 * 0) (by omega) (by omega) ?_
            exact L57 ((W + 1 - 0) + 1) 0 0 0 ht (by omega) ht0 rfl rfl (Nat.lt_succ_self _)
          · skip
            have k32 : (mIn w 0 1) = false := bI_eq0 c32
            refine z_ldc (pc := 35) gX q350 dX0_absent_35 ?_
            refine z_ws [cOb o ad (sa 0) (sb 0) tr x, thP D sa ((some d, n, ra), (md, wn, od), c), thP D sb ht, T] (List.Perm.refl _) ?_
            exact z_rim gX hQX ht ht0 (zsv (by simp [mAbsent, k5, k12, k24, k32])) rfl (by first | decide | omega) (by first | decide | omega) dX0_absent_37
theorem hd_X0_absent : zHd yX0_absent 4 := by unfold zHd; decide +kernel

theorem cnt_up {c : Nat → Int32} {r : Nat} {v : Int32} : ∀ n, cntV (upd c (2 + r) v) 99 n + (if r < n ∧ c (2 + r) = 99 then 1 else 0) = cntV c 99 n + (if r < n ∧ v = 99 then 1 else 0)
  | 0 => by simp [cntV]
  | n + 1 => by
    have ih := cnt_up (c := c) (r := r) (v := v) n
    simp only [cntV]
    by_cases e : r = n
    · subst e
      rw [pk_us]
      have h0 : ¬ r < r := Nat.lt_irrefl r
      simp only [h0, false_and, if_false, Nat.add_zero] at ih
      simp only [Nat.lt_succ_self, true_and]
      rw [ih]; omega
    · rw [pk_un (by omega)]
      have e1 : (r < n + 1) = (r < n) := propext ⟨fun h => by omega, fun h => by omega⟩
      simp only [e1]
      omega
theorem cnt_congr {c c1 : Nat → Int32} : ∀ n, (∀ r, r < n → (c1 (2 + r) = 99 ↔ c (2 + r) = 99)) → cntV c1 99 n = cntV c 99 n
  | 0, _ => rfl
  | n + 1, h => by
    simp only [cntV]
    rw [cnt_congr n (fun r hr => h r (by omega))]
    by_cases e : c (2 + n) = 99
    · rw [if_pos e, if_pos ((h n (by omega)).mpr e)]
    · rw [if_neg e, if_neg (fun q => e ((h n (by omega)).mp q))]
theorem in99 {v : Int32} {k : Nat} (hk : k ≤ 12) (h : mIn v 0 (nI k - 1) = true) : ¬ v = 99 := by
  intro e; subst e
  revert h
  have : ∀ k : Nat, k ≤ 12 → mIn 99 0 (nI k - 1) = false := by decide +kernel
  rw [this k hk]; decide
theorem go_99 {n k r q : Nat} {c : Nat → Int32} {b : Int32} (h16 : c 16 = nI k) (hk : k ≤ 12) (hr : ¬ c (2 + r) = 99) : mGo n c r b (2 + q) = 99 ↔ c (2 + q) = 99 := by
  simp only [mGo]
  by_cases e : q = r
  · subst e
    rw [pk_us]
    by_cases m : mMay n c q b = true
    · rw [if_pos m]
      simp only [mMay, Bool.and_eq_true] at m
      exact ⟨fun h => absurd h (in99 hk (by rw [← h16]; exact m.1)), fun h => absurd h hr⟩
    · rw [if_neg m, Int32.add_zero]
  · rw [pk_un (by omega)]
theorem go_16 {n r : Nat} {c : Nat → Int32} {b : Int32} (hr : r < 7) : mGo n c r b 16 = c 16 := Fr.go hr 16 (by omega)
theorem mv_99 {n k r q : Nat} {c : Nat → Int32} (h16 : c 16 = nI k) (hk : k ≤ 12) (hr7 : r < 7) (hr : ¬ c (2 + r) = 99) : mMv n c r (2 + q) = 99 ↔ c (2 + q) = 99 := by
  simp only [mMv]
  split
  · exact go_99 h16 hk hr
  · split
    · split
      · exact (go_99 ((go_16 hr7).trans h16) hk (fun h => hr ((go_99 h16 hk hr).mp h))).trans (go_99 h16 hk hr)
      · exact go_99 h16 hk hr
    · split
      · exact go_99 h16 hk hr
      · exact Iff.rfl
theorem fold_99 {n k : Nat} (hk : k ≤ 12) : ∀ (L : List Nat) (c : Nat → Int32), c 16 = nI k → (∀ r ∈ L, r < 7 ∧ ¬ c (2 + r) = 99) → ∀ q, (L.foldl (mMv n) c (2 + q) = 99 ↔ c (2 + q) = 99)
  | [], c, _, _, q => Iff.rfl
  | r :: L, c, h16, hL, q => by
    have hr := hL r List.mem_cons_self
    have h2 : ∀ q, mMv n c r (2 + q) = 99 ↔ c (2 + q) = 99 := fun q => mv_99 h16 hk hr.1 hr.2
    refine (fold_99 hk L (mMv n c r) ((Fr.mv hr.1 16 (by omega)).trans h16) (fun z hz => ⟨(hL z (List.mem_cons_of_mem _ hz)).1, fun e => (hL z (List.mem_cons_of_mem _ hz)).2 ((h2 z).mp e)⟩) q).trans (h2 q)
theorem ordF_at {w ln : Nat → Int32} {p sd : Int32} : ∀ (m r : Nat), ∀ q ∈ ordF w ln p sd m r, w q = p
  | 0, r, q, h => by cases h
  | m + 1, r, q, h => by
    simp only [ordF] at h
    split at h
    · rename_i e
      rcases List.mem_cons.mp h with h | h
      · subst h; simp_all
      · exact ordF_at m (r + 1) q h
    · exact ordF_at m (r + 1) q h
theorem ordS_at {w ln : Nat → Int32} {n : Nat} : ∀ (k : Nat), k ≤ 12 → ∀ q ∈ ordS w ln n k, ¬ w q = 99
  | 0, _, q, h => by cases h
  | k + 1, hk, q, h => by
    have hne : ∀ m : Nat, m ≤ 12 → ¬ nI m = 99 := by decide +kernel
    simp only [ordS, lnF, List.mem_append] at h
    rcases h with (h | h) | h
    · rw [ordF_at n 0 q h]; exact hne k (by omega)
    · rw [ordF_at n 0 q h]; exact hne k (by omega)
    · exact ordS_at k (by omega) q h
theorem ph1_99 {n k : Nat} {c : Nat → Int32} (hn : n ≤ 7) (h16 : c 16 = nI k) (hk : k ≤ 12) (q : Nat) : mPh1 n k c (2 + q) = 99 ↔ c (2 + q) = 99 :=
  fold_99 hk _ c h16 (fun r hr => ⟨by have := ordS_lt k r hr; omega, ordS_at k hk r hr⟩) q
theorem ride_cnt {n k r : Nat} {c : Nat → Int32} (h16 : c 16 = nI k) (hk : k ≤ 12) (hr : r < n) : cntV (mRide c r) 99 n = cntV c 99 n + (if mOn (c (2 + r)) = true ∧ ¬ c (2 + r) + c 1 < c 16 then 1 else 0) := by
  simp only [mRide]
  by_cases e : mOn (c (2 + r)) = true
  · rw [if_pos e]
    have h99 : ¬ c (2 + r) = 99 := by intro h; rw [h] at e; exact absurd e (by decide)
    by_cases l : c (2 + r) + c 1 < c 16
    · have hv : ¬ c (2 + r) + c 1 = 99 := by
        intro h; rw [h, h16] at l
        have : ∀ m : Nat, m ≤ 12 → ¬ (99 : Int32) < nI m := by decide +kernel
        exact this k hk l
      have := cnt_up (c := c) (r := r) (v := c (2 + r) + c 1) n
      rw [if_pos l, if_neg (fun h => h.2 l)]
      rw [if_neg (fun h => h99 h.2), if_neg (fun h => hv h.2)] at this
      exact this
    · have := cnt_up (c := c) (r := r) (v := 99) n
      rw [if_neg l, if_pos ⟨e, l⟩]
      rw [if_neg (fun h => h99 h.2), if_pos ⟨hr, rfl⟩] at this
      exact this
  · rw [if_neg e, if_neg (fun h => e h.1)]; rfl
theorem ph2_cnt {n k : Nat} {c : Nat → Int32} (hn : n ≤ 7) (h16 : c 16 = nI k) (hk : k ≤ 12) : ∀ r, r ≤ n → cntV (mPh2 c r) 99 n = cntV c 99 n + wnP c r
  | 0, _ => rfl
  | r + 1, hr => by
    have h := ride_cnt (n := n) (k := k) (r := r) (c := mPh2 c r) ((Fr.ph2 r (by omega) 16 (by omega)).trans h16) hk (by omega)
    show cntV (mRide (mPh2 c r) r) 99 n = _
    rw [h, ph2_cnt hn h16 hk r (by omega)]
    simp only [wnP]
    omega
theorem fst_true {Pp : Nat → Bool} : ∀ (m i q : Nat), fstF Pp m i = some q → Pp q = true
  | 0, i, q, h => by cases h
  | m + 1, i, q, h => by
    simp only [fstF] at h
    split at h
    · rename_i e; cases h; exact e
    · exact fst_true m (i + 1) q h
theorem come_99 {n : Nat} {c : Nat → Int32} (q : Nat) : mCome n c (2 + q) = 99 ↔ c (2 + q) = 99 := by
  cases h : fstF (mCand n c) n 0 with
  | some r =>
    simp only [mCome, h]
    have hc := fst_true _ _ _ h
    simp only [mCand, Bool.and_eq_true, decide_eq_true_eq] at hc
    by_cases e : q = r
    · subst e
      rw [pk_us]
      exact ⟨fun h => absurd h (by decide), fun h => absurd (hc.1.symm.trans h) (by decide)⟩
    · rw [pk_un (by omega)]
  | none => simp only [mCome, h]
/-- behind a tick so many more are off as went off -/
theorem tick_cnt {n k : Nat} {c : Nat → Int32} (hn : n ≤ 7) (h16 : c 16 = nI k) (hk : k ≤ 12) : cntV (mTick n k c) 99 n = cntV c 99 n + wnP (mPh1 n k c) n := by
  have f16 : mPh1 n k c 16 = nI k := (Fr.foldl _ (fun r hr => by have := ordS_lt k r hr; omega) c 16 (by omega)).trans h16
  rw [cnt_congr (c := mPh2 (mPh1 n k c) n) n (fun r _ => by rw [tick_at]; exact come_99 r), ph2_cnt hn f16 hk n (Nat.le_refl n), cnt_congr (c := c) n (fun r _ => ph1_99 hn h16 hk r)]
theorem tick_wn {n k : Nat} {c : Nat → Int32} (hn : n ≤ 7) (h16 : c 16 = nI k) (hk : k ≤ 12) : nI (cntV (mTick n k c) 99 n) - nI (cntV c 99 n) = nI (wnP (mPh1 n k c) n) := by
  rw [tick_cnt hn h16 hk, ← nI_add, Int32.add_comm, Int32.add_sub_cancel]

set_option maxHeartbeats 4000000 in
theorem met_X0_drawn (l : Launch) (D : va_G) (B0 : Nat) (A : Nat → Prop) (o : Nat) (ad : Nat → Nat) (sa : Nat → Nat) (sb : Nat → Nat) (tr : Nat) (x : Nat → Int32) (da : Option Nat) (n : Nat) (ra : Nat → Nat) (md : Int32) (wn : Int32) (od : Nat → Int32) (c : Nat → Int32) (T : va_W) (k : Nat) (ht : sT) (dd_ : Int32) (sd : Int32) (w : Int32) (hS : sOK T da n k ra c) (ht0 : tOK ht) : Met l yX0_drawn (ws_ yX0_drawn cX0_drawn 9 (some .int)) (zRm 11 1 10) (va_Pc [.ref o, .int dd_, .int sd, .int w] (zPre B0 D A [cOb o ad (sa 0) (sb 0) tr x, thP D sa ((da, n, ra), (md, wn, od), c), thP D sb ht, T])) (zQ (S := sT) (fun u => (fun (ht1 : sT) => tOK ht1) u) (fun u => (fun (ht1 : sT) => some (.int (mDrawn n k c dd_ sd w))) u) (fun u => (fun (ht1 : sT) => [cOb o ad (sa 0) (sb 0) tr x, thP D sa ((da, n, ra), (md, wn, od), c), thP D sb ht1, T]) u) D A) 1 10 A := by
  refine z_entry (by decide +kernel) (Nat.le_of_ble_eq_true rfl) (fun pX eX sX mX argsX blX mtX cX QX hQX gX hAX hnm => ?_)
  refine z_eq (lv₂ := [(0, .ref o), (1, .int dd_), (2, .int sd), (3, .int w)]) (st₂ := []) ?_ rfl rfl
  rcases hS with ⟨rfl, rfl, h16, h17⟩ | ⟨⟨d, rfl⟩, hG⟩
  · skip
    refine z_ws [cOb o ad (sa 0) (sb 0) tr x, [(sa 0, .inr (2, [.int (c 16), .int (c 1), .int (c 0), .int wn, .ref (sa 1), .ref (sa 2), .ref (sa 3), .ref (sa 4)]))], [(sa 1, .inr (16, [.int md, .ref (zEE D), .int (nI 0)]))], [(sa 2, .inl (D.1 100, 7, .inl (fun i_ => c (9 + i_))))], [(sa 3, .inl (D.1 100, 7, .inl (fun i_ => c (2 + i_))))], [(sa 4, .inl (D.1 100, 7, .inl od))], thP D sb ht, T] (List.Perm.refl _) ?_
    refine z_aload_n (pc := 0) gX 0 dX0_drawn_0 rfl rfl ?_
    refine z_cOV (pc := 1) gX (zI_ok gX hAX) [] [] [0, 1] (met_X0_isThere l D B0 o ad sa sb tr x (c 16) (c 1) (c 0) wn ) q829 q831 qs18 q47 q832 (zm 0 rfl) (ci := 0) rfl rfl hd_X0_isThere ⟨rfl, rfl⟩ ⟨(Nat.le_of_ble_eq_true rfl), (Nat.le_of_ble_eq_true rfl)⟩ rfl rfl rfl (Nat.le_of_ble_eq_true rfl) ⟨(Nat.le_of_ble_eq_true rfl), (Nat.le_of_ble_eq_true rfl)⟩ dX0_drawn_1 ?_
    intro _ hu1
    refine z_eq (lv₂ := [(0, .ref o), (1, .int dd_), (2, .int sd), (3, .int w)]) (st₂ := [.int (bI (decide (0 < (c 16))))]) ?_ rfl rfl
    refine z_if_ne (pc := 4) gX 10 dX0_drawn_4 (by decide) (fun c4 => ?_) (fun c4 => ?_)
    · skip
      have k4 : (decide (0 < (c 16))) = true := bI_ne0 c4
      exact absurd k4 (by rw [h16]; decide)
    · skip
      have k4 : (decide (0 < (c 16))) = false := bI_eq0 c4
      refine z_ldc (pc := 7) gX q833 dX0_drawn_7 ?_
      refine z_ws [cOb o ad (sa 0) (sb 0) tr x, thP D sa ((none, 0, ra), (md, wn, od), c), thP D sb ht, T] (List.Perm.refl _) ?_
      exact z_rim gX hQX ht ht0 (zsv (by simp [mDrawn, h17])) rfl (by first | decide | omega) (by first | decide | omega) dX0_drawn_9
  · skip
    have hK := hG.k
    have hn1 := hG.1
    have hn7 := hG.2.1
    have h17 := hG.2.2.1
    have h16 := hG.2.2.2.1
    have hk4 := hG.2.2.2.2.1
    have hk12 := hG.2.2.2.2.2.1
    have hln := hG.2.2.2.2.2.2.1
    have hR := hG.2.2.2.2.2.2.2
    refine z_ws [cOb o ad (sa 0) (sb 0) tr x, [(sa 0, .inr (2, [.int (c 16), .int (c 1), .int (c 0), .int wn, .ref (sa 1), .ref (sa 2), .ref (sa 3), .ref (sa 4)]))], [(sa 1, .inr (16, [.int md, .ref d, .int (nI n)]))], [(sa 2, .inl (D.1 100, 7, .inl (fun i_ => c (9 + i_))))], [(sa 3, .inl (D.1 100, 7, .inl (fun i_ => c (2 + i_))))], [(sa 4, .inl (D.1 100, 7, .inl od))], [(d, .inl (D.1 104, 10, .inr (.inr (.inr (.inr (rF ra n))))))], thP D sb ht, T] (List.Perm.refl _) ?_
    refine z_aload_n (pc := 0) gX 0 dX0_drawn_0 rfl rfl ?_
    refine z_cOV (pc := 1) gX (zI_ok gX hAX) [] [] [0, 1] (met_X0_isThere l D B0 o ad sa sb tr x (c 16) (c 1) (c 0) wn ) q829 q831 qs18 q47 q832 (zm 0 rfl) (ci := 0) rfl rfl hd_X0_isThere ⟨rfl, rfl⟩ ⟨(Nat.le_of_ble_eq_true rfl), (Nat.le_of_ble_eq_true rfl)⟩ rfl rfl rfl (Nat.le_of_ble_eq_true rfl) ⟨(Nat.le_of_ble_eq_true rfl), (Nat.le_of_ble_eq_true rfl)⟩ dX0_drawn_1 ?_
    intro _ hu1
    refine z_eq (lv₂ := [(0, .ref o), (1, .int dd_), (2, .int sd), (3, .int w)]) (st₂ := [.int (bI (decide (0 < (c 16))))]) ?_ rfl rfl
    refine z_if_ne (pc := 4) gX 10 dX0_drawn_4 (by decide) (fun c4 => ?_) (fun c4 => ?_)
    · skip
      have k4 : (decide (0 < (c 16))) = true := bI_ne0 c4
      refine z_iload_n (pc := 10) gX 1 dX0_drawn_10 rfl rfl ?_
      refine z_cOS (pc := 11) gX (zI_ok gX hAX) [.int dd_] [] [] (met_X0_isFar l D B0 dd_ ) q982 q983 q47 q984 hd_X0_isFar ⟨rfl, rfl⟩ ⟨(Nat.le_of_ble_eq_true rfl), (Nat.le_of_ble_eq_true rfl)⟩ rfl rfl rfl (Nat.le_of_ble_eq_true rfl) ⟨(Nat.le_of_ble_eq_true rfl), (Nat.le_of_ble_eq_true rfl)⟩ dX0_drawn_11 ?_
      intro _ hu11
      refine z_eq (lv₂ := [(0, .ref o), (1, .int dd_), (2, .int sd), (3, .int w)]) (st₂ := [.int (bI (mIn dd_ 0 60))]) ?_ rfl rfl
      refine z_if_eq (pc := 14) gX 36 dX0_drawn_14 (by decide) (fun c14 => ?_) (fun c14 => ?_)
      · skip
        have k14 : (mIn dd_ 0 60) = false := bI_eq0 c14
        refine z_ldc (pc := 36) gX q350 dX0_drawn_36 ?_
        refine z_ws [cOb o ad (sa 0) (sb 0) tr x, thP D sa ((some d, n, ra), (md, wn, od), c), thP D sb ht, T] (List.Perm.refl _) ?_
        exact z_rim gX hQX ht ht0 (zsv (by simp [mDrawn, poG hG, k4, k14])) rfl (by first | decide | omega) (by first | decide | omega) dX0_drawn_38
      · skip
        have k14 : (mIn dd_ 0 60) = true := bI_ne0 c14
        obtain ⟨dd, hdd, rfl⟩ := mIn_nat k14 60 (by decide)
        refine z_iload_n (pc := 17) gX 2 dX0_drawn_17 rfl rfl ?_
        refine z_i2l (pc := 18) gX dX0_drawn_18 ?_
        refine z_lconst (pc := 19) gX 1 dX0_drawn_19 rfl ?_
        refine z_ldc2_w (pc := 20) gX q1196 dX0_drawn_20 ?_
        refine z_cOS (pc := 23) gX (zI_ok gX hAX) [.long sd.toInt64, .long 1, .long 999999] [] [] (met_X0_isIn l D B0 sd.toInt64 1 999999 ) q346 q347 q47 q348 hd_X0_isIn ⟨rfl, rfl⟩ ⟨(Nat.le_of_ble_eq_true rfl), (Nat.le_of_ble_eq_true rfl)⟩ rfl rfl rfl (Nat.le_of_ble_eq_true rfl) ⟨(Nat.le_of_ble_eq_true rfl), (Nat.le_of_ble_eq_true rfl)⟩ dX0_drawn_23 ?_
        intro _ hu23
        refine z_eq (lv₂ := [(0, .ref o), (1, .int (nI dd)), (2, .int sd), (3, .int w)]) (st₂ := [.int (bI (lIn sd.toInt64 1 999999))]) ?_ rfl rfl
        refine z_top (bI (mIn sd 1 999999)) (congrArg bI (lIn_eq rfl (by decide) (by decide))) ?_
        refine z_if_eq (pc := 26) gX 36 dX0_drawn_26 (by decide) (fun c26 => ?_) (fun c26 => ?_)
        · skip
          have k26 : (mIn sd 1 999999) = false := bI_eq0 c26
          refine z_ldc (pc := 36) gX q350 dX0_drawn_36 ?_
          refine z_ws [cOb o ad (sa 0) (sb 0) tr x, thP D sa ((some d, n, ra), (md, wn, od), c), thP D sb ht, T] (List.Perm.refl _) ?_
          exact z_rim gX hQX ht ht0 (zsv (by simp [mDrawn, poG hG, k4, k14, k26])) rfl (by first | decide | omega) (by first | decide | omega) dX0_drawn_38
        · skip
          have k26 : (mIn sd 1 999999) = true := bI_ne0 c26
          obtain ⟨z0, hz0, rfl⟩ := mIn_nat1 k26 999999 (by decide)
          refine z_iload_n (pc := 29) gX 3 dX0_drawn_29 rfl rfl ?_
          refine z_cOS (pc := 30) gX (zI_ok gX hAX) [.int w] [] [] (met_X0_isHalf l D B0 w ) q961 q962 q47 q963 hd_X0_isHalf ⟨rfl, rfl⟩ ⟨(Nat.le_of_ble_eq_true rfl), (Nat.le_of_ble_eq_true rfl)⟩ rfl rfl rfl (Nat.le_of_ble_eq_true rfl) ⟨(Nat.le_of_ble_eq_true rfl), (Nat.le_of_ble_eq_true rfl)⟩ dX0_drawn_30 ?_
          intro _ hu30
          refine z_eq (lv₂ := [(0, .ref o), (1, .int (nI dd)), (2, .int (nI z0)), (3, .int w)]) (st₂ := [.int (bI (mIn w 0 1))]) ?_ rfl rfl
          refine z_if_ne (pc := 33) gX 39 dX0_drawn_33 (by decide) (fun c33 => ?_) (fun c33 => ?_)
          · skip
            have k33 : (mIn w 0 1) = true := bI_ne0 c33
            refine z_aload_n (pc := 39) gX 0 dX0_drawn_39 rfl rfl ?_
            refine z_cMV (pc := 40) gX hAX [] [] [0, 1, 2, 3, 4, 5, 6, 7, 8] [] (fun A1 => met_X0_asNow l D B0 A1 o ad sa sb tr x wn md d n c od ra T k ht hG ht0) q986 q988 qs23 q47 q989 (zm 0 rfl) (ci := 0) rfl rfl hd_X0_asNow ⟨rfl, rfl⟩ ⟨(Nat.le_of_ble_eq_true rfl), (Nat.le_of_ble_eq_true rfl)⟩ rfl rfl (zpl 9 rfl (by decide +kernel)) rfl rfl (Nat.le_of_ble_eq_true rfl) ⟨(Nat.le_of_ble_eq_true rfl), (Nat.le_of_ble_eq_true rfl)⟩ dX0_drawn_40 ?_
            intro u40 hu40
            obtain ⟨zmd_40, zd_40, zod_40⟩ := u40
            refine z_re [0, 1, 2, 3, 4, 5, 6, 7, 9, 10, 11, 12, 13, 8] [cOb o ad (sa 0) (sb 0) tr x, [(sa 0, .inr (2, [.int (c 16), .int (c 1), .int (c 0), .int wn, .ref (sa 1), .ref (sa 2), .ref (sa 3), .ref (sa 4)]))], [(sa 1, .inr (16, [.int md, .ref d, .int (nI n)]))], [(sa 2, .inl (D.1 100, 7, .inl (fun i_ => c (9 + i_))))], [(sa 3, .inl (D.1 100, 7, .inl (fun i_ => c (2 + i_))))], [(sa 4, .inl (D.1 100, 7, .inl od))], [(d, .inl (D.1 104, 10, .inr (.inr (.inr (.inr (rF ra n))))))], [(sb 0, .inr (2, [.int (c 16), .int (c 1), .int (c 0), .int wn, .ref (sb 1), .ref (sb 2), .ref (sb 3), .ref (sb 4)]))], [(sb 1, .inr (16, [.int zmd_40, .ref zd_40, .int (nI n)]))], [(sb 2, .inl (D.1 100, 7, .inl (fun i_ => c (9 + i_))))], [(sb 3, .inl (D.1 100, 7, .inl (fun i_ => c (2 + i_))))], [(sb 4, .inl (D.1 100, 7, .inl zod_40))], [(zd_40, .inl (D.1 104, 10, .inr (.inr (.inr (.inr (rF ra n))))))], T] rfl (zpl 14 rfl (by decide +kernel)) ?_
            refine z_norm [cOb o ad (sa 0) (sb 0) tr x, [(sa 0, .inr (2, [.int (c 16), .int (c 1), .int (c 0), .int wn, .ref (sa 1), .ref (sa 2), .ref (sa 3), .ref (sa 4)]))], [(sa 1, .inr (16, [.int md, .ref d, .int (nI n)]))], [(sa 2, .inl (D.1 100, 7, .inl (fun i_ => c (9 + i_))))], [(sa 3, .inl (D.1 100, 7, .inl (fun i_ => c (2 + i_))))], [(sa 4, .inl (D.1 100, 7, .inl od))], [(d, .inl (D.1 104, 10, .inr (.inr (.inr (.inr (rF ra n))))))], [(sb 0, .inr (2, [.int (c 16), .int (c 1), .int (c 0), .int wn, .ref (sb 1), .ref (sb 2), .ref (sb 3), .ref (sb 4)]))], [(sb 1, .inr (16, [.int zmd_40, .ref zd_40, .int (nI n)]))], [(sb 2, .inl (D.1 100, 7, .inl (fun i_ => c (9 + i_))))], [(sb 3, .inl (D.1 100, 7, .inl (fun i_ => c (2 + i_))))], [(sb 4, .inl (D.1 100, 7, .inl zod_40))], [(zd_40, .inl (D.1 104, 10, .inr (.inr (.inr (.inr (rF ra n))))))], T] 1 10 ?_ rfl rfl rfl
            refine z_eq (lv₂ := [(0, .ref o), (1, .int (nI dd)), (2, .int (nI z0)), (3, .int w)]) (st₂ := [.ref (sb 0)]) ?_ rfl rfl
            refine z_astore (pc := 43) gX [1, 2, 3, 4, 0] [(0, .ref o), (1, .int (nI dd)), (2, .int (nI z0)), (3, .int w), (4, .ref (sb 0))] dX0_drawn_43 (by decide) rfl ?_
            refine z_aload (pc := 45) gX 4 dX0_drawn_45 rfl ?_
            refine z_iconst (pc := 47) gX 0 dX0_drawn_47 (by decide) ?_
            refine z_put (pc := 48) gX hAX 7 rfl (ci := 2) (C := RX2) (T := TX2) (N := 8) rfl in_X2 tyX2 tyX2_ok nmX2 3 (by decide) q156 (fun _ h => h) rfl (v := .int 0) rfl rfl (Nat.le_of_ble_eq_true rfl) [cOb o ad (sa 0) (sb 0) tr x, [(sa 0, .inr (2, [.int (c 16), .int (c 1), .int (c 0), .int wn, .ref (sa 1), .ref (sa 2), .ref (sa 3), .ref (sa 4)]))], [(sa 1, .inr (16, [.int md, .ref d, .int (nI n)]))], [(sa 2, .inl (D.1 100, 7, .inl (fun i_ => c (9 + i_))))], [(sa 3, .inl (D.1 100, 7, .inl (fun i_ => c (2 + i_))))], [(sa 4, .inl (D.1 100, 7, .inl od))], [(d, .inl (D.1 104, 10, .inr (.inr (.inr (.inr (rF ra n))))))], [(sb 0, .inr (2, [.int (c 16), .int (c 1), .int (c 0), .int 0, .ref (sb 1), .ref (sb 2), .ref (sb 3), .ref (sb 4)]))], [(sb 1, .inr (16, [.int zmd_40, .ref zd_40, .int (nI n)]))], [(sb 2, .inl (D.1 100, 7, .inl (fun i_ => c (9 + i_))))], [(sb 3, .inl (D.1 100, 7, .inl (fun i_ => c (2 + i_))))], [(sb 4, .inl (D.1 100, 7, .inl zod_40))], [(zd_40, .inl (D.1 104, 10, .inr (.inr (.inr (.inr (rF ra n))))))], T] rfl dX0_drawn_48 ?_
            refine z_iload_n (pc := 51) gX 2 dX0_drawn_51 rfl rfl ?_
            refine z_i2l (pc := 52) gX dX0_drawn_52 ?_
            refine z_topl (lN z0) (nI_l (by omega)) ?_
            refine z_lstore (pc := 53) gX [1, 2, 3, 4, 5, 0] [(0, .ref o), (1, .int (nI dd)), (2, .int (nI z0)), (3, .int w), (4, .ref (sb 0)), (5, .long (lN z0))] dX0_drawn_53 (by decide) rfl ?_
            refine z_iconst (pc := 55) gX 0 dX0_drawn_55 (by decide) ?_
            refine z_istore (pc := 56) gX [1, 2, 3, 4, 5, 6, 0] [(0, .ref o), (1, .int (nI dd)), (2, .int (nI z0)), (3, .int w), (4, .ref (sb 0)), (5, .long (lN z0)), (7, .int 0)] dX0_drawn_56 (by decide) rfl ?_
            have L58 : ∀ (n58 : Nat) (i : Nat) (z : Nat) (of_ : Int32) (c1 : Nat → Int32) (od1 : Nat → Int32), (i ≤ dd) → (z < 2147483648) → (kOK T n k ra c1) → ((z, of_, c1) = dwS n k (z0, 0, c) i) → dd - i < n58 → zJ pX l eX (zRm 11 1 10) sX mX argsX blX mtX cX QX 9 (zI D A sX [cOb o ad (sa 0) (sb 0) tr x, [(sa 0, .inr (2, [.int (c 16), .int (c 1), .int (c 0), .int wn, .ref (sa 1), .ref (sa 2), .ref (sa 3), .ref (sa 4)]))], [(sa 1, .inr (16, [.int md, .ref d, .int (nI n)]))], [(sa 2, .inl (D.1 100, 7, .inl (fun i_ => c (9 + i_))))], [(sa 3, .inl (D.1 100, 7, .inl (fun i_ => c (2 + i_))))], [(sa 4, .inl (D.1 100, 7, .inl od))], [(d, .inl (D.1 104, 10, .inr (.inr (.inr (.inr (rF ra n))))))], [(sb 0, .inr (2, [.int (c1 16), .int (c1 1), .int (c1 0), .int of_, .ref (sb 1), .ref (sb 2), .ref (sb 3), .ref (sb 4)]))], [(sb 1, .inr (16, [.int zmd_40, .ref zd_40, .int (nI n)]))], [(sb 2, .inl (D.1 100, 7, .inl (fun i_ => c1 (9 + i_))))], [(sb 3, .inl (D.1 100, 7, .inl (fun i_ => c1 (2 + i_))))], [(sb 4, .inl (D.1 100, 7, .inl od1))], [(zd_40, .inl (D.1 104, 10, .inr (.inr (.inr (.inr (rF ra n))))))], T]) 1 10 58 [(0, .ref o), (1, .int (nI dd)), (2, .int (nI z0)), (3, .int w), (4, .ref (sb 0)), (5, .long (lN z)), (7, .int (nI i))] [] := by
              intro n58
              induction n58 with
              | zero => exact fun i z of_ c1 od1 hi hz hK1 hp hm58 => absurd hm58 (Nat.not_lt_zero _)
              | succ n58 ih58 =>
                intro i z of_ c1 od1 hi hz hK1 hp hm58
                refine z_iload (pc := 58) gX 6 dX0_drawn_58 rfl ?_
                refine z_iload_n (pc := 60) gX 1 dX0_drawn_60 rfl rfl ?_
                refine z_icmp_ge (pc := 61) gX 160 dX0_drawn_61 (by decide) (fun c61 => ?_) (fun c61 => ?_)
                · skip
                  have k61 : dd ≤ i := (zn_le (a := dd) (b := i) (by omega) (by omega)).mp c61
                  refine z_iload_n (pc := 160) gX 3 dX0_drawn_160 rfl rfl ?_
                  refine z_if_ne (pc := 161) gX 172 dX0_drawn_161 (by decide) (fun c161 => ?_) (fun c161 => ?_)
                  · skip
                    refine z_aload (pc := 172) gX 4 dX0_drawn_172 rfl ?_
                    refine z_cOV (pc := 174) gX (zI_ok gX hAX) [] [] [7, 8, 10] (met_X2_offs l D B0 sb (c1 16) (c1 1) (c1 0) of_ zmd_40 zd_40 n (fun i_ => c1 (2 + i_)) (by first | assumption | omega)) q925 q926 q927 q49 q928 (zm 7 rfl) (ci := 2) rfl rfl hd_X2_offs ⟨rfl, rfl⟩ ⟨(Nat.le_of_ble_eq_true rfl), (Nat.le_of_ble_eq_true rfl)⟩ rfl rfl rfl (Nat.le_of_ble_eq_true rfl) ⟨(Nat.le_of_ble_eq_true rfl), (Nat.le_of_ble_eq_true rfl)⟩ dX0_drawn_174 ?_
                    intro _ hu174
                    refine z_eq (lv₂ := [(0, .ref o), (1, .int (nI dd)), (2, .int (nI z0)), (3, .int w), (4, .ref (sb 0)), (5, .long (lN z)), (7, .int (nI i))]) (st₂ := [.int (nI (cW (fun i_ => c1 (2 + i_)) 99 n))]) ?_ rfl rfl
                    refine z_top (nI (cntV c1 99 n)) (by rw [cW_c]) ?_
                    refine z_ws [cOb o ad (sa 0) (sb 0) tr x, [(sa 0, .inr (2, [.int (c 16), .int (c 1), .int (c 0), .int wn, .ref (sa 1), .ref (sa 2), .ref (sa 3), .ref (sa 4)]))], [(sa 1, .inr (16, [.int md, .ref d, .int (nI n)]))], [(sa 2, .inl (D.1 100, 7, .inl (fun i_ => c (9 + i_))))], [(sa 3, .inl (D.1 100, 7, .inl (fun i_ => c (2 + i_))))], [(sa 4, .inl (D.1 100, 7, .inl od))], [(d, .inl (D.1 104, 10, .inr (.inr (.inr (.inr (rF ra n))))))], thP D sb ((some zd_40, n, ra), (zmd_40, of_, od1), c1), T] (List.Perm.refl _) ?_
                    refine z_ws [cOb o ad (sa 0) (sb 0) tr x, thP D sa ((some d, n, ra), (md, wn, od), c), thP D sb ((some zd_40, n, ra), (zmd_40, of_, od1), c1), T] (List.Perm.refl _) ?_
                    exact z_rim gX hQX ((some zd_40, n, ra), (zmd_40, of_, od1), c1) (tOK_g hn7) (zsv (by rw [show i = dd by omega] at hp; simp only [mDrawn, if_pos (poG hG), k14, k26, k33, Bool.and_self, if_true, nI_clamp (show dd < 2 ^ 31 by omega), nI_clamp (show z0 < 2 ^ 31 by omega), ← hp]; rw [if_neg c161])) rfl (by first | decide | omega) (by first | decide | omega) dX0_drawn_177
                  · skip
                    refine z_aload (pc := 164) gX 4 dX0_drawn_164 rfl ?_
                    refine z_get (pc := 166) gX (zI_ok gX hAX) (zm 7 rfl) (ci := 2) (C := RX2) (T := TX2) (N := 8) rfl in_X2 3 (by decide) q156 (fun _ h => h) (v := .int of_) rfl dX0_drawn_166 ?_
                    refine z_goto (pc := 169) gX 177 dX0_drawn_169 (by decide) ?_
                    refine z_ws [cOb o ad (sa 0) (sb 0) tr x, [(sa 0, .inr (2, [.int (c 16), .int (c 1), .int (c 0), .int wn, .ref (sa 1), .ref (sa 2), .ref (sa 3), .ref (sa 4)]))], [(sa 1, .inr (16, [.int md, .ref d, .int (nI n)]))], [(sa 2, .inl (D.1 100, 7, .inl (fun i_ => c (9 + i_))))], [(sa 3, .inl (D.1 100, 7, .inl (fun i_ => c (2 + i_))))], [(sa 4, .inl (D.1 100, 7, .inl od))], [(d, .inl (D.1 104, 10, .inr (.inr (.inr (.inr (rF ra n))))))], thP D sb ((some zd_40, n, ra), (zmd_40, of_, od1), c1), T] (List.Perm.refl _) ?_
                    refine z_ws [cOb o ad (sa 0) (sb 0) tr x, thP D sa ((some d, n, ra), (md, wn, od), c), thP D sb ((some zd_40, n, ra), (zmd_40, of_, od1), c1), T] (List.Perm.refl _) ?_
                    exact z_rim gX hQX ((some zd_40, n, ra), (zmd_40, of_, od1), c1) (tOK_g hn7) (zsv (by rw [show i = dd by omega] at hp; simp only [mDrawn, if_pos (poG hG), k14, k26, k33, Bool.and_self, if_true, nI_clamp (show dd < 2 ^ 31 by omega), nI_clamp (show z0 < 2 ^ 31 by omega), ← hp]; rw [if_pos c161])) rfl (by first | decide | omega) (by first | decide | omega) dX0_drawn_177
                · skip
                  have k61 : i < dd := (zn_nle (a := dd) (b := i) (by omega) (by omega)).mp c61
                  obtain ⟨z1, hz1⟩ : ∃ z1, z1 = dwZ z := ⟨_, rfl⟩
                  have hz1l : z1 < 2147483647 := by rw [hz1]; exact Nat.mod_lt _ (by decide)
                  have hzn := Nat.mod_lt z1 (show 0 < n by omega)
                  refine z_lload (pc := 64) gX 5 dX0_drawn_64 rfl ?_
                  refine z_ldc2_w (pc := 66) gX q1197 dX0_drawn_66 ?_
                  refine z_lmul (pc := 69) gX dX0_drawn_69 ?_
                  refine z_topl (lN (z * 16807)) (lN_mul z 16807) ?_
                  refine z_ldc2_w (pc := 70) gX q1198 dX0_drawn_70 ?_
                  refine z_lrem (pc := 73) gX dX0_drawn_73 (by decide) ?_
                  refine z_topl (lN z1) (by rw [hz1]; exact pk_lRem (a := z * 16807) (b := 2147483647) (by omega) (by omega) (by omega)) ?_
                  refine z_lstore (pc := 74) gX [1, 2, 3, 4, 5, 0, 6] [(0, .ref o), (1, .int (nI dd)), (2, .int (nI z0)), (3, .int w), (4, .ref (sb 0)), (5, .long (lN z1)), (7, .int (nI i))] dX0_drawn_74 (by decide) rfl ?_
                  refine z_lload (pc := 76) gX 5 dX0_drawn_76 rfl ?_
                  refine z_ldc2_w (pc := 78) gX q1199 dX0_drawn_78 ?_
                  refine z_lrem (pc := 81) gX dX0_drawn_81 (by decide) ?_
                  refine z_topl (lN (z1 % 4)) (pk_lRem (b := 4) (by omega) (by omega) (by omega)) ?_
                  refine z_lconst (pc := 82) gX 0 dX0_drawn_82 rfl ?_
                  refine z_lcmp (pc := 83) gX dX0_drawn_83 ?_
                  refine z_if_ne (pc := 84) gX 99 dX0_drawn_84 (by decide) (fun c84 => ?_) (fun c84 => ?_)
                  · skip
                    have h4 : ¬ z1 % 4 = 0 := fun h => c84 ((lcmp0 (by omega)).mpr h)
                    refine z_lload (pc := 99) gX 5 dX0_drawn_99 rfl ?_
                    refine z_aload (pc := 101) gX 4 dX0_drawn_101 rfl ?_
                    refine z_cOV (pc := 103) gX (zI_ok gX hAX) [] [.long (lN z1)] [7, 8] (met_X2_many l D B0 sb (c1 16) (c1 1) (c1 0) of_ zmd_40 zd_40 n ) q820 q653 q654 q49 q655 (zm 7 rfl) (ci := 2) rfl rfl hd_X2_many ⟨rfl, rfl⟩ ⟨(Nat.le_of_ble_eq_true rfl), (Nat.le_of_ble_eq_true rfl)⟩ rfl rfl rfl (Nat.le_of_ble_eq_true rfl) ⟨(Nat.le_of_ble_eq_true rfl), (Nat.le_of_ble_eq_true rfl)⟩ dX0_drawn_103 ?_
                    intro _ hu103
                    refine z_eq (lv₂ := [(0, .ref o), (1, .int (nI dd)), (2, .int (nI z0)), (3, .int w), (4, .ref (sb 0)), (5, .long (lN z1)), (7, .int (nI i))]) (st₂ := [.int (nI n), .long (lN z1)]) ?_ rfl rfl
                    refine z_i2l (pc := 106) gX dX0_drawn_106 ?_
                    refine z_topl (lN n) (nI_l (by omega)) ?_
                    refine z_lrem (pc := 107) gX dX0_drawn_107 (fun h => absurd ((pk_lEQ (a := n) (b := 0) (by omega) (by omega)).mp h) (by omega)) ?_
                    refine z_l2i (pc := 108) gX dX0_drawn_108 ?_
                    refine z_top (nI (z1 % n)) (l2 (by omega) (show 0 < n by omega) (by omega)) ?_
                    refine z_istore (pc := 109) gX [1, 2, 3, 4, 5, 6, 7, 0] [(0, .ref o), (1, .int (nI dd)), (2, .int (nI z0)), (3, .int w), (4, .ref (sb 0)), (5, .long (lN z1)), (7, .int (nI i)), (8, .int (nI (z1 % n)))] dX0_drawn_109 (by decide) rfl ?_
                    refine z_aload (pc := 111) gX 4 dX0_drawn_111 rfl ?_
                    refine z_get (pc := 113) gX (zI_ok gX hAX) (zm 7 rfl) (ci := 2) (C := RX2) (T := TX2) (N := 8) rfl in_X2 6 (by decide) q171 (fun _ h => h) (v := .ref (sb 3)) rfl dX0_drawn_113 ?_
                    refine z_iload (pc := 116) gX 7 dX0_drawn_116 rfl ?_
                    refine z_iald (pc := 118) gX (zI_ok gX hAX) (j := (z1 % n)) (n := 7) (f := (fun i_ => c1 (2 + i_))) (zm 10 rfl) (by omega) (by decide) dX0_drawn_118 ?_
                    refine z_top (c1 (2 + (z1 % n))) rfl ?_
                    refine z_bipush (pc := 119) gX 99 dX0_drawn_119 (by decide) ?_
                    refine z_icmp_ne (pc := 121) gX 148 dX0_drawn_121 (by decide) (fun c121 => ?_) (fun c121 => ?_)
                    · skip
                      refine z_aload (pc := 148) gX 4 dX0_drawn_148 rfl ?_
                      refine z_cMV (pc := 150) gX hAX [] [] [7, 8, 9, 10, 11, 12, 13] [0, 1, 2, 3, 4, 5, 6] (fun A1 => met_goOnC l D B0 A1 sb of_ zmd_40 zd_40 n c1 od1 ra T k hK1) q839 q840 q841 q49 q842 (zm 7 rfl) (ci := 2) rfl rfl hd_X2_goOn ⟨rfl, rfl⟩ ⟨(Nat.le_of_ble_eq_true rfl), (Nat.le_of_ble_eq_true rfl)⟩ rfl rfl (zpl 14 rfl (by decide +kernel)) rfl rfl (Nat.le_of_ble_eq_true rfl) ⟨(Nat.le_of_ble_eq_true rfl), (Nat.le_of_ble_eq_true rfl)⟩ dX0_drawn_150 ?_
                      intro u150 hu150
                      obtain ⟨od1_150, rfl⟩ : ∃ z, z = u150 := ⟨_, rfl⟩
                      refine z_re [7, 8, 9, 10, 11, 12, 13, 0, 1, 2, 3, 4, 5, 6] [cOb o ad (sa 0) (sb 0) tr x, [(sa 0, .inr (2, [.int (c 16), .int (c 1), .int (c 0), .int wn, .ref (sa 1), .ref (sa 2), .ref (sa 3), .ref (sa 4)]))], [(sa 1, .inr (16, [.int md, .ref d, .int (nI n)]))], [(sa 2, .inl (D.1 100, 7, .inl (fun i_ => c (9 + i_))))], [(sa 3, .inl (D.1 100, 7, .inl (fun i_ => c (2 + i_))))], [(sa 4, .inl (D.1 100, 7, .inl od))], [(d, .inl (D.1 104, 10, .inr (.inr (.inr (.inr (rF ra n))))))], [(sb 0, .inr (2, [.int ((mTick n k c1) 16), .int ((mTick n k c1) 1), .int ((mTick n k c1) 0), .int (of_ + nI (wnP (mPh1 n k c1) n)), .ref (sb 1), .ref (sb 2), .ref (sb 3), .ref (sb 4)]))], [(sb 1, .inr (16, [.int zmd_40, .ref zd_40, .int (nI n)]))], [(sb 2, .inl (D.1 100, 7, .inl (fun i_ => (mTick n k c1) (9 + i_))))], [(sb 3, .inl (D.1 100, 7, .inl (fun i_ => (mTick n k c1) (2 + i_))))], [(sb 4, .inl (D.1 100, 7, .inl od1_150))], [(zd_40, .inl (D.1 104, 10, .inr (.inr (.inr (.inr (rF ra n))))))], T] rfl (zpl 14 rfl (by decide +kernel)) ?_
                      refine z_eq (lv₂ := [(0, .ref o), (1, .int (nI dd)), (2, .int (nI z0)), (3, .int w), (4, .ref (sb 0)), (5, .long (lN z1)), (7, .int (nI i)), (8, .int (nI (z1 % n)))]) (st₂ := [.ref (sb 0)]) ?_ rfl rfl
                      refine z_pop (pc := 153) gX dX0_drawn_153 rfl ?_
                      refine z_iinc (pc := 154) gX 6 (nI (i + 1)) [1, 2, 3, 4, 5, 6, 0, 7] [(0, .ref o), (1, .int (nI dd)), (2, .int (nI z0)), (3, .int w), (4, .ref (sb 0)), (5, .long (lN z1)), (7, .int (nI (i + 1))), (8, .int (nI (z1 % n)))] dX0_drawn_154 rfl (nI_1 _) (by decide) rfl ?_
                      refine z_goto (pc := 157) gX 58 dX0_drawn_157 (by decide) ?_
                      refine z_lv [0, 1, 2, 3, 4, 5, 6] [(0, .ref o), (1, .int (nI dd)), (2, .int (nI z0)), (3, .int w), (4, .ref (sb 0)), (5, .long (lN z1)), (7, .int (nI (i + 1)))] rfl ?_
                      exact ih58 (i + 1) z1 (of_ + nI (wnP (mPh1 n k c1) n)) (mTick n k c1) od1_150 (by omega) (by omega) ((hK1).tick) (by have e2 : dwC2 n z1 (dwC1 z1 c1) = c1 := (by simp only [dwC1, if_neg h4, upd_self, dwC2]; rw [if_neg c121]); rw [show dwS n k (z0, 0, c) (i + 1) = dwStep n k (dwS n k (z0, 0, c) i) from rfl, ← hp]; simp only [dwStep, ← hz1]; rw [e2, tick_wn hn7 (hK1).2.2.1 hk12]) (by omega)
                    · skip
                      refine z_aload (pc := 124) gX 4 dX0_drawn_124 rfl ?_
                      refine z_get (pc := 126) gX (zI_ok gX hAX) (zm 7 rfl) (ci := 2) (C := RX2) (T := TX2) (N := 8) rfl in_X2 6 (by decide) q171 (fun _ h => h) (v := .ref (sb 3)) rfl dX0_drawn_126 ?_
                      refine z_iload (pc := 129) gX 7 dX0_drawn_129 rfl ?_
                      refine z_iconst (pc := 131) gX (-1) dX0_drawn_131 (by decide) ?_
                      refine z_iast (pc := 132) gX hAX 10 (j := (z1 % n)) (n := 7) (f := (fun i_ => c1 (2 + i_))) rfl (by omega) (by decide) [cOb o ad (sa 0) (sb 0) tr x, [(sa 0, .inr (2, [.int (c 16), .int (c 1), .int (c 0), .int wn, .ref (sa 1), .ref (sa 2), .ref (sa 3), .ref (sa 4)]))], [(sa 1, .inr (16, [.int md, .ref d, .int (nI n)]))], [(sa 2, .inl (D.1 100, 7, .inl (fun i_ => c (9 + i_))))], [(sa 3, .inl (D.1 100, 7, .inl (fun i_ => c (2 + i_))))], [(sa 4, .inl (D.1 100, 7, .inl od))], [(d, .inl (D.1 104, 10, .inr (.inr (.inr (.inr (rF ra n))))))], [(sb 0, .inr (2, [.int (c1 16), .int (c1 1), .int (c1 0), .int of_, .ref (sb 1), .ref (sb 2), .ref (sb 3), .ref (sb 4)]))], [(sb 1, .inr (16, [.int zmd_40, .ref zd_40, .int (nI n)]))], [(sb 2, .inl (D.1 100, 7, .inl (fun i_ => c1 (9 + i_))))], [(sb 3, .inl (D.1 100, 7, .inl (upd (fun i_ => c1 (2 + i_)) (z1 % n) (-1))))], [(sb 4, .inl (D.1 100, 7, .inl od1))], [(zd_40, .inl (D.1 104, 10, .inr (.inr (.inr (.inr (rF ra n))))))], T] rfl dX0_drawn_132 ?_
                      refine z_ext 9 (fun i_ => (upd c1 (2 + (z1 % n)) (-1)) (9 + i_)) rfl (fun q hq => (pk_un (by omega)).symm) [cOb o ad (sa 0) (sb 0) tr x, [(sa 0, .inr (2, [.int (c 16), .int (c 1), .int (c 0), .int wn, .ref (sa 1), .ref (sa 2), .ref (sa 3), .ref (sa 4)]))], [(sa 1, .inr (16, [.int md, .ref d, .int (nI n)]))], [(sa 2, .inl (D.1 100, 7, .inl (fun i_ => c (9 + i_))))], [(sa 3, .inl (D.1 100, 7, .inl (fun i_ => c (2 + i_))))], [(sa 4, .inl (D.1 100, 7, .inl od))], [(d, .inl (D.1 104, 10, .inr (.inr (.inr (.inr (rF ra n))))))], [(sb 0, .inr (2, [.int (c1 16), .int (c1 1), .int (c1 0), .int of_, .ref (sb 1), .ref (sb 2), .ref (sb 3), .ref (sb 4)]))], [(sb 1, .inr (16, [.int zmd_40, .ref zd_40, .int (nI n)]))], [(sb 2, .inl (D.1 100, 7, .inl (fun i_ => (upd c1 (2 + (z1 % n)) (-1)) (9 + i_))))], [(sb 3, .inl (D.1 100, 7, .inl (upd (fun i_ => c1 (2 + i_)) (z1 % n) (-1))))], [(sb 4, .inl (D.1 100, 7, .inl od1))], [(zd_40, .inl (D.1 104, 10, .inr (.inr (.inr (.inr (rF ra n))))))], T] rfl ?_
                      refine z_ext 10 (fun i_ => (upd c1 (2 + (z1 % n)) (-1)) (2 + i_)) rfl (fun q hq => upW (z1 % n) q) [cOb o ad (sa 0) (sb 0) tr x, [(sa 0, .inr (2, [.int (c 16), .int (c 1), .int (c 0), .int wn, .ref (sa 1), .ref (sa 2), .ref (sa 3), .ref (sa 4)]))], [(sa 1, .inr (16, [.int md, .ref d, .int (nI n)]))], [(sa 2, .inl (D.1 100, 7, .inl (fun i_ => c (9 + i_))))], [(sa 3, .inl (D.1 100, 7, .inl (fun i_ => c (2 + i_))))], [(sa 4, .inl (D.1 100, 7, .inl od))], [(d, .inl (D.1 104, 10, .inr (.inr (.inr (.inr (rF ra n))))))], [(sb 0, .inr (2, [.int (c1 16), .int (c1 1), .int (c1 0), .int of_, .ref (sb 1), .ref (sb 2), .ref (sb 3), .ref (sb 4)]))], [(sb 1, .inr (16, [.int zmd_40, .ref zd_40, .int (nI n)]))], [(sb 2, .inl (D.1 100, 7, .inl (fun i_ => (upd c1 (2 + (z1 % n)) (-1)) (9 + i_))))], [(sb 3, .inl (D.1 100, 7, .inl (fun i_ => (upd c1 (2 + (z1 % n)) (-1)) (2 + i_))))], [(sb 4, .inl (D.1 100, 7, .inl od1))], [(zd_40, .inl (D.1 104, 10, .inr (.inr (.inr (.inr (rF ra n))))))], T] rfl ?_
                      refine z_weq [cOb o ad (sa 0) (sb 0) tr x, [(sa 0, .inr (2, [.int (c 16), .int (c 1), .int (c 0), .int wn, .ref (sa 1), .ref (sa 2), .ref (sa 3), .ref (sa 4)]))], [(sa 1, .inr (16, [.int md, .ref d, .int (nI n)]))], [(sa 2, .inl (D.1 100, 7, .inl (fun i_ => c (9 + i_))))], [(sa 3, .inl (D.1 100, 7, .inl (fun i_ => c (2 + i_))))], [(sa 4, .inl (D.1 100, 7, .inl od))], [(d, .inl (D.1 104, 10, .inr (.inr (.inr (.inr (rF ra n))))))], [(sb 0, .inr (2, [.int ((upd c1 (2 + (z1 % n)) (-1)) 16), .int ((upd c1 (2 + (z1 % n)) (-1)) 1), .int ((upd c1 (2 + (z1 % n)) (-1)) 0), .int of_, .ref (sb 1), .ref (sb 2), .ref (sb 3), .ref (sb 4)]))], [(sb 1, .inr (16, [.int zmd_40, .ref zd_40, .int (nI n)]))], [(sb 2, .inl (D.1 100, 7, .inl (fun i_ => (upd c1 (2 + (z1 % n)) (-1)) (9 + i_))))], [(sb 3, .inl (D.1 100, 7, .inl (fun i_ => (upd c1 (2 + (z1 % n)) (-1)) (2 + i_))))], [(sb 4, .inl (D.1 100, 7, .inl od1))], [(zd_40, .inl (D.1 104, 10, .inr (.inr (.inr (.inr (rF ra n))))))], T] (by rw [show (upd c1 (2 + (z1 % n)) (-1)) 16 = c1 16 from pk_un (by omega), show (upd c1 (2 + (z1 % n)) (-1)) 1 = c1 1 from pk_un (by omega), show (upd c1 (2 + (z1 % n)) (-1)) 0 = c1 0 from pk_un (by omega)]) ?_
                      refine z_aload (pc := 133) gX 4 dX0_drawn_133 rfl ?_
                      refine z_get (pc := 135) gX (zI_ok gX hAX) (zm 7 rfl) (ci := 2) (C := RX2) (T := TX2) (N := 8) rfl in_X2 5 (by decide) q166 (fun _ h => h) (v := .ref (sb 2)) rfl dX0_drawn_135 ?_
                      refine z_iload (pc := 138) gX 7 dX0_drawn_138 rfl ?_
                      refine z_lload (pc := 140) gX 5 dX0_drawn_140 rfl ?_
                      refine z_ldc2_w (pc := 142) gX q349 dX0_drawn_142 ?_
                      refine z_lrem (pc := 145) gX dX0_drawn_145 (by decide) ?_
                      refine z_l2i (pc := 146) gX dX0_drawn_146 ?_
                      refine z_top (nI (z1 % 2)) (l2 (b := 2) (by omega) (by omega) (by omega)) ?_
                      refine z_iast (pc := 147) gX hAX 9 (j := (z1 % n)) (n := 7) (f := (fun i_ => (upd c1 (2 + (z1 % n)) (-1)) (9 + i_))) rfl (by omega) (by decide) [cOb o ad (sa 0) (sb 0) tr x, [(sa 0, .inr (2, [.int (c 16), .int (c 1), .int (c 0), .int wn, .ref (sa 1), .ref (sa 2), .ref (sa 3), .ref (sa 4)]))], [(sa 1, .inr (16, [.int md, .ref d, .int (nI n)]))], [(sa 2, .inl (D.1 100, 7, .inl (fun i_ => c (9 + i_))))], [(sa 3, .inl (D.1 100, 7, .inl (fun i_ => c (2 + i_))))], [(sa 4, .inl (D.1 100, 7, .inl od))], [(d, .inl (D.1 104, 10, .inr (.inr (.inr (.inr (rF ra n))))))], [(sb 0, .inr (2, [.int ((upd c1 (2 + (z1 % n)) (-1)) 16), .int ((upd c1 (2 + (z1 % n)) (-1)) 1), .int ((upd c1 (2 + (z1 % n)) (-1)) 0), .int of_, .ref (sb 1), .ref (sb 2), .ref (sb 3), .ref (sb 4)]))], [(sb 1, .inr (16, [.int zmd_40, .ref zd_40, .int (nI n)]))], [(sb 2, .inl (D.1 100, 7, .inl (upd (fun i_ => (upd c1 (2 + (z1 % n)) (-1)) (9 + i_)) (z1 % n) (nI (z1 % 2)))))], [(sb 3, .inl (D.1 100, 7, .inl (fun i_ => (upd c1 (2 + (z1 % n)) (-1)) (2 + i_))))], [(sb 4, .inl (D.1 100, 7, .inl od1))], [(zd_40, .inl (D.1 104, 10, .inr (.inr (.inr (.inr (rF ra n))))))], T] rfl dX0_drawn_147 ?_
                      refine z_ext 9 (fun i_ => (upd (upd c1 (2 + (z1 % n)) (-1)) (9 + (z1 % n)) (nI (z1 % 2))) (9 + i_)) rfl (fun q hq => upL (z1 % n) q) [cOb o ad (sa 0) (sb 0) tr x, [(sa 0, .inr (2, [.int (c 16), .int (c 1), .int (c 0), .int wn, .ref (sa 1), .ref (sa 2), .ref (sa 3), .ref (sa 4)]))], [(sa 1, .inr (16, [.int md, .ref d, .int (nI n)]))], [(sa 2, .inl (D.1 100, 7, .inl (fun i_ => c (9 + i_))))], [(sa 3, .inl (D.1 100, 7, .inl (fun i_ => c (2 + i_))))], [(sa 4, .inl (D.1 100, 7, .inl od))], [(d, .inl (D.1 104, 10, .inr (.inr (.inr (.inr (rF ra n))))))], [(sb 0, .inr (2, [.int ((upd c1 (2 + (z1 % n)) (-1)) 16), .int ((upd c1 (2 + (z1 % n)) (-1)) 1), .int ((upd c1 (2 + (z1 % n)) (-1)) 0), .int of_, .ref (sb 1), .ref (sb 2), .ref (sb 3), .ref (sb 4)]))], [(sb 1, .inr (16, [.int zmd_40, .ref zd_40, .int (nI n)]))], [(sb 2, .inl (D.1 100, 7, .inl (fun i_ => (upd (upd c1 (2 + (z1 % n)) (-1)) (9 + (z1 % n)) (nI (z1 % 2))) (9 + i_))))], [(sb 3, .inl (D.1 100, 7, .inl (fun i_ => (upd c1 (2 + (z1 % n)) (-1)) (2 + i_))))], [(sb 4, .inl (D.1 100, 7, .inl od1))], [(zd_40, .inl (D.1 104, 10, .inr (.inr (.inr (.inr (rF ra n))))))], T] rfl ?_
                      refine z_ext 10 (fun i_ => (upd (upd c1 (2 + (z1 % n)) (-1)) (9 + (z1 % n)) (nI (z1 % 2))) (2 + i_)) rfl (fun q hq => (pk_un (by omega)).symm) [cOb o ad (sa 0) (sb 0) tr x, [(sa 0, .inr (2, [.int (c 16), .int (c 1), .int (c 0), .int wn, .ref (sa 1), .ref (sa 2), .ref (sa 3), .ref (sa 4)]))], [(sa 1, .inr (16, [.int md, .ref d, .int (nI n)]))], [(sa 2, .inl (D.1 100, 7, .inl (fun i_ => c (9 + i_))))], [(sa 3, .inl (D.1 100, 7, .inl (fun i_ => c (2 + i_))))], [(sa 4, .inl (D.1 100, 7, .inl od))], [(d, .inl (D.1 104, 10, .inr (.inr (.inr (.inr (rF ra n))))))], [(sb 0, .inr (2, [.int ((upd c1 (2 + (z1 % n)) (-1)) 16), .int ((upd c1 (2 + (z1 % n)) (-1)) 1), .int ((upd c1 (2 + (z1 % n)) (-1)) 0), .int of_, .ref (sb 1), .ref (sb 2), .ref (sb 3), .ref (sb 4)]))], [(sb 1, .inr (16, [.int zmd_40, .ref zd_40, .int (nI n)]))], [(sb 2, .inl (D.1 100, 7, .inl (fun i_ => (upd (upd c1 (2 + (z1 % n)) (-1)) (9 + (z1 % n)) (nI (z1 % 2))) (9 + i_))))], [(sb 3, .inl (D.1 100, 7, .inl (fun i_ => (upd (upd c1 (2 + (z1 % n)) (-1)) (9 + (z1 % n)) (nI (z1 % 2))) (2 + i_))))], [(sb 4, .inl (D.1 100, 7, .inl od1))], [(zd_40, .inl (D.1 104, 10, .inr (.inr (.inr (.inr (rF ra n))))))], T] rfl ?_
                      refine z_weq [cOb o ad (sa 0) (sb 0) tr x, [(sa 0, .inr (2, [.int (c 16), .int (c 1), .int (c 0), .int wn, .ref (sa 1), .ref (sa 2), .ref (sa 3), .ref (sa 4)]))], [(sa 1, .inr (16, [.int md, .ref d, .int (nI n)]))], [(sa 2, .inl (D.1 100, 7, .inl (fun i_ => c (9 + i_))))], [(sa 3, .inl (D.1 100, 7, .inl (fun i_ => c (2 + i_))))], [(sa 4, .inl (D.1 100, 7, .inl od))], [(d, .inl (D.1 104, 10, .inr (.inr (.inr (.inr (rF ra n))))))], [(sb 0, .inr (2, [.int ((upd (upd c1 (2 + (z1 % n)) (-1)) (9 + (z1 % n)) (nI (z1 % 2))) 16), .int ((upd (upd c1 (2 + (z1 % n)) (-1)) (9 + (z1 % n)) (nI (z1 % 2))) 1), .int ((upd (upd c1 (2 + (z1 % n)) (-1)) (9 + (z1 % n)) (nI (z1 % 2))) 0), .int of_, .ref (sb 1), .ref (sb 2), .ref (sb 3), .ref (sb 4)]))], [(sb 1, .inr (16, [.int zmd_40, .ref zd_40, .int (nI n)]))], [(sb 2, .inl (D.1 100, 7, .inl (fun i_ => (upd (upd c1 (2 + (z1 % n)) (-1)) (9 + (z1 % n)) (nI (z1 % 2))) (9 + i_))))], [(sb 3, .inl (D.1 100, 7, .inl (fun i_ => (upd (upd c1 (2 + (z1 % n)) (-1)) (9 + (z1 % n)) (nI (z1 % 2))) (2 + i_))))], [(sb 4, .inl (D.1 100, 7, .inl od1))], [(zd_40, .inl (D.1 104, 10, .inr (.inr (.inr (.inr (rF ra n))))))], T] (by rw [show (upd (upd c1 (2 + (z1 % n)) (-1)) (9 + (z1 % n)) (nI (z1 % 2))) 16 = (upd c1 (2 + (z1 % n)) (-1)) 16 from pk_un (by omega), show (upd (upd c1 (2 + (z1 % n)) (-1)) (9 + (z1 % n)) (nI (z1 % 2))) 1 = (upd c1 (2 + (z1 % n)) (-1)) 1 from pk_un (by omega), show (upd (upd c1 (2 + (z1 % n)) (-1)) (9 + (z1 % n)) (nI (z1 % 2))) 0 = (upd c1 (2 + (z1 % n)) (-1)) 0 from pk_un (by omega)]) ?_
                      refine z_aload (pc := 148) gX 4 dX0_drawn_148 rfl ?_
                      refine z_cMV (pc := 150) gX hAX [] [] [7, 8, 9, 10, 11, 12, 13] [0, 1, 2, 3, 4, 5, 6] (fun A1 => met_goOnC l D B0 A1 sb of_ zmd_40 zd_40 n (upd (upd c1 (2 + (z1 % n)) (-1)) (9 + (z1 % n)) (nI (z1 % 2))) od1 ra T k (((hK1).up (by omega)).upl (bit01 _) (by omega))) q839 q840 q841 q49 q842 (zm 7 rfl) (ci := 2) rfl rfl hd_X2_goOn ⟨rfl, rfl⟩ ⟨(Nat.le_of_ble_eq_true rfl), (Nat.le_of_ble_eq_true rfl)⟩ rfl rfl (zpl 14 rfl (by decide +kernel)) rfl rfl (Nat.le_of_ble_eq_true rfl) ⟨(Nat.le_of_ble_eq_true rfl), (Nat.le_of_ble_eq_true rfl)⟩ dX0_drawn_150 ?_
                      intro u150 hu150
                      obtain ⟨od1_150, rfl⟩ : ∃ z, z = u150 := ⟨_, rfl⟩
                      refine z_re [7, 8, 9, 10, 11, 12, 13, 0, 1, 2, 3, 4, 5, 6] [cOb o ad (sa 0) (sb 0) tr x, [(sa 0, .inr (2, [.int (c 16), .int (c 1), .int (c 0), .int wn, .ref (sa 1), .ref (sa 2), .ref (sa 3), .ref (sa 4)]))], [(sa 1, .inr (16, [.int md, .ref d, .int (nI n)]))], [(sa 2, .inl (D.1 100, 7, .inl (fun i_ => c (9 + i_))))], [(sa 3, .inl (D.1 100, 7, .inl (fun i_ => c (2 + i_))))], [(sa 4, .inl (D.1 100, 7, .inl od))], [(d, .inl (D.1 104, 10, .inr (.inr (.inr (.inr (rF ra n))))))], [(sb 0, .inr (2, [.int ((mTick n k (upd (upd c1 (2 + (z1 % n)) (-1)) (9 + (z1 % n)) (nI (z1 % 2)))) 16), .int ((mTick n k (upd (upd c1 (2 + (z1 % n)) (-1)) (9 + (z1 % n)) (nI (z1 % 2)))) 1), .int ((mTick n k (upd (upd c1 (2 + (z1 % n)) (-1)) (9 + (z1 % n)) (nI (z1 % 2)))) 0), .int (of_ + nI (wnP (mPh1 n k (upd (upd c1 (2 + (z1 % n)) (-1)) (9 + (z1 % n)) (nI (z1 % 2)))) n)), .ref (sb 1), .ref (sb 2), .ref (sb 3), .ref (sb 4)]))], [(sb 1, .inr (16, [.int zmd_40, .ref zd_40, .int (nI n)]))], [(sb 2, .inl (D.1 100, 7, .inl (fun i_ => (mTick n k (upd (upd c1 (2 + (z1 % n)) (-1)) (9 + (z1 % n)) (nI (z1 % 2)))) (9 + i_))))], [(sb 3, .inl (D.1 100, 7, .inl (fun i_ => (mTick n k (upd (upd c1 (2 + (z1 % n)) (-1)) (9 + (z1 % n)) (nI (z1 % 2)))) (2 + i_))))], [(sb 4, .inl (D.1 100, 7, .inl od1_150))], [(zd_40, .inl (D.1 104, 10, .inr (.inr (.inr (.inr (rF ra n))))))], T] rfl (zpl 14 rfl (by decide +kernel)) ?_
                      refine z_eq (lv₂ := [(0, .ref o), (1, .int (nI dd)), (2, .int (nI z0)), (3, .int w), (4, .ref (sb 0)), (5, .long (lN z1)), (7, .int (nI i)), (8, .int (nI (z1 % n)))]) (st₂ := [.ref (sb 0)]) ?_ rfl rfl
                      refine z_pop (pc := 153) gX dX0_drawn_153 rfl ?_
                      refine z_iinc (pc := 154) gX 6 (nI (i + 1)) [1, 2, 3, 4, 5, 6, 0, 7] [(0, .ref o), (1, .int (nI dd)), (2, .int (nI z0)), (3, .int w), (4, .ref (sb 0)), (5, .long (lN z1)), (7, .int (nI (i + 1))), (8, .int (nI (z1 % n)))] dX0_drawn_154 rfl (nI_1 _) (by decide) rfl ?_
                      refine z_goto (pc := 157) gX 58 dX0_drawn_157 (by decide) ?_
                      refine z_lv [0, 1, 2, 3, 4, 5, 6] [(0, .ref o), (1, .int (nI dd)), (2, .int (nI z0)), (3, .int w), (4, .ref (sb 0)), (5, .long (lN z1)), (7, .int (nI (i + 1)))] rfl ?_
                      exact ih58 (i + 1) z1 (of_ + nI (wnP (mPh1 n k (upd (upd c1 (2 + (z1 % n)) (-1)) (9 + (z1 % n)) (nI (z1 % 2)))) n)) (mTick n k (upd (upd c1 (2 + (z1 % n)) (-1)) (9 + (z1 % n)) (nI (z1 % 2)))) od1_150 (by omega) (by omega) ((((hK1).up (by omega)).upl (bit01 _) (by omega)).tick) (by have e2 : dwC2 n z1 (dwC1 z1 c1) = upd (upd c1 (2 + z1 % n) (-1)) (9 + z1 % n) (nI (z1 % 2)) := (by simp only [dwC1, if_neg h4, upd_self, dwC2]; rw [if_pos c121]); rw [show dwS n k (z0, 0, c) (i + 1) = dwStep n k (dwS n k (z0, 0, c) i) from rfl, ← hp]; simp only [dwStep, ← hz1]; rw [e2, tick_wn hn7 (((hK1).up (by omega)).upl (bit01 _) (by omega)).2.2.1 hk12]) (by omega)
                  · skip
                    have h4 : z1 % 4 = 0 := (lcmp0 (by omega)).mp c84
                    refine z_aload (pc := 87) gX 4 dX0_drawn_87 rfl ?_
                    refine z_lload (pc := 89) gX 5 dX0_drawn_89 rfl ?_
                    refine z_ldc2_w (pc := 91) gX q1040 dX0_drawn_91 ?_
                    refine z_lrem (pc := 94) gX dX0_drawn_94 (by decide) ?_
                    refine z_l2i (pc := 95) gX dX0_drawn_95 ?_
                    refine z_top (nI (z1 % 3)) (l2 (b := 3) (by omega) (by omega) (by omega)) ?_
                    refine z_put (pc := 96) gX hAX 7 rfl (ci := 2) (C := RX2) (T := TX2) (N := 8) rfl in_X2 tyX2 tyX2_ok nmX2 1 (by decide) q151 (fun _ h => h) rfl (v := .int (nI (z1 % 3))) rfl rfl (Nat.le_of_ble_eq_true rfl) [cOb o ad (sa 0) (sb 0) tr x, [(sa 0, .inr (2, [.int (c 16), .int (c 1), .int (c 0), .int wn, .ref (sa 1), .ref (sa 2), .ref (sa 3), .ref (sa 4)]))], [(sa 1, .inr (16, [.int md, .ref d, .int (nI n)]))], [(sa 2, .inl (D.1 100, 7, .inl (fun i_ => c (9 + i_))))], [(sa 3, .inl (D.1 100, 7, .inl (fun i_ => c (2 + i_))))], [(sa 4, .inl (D.1 100, 7, .inl od))], [(d, .inl (D.1 104, 10, .inr (.inr (.inr (.inr (rF ra n))))))], [(sb 0, .inr (2, [.int (c1 16), .int (nI (z1 % 3)), .int (c1 0), .int of_, .ref (sb 1), .ref (sb 2), .ref (sb 3), .ref (sb 4)]))], [(sb 1, .inr (16, [.int zmd_40, .ref zd_40, .int (nI n)]))], [(sb 2, .inl (D.1 100, 7, .inl (fun i_ => c1 (9 + i_))))], [(sb 3, .inl (D.1 100, 7, .inl (fun i_ => c1 (2 + i_))))], [(sb 4, .inl (D.1 100, 7, .inl od1))], [(zd_40, .inl (D.1 104, 10, .inr (.inr (.inr (.inr (rF ra n))))))], T] rfl dX0_drawn_96 ?_
                    refine z_ext 9 (fun i_ => (upd c1 1 (nI (z1 % 3))) (9 + i_)) rfl (fun q hq => (pk_un (by omega)).symm) [cOb o ad (sa 0) (sb 0) tr x, [(sa 0, .inr (2, [.int (c 16), .int (c 1), .int (c 0), .int wn, .ref (sa 1), .ref (sa 2), .ref (sa 3), .ref (sa 4)]))], [(sa 1, .inr (16, [.int md, .ref d, .int (nI n)]))], [(sa 2, .inl (D.1 100, 7, .inl (fun i_ => c (9 + i_))))], [(sa 3, .inl (D.1 100, 7, .inl (fun i_ => c (2 + i_))))], [(sa 4, .inl (D.1 100, 7, .inl od))], [(d, .inl (D.1 104, 10, .inr (.inr (.inr (.inr (rF ra n))))))], [(sb 0, .inr (2, [.int (c1 16), .int (nI (z1 % 3)), .int (c1 0), .int of_, .ref (sb 1), .ref (sb 2), .ref (sb 3), .ref (sb 4)]))], [(sb 1, .inr (16, [.int zmd_40, .ref zd_40, .int (nI n)]))], [(sb 2, .inl (D.1 100, 7, .inl (fun i_ => (upd c1 1 (nI (z1 % 3))) (9 + i_))))], [(sb 3, .inl (D.1 100, 7, .inl (fun i_ => c1 (2 + i_))))], [(sb 4, .inl (D.1 100, 7, .inl od1))], [(zd_40, .inl (D.1 104, 10, .inr (.inr (.inr (.inr (rF ra n))))))], T] rfl ?_
                    refine z_ext 10 (fun i_ => (upd c1 1 (nI (z1 % 3))) (2 + i_)) rfl (fun q hq => (pk_un (by omega)).symm) [cOb o ad (sa 0) (sb 0) tr x, [(sa 0, .inr (2, [.int (c 16), .int (c 1), .int (c 0), .int wn, .ref (sa 1), .ref (sa 2), .ref (sa 3), .ref (sa 4)]))], [(sa 1, .inr (16, [.int md, .ref d, .int (nI n)]))], [(sa 2, .inl (D.1 100, 7, .inl (fun i_ => c (9 + i_))))], [(sa 3, .inl (D.1 100, 7, .inl (fun i_ => c (2 + i_))))], [(sa 4, .inl (D.1 100, 7, .inl od))], [(d, .inl (D.1 104, 10, .inr (.inr (.inr (.inr (rF ra n))))))], [(sb 0, .inr (2, [.int (c1 16), .int (nI (z1 % 3)), .int (c1 0), .int of_, .ref (sb 1), .ref (sb 2), .ref (sb 3), .ref (sb 4)]))], [(sb 1, .inr (16, [.int zmd_40, .ref zd_40, .int (nI n)]))], [(sb 2, .inl (D.1 100, 7, .inl (fun i_ => (upd c1 1 (nI (z1 % 3))) (9 + i_))))], [(sb 3, .inl (D.1 100, 7, .inl (fun i_ => (upd c1 1 (nI (z1 % 3))) (2 + i_))))], [(sb 4, .inl (D.1 100, 7, .inl od1))], [(zd_40, .inl (D.1 104, 10, .inr (.inr (.inr (.inr (rF ra n))))))], T] rfl ?_
                    refine z_weq [cOb o ad (sa 0) (sb 0) tr x, [(sa 0, .inr (2, [.int (c 16), .int (c 1), .int (c 0), .int wn, .ref (sa 1), .ref (sa 2), .ref (sa 3), .ref (sa 4)]))], [(sa 1, .inr (16, [.int md, .ref d, .int (nI n)]))], [(sa 2, .inl (D.1 100, 7, .inl (fun i_ => c (9 + i_))))], [(sa 3, .inl (D.1 100, 7, .inl (fun i_ => c (2 + i_))))], [(sa 4, .inl (D.1 100, 7, .inl od))], [(d, .inl (D.1 104, 10, .inr (.inr (.inr (.inr (rF ra n))))))], [(sb 0, .inr (2, [.int ((upd c1 1 (nI (z1 % 3))) 16), .int ((upd c1 1 (nI (z1 % 3))) 1), .int ((upd c1 1 (nI (z1 % 3))) 0), .int of_, .ref (sb 1), .ref (sb 2), .ref (sb 3), .ref (sb 4)]))], [(sb 1, .inr (16, [.int zmd_40, .ref zd_40, .int (nI n)]))], [(sb 2, .inl (D.1 100, 7, .inl (fun i_ => (upd c1 1 (nI (z1 % 3))) (9 + i_))))], [(sb 3, .inl (D.1 100, 7, .inl (fun i_ => (upd c1 1 (nI (z1 % 3))) (2 + i_))))], [(sb 4, .inl (D.1 100, 7, .inl od1))], [(zd_40, .inl (D.1 104, 10, .inr (.inr (.inr (.inr (rF ra n))))))], T] (by rw [show (upd c1 1 (nI (z1 % 3))) 16 = c1 16 from pk_un (by omega), show (upd c1 1 (nI (z1 % 3))) 1 = (nI (z1 % 3)) from pk_us, show (upd c1 1 (nI (z1 % 3))) 0 = c1 0 from pk_un (by omega)]) ?_
                    refine z_lload (pc := 99) gX 5 dX0_drawn_99 rfl ?_
                    refine z_aload (pc := 101) gX 4 dX0_drawn_101 rfl ?_
                    refine z_cOV (pc := 103) gX (zI_ok gX hAX) [] [.long (lN z1)] [7, 8] (met_X2_many l D B0 sb ((upd c1 1 (nI (z1 % 3))) 16) ((upd c1 1 (nI (z1 % 3))) 1) ((upd c1 1 (nI (z1 % 3))) 0) of_ zmd_40 zd_40 n ) q820 q653 q654 q49 q655 (zm 7 rfl) (ci := 2) rfl rfl hd_X2_many ⟨rfl, rfl⟩ ⟨(Nat.le_of_ble_eq_true rfl), (Nat.le_of_ble_eq_true rfl)⟩ rfl rfl rfl (Nat.le_of_ble_eq_true rfl) ⟨(Nat.le_of_ble_eq_true rfl), (Nat.le_of_ble_eq_true rfl)⟩ dX0_drawn_103 ?_
                    intro _ hu103
                    refine z_eq (lv₂ := [(0, .ref o), (1, .int (nI dd)), (2, .int (nI z0)), (3, .int w), (4, .ref (sb 0)), (5, .long (lN z1)), (7, .int (nI i))]) (st₂ := [.int (nI n), .long (lN z1)]) ?_ rfl rfl
                    refine z_i2l (pc := 106) gX dX0_drawn_106 ?_
                    refine z_topl (lN n) (nI_l (by omega)) ?_
                    refine z_lrem (pc := 107) gX dX0_drawn_107 (fun h => absurd ((pk_lEQ (a := n) (b := 0) (by omega) (by omega)).mp h) (by omega)) ?_
                    refine z_l2i (pc := 108) gX dX0_drawn_108 ?_
                    refine z_top (nI (z1 % n)) (l2 (by omega) (show 0 < n by omega) (by omega)) ?_
                    refine z_istore (pc := 109) gX [1, 2, 3, 4, 5, 6, 7, 0] [(0, .ref o), (1, .int (nI dd)), (2, .int (nI z0)), (3, .int w), (4, .ref (sb 0)), (5, .long (lN z1)), (7, .int (nI i)), (8, .int (nI (z1 % n)))] dX0_drawn_109 (by decide) rfl ?_
                    refine z_aload (pc := 111) gX 4 dX0_drawn_111 rfl ?_
                    refine z_get (pc := 113) gX (zI_ok gX hAX) (zm 7 rfl) (ci := 2) (C := RX2) (T := TX2) (N := 8) rfl in_X2 6 (by decide) q171 (fun _ h => h) (v := .ref (sb 3)) rfl dX0_drawn_113 ?_
                    refine z_iload (pc := 116) gX 7 dX0_drawn_116 rfl ?_
                    refine z_iald (pc := 118) gX (zI_ok gX hAX) (j := (z1 % n)) (n := 7) (f := (fun i_ => (upd c1 1 (nI (z1 % 3))) (2 + i_))) (zm 10 rfl) (by omega) (by decide) dX0_drawn_118 ?_
                    refine z_top ((upd c1 1 (nI (z1 % 3))) (2 + (z1 % n))) rfl ?_
                    refine z_bipush (pc := 119) gX 99 dX0_drawn_119 (by decide) ?_
                    refine z_icmp_ne (pc := 121) gX 148 dX0_drawn_121 (by decide) (fun c121 => ?_) (fun c121 => ?_)
                    · skip
                      refine z_aload (pc := 148) gX 4 dX0_drawn_148 rfl ?_
                      refine z_cMV (pc := 150) gX hAX [] [] [7, 8, 9, 10, 11, 12, 13] [0, 1, 2, 3, 4, 5, 6] (fun A1 => met_goOnC l D B0 A1 sb of_ zmd_40 zd_40 n (upd c1 1 (nI (z1 % 3))) od1 ra T k (hK1.up (by omega))) q839 q840 q841 q49 q842 (zm 7 rfl) (ci := 2) rfl rfl hd_X2_goOn ⟨rfl, rfl⟩ ⟨(Nat.le_of_ble_eq_true rfl), (Nat.le_of_ble_eq_true rfl)⟩ rfl rfl (zpl 14 rfl (by decide +kernel)) rfl rfl (Nat.le_of_ble_eq_true rfl) ⟨(Nat.le_of_ble_eq_true rfl), (Nat.le_of_ble_eq_true rfl)⟩ dX0_drawn_150 ?_
                      intro u150 hu150
                      obtain ⟨od1_150, rfl⟩ : ∃ z, z = u150 := ⟨_, rfl⟩
                      refine z_re [7, 8, 9, 10, 11, 12, 13, 0, 1, 2, 3, 4, 5, 6] [cOb o ad (sa 0) (sb 0) tr x, [(sa 0, .inr (2, [.int (c 16), .int (c 1), .int (c 0), .int wn, .ref (sa 1), .ref (sa 2), .ref (sa 3), .ref (sa 4)]))], [(sa 1, .inr (16, [.int md, .ref d, .int (nI n)]))], [(sa 2, .inl (D.1 100, 7, .inl (fun i_ => c (9 + i_))))], [(sa 3, .inl (D.1 100, 7, .inl (fun i_ => c (2 + i_))))], [(sa 4, .inl (D.1 100, 7, .inl od))], [(d, .inl (D.1 104, 10, .inr (.inr (.inr (.inr (rF ra n))))))], [(sb 0, .inr (2, [.int ((mTick n k (upd c1 1 (nI (z1 % 3)))) 16), .int ((mTick n k (upd c1 1 (nI (z1 % 3)))) 1), .int ((mTick n k (upd c1 1 (nI (z1 % 3)))) 0), .int (of_ + nI (wnP (mPh1 n k (upd c1 1 (nI (z1 % 3)))) n)), .ref (sb 1), .ref (sb 2), .ref (sb 3), .ref (sb 4)]))], [(sb 1, .inr (16, [.int zmd_40, .ref zd_40, .int (nI n)]))], [(sb 2, .inl (D.1 100, 7, .inl (fun i_ => (mTick n k (upd c1 1 (nI (z1 % 3)))) (9 + i_))))], [(sb 3, .inl (D.1 100, 7, .inl (fun i_ => (mTick n k (upd c1 1 (nI (z1 % 3)))) (2 + i_))))], [(sb 4, .inl (D.1 100, 7, .inl od1_150))], [(zd_40, .inl (D.1 104, 10, .inr (.inr (.inr (.inr (rF ra n))))))], T] rfl (zpl 14 rfl (by decide +kernel)) ?_
                      refine z_eq (lv₂ := [(0, .ref o), (1, .int (nI dd)), (2, .int (nI z0)), (3, .int w), (4, .ref (sb 0)), (5, .long (lN z1)), (7, .int (nI i)), (8, .int (nI (z1 % n)))]) (st₂ := [.ref (sb 0)]) ?_ rfl rfl
                      refine z_pop (pc := 153) gX dX0_drawn_153 rfl ?_
                      refine z_iinc (pc := 154) gX 6 (nI (i + 1)) [1, 2, 3, 4, 5, 6, 0, 7] [(0, .ref o), (1, .int (nI dd)), (2, .int (nI z0)), (3, .int w), (4, .ref (sb 0)), (5, .long (lN z1)), (7, .int (nI (i + 1))), (8, .int (nI (z1 % n)))] dX0_drawn_154 rfl (nI_1 _) (by decide) rfl ?_
                      refine z_goto (pc := 157) gX 58 dX0_drawn_157 (by decide) ?_
                      refine z_lv [0, 1, 2, 3, 4, 5, 6] [(0, .ref o), (1, .int (nI dd)), (2, .int (nI z0)), (3, .int w), (4, .ref (sb 0)), (5, .long (lN z1)), (7, .int (nI (i + 1)))] rfl ?_
                      exact ih58 (i + 1) z1 (of_ + nI (wnP (mPh1 n k (upd c1 1 (nI (z1 % 3)))) n)) (mTick n k (upd c1 1 (nI (z1 % 3)))) od1_150 (by omega) (by omega) ((hK1.up (by omega)).tick) (by have e2 : dwC2 n z1 (dwC1 z1 c1) = upd c1 1 (nI (z1 % 3)) := (by simp only [dwC1, if_pos h4, dwC2]; rw [if_neg c121]); rw [show dwS n k (z0, 0, c) (i + 1) = dwStep n k (dwS n k (z0, 0, c) i) from rfl, ← hp]; simp only [dwStep, ← hz1]; rw [e2, tick_wn hn7 (hK1.up (by omega)).2.2.1 hk12]) (by omega)
                    · skip
                      refine z_aload (pc := 124) gX 4 dX0_drawn_124 rfl ?_
                      refine z_get (pc := 126) gX (zI_ok gX hAX) (zm 7 rfl) (ci := 2) (C := RX2) (T := TX2) (N := 8) rfl in_X2 6 (by decide) q171 (fun _ h => h) (v := .ref (sb 3)) rfl dX0_drawn_126 ?_
                      refine z_iload (pc := 129) gX 7 dX0_drawn_129 rfl ?_
                      refine z_iconst (pc := 131) gX (-1) dX0_drawn_131 (by decide) ?_
                      refine z_iast (pc := 132) gX hAX 10 (j := (z1 % n)) (n := 7) (f := (fun i_ => (upd c1 1 (nI (z1 % 3))) (2 + i_))) rfl (by omega) (by decide) [cOb o ad (sa 0) (sb 0) tr x, [(sa 0, .inr (2, [.int (c 16), .int (c 1), .int (c 0), .int wn, .ref (sa 1), .ref (sa 2), .ref (sa 3), .ref (sa 4)]))], [(sa 1, .inr (16, [.int md, .ref d, .int (nI n)]))], [(sa 2, .inl (D.1 100, 7, .inl (fun i_ => c (9 + i_))))], [(sa 3, .inl (D.1 100, 7, .inl (fun i_ => c (2 + i_))))], [(sa 4, .inl (D.1 100, 7, .inl od))], [(d, .inl (D.1 104, 10, .inr (.inr (.inr (.inr (rF ra n))))))], [(sb 0, .inr (2, [.int ((upd c1 1 (nI (z1 % 3))) 16), .int ((upd c1 1 (nI (z1 % 3))) 1), .int ((upd c1 1 (nI (z1 % 3))) 0), .int of_, .ref (sb 1), .ref (sb 2), .ref (sb 3), .ref (sb 4)]))], [(sb 1, .inr (16, [.int zmd_40, .ref zd_40, .int (nI n)]))], [(sb 2, .inl (D.1 100, 7, .inl (fun i_ => (upd c1 1 (nI (z1 % 3))) (9 + i_))))], [(sb 3, .inl (D.1 100, 7, .inl (upd (fun i_ => (upd c1 1 (nI (z1 % 3))) (2 + i_)) (z1 % n) (-1))))], [(sb 4, .inl (D.1 100, 7, .inl od1))], [(zd_40, .inl (D.1 104, 10, .inr (.inr (.inr (.inr (rF ra n))))))], T] rfl dX0_drawn_132 ?_
                      refine z_ext 9 (fun i_ => (upd (upd c1 1 (nI (z1 % 3))) (2 + (z1 % n)) (-1)) (9 + i_)) rfl (fun q hq => (pk_un (by omega)).symm) [cOb o ad (sa 0) (sb 0) tr x, [(sa 0, .inr (2, [.int (c 16), .int (c 1), .int (c 0), .int wn, .ref (sa 1), .ref (sa 2), .ref (sa 3), .ref (sa 4)]))], [(sa 1, .inr (16, [.int md, .ref d, .int (nI n)]))], [(sa 2, .inl (D.1 100, 7, .inl (fun i_ => c (9 + i_))))], [(sa 3, .inl (D.1 100, 7, .inl (fun i_ => c (2 + i_))))], [(sa 4, .inl (D.1 100, 7, .inl od))], [(d, .inl (D.1 104, 10, .inr (.inr (.inr (.inr (rF ra n))))))], [(sb 0, .inr (2, [.int ((upd c1 1 (nI (z1 % 3))) 16), .int ((upd c1 1 (nI (z1 % 3))) 1), .int ((upd c1 1 (nI (z1 % 3))) 0), .int of_, .ref (sb 1), .ref (sb 2), .ref (sb 3), .ref (sb 4)]))], [(sb 1, .inr (16, [.int zmd_40, .ref zd_40, .int (nI n)]))], [(sb 2, .inl (D.1 100, 7, .inl (fun i_ => (upd (upd c1 1 (nI (z1 % 3))) (2 + (z1 % n)) (-1)) (9 + i_))))], [(sb 3, .inl (D.1 100, 7, .inl (upd (fun i_ => (upd c1 1 (nI (z1 % 3))) (2 + i_)) (z1 % n) (-1))))], [(sb 4, .inl (D.1 100, 7, .inl od1))], [(zd_40, .inl (D.1 104, 10, .inr (.inr (.inr (.inr (rF ra n))))))], T] rfl ?_
                      refine z_ext 10 (fun i_ => (upd (upd c1 1 (nI (z1 % 3))) (2 + (z1 % n)) (-1)) (2 + i_)) rfl (fun q hq => upW (z1 % n) q) [cOb o ad (sa 0) (sb 0) tr x, [(sa 0, .inr (2, [.int (c 16), .int (c 1), .int (c 0), .int wn, .ref (sa 1), .ref (sa 2), .ref (sa 3), .ref (sa 4)]))], [(sa 1, .inr (16, [.int md, .ref d, .int (nI n)]))], [(sa 2, .inl (D.1 100, 7, .inl (fun i_ => c (9 + i_))))], [(sa 3, .inl (D.1 100, 7, .inl (fun i_ => c (2 + i_))))], [(sa 4, .inl (D.1 100, 7, .inl od))], [(d, .inl (D.1 104, 10, .inr (.inr (.inr (.inr (rF ra n))))))], [(sb 0, .inr (2, [.int ((upd c1 1 (nI (z1 % 3))) 16), .int ((upd c1 1 (nI (z1 % 3))) 1), .int ((upd c1 1 (nI (z1 % 3))) 0), .int of_, .ref (sb 1), .ref (sb 2), .ref (sb 3), .ref (sb 4)]))], [(sb 1, .inr (16, [.int zmd_40, .ref zd_40, .int (nI n)]))], [(sb 2, .inl (D.1 100, 7, .inl (fun i_ => (upd (upd c1 1 (nI (z1 % 3))) (2 + (z1 % n)) (-1)) (9 + i_))))], [(sb 3, .inl (D.1 100, 7, .inl (fun i_ => (upd (upd c1 1 (nI (z1 % 3))) (2 + (z1 % n)) (-1)) (2 + i_))))], [(sb 4, .inl (D.1 100, 7, .inl od1))], [(zd_40, .inl (D.1 104, 10, .inr (.inr (.inr (.inr (rF ra n))))))], T] rfl ?_
                      refine z_weq [cOb o ad (sa 0) (sb 0) tr x, [(sa 0, .inr (2, [.int (c 16), .int (c 1), .int (c 0), .int wn, .ref (sa 1), .ref (sa 2), .ref (sa 3), .ref (sa 4)]))], [(sa 1, .inr (16, [.int md, .ref d, .int (nI n)]))], [(sa 2, .inl (D.1 100, 7, .inl (fun i_ => c (9 + i_))))], [(sa 3, .inl (D.1 100, 7, .inl (fun i_ => c (2 + i_))))], [(sa 4, .inl (D.1 100, 7, .inl od))], [(d, .inl (D.1 104, 10, .inr (.inr (.inr (.inr (rF ra n))))))], [(sb 0, .inr (2, [.int ((upd (upd c1 1 (nI (z1 % 3))) (2 + (z1 % n)) (-1)) 16), .int ((upd (upd c1 1 (nI (z1 % 3))) (2 + (z1 % n)) (-1)) 1), .int ((upd (upd c1 1 (nI (z1 % 3))) (2 + (z1 % n)) (-1)) 0), .int of_, .ref (sb 1), .ref (sb 2), .ref (sb 3), .ref (sb 4)]))], [(sb 1, .inr (16, [.int zmd_40, .ref zd_40, .int (nI n)]))], [(sb 2, .inl (D.1 100, 7, .inl (fun i_ => (upd (upd c1 1 (nI (z1 % 3))) (2 + (z1 % n)) (-1)) (9 + i_))))], [(sb 3, .inl (D.1 100, 7, .inl (fun i_ => (upd (upd c1 1 (nI (z1 % 3))) (2 + (z1 % n)) (-1)) (2 + i_))))], [(sb 4, .inl (D.1 100, 7, .inl od1))], [(zd_40, .inl (D.1 104, 10, .inr (.inr (.inr (.inr (rF ra n))))))], T] (by rw [show (upd (upd c1 1 (nI (z1 % 3))) (2 + (z1 % n)) (-1)) 16 = (upd c1 1 (nI (z1 % 3))) 16 from pk_un (by omega), show (upd (upd c1 1 (nI (z1 % 3))) (2 + (z1 % n)) (-1)) 1 = (upd c1 1 (nI (z1 % 3))) 1 from pk_un (by omega), show (upd (upd c1 1 (nI (z1 % 3))) (2 + (z1 % n)) (-1)) 0 = (upd c1 1 (nI (z1 % 3))) 0 from pk_un (by omega)]) ?_
                      refine z_aload (pc := 133) gX 4 dX0_drawn_133 rfl ?_
                      refine z_get (pc := 135) gX (zI_ok gX hAX) (zm 7 rfl) (ci := 2) (C := RX2) (T := TX2) (N := 8) rfl in_X2 5 (by decide) q166 (fun _ h => h) (v := .ref (sb 2)) rfl dX0_drawn_135 ?_
                      refine z_iload (pc := 138) gX 7 dX0_drawn_138 rfl ?_
                      refine z_lload (pc := 140) gX 5 dX0_drawn_140 rfl ?_
                      refine z_ldc2_w (pc := 142) gX q349 dX0_drawn_142 ?_
                      refine z_lrem (pc := 145) gX dX0_drawn_145 (by decide) ?_
                      refine z_l2i (pc := 146) gX dX0_drawn_146 ?_
                      refine z_top (nI (z1 % 2)) (l2 (b := 2) (by omega) (by omega) (by omega)) ?_
                      refine z_iast (pc := 147) gX hAX 9 (j := (z1 % n)) (n := 7) (f := (fun i_ => (upd (upd c1 1 (nI (z1 % 3))) (2 + (z1 % n)) (-1)) (9 + i_))) rfl (by omega) (by decide) [cOb o ad (sa 0) (sb 0) tr x, [(sa 0, .inr (2, [.int (c 16), .int (c 1), .int (c 0), .int wn, .ref (sa 1), .ref (sa 2), .ref (sa 3), .ref (sa 4)]))], [(sa 1, .inr (16, [.int md, .ref d, .int (nI n)]))], [(sa 2, .inl (D.1 100, 7, .inl (fun i_ => c (9 + i_))))], [(sa 3, .inl (D.1 100, 7, .inl (fun i_ => c (2 + i_))))], [(sa 4, .inl (D.1 100, 7, .inl od))], [(d, .inl (D.1 104, 10, .inr (.inr (.inr (.inr (rF ra n))))))], [(sb 0, .inr (2, [.int ((upd (upd c1 1 (nI (z1 % 3))) (2 + (z1 % n)) (-1)) 16), .int ((upd (upd c1 1 (nI (z1 % 3))) (2 + (z1 % n)) (-1)) 1), .int ((upd (upd c1 1 (nI (z1 % 3))) (2 + (z1 % n)) (-1)) 0), .int of_, .ref (sb 1), .ref (sb 2), .ref (sb 3), .ref (sb 4)]))], [(sb 1, .inr (16, [.int zmd_40, .ref zd_40, .int (nI n)]))], [(sb 2, .inl (D.1 100, 7, .inl (upd (fun i_ => (upd (upd c1 1 (nI (z1 % 3))) (2 + (z1 % n)) (-1)) (9 + i_)) (z1 % n) (nI (z1 % 2)))))], [(sb 3, .inl (D.1 100, 7, .inl (fun i_ => (upd (upd c1 1 (nI (z1 % 3))) (2 + (z1 % n)) (-1)) (2 + i_))))], [(sb 4, .inl (D.1 100, 7, .inl od1))], [(zd_40, .inl (D.1 104, 10, .inr (.inr (.inr (.inr (rF ra n))))))], T] rfl dX0_drawn_147 ?_
                      refine z_ext 9 (fun i_ => (upd (upd (upd c1 1 (nI (z1 % 3))) (2 + (z1 % n)) (-1)) (9 + (z1 % n)) (nI (z1 % 2))) (9 + i_)) rfl (fun q hq => upL (z1 % n) q) [cOb o ad (sa 0) (sb 0) tr x, [(sa 0, .inr (2, [.int (c 16), .int (c 1), .int (c 0), .int wn, .ref (sa 1), .ref (sa 2), .ref (sa 3), .ref (sa 4)]))], [(sa 1, .inr (16, [.int md, .ref d, .int (nI n)]))], [(sa 2, .inl (D.1 100, 7, .inl (fun i_ => c (9 + i_))))], [(sa 3, .inl (D.1 100, 7, .inl (fun i_ => c (2 + i_))))], [(sa 4, .inl (D.1 100, 7, .inl od))], [(d, .inl (D.1 104, 10, .inr (.inr (.inr (.inr (rF ra n))))))], [(sb 0, .inr (2, [.int ((upd (upd c1 1 (nI (z1 % 3))) (2 + (z1 % n)) (-1)) 16), .int ((upd (upd c1 1 (nI (z1 % 3))) (2 + (z1 % n)) (-1)) 1), .int ((upd (upd c1 1 (nI (z1 % 3))) (2 + (z1 % n)) (-1)) 0), .int of_, .ref (sb 1), .ref (sb 2), .ref (sb 3), .ref (sb 4)]))], [(sb 1, .inr (16, [.int zmd_40, .ref zd_40, .int (nI n)]))], [(sb 2, .inl (D.1 100, 7, .inl (fun i_ => (upd (upd (upd c1 1 (nI (z1 % 3))) (2 + (z1 % n)) (-1)) (9 + (z1 % n)) (nI (z1 % 2))) (9 + i_))))], [(sb 3, .inl (D.1 100, 7, .inl (fun i_ => (upd (upd c1 1 (nI (z1 % 3))) (2 + (z1 % n)) (-1)) (2 + i_))))], [(sb 4, .inl (D.1 100, 7, .inl od1))], [(zd_40, .inl (D.1 104, 10, .inr (.inr (.inr (.inr (rF ra n))))))], T] rfl ?_
                      refine z_ext 10 (fun i_ => (upd (upd (upd c1 1 (nI (z1 % 3))) (2 + (z1 % n)) (-1)) (9 + (z1 % n)) (nI (z1 % 2))) (2 + i_)) rfl (fun q hq => (pk_un (by omega)).symm) [cOb o ad (sa 0) (sb 0) tr x, [(sa 0, .inr (2, [.int (c 16), .int (c 1), .int (c 0), .int wn, .ref (sa 1), .ref (sa 2), .ref (sa 3), .ref (sa 4)]))], [(sa 1, .inr (16, [.int md, .ref d, .int (nI n)]))], [(sa 2, .inl (D.1 100, 7, .inl (fun i_ => c (9 + i_))))], [(sa 3, .inl (D.1 100, 7, .inl (fun i_ => c (2 + i_))))], [(sa 4, .inl (D.1 100, 7, .inl od))], [(d, .inl (D.1 104, 10, .inr (.inr (.inr (.inr (rF ra n))))))], [(sb 0, .inr (2, [.int ((upd (upd c1 1 (nI (z1 % 3))) (2 + (z1 % n)) (-1)) 16), .int ((upd (upd c1 1 (nI (z1 % 3))) (2 + (z1 % n)) (-1)) 1), .int ((upd (upd c1 1 (nI (z1 % 3))) (2 + (z1 % n)) (-1)) 0), .int of_, .ref (sb 1), .ref (sb 2), .ref (sb 3), .ref (sb 4)]))], [(sb 1, .inr (16, [.int zmd_40, .ref zd_40, .int (nI n)]))], [(sb 2, .inl (D.1 100, 7, .inl (fun i_ => (upd (upd (upd c1 1 (nI (z1 % 3))) (2 + (z1 % n)) (-1)) (9 + (z1 % n)) (nI (z1 % 2))) (9 + i_))))], [(sb 3, .inl (D.1 100, 7, .inl (fun i_ => (upd (upd (upd c1 1 (nI (z1 % 3))) (2 + (z1 % n)) (-1)) (9 + (z1 % n)) (nI (z1 % 2))) (2 + i_))))], [(sb 4, .inl (D.1 100, 7, .inl od1))], [(zd_40, .inl (D.1 104, 10, .inr (.inr (.inr (.inr (rF ra n))))))], T] rfl ?_
                      refine z_weq [cOb o ad (sa 0) (sb 0) tr x, [(sa 0, .inr (2, [.int (c 16), .int (c 1), .int (c 0), .int wn, .ref (sa 1), .ref (sa 2), .ref (sa 3), .ref (sa 4)]))], [(sa 1, .inr (16, [.int md, .ref d, .int (nI n)]))], [(sa 2, .inl (D.1 100, 7, .inl (fun i_ => c (9 + i_))))], [(sa 3, .inl (D.1 100, 7, .inl (fun i_ => c (2 + i_))))], [(sa 4, .inl (D.1 100, 7, .inl od))], [(d, .inl (D.1 104, 10, .inr (.inr (.inr (.inr (rF ra n))))))], [(sb 0, .inr (2, [.int ((upd (upd (upd c1 1 (nI (z1 % 3))) (2 + (z1 % n)) (-1)) (9 + (z1 % n)) (nI (z1 % 2))) 16), .int ((upd (upd (upd c1 1 (nI (z1 % 3))) (2 + (z1 % n)) (-1)) (9 + (z1 % n)) (nI (z1 % 2))) 1), .int ((upd (upd (upd c1 1 (nI (z1 % 3))) (2 + (z1 % n)) (-1)) (9 + (z1 % n)) (nI (z1 % 2))) 0), .int of_, .ref (sb 1), .ref (sb 2), .ref (sb 3), .ref (sb 4)]))], [(sb 1, .inr (16, [.int zmd_40, .ref zd_40, .int (nI n)]))], [(sb 2, .inl (D.1 100, 7, .inl (fun i_ => (upd (upd (upd c1 1 (nI (z1 % 3))) (2 + (z1 % n)) (-1)) (9 + (z1 % n)) (nI (z1 % 2))) (9 + i_))))], [(sb 3, .inl (D.1 100, 7, .inl (fun i_ => (upd (upd (upd c1 1 (nI (z1 % 3))) (2 + (z1 % n)) (-1)) (9 + (z1 % n)) (nI (z1 % 2))) (2 + i_))))], [(sb 4, .inl (D.1 100, 7, .inl od1))], [(zd_40, .inl (D.1 104, 10, .inr (.inr (.inr (.inr (rF ra n))))))], T] (by rw [show (upd (upd (upd c1 1 (nI (z1 % 3))) (2 + (z1 % n)) (-1)) (9 + (z1 % n)) (nI (z1 % 2))) 16 = (upd (upd c1 1 (nI (z1 % 3))) (2 + (z1 % n)) (-1)) 16 from pk_un (by omega), show (upd (upd (upd c1 1 (nI (z1 % 3))) (2 + (z1 % n)) (-1)) (9 + (z1 % n)) (nI (z1 % 2))) 1 = (upd (upd c1 1 (nI (z1 % 3))) (2 + (z1 % n)) (-1)) 1 from pk_un (by omega), show (upd (upd (upd c1 1 (nI (z1 % 3))) (2 + (z1 % n)) (-1)) (9 + (z1 % n)) (nI (z1 % 2))) 0 = (upd (upd c1 1 (nI (z1 % 3))) (2 + (z1 % n)) (-1)) 0 from pk_un (by omega)]) ?_
                      refine z_aload (pc := 148) gX 4 dX0_drawn_148 rfl ?_
                      refine z_cMV (pc := 150) gX hAX [] [] [7, 8, 9, 10, 11, 12, 13] [0, 1, 2, 3, 4, 5, 6] (fun A1 => met_goOnC l D B0 A1 sb of_ zmd_40 zd_40 n (upd (upd (upd c1 1 (nI (z1 % 3))) (2 + (z1 % n)) (-1)) (9 + (z1 % n)) (nI (z1 % 2))) od1 ra T k (((hK1.up (by omega)).up (by omega)).upl (bit01 _) (by omega))) q839 q840 q841 q49 q842 (zm 7 rfl) (ci := 2) rfl rfl hd_X2_goOn ⟨rfl, rfl⟩ ⟨(Nat.le_of_ble_eq_true rfl), (Nat.le_of_ble_eq_true rfl)⟩ rfl rfl (zpl 14 rfl (by decide +kernel)) rfl rfl (Nat.le_of_ble_eq_true rfl) ⟨(Nat.le_of_ble_eq_true rfl), (Nat.le_of_ble_eq_true rfl)⟩ dX0_drawn_150 ?_
                      intro u150 hu150
                      obtain ⟨od1_150, rfl⟩ : ∃ z, z = u150 := ⟨_, rfl⟩
                      refine z_re [7, 8, 9, 10, 11, 12, 13, 0, 1, 2, 3, 4, 5, 6] [cOb o ad (sa 0) (sb 0) tr x, [(sa 0, .inr (2, [.int (c 16), .int (c 1), .int (c 0), .int wn, .ref (sa 1), .ref (sa 2), .ref (sa 3), .ref (sa 4)]))], [(sa 1, .inr (16, [.int md, .ref d, .int (nI n)]))], [(sa 2, .inl (D.1 100, 7, .inl (fun i_ => c (9 + i_))))], [(sa 3, .inl (D.1 100, 7, .inl (fun i_ => c (2 + i_))))], [(sa 4, .inl (D.1 100, 7, .inl od))], [(d, .inl (D.1 104, 10, .inr (.inr (.inr (.inr (rF ra n))))))], [(sb 0, .inr (2, [.int ((mTick n k (upd (upd (upd c1 1 (nI (z1 % 3))) (2 + (z1 % n)) (-1)) (9 + (z1 % n)) (nI (z1 % 2)))) 16), .int ((mTick n k (upd (upd (upd c1 1 (nI (z1 % 3))) (2 + (z1 % n)) (-1)) (9 + (z1 % n)) (nI (z1 % 2)))) 1), .int ((mTick n k (upd (upd (upd c1 1 (nI (z1 % 3))) (2 + (z1 % n)) (-1)) (9 + (z1 % n)) (nI (z1 % 2)))) 0), .int (of_ + nI (wnP (mPh1 n k (upd (upd (upd c1 1 (nI (z1 % 3))) (2 + (z1 % n)) (-1)) (9 + (z1 % n)) (nI (z1 % 2)))) n)), .ref (sb 1), .ref (sb 2), .ref (sb 3), .ref (sb 4)]))], [(sb 1, .inr (16, [.int zmd_40, .ref zd_40, .int (nI n)]))], [(sb 2, .inl (D.1 100, 7, .inl (fun i_ => (mTick n k (upd (upd (upd c1 1 (nI (z1 % 3))) (2 + (z1 % n)) (-1)) (9 + (z1 % n)) (nI (z1 % 2)))) (9 + i_))))], [(sb 3, .inl (D.1 100, 7, .inl (fun i_ => (mTick n k (upd (upd (upd c1 1 (nI (z1 % 3))) (2 + (z1 % n)) (-1)) (9 + (z1 % n)) (nI (z1 % 2)))) (2 + i_))))], [(sb 4, .inl (D.1 100, 7, .inl od1_150))], [(zd_40, .inl (D.1 104, 10, .inr (.inr (.inr (.inr (rF ra n))))))], T] rfl (zpl 14 rfl (by decide +kernel)) ?_
                      refine z_eq (lv₂ := [(0, .ref o), (1, .int (nI dd)), (2, .int (nI z0)), (3, .int w), (4, .ref (sb 0)), (5, .long (lN z1)), (7, .int (nI i)), (8, .int (nI (z1 % n)))]) (st₂ := [.ref (sb 0)]) ?_ rfl rfl
                      refine z_pop (pc := 153) gX dX0_drawn_153 rfl ?_
                      refine z_iinc (pc := 154) gX 6 (nI (i + 1)) [1, 2, 3, 4, 5, 6, 0, 7] [(0, .ref o), (1, .int (nI dd)), (2, .int (nI z0)), (3, .int w), (4, .ref (sb 0)), (5, .long (lN z1)), (7, .int (nI (i + 1))), (8, .int (nI (z1 % n)))] dX0_drawn_154 rfl (nI_1 _) (by decide) rfl ?_
                      refine z_goto (pc := 157) gX 58 dX0_drawn_157 (by decide) ?_
                      refine z_lv [0, 1, 2, 3, 4, 5, 6] [(0, .ref o), (1, .int (nI dd)), (2, .int (nI z0)), (3, .int w), (4, .ref (sb 0)), (5, .long (lN z1)), (7, .int (nI (i + 1)))] rfl ?_
                      exact ih58 (i + 1) z1 (of_ + nI (wnP (mPh1 n k (upd (upd (upd c1 1 (nI (z1 % 3))) (2 + (z1 % n)) (-1)) (9 + (z1 % n)) (nI (z1 % 2)))) n)) (mTick n k (upd (upd (upd c1 1 (nI (z1 % 3))) (2 + (z1 % n)) (-1)) (9 + (z1 % n)) (nI (z1 % 2)))) od1_150 (by omega) (by omega) ((((hK1.up (by omega)).up (by omega)).upl (bit01 _) (by omega)).tick) (by have e2 : dwC2 n z1 (dwC1 z1 c1) = upd (upd (upd c1 1 (nI (z1 % 3))) (2 + z1 % n) (-1)) (9 + z1 % n) (nI (z1 % 2)) := (by simp only [dwC1, if_pos h4, dwC2]; rw [if_pos c121]); rw [show dwS n k (z0, 0, c) (i + 1) = dwStep n k (dwS n k (z0, 0, c) i) from rfl, ← hp]; simp only [dwStep, ← hz1]; rw [e2, tick_wn hn7 (((hK1.up (by omega)).up (by omega)).upl (bit01 _) (by omega)).2.2.1 hk12]) (by omega)
            refine z_lv [0, 1, 2, 3, 4, 5, 6] [(0, .ref o), (1, .int (nI dd)), (2, .int (nI z0)), (3, .int w), (4, .ref (sb 0)), (5, .long (lN z0)), (7, .int 0)] rfl ?_
            exact L58 ((dd - 0) + 1) 0 z0 0 c zod_40 (by omega) (by omega) hK rfl (Nat.lt_succ_self _)
          · skip
            have k33 : (mIn w 0 1) = false := bI_eq0 c33
            refine z_ldc (pc := 36) gX q350 dX0_drawn_36 ?_
            refine z_ws [cOb o ad (sa 0) (sb 0) tr x, thP D sa ((some d, n, ra), (md, wn, od), c), thP D sb ht, T] (List.Perm.refl _) ?_
            exact z_rim gX hQX ht ht0 (zsv (by simp [mDrawn, poG hG, k4, k14, k26, k33])) rfl (by first | decide | omega) (by first | decide | omega) dX0_drawn_38
    · skip
      have k4 : (decide (0 < (c 16))) = false := bI_eq0 c4
      exact absurd k4 (by rw [thG hG]; decide)
theorem hd_X0_drawn : zHd yX0_drawn 3 := by unfold zHd; decide +kernel

