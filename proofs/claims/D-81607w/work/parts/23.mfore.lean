set_option maxRecDepth 100000
/-! THE REFERENCE: what is foretold -/
theorem sm31 : ∀ r : Nat, r < 32 → ((nI r &&& 31).toBitVec.smod 32).toNat = r := by decide +kernel
theorem shl_bit {r : Nat} (h : r < 31) : (1 : Int32) <<< (nI r &&& 31) = nI (2 ^ r) := by
  have h1 : 1 * 2 ^ r < 2 ^ 32 := by rw [Nat.one_mul]; exact Nat.pow_lt_pow_right (by decide) (by omega)
  have := pk_shlN (n := 1) (nI r &&& 31) r (sm31 r (by omega)) h1
  rw [Nat.one_mul] at this
  exact this
theorem shr_bit {m r : Nat} (h : r < 32) (hm : m < 2147483648) : nI m >>> (nI r &&& 31) = nI (m / 2 ^ r) := pk_shrN (by omega) _ r (sm31 r h)
theorem or_low : ∀ m : Nat, m < 128 → ∀ r : Nat, r < 7 → m < 2 ^ r → nI m ||| nI (2 ^ r) = nI (m + 2 ^ r) := by decide +kernel
theorem or_0 (a : Int32) : a ||| 0 = a := Int32.or_zero
theorem has_eq {m r : Nat} (hr : r < 31) (hm : m < 2147483648) : decide (nI m >>> (nI r &&& 31) &&& 1 = 1) = m.testBit r := by
  rw [shr_bit (by omega) hm]
  have h1 : m / 2 ^ r < 2147483648 := Nat.lt_of_le_of_lt (Nat.div_le_self _ _) hm
  have h2 : nI (m / 2 ^ r) &&& 1 = nI (m / 2 ^ r % 2) := by
    have := pk_andN (n := m / 2 ^ r) (by omega) (m := 1) 1 (by decide)
    rwa [Nat.pow_one] at this
  rw [h2, Nat.testBit_eq_decide_div_mod_eq]
  have h3 := zn_eq (a := m / 2 ^ r % 2) (b := 1) (by omega) (by omega)
  exact decide_eq_decide.mpr h3
/-- the set of those queued, as bits -/
def qN (c : Nat → Int32) : Nat → Nat
  | 0 => 0
  | r + 1 => qN c r + (if c (2 + r) = -1 then 2 ^ r else 0)
theorem qN_lt (c : Nat → Int32) : ∀ n, qN c n < 2 ^ n
  | 0 => Nat.one_pos
  | n + 1 => by
    have := qN_lt c n
    simp only [qN]
    rw [Nat.pow_succ]
    split <;> omega
theorem pow7 {n : Nat} (h : n ≤ 7) : 2 ^ n ≤ 128 := Nat.pow_le_pow_right (by decide) h
/-- behind how many ticks all are off -/
def clF (n k : Nat) : Nat → Nat → (Nat → Int32) → Int32
  | 0, _, _ => -1000000
  | m + 1, d, c => if cntV c 99 n = n then nI d else clF n k m (d + 1) (mTick n k c)
def mClr (n k : Nat) (c : Nat → Int32) : Int32 := clF n k 61 0 c
theorem clF_s {n k d : Nat} {c : Nat → Int32} (h : d < 61) : clF n k (61 - d) d c = if cntV c 99 n = n then nI d else clF n k (61 - (d + 1)) (d + 1) (mTick n k c) := by
  rw [show 61 - d = (61 - (d + 1)) + 1 by omega]; rfl
def ofF (n k j : Nat) : Nat → Nat → (Nat → Int32) → Int32
  | 0, _, _ => -1000000
  | m + 1, d, c => if c (2 + j) = 99 then nI d else ofF n k j m (d + 1) (mTick n k c)
theorem ofF_s {n k j d : Nat} {c : Nat → Int32} (h : d < 61) : ofF n k j (61 - d) d c = if c (2 + j) = 99 then nI d else ofF n k j (61 - (d + 1)) (d + 1) (mTick n k c) := by
  rw [show 61 - d = (61 - (d + 1)) + 1 by omega]; rfl
def mOff (n k : Nat) (c : Nat → Int32) (r : Int32) : Int32 := if mIn r 0 (c 17 - 1) = true then ofF n k r.toNatClampNeg 61 0 c else -1000001
def mClear (n k : Nat) (c : Nat → Int32) : Int32 := if 0 < c 17 then mClr n k c else -1000002
def mAhead (n k : Nat) (c : Nat → Int32) (r d : Int32) : Int32 := if (mIn r 0 (c 17 - 1) && mIn d 0 60) = true then itT n k c d.toNatClampNeg (2 + r.toNatClampNeg) else -1000001
def onF (c : Nat → Int32) (r : Nat) : Int32 := if mOn (c (2 + r)) = true then (1 : Int32) <<< (c (2 + r) &&& 31) else 0
def mLater (n k : Nat) (c : Nat → Int32) (d w : Int32) : Int32 :=
  if 0 < c 17 then
    if (mIn d 0 60 && mIn w 0 1) = true then (if w = 0 then nI (cntV (itT n k c d.toNatClampNeg) 99 n) else orF (onF (itT n k c d.toNatClampNeg)) n)
    else -1000001
  else -1000002

set_option maxHeartbeats 4000000 in
theorem met_X4_has (l : Launch) (D : va_G) (B0 : Nat) (m : Nat) (r : Nat) (hm : m < 2147483648) (hr : r < 31) : Met l yX4_has (ws_ yX4_has cX4_has 2 (some .boolean)) (zRm 1 0 0) (va_Pc [.int (nI m), .int (nI r)] (zPreO B0 D [])) (zQo (S := Unit) (fun _ => True) (fun _ => some (.int (bI (m.testBit r))))) 0 0 (fun _ => False) := by
  refine z_entryo (by decide +kernel) (Nat.le_of_ble_eq_true rfl) (fun pX eX sX mX argsX blX mtX cX QX hQX gX => ?_)
  refine z_eq (lv₂ := [(0, .int (nI m)), (1, .int (nI r))]) (st₂ := []) ?_ rfl rfl
  refine z_iload_n (pc := 0) gX 0 dX4_has_0 rfl rfl ?_
  refine z_iload_n (pc := 1) gX 1 dX4_has_1 rfl rfl ?_
  refine z_ishr (pc := 2) gX dX4_has_2 ?_
  refine z_iconst (pc := 3) gX 1 dX4_has_3 (by decide) ?_
  refine z_iand (pc := 4) gX dX4_has_4 ?_
  refine z_iconst (pc := 5) gX 1 dX4_has_5 (by decide) ?_
  refine z_icmp_ne (pc := 6) gX 13 dX4_has_6 (by decide) (fun c6 => ?_) (fun c6 => ?_)
  · skip
    refine z_iconst (pc := 13) gX 0 dX4_has_13 (by decide) ?_
    exact z_rzo gX hQX (by rw [← has_eq hr hm]; simp [bI, c6]) dX4_has_14
  · skip
    refine z_iconst (pc := 9) gX 1 dX4_has_9 (by decide) ?_
    refine z_goto (pc := 10) gX 14 dX4_has_10 (by decide) ?_
    exact z_rzo gX hQX (by rw [← has_eq hr hm]; simp [bI, c6]) dX4_has_14
theorem hd_X4_has : zHd yX4_has 2 := by unfold zHd; decide +kernel

set_option maxHeartbeats 4000000 in
theorem met_X4_queued (l : Launch) (D : va_G) (B0 : Nat) (o : Nat) (ad : Nat → Nat) (x : Nat → Int32) (c : Nat → Int32) (n : Nat) (hn : c 17 = nI n) (hn7 : n ≤ 7) : Met l yX4_queued (ws_ yX4_queued cX4_queued 3 (some .int)) (zRm 1 0 0) (va_Pc [.ref o] (zPreO B0 D [mOb o ad x, [(ad 5, .inl (D.1 100, 25, .inl c))]])) (zQo (S := Unit) (fun _ => True) (fun _ => some (.int (nI (qN c n))))) 0 0 (fun _ => False) := by
  refine z_entryo (by decide +kernel) (Nat.le_of_ble_eq_true rfl) (fun pX eX sX mX argsX blX mtX cX QX hQX gX => ?_)
  refine z_eq (lv₂ := [(0, .ref o)]) (st₂ := []) ?_ rfl rfl
  refine z_iconst (pc := 0) gX 0 dX4_queued_0 (by decide) ?_
  refine z_istore_n (pc := 1) gX [1, 0] [(0, .ref o), (1, .int 0)] dX4_queued_1 rfl (by decide) rfl ?_
  refine z_iconst (pc := 2) gX 0 dX4_queued_2 (by decide) ?_
  refine z_istore_n (pc := 3) gX [1, 2, 0] [(0, .ref o), (1, .int 0), (2, .int 0)] dX4_queued_3 rfl (by decide) rfl ?_
  have L4 : ∀ (n4 : Nat) (r : Nat) (m : Nat), (r ≤ n) → (m = qN c r) → n - r < n4 → zJ pX l eX (zRm 1 0 0) sX mX argsX blX mtX cX QX 3 (zIo D sX [mOb o ad x, [(ad 5, .inl (D.1 100, 25, .inl c))]]) 0 0 4 [(0, .ref o), (1, .int (nI m)), (2, .int (nI r))] [] := by
    intro n4
    induction n4 with
    | zero => exact fun r m hr hm hm4 => absurd hm4 (Nat.not_lt_zero _)
    | succ n4 ih4 =>
      intro r m hr hm hm4
      refine z_iload_n (pc := 4) gX 2 dX4_queued_4 rfl rfl ?_
      refine z_aload_n (pc := 5) gX 0 dX4_queued_5 rfl rfl ?_
      refine z_get (pc := 6) gX (zIo_ok gX) (zm 0 rfl) (ci := 4) (C := RX4) (T := TX4) (N := 20) rfl in_X4 8 (by decide) q1391 (fun _ h => h) (v := .ref (ad 5)) rfl dX4_queued_6 ?_
      refine z_bipush (pc := 9) gX 17 dX4_queued_9 (by decide) ?_
      refine z_top (nI 17) rfl ?_
      refine z_iald (pc := 11) gX (zIo_ok gX) (j := 17) (n := 25) (f := c) (zm 1 rfl) (by omega) (by decide) dX4_queued_11 ?_
      refine z_top (nI n) hn ?_
      refine z_icmp_ge (pc := 12) gX 43 dX4_queued_12 (by decide) (fun c12 => ?_) (fun c12 => ?_)
      · skip
        have k12 : n ≤ r := (zn_le (a := n) (b := r) (by omega) (by omega)).mp c12
        refine z_iload_n (pc := 43) gX 1 dX4_queued_43 rfl rfl ?_
        exact z_rio gX hQX (by rw [hm, show r = n by omega]) dX4_queued_44
      · skip
        have k12 : r < n := (zn_nle (a := n) (b := r) (by omega) (by omega)).mp c12
        refine z_iload_n (pc := 15) gX 1 dX4_queued_15 rfl rfl ?_
        refine z_aload_n (pc := 16) gX 0 dX4_queued_16 rfl rfl ?_
        refine z_get (pc := 17) gX (zIo_ok gX) (zm 0 rfl) (ci := 4) (C := RX4) (T := TX4) (N := 20) rfl in_X4 8 (by decide) q1391 (fun _ h => h) (v := .ref (ad 5)) rfl dX4_queued_17 ?_
        refine z_iconst (pc := 20) gX 2 dX4_queued_20 (by decide) ?_
        refine z_iload_n (pc := 21) gX 2 dX4_queued_21 rfl rfl ?_
        refine z_iadd (pc := 22) gX dX4_queued_22 ?_
        refine z_top (nI (2 + r)) (nI_add 2 r) ?_
        refine z_iald (pc := 23) gX (zIo_ok gX) (j := (2 + r)) (n := 25) (f := c) (zm 1 rfl) (by omega) (by decide) dX4_queued_23 ?_
        refine z_iconst (pc := 24) gX (-1) dX4_queued_24 (by decide) ?_
        refine z_icmp_ne (pc := 25) gX 34 dX4_queued_25 (by decide) (fun c25 => ?_) (fun c25 => ?_)
        · skip
          refine z_iconst (pc := 34) gX 0 dX4_queued_34 (by decide) ?_
          refine z_ior (pc := 35) gX dX4_queued_35 ?_
          refine z_top (nI m) (or_0 _) ?_
          refine z_istore_n (pc := 36) gX [1, 0, 2] [(0, .ref o), (1, .int (nI m)), (2, .int (nI r))] dX4_queued_36 rfl (by decide) rfl ?_
          refine z_iinc (pc := 37) gX 2 (nI (r + 1)) [1, 2, 0] [(0, .ref o), (1, .int (nI m)), (2, .int (nI (r + 1)))] dX4_queued_37 rfl (nI_1 _) (by decide) rfl ?_
          refine z_goto (pc := 40) gX 4 dX4_queued_40 (by decide) ?_
          exact ih4 (r + 1) m (by omega) (by simp only [qN]; rw [← hm]; simp [c25]) (by omega)
        · skip
          refine z_iconst (pc := 28) gX 1 dX4_queued_28 (by decide) ?_
          refine z_iload_n (pc := 29) gX 2 dX4_queued_29 rfl rfl ?_
          refine z_ishl (pc := 30) gX dX4_queued_30 ?_
          refine z_goto (pc := 31) gX 35 dX4_queued_31 (by decide) ?_
          refine z_ior (pc := 35) gX dX4_queued_35 ?_
          refine z_top (nI (m + 2 ^ r)) (by rw [shl_bit (by omega)]; exact or_low m (by have := pow7 hn7; have := qN_lt c r; have := Nat.pow_le_pow_right (n := 2) (by decide) hr; omega) r (by omega) (by rw [hm]; exact qN_lt c r)) ?_
          refine z_istore_n (pc := 36) gX [1, 0, 2] [(0, .ref o), (1, .int (nI (m + 2 ^ r))), (2, .int (nI r))] dX4_queued_36 rfl (by decide) rfl ?_
          refine z_iinc (pc := 37) gX 2 (nI (r + 1)) [1, 2, 0] [(0, .ref o), (1, .int (nI (m + 2 ^ r))), (2, .int (nI (r + 1)))] dX4_queued_37 rfl (nI_1 _) (by decide) rfl ?_
          refine z_goto (pc := 40) gX 4 dX4_queued_40 (by decide) ?_
          exact ih4 (r + 1) (m + 2 ^ r) (by omega) (by simp only [qN]; rw [← hm]; simp [c25]) (by omega)
  exact L4 ((n - 0) + 1) 0 0 (by omega) rfl (Nat.lt_succ_self _)
theorem hd_X4_queued : zHd yX4_queued 0 := by unfold zHd; decide +kernel

set_option maxHeartbeats 4000000 in
theorem met_X4_clears (l : Launch) (D : va_G) (B0 : Nat) (A : Nat → Prop) (o : Nat) (ad : Nat → Nat) (x : Nat → Int32) (c : Nat → Int32) (wn : Nat → Int32) (n : Nat) (k : Nat) (hn : c 17 = nI n) (hn7 : n ≤ 7) (hk : c 16 = nI k) (hk12 : k ≤ 12) : Met l yX4_clears (ws_ yX4_clears cX4_clears 2 (some .int)) (zRm 5 0 0) (va_Pc [.ref o] (zPre B0 D A [mOb o ad x, [(ad 10, .inl (D.1 100, 25, .inl c))], [(ad 11, .inl (D.1 100, 25, .inl wn))]])) (zQ (S := (Nat → Int32) × (Nat → Int32)) (fun u => (fun (th1 : Nat → Int32) (wn1 : Nat → Int32) => True) u.1 u.2) (fun u => (fun (th1 : Nat → Int32) (wn1 : Nat → Int32) => some (.int (mClr n k c))) u.1 u.2) (fun u => (fun (th1 : Nat → Int32) (wn1 : Nat → Int32) => [mOb o ad x, [(ad 10, .inl (D.1 100, 25, .inl th1))], [(ad 11, .inl (D.1 100, 25, .inl wn1))]]) u.1 u.2) D A) 0 0 A := by
  refine z_entry (by decide +kernel) (Nat.le_of_ble_eq_true rfl) (fun pX eX sX mX argsX blX mtX cX QX hQX gX hAX hnm => ?_)
  refine z_eq (lv₂ := [(0, .ref o)]) (st₂ := []) ?_ rfl rfl
  refine z_iconst (pc := 0) gX 0 dX4_clears_0 (by decide) ?_
  refine z_istore_n (pc := 1) gX [1, 0] [(0, .ref o), (1, .int 0)] dX4_clears_1 rfl (by decide) rfl ?_
  have L2 : ∀ (n2 : Nat) (d : Nat) (th : Nat → Int32) (w : Nat → Int32), (d ≤ 61) → (FrT c th) → (clF n k (61 - d) d th = clF n k 61 0 c) → 61 - d < n2 → zJ pX l eX (zRm 5 0 0) sX mX argsX blX mtX cX QX 2 (zI D A sX [mOb o ad x, [(ad 10, .inl (D.1 100, 25, .inl th))], [(ad 11, .inl (D.1 100, 25, .inl w))]]) 0 0 2 [(0, .ref o), (1, .int (nI d))] [] := by
    intro n2
    induction n2 with
    | zero => exact fun d th w hd hfr hrem hm2 => absurd hm2 (Nat.not_lt_zero _)
    | succ n2 ih2 =>
      intro d th w hd hfr hrem hm2
      refine z_iload_n (pc := 2) gX 1 dX4_clears_2 rfl rfl ?_
      refine z_bipush (pc := 3) gX 60 dX4_clears_3 (by decide) ?_
      refine z_icmp_gt (pc := 5) gX 41 dX4_clears_5 (by decide) (fun c5 => ?_) (fun c5 => ?_)
      · skip
        have k5 : 60 < d := (zn_lt (a := 60) (b := d) (by omega) (by omega)).mp c5
        refine z_ldc (pc := 41) gX q1604 dX4_clears_41 ?_
        exact z_rim gX hQX (th, w) trivial (zsv (by rw [show 61 - d = 0 by omega] at hrem; exact hrem)) rfl (by first | decide | omega) (by first | decide | omega) dX4_clears_43
      · skip
        have k5 : d ≤ 60 := (zn_nlt (a := 60) (b := d) (by omega) (by omega)).mp c5
        refine z_aload_n (pc := 8) gX 0 dX4_clears_8 rfl rfl ?_
        refine z_get (pc := 9) gX (zI_ok gX hAX) (zm 0 rfl) (ci := 4) (C := RX4) (T := TX4) (N := 20) rfl in_X4 14 (by decide) q1397 (fun _ h => h) (v := .ref (ad 10)) rfl dX4_clears_9 ?_
        refine z_cOS (pc := 12) gX (zI_ok gX hAX) [.ref (ad 10)] [] [1] (met_X4_offIn l D B0 (ad 10) th n ((hfr 17 (by omega)).trans hn) (by first | assumption | omega)) q1553 q1554 q54 q1555 hd_X4_offIn ⟨rfl, rfl⟩ ⟨(Nat.le_of_ble_eq_true rfl), (Nat.le_of_ble_eq_true rfl)⟩ rfl rfl rfl (Nat.le_of_ble_eq_true rfl) ⟨(Nat.le_of_ble_eq_true rfl), (Nat.le_of_ble_eq_true rfl)⟩ dX4_clears_12 ?_
        intro _ hu12
        refine z_eq (lv₂ := [(0, .ref o), (1, .int (nI d))]) (st₂ := [.int (nI (cntV th 99 n))]) ?_ rfl rfl
        have hcl := cntV_le th 99 n
        refine z_aload_n (pc := 15) gX 0 dX4_clears_15 rfl rfl ?_
        refine z_get (pc := 16) gX (zI_ok gX hAX) (zm 0 rfl) (ci := 4) (C := RX4) (T := TX4) (N := 20) rfl in_X4 14 (by decide) q1397 (fun _ h => h) (v := .ref (ad 10)) rfl dX4_clears_16 ?_
        refine z_bipush (pc := 19) gX 17 dX4_clears_19 (by decide) ?_
        refine z_top (nI 17) rfl ?_
        refine z_iald (pc := 21) gX (zI_ok gX hAX) (j := 17) (n := 25) (f := th) (zm 1 rfl) (by omega) (by decide) dX4_clears_21 ?_
        refine z_top (nI n) ((hfr 17 (by omega)).trans hn) ?_
        refine z_icmp_ne (pc := 22) gX 27 dX4_clears_22 (by decide) (fun c22 => ?_) (fun c22 => ?_)
        · skip
          have k22 : ¬ cntV th 99 n = n := fun h => c22 ((zn_eq (a := cntV th 99 n) (b := n) (by omega) (by omega)).mpr h)
          refine z_aload_n (pc := 27) gX 0 dX4_clears_27 rfl rfl ?_
          refine z_aload_n (pc := 28) gX 0 dX4_clears_28 rfl rfl ?_
          refine z_get (pc := 29) gX (zI_ok gX hAX) (zm 0 rfl) (ci := 4) (C := RX4) (T := TX4) (N := 20) rfl in_X4 14 (by decide) q1397 (fun _ h => h) (v := .ref (ad 10)) rfl dX4_clears_29 ?_
          refine z_cMV (pc := 32) gX hAX [.ref (ad 10)] [] [0, 2, 1] [] (fun A1 => met_X4_tick l D B0 A1 o ad x (ad 10) w th n k ((hfr 17 (by omega)).trans hn) (by first | assumption | omega) ((hfr 16 (by omega)).trans hk) (by first | assumption | omega)) q1537 q1539 qs37 q54 q1540 (zm 0 rfl) (ci := 4) rfl rfl hd_X4_tick ⟨rfl, rfl⟩ ⟨(Nat.le_of_ble_eq_true rfl), (Nat.le_of_ble_eq_true rfl)⟩ rfl rfl rfl rfl rfl (Nat.le_of_ble_eq_true rfl) ⟨(Nat.le_of_ble_eq_true rfl), (Nat.le_of_ble_eq_true rfl)⟩ dX4_clears_32 ?_
          intro u32 hu32
          obtain ⟨wn1_32, rfl⟩ : ∃ z, z = u32 := ⟨_, rfl⟩
          refine z_re [0, 2, 1] [mOb o ad x, [(ad 10, .inl (D.1 100, 25, .inl (mTick n k th)))], [(ad 11, .inl (D.1 100, 25, .inl wn1_32))]] rfl rfl ?_
          refine z_eq (lv₂ := [(0, .ref o), (1, .int (nI d))]) (st₂ := []) ?_ rfl rfl
          refine z_iinc (pc := 35) gX 1 (nI (d + 1)) [1, 0] [(0, .ref o), (1, .int (nI (d + 1)))] dX4_clears_35 rfl (nI_1 _) (by decide) rfl ?_
          refine z_goto (pc := 38) gX 2 dX4_clears_38 (by decide) ?_
          exact ih2 (d + 1) (mTick n k th) wn1_32 (by omega) (hfr.tr (FrT.tick hn7)) (by rw [clF_s (by omega), if_neg k22] at hrem; exact hrem) (by omega)
        · skip
          have k22 : cntV th 99 n = n := (zn_eq (a := cntV th 99 n) (b := n) (by omega) (by omega)).mp c22
          refine z_iload_n (pc := 25) gX 1 dX4_clears_25 rfl rfl ?_
          exact z_rim gX hQX (th, w) trivial (zsv (by rw [clF_s (by omega), if_pos k22] at hrem; exact hrem)) rfl (by first | decide | omega) (by first | decide | omega) dX4_clears_26
  exact L2 ((61 - 0) + 1) 0 c wn (by omega) FrT.rf rfl (Nat.lt_succ_self _)
theorem hd_X4_clears : zHd yX4_clears 0 := by unfold zHd; decide +kernel

set_option maxHeartbeats 4000000 in
theorem met_X4_clear (l : Launch) (D : va_G) (B0 : Nat) (A : Nat → Prop) (o : Nat) (ad : Nat → Nat) (x : Nat → Int32) (c : Nat → Int32) (th : Nat → Int32) (wn : Nat → Int32) (n : Nat) (k : Nat) (hn : c 17 = nI n) (hn7 : n ≤ 7) (hk : c 16 = nI k) (hk12 : k ≤ 12) : Met l yX4_clear (ws_ yX4_clear cX4_clear 1 (some .int)) (zRm 6 0 0) (va_Pc [.ref o] (zPre B0 D A [mOb o ad x, [(ad 5, .inl (D.1 100, 25, .inl c))], [(ad 10, .inl (D.1 100, 25, .inl th))], [(ad 11, .inl (D.1 100, 25, .inl wn))]])) (zQ (S := (Nat → Int32) × (Nat → Int32)) (fun u => (fun (th1 : Nat → Int32) (wn1 : Nat → Int32) => True) u.1 u.2) (fun u => (fun (th1 : Nat → Int32) (wn1 : Nat → Int32) => some (.int (mClear n k c))) u.1 u.2) (fun u => (fun (th1 : Nat → Int32) (wn1 : Nat → Int32) => [mOb o ad x, [(ad 5, .inl (D.1 100, 25, .inl c))], [(ad 10, .inl (D.1 100, 25, .inl th1))], [(ad 11, .inl (D.1 100, 25, .inl wn1))]]) u.1 u.2) D A) 0 0 A := by
  refine z_entry (by decide +kernel) (Nat.le_of_ble_eq_true rfl) (fun pX eX sX mX argsX blX mtX cX QX hQX gX hAX hnm => ?_)
  refine z_eq (lv₂ := [(0, .ref o)]) (st₂ := []) ?_ rfl rfl
  refine z_aload_n (pc := 0) gX 0 dX4_clear_0 rfl rfl ?_
  refine z_cOV (pc := 1) gX (zI_ok gX hAX) [] [] [0, 1] (met_X4_isStair l D B0 o ad x c ) q1528 q1530 qs35 q54 q1531 (zm 0 rfl) (ci := 4) rfl rfl hd_X4_isStair ⟨rfl, rfl⟩ ⟨(Nat.le_of_ble_eq_true rfl), (Nat.le_of_ble_eq_true rfl)⟩ rfl rfl rfl (Nat.le_of_ble_eq_true rfl) ⟨(Nat.le_of_ble_eq_true rfl), (Nat.le_of_ble_eq_true rfl)⟩ dX4_clear_1 ?_
  intro _ hu1
  refine z_eq (lv₂ := [(0, .ref o)]) (st₂ := [.int (bI (decide (0 < c 17)))]) ?_ rfl rfl
  refine z_if_ne (pc := 4) gX 10 dX4_clear_4 (by decide) (fun c4 => ?_) (fun c4 => ?_)
  · skip
    have k4 : (decide (0 < c 17)) = true := bI_ne0 c4
    refine z_aload_n (pc := 10) gX 0 dX4_clear_10 rfl rfl ?_
    refine z_cMV (pc := 11) gX hAX [] [] [0, 1, 2] [3] (fun A1 => met_X4_starts l D B0 A1 o ad x c th ) q1592 q1594 qs39 q54 q1595 (zm 0 rfl) (ci := 4) rfl rfl hd_X4_starts ⟨rfl, rfl⟩ ⟨(Nat.le_of_ble_eq_true rfl), (Nat.le_of_ble_eq_true rfl)⟩ rfl rfl rfl rfl rfl (Nat.le_of_ble_eq_true rfl) ⟨(Nat.le_of_ble_eq_true rfl), (Nat.le_of_ble_eq_true rfl)⟩ dX4_clear_11 ?_
    intro _ hu11
    refine z_re [0, 1, 2, 3] [mOb o ad x, [(ad 5, .inl (D.1 100, 25, .inl c))], [(ad 10, .inl (D.1 100, 25, .inl c))], [(ad 11, .inl (D.1 100, 25, .inl wn))]] rfl rfl ?_
    refine z_eq (lv₂ := [(0, .ref o)]) (st₂ := []) ?_ rfl rfl
    refine z_aload_n (pc := 14) gX 0 dX4_clear_14 rfl rfl ?_
    refine z_cMV (pc := 15) gX hAX [] [] [0, 2, 3] [1] (fun A1 => met_X4_clears l D B0 A1 o ad x c wn n k (by first | assumption | omega) (by first | assumption | omega) (by first | assumption | omega) (by first | assumption | omega)) q1609 q1611 qs40 q54 q1612 (zm 0 rfl) (ci := 4) rfl rfl hd_X4_clears ⟨rfl, rfl⟩ ⟨(Nat.le_of_ble_eq_true rfl), (Nat.le_of_ble_eq_true rfl)⟩ rfl rfl rfl rfl rfl (Nat.le_of_ble_eq_true rfl) ⟨(Nat.le_of_ble_eq_true rfl), (Nat.le_of_ble_eq_true rfl)⟩ dX4_clear_15 ?_
    intro u15 hu15
    obtain ⟨th1_15, wn1_15⟩ := u15
    refine z_re [0, 3, 1, 2] [mOb o ad x, [(ad 5, .inl (D.1 100, 25, .inl c))], [(ad 10, .inl (D.1 100, 25, .inl th1_15))], [(ad 11, .inl (D.1 100, 25, .inl wn1_15))]] rfl rfl ?_
    refine z_eq (lv₂ := [(0, .ref o)]) (st₂ := [.int (mClr n k c)]) ?_ rfl rfl
    exact z_rim gX hQX (th1_15, wn1_15) trivial (zsv (by simp [mClear, of_decide_eq_true k4])) rfl (by first | decide | omega) (by first | decide | omega) dX4_clear_18
  · skip
    have k4 : (decide (0 < c 17)) = false := bI_eq0 c4
    refine z_ldc (pc := 7) gX q1532 dX4_clear_7 ?_
    exact z_rim gX hQX (th, wn) trivial (zsv (by simp [mClear, of_decide_eq_false k4])) rfl (by first | decide | omega) (by first | decide | omega) dX4_clear_9
theorem hd_X4_clear : zHd yX4_clear 0 := by unfold zHd; decide +kernel

set_option maxHeartbeats 4000000 in
theorem met_X4_off (l : Launch) (D : va_G) (B0 : Nat) (A : Nat → Prop) (o : Nat) (ad : Nat → Nat) (x : Nat → Int32) (c : Nat → Int32) (th : Nat → Int32) (wn : Nat → Int32) (n : Nat) (k : Nat) (r : Int32) (hn : c 17 = nI n) (hn7 : n ≤ 7) (hk : c 16 = nI k) (hk12 : k ≤ 12) : Met l yX4_off (ws_ yX4_off cX4_off 3 (some .int)) (zRm 6 0 0) (va_Pc [.ref o, .int r] (zPre B0 D A [mOb o ad x, [(ad 5, .inl (D.1 100, 25, .inl c))], [(ad 10, .inl (D.1 100, 25, .inl th))], [(ad 11, .inl (D.1 100, 25, .inl wn))]])) (zQ (S := (Nat → Int32) × (Nat → Int32)) (fun u => (fun (th1 : Nat → Int32) (wn1 : Nat → Int32) => True) u.1 u.2) (fun u => (fun (th1 : Nat → Int32) (wn1 : Nat → Int32) => some (.int (mOff n k c r))) u.1 u.2) (fun u => (fun (th1 : Nat → Int32) (wn1 : Nat → Int32) => [mOb o ad x, [(ad 5, .inl (D.1 100, 25, .inl c))], [(ad 10, .inl (D.1 100, 25, .inl th1))], [(ad 11, .inl (D.1 100, 25, .inl wn1))]]) u.1 u.2) D A) 0 0 A := by
  refine z_entry (by decide +kernel) (Nat.le_of_ble_eq_true rfl) (fun pX eX sX mX argsX blX mtX cX QX hQX gX hAX hnm => ?_)
  refine z_eq (lv₂ := [(0, .ref o), (1, .int r)]) (st₂ := []) ?_ rfl rfl
  refine z_aload_n (pc := 0) gX 0 dX4_off_0 rfl rfl ?_
  refine z_iload_n (pc := 1) gX 1 dX4_off_1 rfl rfl ?_
  refine z_cOV (pc := 2) gX (zI_ok gX hAX) [.int r] [] [0, 1] (met_X4_isRider l D B0 o ad x c r ) q1564 q1566 qs38 q54 q1567 (zm 0 rfl) (ci := 4) rfl rfl hd_X4_isRider ⟨rfl, rfl⟩ ⟨(Nat.le_of_ble_eq_true rfl), (Nat.le_of_ble_eq_true rfl)⟩ rfl rfl rfl (Nat.le_of_ble_eq_true rfl) ⟨(Nat.le_of_ble_eq_true rfl), (Nat.le_of_ble_eq_true rfl)⟩ dX4_off_2 ?_
  intro _ hu2
  refine z_eq (lv₂ := [(0, .ref o), (1, .int r)]) (st₂ := [.int (bI (mIn r 0 (c 17 - 1)))]) ?_ rfl rfl
  refine z_if_ne (pc := 5) gX 11 dX4_off_5 (by decide) (fun c5 => ?_) (fun c5 => ?_)
  · skip
    have k5 : (mIn r 0 (c 17 - 1)) = true := bI_ne0 c5
    obtain ⟨j, hjn, rfl⟩ := riderN k5 hn hn7
    refine z_aload_n (pc := 11) gX 0 dX4_off_11 rfl rfl ?_
    refine z_cMV (pc := 12) gX hAX [] [] [0, 1, 2] [3] (fun A1 => met_X4_starts l D B0 A1 o ad x c th ) q1592 q1594 qs39 q54 q1595 (zm 0 rfl) (ci := 4) rfl rfl hd_X4_starts ⟨rfl, rfl⟩ ⟨(Nat.le_of_ble_eq_true rfl), (Nat.le_of_ble_eq_true rfl)⟩ rfl rfl rfl rfl rfl (Nat.le_of_ble_eq_true rfl) ⟨(Nat.le_of_ble_eq_true rfl), (Nat.le_of_ble_eq_true rfl)⟩ dX4_off_12 ?_
    intro _ hu12
    refine z_re [0, 1, 2, 3] [mOb o ad x, [(ad 5, .inl (D.1 100, 25, .inl c))], [(ad 10, .inl (D.1 100, 25, .inl c))], [(ad 11, .inl (D.1 100, 25, .inl wn))]] rfl rfl ?_
    refine z_eq (lv₂ := [(0, .ref o), (1, .int (nI j))]) (st₂ := []) ?_ rfl rfl
    refine z_iconst (pc := 15) gX 0 dX4_off_15 (by decide) ?_
    refine z_istore_n (pc := 16) gX [1, 2, 0] [(0, .ref o), (1, .int (nI j)), (2, .int 0)] dX4_off_16 rfl (by decide) rfl ?_
    have L17 : ∀ (n17 : Nat) (d : Nat) (t2 : Nat → Int32) (w : Nat → Int32), (d ≤ 61) → (FrT c t2) → (ofF n k j (61 - d) d t2 = ofF n k j 61 0 c) → 61 - d < n17 → zJ pX l eX (zRm 6 0 0) sX mX argsX blX mtX cX QX 3 (zI D A sX [mOb o ad x, [(ad 5, .inl (D.1 100, 25, .inl c))], [(ad 10, .inl (D.1 100, 25, .inl t2))], [(ad 11, .inl (D.1 100, 25, .inl w))]]) 0 0 17 [(0, .ref o), (1, .int (nI j)), (2, .int (nI d))] [] := by
      intro n17
      induction n17 with
      | zero => exact fun d t2 w hd hfr hrem hm17 => absurd hm17 (Nat.not_lt_zero _)
      | succ n17 ih17 =>
        intro d t2 w hd hfr hrem hm17
        refine z_iload_n (pc := 17) gX 2 dX4_off_17 rfl rfl ?_
        refine z_bipush (pc := 18) gX 60 dX4_off_18 (by decide) ?_
        refine z_icmp_gt (pc := 20) gX 52 dX4_off_20 (by decide) (fun c20 => ?_) (fun c20 => ?_)
        · skip
          have k20 : 60 < d := (zn_lt (a := 60) (b := d) (by omega) (by omega)).mp c20
          refine z_ldc (pc := 52) gX q1604 dX4_off_52 ?_
          exact z_rim gX hQX (t2, w) trivial (zsv (by rw [show 61 - d = 0 by omega] at hrem; simp only [mOff, k5, if_true, nI_clamp (show j < 2 ^ 31 by omega)]; exact hrem)) rfl (by first | decide | omega) (by first | decide | omega) dX4_off_54
        · skip
          have k20 : d ≤ 60 := (zn_nlt (a := 60) (b := d) (by omega) (by omega)).mp c20
          refine z_aload_n (pc := 23) gX 0 dX4_off_23 rfl rfl ?_
          refine z_get (pc := 24) gX (zI_ok gX hAX) (zm 0 rfl) (ci := 4) (C := RX4) (T := TX4) (N := 20) rfl in_X4 14 (by decide) q1397 (fun _ h => h) (v := .ref (ad 10)) rfl dX4_off_24 ?_
          refine z_iconst (pc := 27) gX 2 dX4_off_27 (by decide) ?_
          refine z_iload_n (pc := 28) gX 1 dX4_off_28 rfl rfl ?_
          refine z_iadd (pc := 29) gX dX4_off_29 ?_
          refine z_top (nI (2 + j)) (nI_add 2 j) ?_
          refine z_iald (pc := 30) gX (zI_ok gX hAX) (j := (2 + j)) (n := 25) (f := t2) (zm 2 rfl) (by omega) (by decide) dX4_off_30 ?_
          refine z_bipush (pc := 31) gX 99 dX4_off_31 (by decide) ?_
          refine z_icmp_ne (pc := 33) gX 38 dX4_off_33 (by decide) (fun c33 => ?_) (fun c33 => ?_)
          · skip
            refine z_aload_n (pc := 38) gX 0 dX4_off_38 rfl rfl ?_
            refine z_aload_n (pc := 39) gX 0 dX4_off_39 rfl rfl ?_
            refine z_get (pc := 40) gX (zI_ok gX hAX) (zm 0 rfl) (ci := 4) (C := RX4) (T := TX4) (N := 20) rfl in_X4 14 (by decide) q1397 (fun _ h => h) (v := .ref (ad 10)) rfl dX4_off_40 ?_
            refine z_cMV (pc := 43) gX hAX [.ref (ad 10)] [] [0, 3, 2] [1] (fun A1 => met_X4_tick l D B0 A1 o ad x (ad 10) w t2 n k ((hfr 17 (by omega)).trans hn) (by first | assumption | omega) ((hfr 16 (by omega)).trans hk) (by first | assumption | omega)) q1537 q1539 qs37 q54 q1540 (zm 0 rfl) (ci := 4) rfl rfl hd_X4_tick ⟨rfl, rfl⟩ ⟨(Nat.le_of_ble_eq_true rfl), (Nat.le_of_ble_eq_true rfl)⟩ rfl rfl rfl rfl rfl (Nat.le_of_ble_eq_true rfl) ⟨(Nat.le_of_ble_eq_true rfl), (Nat.le_of_ble_eq_true rfl)⟩ dX4_off_43 ?_
            intro u43 hu43
            obtain ⟨wn1_43, rfl⟩ : ∃ z, z = u43 := ⟨_, rfl⟩
            refine z_re [0, 3, 2, 1] [mOb o ad x, [(ad 5, .inl (D.1 100, 25, .inl c))], [(ad 10, .inl (D.1 100, 25, .inl (mTick n k t2)))], [(ad 11, .inl (D.1 100, 25, .inl wn1_43))]] rfl rfl ?_
            refine z_eq (lv₂ := [(0, .ref o), (1, .int (nI j)), (2, .int (nI d))]) (st₂ := []) ?_ rfl rfl
            refine z_iinc (pc := 46) gX 2 (nI (d + 1)) [1, 2, 0] [(0, .ref o), (1, .int (nI j)), (2, .int (nI (d + 1)))] dX4_off_46 rfl (nI_1 _) (by decide) rfl ?_
            refine z_goto (pc := 49) gX 17 dX4_off_49 (by decide) ?_
            exact ih17 (d + 1) (mTick n k t2) wn1_43 (by omega) (hfr.tr (FrT.tick hn7)) (by rw [ofF_s (by omega), if_neg c33] at hrem; exact hrem) (by omega)
          · skip
            refine z_iload_n (pc := 36) gX 2 dX4_off_36 rfl rfl ?_
            exact z_rim gX hQX (t2, w) trivial (zsv (by rw [ofF_s (by omega), if_pos c33] at hrem; simp [mOff, k5, nI_clamp (show j < 2 ^ 31 by omega), ← hrem])) rfl (by first | decide | omega) (by first | decide | omega) dX4_off_37
    exact L17 ((61 - 0) + 1) 0 c wn (by omega) FrT.rf rfl (Nat.lt_succ_self _)
  · skip
    have k5 : (mIn r 0 (c 17 - 1)) = false := bI_eq0 c5
    refine z_ldc (pc := 8) gX q1455 dX4_off_8 ?_
    exact z_rim gX hQX (th, wn) trivial (zsv (by simp [mOff, k5])) rfl (by first | decide | omega) (by first | decide | omega) dX4_off_10
theorem hd_X4_off : zHd yX4_off 1 := by unfold zHd; decide +kernel

set_option maxHeartbeats 4000000 in
theorem met_X4_ahead (l : Launch) (D : va_G) (B0 : Nat) (A : Nat → Prop) (o : Nat) (ad : Nat → Nat) (x : Nat → Int32) (c : Nat → Int32) (th : Nat → Int32) (wn : Nat → Int32) (n : Nat) (k : Nat) (r : Int32) (d : Int32) (hn : c 17 = nI n) (hn7 : n ≤ 7) (hk : c 16 = nI k) (hk12 : k ≤ 12) : Met l yX4_ahead (ws_ yX4_ahead cX4_ahead 4 (some .int)) (zRm 6 0 0) (va_Pc [.ref o, .int r, .int d] (zPre B0 D A [mOb o ad x, [(ad 5, .inl (D.1 100, 25, .inl c))], [(ad 10, .inl (D.1 100, 25, .inl th))], [(ad 11, .inl (D.1 100, 25, .inl wn))]])) (zQ (S := (Nat → Int32) × (Nat → Int32)) (fun u => (fun (th1 : Nat → Int32) (wn1 : Nat → Int32) => True) u.1 u.2) (fun u => (fun (th1 : Nat → Int32) (wn1 : Nat → Int32) => some (.int (mAhead n k c r d))) u.1 u.2) (fun u => (fun (th1 : Nat → Int32) (wn1 : Nat → Int32) => [mOb o ad x, [(ad 5, .inl (D.1 100, 25, .inl c))], [(ad 10, .inl (D.1 100, 25, .inl th1))], [(ad 11, .inl (D.1 100, 25, .inl wn1))]]) u.1 u.2) D A) 0 0 A := by
  refine z_entry (by decide +kernel) (Nat.le_of_ble_eq_true rfl) (fun pX eX sX mX argsX blX mtX cX QX hQX gX hAX hnm => ?_)
  refine z_eq (lv₂ := [(0, .ref o), (1, .int r), (2, .int d)]) (st₂ := []) ?_ rfl rfl
  refine z_aload_n (pc := 0) gX 0 dX4_ahead_0 rfl rfl ?_
  refine z_iload_n (pc := 1) gX 1 dX4_ahead_1 rfl rfl ?_
  refine z_cOV (pc := 2) gX (zI_ok gX hAX) [.int r] [] [0, 1] (met_X4_isRider l D B0 o ad x c r ) q1564 q1566 qs38 q54 q1567 (zm 0 rfl) (ci := 4) rfl rfl hd_X4_isRider ⟨rfl, rfl⟩ ⟨(Nat.le_of_ble_eq_true rfl), (Nat.le_of_ble_eq_true rfl)⟩ rfl rfl rfl (Nat.le_of_ble_eq_true rfl) ⟨(Nat.le_of_ble_eq_true rfl), (Nat.le_of_ble_eq_true rfl)⟩ dX4_ahead_2 ?_
  intro _ hu2
  refine z_eq (lv₂ := [(0, .ref o), (1, .int r), (2, .int d)]) (st₂ := [.int (bI (mIn r 0 (c 17 - 1)))]) ?_ rfl rfl
  refine z_if_eq (pc := 5) gX 18 dX4_ahead_5 (by decide) (fun c5 => ?_) (fun c5 => ?_)
  · skip
    have k5 : (mIn r 0 (c 17 - 1)) = false := bI_eq0 c5
    refine z_ldc (pc := 18) gX q1455 dX4_ahead_18 ?_
    exact z_rim gX hQX (th, wn) trivial (zsv (by simp [mAhead, k5])) rfl (by first | decide | omega) (by first | decide | omega) dX4_ahead_20
  · skip
    have k5 : (mIn r 0 (c 17 - 1)) = true := bI_ne0 c5
    obtain ⟨j, hjn, rfl⟩ := riderN k5 hn hn7
    refine z_iload_n (pc := 8) gX 2 dX4_ahead_8 rfl rfl ?_
    refine z_iconst (pc := 9) gX 0 dX4_ahead_9 (by decide) ?_
    refine z_bipush (pc := 10) gX 60 dX4_ahead_10 (by decide) ?_
    refine z_cOS (pc := 12) gX (zI_ok gX hAX) [.int d, .int 0, .int 60] [] [] (met_X4_in l D B0 d 0 60 ) q1452 q1453 q54 q1454 hd_X4_in ⟨rfl, rfl⟩ ⟨(Nat.le_of_ble_eq_true rfl), (Nat.le_of_ble_eq_true rfl)⟩ rfl rfl rfl (Nat.le_of_ble_eq_true rfl) ⟨(Nat.le_of_ble_eq_true rfl), (Nat.le_of_ble_eq_true rfl)⟩ dX4_ahead_12 ?_
    intro _ hu12
    refine z_eq (lv₂ := [(0, .ref o), (1, .int (nI j)), (2, .int d)]) (st₂ := [.int (bI (mIn d 0 60))]) ?_ rfl rfl
    refine z_if_ne (pc := 15) gX 21 dX4_ahead_15 (by decide) (fun c15 => ?_) (fun c15 => ?_)
    · skip
      have k15 : (mIn d 0 60) = true := bI_ne0 c15
      obtain ⟨dd, hdd, rfl⟩ := mIn_nat k15 60 (by decide)
      refine z_aload_n (pc := 21) gX 0 dX4_ahead_21 rfl rfl ?_
      refine z_cMV (pc := 22) gX hAX [] [] [0, 1, 2] [3] (fun A1 => met_X4_starts l D B0 A1 o ad x c th ) q1592 q1594 qs39 q54 q1595 (zm 0 rfl) (ci := 4) rfl rfl hd_X4_starts ⟨rfl, rfl⟩ ⟨(Nat.le_of_ble_eq_true rfl), (Nat.le_of_ble_eq_true rfl)⟩ rfl rfl rfl rfl rfl (Nat.le_of_ble_eq_true rfl) ⟨(Nat.le_of_ble_eq_true rfl), (Nat.le_of_ble_eq_true rfl)⟩ dX4_ahead_22 ?_
      intro _ hu22
      refine z_re [0, 1, 2, 3] [mOb o ad x, [(ad 5, .inl (D.1 100, 25, .inl c))], [(ad 10, .inl (D.1 100, 25, .inl c))], [(ad 11, .inl (D.1 100, 25, .inl wn))]] rfl rfl ?_
      refine z_eq (lv₂ := [(0, .ref o), (1, .int (nI j)), (2, .int (nI dd))]) (st₂ := []) ?_ rfl rfl
      refine z_iconst (pc := 25) gX 0 dX4_ahead_25 (by decide) ?_
      refine z_istore_n (pc := 26) gX [1, 2, 3, 0] [(0, .ref o), (1, .int (nI j)), (2, .int (nI dd)), (3, .int 0)] dX4_ahead_26 rfl (by decide) rfl ?_
      have L27 : ∀ (n27 : Nat) (i27 : Nat) (t2 : Nat → Int32) (w27 : Nat → Int32), (i27 ≤ dd) → (t2 = itT n k c i27) → dd - i27 < n27 → zJ pX l eX (zRm 6 0 0) sX mX argsX blX mtX cX QX 4 (zI D A sX [mOb o ad x, [(ad 5, .inl (D.1 100, 25, .inl c))], [(ad 10, .inl (D.1 100, 25, .inl t2))], [(ad 11, .inl (D.1 100, 25, .inl w27))]]) 0 0 27 [(0, .ref o), (1, .int (nI j)), (2, .int (nI dd)), (3, .int (nI i27))] [] := by
        intro n27
        induction n27 with
        | zero => exact fun i27 t2 w27 hi27 ht27 hm27 => absurd hm27 (Nat.not_lt_zero _)
        | succ n27 ih27 =>
          intro i27 t2 w27 hi27 ht27 hm27
          refine z_iload_n (pc := 27) gX 3 dX4_ahead_27 rfl rfl ?_
          refine z_iload_n (pc := 28) gX 2 dX4_ahead_28 rfl rfl ?_
          refine z_icmp_ge (pc := 29) gX 46 dX4_ahead_29 (by decide) (fun c29 => ?_) (fun c29 => ?_)
          · skip
            have k29 : dd ≤ i27 := (zn_le (a := dd) (b := i27) (by omega) (by omega)).mp c29
            refine z_aload_n (pc := 46) gX 0 dX4_ahead_46 rfl rfl ?_
            refine z_get (pc := 47) gX (zI_ok gX hAX) (zm 0 rfl) (ci := 4) (C := RX4) (T := TX4) (N := 20) rfl in_X4 14 (by decide) q1397 (fun _ h => h) (v := .ref (ad 10)) rfl dX4_ahead_47 ?_
            refine z_iconst (pc := 50) gX 2 dX4_ahead_50 (by decide) ?_
            refine z_iload_n (pc := 51) gX 1 dX4_ahead_51 rfl rfl ?_
            refine z_iadd (pc := 52) gX dX4_ahead_52 ?_
            refine z_top (nI (2 + j)) (nI_add 2 j) ?_
            refine z_iald (pc := 53) gX (zI_ok gX hAX) (j := (2 + j)) (n := 25) (f := t2) (zm 2 rfl) (by omega) (by decide) dX4_ahead_53 ?_
            exact z_rim gX hQX (t2, w27) trivial (zsv (by rw [ht27, show i27 = dd by omega]; simp [mAhead, k5, k15, nI_clamp (show j < 2 ^ 31 by omega), nI_clamp (show dd < 2 ^ 31 by omega)])) rfl (by first | decide | omega) (by first | decide | omega) dX4_ahead_54
          · skip
            have k29 : i27 < dd := (zn_nle (a := dd) (b := i27) (by omega) (by omega)).mp c29
            refine z_aload_n (pc := 32) gX 0 dX4_ahead_32 rfl rfl ?_
            refine z_aload_n (pc := 33) gX 0 dX4_ahead_33 rfl rfl ?_
            refine z_get (pc := 34) gX (zI_ok gX hAX) (zm 0 rfl) (ci := 4) (C := RX4) (T := TX4) (N := 20) rfl in_X4 14 (by decide) q1397 (fun _ h => h) (v := .ref (ad 10)) rfl dX4_ahead_34 ?_
            refine z_cMV (pc := 37) gX hAX [.ref (ad 10)] [] [0, 3, 2] [1] (fun A1 => met_X4_tick l D B0 A1 o ad x (ad 10) w27 t2 n k (by rw [ht27]; exact (FrT.it hn7 _ 17 (by omega)).trans hn) (by first | assumption | omega) (by rw [ht27]; exact (FrT.it hn7 _ 16 (by omega)).trans hk) (by first | assumption | omega)) q1537 q1539 qs37 q54 q1540 (zm 0 rfl) (ci := 4) rfl rfl hd_X4_tick ⟨rfl, rfl⟩ ⟨(Nat.le_of_ble_eq_true rfl), (Nat.le_of_ble_eq_true rfl)⟩ rfl rfl rfl rfl rfl (Nat.le_of_ble_eq_true rfl) ⟨(Nat.le_of_ble_eq_true rfl), (Nat.le_of_ble_eq_true rfl)⟩ dX4_ahead_37 ?_
            intro u37 hu37
            obtain ⟨wn1_37, rfl⟩ : ∃ z, z = u37 := ⟨_, rfl⟩
            refine z_re [0, 3, 2, 1] [mOb o ad x, [(ad 5, .inl (D.1 100, 25, .inl c))], [(ad 10, .inl (D.1 100, 25, .inl (mTick n k t2)))], [(ad 11, .inl (D.1 100, 25, .inl wn1_37))]] rfl rfl ?_
            refine z_eq (lv₂ := [(0, .ref o), (1, .int (nI j)), (2, .int (nI dd)), (3, .int (nI i27))]) (st₂ := []) ?_ rfl rfl
            refine z_iinc (pc := 40) gX 3 (nI (i27 + 1)) [1, 2, 3, 0] [(0, .ref o), (1, .int (nI j)), (2, .int (nI dd)), (3, .int (nI (i27 + 1)))] dX4_ahead_40 rfl (nI_1 _) (by decide) rfl ?_
            refine z_goto (pc := 43) gX 27 dX4_ahead_43 (by decide) ?_
            exact ih27 (i27 + 1) (mTick n k t2) wn1_37 (by omega) (by rw [ht27]; rfl) (by omega)
      exact L27 ((dd - 0) + 1) 0 c wn (by omega) rfl (Nat.lt_succ_self _)
    · skip
      have k15 : (mIn d 0 60) = false := bI_eq0 c15
      refine z_ldc (pc := 18) gX q1455 dX4_ahead_18 ?_
      exact z_rim gX hQX (th, wn) trivial (zsv (by simp [mAhead, k5, k15])) rfl (by first | decide | omega) (by first | decide | omega) dX4_ahead_20
theorem hd_X4_ahead : zHd yX4_ahead 2 := by unfold zHd; decide +kernel

set_option maxHeartbeats 4000000 in
theorem met_X4_later (l : Launch) (D : va_G) (B0 : Nat) (A : Nat → Prop) (o : Nat) (ad : Nat → Nat) (x : Nat → Int32) (c : Nat → Int32) (th : Nat → Int32) (wn : Nat → Int32) (n : Nat) (k : Nat) (d : Int32) (w : Int32) (hn : c 17 = nI n) (hn7 : n ≤ 7) (hk : c 16 = nI k) (hk12 : k ≤ 12) : Met l yX4_later (ws_ yX4_later cX4_later 5 (some .int)) (zRm 6 0 0) (va_Pc [.ref o, .int d, .int w] (zPre B0 D A [mOb o ad x, [(ad 5, .inl (D.1 100, 25, .inl c))], [(ad 10, .inl (D.1 100, 25, .inl th))], [(ad 11, .inl (D.1 100, 25, .inl wn))]])) (zQ (S := (Nat → Int32) × (Nat → Int32)) (fun u => (fun (th1 : Nat → Int32) (wn1 : Nat → Int32) => True) u.1 u.2) (fun u => (fun (th1 : Nat → Int32) (wn1 : Nat → Int32) => some (.int (mLater n k c d w))) u.1 u.2) (fun u => (fun (th1 : Nat → Int32) (wn1 : Nat → Int32) => [mOb o ad x, [(ad 5, .inl (D.1 100, 25, .inl c))], [(ad 10, .inl (D.1 100, 25, .inl th1))], [(ad 11, .inl (D.1 100, 25, .inl wn1))]]) u.1 u.2) D A) 0 0 A := by
  refine z_entry (by decide +kernel) (Nat.le_of_ble_eq_true rfl) (fun pX eX sX mX argsX blX mtX cX QX hQX gX hAX hnm => ?_)
  refine z_eq (lv₂ := [(0, .ref o), (1, .int d), (2, .int w)]) (st₂ := []) ?_ rfl rfl
  refine z_aload_n (pc := 0) gX 0 dX4_later_0 rfl rfl ?_
  refine z_cOV (pc := 1) gX (zI_ok gX hAX) [] [] [0, 1] (met_X4_isStair l D B0 o ad x c ) q1528 q1530 qs35 q54 q1531 (zm 0 rfl) (ci := 4) rfl rfl hd_X4_isStair ⟨rfl, rfl⟩ ⟨(Nat.le_of_ble_eq_true rfl), (Nat.le_of_ble_eq_true rfl)⟩ rfl rfl rfl (Nat.le_of_ble_eq_true rfl) ⟨(Nat.le_of_ble_eq_true rfl), (Nat.le_of_ble_eq_true rfl)⟩ dX4_later_1 ?_
  intro _ hu1
  refine z_eq (lv₂ := [(0, .ref o), (1, .int d), (2, .int w)]) (st₂ := [.int (bI (decide (0 < c 17)))]) ?_ rfl rfl
  refine z_if_ne (pc := 4) gX 10 dX4_later_4 (by decide) (fun c4 => ?_) (fun c4 => ?_)
  · skip
    have k4 : (decide (0 < c 17)) = true := bI_ne0 c4
    refine z_iload_n (pc := 10) gX 1 dX4_later_10 rfl rfl ?_
    refine z_iconst (pc := 11) gX 0 dX4_later_11 (by decide) ?_
    refine z_bipush (pc := 12) gX 60 dX4_later_12 (by decide) ?_
    refine z_cOS (pc := 14) gX (zI_ok gX hAX) [.int d, .int 0, .int 60] [] [] (met_X4_in l D B0 d 0 60 ) q1452 q1453 q54 q1454 hd_X4_in ⟨rfl, rfl⟩ ⟨(Nat.le_of_ble_eq_true rfl), (Nat.le_of_ble_eq_true rfl)⟩ rfl rfl rfl (Nat.le_of_ble_eq_true rfl) ⟨(Nat.le_of_ble_eq_true rfl), (Nat.le_of_ble_eq_true rfl)⟩ dX4_later_14 ?_
    intro _ hu14
    refine z_eq (lv₂ := [(0, .ref o), (1, .int d), (2, .int w)]) (st₂ := [.int (bI (mIn d 0 60))]) ?_ rfl rfl
    refine z_if_eq (pc := 17) gX 29 dX4_later_17 (by decide) (fun c17 => ?_) (fun c17 => ?_)
    · skip
      have k17 : (mIn d 0 60) = false := bI_eq0 c17
      refine z_ldc (pc := 29) gX q1455 dX4_later_29 ?_
      exact z_rim gX hQX (th, wn) trivial (zsv (by simp [mLater, of_decide_eq_true k4, k4, k17])) rfl (by first | decide | omega) (by first | decide | omega) dX4_later_31
    · skip
      have k17 : (mIn d 0 60) = true := bI_ne0 c17
      obtain ⟨dd, hdd, rfl⟩ := mIn_nat k17 60 (by decide)
      refine z_iload_n (pc := 20) gX 2 dX4_later_20 rfl rfl ?_
      refine z_iconst (pc := 21) gX 0 dX4_later_21 (by decide) ?_
      refine z_iconst (pc := 22) gX 1 dX4_later_22 (by decide) ?_
      refine z_cOS (pc := 23) gX (zI_ok gX hAX) [.int w, .int 0, .int 1] [] [] (met_X4_in l D B0 w 0 1 ) q1452 q1453 q54 q1454 hd_X4_in ⟨rfl, rfl⟩ ⟨(Nat.le_of_ble_eq_true rfl), (Nat.le_of_ble_eq_true rfl)⟩ rfl rfl rfl (Nat.le_of_ble_eq_true rfl) ⟨(Nat.le_of_ble_eq_true rfl), (Nat.le_of_ble_eq_true rfl)⟩ dX4_later_23 ?_
      intro _ hu23
      refine z_eq (lv₂ := [(0, .ref o), (1, .int (nI dd)), (2, .int w)]) (st₂ := [.int (bI (mIn w 0 1))]) ?_ rfl rfl
      refine z_if_ne (pc := 26) gX 32 dX4_later_26 (by decide) (fun c26 => ?_) (fun c26 => ?_)
      · skip
        have k26 : (mIn w 0 1) = true := bI_ne0 c26
        refine z_aload_n (pc := 32) gX 0 dX4_later_32 rfl rfl ?_
        refine z_cMV (pc := 33) gX hAX [] [] [0, 1, 2] [3] (fun A1 => met_X4_starts l D B0 A1 o ad x c th ) q1592 q1594 qs39 q54 q1595 (zm 0 rfl) (ci := 4) rfl rfl hd_X4_starts ⟨rfl, rfl⟩ ⟨(Nat.le_of_ble_eq_true rfl), (Nat.le_of_ble_eq_true rfl)⟩ rfl rfl rfl rfl rfl (Nat.le_of_ble_eq_true rfl) ⟨(Nat.le_of_ble_eq_true rfl), (Nat.le_of_ble_eq_true rfl)⟩ dX4_later_33 ?_
        intro _ hu33
        refine z_re [0, 1, 2, 3] [mOb o ad x, [(ad 5, .inl (D.1 100, 25, .inl c))], [(ad 10, .inl (D.1 100, 25, .inl c))], [(ad 11, .inl (D.1 100, 25, .inl wn))]] rfl rfl ?_
        refine z_eq (lv₂ := [(0, .ref o), (1, .int (nI dd)), (2, .int w)]) (st₂ := []) ?_ rfl rfl
        refine z_iconst (pc := 36) gX 0 dX4_later_36 (by decide) ?_
        refine z_istore_n (pc := 37) gX [1, 2, 3, 0] [(0, .ref o), (1, .int (nI dd)), (2, .int w), (3, .int 0)] dX4_later_37 rfl (by decide) rfl ?_
        have L38 : ∀ (n38 : Nat) (i38 : Nat) (t2 : Nat → Int32) (w38 : Nat → Int32), (i38 ≤ dd) → (t2 = itT n k c i38) → dd - i38 < n38 → zJ pX l eX (zRm 6 0 0) sX mX argsX blX mtX cX QX 5 (zI D A sX [mOb o ad x, [(ad 5, .inl (D.1 100, 25, .inl c))], [(ad 10, .inl (D.1 100, 25, .inl t2))], [(ad 11, .inl (D.1 100, 25, .inl w38))]]) 0 0 38 [(0, .ref o), (1, .int (nI dd)), (2, .int w), (3, .int (nI i38))] [] := by
          intro n38
          induction n38 with
          | zero => exact fun i38 t2 w38 hi38 ht38 hm38 => absurd hm38 (Nat.not_lt_zero _)
          | succ n38 ih38 =>
            intro i38 t2 w38 hi38 ht38 hm38
            refine z_iload_n (pc := 38) gX 3 dX4_later_38 rfl rfl ?_
            refine z_iload_n (pc := 39) gX 1 dX4_later_39 rfl rfl ?_
            refine z_icmp_ge (pc := 40) gX 57 dX4_later_40 (by decide) (fun c40 => ?_) (fun c40 => ?_)
            · skip
              have k40 : dd ≤ i38 := (zn_le (a := dd) (b := i38) (by omega) (by omega)).mp c40
              refine z_iconst (pc := 57) gX 0 dX4_later_57 (by decide) ?_
              refine z_istore_n (pc := 58) gX [1, 2, 3, 0] [(0, .ref o), (1, .int (nI dd)), (2, .int w), (3, .int 0)] dX4_later_58 rfl (by decide) rfl ?_
              refine z_iconst (pc := 59) gX 0 dX4_later_59 (by decide) ?_
              refine z_istore (pc := 60) gX [1, 2, 3, 4, 0] [(0, .ref o), (1, .int (nI dd)), (2, .int w), (3, .int 0), (4, .int 0)] dX4_later_60 (by decide) rfl ?_
              have L62 : ∀ (n62 : Nat) (r : Nat) (v : Int32), (r ≤ n) → (v = orF (onF t2) r) → n - r < n62 → zJ pX l eX (zRm 6 0 0) sX mX argsX blX mtX cX QX 5 (zI D A sX [mOb o ad x, [(ad 5, .inl (D.1 100, 25, .inl c))], [(ad 10, .inl (D.1 100, 25, .inl t2))], [(ad 11, .inl (D.1 100, 25, .inl w38))]]) 0 0 62 [(0, .ref o), (1, .int (nI dd)), (2, .int w), (3, .int v), (4, .int (nI r))] [] := by
                intro n62
                induction n62 with
                | zero => exact fun r v hr hv hm62 => absurd hm62 (Nat.not_lt_zero _)
                | succ n62 ih62 =>
                  intro r v hr hv hm62
                  refine z_iload (pc := 62) gX 4 dX4_later_62 rfl ?_
                  refine z_aload_n (pc := 64) gX 0 dX4_later_64 rfl rfl ?_
                  refine z_get (pc := 65) gX (zI_ok gX hAX) (zm 0 rfl) (ci := 4) (C := RX4) (T := TX4) (N := 20) rfl in_X4 8 (by decide) q1391 (fun _ h => h) (v := .ref (ad 5)) rfl dX4_later_65 ?_
                  refine z_bipush (pc := 68) gX 17 dX4_later_68 (by decide) ?_
                  refine z_top (nI 17) rfl ?_
                  refine z_iald (pc := 70) gX (zI_ok gX hAX) (j := 17) (n := 25) (f := c) (zm 1 rfl) (by omega) (by decide) dX4_later_70 ?_
                  refine z_top (nI n) hn ?_
                  refine z_icmp_ge (pc := 71) gX 113 dX4_later_71 (by decide) (fun c71 => ?_) (fun c71 => ?_)
                  · skip
                    have k71 : n ≤ r := (zn_le (a := n) (b := r) (by omega) (by omega)).mp c71
                    refine z_iload_n (pc := 113) gX 2 dX4_later_113 rfl rfl ?_
                    refine z_if_ne (pc := 114) gX 127 dX4_later_114 (by decide) (fun c114 => ?_) (fun c114 => ?_)
                    · skip
                      refine z_iload_n (pc := 127) gX 3 dX4_later_127 rfl rfl ?_
                      exact z_rim gX hQX (t2, w38) trivial (zsv (by rw [hv, show r = n by omega]; simp [mLater, of_decide_eq_true k4, k17, k26, c114, nI_clamp (show dd < 2 ^ 31 by omega), ht38, show i38 = dd by omega])) rfl (by first | decide | omega) (by first | decide | omega) dX4_later_128
                    · skip
                      refine z_aload_n (pc := 117) gX 0 dX4_later_117 rfl rfl ?_
                      refine z_get (pc := 118) gX (zI_ok gX hAX) (zm 0 rfl) (ci := 4) (C := RX4) (T := TX4) (N := 20) rfl in_X4 14 (by decide) q1397 (fun _ h => h) (v := .ref (ad 10)) rfl dX4_later_118 ?_
                      refine z_cOS (pc := 121) gX (zI_ok gX hAX) [.ref (ad 10)] [] [2] (met_X4_offIn l D B0 (ad 10) t2 n (by rw [ht38]; exact (FrT.it hn7 _ 17 (by omega)).trans hn) (by first | assumption | omega)) q1553 q1554 q54 q1555 hd_X4_offIn ⟨rfl, rfl⟩ ⟨(Nat.le_of_ble_eq_true rfl), (Nat.le_of_ble_eq_true rfl)⟩ rfl rfl rfl (Nat.le_of_ble_eq_true rfl) ⟨(Nat.le_of_ble_eq_true rfl), (Nat.le_of_ble_eq_true rfl)⟩ dX4_later_121 ?_
                      intro _ hu121
                      refine z_eq (lv₂ := [(0, .ref o), (1, .int (nI dd)), (2, .int w), (3, .int v), (4, .int (nI r))]) (st₂ := [.int (nI (cntV t2 99 n))]) ?_ rfl rfl
                      refine z_goto (pc := 124) gX 128 dX4_later_124 (by decide) ?_
                      exact z_rim gX hQX (t2, w38) trivial (zsv (by subst c114; simp [mLater, of_decide_eq_true k4, k17, k26, nI_clamp (show dd < 2 ^ 31 by omega), ht38, show i38 = dd by omega])) rfl (by first | decide | omega) (by first | decide | omega) dX4_later_128
                  · skip
                    have k71 : r < n := (zn_nle (a := n) (b := r) (by omega) (by omega)).mp c71
                    refine z_iload_n (pc := 74) gX 3 dX4_later_74 rfl rfl ?_
                    refine z_aload_n (pc := 75) gX 0 dX4_later_75 rfl rfl ?_
                    refine z_get (pc := 76) gX (zI_ok gX hAX) (zm 0 rfl) (ci := 4) (C := RX4) (T := TX4) (N := 20) rfl in_X4 14 (by decide) q1397 (fun _ h => h) (v := .ref (ad 10)) rfl dX4_later_76 ?_
                    refine z_iconst (pc := 79) gX 2 dX4_later_79 (by decide) ?_
                    refine z_iload (pc := 80) gX 4 dX4_later_80 rfl ?_
                    refine z_iadd (pc := 82) gX dX4_later_82 ?_
                    refine z_top (nI (2 + r)) (nI_add 2 r) ?_
                    refine z_iald (pc := 83) gX (zI_ok gX hAX) (j := (2 + r)) (n := 25) (f := t2) (zm 2 rfl) (by omega) (by decide) dX4_later_83 ?_
                    refine z_cOS (pc := 84) gX (zI_ok gX hAX) [.int (t2 (2 + r))] [.int v] [] (met_X4_isOn l D B0 (t2 (2 + r)) ) q1550 q1551 q54 q1552 hd_X4_isOn ⟨rfl, rfl⟩ ⟨(Nat.le_of_ble_eq_true rfl), (Nat.le_of_ble_eq_true rfl)⟩ rfl rfl rfl (Nat.le_of_ble_eq_true rfl) ⟨(Nat.le_of_ble_eq_true rfl), (Nat.le_of_ble_eq_true rfl)⟩ dX4_later_84 ?_
                    intro _ hu84
                    refine z_eq (lv₂ := [(0, .ref o), (1, .int (nI dd)), (2, .int w), (3, .int v), (4, .int (nI r))]) (st₂ := [.int (bI (mOn (t2 (2 + r)))), .int v]) ?_ rfl rfl
                    refine z_if_eq (pc := 87) gX 104 dX4_later_87 (by decide) (fun c87 => ?_) (fun c87 => ?_)
                    · skip
                      have k87 : (mOn (t2 (2 + r))) = false := bI_eq0 c87
                      refine z_iconst (pc := 104) gX 0 dX4_later_104 (by decide) ?_
                      refine z_ior (pc := 105) gX dX4_later_105 ?_
                      refine z_istore_n (pc := 106) gX [1, 2, 3, 0, 4] [(0, .ref o), (1, .int (nI dd)), (2, .int w), (3, .int (v ||| 0)), (4, .int (nI r))] dX4_later_106 rfl (by decide) rfl ?_
                      refine z_iinc (pc := 107) gX 4 (nI (r + 1)) [1, 2, 3, 4, 0] [(0, .ref o), (1, .int (nI dd)), (2, .int w), (3, .int (v ||| 0)), (4, .int (nI (r + 1)))] dX4_later_107 rfl (nI_1 _) (by decide) rfl ?_
                      refine z_goto (pc := 110) gX 62 dX4_later_110 (by decide) ?_
                      exact ih62 (r + 1) (v ||| 0) (by omega) (by simp only [orF]; rw [← hv]; simp [onF, k87]) (by omega)
                    · skip
                      have k87 : (mOn (t2 (2 + r))) = true := bI_ne0 c87
                      refine z_iconst (pc := 90) gX 1 dX4_later_90 (by decide) ?_
                      refine z_aload_n (pc := 91) gX 0 dX4_later_91 rfl rfl ?_
                      refine z_get (pc := 92) gX (zI_ok gX hAX) (zm 0 rfl) (ci := 4) (C := RX4) (T := TX4) (N := 20) rfl in_X4 14 (by decide) q1397 (fun _ h => h) (v := .ref (ad 10)) rfl dX4_later_92 ?_
                      refine z_iconst (pc := 95) gX 2 dX4_later_95 (by decide) ?_
                      refine z_iload (pc := 96) gX 4 dX4_later_96 rfl ?_
                      refine z_iadd (pc := 98) gX dX4_later_98 ?_
                      refine z_top (nI (2 + r)) (nI_add 2 r) ?_
                      refine z_iald (pc := 99) gX (zI_ok gX hAX) (j := (2 + r)) (n := 25) (f := t2) (zm 2 rfl) (by omega) (by decide) dX4_later_99 ?_
                      refine z_ishl (pc := 100) gX dX4_later_100 ?_
                      refine z_goto (pc := 101) gX 105 dX4_later_101 (by decide) ?_
                      refine z_ior (pc := 105) gX dX4_later_105 ?_
                      refine z_istore_n (pc := 106) gX [1, 2, 3, 0, 4] [(0, .ref o), (1, .int (nI dd)), (2, .int w), (3, .int (v ||| (1 <<< ((t2 (2 + r)) &&& 31)))), (4, .int (nI r))] dX4_later_106 rfl (by decide) rfl ?_
                      refine z_iinc (pc := 107) gX 4 (nI (r + 1)) [1, 2, 3, 4, 0] [(0, .ref o), (1, .int (nI dd)), (2, .int w), (3, .int (v ||| (1 <<< ((t2 (2 + r)) &&& 31)))), (4, .int (nI (r + 1)))] dX4_later_107 rfl (nI_1 _) (by decide) rfl ?_
                      refine z_goto (pc := 110) gX 62 dX4_later_110 (by decide) ?_
                      exact ih62 (r + 1) (v ||| (1 <<< ((t2 (2 + r)) &&& 31))) (by omega) (by simp only [orF]; rw [← hv]; simp [onF, k87]) (by omega)
              exact L62 ((n - 0) + 1) 0 0 (by omega) rfl (Nat.lt_succ_self _)
            · skip
              have k40 : i38 < dd := (zn_nle (a := dd) (b := i38) (by omega) (by omega)).mp c40
              refine z_aload_n (pc := 43) gX 0 dX4_later_43 rfl rfl ?_
              refine z_aload_n (pc := 44) gX 0 dX4_later_44 rfl rfl ?_
              refine z_get (pc := 45) gX (zI_ok gX hAX) (zm 0 rfl) (ci := 4) (C := RX4) (T := TX4) (N := 20) rfl in_X4 14 (by decide) q1397 (fun _ h => h) (v := .ref (ad 10)) rfl dX4_later_45 ?_
              refine z_cMV (pc := 48) gX hAX [.ref (ad 10)] [] [0, 3, 2] [1] (fun A1 => met_X4_tick l D B0 A1 o ad x (ad 10) w38 t2 n k (by rw [ht38]; exact (FrT.it hn7 _ 17 (by omega)).trans hn) (by first | assumption | omega) (by rw [ht38]; exact (FrT.it hn7 _ 16 (by omega)).trans hk) (by first | assumption | omega)) q1537 q1539 qs37 q54 q1540 (zm 0 rfl) (ci := 4) rfl rfl hd_X4_tick ⟨rfl, rfl⟩ ⟨(Nat.le_of_ble_eq_true rfl), (Nat.le_of_ble_eq_true rfl)⟩ rfl rfl rfl rfl rfl (Nat.le_of_ble_eq_true rfl) ⟨(Nat.le_of_ble_eq_true rfl), (Nat.le_of_ble_eq_true rfl)⟩ dX4_later_48 ?_
              intro u48 hu48
              obtain ⟨wn1_48, rfl⟩ : ∃ z, z = u48 := ⟨_, rfl⟩
              refine z_re [0, 3, 2, 1] [mOb o ad x, [(ad 5, .inl (D.1 100, 25, .inl c))], [(ad 10, .inl (D.1 100, 25, .inl (mTick n k t2)))], [(ad 11, .inl (D.1 100, 25, .inl wn1_48))]] rfl rfl ?_
              refine z_eq (lv₂ := [(0, .ref o), (1, .int (nI dd)), (2, .int w), (3, .int (nI i38))]) (st₂ := []) ?_ rfl rfl
              refine z_iinc (pc := 51) gX 3 (nI (i38 + 1)) [1, 2, 3, 0] [(0, .ref o), (1, .int (nI dd)), (2, .int w), (3, .int (nI (i38 + 1)))] dX4_later_51 rfl (nI_1 _) (by decide) rfl ?_
              refine z_goto (pc := 54) gX 38 dX4_later_54 (by decide) ?_
              exact ih38 (i38 + 1) (mTick n k t2) wn1_48 (by omega) (by rw [ht38]; rfl) (by omega)
        exact L38 ((dd - 0) + 1) 0 c wn (by omega) rfl (Nat.lt_succ_self _)
      · skip
        have k26 : (mIn w 0 1) = false := bI_eq0 c26
        refine z_ldc (pc := 29) gX q1455 dX4_later_29 ?_
        exact z_rim gX hQX (th, wn) trivial (zsv (by simp [mLater, of_decide_eq_true k4, k4, k17, k26])) rfl (by first | decide | omega) (by first | decide | omega) dX4_later_31
  · skip
    have k4 : (decide (0 < c 17)) = false := bI_eq0 c4
    refine z_ldc (pc := 7) gX q1532 dX4_later_7 ?_
    exact z_rim gX hQX (th, wn) trivial (zsv (by simp [mLater, of_decide_eq_false k4])) rfl (by first | decide | omega) (by first | decide | omega) dX4_later_9
theorem hd_X4_later : zHd yX4_later 2 := by unfold zHd; decide +kernel

