set_option maxRecDepth 100000
/-! THE REFERENCE: ticks, taken, sorting, absent -/
def tknS (n k : Nat) (c : Nat → Int32) (r : Nat) (t : Int32 × Int32) : Int32 × Int32 :=
  if ¬ mClr n k (upd c (2 + r) 99) = -1000000 ∧ (t.2 = -1000000 ∨ mClr n k (upd c (2 + r) 99) < t.2) then (nI r, mClr n k (upd c (2 + r) 99)) else t
def tknP (n k : Nat) (c : Nat → Int32) : Nat → Int32 × Int32
  | 0 => (-1000000, mClr n k c)
  | r + 1 => tknS n k c r (tknP n k c r)
def mTaken (n k : Nat) (c : Nat → Int32) (w : Int32) : Int32 :=
  if 0 < c 17 then
    if mIn w 0 1 = true then (if (tknP n k c n).1 = -1000000 ∨ w = 0 then (tknP n k c n).1 else (tknP n k c n).2)
    else -1000001
  else -1000002
theorem sub_iff : ∀ a : Nat, a < 128 → ∀ b : Nat, b < 128 → (nI a &&& (nI b ^^^ (-1)) = 0 ↔ a &&& b = a) := by decide +kernel
def layQ (c : Nat → Int32) (W s : Nat) : Nat → (Nat → Int32)
  | 0 => c
  | r + 1 => if W.testBit r = true then upd (layQ c W s r) (9 + r) (nI (s / 2 ^ r % 2)) else layQ c W s r
theorem layQ_fr {c : Nat → Int32} {W s : Nat} : ∀ n, n ≤ 7 → ∀ j, (j < 9 ∨ 16 ≤ j) → layQ c W s n j = c j
  | 0, _, _, _ => rfl
  | n + 1, h, j, hj => by
    simp only [layQ]
    split
    · rw [pk_un (by omega)]; exact layQ_fr n (by omega) j hj
    · exact layQ_fr n (by omega) j hj
def srtS (n k : Nat) (c : Nat → Int32) (W s : Nat) (t : Int32 × Int32) : Int32 × Int32 :=
  if s &&& W = s then
    if ¬ mClr n k (layQ c W s n) = -1000000 ∧ (t.2 = -1000000 ∨ mClr n k (layQ c W s n) < t.2) then (nI s, mClr n k (layQ c W s n)) else t
  else t
def srtP (n k : Nat) (c : Nat → Int32) (W : Nat) : Nat → Int32 × Int32
  | 0 => (-1000000, -1000000)
  | s + 1 => srtS n k c W s (srtP n k c W s)
def mSorting (n k : Nat) (c : Nat → Int32) (w : Int32) : Int32 :=
  if 0 < c 17 then
    if mIn w 0 1 = true then (if w = 0 then (srtP n k c (qN c n) (2 ^ n)).2 else (srtP n k c (qN c n) (2 ^ n)).1)
    else -1000001
  else -1000002
theorem bit_eq {s r : Nat} (hr : r < 31) (hs : s < 2147483648) : nI s >>> (nI r &&& 31) &&& 1 = nI (s / 2 ^ r % 2) := by
  rw [shr_bit (by omega) hs]
  have h1 : s / 2 ^ r < 2147483648 := Nat.lt_of_le_of_lt (Nat.div_le_self _ _) hs
  have := pk_andN (n := s / 2 ^ r) (by omega) (m := 1) 1 (by decide)
  rwa [Nat.pow_one] at this

set_option maxHeartbeats 4000000 in
theorem met_X4_ticks (l : Launch) (D : va_G) (B0 : Nat) (A : Nat → Prop) (o : Nat) (ad : Nat → Nat) (x : Nat → Int32) (c : Nat → Int32) (pa : Nat → Int32) (wn : Nat → Int32) (n : Nat) (k : Nat) (kn : Nat) (v : Int32) (hn : c 17 = nI n) (hn7 : n ≤ 7) (hk : c 16 = nI k) (hk12 : k ≤ 12) (hkn : x 3 = nI kn) (hkn24 : kn ≤ 24) : Met l yX4_ticks (ws_ yX4_ticks cX4_ticks 3 (some .int)) (zRm 5 0 0) (va_Pc [.ref o, .int v] (zPre B0 D A [mOb o ad x, [(ad 5, .inl (D.1 100, 25, .inl c))], [(ad 9, .inl (D.1 100, 384, .inl pa))], [(ad 11, .inl (D.1 100, 25, .inl wn))]])) (zQ (S := Int32 × (Nat → Int32) × (Nat → Int32) × (Nat → Int32) × (Nat → Int32)) (fun u => (fun (r_ : Int32) (x1 : Nat → Int32) (pa1 : Nat → Int32) (c1 : Nat → Int32) (wn1 : Nat → Int32) => (r_, x1, pa1, c1) = mTicks n k kn x pa c v) u.1 u.2.1 u.2.2.1 u.2.2.2.1 u.2.2.2.2) (fun u => (fun (r_ : Int32) (x1 : Nat → Int32) (pa1 : Nat → Int32) (c1 : Nat → Int32) (wn1 : Nat → Int32) => some (.int r_)) u.1 u.2.1 u.2.2.1 u.2.2.2.1 u.2.2.2.2) (fun u => (fun (r_ : Int32) (x1 : Nat → Int32) (pa1 : Nat → Int32) (c1 : Nat → Int32) (wn1 : Nat → Int32) => [mOb o ad x1, [(ad 5, .inl (D.1 100, 25, .inl c1))], [(ad 9, .inl (D.1 100, 384, .inl pa1))], [(ad 11, .inl (D.1 100, 25, .inl wn1))]]) u.1 u.2.1 u.2.2.1 u.2.2.2.1 u.2.2.2.2) D A) 0 0 A := by
  refine z_entry (by decide +kernel) (Nat.le_of_ble_eq_true rfl) (fun pX eX sX mX argsX blX mtX cX QX hQX gX hAX hnm => ?_)
  refine z_eq (lv₂ := [(0, .ref o), (1, .int v)]) (st₂ := []) ?_ rfl rfl
  refine z_aload_n (pc := 0) gX 0 dX4_ticks_0 rfl rfl ?_
  refine z_cOV (pc := 1) gX (zI_ok gX hAX) [] [] [0, 1] (met_X4_isStair l D B0 o ad x c ) q1528 q1530 qs35 q54 q1531 (zm 0 rfl) (ci := 4) rfl rfl hd_X4_isStair ⟨rfl, rfl⟩ ⟨(Nat.le_of_ble_eq_true rfl), (Nat.le_of_ble_eq_true rfl)⟩ rfl rfl rfl (Nat.le_of_ble_eq_true rfl) ⟨(Nat.le_of_ble_eq_true rfl), (Nat.le_of_ble_eq_true rfl)⟩ dX4_ticks_1 ?_
  intro _ hu1
  refine z_eq (lv₂ := [(0, .ref o), (1, .int v)]) (st₂ := [.int (bI (decide (0 < c 17)))]) ?_ rfl rfl
  refine z_if_ne (pc := 4) gX 10 dX4_ticks_4 (by decide) (fun c4 => ?_) (fun c4 => ?_)
  · skip
    have k4 : (decide (0 < c 17)) = true := bI_ne0 c4
    refine z_iload_n (pc := 10) gX 1 dX4_ticks_10 rfl rfl ?_
    refine z_iconst (pc := 11) gX 1 dX4_ticks_11 (by decide) ?_
    refine z_bipush (pc := 12) gX 24 dX4_ticks_12 (by decide) ?_
    refine z_cOS (pc := 14) gX (zI_ok gX hAX) [.int v, .int 1, .int 24] [] [] (met_X4_in l D B0 v 1 24 ) q1452 q1453 q54 q1454 hd_X4_in ⟨rfl, rfl⟩ ⟨(Nat.le_of_ble_eq_true rfl), (Nat.le_of_ble_eq_true rfl)⟩ rfl rfl rfl (Nat.le_of_ble_eq_true rfl) ⟨(Nat.le_of_ble_eq_true rfl), (Nat.le_of_ble_eq_true rfl)⟩ dX4_ticks_14 ?_
    intro _ hu14
    refine z_eq (lv₂ := [(0, .ref o), (1, .int v)]) (st₂ := [.int (bI (mIn v 1 24))]) ?_ rfl rfl
    refine z_if_ne (pc := 17) gX 23 dX4_ticks_17 (by decide) (fun c17 => ?_) (fun c17 => ?_)
    · skip
      have k17 : (mIn v 1 24) = true := bI_ne0 c17
      obtain ⟨dd, hdd, rfl⟩ := mIn_nat1 k17 24 (by decide)
      refine z_aload_n (pc := 23) gX 0 dX4_ticks_23 rfl rfl ?_
      refine z_get (pc := 24) gX (zI_ok gX hAX) (zm 0 rfl) (ci := 4) (C := RX4) (T := TX4) (N := 20) rfl in_X4 8 (by decide) q1391 (fun _ h => h) (v := .ref (ad 5)) rfl dX4_ticks_24 ?_
      refine z_iconst (pc := 27) gX 0 dX4_ticks_27 (by decide) ?_
      refine z_top (nI 0) rfl ?_
      refine z_iald (pc := 28) gX (zI_ok gX hAX) (j := 0) (n := 25) (f := c) (zm 1 rfl) (by omega) (by decide) dX4_ticks_28 ?_
      refine z_iload_n (pc := 29) gX 1 dX4_ticks_29 rfl rfl ?_
      refine z_iadd (pc := 30) gX dX4_ticks_30 ?_
      refine z_sipush (pc := 31) gX 9999 dX4_ticks_31 (by decide) ?_
      refine z_icmp_le (pc := 34) gX 40 dX4_ticks_34 (by decide) (fun c34 => ?_) (fun c34 => ?_)
      · skip
        refine z_iconst (pc := 40) gX 0 dX4_ticks_40 (by decide) ?_
        refine z_istore_n (pc := 41) gX [1, 2, 0] [(0, .ref o), (1, .int (nI dd)), (2, .int 0)] dX4_ticks_41 rfl (by decide) rfl ?_
        have L42 : ∀ (n42 : Nat) (i : Nat) (xi : Nat → Int32) (ci : Nat → Int32) (pi : Nat → Int32) (wi : Nat → Int32), (i ≤ dd) → (xi = upd x 3 (nI (tkS n k i (kn, pa, c)).1)) → (ci = (tkS n k i (kn, pa, c)).2.2) → (pi = (tkS n k i (kn, pa, c)).2.1) → dd - i < n42 → zJ pX l eX (zRm 5 0 0) sX mX argsX blX mtX cX QX 3 (zI D A sX [mOb o ad xi, [(ad 5, .inl (D.1 100, 25, .inl ci))], [(ad 9, .inl (D.1 100, 384, .inl pi))], [(ad 11, .inl (D.1 100, 25, .inl wi))]]) 0 0 42 [(0, .ref o), (1, .int (nI dd)), (2, .int (nI i))] [] := by
          intro n42
          induction n42 with
          | zero => exact fun i xi ci pi wi hi hxi hci hpi hm42 => absurd hm42 (Nat.not_lt_zero _)
          | succ n42 ih42 =>
            intro i xi ci pi wi hi hxi hci hpi hm42
            refine z_iload_n (pc := 42) gX 2 dX4_ticks_42 rfl rfl ?_
            refine z_iload_n (pc := 43) gX 1 dX4_ticks_43 rfl rfl ?_
            refine z_icmp_ge (pc := 44) gX 65 dX4_ticks_44 (by decide) (fun c44 => ?_) (fun c44 => ?_)
            · skip
              have k44 : dd ≤ i := (zn_le (a := dd) (b := i) (by omega) (by omega)).mp c44
              refine z_aload_n (pc := 65) gX 0 dX4_ticks_65 rfl rfl ?_
              refine z_get (pc := 66) gX (zI_ok gX hAX) (zm 0 rfl) (ci := 4) (C := RX4) (T := TX4) (N := 20) rfl in_X4 8 (by decide) q1391 (fun _ h => h) (v := .ref (ad 5)) rfl dX4_ticks_66 ?_
              refine z_cOS (pc := 69) gX (zI_ok gX hAX) [.ref (ad 5)] [] [1] (met_X4_offIn l D B0 (ad 5) ci n (by rw [hci]; exact (tkS_fr (k := k) (t := (kn, pa, c)) hn7 i 17 (by omega)).trans hn) (by first | assumption | omega)) q1553 q1554 q54 q1555 hd_X4_offIn ⟨rfl, rfl⟩ ⟨(Nat.le_of_ble_eq_true rfl), (Nat.le_of_ble_eq_true rfl)⟩ rfl rfl rfl (Nat.le_of_ble_eq_true rfl) ⟨(Nat.le_of_ble_eq_true rfl), (Nat.le_of_ble_eq_true rfl)⟩ dX4_ticks_69 ?_
              intro _ hu69
              refine z_eq (lv₂ := [(0, .ref o), (1, .int (nI dd)), (2, .int (nI i))]) (st₂ := [.int (nI (cntV ci 99 n))]) ?_ rfl rfl
              exact z_rim gX hQX (nI (cntV ci 99 n), xi, pi, ci, wi) (by rw [hci, hpi, hxi, show i = dd by omega]; simp [mTicks, of_decide_eq_true k4, k17, c34, nI_clamp (show dd < 2 ^ 31 by omega)]) rfl rfl (by first | decide | omega) (by first | decide | omega) dX4_ticks_72
            · skip
              have k44 : i < dd := (zn_nle (a := dd) (b := i) (by omega) (by omega)).mp c44
              refine z_aload_n (pc := 47) gX 0 dX4_ticks_47 rfl rfl ?_
              refine z_cMV (pc := 48) gX hAX [] [] [0, 1, 2] [3] (fun A1 => met_X4_keeps l D B0 A1 o ad xi ci pi ((tkS n k i (kn, pa, c)).1) (by rw [hxi, pk_us]) (tkS_kn hkn24 i)) q1533 q1535 qs36 q54 q1536 (zm 0 rfl) (ci := 4) rfl rfl hd_X4_keeps ⟨rfl, rfl⟩ ⟨(Nat.le_of_ble_eq_true rfl), (Nat.le_of_ble_eq_true rfl)⟩ rfl rfl rfl rfl rfl (Nat.le_of_ble_eq_true rfl) ⟨(Nat.le_of_ble_eq_true rfl), (Nat.le_of_ble_eq_true rfl)⟩ dX4_ticks_48 ?_
              intro _ hu48
              refine z_re [0, 1, 2, 3] [mOb o ad (kx xi ((tkS n k i (kn, pa, c)).1)), [(ad 5, .inl (D.1 100, 25, .inl ci))], [(ad 9, .inl (D.1 100, 384, .inl (mKeepP ((tkS n k i (kn, pa, c)).1) pi ci)))], [(ad 11, .inl (D.1 100, 25, .inl wi))]] rfl rfl ?_
              refine z_eq (lv₂ := [(0, .ref o), (1, .int (nI dd)), (2, .int (nI i))]) (st₂ := []) ?_ rfl rfl
              refine z_aload_n (pc := 51) gX 0 dX4_ticks_51 rfl rfl ?_
              refine z_aload_n (pc := 52) gX 0 dX4_ticks_52 rfl rfl ?_
              refine z_get (pc := 53) gX (zI_ok gX hAX) (zm 0 rfl) (ci := 4) (C := RX4) (T := TX4) (N := 20) rfl in_X4 8 (by decide) q1391 (fun _ h => h) (v := .ref (ad 5)) rfl dX4_ticks_53 ?_
              refine z_cMV (pc := 56) gX hAX [.ref (ad 5)] [] [0, 3, 1] [2] (fun A1 => met_X4_tick l D B0 A1 o ad (kx xi ((tkS n k i (kn, pa, c)).1)) (ad 5) wi ci n k (by rw [hci]; exact (tkS_fr (k := k) (t := (kn, pa, c)) hn7 i 17 (by omega)).trans hn) (by first | assumption | omega) (by rw [hci]; exact (tkS_fr (t := (kn, pa, c)) hn7 i 16 (by omega)).trans hk) (by first | assumption | omega)) q1537 q1539 qs37 q54 q1540 (zm 0 rfl) (ci := 4) rfl rfl hd_X4_tick ⟨rfl, rfl⟩ ⟨(Nat.le_of_ble_eq_true rfl), (Nat.le_of_ble_eq_true rfl)⟩ rfl rfl rfl rfl rfl (Nat.le_of_ble_eq_true rfl) ⟨(Nat.le_of_ble_eq_true rfl), (Nat.le_of_ble_eq_true rfl)⟩ dX4_ticks_56 ?_
              intro u56 hu56
              obtain ⟨wn1_56, rfl⟩ : ∃ z, z = u56 := ⟨_, rfl⟩
              refine z_re [0, 2, 3, 1] [mOb o ad (kx xi ((tkS n k i (kn, pa, c)).1)), [(ad 5, .inl (D.1 100, 25, .inl (mTick n k ci)))], [(ad 9, .inl (D.1 100, 384, .inl (mKeepP ((tkS n k i (kn, pa, c)).1) pi ci)))], [(ad 11, .inl (D.1 100, 25, .inl wn1_56))]] rfl rfl ?_
              refine z_eq (lv₂ := [(0, .ref o), (1, .int (nI dd)), (2, .int (nI i))]) (st₂ := []) ?_ rfl rfl
              refine z_iinc (pc := 59) gX 2 (nI (i + 1)) [1, 2, 0] [(0, .ref o), (1, .int (nI dd)), (2, .int (nI (i + 1)))] dX4_ticks_59 rfl (nI_1 _) (by decide) rfl ?_
              refine z_goto (pc := 62) gX 42 dX4_ticks_62 (by decide) ?_
              exact ih42 (i + 1) (kx xi ((tkS n k i (kn, pa, c)).1)) (mTick n k ci) (mKeepP ((tkS n k i (kn, pa, c)).1) pi ci) wn1_56 (by omega) (by rw [hxi]; exact upd_upd _ _ _ _) (by rw [hci]; rfl) (by rw [hpi, hci]; rfl) (by omega)
        exact L42 ((dd - 0) + 1) 0 x c pa wn (by omega) (by rw [show (tkS n k 0 (kn, pa, c)).1 = kn from rfl, ← hkn]; exact (upd_self _ _).symm) rfl rfl (Nat.lt_succ_self _)
      · skip
        refine z_ldc (pc := 37) gX q1488 dX4_ticks_37 ?_
        exact z_rim gX hQX ((-1000003), x, pa, c, wn) (by simp [mTicks, of_decide_eq_true k4, k17, c34]) rfl rfl (by first | decide | omega) (by first | decide | omega) dX4_ticks_39
    · skip
      have k17 : (mIn v 1 24) = false := bI_eq0 c17
      refine z_ldc (pc := 20) gX q1455 dX4_ticks_20 ?_
      exact z_rim gX hQX ((-1000001), x, pa, c, wn) (by simp [mTicks, of_decide_eq_true k4, k17]) rfl rfl (by first | decide | omega) (by first | decide | omega) dX4_ticks_22
  · skip
    have k4 : (decide (0 < c 17)) = false := bI_eq0 c4
    refine z_ldc (pc := 7) gX q1532 dX4_ticks_7 ?_
    exact z_rim gX hQX ((-1000002), x, pa, c, wn) (by simp [mTicks, of_decide_eq_false k4]) rfl rfl (by first | decide | omega) (by first | decide | omega) dX4_ticks_9
theorem hd_X4_ticks : zHd yX4_ticks 1 := by unfold zHd; decide +kernel

set_option maxHeartbeats 4000000 in
theorem met_X4_taken (l : Launch) (D : va_G) (B0 : Nat) (A : Nat → Prop) (o : Nat) (ad : Nat → Nat) (x : Nat → Int32) (c : Nat → Int32) (th : Nat → Int32) (wn : Nat → Int32) (n : Nat) (k : Nat) (w : Int32) (hn : c 17 = nI n) (hn7 : n ≤ 7) (hk : c 16 = nI k) (hk12 : k ≤ 12) : Met l yX4_taken (ws_ yX4_taken cX4_taken 6 (some .int)) (zRm 6 0 0) (va_Pc [.ref o, .int w] (zPre B0 D A [mOb o ad x, [(ad 5, .inl (D.1 100, 25, .inl c))], [(ad 10, .inl (D.1 100, 25, .inl th))], [(ad 11, .inl (D.1 100, 25, .inl wn))]])) (zQ (S := (Nat → Int32) × (Nat → Int32)) (fun u => (fun (th1 : Nat → Int32) (wn1 : Nat → Int32) => True) u.1 u.2) (fun u => (fun (th1 : Nat → Int32) (wn1 : Nat → Int32) => some (.int (mTaken n k c w))) u.1 u.2) (fun u => (fun (th1 : Nat → Int32) (wn1 : Nat → Int32) => [mOb o ad x, [(ad 5, .inl (D.1 100, 25, .inl c))], [(ad 10, .inl (D.1 100, 25, .inl th1))], [(ad 11, .inl (D.1 100, 25, .inl wn1))]]) u.1 u.2) D A) 0 0 A := by
  refine z_entry (by decide +kernel) (Nat.le_of_ble_eq_true rfl) (fun pX eX sX mX argsX blX mtX cX QX hQX gX hAX hnm => ?_)
  refine z_eq (lv₂ := [(0, .ref o), (1, .int w)]) (st₂ := []) ?_ rfl rfl
  refine z_aload_n (pc := 0) gX 0 dX4_taken_0 rfl rfl ?_
  refine z_cOV (pc := 1) gX (zI_ok gX hAX) [] [] [0, 1] (met_X4_isStair l D B0 o ad x c ) q1528 q1530 qs35 q54 q1531 (zm 0 rfl) (ci := 4) rfl rfl hd_X4_isStair ⟨rfl, rfl⟩ ⟨(Nat.le_of_ble_eq_true rfl), (Nat.le_of_ble_eq_true rfl)⟩ rfl rfl rfl (Nat.le_of_ble_eq_true rfl) ⟨(Nat.le_of_ble_eq_true rfl), (Nat.le_of_ble_eq_true rfl)⟩ dX4_taken_1 ?_
  intro _ hu1
  refine z_eq (lv₂ := [(0, .ref o), (1, .int w)]) (st₂ := [.int (bI (decide (0 < c 17)))]) ?_ rfl rfl
  refine z_if_ne (pc := 4) gX 10 dX4_taken_4 (by decide) (fun c4 => ?_) (fun c4 => ?_)
  · skip
    have k4 : (decide (0 < c 17)) = true := bI_ne0 c4
    refine z_iload_n (pc := 10) gX 1 dX4_taken_10 rfl rfl ?_
    refine z_iconst (pc := 11) gX 0 dX4_taken_11 (by decide) ?_
    refine z_iconst (pc := 12) gX 1 dX4_taken_12 (by decide) ?_
    refine z_cOS (pc := 13) gX (zI_ok gX hAX) [.int w, .int 0, .int 1] [] [] (met_X4_in l D B0 w 0 1 ) q1452 q1453 q54 q1454 hd_X4_in ⟨rfl, rfl⟩ ⟨(Nat.le_of_ble_eq_true rfl), (Nat.le_of_ble_eq_true rfl)⟩ rfl rfl rfl (Nat.le_of_ble_eq_true rfl) ⟨(Nat.le_of_ble_eq_true rfl), (Nat.le_of_ble_eq_true rfl)⟩ dX4_taken_13 ?_
    intro _ hu13
    refine z_eq (lv₂ := [(0, .ref o), (1, .int w)]) (st₂ := [.int (bI (mIn w 0 1))]) ?_ rfl rfl
    refine z_if_ne (pc := 16) gX 22 dX4_taken_16 (by decide) (fun c16 => ?_) (fun c16 => ?_)
    · skip
      have k16 : (mIn w 0 1) = true := bI_ne0 c16
      refine z_aload_n (pc := 22) gX 0 dX4_taken_22 rfl rfl ?_
      refine z_cMV (pc := 23) gX hAX [] [] [0, 1, 2] [3] (fun A1 => met_X4_starts l D B0 A1 o ad x c th ) q1592 q1594 qs39 q54 q1595 (zm 0 rfl) (ci := 4) rfl rfl hd_X4_starts ⟨rfl, rfl⟩ ⟨(Nat.le_of_ble_eq_true rfl), (Nat.le_of_ble_eq_true rfl)⟩ rfl rfl rfl rfl rfl (Nat.le_of_ble_eq_true rfl) ⟨(Nat.le_of_ble_eq_true rfl), (Nat.le_of_ble_eq_true rfl)⟩ dX4_taken_23 ?_
      intro _ hu23
      refine z_re [0, 1, 2, 3] [mOb o ad x, [(ad 5, .inl (D.1 100, 25, .inl c))], [(ad 10, .inl (D.1 100, 25, .inl c))], [(ad 11, .inl (D.1 100, 25, .inl wn))]] rfl rfl ?_
      refine z_eq (lv₂ := [(0, .ref o), (1, .int w)]) (st₂ := []) ?_ rfl rfl
      refine z_aload_n (pc := 26) gX 0 dX4_taken_26 rfl rfl ?_
      refine z_cMV (pc := 27) gX hAX [] [] [0, 2, 3] [1] (fun A1 => met_X4_clears l D B0 A1 o ad x c wn n k (by first | assumption | omega) (by first | assumption | omega) (by first | assumption | omega) (by first | assumption | omega)) q1609 q1611 qs40 q54 q1612 (zm 0 rfl) (ci := 4) rfl rfl hd_X4_clears ⟨rfl, rfl⟩ ⟨(Nat.le_of_ble_eq_true rfl), (Nat.le_of_ble_eq_true rfl)⟩ rfl rfl rfl rfl rfl (Nat.le_of_ble_eq_true rfl) ⟨(Nat.le_of_ble_eq_true rfl), (Nat.le_of_ble_eq_true rfl)⟩ dX4_taken_27 ?_
      intro u27 hu27
      obtain ⟨th1_27, wn1_27⟩ := u27
      refine z_re [0, 3, 1, 2] [mOb o ad x, [(ad 5, .inl (D.1 100, 25, .inl c))], [(ad 10, .inl (D.1 100, 25, .inl th1_27))], [(ad 11, .inl (D.1 100, 25, .inl wn1_27))]] rfl rfl ?_
      refine z_eq (lv₂ := [(0, .ref o), (1, .int w)]) (st₂ := [.int (mClr n k c)]) ?_ rfl rfl
      refine z_istore_n (pc := 30) gX [1, 2, 0] [(0, .ref o), (1, .int w), (2, .int (mClr n k c))] dX4_taken_30 rfl (by decide) rfl ?_
      refine z_ldc (pc := 31) gX q1604 dX4_taken_31 ?_
      refine z_istore_n (pc := 33) gX [1, 2, 3, 0] [(0, .ref o), (1, .int w), (2, .int (mClr n k c)), (3, .int (-1000000))] dX4_taken_33 rfl (by decide) rfl ?_
      refine z_iconst (pc := 34) gX 0 dX4_taken_34 (by decide) ?_
      refine z_istore (pc := 35) gX [1, 2, 3, 4, 0] [(0, .ref o), (1, .int w), (2, .int (mClr n k c)), (3, .int (-1000000)), (4, .int 0)] dX4_taken_35 (by decide) rfl ?_
      have L37 : ∀ (n37 : Nat) (r : Nat) (fo : Int32) (so : Int32) (t2 : Nat → Int32) (w2 : Nat → Int32), (r ≤ n) → ((fo, so) = tknP n k c r) → n - r < n37 → zJ pX l eX (zRm 6 0 0) sX mX argsX blX mtX cX QX 6 (zI D A sX [mOb o ad x, [(ad 5, .inl (D.1 100, 25, .inl c))], [(ad 10, .inl (D.1 100, 25, .inl t2))], [(ad 11, .inl (D.1 100, 25, .inl w2))]]) 0 0 37 [(0, .ref o), (1, .int w), (2, .int so), (3, .int fo), (4, .int (nI r))] [] := by
        intro n37
        induction n37 with
        | zero => exact fun r fo so t2 w2 hr hp hm37 => absurd hm37 (Nat.not_lt_zero _)
        | succ n37 ih37 =>
          intro r fo so t2 w2 hr hp hm37
          refine z_iload (pc := 37) gX 4 dX4_taken_37 rfl ?_
          refine z_aload_n (pc := 39) gX 0 dX4_taken_39 rfl rfl ?_
          refine z_get (pc := 40) gX (zI_ok gX hAX) (zm 0 rfl) (ci := 4) (C := RX4) (T := TX4) (N := 20) rfl in_X4 8 (by decide) q1391 (fun _ h => h) (v := .ref (ad 5)) rfl dX4_taken_40 ?_
          refine z_bipush (pc := 43) gX 17 dX4_taken_43 (by decide) ?_
          refine z_top (nI 17) rfl ?_
          refine z_iald (pc := 45) gX (zI_ok gX hAX) (j := 17) (n := 25) (f := c) (zm 1 rfl) (by omega) (by decide) dX4_taken_45 ?_
          refine z_top (nI n) hn ?_
          refine z_icmp_ge (pc := 46) gX 101 dX4_taken_46 (by decide) (fun c46 => ?_) (fun c46 => ?_)
          · skip
            have k46 : n ≤ r := (zn_le (a := n) (b := r) (by omega) (by omega)).mp c46
            refine z_iload_n (pc := 101) gX 3 dX4_taken_101 rfl rfl ?_
            refine z_ldc (pc := 102) gX q1604 dX4_taken_102 ?_
            refine z_icmp_eq (pc := 104) gX 111 dX4_taken_104 (by decide) (fun c104 => ?_) (fun c104 => ?_)
            · skip
              refine z_iload_n (pc := 111) gX 3 dX4_taken_111 rfl rfl ?_
              refine z_goto (pc := 112) gX 116 dX4_taken_112 (by decide) ?_
              exact z_rim gX hQX (t2, w2) trivial (zsv (by rw [show r = n by omega] at hp; simp only [mTaken, of_decide_eq_true k4, k16, if_true, ← hp]; first | (rw [if_pos (by grind)]; done) | (rw [if_neg (by grind)]; done))) rfl (by first | decide | omega) (by first | decide | omega) dX4_taken_116
            · skip
              refine z_iload_n (pc := 107) gX 1 dX4_taken_107 rfl rfl ?_
              refine z_if_ne (pc := 108) gX 115 dX4_taken_108 (by decide) (fun c108 => ?_) (fun c108 => ?_)
              · skip
                refine z_iload_n (pc := 115) gX 2 dX4_taken_115 rfl rfl ?_
                exact z_rim gX hQX (t2, w2) trivial (zsv (by rw [show r = n by omega] at hp; simp only [mTaken, of_decide_eq_true k4, k16, if_true, ← hp]; first | (rw [if_pos (by grind)]; done) | (rw [if_neg (by grind)]; done))) rfl (by first | decide | omega) (by first | decide | omega) dX4_taken_116
              · skip
                refine z_iload_n (pc := 111) gX 3 dX4_taken_111 rfl rfl ?_
                refine z_goto (pc := 112) gX 116 dX4_taken_112 (by decide) ?_
                exact z_rim gX hQX (t2, w2) trivial (zsv (by rw [show r = n by omega] at hp; simp only [mTaken, of_decide_eq_true k4, k16, if_true, ← hp]; first | (rw [if_pos (by grind)]; done) | (rw [if_neg (by grind)]; done))) rfl (by first | decide | omega) (by first | decide | omega) dX4_taken_116
          · skip
            have k46 : r < n := (zn_nle (a := n) (b := r) (by omega) (by omega)).mp c46
            refine z_aload_n (pc := 49) gX 0 dX4_taken_49 rfl rfl ?_
            refine z_cMV (pc := 50) gX hAX [] [] [0, 1, 2] [3] (fun A1 => met_X4_starts l D B0 A1 o ad x c t2 ) q1592 q1594 qs39 q54 q1595 (zm 0 rfl) (ci := 4) rfl rfl hd_X4_starts ⟨rfl, rfl⟩ ⟨(Nat.le_of_ble_eq_true rfl), (Nat.le_of_ble_eq_true rfl)⟩ rfl rfl rfl rfl rfl (Nat.le_of_ble_eq_true rfl) ⟨(Nat.le_of_ble_eq_true rfl), (Nat.le_of_ble_eq_true rfl)⟩ dX4_taken_50 ?_
            intro _ hu50
            refine z_re [0, 1, 2, 3] [mOb o ad x, [(ad 5, .inl (D.1 100, 25, .inl c))], [(ad 10, .inl (D.1 100, 25, .inl c))], [(ad 11, .inl (D.1 100, 25, .inl w2))]] rfl rfl ?_
            refine z_eq (lv₂ := [(0, .ref o), (1, .int w), (2, .int so), (3, .int fo), (4, .int (nI r))]) (st₂ := []) ?_ rfl rfl
            refine z_aload_n (pc := 53) gX 0 dX4_taken_53 rfl rfl ?_
            refine z_get (pc := 54) gX (zI_ok gX hAX) (zm 0 rfl) (ci := 4) (C := RX4) (T := TX4) (N := 20) rfl in_X4 14 (by decide) q1397 (fun _ h => h) (v := .ref (ad 10)) rfl dX4_taken_54 ?_
            refine z_iconst (pc := 57) gX 2 dX4_taken_57 (by decide) ?_
            refine z_iload (pc := 58) gX 4 dX4_taken_58 rfl ?_
            refine z_iadd (pc := 60) gX dX4_taken_60 ?_
            refine z_top (nI (2 + r)) (nI_add 2 r) ?_
            refine z_bipush (pc := 61) gX 99 dX4_taken_61 (by decide) ?_
            refine z_iast (pc := 63) gX hAX 2 (j := (2 + r)) (n := 25) (f := c) rfl (by omega) (by decide) [mOb o ad x, [(ad 5, .inl (D.1 100, 25, .inl c))], [(ad 10, .inl (D.1 100, 25, .inl (upd c (2 + r) 99)))], [(ad 11, .inl (D.1 100, 25, .inl w2))]] rfl dX4_taken_63 ?_
            refine z_aload_n (pc := 64) gX 0 dX4_taken_64 rfl rfl ?_
            refine z_cMV (pc := 65) gX hAX [] [] [0, 2, 3] [1] (fun A1 => met_X4_clears l D B0 A1 o ad x (upd c (2 + r) 99) w2 n k (by rw [pk_un (by omega)]; exact hn) (by first | assumption | omega) (by rw [pk_un (by omega)]; exact hk) (by first | assumption | omega)) q1609 q1611 qs40 q54 q1612 (zm 0 rfl) (ci := 4) rfl rfl hd_X4_clears ⟨rfl, rfl⟩ ⟨(Nat.le_of_ble_eq_true rfl), (Nat.le_of_ble_eq_true rfl)⟩ rfl rfl rfl rfl rfl (Nat.le_of_ble_eq_true rfl) ⟨(Nat.le_of_ble_eq_true rfl), (Nat.le_of_ble_eq_true rfl)⟩ dX4_taken_65 ?_
            intro u65 hu65
            obtain ⟨th1_65, wn1_65⟩ := u65
            refine z_re [0, 3, 1, 2] [mOb o ad x, [(ad 5, .inl (D.1 100, 25, .inl c))], [(ad 10, .inl (D.1 100, 25, .inl th1_65))], [(ad 11, .inl (D.1 100, 25, .inl wn1_65))]] rfl rfl ?_
            refine z_eq (lv₂ := [(0, .ref o), (1, .int w), (2, .int so), (3, .int fo), (4, .int (nI r))]) (st₂ := [.int (mClr n k (upd c (2 + r) 99))]) ?_ rfl rfl
            refine z_istore (pc := 68) gX [1, 2, 3, 4, 5, 0] [(0, .ref o), (1, .int w), (2, .int so), (3, .int fo), (4, .int (nI r)), (5, .int (mClr n k (upd c (2 + r) 99)))] dX4_taken_68 (by decide) rfl ?_
            refine z_iload (pc := 70) gX 5 dX4_taken_70 rfl ?_
            refine z_ldc (pc := 72) gX q1604 dX4_taken_72 ?_
            refine z_icmp_eq (pc := 74) gX 95 dX4_taken_74 (by decide) (fun c74 => ?_) (fun c74 => ?_)
            · skip
              refine z_iinc (pc := 95) gX 4 (nI (r + 1)) [1, 2, 3, 4, 0, 5] [(0, .ref o), (1, .int w), (2, .int so), (3, .int fo), (4, .int (nI (r + 1))), (5, .int (mClr n k (upd c (2 + r) 99)))] dX4_taken_95 rfl (nI_1 _) (by decide) rfl ?_
              refine z_goto (pc := 98) gX 37 dX4_taken_98 (by decide) ?_
              refine z_lv [0, 1, 2, 3, 4] [(0, .ref o), (1, .int w), (2, .int so), (3, .int fo), (4, .int (nI (r + 1)))] rfl ?_
              exact ih37 (r + 1) fo so th1_65 wn1_65 (by omega) (by rw [show tknP n k c (r + 1) = tknS n k c r (tknP n k c r) from rfl, ← hp]; simp only [tknS]; rw [if_neg (fun h => h.1 c74)]) (by omega)
            · skip
              refine z_iload_n (pc := 77) gX 2 dX4_taken_77 rfl rfl ?_
              refine z_ldc (pc := 78) gX q1604 dX4_taken_78 ?_
              refine z_icmp_eq (pc := 80) gX 89 dX4_taken_80 (by decide) (fun c80 => ?_) (fun c80 => ?_)
              · skip
                refine z_iload (pc := 89) gX 4 dX4_taken_89 rfl ?_
                refine z_istore_n (pc := 91) gX [1, 2, 3, 0, 4, 5] [(0, .ref o), (1, .int w), (2, .int so), (3, .int (nI r)), (4, .int (nI r)), (5, .int (mClr n k (upd c (2 + r) 99)))] dX4_taken_91 rfl (by decide) rfl ?_
                refine z_iload (pc := 92) gX 5 dX4_taken_92 rfl ?_
                refine z_istore_n (pc := 94) gX [1, 2, 0, 3, 4, 5] [(0, .ref o), (1, .int w), (2, .int (mClr n k (upd c (2 + r) 99))), (3, .int (nI r)), (4, .int (nI r)), (5, .int (mClr n k (upd c (2 + r) 99)))] dX4_taken_94 rfl (by decide) rfl ?_
                refine z_iinc (pc := 95) gX 4 (nI (r + 1)) [1, 2, 3, 4, 0, 5] [(0, .ref o), (1, .int w), (2, .int (mClr n k (upd c (2 + r) 99))), (3, .int (nI r)), (4, .int (nI (r + 1))), (5, .int (mClr n k (upd c (2 + r) 99)))] dX4_taken_95 rfl (nI_1 _) (by decide) rfl ?_
                refine z_goto (pc := 98) gX 37 dX4_taken_98 (by decide) ?_
                refine z_lv [0, 1, 2, 3, 4] [(0, .ref o), (1, .int w), (2, .int (mClr n k (upd c (2 + r) 99))), (3, .int (nI r)), (4, .int (nI (r + 1)))] rfl ?_
                exact ih37 (r + 1) (nI r) (mClr n k (upd c (2 + r) 99)) th1_65 wn1_65 (by omega) (by rw [show tknP n k c (r + 1) = tknS n k c r (tknP n k c r) from rfl, ← hp]; simp only [tknS]; rw [if_pos ⟨c74, Or.inl c80⟩]) (by omega)
              · skip
                refine z_iload (pc := 83) gX 5 dX4_taken_83 rfl ?_
                refine z_iload_n (pc := 85) gX 2 dX4_taken_85 rfl rfl ?_
                refine z_icmp_ge (pc := 86) gX 95 dX4_taken_86 (by decide) (fun c86 => ?_) (fun c86 => ?_)
                · skip
                  refine z_iinc (pc := 95) gX 4 (nI (r + 1)) [1, 2, 3, 4, 0, 5] [(0, .ref o), (1, .int w), (2, .int so), (3, .int fo), (4, .int (nI (r + 1))), (5, .int (mClr n k (upd c (2 + r) 99)))] dX4_taken_95 rfl (nI_1 _) (by decide) rfl ?_
                  refine z_goto (pc := 98) gX 37 dX4_taken_98 (by decide) ?_
                  refine z_lv [0, 1, 2, 3, 4] [(0, .ref o), (1, .int w), (2, .int so), (3, .int fo), (4, .int (nI (r + 1)))] rfl ?_
                  exact ih37 (r + 1) fo so th1_65 wn1_65 (by omega) (by rw [show tknP n k c (r + 1) = tknS n k c r (tknP n k c r) from rfl, ← hp]; simp only [tknS]; rw [if_neg (fun h => by rcases h.2 with q | q; exact c80 q; exact absurd c86 (Int32.not_le.mpr q))]) (by omega)
                · skip
                  refine z_iload (pc := 89) gX 4 dX4_taken_89 rfl ?_
                  refine z_istore_n (pc := 91) gX [1, 2, 3, 0, 4, 5] [(0, .ref o), (1, .int w), (2, .int so), (3, .int (nI r)), (4, .int (nI r)), (5, .int (mClr n k (upd c (2 + r) 99)))] dX4_taken_91 rfl (by decide) rfl ?_
                  refine z_iload (pc := 92) gX 5 dX4_taken_92 rfl ?_
                  refine z_istore_n (pc := 94) gX [1, 2, 0, 3, 4, 5] [(0, .ref o), (1, .int w), (2, .int (mClr n k (upd c (2 + r) 99))), (3, .int (nI r)), (4, .int (nI r)), (5, .int (mClr n k (upd c (2 + r) 99)))] dX4_taken_94 rfl (by decide) rfl ?_
                  refine z_iinc (pc := 95) gX 4 (nI (r + 1)) [1, 2, 3, 4, 0, 5] [(0, .ref o), (1, .int w), (2, .int (mClr n k (upd c (2 + r) 99))), (3, .int (nI r)), (4, .int (nI (r + 1))), (5, .int (mClr n k (upd c (2 + r) 99)))] dX4_taken_95 rfl (nI_1 _) (by decide) rfl ?_
                  refine z_goto (pc := 98) gX 37 dX4_taken_98 (by decide) ?_
                  refine z_lv [0, 1, 2, 3, 4] [(0, .ref o), (1, .int w), (2, .int (mClr n k (upd c (2 + r) 99))), (3, .int (nI r)), (4, .int (nI (r + 1)))] rfl ?_
                  exact ih37 (r + 1) (nI r) (mClr n k (upd c (2 + r) 99)) th1_65 wn1_65 (by omega) (by rw [show tknP n k c (r + 1) = tknS n k c r (tknP n k c r) from rfl, ← hp]; simp only [tknS]; rw [if_pos ⟨c74, Or.inr (Int32.not_le.mp c86)⟩]) (by omega)
      exact L37 ((n - 0) + 1) 0 (-1000000) (mClr n k c) th1_27 wn1_27 (by omega) rfl (Nat.lt_succ_self _)
    · skip
      have k16 : (mIn w 0 1) = false := bI_eq0 c16
      refine z_ldc (pc := 19) gX q1455 dX4_taken_19 ?_
      exact z_rim gX hQX (th, wn) trivial (zsv (by simp [mTaken, of_decide_eq_true k4, k16])) rfl (by first | decide | omega) (by first | decide | omega) dX4_taken_21
  · skip
    have k4 : (decide (0 < c 17)) = false := bI_eq0 c4
    refine z_ldc (pc := 7) gX q1532 dX4_taken_7 ?_
    exact z_rim gX hQX (th, wn) trivial (zsv (by simp [mTaken, of_decide_eq_false k4])) rfl (by first | decide | omega) (by first | decide | omega) dX4_taken_9
theorem hd_X4_taken : zHd yX4_taken 1 := by unfold zHd; decide +kernel

set_option maxHeartbeats 4000000 in
theorem met_X4_sorting (l : Launch) (D : va_G) (B0 : Nat) (A : Nat → Prop) (o : Nat) (ad : Nat → Nat) (x : Nat → Int32) (c : Nat → Int32) (th : Nat → Int32) (wn : Nat → Int32) (n : Nat) (k : Nat) (w : Int32) (hn : c 17 = nI n) (hn7 : n ≤ 7) (hk : c 16 = nI k) (hk12 : k ≤ 12) : Met l yX4_sorting (ws_ yX4_sorting cX4_sorting 8 (some .int)) (zRm 6 0 0) (va_Pc [.ref o, .int w] (zPre B0 D A [mOb o ad x, [(ad 5, .inl (D.1 100, 25, .inl c))], [(ad 10, .inl (D.1 100, 25, .inl th))], [(ad 11, .inl (D.1 100, 25, .inl wn))]])) (zQ (S := (Nat → Int32) × (Nat → Int32)) (fun u => (fun (th1 : Nat → Int32) (wn1 : Nat → Int32) => True) u.1 u.2) (fun u => (fun (th1 : Nat → Int32) (wn1 : Nat → Int32) => some (.int (mSorting n k c w))) u.1 u.2) (fun u => (fun (th1 : Nat → Int32) (wn1 : Nat → Int32) => [mOb o ad x, [(ad 5, .inl (D.1 100, 25, .inl c))], [(ad 10, .inl (D.1 100, 25, .inl th1))], [(ad 11, .inl (D.1 100, 25, .inl wn1))]]) u.1 u.2) D A) 0 0 A := by
  refine z_entry (by decide +kernel) (Nat.le_of_ble_eq_true rfl) (fun pX eX sX mX argsX blX mtX cX QX hQX gX hAX hnm => ?_)
  refine z_eq (lv₂ := [(0, .ref o), (1, .int w)]) (st₂ := []) ?_ rfl rfl
  obtain ⟨N2, hN2⟩ : ∃ N2, N2 = 2 ^ n := ⟨_, rfl⟩
  have h128 : N2 ≤ 128 := by rw [hN2]; exact pow7 hn7
  obtain ⟨W, hW⟩ : ∃ W, W = qN c n := ⟨_, rfl⟩
  have hWN : W < N2 := by rw [hW, hN2]; exact qN_lt c n
  refine z_aload_n (pc := 0) gX 0 dX4_sorting_0 rfl rfl ?_
  refine z_cOV (pc := 1) gX (zI_ok gX hAX) [] [] [0, 1] (met_X4_isStair l D B0 o ad x c ) q1528 q1530 qs35 q54 q1531 (zm 0 rfl) (ci := 4) rfl rfl hd_X4_isStair ⟨rfl, rfl⟩ ⟨(Nat.le_of_ble_eq_true rfl), (Nat.le_of_ble_eq_true rfl)⟩ rfl rfl rfl (Nat.le_of_ble_eq_true rfl) ⟨(Nat.le_of_ble_eq_true rfl), (Nat.le_of_ble_eq_true rfl)⟩ dX4_sorting_1 ?_
  intro _ hu1
  refine z_eq (lv₂ := [(0, .ref o), (1, .int w)]) (st₂ := [.int (bI (decide (0 < c 17)))]) ?_ rfl rfl
  refine z_if_ne (pc := 4) gX 10 dX4_sorting_4 (by decide) (fun c4 => ?_) (fun c4 => ?_)
  · skip
    have k4 : (decide (0 < c 17)) = true := bI_ne0 c4
    refine z_iload_n (pc := 10) gX 1 dX4_sorting_10 rfl rfl ?_
    refine z_iconst (pc := 11) gX 0 dX4_sorting_11 (by decide) ?_
    refine z_iconst (pc := 12) gX 1 dX4_sorting_12 (by decide) ?_
    refine z_cOS (pc := 13) gX (zI_ok gX hAX) [.int w, .int 0, .int 1] [] [] (met_X4_in l D B0 w 0 1 ) q1452 q1453 q54 q1454 hd_X4_in ⟨rfl, rfl⟩ ⟨(Nat.le_of_ble_eq_true rfl), (Nat.le_of_ble_eq_true rfl)⟩ rfl rfl rfl (Nat.le_of_ble_eq_true rfl) ⟨(Nat.le_of_ble_eq_true rfl), (Nat.le_of_ble_eq_true rfl)⟩ dX4_sorting_13 ?_
    intro _ hu13
    refine z_eq (lv₂ := [(0, .ref o), (1, .int w)]) (st₂ := [.int (bI (mIn w 0 1))]) ?_ rfl rfl
    refine z_if_ne (pc := 16) gX 22 dX4_sorting_16 (by decide) (fun c16 => ?_) (fun c16 => ?_)
    · skip
      have k16 : (mIn w 0 1) = true := bI_ne0 c16
      refine z_aload_n (pc := 22) gX 0 dX4_sorting_22 rfl rfl ?_
      refine z_cOV (pc := 23) gX (zI_ok gX hAX) [] [] [0, 1] (met_X4_queued l D B0 o ad x c n (by first | assumption | omega) (by first | assumption | omega)) q1617 q1619 qs41 q54 q1620 (zm 0 rfl) (ci := 4) rfl rfl hd_X4_queued ⟨rfl, rfl⟩ ⟨(Nat.le_of_ble_eq_true rfl), (Nat.le_of_ble_eq_true rfl)⟩ rfl rfl rfl (Nat.le_of_ble_eq_true rfl) ⟨(Nat.le_of_ble_eq_true rfl), (Nat.le_of_ble_eq_true rfl)⟩ dX4_sorting_23 ?_
      intro _ hu23
      refine z_eq (lv₂ := [(0, .ref o), (1, .int w)]) (st₂ := [.int (nI (qN c n))]) ?_ rfl rfl
      refine z_top (nI W) (by rw [hW]) ?_
      refine z_istore_n (pc := 26) gX [1, 2, 0] [(0, .ref o), (1, .int w), (2, .int (nI W))] dX4_sorting_26 rfl (by decide) rfl ?_
      refine z_ldc (pc := 27) gX q1604 dX4_sorting_27 ?_
      refine z_istore_n (pc := 29) gX [1, 2, 3, 0] [(0, .ref o), (1, .int w), (2, .int (nI W)), (3, .int (-1000000))] dX4_sorting_29 rfl (by decide) rfl ?_
      refine z_ldc (pc := 30) gX q1604 dX4_sorting_30 ?_
      refine z_istore (pc := 32) gX [1, 2, 3, 4, 0] [(0, .ref o), (1, .int w), (2, .int (nI W)), (3, .int (-1000000)), (4, .int (-1000000))] dX4_sorting_32 (by decide) rfl ?_
      refine z_iconst (pc := 34) gX 0 dX4_sorting_34 (by decide) ?_
      refine z_istore (pc := 35) gX [1, 2, 3, 4, 5, 0] [(0, .ref o), (1, .int w), (2, .int (nI W)), (3, .int (-1000000)), (4, .int (-1000000)), (5, .int 0)] dX4_sorting_35 (by decide) rfl ?_
      have L37 : ∀ (n37 : Nat) (s : Nat) (fo : Int32) (so : Int32) (t2 : Nat → Int32) (w2 : Nat → Int32), (s ≤ N2) → ((fo, so) = srtP n k c W s) → N2 - s < n37 → zJ pX l eX (zRm 6 0 0) sX mX argsX blX mtX cX QX 8 (zI D A sX [mOb o ad x, [(ad 5, .inl (D.1 100, 25, .inl c))], [(ad 10, .inl (D.1 100, 25, .inl t2))], [(ad 11, .inl (D.1 100, 25, .inl w2))]]) 0 0 37 [(0, .ref o), (1, .int w), (2, .int (nI W)), (3, .int fo), (4, .int so), (5, .int (nI s))] [] := by
        intro n37
        induction n37 with
        | zero => exact fun s fo so t2 w2 hs hp hm37 => absurd hm37 (Nat.not_lt_zero _)
        | succ n37 ih37 =>
          intro s fo so t2 w2 hs hp hm37
          refine z_iload (pc := 37) gX 5 dX4_sorting_37 rfl ?_
          refine z_iconst (pc := 39) gX 1 dX4_sorting_39 (by decide) ?_
          refine z_aload_n (pc := 40) gX 0 dX4_sorting_40 rfl rfl ?_
          refine z_get (pc := 41) gX (zI_ok gX hAX) (zm 0 rfl) (ci := 4) (C := RX4) (T := TX4) (N := 20) rfl in_X4 8 (by decide) q1391 (fun _ h => h) (v := .ref (ad 5)) rfl dX4_sorting_41 ?_
          refine z_bipush (pc := 44) gX 17 dX4_sorting_44 (by decide) ?_
          refine z_top (nI 17) rfl ?_
          refine z_iald (pc := 46) gX (zI_ok gX hAX) (j := 17) (n := 25) (f := c) (zm 1 rfl) (by omega) (by decide) dX4_sorting_46 ?_
          refine z_top (nI n) hn ?_
          refine z_ishl (pc := 47) gX dX4_sorting_47 ?_
          refine z_top (nI N2) (by rw [hN2]; exact shl_bit (by omega)) ?_
          refine z_icmp_ge (pc := 48) gX 190 dX4_sorting_48 (by decide) (fun c48 => ?_) (fun c48 => ?_)
          · skip
            have k48 : N2 ≤ s := (zn_le (a := N2) (b := s) (by omega) (by omega)).mp c48
            refine z_iload_n (pc := 190) gX 1 dX4_sorting_190 rfl rfl ?_
            refine z_if_ne (pc := 191) gX 199 dX4_sorting_191 (by decide) (fun c191 => ?_) (fun c191 => ?_)
            · skip
              refine z_iload_n (pc := 199) gX 3 dX4_sorting_199 rfl rfl ?_
              exact z_rim gX hQX (t2, w2) trivial (zsv (by rw [show s = N2 by omega, hN2, hW] at hp; simp only [mSorting, of_decide_eq_true k4, k16, if_true, ← hp]; first | (rw [if_pos c191]; done) | (rw [if_neg c191]; done))) rfl (by first | decide | omega) (by first | decide | omega) dX4_sorting_200
            · skip
              refine z_iload (pc := 194) gX 4 dX4_sorting_194 rfl ?_
              refine z_goto (pc := 196) gX 200 dX4_sorting_196 (by decide) ?_
              exact z_rim gX hQX (t2, w2) trivial (zsv (by rw [show s = N2 by omega, hN2, hW] at hp; simp only [mSorting, of_decide_eq_true k4, k16, if_true, ← hp]; first | (rw [if_pos c191]; done) | (rw [if_neg c191]; done))) rfl (by first | decide | omega) (by first | decide | omega) dX4_sorting_200
          · skip
            have k48 : s < N2 := (zn_nle (a := N2) (b := s) (by omega) (by omega)).mp c48
            refine z_iload (pc := 51) gX 5 dX4_sorting_51 rfl ?_
            refine z_iload_n (pc := 53) gX 2 dX4_sorting_53 rfl rfl ?_
            refine z_iconst (pc := 54) gX (-1) dX4_sorting_54 (by decide) ?_
            refine z_ixor (pc := 55) gX dX4_sorting_55 ?_
            refine z_iand (pc := 56) gX dX4_sorting_56 ?_
            refine z_if_ne (pc := 57) gX 184 dX4_sorting_57 (by decide) (fun c57 => ?_) (fun c57 => ?_)
            · skip
              have hnsub : ¬ s &&& W = s := fun h => c57 ((sub_iff s (by omega) W (by omega)).mpr h)
              refine z_iinc (pc := 184) gX 5 (nI (s + 1)) [1, 2, 3, 4, 5, 0] [(0, .ref o), (1, .int w), (2, .int (nI W)), (3, .int fo), (4, .int so), (5, .int (nI (s + 1)))] dX4_sorting_184 rfl (nI_1 _) (by decide) rfl ?_
              refine z_goto (pc := 187) gX 37 dX4_sorting_187 (by decide) ?_
              exact ih37 (s + 1) fo so t2 w2 (by omega) (by rw [show srtP n k c W (s + 1) = srtS n k c W s (srtP n k c W s) from rfl, ← hp]; simp only [srtS]; rw [if_neg hnsub]) (by omega)
            · skip
              have hsub : s &&& W = s := (sub_iff s (by omega) W (by omega)).mp c57
              refine z_aload_n (pc := 60) gX 0 dX4_sorting_60 rfl rfl ?_
              refine z_cMV (pc := 61) gX hAX [] [] [0, 1, 2] [3] (fun A1 => met_X4_starts l D B0 A1 o ad x c t2 ) q1592 q1594 qs39 q54 q1595 (zm 0 rfl) (ci := 4) rfl rfl hd_X4_starts ⟨rfl, rfl⟩ ⟨(Nat.le_of_ble_eq_true rfl), (Nat.le_of_ble_eq_true rfl)⟩ rfl rfl rfl rfl rfl (Nat.le_of_ble_eq_true rfl) ⟨(Nat.le_of_ble_eq_true rfl), (Nat.le_of_ble_eq_true rfl)⟩ dX4_sorting_61 ?_
              intro _ hu61
              refine z_re [0, 1, 2, 3] [mOb o ad x, [(ad 5, .inl (D.1 100, 25, .inl c))], [(ad 10, .inl (D.1 100, 25, .inl c))], [(ad 11, .inl (D.1 100, 25, .inl w2))]] rfl rfl ?_
              refine z_eq (lv₂ := [(0, .ref o), (1, .int w), (2, .int (nI W)), (3, .int fo), (4, .int so), (5, .int (nI s))]) (st₂ := []) ?_ rfl rfl
              refine z_iconst (pc := 64) gX 0 dX4_sorting_64 (by decide) ?_
              refine z_istore (pc := 65) gX [1, 2, 3, 4, 5, 6, 0] [(0, .ref o), (1, .int w), (2, .int (nI W)), (3, .int fo), (4, .int so), (5, .int (nI s)), (6, .int 0)] dX4_sorting_65 (by decide) rfl ?_
              have L67 : ∀ (n67 : Nat) (r : Nat) (t3 : Nat → Int32), (r ≤ n) → (t3 = layQ c W s r) → n - r < n67 → zJ pX l eX (zRm 6 0 0) sX mX argsX blX mtX cX QX 8 (zI D A sX [mOb o ad x, [(ad 5, .inl (D.1 100, 25, .inl c))], [(ad 10, .inl (D.1 100, 25, .inl t3))], [(ad 11, .inl (D.1 100, 25, .inl w2))]]) 0 0 67 [(0, .ref o), (1, .int w), (2, .int (nI W)), (3, .int fo), (4, .int so), (5, .int (nI s)), (6, .int (nI r))] [] := by
                intro n67
                induction n67 with
                | zero => exact fun r t3 hr ht3 hm67 => absurd hm67 (Nat.not_lt_zero _)
                | succ n67 ih67 =>
                  intro r t3 hr ht3 hm67
                  refine z_iload (pc := 67) gX 6 dX4_sorting_67 rfl ?_
                  refine z_aload_n (pc := 69) gX 0 dX4_sorting_69 rfl rfl ?_
                  refine z_get (pc := 70) gX (zI_ok gX hAX) (zm 0 rfl) (ci := 4) (C := RX4) (T := TX4) (N := 20) rfl in_X4 8 (by decide) q1391 (fun _ h => h) (v := .ref (ad 5)) rfl dX4_sorting_70 ?_
                  refine z_bipush (pc := 73) gX 17 dX4_sorting_73 (by decide) ?_
                  refine z_top (nI 17) rfl ?_
                  refine z_iald (pc := 75) gX (zI_ok gX hAX) (j := 17) (n := 25) (f := c) (zm 1 rfl) (by omega) (by decide) dX4_sorting_75 ?_
                  refine z_top (nI n) hn ?_
                  refine z_icmp_ge (pc := 76) gX 124 dX4_sorting_76 (by decide) (fun c76 => ?_) (fun c76 => ?_)
                  · skip
                    have k76 : n ≤ r := (zn_le (a := n) (b := r) (by omega) (by omega)).mp c76
                    have hlq : t3 = layQ c W s n := by rw [ht3, show r = n by omega]
                    refine z_aload_n (pc := 124) gX 0 dX4_sorting_124 rfl rfl ?_
                    refine z_cMV (pc := 125) gX hAX [] [] [0, 2, 3] [1] (fun A1 => met_X4_clears l D B0 A1 o ad x t3 w2 n k (by rw [ht3]; exact (layQ_fr r (by omega) 17 (by omega)).trans hn) (by first | assumption | omega) (by rw [ht3]; exact (layQ_fr r (by omega) 16 (by omega)).trans hk) (by first | assumption | omega)) q1609 q1611 qs40 q54 q1612 (zm 0 rfl) (ci := 4) rfl rfl hd_X4_clears ⟨rfl, rfl⟩ ⟨(Nat.le_of_ble_eq_true rfl), (Nat.le_of_ble_eq_true rfl)⟩ rfl rfl rfl rfl rfl (Nat.le_of_ble_eq_true rfl) ⟨(Nat.le_of_ble_eq_true rfl), (Nat.le_of_ble_eq_true rfl)⟩ dX4_sorting_125 ?_
                    intro u125 hu125
                    obtain ⟨th1_125, wn1_125⟩ := u125
                    refine z_re [0, 3, 1, 2] [mOb o ad x, [(ad 5, .inl (D.1 100, 25, .inl c))], [(ad 10, .inl (D.1 100, 25, .inl th1_125))], [(ad 11, .inl (D.1 100, 25, .inl wn1_125))]] rfl rfl ?_
                    refine z_eq (lv₂ := [(0, .ref o), (1, .int w), (2, .int (nI W)), (3, .int fo), (4, .int so), (5, .int (nI s)), (6, .int (nI r))]) (st₂ := [.int (mClr n k t3)]) ?_ rfl rfl
                    refine z_istore (pc := 128) gX [1, 2, 3, 4, 5, 6, 0] [(0, .ref o), (1, .int w), (2, .int (nI W)), (3, .int fo), (4, .int so), (5, .int (nI s)), (6, .int (mClr n k t3))] dX4_sorting_128 (by decide) rfl ?_
                    refine z_iload (pc := 130) gX 6 dX4_sorting_130 rfl ?_
                    refine z_ldc (pc := 132) gX q1604 dX4_sorting_132 ?_
                    refine z_icmp_eq (pc := 134) gX 155 dX4_sorting_134 (by decide) (fun c134 => ?_) (fun c134 => ?_)
                    · skip
                      refine z_iconst (pc := 155) gX 0 dX4_sorting_155 (by decide) ?_
                      refine z_istore (pc := 156) gX [1, 2, 3, 4, 5, 6, 7, 0] [(0, .ref o), (1, .int w), (2, .int (nI W)), (3, .int fo), (4, .int so), (5, .int (nI s)), (6, .int (mClr n k t3)), (7, .int 0)] dX4_sorting_156 (by decide) rfl ?_
                      refine z_iload (pc := 158) gX 7 dX4_sorting_158 rfl ?_
                      refine z_if_eq (pc := 160) gX 168 dX4_sorting_160 (by decide) (fun c160 => ?_) (fun c160 => ?_)
                      · skip
                        refine z_iload_n (pc := 168) gX 3 dX4_sorting_168 rfl rfl ?_
                        refine z_istore_n (pc := 169) gX [1, 2, 3, 0, 4, 5, 6, 7] [(0, .ref o), (1, .int w), (2, .int (nI W)), (3, .int fo), (4, .int so), (5, .int (nI s)), (6, .int (mClr n k t3)), (7, .int 0)] dX4_sorting_169 rfl (by decide) rfl ?_
                        refine z_iload (pc := 170) gX 7 dX4_sorting_170 rfl ?_
                        refine z_if_eq (pc := 172) gX 180 dX4_sorting_172 (by decide) (fun c172 => ?_) (fun c172 => ?_)
                        · skip
                          refine z_iload (pc := 180) gX 4 dX4_sorting_180 rfl ?_
                          refine z_istore (pc := 182) gX [1, 2, 3, 4, 0, 5, 6, 7] [(0, .ref o), (1, .int w), (2, .int (nI W)), (3, .int fo), (4, .int so), (5, .int (nI s)), (6, .int (mClr n k t3)), (7, .int 0)] dX4_sorting_182 (by decide) rfl ?_
                          refine z_iinc (pc := 184) gX 5 (nI (s + 1)) [1, 2, 3, 4, 5, 0, 6, 7] [(0, .ref o), (1, .int w), (2, .int (nI W)), (3, .int fo), (4, .int so), (5, .int (nI (s + 1))), (6, .int (mClr n k t3)), (7, .int 0)] dX4_sorting_184 rfl (nI_1 _) (by decide) rfl ?_
                          refine z_goto (pc := 187) gX 37 dX4_sorting_187 (by decide) ?_
                          refine z_lv [0, 1, 2, 3, 4, 5] [(0, .ref o), (1, .int w), (2, .int (nI W)), (3, .int fo), (4, .int so), (5, .int (nI (s + 1)))] rfl ?_
                          exact ih37 (s + 1) fo so th1_125 wn1_125 (by omega) (by rw [show srtP n k c W (s + 1) = srtS n k c W s (srtP n k c W s) from rfl, ← hp]; simp only [srtS]; rw [if_pos hsub, ← hlq]; rw [if_neg (fun h => h.1 c134)]) (by omega)
                        · skip
                          exact absurd c172 (by decide)
                      · skip
                        exact absurd c160 (by decide)
                    · skip
                      refine z_iload (pc := 137) gX 4 dX4_sorting_137 rfl ?_
                      refine z_ldc (pc := 139) gX q1604 dX4_sorting_139 ?_
                      refine z_icmp_eq (pc := 141) gX 151 dX4_sorting_141 (by decide) (fun c141 => ?_) (fun c141 => ?_)
                      · skip
                        refine z_iconst (pc := 151) gX 1 dX4_sorting_151 (by decide) ?_
                        refine z_goto (pc := 152) gX 156 dX4_sorting_152 (by decide) ?_
                        refine z_istore (pc := 156) gX [1, 2, 3, 4, 5, 6, 7, 0] [(0, .ref o), (1, .int w), (2, .int (nI W)), (3, .int fo), (4, .int so), (5, .int (nI s)), (6, .int (mClr n k t3)), (7, .int 1)] dX4_sorting_156 (by decide) rfl ?_
                        refine z_iload (pc := 158) gX 7 dX4_sorting_158 rfl ?_
                        refine z_if_eq (pc := 160) gX 168 dX4_sorting_160 (by decide) (fun c160 => ?_) (fun c160 => ?_)
                        · skip
                          exact absurd c160 (by decide)
                        · skip
                          refine z_iload (pc := 163) gX 5 dX4_sorting_163 rfl ?_
                          refine z_goto (pc := 165) gX 169 dX4_sorting_165 (by decide) ?_
                          refine z_istore_n (pc := 169) gX [1, 2, 3, 0, 4, 5, 6, 7] [(0, .ref o), (1, .int w), (2, .int (nI W)), (3, .int (nI s)), (4, .int so), (5, .int (nI s)), (6, .int (mClr n k t3)), (7, .int 1)] dX4_sorting_169 rfl (by decide) rfl ?_
                          refine z_iload (pc := 170) gX 7 dX4_sorting_170 rfl ?_
                          refine z_if_eq (pc := 172) gX 180 dX4_sorting_172 (by decide) (fun c172 => ?_) (fun c172 => ?_)
                          · skip
                            exact absurd c172 (by decide)
                          · skip
                            refine z_iload (pc := 175) gX 6 dX4_sorting_175 rfl ?_
                            refine z_goto (pc := 177) gX 182 dX4_sorting_177 (by decide) ?_
                            refine z_istore (pc := 182) gX [1, 2, 3, 4, 0, 5, 6, 7] [(0, .ref o), (1, .int w), (2, .int (nI W)), (3, .int (nI s)), (4, .int (mClr n k t3)), (5, .int (nI s)), (6, .int (mClr n k t3)), (7, .int 1)] dX4_sorting_182 (by decide) rfl ?_
                            refine z_iinc (pc := 184) gX 5 (nI (s + 1)) [1, 2, 3, 4, 5, 0, 6, 7] [(0, .ref o), (1, .int w), (2, .int (nI W)), (3, .int (nI s)), (4, .int (mClr n k t3)), (5, .int (nI (s + 1))), (6, .int (mClr n k t3)), (7, .int 1)] dX4_sorting_184 rfl (nI_1 _) (by decide) rfl ?_
                            refine z_goto (pc := 187) gX 37 dX4_sorting_187 (by decide) ?_
                            refine z_lv [0, 1, 2, 3, 4, 5] [(0, .ref o), (1, .int w), (2, .int (nI W)), (3, .int (nI s)), (4, .int (mClr n k t3)), (5, .int (nI (s + 1)))] rfl ?_
                            exact ih37 (s + 1) (nI s) (mClr n k t3) th1_125 wn1_125 (by omega) (by rw [show srtP n k c W (s + 1) = srtS n k c W s (srtP n k c W s) from rfl, ← hp]; simp only [srtS]; rw [if_pos hsub, ← hlq]; rw [if_pos ⟨c134, Or.inl c141⟩]) (by omega)
                      · skip
                        refine z_iload (pc := 144) gX 6 dX4_sorting_144 rfl ?_
                        refine z_iload (pc := 146) gX 4 dX4_sorting_146 rfl ?_
                        refine z_icmp_ge (pc := 148) gX 155 dX4_sorting_148 (by decide) (fun c148 => ?_) (fun c148 => ?_)
                        · skip
                          refine z_iconst (pc := 155) gX 0 dX4_sorting_155 (by decide) ?_
                          refine z_istore (pc := 156) gX [1, 2, 3, 4, 5, 6, 7, 0] [(0, .ref o), (1, .int w), (2, .int (nI W)), (3, .int fo), (4, .int so), (5, .int (nI s)), (6, .int (mClr n k t3)), (7, .int 0)] dX4_sorting_156 (by decide) rfl ?_
                          refine z_iload (pc := 158) gX 7 dX4_sorting_158 rfl ?_
                          refine z_if_eq (pc := 160) gX 168 dX4_sorting_160 (by decide) (fun c160 => ?_) (fun c160 => ?_)
                          · skip
                            refine z_iload_n (pc := 168) gX 3 dX4_sorting_168 rfl rfl ?_
                            refine z_istore_n (pc := 169) gX [1, 2, 3, 0, 4, 5, 6, 7] [(0, .ref o), (1, .int w), (2, .int (nI W)), (3, .int fo), (4, .int so), (5, .int (nI s)), (6, .int (mClr n k t3)), (7, .int 0)] dX4_sorting_169 rfl (by decide) rfl ?_
                            refine z_iload (pc := 170) gX 7 dX4_sorting_170 rfl ?_
                            refine z_if_eq (pc := 172) gX 180 dX4_sorting_172 (by decide) (fun c172 => ?_) (fun c172 => ?_)
                            · skip
                              refine z_iload (pc := 180) gX 4 dX4_sorting_180 rfl ?_
                              refine z_istore (pc := 182) gX [1, 2, 3, 4, 0, 5, 6, 7] [(0, .ref o), (1, .int w), (2, .int (nI W)), (3, .int fo), (4, .int so), (5, .int (nI s)), (6, .int (mClr n k t3)), (7, .int 0)] dX4_sorting_182 (by decide) rfl ?_
                              refine z_iinc (pc := 184) gX 5 (nI (s + 1)) [1, 2, 3, 4, 5, 0, 6, 7] [(0, .ref o), (1, .int w), (2, .int (nI W)), (3, .int fo), (4, .int so), (5, .int (nI (s + 1))), (6, .int (mClr n k t3)), (7, .int 0)] dX4_sorting_184 rfl (nI_1 _) (by decide) rfl ?_
                              refine z_goto (pc := 187) gX 37 dX4_sorting_187 (by decide) ?_
                              refine z_lv [0, 1, 2, 3, 4, 5] [(0, .ref o), (1, .int w), (2, .int (nI W)), (3, .int fo), (4, .int so), (5, .int (nI (s + 1)))] rfl ?_
                              exact ih37 (s + 1) fo so th1_125 wn1_125 (by omega) (by rw [show srtP n k c W (s + 1) = srtS n k c W s (srtP n k c W s) from rfl, ← hp]; simp only [srtS]; rw [if_pos hsub, ← hlq]; rw [if_neg (fun h => by rcases h.2 with q | q; exact c141 q; exact absurd c148 (Int32.not_le.mpr q))]) (by omega)
                            · skip
                              exact absurd c172 (by decide)
                          · skip
                            exact absurd c160 (by decide)
                        · skip
                          refine z_iconst (pc := 151) gX 1 dX4_sorting_151 (by decide) ?_
                          refine z_goto (pc := 152) gX 156 dX4_sorting_152 (by decide) ?_
                          refine z_istore (pc := 156) gX [1, 2, 3, 4, 5, 6, 7, 0] [(0, .ref o), (1, .int w), (2, .int (nI W)), (3, .int fo), (4, .int so), (5, .int (nI s)), (6, .int (mClr n k t3)), (7, .int 1)] dX4_sorting_156 (by decide) rfl ?_
                          refine z_iload (pc := 158) gX 7 dX4_sorting_158 rfl ?_
                          refine z_if_eq (pc := 160) gX 168 dX4_sorting_160 (by decide) (fun c160 => ?_) (fun c160 => ?_)
                          · skip
                            exact absurd c160 (by decide)
                          · skip
                            refine z_iload (pc := 163) gX 5 dX4_sorting_163 rfl ?_
                            refine z_goto (pc := 165) gX 169 dX4_sorting_165 (by decide) ?_
                            refine z_istore_n (pc := 169) gX [1, 2, 3, 0, 4, 5, 6, 7] [(0, .ref o), (1, .int w), (2, .int (nI W)), (3, .int (nI s)), (4, .int so), (5, .int (nI s)), (6, .int (mClr n k t3)), (7, .int 1)] dX4_sorting_169 rfl (by decide) rfl ?_
                            refine z_iload (pc := 170) gX 7 dX4_sorting_170 rfl ?_
                            refine z_if_eq (pc := 172) gX 180 dX4_sorting_172 (by decide) (fun c172 => ?_) (fun c172 => ?_)
                            · skip
                              exact absurd c172 (by decide)
                            · skip
                              refine z_iload (pc := 175) gX 6 dX4_sorting_175 rfl ?_
                              refine z_goto (pc := 177) gX 182 dX4_sorting_177 (by decide) ?_
                              refine z_istore (pc := 182) gX [1, 2, 3, 4, 0, 5, 6, 7] [(0, .ref o), (1, .int w), (2, .int (nI W)), (3, .int (nI s)), (4, .int (mClr n k t3)), (5, .int (nI s)), (6, .int (mClr n k t3)), (7, .int 1)] dX4_sorting_182 (by decide) rfl ?_
                              refine z_iinc (pc := 184) gX 5 (nI (s + 1)) [1, 2, 3, 4, 5, 0, 6, 7] [(0, .ref o), (1, .int w), (2, .int (nI W)), (3, .int (nI s)), (4, .int (mClr n k t3)), (5, .int (nI (s + 1))), (6, .int (mClr n k t3)), (7, .int 1)] dX4_sorting_184 rfl (nI_1 _) (by decide) rfl ?_
                              refine z_goto (pc := 187) gX 37 dX4_sorting_187 (by decide) ?_
                              refine z_lv [0, 1, 2, 3, 4, 5] [(0, .ref o), (1, .int w), (2, .int (nI W)), (3, .int (nI s)), (4, .int (mClr n k t3)), (5, .int (nI (s + 1)))] rfl ?_
                              exact ih37 (s + 1) (nI s) (mClr n k t3) th1_125 wn1_125 (by omega) (by rw [show srtP n k c W (s + 1) = srtS n k c W s (srtP n k c W s) from rfl, ← hp]; simp only [srtS]; rw [if_pos hsub, ← hlq]; rw [if_pos ⟨c134, Or.inr (Int32.not_le.mp c148)⟩]) (by omega)
                  · skip
                    have k76 : r < n := (zn_nle (a := n) (b := r) (by omega) (by omega)).mp c76
                    refine z_aload_n (pc := 79) gX 0 dX4_sorting_79 rfl rfl ?_
                    refine z_get (pc := 80) gX (zI_ok gX hAX) (zm 0 rfl) (ci := 4) (C := RX4) (T := TX4) (N := 20) rfl in_X4 14 (by decide) q1397 (fun _ h => h) (v := .ref (ad 10)) rfl dX4_sorting_80 ?_
                    refine z_bipush (pc := 83) gX 9 dX4_sorting_83 (by decide) ?_
                    refine z_iload (pc := 85) gX 6 dX4_sorting_85 rfl ?_
                    refine z_iadd (pc := 87) gX dX4_sorting_87 ?_
                    refine z_top (nI (9 + r)) (nI_add 9 r) ?_
                    refine z_iload_n (pc := 88) gX 2 dX4_sorting_88 rfl rfl ?_
                    refine z_iload (pc := 89) gX 6 dX4_sorting_89 rfl ?_
                    refine z_cOS (pc := 91) gX (zI_ok gX hAX) [.int (nI W), .int (nI r)] [.int (nI (9 + r)), .ref (ad 10)] [] (met_X4_has l D B0 W r (by first | assumption | omega) (by first | assumption | omega)) q1621 q1622 q54 q1623 hd_X4_has ⟨rfl, rfl⟩ ⟨(Nat.le_of_ble_eq_true rfl), (Nat.le_of_ble_eq_true rfl)⟩ rfl rfl rfl (Nat.le_of_ble_eq_true rfl) ⟨(Nat.le_of_ble_eq_true rfl), (Nat.le_of_ble_eq_true rfl)⟩ dX4_sorting_91 ?_
                    intro _ hu91
                    refine z_eq (lv₂ := [(0, .ref o), (1, .int w), (2, .int (nI W)), (3, .int fo), (4, .int so), (5, .int (nI s)), (6, .int (nI r))]) (st₂ := [.int (bI (W.testBit r)), .int (nI (9 + r)), .ref (ad 10)]) ?_ rfl rfl
                    refine z_if_eq (pc := 94) gX 107 dX4_sorting_94 (by decide) (fun c94 => ?_) (fun c94 => ?_)
                    · skip
                      have k94 : (W.testBit r) = false := bI_eq0 c94
                      refine z_aload_n (pc := 107) gX 0 dX4_sorting_107 rfl rfl ?_
                      refine z_get (pc := 108) gX (zI_ok gX hAX) (zm 0 rfl) (ci := 4) (C := RX4) (T := TX4) (N := 20) rfl in_X4 14 (by decide) q1397 (fun _ h => h) (v := .ref (ad 10)) rfl dX4_sorting_108 ?_
                      refine z_bipush (pc := 111) gX 9 dX4_sorting_111 (by decide) ?_
                      refine z_iload (pc := 113) gX 6 dX4_sorting_113 rfl ?_
                      refine z_iadd (pc := 115) gX dX4_sorting_115 ?_
                      refine z_top (nI (9 + r)) (nI_add 9 r) ?_
                      refine z_iald (pc := 116) gX (zI_ok gX hAX) (j := (9 + r)) (n := 25) (f := t3) (zm 2 rfl) (by omega) (by decide) dX4_sorting_116 ?_
                      refine z_iast (pc := 117) gX hAX 2 (j := (9 + r)) (n := 25) (f := t3) rfl (by omega) (by decide) [mOb o ad x, [(ad 5, .inl (D.1 100, 25, .inl c))], [(ad 10, .inl (D.1 100, 25, .inl (upd t3 (9 + r) (t3 (9 + r)))))], [(ad 11, .inl (D.1 100, 25, .inl w2))]] rfl dX4_sorting_117 ?_
                      refine z_iinc (pc := 118) gX 6 (nI (r + 1)) [1, 2, 3, 4, 5, 6, 0] [(0, .ref o), (1, .int w), (2, .int (nI W)), (3, .int fo), (4, .int so), (5, .int (nI s)), (6, .int (nI (r + 1)))] dX4_sorting_118 rfl (nI_1 _) (by decide) rfl ?_
                      refine z_goto (pc := 121) gX 67 dX4_sorting_121 (by decide) ?_
                      exact ih67 (r + 1) (upd t3 (9 + r) (t3 (9 + r))) (by omega) (by rw [show layQ c W s (r + 1) = if W.testBit r = true then upd (layQ c W s r) (9 + r) (nI (s / 2 ^ r % 2)) else layQ c W s r from rfl, ← ht3]; simp only [k94]; exact upd_self _ _) (by omega)
                    · skip
                      have k94 : (W.testBit r) = true := bI_ne0 c94
                      refine z_iload (pc := 97) gX 5 dX4_sorting_97 rfl ?_
                      refine z_iload (pc := 99) gX 6 dX4_sorting_99 rfl ?_
                      refine z_ishr (pc := 101) gX dX4_sorting_101 ?_
                      refine z_iconst (pc := 102) gX 1 dX4_sorting_102 (by decide) ?_
                      refine z_iand (pc := 103) gX dX4_sorting_103 ?_
                      refine z_top (nI (s / 2 ^ r % 2)) (bit_eq (by omega) (by omega)) ?_
                      refine z_goto (pc := 104) gX 117 dX4_sorting_104 (by decide) ?_
                      refine z_iast (pc := 117) gX hAX 2 (j := (9 + r)) (n := 25) (f := t3) rfl (by omega) (by decide) [mOb o ad x, [(ad 5, .inl (D.1 100, 25, .inl c))], [(ad 10, .inl (D.1 100, 25, .inl (upd t3 (9 + r) (nI (s / 2 ^ r % 2)))))], [(ad 11, .inl (D.1 100, 25, .inl w2))]] rfl dX4_sorting_117 ?_
                      refine z_iinc (pc := 118) gX 6 (nI (r + 1)) [1, 2, 3, 4, 5, 6, 0] [(0, .ref o), (1, .int w), (2, .int (nI W)), (3, .int fo), (4, .int so), (5, .int (nI s)), (6, .int (nI (r + 1)))] dX4_sorting_118 rfl (nI_1 _) (by decide) rfl ?_
                      refine z_goto (pc := 121) gX 67 dX4_sorting_121 (by decide) ?_
                      exact ih67 (r + 1) (upd t3 (9 + r) (nI (s / 2 ^ r % 2))) (by omega) (by rw [show layQ c W s (r + 1) = if W.testBit r = true then upd (layQ c W s r) (9 + r) (nI (s / 2 ^ r % 2)) else layQ c W s r from rfl, ← ht3]; simp only [k94]; rfl) (by omega)
              exact L67 ((n - 0) + 1) 0 c (by omega) rfl (Nat.lt_succ_self _)
      exact L37 ((N2 - 0) + 1) 0 (-1000000) (-1000000) th wn (by omega) rfl (Nat.lt_succ_self _)
    · skip
      have k16 : (mIn w 0 1) = false := bI_eq0 c16
      refine z_ldc (pc := 19) gX q1455 dX4_sorting_19 ?_
      exact z_rim gX hQX (th, wn) trivial (zsv (by simp [mSorting, of_decide_eq_true k4, k16])) rfl (by first | decide | omega) (by first | decide | omega) dX4_sorting_21
  · skip
    have k4 : (decide (0 < c 17)) = false := bI_eq0 c4
    refine z_ldc (pc := 7) gX q1532 dX4_sorting_7 ?_
    exact z_rim gX hQX (th, wn) trivial (zsv (by simp [mSorting, of_decide_eq_false k4])) rfl (by first | decide | omega) (by first | decide | omega) dX4_sorting_9
theorem hd_X4_sorting : zHd yX4_sorting 1 := by unfold zHd; decide +kernel

