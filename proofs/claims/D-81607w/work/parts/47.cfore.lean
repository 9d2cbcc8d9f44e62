set_option maxRecDepth 100000
/-! WHAT IS FORETOLD, by the component: ahead, later, off, clear, taken, sorting -/
theorem upW {c : Nat → Int32} (j : Nat) {v : Int32} (q : Nat) : upd (fun r => c (2 + r)) j v q = upd c (2 + j) v (2 + q) := by
  simp only [upd]
  by_cases h : q = j
  · rw [if_pos h, if_pos (by omega)]
  · rw [if_neg h, if_neg (by omega)]
theorem upL {c : Nat → Int32} (j : Nat) {v : Int32} (q : Nat) : upd (fun r => c (9 + r)) j v q = upd c (9 + j) v (9 + q) := by
  simp only [upd]
  by_cases h : q = j
  · rw [if_pos h, if_pos (by omega)]
  · rw [if_neg h, if_neg (by omega)]
theorem inF {c : Nat → Int32} {r : Int32} (h : c 17 = 0) : mIn r 0 (c 17 - 1) = false := by
  rw [h]
  cases e : mIn r 0 (0 - 1) with
  | false => rfl
  | true =>
    simp only [mIn, Bool.and_eq_true, decide_eq_true_eq] at e
    exact absurd (Int32.le_trans e.1 e.2) (by decide)
theorem thG {T : va_W} {n k : Nat} {ra : Nat → Nat} {c : Nat → Int32} (h : gOK T n k ra c) : decide (0 < c 16) = true := by
  have h4 := h.2.2.2.2.1
  have h12 := h.2.2.2.2.2.1
  rw [h.2.2.2.1]
  exact decide_eq_true ((zn_lt (a := 0) (b := k) (by omega) (by omega)).mpr (by omega))
theorem poG {T : va_W} {n k : Nat} {ra : Nat → Nat} {c : Nat → Int32} (h : gOK T n k ra c) : 0 < c 17 := by
  have h4 := h.1
  have h12 := h.2.1
  rw [h.2.2.1]
  exact (zn_lt (a := 0) (b := n) (by omega) (by omega)).mpr (by omega)
theorem tOK_g {d n : Nat} {ra : Nat → Nat} {m : Int32 × Int32 × (Nat → Int32)} {c : Nat → Int32} (h : n ≤ 7) : tOK ((some d, n, ra), m, c) := ⟨fun e => absurd e (by simp), h⟩
theorem kOK.upl {T : va_W} {n k : Nat} {ra : Nat → Nat} {c : Nat → Int32} {j : Nat} {v : Int32} (h : kOK T n k ra c) (hv : v = 0 ∨ v = 1) (hj : j < 7) : kOK T n k ra (upd c (9 + j) v) := by
  refine ⟨h.1, (pk_un (by omega)).trans h.2.1, (pk_un (by omega)).trans h.2.2.1, h.2.2.2.1, fun q hq => ?_, ?_⟩
  · by_cases e : q = j
    · rw [e, pk_us]; exact hv
    · rw [pk_un (by omega)]; exact h.2.2.2.2.1 q hq
  · rw [show (fun r => upd c (9 + j) v (18 + r)) = (fun r => c (18 + r)) from funext fun r => pk_un (by omega)]; exact h.2.2.2.2.2

set_option maxHeartbeats 4000000 in
theorem met_clearsR (l : Launch) (D : va_G) (B0 : Nat) (A : Nat → Prop) (sa : Nat → Nat) (wn : Int32) (md : Int32) (d : Nat) (n : Nat) (c : Nat → Int32) (od : Nat → Int32) (ra : Nat → Nat) (T : va_W) (k : Nat) (hK : kOK T n k ra c) : Met l yX2_clears (ws_ yX2_clears cX2_clears 2 (some .int)) (zRm 10 0 0) (va_Pc [.ref (sa 0)] (zPre B0 D A [[(sa 0, .inr (2, [.int (c 16), .int (c 1), .int (c 0), .int wn, .ref (sa 1), .ref (sa 2), .ref (sa 3), .ref (sa 4)]))], [(sa 1, .inr (16, [.int md, .ref d, .int (nI n)]))], [(sa 2, .inl (D.1 100, 7, .inl (fun i_ => c (9 + i_))))], [(sa 3, .inl (D.1 100, 7, .inl (fun i_ => c (2 + i_))))], [(sa 4, .inl (D.1 100, 7, .inl od))], [(d, .inl (D.1 104, 10, .inr (.inr (.inr (.inr (rF ra n))))))], T])) (zQ (S := (Nat → Int32) × (Nat → Int32) × Int32) (fun u => (fun (c1 : Nat → Int32) (od1 : Nat → Int32) (wn1 : Int32) => True) u.1 u.2.1 u.2.2) (fun u => (fun (c1 : Nat → Int32) (od1 : Nat → Int32) (wn1 : Int32) => some (.int (nI (clD n k 61 0 c)))) u.1 u.2.1 u.2.2) (fun u => (fun (c1 : Nat → Int32) (od1 : Nat → Int32) (wn1 : Int32) => [[(sa 0, .inr (2, [.int (c1 16), .int (c1 1), .int (c1 0), .int wn1, .ref (sa 1), .ref (sa 2), .ref (sa 3), .ref (sa 4)]))], [(sa 1, .inr (16, [.int md, .ref d, .int (nI n)]))], [(sa 2, .inl (D.1 100, 7, .inl (fun i_ => c1 (9 + i_))))], [(sa 3, .inl (D.1 100, 7, .inl (fun i_ => c1 (2 + i_))))], [(sa 4, .inl (D.1 100, 7, .inl od1))], [(d, .inl (D.1 104, 10, .inr (.inr (.inr (.inr (rF ra n))))))], T]) u.1 u.2.1 u.2.2) D A) 0 0 A := by
  refine z_entry (by decide +kernel) (Nat.le_of_ble_eq_true rfl) (fun pX eX sX mX argsX blX mtX cX QX hQX gX hAX hnm => ?_)
  refine z_eq (lv₂ := [(0, .ref (sa 0))]) (st₂ := []) ?_ rfl rfl
  refine z_iconst (pc := 0) gX 0 dX2_clears_0 (by decide) ?_
  refine z_istore_n (pc := 1) gX [1, 0] [(0, .ref (sa 0)), (1, .int 0)] dX2_clears_1 rfl (by decide) rfl ?_
  have L2 : ∀ (n2 : Nat) (i : Nat) (c1 : Nat → Int32) (od1 : Nat → Int32) (wn1 : Int32), (i ≤ 61) → (kOK T n k ra c1) → (clD n k (61 - i) i c1 = clD n k 61 0 c) → 61 - i < n2 → zJ pX l eX (zRm 10 0 0) sX mX argsX blX mtX cX QX 2 (zI D A sX [[(sa 0, .inr (2, [.int (c1 16), .int (c1 1), .int (c1 0), .int wn1, .ref (sa 1), .ref (sa 2), .ref (sa 3), .ref (sa 4)]))], [(sa 1, .inr (16, [.int md, .ref d, .int (nI n)]))], [(sa 2, .inl (D.1 100, 7, .inl (fun i_ => c1 (9 + i_))))], [(sa 3, .inl (D.1 100, 7, .inl (fun i_ => c1 (2 + i_))))], [(sa 4, .inl (D.1 100, 7, .inl od1))], [(d, .inl (D.1 104, 10, .inr (.inr (.inr (.inr (rF ra n))))))], T]) 0 0 2 [(0, .ref (sa 0)), (1, .int (nI i))] [] := by
    intro n2
    induction n2 with
    | zero => exact fun i c1 od1 wn1 hi hK1 hp hm2 => absurd hm2 (Nat.not_lt_zero _)
    | succ n2 ih2 =>
      intro i c1 od1 wn1 hi hK1 hp hm2
      refine z_iload_n (pc := 2) gX 1 dX2_clears_2 rfl rfl ?_
      refine z_bipush (pc := 3) gX 60 dX2_clears_3 (by decide) ?_
      refine z_icmp_gt (pc := 5) gX 30 dX2_clears_5 (by decide) (fun c5 => ?_) (fun c5 => ?_)
      · skip
        have k5 : 60 < i := (zn_lt (a := 60) (b := i) (by omega) (by omega)).mp c5
        refine z_iload_n (pc := 30) gX 1 dX2_clears_30 rfl rfl ?_
        exact z_rim gX hQX (c1, od1, wn1) trivial (zsv (by rw [← hp, show i = 61 by omega]; rfl)) rfl (by first | decide | omega) (by first | decide | omega) dX2_clears_31
      · skip
        have k5 : i ≤ 60 := (zn_nlt (a := 60) (b := i) (by omega) (by omega)).mp c5
        have hn7 := hK1.1
        refine z_aload_n (pc := 8) gX 0 dX2_clears_8 rfl rfl ?_
        refine z_cOV (pc := 9) gX (zI_ok gX hAX) [] [] [0, 1, 3] (met_X2_offs l D B0 sa (c1 16) (c1 1) (c1 0) wn1 md d n (fun i_ => c1 (2 + i_)) hK.1) q1012 q926 q927 q49 q928 (zm 0 rfl) (ci := 2) rfl rfl hd_X2_offs ⟨rfl, rfl⟩ ⟨(Nat.le_of_ble_eq_true rfl), (Nat.le_of_ble_eq_true rfl)⟩ rfl rfl rfl (Nat.le_of_ble_eq_true rfl) ⟨(Nat.le_of_ble_eq_true rfl), (Nat.le_of_ble_eq_true rfl)⟩ dX2_clears_9 ?_
        intro _ hu9
        refine z_eq (lv₂ := [(0, .ref (sa 0)), (1, .int (nI i))]) (st₂ := [.int (nI (cW (fun i_ => c1 (2 + i_)) 99 n))]) ?_ rfl rfl
        refine z_top (nI (cntV c1 99 n)) (by rw [cW_c]) ?_
        refine z_aload_n (pc := 12) gX 0 dX2_clears_12 rfl rfl ?_
        refine z_cOV (pc := 13) gX (zI_ok gX hAX) [] [.int (nI (cntV c1 99 n))] [0, 1] (met_X2_many l D B0 sa (c1 16) (c1 1) (c1 0) wn1 md d n ) q847 q653 q654 q49 q655 (zm 0 rfl) (ci := 2) rfl rfl hd_X2_many ⟨rfl, rfl⟩ ⟨(Nat.le_of_ble_eq_true rfl), (Nat.le_of_ble_eq_true rfl)⟩ rfl rfl rfl (Nat.le_of_ble_eq_true rfl) ⟨(Nat.le_of_ble_eq_true rfl), (Nat.le_of_ble_eq_true rfl)⟩ dX2_clears_13 ?_
        intro _ hu13
        refine z_eq (lv₂ := [(0, .ref (sa 0)), (1, .int (nI i))]) (st₂ := [.int (nI n), .int (nI (cntV c1 99 n))]) ?_ rfl rfl
        have hcw := cntV_le c1 99 n
        have hn7 := hK1.1
        refine z_icmp_ge (pc := 16) gX 30 dX2_clears_16 (by decide) (fun c16 => ?_) (fun c16 => ?_)
        · skip
          have k16 : n ≤ cntV c1 99 n := (zn_le (a := n) (b := cntV c1 99 n) (by omega) (by omega)).mp c16
          refine z_iload_n (pc := 30) gX 1 dX2_clears_30 rfl rfl ?_
          exact z_rim gX hQX (c1, od1, wn1) trivial (zsv (by rw [← hp, clD_s (by omega), if_pos (by omega)])) rfl (by first | decide | omega) (by first | decide | omega) dX2_clears_31
        · skip
          have k16 : cntV c1 99 n < n := (zn_nle (a := n) (b := cntV c1 99 n) (by omega) (by omega)).mp c16
          refine z_aload_n (pc := 19) gX 0 dX2_clears_19 rfl rfl ?_
          refine z_cMV (pc := 20) gX hAX [] [] [0, 1, 2, 3, 4, 5, 6] [] (fun A1 => met_goOnC l D B0 A1 sa wn1 md d n c1 od1 ra T k hK1) q994 q840 q841 q49 q842 (zm 0 rfl) (ci := 2) rfl rfl hd_X2_goOn ⟨rfl, rfl⟩ ⟨(Nat.le_of_ble_eq_true rfl), (Nat.le_of_ble_eq_true rfl)⟩ rfl rfl rfl rfl rfl (Nat.le_of_ble_eq_true rfl) ⟨(Nat.le_of_ble_eq_true rfl), (Nat.le_of_ble_eq_true rfl)⟩ dX2_clears_20 ?_
          intro u20 hu20
          obtain ⟨od1_20, rfl⟩ : ∃ z, z = u20 := ⟨_, rfl⟩
          refine z_re [0, 1, 2, 3, 4, 5, 6] [[(sa 0, .inr (2, [.int ((mTick n k c1) 16), .int ((mTick n k c1) 1), .int ((mTick n k c1) 0), .int (wn1 + nI (wnP (mPh1 n k c1) n)), .ref (sa 1), .ref (sa 2), .ref (sa 3), .ref (sa 4)]))], [(sa 1, .inr (16, [.int md, .ref d, .int (nI n)]))], [(sa 2, .inl (D.1 100, 7, .inl (fun i_ => (mTick n k c1) (9 + i_))))], [(sa 3, .inl (D.1 100, 7, .inl (fun i_ => (mTick n k c1) (2 + i_))))], [(sa 4, .inl (D.1 100, 7, .inl od1_20))], [(d, .inl (D.1 104, 10, .inr (.inr (.inr (.inr (rF ra n))))))], T] rfl rfl ?_
          refine z_eq (lv₂ := [(0, .ref (sa 0)), (1, .int (nI i))]) (st₂ := [.ref (sa 0)]) ?_ rfl rfl
          refine z_pop (pc := 23) gX dX2_clears_23 rfl ?_
          refine z_iinc (pc := 24) gX 1 (nI (i + 1)) [1, 0] [(0, .ref (sa 0)), (1, .int (nI (i + 1)))] dX2_clears_24 rfl (nI_1 _) (by decide) rfl ?_
          refine z_goto (pc := 27) gX 2 dX2_clears_27 (by decide) ?_
          exact ih2 (i + 1) (mTick n k c1) od1_20 (wn1 + nI (wnP (mPh1 n k c1) n)) (by omega) hK1.tick (by rw [clD_s (by omega), if_neg (by omega)] at hp; exact hp) (by omega)
  exact L2 ((61 - 0) + 1) 0 c od wn (by omega) hK rfl (Nat.lt_succ_self _)

set_option maxHeartbeats 4000000 in
theorem met_X0_ahead (l : Launch) (D : va_G) (B0 : Nat) (A : Nat → Prop) (o : Nat) (ad : Nat → Nat) (sa : Nat → Nat) (sb : Nat → Nat) (tr : Nat) (x : Nat → Int32) (da : Option Nat) (n : Nat) (ra : Nat → Nat) (md : Int32) (wn : Int32) (od : Nat → Int32) (c : Nat → Int32) (T : va_W) (k : Nat) (ht : sT) (r : Int32) (dd_ : Int32) (hS : sOK T da n k ra c) (ht0 : tOK ht) : Met l yX0_ahead (ws_ yX0_ahead cX0_ahead 3 (some .int)) (zRm 11 1 10) (va_Pc [.ref o, .int r, .int dd_] (zPre B0 D A [cOb o ad (sa 0) (sb 0) tr x, thP D sa ((da, n, ra), (md, wn, od), c), thP D sb ht, T])) (zQ (S := sT) (fun u => (fun (ht1 : sT) => tOK ht1) u) (fun u => (fun (ht1 : sT) => some (.int (mAhead n k c r dd_))) u) (fun u => (fun (ht1 : sT) => [cOb o ad (sa 0) (sb 0) tr x, thP D sa ((da, n, ra), (md, wn, od), c), thP D sb ht1, T]) u) D A) 1 10 A := by
  refine z_entry (by decide +kernel) (Nat.le_of_ble_eq_true rfl) (fun pX eX sX mX argsX blX mtX cX QX hQX gX hAX hnm => ?_)
  refine z_eq (lv₂ := [(0, .ref o), (1, .int r), (2, .int dd_)]) (st₂ := []) ?_ rfl rfl
  rcases hS with ⟨rfl, rfl, h16, h17⟩ | ⟨⟨d, rfl⟩, hG⟩
  · skip
    refine z_ws [cOb o ad (sa 0) (sb 0) tr x, [(sa 0, .inr (2, [.int (c 16), .int (c 1), .int (c 0), .int wn, .ref (sa 1), .ref (sa 2), .ref (sa 3), .ref (sa 4)]))], [(sa 1, .inr (16, [.int md, .ref (zEE D), .int (nI 0)]))], [(sa 2, .inl (D.1 100, 7, .inl (fun i_ => c (9 + i_))))], [(sa 3, .inl (D.1 100, 7, .inl (fun i_ => c (2 + i_))))], [(sa 4, .inl (D.1 100, 7, .inl od))], thP D sb ht, T] (List.Perm.refl _) ?_
    refine z_aload_n (pc := 0) gX 0 dX0_ahead_0 rfl rfl ?_
    refine z_iload_n (pc := 1) gX 1 dX0_ahead_1 rfl rfl ?_
    refine z_cOV (pc := 2) gX (zI_ok gX hAX) [.int r] [] [0, 1, 2] (met_X0_isRider l D B0 o ad sa sb tr x (c 16) (c 1) (c 0) wn md (zEE D) 0 r ) q947 q949 qs22 q47 q950 (zm 0 rfl) (ci := 0) rfl rfl hd_X0_isRider ⟨rfl, rfl⟩ ⟨(Nat.le_of_ble_eq_true rfl), (Nat.le_of_ble_eq_true rfl)⟩ rfl rfl rfl (Nat.le_of_ble_eq_true rfl) ⟨(Nat.le_of_ble_eq_true rfl), (Nat.le_of_ble_eq_true rfl)⟩ dX0_ahead_2 ?_
    intro _ hu2
    refine z_eq (lv₂ := [(0, .ref o), (1, .int r), (2, .int dd_)]) (st₂ := [.int (bI (mIn r 0 (nI 0 - 1)))]) ?_ rfl rfl
    refine z_top (bI (mIn r 0 (c 17 - 1))) (congrArg (fun z => bI (mIn r 0 (z - 1))) h17.symm) ?_
    refine z_if_eq (pc := 5) gX 31 dX0_ahead_5 (by decide) (fun c5 => ?_) (fun c5 => ?_)
    · skip
      have k5 : (mIn r 0 (c 17 - 1)) = false := bI_eq0 c5
      refine z_ldc (pc := 31) gX q350 dX0_ahead_31 ?_
      refine z_ws [cOb o ad (sa 0) (sb 0) tr x, thP D sa ((none, 0, ra), (md, wn, od), c), thP D sb ht, T] (List.Perm.refl _) ?_
      exact z_rim gX hQX ht ht0 (zsv (by simp [mAhead, inF h17])) rfl (by first | decide | omega) (by first | decide | omega) dX0_ahead_33
    · skip
      have k5 : (mIn r 0 (c 17 - 1)) = true := bI_ne0 c5
      exact absurd k5 (by rw [inF h17]; decide)
  · skip
    have hK := hG.k
    have hn1 := hG.1
    have hn7 := hG.2.1
    have h17 := hG.2.2.1
    have h16 := hG.2.2.2.1
    have hk4 := hG.2.2.2.2.1
    have hk12 := hG.2.2.2.2.2.1
    have hln := hG.2.2.2.2.2.2.1
    have hR := hG.2.2.2.2.2.2.2
    refine z_ws [cOb o ad (sa 0) (sb 0) tr x, [(sa 0, .inr (2, [.int (c 16), .int (c 1), .int (c 0), .int wn, .ref (sa 1), .ref (sa 2), .ref (sa 3), .ref (sa 4)]))], [(sa 1, .inr (16, [.int md, .ref d, .int (nI n)]))], [(sa 2, .inl (D.1 100, 7, .inl (fun i_ => c (9 + i_))))], [(sa 3, .inl (D.1 100, 7, .inl (fun i_ => c (2 + i_))))], [(sa 4, .inl (D.1 100, 7, .inl od))], [(d, .inl (D.1 104, 10, .inr (.inr (.inr (.inr (rF ra n))))))], thP D sb ht, T] (List.Perm.refl _) ?_
    refine z_aload_n (pc := 0) gX 0 dX0_ahead_0 rfl rfl ?_
    refine z_iload_n (pc := 1) gX 1 dX0_ahead_1 rfl rfl ?_
    refine z_cOV (pc := 2) gX (zI_ok gX hAX) [.int r] [] [0, 1, 2] (met_X0_isRider l D B0 o ad sa sb tr x (c 16) (c 1) (c 0) wn md d n r ) q947 q949 qs22 q47 q950 (zm 0 rfl) (ci := 0) rfl rfl hd_X0_isRider ⟨rfl, rfl⟩ ⟨(Nat.le_of_ble_eq_true rfl), (Nat.le_of_ble_eq_true rfl)⟩ rfl rfl rfl (Nat.le_of_ble_eq_true rfl) ⟨(Nat.le_of_ble_eq_true rfl), (Nat.le_of_ble_eq_true rfl)⟩ dX0_ahead_2 ?_
    intro _ hu2
    refine z_eq (lv₂ := [(0, .ref o), (1, .int r), (2, .int dd_)]) (st₂ := [.int (bI (mIn r 0 (nI n - 1)))]) ?_ rfl rfl
    refine z_top (bI (mIn r 0 (c 17 - 1))) (congrArg (fun z => bI (mIn r 0 (z - 1))) h17.symm) ?_
    refine z_if_eq (pc := 5) gX 31 dX0_ahead_5 (by decide) (fun c5 => ?_) (fun c5 => ?_)
    · skip
      have k5 : (mIn r 0 (c 17 - 1)) = false := bI_eq0 c5
      refine z_ldc (pc := 31) gX q350 dX0_ahead_31 ?_
      refine z_ws [cOb o ad (sa 0) (sb 0) tr x, thP D sa ((some d, n, ra), (md, wn, od), c), thP D sb ht, T] (List.Perm.refl _) ?_
      exact z_rim gX hQX ht ht0 (zsv (by simp [mAhead, k5])) rfl (by first | decide | omega) (by first | decide | omega) dX0_ahead_33
    · skip
      have k5 : (mIn r 0 (c 17 - 1)) = true := bI_ne0 c5
      obtain ⟨j, hj, rfl⟩ := riderN k5 h17 hn7
      refine z_iload_n (pc := 8) gX 2 dX0_ahead_8 rfl rfl ?_
      refine z_cOS (pc := 9) gX (zI_ok gX hAX) [.int dd_] [] [] (met_X0_isFar l D B0 dd_ ) q982 q983 q47 q984 hd_X0_isFar ⟨rfl, rfl⟩ ⟨(Nat.le_of_ble_eq_true rfl), (Nat.le_of_ble_eq_true rfl)⟩ rfl rfl rfl (Nat.le_of_ble_eq_true rfl) ⟨(Nat.le_of_ble_eq_true rfl), (Nat.le_of_ble_eq_true rfl)⟩ dX0_ahead_9 ?_
      intro _ hu9
      refine z_eq (lv₂ := [(0, .ref o), (1, .int (nI j)), (2, .int dd_)]) (st₂ := [.int (bI (mIn dd_ 0 60))]) ?_ rfl rfl
      refine z_if_eq (pc := 12) gX 31 dX0_ahead_12 (by decide) (fun c12 => ?_) (fun c12 => ?_)
      · skip
        have k12 : (mIn dd_ 0 60) = false := bI_eq0 c12
        refine z_ldc (pc := 31) gX q350 dX0_ahead_31 ?_
        refine z_ws [cOb o ad (sa 0) (sb 0) tr x, thP D sa ((some d, n, ra), (md, wn, od), c), thP D sb ht, T] (List.Perm.refl _) ?_
        exact z_rim gX hQX ht ht0 (zsv (by simp [mAhead, k5, k12])) rfl (by first | decide | omega) (by first | decide | omega) dX0_ahead_33
      · skip
        have k12 : (mIn dd_ 0 60) = true := bI_ne0 c12
        obtain ⟨dd, hdd, rfl⟩ := mIn_nat k12 60 (by decide)
        refine z_aload_n (pc := 15) gX 0 dX0_ahead_15 rfl rfl ?_
        refine z_cMV (pc := 16) gX hAX [] [] [0, 1, 2, 3, 4, 5, 6, 7, 8] [] (fun A1 => met_X0_asNow l D B0 A1 o ad sa sb tr x wn md d n c od ra T k ht hG ht0) q986 q988 qs23 q47 q989 (zm 0 rfl) (ci := 0) rfl rfl hd_X0_asNow ⟨rfl, rfl⟩ ⟨(Nat.le_of_ble_eq_true rfl), (Nat.le_of_ble_eq_true rfl)⟩ rfl rfl (zpl 9 rfl (by decide +kernel)) rfl rfl (Nat.le_of_ble_eq_true rfl) ⟨(Nat.le_of_ble_eq_true rfl), (Nat.le_of_ble_eq_true rfl)⟩ dX0_ahead_16 ?_
        intro u16 hu16
        obtain ⟨zmd_16, zd_16, zod_16⟩ := u16
        refine z_re [0, 1, 2, 3, 4, 5, 6, 7, 9, 10, 11, 12, 13, 8] [cOb o ad (sa 0) (sb 0) tr x, [(sa 0, .inr (2, [.int (c 16), .int (c 1), .int (c 0), .int wn, .ref (sa 1), .ref (sa 2), .ref (sa 3), .ref (sa 4)]))], [(sa 1, .inr (16, [.int md, .ref d, .int (nI n)]))], [(sa 2, .inl (D.1 100, 7, .inl (fun i_ => c (9 + i_))))], [(sa 3, .inl (D.1 100, 7, .inl (fun i_ => c (2 + i_))))], [(sa 4, .inl (D.1 100, 7, .inl od))], [(d, .inl (D.1 104, 10, .inr (.inr (.inr (.inr (rF ra n))))))], [(sb 0, .inr (2, [.int (c 16), .int (c 1), .int (c 0), .int wn, .ref (sb 1), .ref (sb 2), .ref (sb 3), .ref (sb 4)]))], [(sb 1, .inr (16, [.int zmd_16, .ref zd_16, .int (nI n)]))], [(sb 2, .inl (D.1 100, 7, .inl (fun i_ => c (9 + i_))))], [(sb 3, .inl (D.1 100, 7, .inl (fun i_ => c (2 + i_))))], [(sb 4, .inl (D.1 100, 7, .inl zod_16))], [(zd_16, .inl (D.1 104, 10, .inr (.inr (.inr (.inr (rF ra n))))))], T] rfl (zpl 14 rfl (by decide +kernel)) ?_
        refine z_norm [cOb o ad (sa 0) (sb 0) tr x, [(sa 0, .inr (2, [.int (c 16), .int (c 1), .int (c 0), .int wn, .ref (sa 1), .ref (sa 2), .ref (sa 3), .ref (sa 4)]))], [(sa 1, .inr (16, [.int md, .ref d, .int (nI n)]))], [(sa 2, .inl (D.1 100, 7, .inl (fun i_ => c (9 + i_))))], [(sa 3, .inl (D.1 100, 7, .inl (fun i_ => c (2 + i_))))], [(sa 4, .inl (D.1 100, 7, .inl od))], [(d, .inl (D.1 104, 10, .inr (.inr (.inr (.inr (rF ra n))))))], [(sb 0, .inr (2, [.int (c 16), .int (c 1), .int (c 0), .int wn, .ref (sb 1), .ref (sb 2), .ref (sb 3), .ref (sb 4)]))], [(sb 1, .inr (16, [.int zmd_16, .ref zd_16, .int (nI n)]))], [(sb 2, .inl (D.1 100, 7, .inl (fun i_ => c (9 + i_))))], [(sb 3, .inl (D.1 100, 7, .inl (fun i_ => c (2 + i_))))], [(sb 4, .inl (D.1 100, 7, .inl zod_16))], [(zd_16, .inl (D.1 104, 10, .inr (.inr (.inr (.inr (rF ra n))))))], T] 1 10 ?_ rfl rfl rfl
        refine z_eq (lv₂ := [(0, .ref o), (1, .int (nI j)), (2, .int (nI dd))]) (st₂ := [.ref (sb 0)]) ?_ rfl rfl
        refine z_iload_n (pc := 19) gX 2 dX0_ahead_19 rfl rfl ?_
        refine z_cMV (pc := 20) gX hAX [.int (nI dd)] [] [7, 8, 9, 10, 11, 12, 13] [0, 1, 2, 3, 4, 5, 6] (fun A1 => met_goOn2C l D B0 A1 sb wn zmd_16 zd_16 n c zod_16 ra T k dd hK (by first | assumption | omega)) q990 q991 q992 q49 q993 (zm 7 rfl) (ci := 2) rfl rfl hd_X2_goOn_2 ⟨rfl, rfl⟩ ⟨(Nat.le_of_ble_eq_true rfl), (Nat.le_of_ble_eq_true rfl)⟩ rfl rfl (zpl 14 rfl (by decide +kernel)) rfl rfl (Nat.le_of_ble_eq_true rfl) ⟨(Nat.le_of_ble_eq_true rfl), (Nat.le_of_ble_eq_true rfl)⟩ dX0_ahead_20 ?_
        intro u20 hu20
        obtain ⟨od1_20, wn1_20⟩ := u20
        refine z_re [7, 8, 9, 10, 11, 12, 13, 0, 1, 2, 3, 4, 5, 6] [cOb o ad (sa 0) (sb 0) tr x, [(sa 0, .inr (2, [.int (c 16), .int (c 1), .int (c 0), .int wn, .ref (sa 1), .ref (sa 2), .ref (sa 3), .ref (sa 4)]))], [(sa 1, .inr (16, [.int md, .ref d, .int (nI n)]))], [(sa 2, .inl (D.1 100, 7, .inl (fun i_ => c (9 + i_))))], [(sa 3, .inl (D.1 100, 7, .inl (fun i_ => c (2 + i_))))], [(sa 4, .inl (D.1 100, 7, .inl od))], [(d, .inl (D.1 104, 10, .inr (.inr (.inr (.inr (rF ra n))))))], [(sb 0, .inr (2, [.int ((itT n k c dd) 16), .int ((itT n k c dd) 1), .int ((itT n k c dd) 0), .int wn1_20, .ref (sb 1), .ref (sb 2), .ref (sb 3), .ref (sb 4)]))], [(sb 1, .inr (16, [.int zmd_16, .ref zd_16, .int (nI n)]))], [(sb 2, .inl (D.1 100, 7, .inl (fun i_ => (itT n k c dd) (9 + i_))))], [(sb 3, .inl (D.1 100, 7, .inl (fun i_ => (itT n k c dd) (2 + i_))))], [(sb 4, .inl (D.1 100, 7, .inl od1_20))], [(zd_16, .inl (D.1 104, 10, .inr (.inr (.inr (.inr (rF ra n))))))], T] rfl (zpl 14 rfl (by decide +kernel)) ?_
        refine z_eq (lv₂ := [(0, .ref o), (1, .int (nI j)), (2, .int (nI dd))]) (st₂ := [.ref (sb 0)]) ?_ rfl rfl
        refine z_get (pc := 23) gX (zI_ok gX hAX) (zm 7 rfl) (ci := 2) (C := RX2) (T := TX2) (N := 8) rfl in_X2 6 (by decide) q171 (fun _ h => h) (v := .ref (sb 3)) rfl dX0_ahead_23 ?_
        refine z_iload_n (pc := 26) gX 1 dX0_ahead_26 rfl rfl ?_
        refine z_iald (pc := 27) gX (zI_ok gX hAX) (j := j) (n := 7) (f := (fun i_ => (itT n k c dd) (2 + i_))) (zm 10 rfl) (by omega) (by decide) dX0_ahead_27 ?_
        refine z_top ((itT n k c dd) (2 + j)) rfl ?_
        refine z_goto (pc := 28) gX 33 dX0_ahead_28 (by decide) ?_
        refine z_ws [cOb o ad (sa 0) (sb 0) tr x, [(sa 0, .inr (2, [.int (c 16), .int (c 1), .int (c 0), .int wn, .ref (sa 1), .ref (sa 2), .ref (sa 3), .ref (sa 4)]))], [(sa 1, .inr (16, [.int md, .ref d, .int (nI n)]))], [(sa 2, .inl (D.1 100, 7, .inl (fun i_ => c (9 + i_))))], [(sa 3, .inl (D.1 100, 7, .inl (fun i_ => c (2 + i_))))], [(sa 4, .inl (D.1 100, 7, .inl od))], [(d, .inl (D.1 104, 10, .inr (.inr (.inr (.inr (rF ra n))))))], thP D sb ((some zd_16, n, ra), (zmd_16, wn1_20, od1_20), itT n k c dd), T] (List.Perm.refl _) ?_
        refine z_ws [cOb o ad (sa 0) (sb 0) tr x, thP D sa ((some d, n, ra), (md, wn, od), c), thP D sb ((some zd_16, n, ra), (zmd_16, wn1_20, od1_20), itT n k c dd), T] (List.Perm.refl _) ?_
        exact z_rim gX hQX ((some zd_16, n, ra), (zmd_16, wn1_20, od1_20), itT n k c dd) (tOK_g hn7) (zsv (by simp [mAhead, k5, k12, nI_clamp (show j < 2 ^ 31 by omega), nI_clamp (show dd < 2 ^ 31 by omega)])) rfl (by first | decide | omega) (by first | decide | omega) dX0_ahead_33
theorem hd_X0_ahead : zHd yX0_ahead 2 := by unfold zHd; decide +kernel

set_option maxHeartbeats 4000000 in
theorem met_X0_later (l : Launch) (D : va_G) (B0 : Nat) (A : Nat → Prop) (o : Nat) (ad : Nat → Nat) (sa : Nat → Nat) (sb : Nat → Nat) (tr : Nat) (x : Nat → Int32) (da : Option Nat) (n : Nat) (ra : Nat → Nat) (md : Int32) (wn : Int32) (od : Nat → Int32) (c : Nat → Int32) (T : va_W) (k : Nat) (ht : sT) (dd_ : Int32) (w : Int32) (hS : sOK T da n k ra c) (ht0 : tOK ht) : Met l yX0_later (ws_ yX0_later cX0_later 6 (some .int)) (zRm 11 1 10) (va_Pc [.ref o, .int dd_, .int w] (zPre B0 D A [cOb o ad (sa 0) (sb 0) tr x, thP D sa ((da, n, ra), (md, wn, od), c), thP D sb ht, T])) (zQ (S := sT) (fun u => (fun (ht1 : sT) => tOK ht1) u) (fun u => (fun (ht1 : sT) => some (.int (mLater n k c dd_ w))) u) (fun u => (fun (ht1 : sT) => [cOb o ad (sa 0) (sb 0) tr x, thP D sa ((da, n, ra), (md, wn, od), c), thP D sb ht1, T]) u) D A) 1 10 A := by
  refine z_entry (by decide +kernel) (Nat.le_of_ble_eq_true rfl) (fun pX eX sX mX argsX blX mtX cX QX hQX gX hAX hnm => ?_)
  refine z_eq (lv₂ := [(0, .ref o), (1, .int dd_), (2, .int w)]) (st₂ := []) ?_ rfl rfl
  rcases hS with ⟨rfl, rfl, h16, h17⟩ | ⟨⟨d, rfl⟩, hG⟩
  · skip
    refine z_ws [cOb o ad (sa 0) (sb 0) tr x, [(sa 0, .inr (2, [.int (c 16), .int (c 1), .int (c 0), .int wn, .ref (sa 1), .ref (sa 2), .ref (sa 3), .ref (sa 4)]))], [(sa 1, .inr (16, [.int md, .ref (zEE D), .int (nI 0)]))], [(sa 2, .inl (D.1 100, 7, .inl (fun i_ => c (9 + i_))))], [(sa 3, .inl (D.1 100, 7, .inl (fun i_ => c (2 + i_))))], [(sa 4, .inl (D.1 100, 7, .inl od))], thP D sb ht, T] (List.Perm.refl _) ?_
    refine z_aload_n (pc := 0) gX 0 dX0_later_0 rfl rfl ?_
    refine z_cOV (pc := 1) gX (zI_ok gX hAX) [] [] [0, 1] (met_X0_isThere l D B0 o ad sa sb tr x (c 16) (c 1) (c 0) wn ) q829 q831 qs18 q47 q832 (zm 0 rfl) (ci := 0) rfl rfl hd_X0_isThere ⟨rfl, rfl⟩ ⟨(Nat.le_of_ble_eq_true rfl), (Nat.le_of_ble_eq_true rfl)⟩ rfl rfl rfl (Nat.le_of_ble_eq_true rfl) ⟨(Nat.le_of_ble_eq_true rfl), (Nat.le_of_ble_eq_true rfl)⟩ dX0_later_1 ?_
    intro _ hu1
    refine z_eq (lv₂ := [(0, .ref o), (1, .int dd_), (2, .int w)]) (st₂ := [.int (bI (decide (0 < (c 16))))]) ?_ rfl rfl
    refine z_if_ne (pc := 4) gX 10 dX0_later_4 (by decide) (fun c4 => ?_) (fun c4 => ?_)
    · skip
      have k4 : (decide (0 < (c 16))) = true := bI_ne0 c4
      exact absurd k4 (by rw [h16]; decide)
    · skip
      have k4 : (decide (0 < (c 16))) = false := bI_eq0 c4
      refine z_ldc (pc := 7) gX q833 dX0_later_7 ?_
      refine z_ws [cOb o ad (sa 0) (sb 0) tr x, thP D sa ((none, 0, ra), (md, wn, od), c), thP D sb ht, T] (List.Perm.refl _) ?_
      exact z_rim gX hQX ht ht0 (zsv (by simp [mLater, h17])) rfl (by first | decide | omega) (by first | decide | omega) dX0_later_9
  · skip
    have hK := hG.k
    have hn1 := hG.1
    have hn7 := hG.2.1
    have h17 := hG.2.2.1
    have h16 := hG.2.2.2.1
    have hk4 := hG.2.2.2.2.1
    have hk12 := hG.2.2.2.2.2.1
    have hln := hG.2.2.2.2.2.2.1
    have hR := hG.2.2.2.2.2.2.2
    refine z_ws [cOb o ad (sa 0) (sb 0) tr x, [(sa 0, .inr (2, [.int (c 16), .int (c 1), .int (c 0), .int wn, .ref (sa 1), .ref (sa 2), .ref (sa 3), .ref (sa 4)]))], [(sa 1, .inr (16, [.int md, .ref d, .int (nI n)]))], [(sa 2, .inl (D.1 100, 7, .inl (fun i_ => c (9 + i_))))], [(sa 3, .inl (D.1 100, 7, .inl (fun i_ => c (2 + i_))))], [(sa 4, .inl (D.1 100, 7, .inl od))], [(d, .inl (D.1 104, 10, .inr (.inr (.inr (.inr (rF ra n))))))], thP D sb ht, T] (List.Perm.refl _) ?_
    refine z_aload_n (pc := 0) gX 0 dX0_later_0 rfl rfl ?_
    refine z_cOV (pc := 1) gX (zI_ok gX hAX) [] [] [0, 1] (met_X0_isThere l D B0 o ad sa sb tr x (c 16) (c 1) (c 0) wn ) q829 q831 qs18 q47 q832 (zm 0 rfl) (ci := 0) rfl rfl hd_X0_isThere ⟨rfl, rfl⟩ ⟨(Nat.le_of_ble_eq_true rfl), (Nat.le_of_ble_eq_true rfl)⟩ rfl rfl rfl (Nat.le_of_ble_eq_true rfl) ⟨(Nat.le_of_ble_eq_true rfl), (Nat.le_of_ble_eq_true rfl)⟩ dX0_later_1 ?_
    intro _ hu1
    refine z_eq (lv₂ := [(0, .ref o), (1, .int dd_), (2, .int w)]) (st₂ := [.int (bI (decide (0 < (c 16))))]) ?_ rfl rfl
    refine z_if_ne (pc := 4) gX 10 dX0_later_4 (by decide) (fun c4 => ?_) (fun c4 => ?_)
    · skip
      have k4 : (decide (0 < (c 16))) = true := bI_ne0 c4
      refine z_iload_n (pc := 10) gX 1 dX0_later_10 rfl rfl ?_
      refine z_cOS (pc := 11) gX (zI_ok gX hAX) [.int dd_] [] [] (met_X0_isFar l D B0 dd_ ) q982 q983 q47 q984 hd_X0_isFar ⟨rfl, rfl⟩ ⟨(Nat.le_of_ble_eq_true rfl), (Nat.le_of_ble_eq_true rfl)⟩ rfl rfl rfl (Nat.le_of_ble_eq_true rfl) ⟨(Nat.le_of_ble_eq_true rfl), (Nat.le_of_ble_eq_true rfl)⟩ dX0_later_11 ?_
      intro _ hu11
      refine z_eq (lv₂ := [(0, .ref o), (1, .int dd_), (2, .int w)]) (st₂ := [.int (bI (mIn dd_ 0 60))]) ?_ rfl rfl
      refine z_if_eq (pc := 14) gX 24 dX0_later_14 (by decide) (fun c14 => ?_) (fun c14 => ?_)
      · skip
        have k14 : (mIn dd_ 0 60) = false := bI_eq0 c14
        refine z_ldc (pc := 24) gX q350 dX0_later_24 ?_
        refine z_ws [cOb o ad (sa 0) (sb 0) tr x, thP D sa ((some d, n, ra), (md, wn, od), c), thP D sb ht, T] (List.Perm.refl _) ?_
        exact z_rim gX hQX ht ht0 (zsv (by simp [mLater, poG hG, k4, k14])) rfl (by first | decide | omega) (by first | decide | omega) dX0_later_26
      · skip
        have k14 : (mIn dd_ 0 60) = true := bI_ne0 c14
        obtain ⟨dd, hdd, rfl⟩ := mIn_nat k14 60 (by decide)
        refine z_iload_n (pc := 17) gX 2 dX0_later_17 rfl rfl ?_
        refine z_cOS (pc := 18) gX (zI_ok gX hAX) [.int w] [] [] (met_X0_isHalf l D B0 w ) q961 q962 q47 q963 hd_X0_isHalf ⟨rfl, rfl⟩ ⟨(Nat.le_of_ble_eq_true rfl), (Nat.le_of_ble_eq_true rfl)⟩ rfl rfl rfl (Nat.le_of_ble_eq_true rfl) ⟨(Nat.le_of_ble_eq_true rfl), (Nat.le_of_ble_eq_true rfl)⟩ dX0_later_18 ?_
        intro _ hu18
        refine z_eq (lv₂ := [(0, .ref o), (1, .int (nI dd)), (2, .int w)]) (st₂ := [.int (bI (mIn w 0 1))]) ?_ rfl rfl
        refine z_if_ne (pc := 21) gX 27 dX0_later_21 (by decide) (fun c21 => ?_) (fun c21 => ?_)
        · skip
          have k21 : (mIn w 0 1) = true := bI_ne0 c21
          refine z_aload_n (pc := 27) gX 0 dX0_later_27 rfl rfl ?_
          refine z_cMV (pc := 28) gX hAX [] [] [0, 1, 2, 3, 4, 5, 6, 7, 8] [] (fun A1 => met_X0_asNow l D B0 A1 o ad sa sb tr x wn md d n c od ra T k ht hG ht0) q986 q988 qs23 q47 q989 (zm 0 rfl) (ci := 0) rfl rfl hd_X0_asNow ⟨rfl, rfl⟩ ⟨(Nat.le_of_ble_eq_true rfl), (Nat.le_of_ble_eq_true rfl)⟩ rfl rfl (zpl 9 rfl (by decide +kernel)) rfl rfl (Nat.le_of_ble_eq_true rfl) ⟨(Nat.le_of_ble_eq_true rfl), (Nat.le_of_ble_eq_true rfl)⟩ dX0_later_28 ?_
          intro u28 hu28
          obtain ⟨zmd_28, zd_28, zod_28⟩ := u28
          refine z_re [0, 1, 2, 3, 4, 5, 6, 7, 9, 10, 11, 12, 13, 8] [cOb o ad (sa 0) (sb 0) tr x, [(sa 0, .inr (2, [.int (c 16), .int (c 1), .int (c 0), .int wn, .ref (sa 1), .ref (sa 2), .ref (sa 3), .ref (sa 4)]))], [(sa 1, .inr (16, [.int md, .ref d, .int (nI n)]))], [(sa 2, .inl (D.1 100, 7, .inl (fun i_ => c (9 + i_))))], [(sa 3, .inl (D.1 100, 7, .inl (fun i_ => c (2 + i_))))], [(sa 4, .inl (D.1 100, 7, .inl od))], [(d, .inl (D.1 104, 10, .inr (.inr (.inr (.inr (rF ra n))))))], [(sb 0, .inr (2, [.int (c 16), .int (c 1), .int (c 0), .int wn, .ref (sb 1), .ref (sb 2), .ref (sb 3), .ref (sb 4)]))], [(sb 1, .inr (16, [.int zmd_28, .ref zd_28, .int (nI n)]))], [(sb 2, .inl (D.1 100, 7, .inl (fun i_ => c (9 + i_))))], [(sb 3, .inl (D.1 100, 7, .inl (fun i_ => c (2 + i_))))], [(sb 4, .inl (D.1 100, 7, .inl zod_28))], [(zd_28, .inl (D.1 104, 10, .inr (.inr (.inr (.inr (rF ra n))))))], T] rfl (zpl 14 rfl (by decide +kernel)) ?_
          refine z_norm [cOb o ad (sa 0) (sb 0) tr x, [(sa 0, .inr (2, [.int (c 16), .int (c 1), .int (c 0), .int wn, .ref (sa 1), .ref (sa 2), .ref (sa 3), .ref (sa 4)]))], [(sa 1, .inr (16, [.int md, .ref d, .int (nI n)]))], [(sa 2, .inl (D.1 100, 7, .inl (fun i_ => c (9 + i_))))], [(sa 3, .inl (D.1 100, 7, .inl (fun i_ => c (2 + i_))))], [(sa 4, .inl (D.1 100, 7, .inl od))], [(d, .inl (D.1 104, 10, .inr (.inr (.inr (.inr (rF ra n))))))], [(sb 0, .inr (2, [.int (c 16), .int (c 1), .int (c 0), .int wn, .ref (sb 1), .ref (sb 2), .ref (sb 3), .ref (sb 4)]))], [(sb 1, .inr (16, [.int zmd_28, .ref zd_28, .int (nI n)]))], [(sb 2, .inl (D.1 100, 7, .inl (fun i_ => c (9 + i_))))], [(sb 3, .inl (D.1 100, 7, .inl (fun i_ => c (2 + i_))))], [(sb 4, .inl (D.1 100, 7, .inl zod_28))], [(zd_28, .inl (D.1 104, 10, .inr (.inr (.inr (.inr (rF ra n))))))], T] 1 10 ?_ rfl rfl rfl
          refine z_eq (lv₂ := [(0, .ref o), (1, .int (nI dd)), (2, .int w)]) (st₂ := [.ref (sb 0)]) ?_ rfl rfl
          refine z_iload_n (pc := 31) gX 1 dX0_later_31 rfl rfl ?_
          refine z_cMV (pc := 32) gX hAX [.int (nI dd)] [] [7, 8, 9, 10, 11, 12, 13] [0, 1, 2, 3, 4, 5, 6] (fun A1 => met_goOn2C l D B0 A1 sb wn zmd_28 zd_28 n c zod_28 ra T k dd hK (by first | assumption | omega)) q990 q991 q992 q49 q993 (zm 7 rfl) (ci := 2) rfl rfl hd_X2_goOn_2 ⟨rfl, rfl⟩ ⟨(Nat.le_of_ble_eq_true rfl), (Nat.le_of_ble_eq_true rfl)⟩ rfl rfl (zpl 14 rfl (by decide +kernel)) rfl rfl (Nat.le_of_ble_eq_true rfl) ⟨(Nat.le_of_ble_eq_true rfl), (Nat.le_of_ble_eq_true rfl)⟩ dX0_later_32 ?_
          intro u32 hu32
          obtain ⟨od1_32, wn1_32⟩ := u32
          refine z_re [7, 8, 9, 10, 11, 12, 13, 0, 1, 2, 3, 4, 5, 6] [cOb o ad (sa 0) (sb 0) tr x, [(sa 0, .inr (2, [.int (c 16), .int (c 1), .int (c 0), .int wn, .ref (sa 1), .ref (sa 2), .ref (sa 3), .ref (sa 4)]))], [(sa 1, .inr (16, [.int md, .ref d, .int (nI n)]))], [(sa 2, .inl (D.1 100, 7, .inl (fun i_ => c (9 + i_))))], [(sa 3, .inl (D.1 100, 7, .inl (fun i_ => c (2 + i_))))], [(sa 4, .inl (D.1 100, 7, .inl od))], [(d, .inl (D.1 104, 10, .inr (.inr (.inr (.inr (rF ra n))))))], [(sb 0, .inr (2, [.int ((itT n k c dd) 16), .int ((itT n k c dd) 1), .int ((itT n k c dd) 0), .int wn1_32, .ref (sb 1), .ref (sb 2), .ref (sb 3), .ref (sb 4)]))], [(sb 1, .inr (16, [.int zmd_28, .ref zd_28, .int (nI n)]))], [(sb 2, .inl (D.1 100, 7, .inl (fun i_ => (itT n k c dd) (9 + i_))))], [(sb 3, .inl (D.1 100, 7, .inl (fun i_ => (itT n k c dd) (2 + i_))))], [(sb 4, .inl (D.1 100, 7, .inl od1_32))], [(zd_28, .inl (D.1 104, 10, .inr (.inr (.inr (.inr (rF ra n))))))], T] rfl (zpl 14 rfl (by decide +kernel)) ?_
          refine z_eq (lv₂ := [(0, .ref o), (1, .int (nI dd)), (2, .int w)]) (st₂ := [.ref (sb 0)]) ?_ rfl rfl
          refine z_astore_n (pc := 35) gX [1, 2, 3, 0] [(0, .ref o), (1, .int (nI dd)), (2, .int w), (3, .ref (sb 0))] dX0_later_35 rfl (by decide) rfl ?_
          refine z_iload_n (pc := 36) gX 2 dX0_later_36 rfl rfl ?_
          refine z_if_ne (pc := 37) gX 45 dX0_later_37 (by decide) (fun c37 => ?_) (fun c37 => ?_)
          · skip
            refine z_iconst (pc := 45) gX 0 dX0_later_45 (by decide) ?_
            refine z_istore (pc := 46) gX [1, 2, 3, 4, 0] [(0, .ref o), (1, .int (nI dd)), (2, .int w), (3, .ref (sb 0)), (4, .int 0)] dX0_later_46 (by decide) rfl ?_
            refine z_iconst (pc := 48) gX 0 dX0_later_48 (by decide) ?_
            refine z_istore (pc := 49) gX [1, 2, 3, 4, 5, 0] [(0, .ref o), (1, .int (nI dd)), (2, .int w), (3, .ref (sb 0)), (4, .int 0), (5, .int 0)] dX0_later_49 (by decide) rfl ?_
            have L51 : ∀ (n51 : Nat) (r : Nat) (v : Int32), (r ≤ n) → (v = orF (onF (itT n k c dd)) r) → n - r < n51 → zJ pX l eX (zRm 11 1 10) sX mX argsX blX mtX cX QX 6 (zI D A sX [cOb o ad (sa 0) (sb 0) tr x, [(sa 0, .inr (2, [.int (c 16), .int (c 1), .int (c 0), .int wn, .ref (sa 1), .ref (sa 2), .ref (sa 3), .ref (sa 4)]))], [(sa 1, .inr (16, [.int md, .ref d, .int (nI n)]))], [(sa 2, .inl (D.1 100, 7, .inl (fun i_ => c (9 + i_))))], [(sa 3, .inl (D.1 100, 7, .inl (fun i_ => c (2 + i_))))], [(sa 4, .inl (D.1 100, 7, .inl od))], [(d, .inl (D.1 104, 10, .inr (.inr (.inr (.inr (rF ra n))))))], [(sb 0, .inr (2, [.int ((itT n k c dd) 16), .int ((itT n k c dd) 1), .int ((itT n k c dd) 0), .int wn1_32, .ref (sb 1), .ref (sb 2), .ref (sb 3), .ref (sb 4)]))], [(sb 1, .inr (16, [.int zmd_28, .ref zd_28, .int (nI n)]))], [(sb 2, .inl (D.1 100, 7, .inl (fun i_ => (itT n k c dd) (9 + i_))))], [(sb 3, .inl (D.1 100, 7, .inl (fun i_ => (itT n k c dd) (2 + i_))))], [(sb 4, .inl (D.1 100, 7, .inl od1_32))], [(zd_28, .inl (D.1 104, 10, .inr (.inr (.inr (.inr (rF ra n))))))], T]) 1 10 51 [(0, .ref o), (1, .int (nI dd)), (2, .int w), (3, .ref (sb 0)), (4, .int v), (5, .int (nI r))] [] := by
              intro n51
              induction n51 with
              | zero => exact fun r v hr hv hm51 => absurd hm51 (Nat.not_lt_zero _)
              | succ n51 ih51 =>
                intro r v hr hv hm51
                refine z_iload (pc := 51) gX 5 dX0_later_51 rfl ?_
                refine z_aload_n (pc := 53) gX 3 dX0_later_53 rfl rfl ?_
                refine z_cOV (pc := 54) gX (zI_ok gX hAX) [] [.int (nI r)] [7, 8] (met_X2_many l D B0 sb ((itT n k c dd) 16) ((itT n k c dd) 1) ((itT n k c dd) 0) wn1_32 zmd_28 zd_28 n ) q820 q653 q654 q49 q655 (zm 7 rfl) (ci := 2) rfl rfl hd_X2_many ⟨rfl, rfl⟩ ⟨(Nat.le_of_ble_eq_true rfl), (Nat.le_of_ble_eq_true rfl)⟩ rfl rfl rfl (Nat.le_of_ble_eq_true rfl) ⟨(Nat.le_of_ble_eq_true rfl), (Nat.le_of_ble_eq_true rfl)⟩ dX0_later_54 ?_
                intro _ hu54
                refine z_eq (lv₂ := [(0, .ref o), (1, .int (nI dd)), (2, .int w), (3, .ref (sb 0)), (4, .int v), (5, .int (nI r))]) (st₂ := [.int (nI n), .int (nI r)]) ?_ rfl rfl
                refine z_icmp_ge (pc := 57) gX 93 dX0_later_57 (by decide) (fun c57 => ?_) (fun c57 => ?_)
                · skip
                  have k57 : n ≤ r := (zn_le (a := n) (b := r) (by omega) (by omega)).mp c57
                  refine z_iload (pc := 93) gX 4 dX0_later_93 rfl ?_
                  refine z_ws [cOb o ad (sa 0) (sb 0) tr x, [(sa 0, .inr (2, [.int (c 16), .int (c 1), .int (c 0), .int wn, .ref (sa 1), .ref (sa 2), .ref (sa 3), .ref (sa 4)]))], [(sa 1, .inr (16, [.int md, .ref d, .int (nI n)]))], [(sa 2, .inl (D.1 100, 7, .inl (fun i_ => c (9 + i_))))], [(sa 3, .inl (D.1 100, 7, .inl (fun i_ => c (2 + i_))))], [(sa 4, .inl (D.1 100, 7, .inl od))], [(d, .inl (D.1 104, 10, .inr (.inr (.inr (.inr (rF ra n))))))], thP D sb ((some zd_28, n, ra), (zmd_28, wn1_32, od1_32), itT n k c dd), T] (List.Perm.refl _) ?_
                  refine z_ws [cOb o ad (sa 0) (sb 0) tr x, thP D sa ((some d, n, ra), (md, wn, od), c), thP D sb ((some zd_28, n, ra), (zmd_28, wn1_32, od1_32), itT n k c dd), T] (List.Perm.refl _) ?_
                  exact z_rim gX hQX ((some zd_28, n, ra), (zmd_28, wn1_32, od1_32), itT n k c dd) (tOK_g hn7) (zsv (by rw [hv, show r = n by omega]; simp [mLater, poG hG, k14, k21, c37, nI_clamp (show dd < 2 ^ 31 by omega)])) rfl (by first | decide | omega) (by first | decide | omega) dX0_later_95
                · skip
                  have k57 : r < n := (zn_nle (a := n) (b := r) (by omega) (by omega)).mp c57
                  refine z_iload (pc := 60) gX 4 dX0_later_60 rfl ?_
                  refine z_aload_n (pc := 62) gX 3 dX0_later_62 rfl rfl ?_
                  refine z_iload (pc := 63) gX 5 dX0_later_63 rfl ?_
                  refine z_cOV (pc := 65) gX (zI_ok gX hAX) [.int (nI r)] [.int v] [7, 10] (met_X2_isOn l D B0 sb ((itT n k c dd) 16) ((itT n k c dd) 1) ((itT n k c dd) 0) wn1_32 (fun i_ => (itT n k c dd) (2 + i_)) r (by first | assumption | omega)) q951 q918 q919 q49 q920 (zm 7 rfl) (ci := 2) rfl rfl hd_X2_isOn ⟨rfl, rfl⟩ ⟨(Nat.le_of_ble_eq_true rfl), (Nat.le_of_ble_eq_true rfl)⟩ rfl rfl rfl (Nat.le_of_ble_eq_true rfl) ⟨(Nat.le_of_ble_eq_true rfl), (Nat.le_of_ble_eq_true rfl)⟩ dX0_later_65 ?_
                  intro _ hu65
                  refine z_eq (lv₂ := [(0, .ref o), (1, .int (nI dd)), (2, .int w), (3, .ref (sb 0)), (4, .int v), (5, .int (nI r))]) (st₂ := [.int (bI (mOn ((fun i_ => (itT n k c dd) (2 + i_)) r))), .int v]) ?_ rfl rfl
                  refine z_top (bI (mOn ((itT n k c dd) (2 + r)))) (rfl) ?_
                  refine z_if_eq (pc := 68) gX 83 dX0_later_68 (by decide) (fun c68 => ?_) (fun c68 => ?_)
                  · skip
                    have k68 : (mOn ((itT n k c dd) (2 + r))) = false := bI_eq0 c68
                    refine z_iconst (pc := 83) gX 0 dX0_later_83 (by decide) ?_
                    refine z_ior (pc := 84) gX dX0_later_84 ?_
                    refine z_istore (pc := 85) gX [1, 2, 3, 4, 0, 5] [(0, .ref o), (1, .int (nI dd)), (2, .int w), (3, .ref (sb 0)), (4, .int (v ||| 0)), (5, .int (nI r))] dX0_later_85 (by decide) rfl ?_
                    refine z_iinc (pc := 87) gX 5 (nI (r + 1)) [1, 2, 3, 4, 5, 0] [(0, .ref o), (1, .int (nI dd)), (2, .int w), (3, .ref (sb 0)), (4, .int (v ||| 0)), (5, .int (nI (r + 1)))] dX0_later_87 rfl (nI_1 _) (by decide) rfl ?_
                    refine z_goto (pc := 90) gX 51 dX0_later_90 (by decide) ?_
                    exact ih51 (r + 1) (v ||| 0) (by omega) (by simp only [orF]; rw [← hv]; simp [onF, k68]) (by omega)
                  · skip
                    have k68 : (mOn ((itT n k c dd) (2 + r))) = true := bI_ne0 c68
                    refine z_iconst (pc := 71) gX 1 dX0_later_71 (by decide) ?_
                    refine z_aload_n (pc := 72) gX 3 dX0_later_72 rfl rfl ?_
                    refine z_get (pc := 73) gX (zI_ok gX hAX) (zm 7 rfl) (ci := 2) (C := RX2) (T := TX2) (N := 8) rfl in_X2 6 (by decide) q171 (fun _ h => h) (v := .ref (sb 3)) rfl dX0_later_73 ?_
                    refine z_iload (pc := 76) gX 5 dX0_later_76 rfl ?_
                    refine z_iald (pc := 78) gX (zI_ok gX hAX) (j := r) (n := 7) (f := (fun i_ => (itT n k c dd) (2 + i_))) (zm 10 rfl) (by omega) (by decide) dX0_later_78 ?_
                    refine z_top ((itT n k c dd) (2 + r)) rfl ?_
                    refine z_ishl (pc := 79) gX dX0_later_79 ?_
                    refine z_goto (pc := 80) gX 84 dX0_later_80 (by decide) ?_
                    refine z_ior (pc := 84) gX dX0_later_84 ?_
                    refine z_istore (pc := 85) gX [1, 2, 3, 4, 0, 5] [(0, .ref o), (1, .int (nI dd)), (2, .int w), (3, .ref (sb 0)), (4, .int (v ||| (1 <<< (((itT n k c dd) (2 + r)) &&& 31)))), (5, .int (nI r))] dX0_later_85 (by decide) rfl ?_
                    refine z_iinc (pc := 87) gX 5 (nI (r + 1)) [1, 2, 3, 4, 5, 0] [(0, .ref o), (1, .int (nI dd)), (2, .int w), (3, .ref (sb 0)), (4, .int (v ||| (1 <<< (((itT n k c dd) (2 + r)) &&& 31)))), (5, .int (nI (r + 1)))] dX0_later_87 rfl (nI_1 _) (by decide) rfl ?_
                    refine z_goto (pc := 90) gX 51 dX0_later_90 (by decide) ?_
                    exact ih51 (r + 1) (v ||| (1 <<< (((itT n k c dd) (2 + r)) &&& 31))) (by omega) (by simp only [orF]; rw [← hv]; simp [onF, k68]) (by omega)
            exact L51 ((n - 0) + 1) 0 0 (by omega) rfl (Nat.lt_succ_self _)
          · skip
            refine z_aload_n (pc := 40) gX 3 dX0_later_40 rfl rfl ?_
            refine z_cOV (pc := 41) gX (zI_ok gX hAX) [] [] [7, 8, 10] (met_X2_offs l D B0 sb ((itT n k c dd) 16) ((itT n k c dd) 1) ((itT n k c dd) 0) wn1_32 zmd_28 zd_28 n (fun i_ => (itT n k c dd) (2 + i_)) (by first | assumption | omega)) q925 q926 q927 q49 q928 (zm 7 rfl) (ci := 2) rfl rfl hd_X2_offs ⟨rfl, rfl⟩ ⟨(Nat.le_of_ble_eq_true rfl), (Nat.le_of_ble_eq_true rfl)⟩ rfl rfl rfl (Nat.le_of_ble_eq_true rfl) ⟨(Nat.le_of_ble_eq_true rfl), (Nat.le_of_ble_eq_true rfl)⟩ dX0_later_41 ?_
            intro _ hu41
            refine z_eq (lv₂ := [(0, .ref o), (1, .int (nI dd)), (2, .int w), (3, .ref (sb 0))]) (st₂ := [.int (nI (cW (fun i_ => (itT n k c dd) (2 + i_)) 99 n))]) ?_ rfl rfl
            refine z_top (nI (cntV (itT n k c dd) 99 n)) (by rw [cW_c]) ?_
            refine z_ws [cOb o ad (sa 0) (sb 0) tr x, [(sa 0, .inr (2, [.int (c 16), .int (c 1), .int (c 0), .int wn, .ref (sa 1), .ref (sa 2), .ref (sa 3), .ref (sa 4)]))], [(sa 1, .inr (16, [.int md, .ref d, .int (nI n)]))], [(sa 2, .inl (D.1 100, 7, .inl (fun i_ => c (9 + i_))))], [(sa 3, .inl (D.1 100, 7, .inl (fun i_ => c (2 + i_))))], [(sa 4, .inl (D.1 100, 7, .inl od))], [(d, .inl (D.1 104, 10, .inr (.inr (.inr (.inr (rF ra n))))))], thP D sb ((some zd_28, n, ra), (zmd_28, wn1_32, od1_32), itT n k c dd), T] (List.Perm.refl _) ?_
            refine z_ws [cOb o ad (sa 0) (sb 0) tr x, thP D sa ((some d, n, ra), (md, wn, od), c), thP D sb ((some zd_28, n, ra), (zmd_28, wn1_32, od1_32), itT n k c dd), T] (List.Perm.refl _) ?_
            exact z_rim gX hQX ((some zd_28, n, ra), (zmd_28, wn1_32, od1_32), itT n k c dd) (tOK_g hn7) (zsv (by subst c37; simp [mLater, poG hG, k14, k21, nI_clamp (show dd < 2 ^ 31 by omega)])) rfl (by first | decide | omega) (by first | decide | omega) dX0_later_44
        · skip
          have k21 : (mIn w 0 1) = false := bI_eq0 c21
          refine z_ldc (pc := 24) gX q350 dX0_later_24 ?_
          refine z_ws [cOb o ad (sa 0) (sb 0) tr x, thP D sa ((some d, n, ra), (md, wn, od), c), thP D sb ht, T] (List.Perm.refl _) ?_
          exact z_rim gX hQX ht ht0 (zsv (by simp [mLater, poG hG, k4, k14, k21])) rfl (by first | decide | omega) (by first | decide | omega) dX0_later_26
    · skip
      have k4 : (decide (0 < (c 16))) = false := bI_eq0 c4
      exact absurd k4 (by rw [thG hG]; decide)
theorem hd_X0_later : zHd yX0_later 2 := by unfold zHd; decide +kernel

set_option maxHeartbeats 4000000 in
theorem met_X0_off (l : Launch) (D : va_G) (B0 : Nat) (A : Nat → Prop) (o : Nat) (ad : Nat → Nat) (sa : Nat → Nat) (sb : Nat → Nat) (tr : Nat) (x : Nat → Int32) (da : Option Nat) (n : Nat) (ra : Nat → Nat) (md : Int32) (wn : Int32) (od : Nat → Int32) (c : Nat → Int32) (T : va_W) (k : Nat) (ht : sT) (r : Int32) (hS : sOK T da n k ra c) (ht0 : tOK ht) : Met l yX0_off (ws_ yX0_off cX0_off 3 (some .int)) (zRm 11 1 10) (va_Pc [.ref o, .int r] (zPre B0 D A [cOb o ad (sa 0) (sb 0) tr x, thP D sa ((da, n, ra), (md, wn, od), c), thP D sb ht, T])) (zQ (S := sT) (fun u => (fun (ht1 : sT) => tOK ht1) u) (fun u => (fun (ht1 : sT) => some (.int (mOff n k c r))) u) (fun u => (fun (ht1 : sT) => [cOb o ad (sa 0) (sb 0) tr x, thP D sa ((da, n, ra), (md, wn, od), c), thP D sb ht1, T]) u) D A) 1 10 A := by
  refine z_entry (by decide +kernel) (Nat.le_of_ble_eq_true rfl) (fun pX eX sX mX argsX blX mtX cX QX hQX gX hAX hnm => ?_)
  refine z_eq (lv₂ := [(0, .ref o), (1, .int r)]) (st₂ := []) ?_ rfl rfl
  rcases hS with ⟨rfl, rfl, h16, h17⟩ | ⟨⟨d, rfl⟩, hG⟩
  · skip
    refine z_ws [cOb o ad (sa 0) (sb 0) tr x, [(sa 0, .inr (2, [.int (c 16), .int (c 1), .int (c 0), .int wn, .ref (sa 1), .ref (sa 2), .ref (sa 3), .ref (sa 4)]))], [(sa 1, .inr (16, [.int md, .ref (zEE D), .int (nI 0)]))], [(sa 2, .inl (D.1 100, 7, .inl (fun i_ => c (9 + i_))))], [(sa 3, .inl (D.1 100, 7, .inl (fun i_ => c (2 + i_))))], [(sa 4, .inl (D.1 100, 7, .inl od))], thP D sb ht, T] (List.Perm.refl _) ?_
    refine z_aload_n (pc := 0) gX 0 dX0_off_0 rfl rfl ?_
    refine z_iload_n (pc := 1) gX 1 dX0_off_1 rfl rfl ?_
    refine z_cOV (pc := 2) gX (zI_ok gX hAX) [.int r] [] [0, 1, 2] (met_X0_isRider l D B0 o ad sa sb tr x (c 16) (c 1) (c 0) wn md (zEE D) 0 r ) q947 q949 qs22 q47 q950 (zm 0 rfl) (ci := 0) rfl rfl hd_X0_isRider ⟨rfl, rfl⟩ ⟨(Nat.le_of_ble_eq_true rfl), (Nat.le_of_ble_eq_true rfl)⟩ rfl rfl rfl (Nat.le_of_ble_eq_true rfl) ⟨(Nat.le_of_ble_eq_true rfl), (Nat.le_of_ble_eq_true rfl)⟩ dX0_off_2 ?_
    intro _ hu2
    refine z_eq (lv₂ := [(0, .ref o), (1, .int r)]) (st₂ := [.int (bI (mIn r 0 (nI 0 - 1)))]) ?_ rfl rfl
    refine z_top (bI (mIn r 0 (c 17 - 1))) (congrArg (fun z => bI (mIn r 0 (z - 1))) h17.symm) ?_
    refine z_if_ne (pc := 5) gX 11 dX0_off_5 (by decide) (fun c5 => ?_) (fun c5 => ?_)
    · skip
      have k5 : (mIn r 0 (c 17 - 1)) = true := bI_ne0 c5
      exact absurd k5 (by rw [inF h17]; decide)
    · skip
      have k5 : (mIn r 0 (c 17 - 1)) = false := bI_eq0 c5
      refine z_ldc (pc := 8) gX q350 dX0_off_8 ?_
      refine z_ws [cOb o ad (sa 0) (sb 0) tr x, thP D sa ((none, 0, ra), (md, wn, od), c), thP D sb ht, T] (List.Perm.refl _) ?_
      exact z_rim gX hQX ht ht0 (zsv (by simp [mOff, inF h17])) rfl (by first | decide | omega) (by first | decide | omega) dX0_off_10
  · skip
    have hK := hG.k
    have hn1 := hG.1
    have hn7 := hG.2.1
    have h17 := hG.2.2.1
    have h16 := hG.2.2.2.1
    have hk4 := hG.2.2.2.2.1
    have hk12 := hG.2.2.2.2.2.1
    have hln := hG.2.2.2.2.2.2.1
    have hR := hG.2.2.2.2.2.2.2
    refine z_ws [cOb o ad (sa 0) (sb 0) tr x, [(sa 0, .inr (2, [.int (c 16), .int (c 1), .int (c 0), .int wn, .ref (sa 1), .ref (sa 2), .ref (sa 3), .ref (sa 4)]))], [(sa 1, .inr (16, [.int md, .ref d, .int (nI n)]))], [(sa 2, .inl (D.1 100, 7, .inl (fun i_ => c (9 + i_))))], [(sa 3, .inl (D.1 100, 7, .inl (fun i_ => c (2 + i_))))], [(sa 4, .inl (D.1 100, 7, .inl od))], [(d, .inl (D.1 104, 10, .inr (.inr (.inr (.inr (rF ra n))))))], thP D sb ht, T] (List.Perm.refl _) ?_
    refine z_aload_n (pc := 0) gX 0 dX0_off_0 rfl rfl ?_
    refine z_iload_n (pc := 1) gX 1 dX0_off_1 rfl rfl ?_
    refine z_cOV (pc := 2) gX (zI_ok gX hAX) [.int r] [] [0, 1, 2] (met_X0_isRider l D B0 o ad sa sb tr x (c 16) (c 1) (c 0) wn md d n r ) q947 q949 qs22 q47 q950 (zm 0 rfl) (ci := 0) rfl rfl hd_X0_isRider ⟨rfl, rfl⟩ ⟨(Nat.le_of_ble_eq_true rfl), (Nat.le_of_ble_eq_true rfl)⟩ rfl rfl rfl (Nat.le_of_ble_eq_true rfl) ⟨(Nat.le_of_ble_eq_true rfl), (Nat.le_of_ble_eq_true rfl)⟩ dX0_off_2 ?_
    intro _ hu2
    refine z_eq (lv₂ := [(0, .ref o), (1, .int r)]) (st₂ := [.int (bI (mIn r 0 (nI n - 1)))]) ?_ rfl rfl
    refine z_top (bI (mIn r 0 (c 17 - 1))) (congrArg (fun z => bI (mIn r 0 (z - 1))) h17.symm) ?_
    refine z_if_ne (pc := 5) gX 11 dX0_off_5 (by decide) (fun c5 => ?_) (fun c5 => ?_)
    · skip
      have k5 : (mIn r 0 (c 17 - 1)) = true := bI_ne0 c5
      obtain ⟨j, hj, rfl⟩ := riderN k5 h17 hn7
      refine z_aload_n (pc := 11) gX 0 dX0_off_11 rfl rfl ?_
      refine z_cMV (pc := 12) gX hAX [] [] [0, 1, 2, 3, 4, 5, 6, 7, 8] [] (fun A1 => met_X0_asNow l D B0 A1 o ad sa sb tr x wn md d n c od ra T k ht hG ht0) q986 q988 qs23 q47 q989 (zm 0 rfl) (ci := 0) rfl rfl hd_X0_asNow ⟨rfl, rfl⟩ ⟨(Nat.le_of_ble_eq_true rfl), (Nat.le_of_ble_eq_true rfl)⟩ rfl rfl (zpl 9 rfl (by decide +kernel)) rfl rfl (Nat.le_of_ble_eq_true rfl) ⟨(Nat.le_of_ble_eq_true rfl), (Nat.le_of_ble_eq_true rfl)⟩ dX0_off_12 ?_
      intro u12 hu12
      obtain ⟨zmd_12, zd_12, zod_12⟩ := u12
      refine z_re [0, 1, 2, 3, 4, 5, 6, 7, 9, 10, 11, 12, 13, 8] [cOb o ad (sa 0) (sb 0) tr x, [(sa 0, .inr (2, [.int (c 16), .int (c 1), .int (c 0), .int wn, .ref (sa 1), .ref (sa 2), .ref (sa 3), .ref (sa 4)]))], [(sa 1, .inr (16, [.int md, .ref d, .int (nI n)]))], [(sa 2, .inl (D.1 100, 7, .inl (fun i_ => c (9 + i_))))], [(sa 3, .inl (D.1 100, 7, .inl (fun i_ => c (2 + i_))))], [(sa 4, .inl (D.1 100, 7, .inl od))], [(d, .inl (D.1 104, 10, .inr (.inr (.inr (.inr (rF ra n))))))], [(sb 0, .inr (2, [.int (c 16), .int (c 1), .int (c 0), .int wn, .ref (sb 1), .ref (sb 2), .ref (sb 3), .ref (sb 4)]))], [(sb 1, .inr (16, [.int zmd_12, .ref zd_12, .int (nI n)]))], [(sb 2, .inl (D.1 100, 7, .inl (fun i_ => c (9 + i_))))], [(sb 3, .inl (D.1 100, 7, .inl (fun i_ => c (2 + i_))))], [(sb 4, .inl (D.1 100, 7, .inl zod_12))], [(zd_12, .inl (D.1 104, 10, .inr (.inr (.inr (.inr (rF ra n))))))], T] rfl (zpl 14 rfl (by decide +kernel)) ?_
      refine z_norm [cOb o ad (sa 0) (sb 0) tr x, [(sa 0, .inr (2, [.int (c 16), .int (c 1), .int (c 0), .int wn, .ref (sa 1), .ref (sa 2), .ref (sa 3), .ref (sa 4)]))], [(sa 1, .inr (16, [.int md, .ref d, .int (nI n)]))], [(sa 2, .inl (D.1 100, 7, .inl (fun i_ => c (9 + i_))))], [(sa 3, .inl (D.1 100, 7, .inl (fun i_ => c (2 + i_))))], [(sa 4, .inl (D.1 100, 7, .inl od))], [(d, .inl (D.1 104, 10, .inr (.inr (.inr (.inr (rF ra n))))))], [(sb 0, .inr (2, [.int (c 16), .int (c 1), .int (c 0), .int wn, .ref (sb 1), .ref (sb 2), .ref (sb 3), .ref (sb 4)]))], [(sb 1, .inr (16, [.int zmd_12, .ref zd_12, .int (nI n)]))], [(sb 2, .inl (D.1 100, 7, .inl (fun i_ => c (9 + i_))))], [(sb 3, .inl (D.1 100, 7, .inl (fun i_ => c (2 + i_))))], [(sb 4, .inl (D.1 100, 7, .inl zod_12))], [(zd_12, .inl (D.1 104, 10, .inr (.inr (.inr (.inr (rF ra n))))))], T] 1 10 ?_ rfl rfl rfl
      refine z_eq (lv₂ := [(0, .ref o), (1, .int (nI j))]) (st₂ := [.ref (sb 0)]) ?_ rfl rfl
      refine z_pop (pc := 15) gX dX0_off_15 rfl ?_
      refine z_iconst (pc := 16) gX 0 dX0_off_16 (by decide) ?_
      refine z_istore_n (pc := 17) gX [1, 2, 0] [(0, .ref o), (1, .int (nI j)), (2, .int 0)] dX0_off_17 rfl (by decide) rfl ?_
      have L18 : ∀ (n18 : Nat) (i : Nat) (c1 : Nat → Int32) (od1 : Nat → Int32) (wn1 : Int32), (i ≤ 61) → (kOK T n k ra c1) → (ofF n k j (61 - i) i c1 = ofF n k j 61 0 c) → 61 - i < n18 → zJ pX l eX (zRm 11 1 10) sX mX argsX blX mtX cX QX 3 (zI D A sX [cOb o ad (sa 0) (sb 0) tr x, [(sa 0, .inr (2, [.int (c 16), .int (c 1), .int (c 0), .int wn, .ref (sa 1), .ref (sa 2), .ref (sa 3), .ref (sa 4)]))], [(sa 1, .inr (16, [.int md, .ref d, .int (nI n)]))], [(sa 2, .inl (D.1 100, 7, .inl (fun i_ => c (9 + i_))))], [(sa 3, .inl (D.1 100, 7, .inl (fun i_ => c (2 + i_))))], [(sa 4, .inl (D.1 100, 7, .inl od))], [(d, .inl (D.1 104, 10, .inr (.inr (.inr (.inr (rF ra n))))))], [(sb 0, .inr (2, [.int (c1 16), .int (c1 1), .int (c1 0), .int wn1, .ref (sb 1), .ref (sb 2), .ref (sb 3), .ref (sb 4)]))], [(sb 1, .inr (16, [.int zmd_12, .ref zd_12, .int (nI n)]))], [(sb 2, .inl (D.1 100, 7, .inl (fun i_ => c1 (9 + i_))))], [(sb 3, .inl (D.1 100, 7, .inl (fun i_ => c1 (2 + i_))))], [(sb 4, .inl (D.1 100, 7, .inl od1))], [(zd_12, .inl (D.1 104, 10, .inr (.inr (.inr (.inr (rF ra n))))))], T]) 1 10 18 [(0, .ref o), (1, .int (nI j)), (2, .int (nI i))] [] := by
        intro n18
        induction n18 with
        | zero => exact fun i c1 od1 wn1 hi hK1 hp hm18 => absurd hm18 (Nat.not_lt_zero _)
        | succ n18 ih18 =>
          intro i c1 od1 wn1 hi hK1 hp hm18
          refine z_iload_n (pc := 18) gX 2 dX0_off_18 rfl rfl ?_
          refine z_bipush (pc := 19) gX 60 dX0_off_19 (by decide) ?_
          refine z_icmp_gt (pc := 21) gX 54 dX0_off_21 (by decide) (fun c21 => ?_) (fun c21 => ?_)
          · skip
            have k21 : 60 < i := (zn_lt (a := 60) (b := i) (by omega) (by omega)).mp c21
            refine z_ldc (pc := 54) gX q1003 dX0_off_54 ?_
            refine z_ws [cOb o ad (sa 0) (sb 0) tr x, [(sa 0, .inr (2, [.int (c 16), .int (c 1), .int (c 0), .int wn, .ref (sa 1), .ref (sa 2), .ref (sa 3), .ref (sa 4)]))], [(sa 1, .inr (16, [.int md, .ref d, .int (nI n)]))], [(sa 2, .inl (D.1 100, 7, .inl (fun i_ => c (9 + i_))))], [(sa 3, .inl (D.1 100, 7, .inl (fun i_ => c (2 + i_))))], [(sa 4, .inl (D.1 100, 7, .inl od))], [(d, .inl (D.1 104, 10, .inr (.inr (.inr (.inr (rF ra n))))))], thP D sb ((some zd_12, n, ra), (zmd_12, wn1, od1), c1), T] (List.Perm.refl _) ?_
            refine z_ws [cOb o ad (sa 0) (sb 0) tr x, thP D sa ((some d, n, ra), (md, wn, od), c), thP D sb ((some zd_12, n, ra), (zmd_12, wn1, od1), c1), T] (List.Perm.refl _) ?_
            exact z_rim gX hQX ((some zd_12, n, ra), (zmd_12, wn1, od1), c1) (tOK_g hn7) (zsv (by rw [show 61 - i = 0 by omega] at hp; simp only [mOff, k5, if_true, nI_clamp (show j < 2 ^ 31 by omega)]; exact hp)) rfl (by first | decide | omega) (by first | decide | omega) dX0_off_56
          · skip
            have k21 : i ≤ 60 := (zn_nlt (a := 60) (b := i) (by omega) (by omega)).mp c21
            refine z_aload_n (pc := 24) gX 0 dX0_off_24 rfl rfl ?_
            refine z_get (pc := 25) gX (zI_ok gX hAX) (zm 0 rfl) (ci := 0) (C := RX0) (T := TX0) (N := 14) rfl in_X0 5 (by decide) q214 (fun _ h => h) (v := .ref (sb 0)) rfl dX0_off_25 ?_
            refine z_get (pc := 28) gX (zI_ok gX hAX) (zm 7 rfl) (ci := 2) (C := RX2) (T := TX2) (N := 8) rfl in_X2 6 (by decide) q171 (fun _ h => h) (v := .ref (sb 3)) rfl dX0_off_28 ?_
            refine z_iload_n (pc := 31) gX 1 dX0_off_31 rfl rfl ?_
            refine z_iald (pc := 32) gX (zI_ok gX hAX) (j := j) (n := 7) (f := (fun i_ => c1 (2 + i_))) (zm 10 rfl) (by omega) (by decide) dX0_off_32 ?_
            refine z_top (c1 (2 + j)) rfl ?_
            refine z_bipush (pc := 33) gX 99 dX0_off_33 (by decide) ?_
            refine z_icmp_ne (pc := 35) gX 40 dX0_off_35 (by decide) (fun c35 => ?_) (fun c35 => ?_)
            · skip
              refine z_aload_n (pc := 40) gX 0 dX0_off_40 rfl rfl ?_
              refine z_get (pc := 41) gX (zI_ok gX hAX) (zm 0 rfl) (ci := 0) (C := RX0) (T := TX0) (N := 14) rfl in_X0 5 (by decide) q214 (fun _ h => h) (v := .ref (sb 0)) rfl dX0_off_41 ?_
              refine z_cMV (pc := 44) gX hAX [] [] [7, 8, 9, 10, 11, 12, 13] [0, 1, 2, 3, 4, 5, 6] (fun A1 => met_goOnC l D B0 A1 sb wn1 zmd_12 zd_12 n c1 od1 ra T k hK1) q839 q840 q841 q49 q842 (zm 7 rfl) (ci := 2) rfl rfl hd_X2_goOn ⟨rfl, rfl⟩ ⟨(Nat.le_of_ble_eq_true rfl), (Nat.le_of_ble_eq_true rfl)⟩ rfl rfl (zpl 14 rfl (by decide +kernel)) rfl rfl (Nat.le_of_ble_eq_true rfl) ⟨(Nat.le_of_ble_eq_true rfl), (Nat.le_of_ble_eq_true rfl)⟩ dX0_off_44 ?_
              intro u44 hu44
              obtain ⟨od1_44, rfl⟩ : ∃ z, z = u44 := ⟨_, rfl⟩
              refine z_re [7, 8, 9, 10, 11, 12, 13, 0, 1, 2, 3, 4, 5, 6] [cOb o ad (sa 0) (sb 0) tr x, [(sa 0, .inr (2, [.int (c 16), .int (c 1), .int (c 0), .int wn, .ref (sa 1), .ref (sa 2), .ref (sa 3), .ref (sa 4)]))], [(sa 1, .inr (16, [.int md, .ref d, .int (nI n)]))], [(sa 2, .inl (D.1 100, 7, .inl (fun i_ => c (9 + i_))))], [(sa 3, .inl (D.1 100, 7, .inl (fun i_ => c (2 + i_))))], [(sa 4, .inl (D.1 100, 7, .inl od))], [(d, .inl (D.1 104, 10, .inr (.inr (.inr (.inr (rF ra n))))))], [(sb 0, .inr (2, [.int ((mTick n k c1) 16), .int ((mTick n k c1) 1), .int ((mTick n k c1) 0), .int (wn1 + nI (wnP (mPh1 n k c1) n)), .ref (sb 1), .ref (sb 2), .ref (sb 3), .ref (sb 4)]))], [(sb 1, .inr (16, [.int zmd_12, .ref zd_12, .int (nI n)]))], [(sb 2, .inl (D.1 100, 7, .inl (fun i_ => (mTick n k c1) (9 + i_))))], [(sb 3, .inl (D.1 100, 7, .inl (fun i_ => (mTick n k c1) (2 + i_))))], [(sb 4, .inl (D.1 100, 7, .inl od1_44))], [(zd_12, .inl (D.1 104, 10, .inr (.inr (.inr (.inr (rF ra n))))))], T] rfl (zpl 14 rfl (by decide +kernel)) ?_
              refine z_eq (lv₂ := [(0, .ref o), (1, .int (nI j)), (2, .int (nI i))]) (st₂ := [.ref (sb 0)]) ?_ rfl rfl
              refine z_pop (pc := 47) gX dX0_off_47 rfl ?_
              refine z_iinc (pc := 48) gX 2 (nI (i + 1)) [1, 2, 0] [(0, .ref o), (1, .int (nI j)), (2, .int (nI (i + 1)))] dX0_off_48 rfl (nI_1 _) (by decide) rfl ?_
              refine z_goto (pc := 51) gX 18 dX0_off_51 (by decide) ?_
              exact ih18 (i + 1) (mTick n k c1) od1_44 (wn1 + nI (wnP (mPh1 n k c1) n)) (by omega) hK1.tick (by rw [ofF_s (by omega), if_neg c35] at hp; exact hp) (by omega)
            · skip
              refine z_iload_n (pc := 38) gX 2 dX0_off_38 rfl rfl ?_
              refine z_ws [cOb o ad (sa 0) (sb 0) tr x, [(sa 0, .inr (2, [.int (c 16), .int (c 1), .int (c 0), .int wn, .ref (sa 1), .ref (sa 2), .ref (sa 3), .ref (sa 4)]))], [(sa 1, .inr (16, [.int md, .ref d, .int (nI n)]))], [(sa 2, .inl (D.1 100, 7, .inl (fun i_ => c (9 + i_))))], [(sa 3, .inl (D.1 100, 7, .inl (fun i_ => c (2 + i_))))], [(sa 4, .inl (D.1 100, 7, .inl od))], [(d, .inl (D.1 104, 10, .inr (.inr (.inr (.inr (rF ra n))))))], thP D sb ((some zd_12, n, ra), (zmd_12, wn1, od1), c1), T] (List.Perm.refl _) ?_
              refine z_ws [cOb o ad (sa 0) (sb 0) tr x, thP D sa ((some d, n, ra), (md, wn, od), c), thP D sb ((some zd_12, n, ra), (zmd_12, wn1, od1), c1), T] (List.Perm.refl _) ?_
              exact z_rim gX hQX ((some zd_12, n, ra), (zmd_12, wn1, od1), c1) (tOK_g hn7) (zsv (by rw [ofF_s (by omega), if_pos c35] at hp; simp [mOff, k5, nI_clamp (show j < 2 ^ 31 by omega), ← hp])) rfl (by first | decide | omega) (by first | decide | omega) dX0_off_39
      exact L18 ((61 - 0) + 1) 0 c zod_12 wn (by omega) hK rfl (Nat.lt_succ_self _)
    · skip
      have k5 : (mIn r 0 (c 17 - 1)) = false := bI_eq0 c5
      refine z_ldc (pc := 8) gX q350 dX0_off_8 ?_
      refine z_ws [cOb o ad (sa 0) (sb 0) tr x, thP D sa ((some d, n, ra), (md, wn, od), c), thP D sb ht, T] (List.Perm.refl _) ?_
      exact z_rim gX hQX ht ht0 (zsv (by simp [mOff, k5])) rfl (by first | decide | omega) (by first | decide | omega) dX0_off_10
theorem hd_X0_off : zHd yX0_off 1 := by unfold zHd; decide +kernel

set_option maxHeartbeats 4000000 in
theorem met_X0_clear (l : Launch) (D : va_G) (B0 : Nat) (A : Nat → Prop) (o : Nat) (ad : Nat → Nat) (sa : Nat → Nat) (sb : Nat → Nat) (tr : Nat) (x : Nat → Int32) (da : Option Nat) (n : Nat) (ra : Nat → Nat) (md : Int32) (wn : Int32) (od : Nat → Int32) (c : Nat → Int32) (T : va_W) (k : Nat) (ht : sT) (hS : sOK T da n k ra c) (ht0 : tOK ht) : Met l yX0_clear (ws_ yX0_clear cX0_clear 2 (some .int)) (zRm 11 1 10) (va_Pc [.ref o] (zPre B0 D A [cOb o ad (sa 0) (sb 0) tr x, thP D sa ((da, n, ra), (md, wn, od), c), thP D sb ht, T])) (zQ (S := sT) (fun u => (fun (ht1 : sT) => tOK ht1) u) (fun u => (fun (ht1 : sT) => some (.int (mClear n k c))) u) (fun u => (fun (ht1 : sT) => [cOb o ad (sa 0) (sb 0) tr x, thP D sa ((da, n, ra), (md, wn, od), c), thP D sb ht1, T]) u) D A) 1 10 A := by
  refine z_entry (by decide +kernel) (Nat.le_of_ble_eq_true rfl) (fun pX eX sX mX argsX blX mtX cX QX hQX gX hAX hnm => ?_)
  refine z_eq (lv₂ := [(0, .ref o)]) (st₂ := []) ?_ rfl rfl
  rcases hS with ⟨rfl, rfl, h16, h17⟩ | ⟨⟨d, rfl⟩, hG⟩
  · skip
    refine z_ws [cOb o ad (sa 0) (sb 0) tr x, [(sa 0, .inr (2, [.int (c 16), .int (c 1), .int (c 0), .int wn, .ref (sa 1), .ref (sa 2), .ref (sa 3), .ref (sa 4)]))], [(sa 1, .inr (16, [.int md, .ref (zEE D), .int (nI 0)]))], [(sa 2, .inl (D.1 100, 7, .inl (fun i_ => c (9 + i_))))], [(sa 3, .inl (D.1 100, 7, .inl (fun i_ => c (2 + i_))))], [(sa 4, .inl (D.1 100, 7, .inl od))], thP D sb ht, T] (List.Perm.refl _) ?_
    refine z_aload_n (pc := 0) gX 0 dX0_clear_0 rfl rfl ?_
    refine z_cOV (pc := 1) gX (zI_ok gX hAX) [] [] [0, 1] (met_X0_isThere l D B0 o ad sa sb tr x (c 16) (c 1) (c 0) wn ) q829 q831 qs18 q47 q832 (zm 0 rfl) (ci := 0) rfl rfl hd_X0_isThere ⟨rfl, rfl⟩ ⟨(Nat.le_of_ble_eq_true rfl), (Nat.le_of_ble_eq_true rfl)⟩ rfl rfl rfl (Nat.le_of_ble_eq_true rfl) ⟨(Nat.le_of_ble_eq_true rfl), (Nat.le_of_ble_eq_true rfl)⟩ dX0_clear_1 ?_
    intro _ hu1
    refine z_eq (lv₂ := [(0, .ref o)]) (st₂ := [.int (bI (decide (0 < (c 16))))]) ?_ rfl rfl
    refine z_if_ne (pc := 4) gX 10 dX0_clear_4 (by decide) (fun c4 => ?_) (fun c4 => ?_)
    · skip
      have k4 : (decide (0 < (c 16))) = true := bI_ne0 c4
      exact absurd k4 (by rw [h16]; decide)
    · skip
      have k4 : (decide (0 < (c 16))) = false := bI_eq0 c4
      refine z_ldc (pc := 7) gX q833 dX0_clear_7 ?_
      refine z_ws [cOb o ad (sa 0) (sb 0) tr x, thP D sa ((none, 0, ra), (md, wn, od), c), thP D sb ht, T] (List.Perm.refl _) ?_
      exact z_rim gX hQX ht ht0 (zsv (by simp [mClear, h17])) rfl (by first | decide | omega) (by first | decide | omega) dX0_clear_9
  · skip
    have hK := hG.k
    have hn1 := hG.1
    have hn7 := hG.2.1
    have h17 := hG.2.2.1
    have h16 := hG.2.2.2.1
    have hk4 := hG.2.2.2.2.1
    have hk12 := hG.2.2.2.2.2.1
    have hln := hG.2.2.2.2.2.2.1
    have hR := hG.2.2.2.2.2.2.2
    refine z_ws [cOb o ad (sa 0) (sb 0) tr x, [(sa 0, .inr (2, [.int (c 16), .int (c 1), .int (c 0), .int wn, .ref (sa 1), .ref (sa 2), .ref (sa 3), .ref (sa 4)]))], [(sa 1, .inr (16, [.int md, .ref d, .int (nI n)]))], [(sa 2, .inl (D.1 100, 7, .inl (fun i_ => c (9 + i_))))], [(sa 3, .inl (D.1 100, 7, .inl (fun i_ => c (2 + i_))))], [(sa 4, .inl (D.1 100, 7, .inl od))], [(d, .inl (D.1 104, 10, .inr (.inr (.inr (.inr (rF ra n))))))], thP D sb ht, T] (List.Perm.refl _) ?_
    refine z_aload_n (pc := 0) gX 0 dX0_clear_0 rfl rfl ?_
    refine z_cOV (pc := 1) gX (zI_ok gX hAX) [] [] [0, 1] (met_X0_isThere l D B0 o ad sa sb tr x (c 16) (c 1) (c 0) wn ) q829 q831 qs18 q47 q832 (zm 0 rfl) (ci := 0) rfl rfl hd_X0_isThere ⟨rfl, rfl⟩ ⟨(Nat.le_of_ble_eq_true rfl), (Nat.le_of_ble_eq_true rfl)⟩ rfl rfl rfl (Nat.le_of_ble_eq_true rfl) ⟨(Nat.le_of_ble_eq_true rfl), (Nat.le_of_ble_eq_true rfl)⟩ dX0_clear_1 ?_
    intro _ hu1
    refine z_eq (lv₂ := [(0, .ref o)]) (st₂ := [.int (bI (decide (0 < (c 16))))]) ?_ rfl rfl
    refine z_if_ne (pc := 4) gX 10 dX0_clear_4 (by decide) (fun c4 => ?_) (fun c4 => ?_)
    · skip
      have k4 : (decide (0 < (c 16))) = true := bI_ne0 c4
      refine z_aload_n (pc := 10) gX 0 dX0_clear_10 rfl rfl ?_
      refine z_cMV (pc := 11) gX hAX [] [] [0, 1, 2, 3, 4, 5, 6, 7, 8] [] (fun A1 => met_X0_asNow l D B0 A1 o ad sa sb tr x wn md d n c od ra T k ht hG ht0) q986 q988 qs23 q47 q989 (zm 0 rfl) (ci := 0) rfl rfl hd_X0_asNow ⟨rfl, rfl⟩ ⟨(Nat.le_of_ble_eq_true rfl), (Nat.le_of_ble_eq_true rfl)⟩ rfl rfl (zpl 9 rfl (by decide +kernel)) rfl rfl (Nat.le_of_ble_eq_true rfl) ⟨(Nat.le_of_ble_eq_true rfl), (Nat.le_of_ble_eq_true rfl)⟩ dX0_clear_11 ?_
      intro u11 hu11
      obtain ⟨zmd_11, zd_11, zod_11⟩ := u11
      refine z_re [0, 1, 2, 3, 4, 5, 6, 7, 9, 10, 11, 12, 13, 8] [cOb o ad (sa 0) (sb 0) tr x, [(sa 0, .inr (2, [.int (c 16), .int (c 1), .int (c 0), .int wn, .ref (sa 1), .ref (sa 2), .ref (sa 3), .ref (sa 4)]))], [(sa 1, .inr (16, [.int md, .ref d, .int (nI n)]))], [(sa 2, .inl (D.1 100, 7, .inl (fun i_ => c (9 + i_))))], [(sa 3, .inl (D.1 100, 7, .inl (fun i_ => c (2 + i_))))], [(sa 4, .inl (D.1 100, 7, .inl od))], [(d, .inl (D.1 104, 10, .inr (.inr (.inr (.inr (rF ra n))))))], [(sb 0, .inr (2, [.int (c 16), .int (c 1), .int (c 0), .int wn, .ref (sb 1), .ref (sb 2), .ref (sb 3), .ref (sb 4)]))], [(sb 1, .inr (16, [.int zmd_11, .ref zd_11, .int (nI n)]))], [(sb 2, .inl (D.1 100, 7, .inl (fun i_ => c (9 + i_))))], [(sb 3, .inl (D.1 100, 7, .inl (fun i_ => c (2 + i_))))], [(sb 4, .inl (D.1 100, 7, .inl zod_11))], [(zd_11, .inl (D.1 104, 10, .inr (.inr (.inr (.inr (rF ra n))))))], T] rfl (zpl 14 rfl (by decide +kernel)) ?_
      refine z_norm [cOb o ad (sa 0) (sb 0) tr x, [(sa 0, .inr (2, [.int (c 16), .int (c 1), .int (c 0), .int wn, .ref (sa 1), .ref (sa 2), .ref (sa 3), .ref (sa 4)]))], [(sa 1, .inr (16, [.int md, .ref d, .int (nI n)]))], [(sa 2, .inl (D.1 100, 7, .inl (fun i_ => c (9 + i_))))], [(sa 3, .inl (D.1 100, 7, .inl (fun i_ => c (2 + i_))))], [(sa 4, .inl (D.1 100, 7, .inl od))], [(d, .inl (D.1 104, 10, .inr (.inr (.inr (.inr (rF ra n))))))], [(sb 0, .inr (2, [.int (c 16), .int (c 1), .int (c 0), .int wn, .ref (sb 1), .ref (sb 2), .ref (sb 3), .ref (sb 4)]))], [(sb 1, .inr (16, [.int zmd_11, .ref zd_11, .int (nI n)]))], [(sb 2, .inl (D.1 100, 7, .inl (fun i_ => c (9 + i_))))], [(sb 3, .inl (D.1 100, 7, .inl (fun i_ => c (2 + i_))))], [(sb 4, .inl (D.1 100, 7, .inl zod_11))], [(zd_11, .inl (D.1 104, 10, .inr (.inr (.inr (.inr (rF ra n))))))], T] 1 10 ?_ rfl rfl rfl
      refine z_eq (lv₂ := [(0, .ref o)]) (st₂ := [.ref (sb 0)]) ?_ rfl rfl
      refine z_cMV (pc := 14) gX hAX [] [] [7, 8, 9, 10, 11, 12, 13] [0, 1, 2, 3, 4, 5, 6] (fun A1 => met_clearsR l D B0 A1 sb wn zmd_11 zd_11 n c zod_11 ra T k hK) q1008 q1009 q1010 q49 q1011 (zm 7 rfl) (ci := 2) rfl rfl hd_X2_clears ⟨rfl, rfl⟩ ⟨(Nat.le_of_ble_eq_true rfl), (Nat.le_of_ble_eq_true rfl)⟩ rfl rfl (zpl 14 rfl (by decide +kernel)) rfl rfl (Nat.le_of_ble_eq_true rfl) ⟨(Nat.le_of_ble_eq_true rfl), (Nat.le_of_ble_eq_true rfl)⟩ dX0_clear_14 ?_
      intro u14 hu14
      obtain ⟨c1_14, od1_14, wn1_14⟩ := u14
      refine z_re [7, 8, 9, 10, 11, 12, 13, 0, 1, 2, 3, 4, 5, 6] [cOb o ad (sa 0) (sb 0) tr x, [(sa 0, .inr (2, [.int (c 16), .int (c 1), .int (c 0), .int wn, .ref (sa 1), .ref (sa 2), .ref (sa 3), .ref (sa 4)]))], [(sa 1, .inr (16, [.int md, .ref d, .int (nI n)]))], [(sa 2, .inl (D.1 100, 7, .inl (fun i_ => c (9 + i_))))], [(sa 3, .inl (D.1 100, 7, .inl (fun i_ => c (2 + i_))))], [(sa 4, .inl (D.1 100, 7, .inl od))], [(d, .inl (D.1 104, 10, .inr (.inr (.inr (.inr (rF ra n))))))], [(sb 0, .inr (2, [.int (c1_14 16), .int (c1_14 1), .int (c1_14 0), .int wn1_14, .ref (sb 1), .ref (sb 2), .ref (sb 3), .ref (sb 4)]))], [(sb 1, .inr (16, [.int zmd_11, .ref zd_11, .int (nI n)]))], [(sb 2, .inl (D.1 100, 7, .inl (fun i_ => c1_14 (9 + i_))))], [(sb 3, .inl (D.1 100, 7, .inl (fun i_ => c1_14 (2 + i_))))], [(sb 4, .inl (D.1 100, 7, .inl od1_14))], [(zd_11, .inl (D.1 104, 10, .inr (.inr (.inr (.inr (rF ra n))))))], T] rfl (zpl 14 rfl (by decide +kernel)) ?_
      refine z_eq (lv₂ := [(0, .ref o)]) (st₂ := [.int (nI (clD n k 61 0 c))]) ?_ rfl rfl
      have hcl := clD_le (n := n) (k := k) 61 0 c
      refine z_istore_n (pc := 17) gX [1, 0] [(0, .ref o), (1, .int (nI (clD n k 61 0 c)))] dX0_clear_17 rfl (by decide) rfl ?_
      refine z_iload_n (pc := 18) gX 1 dX0_clear_18 rfl rfl ?_
      refine z_bipush (pc := 19) gX 60 dX0_clear_19 (by decide) ?_
      refine z_icmp_le (pc := 21) gX 29 dX0_clear_21 (by decide) (fun c21 => ?_) (fun c21 => ?_)
      · skip
        have k21 : clD n k 61 0 c ≤ 60 := (zn_le (a := clD n k 61 0 c) (b := 60) (by omega) (by omega)).mp c21
        refine z_iload_n (pc := 29) gX 1 dX0_clear_29 rfl rfl ?_
        refine z_ws [cOb o ad (sa 0) (sb 0) tr x, [(sa 0, .inr (2, [.int (c 16), .int (c 1), .int (c 0), .int wn, .ref (sa 1), .ref (sa 2), .ref (sa 3), .ref (sa 4)]))], [(sa 1, .inr (16, [.int md, .ref d, .int (nI n)]))], [(sa 2, .inl (D.1 100, 7, .inl (fun i_ => c (9 + i_))))], [(sa 3, .inl (D.1 100, 7, .inl (fun i_ => c (2 + i_))))], [(sa 4, .inl (D.1 100, 7, .inl od))], [(d, .inl (D.1 104, 10, .inr (.inr (.inr (.inr (rF ra n))))))], thP D sb ((some zd_11, n, ra), (zmd_11, wn1_14, od1_14), c1_14), T] (List.Perm.refl _) ?_
        refine z_ws [cOb o ad (sa 0) (sb 0) tr x, thP D sa ((some d, n, ra), (md, wn, od), c), thP D sb ((some zd_11, n, ra), (zmd_11, wn1_14, od1_14), c1_14), T] (List.Perm.refl _) ?_
        exact z_rim gX hQX ((some zd_11, n, ra), (zmd_11, wn1_14, od1_14), c1_14) (tOK_g hn7) (zsv (by simp only [mClear, poG hG, if_true, clr_D]; rw [if_neg (by omega)])) rfl (by first | decide | omega) (by first | decide | omega) dX0_clear_30
      · skip
        have k21 : 60 < clD n k 61 0 c := (zn_nle (a := clD n k 61 0 c) (b := 60) (by omega) (by omega)).mp c21
        refine z_ldc (pc := 24) gX q1003 dX0_clear_24 ?_
        refine z_goto (pc := 26) gX 30 dX0_clear_26 (by decide) ?_
        refine z_ws [cOb o ad (sa 0) (sb 0) tr x, [(sa 0, .inr (2, [.int (c 16), .int (c 1), .int (c 0), .int wn, .ref (sa 1), .ref (sa 2), .ref (sa 3), .ref (sa 4)]))], [(sa 1, .inr (16, [.int md, .ref d, .int (nI n)]))], [(sa 2, .inl (D.1 100, 7, .inl (fun i_ => c (9 + i_))))], [(sa 3, .inl (D.1 100, 7, .inl (fun i_ => c (2 + i_))))], [(sa 4, .inl (D.1 100, 7, .inl od))], [(d, .inl (D.1 104, 10, .inr (.inr (.inr (.inr (rF ra n))))))], thP D sb ((some zd_11, n, ra), (zmd_11, wn1_14, od1_14), c1_14), T] (List.Perm.refl _) ?_
        refine z_ws [cOb o ad (sa 0) (sb 0) tr x, thP D sa ((some d, n, ra), (md, wn, od), c), thP D sb ((some zd_11, n, ra), (zmd_11, wn1_14, od1_14), c1_14), T] (List.Perm.refl _) ?_
        exact z_rim gX hQX ((some zd_11, n, ra), (zmd_11, wn1_14, od1_14), c1_14) (tOK_g hn7) (zsv (by simp only [mClear, poG hG, if_true, clr_D]; rw [if_pos (by omega)])) rfl (by first | decide | omega) (by first | decide | omega) dX0_clear_30
    · skip
      have k4 : (decide (0 < (c 16))) = false := bI_eq0 c4
      exact absurd k4 (by rw [thG hG]; decide)
theorem hd_X0_clear : zHd yX0_clear 0 := by unfold zHd; decide +kernel

theorem mClr_lt {n k : Nat} {c : Nat → Int32} {so : Int32} {b a : Nat} (hso : so = if a = 61 then -1000000 else nI a) (ha : a ≤ 61) (hb : b = clD n k 61 0 c) : (¬ mClr n k c = -1000000 ∧ (so = -1000000 ∨ mClr n k c < so)) ↔ b < a := by
  have hb61 : b ≤ 61 := by rw [hb]; have := clD_le (n := n) (k := k) 61 0 c; omega
  rw [clr_D, ← hb, hso]
  have hne : ∀ m : Nat, m ≤ 61 → ¬ nI m = -1000000 := by decide +kernel
  by_cases e1 : b = 61
  · rw [if_pos e1]
    constructor
    · intro h; exact absurd rfl h.1
    · intro h; omega
  · rw [if_neg e1]
    by_cases e2 : a = 61
    · rw [if_pos e2]
      exact ⟨fun _ => by omega, fun _ => ⟨hne b hb61, Or.inl rfl⟩⟩
    · rw [if_neg e2]
      constructor
      · intro h
        rcases h.2 with q | q
        · exact absurd q (hne a ha)
        · exact (zn_lt (a := b) (b := a) (by omega) (by omega)).mp q
      · intro h
        exact ⟨hne b hb61, Or.inr ((zn_lt (a := b) (b := a) (by omega) (by omega)).mpr h)⟩
theorem zmin_a {a b : Nat} (h : a ≤ b) (hb : b ≤ 1000) : (if nI b < nI a then nI b else nI a) = nI a := if_neg (fun q => absurd ((zn_lt (a := b) (b := a) (by omega) (by omega)).mp q) (by omega))
theorem zmin_b {a b : Nat} (h : b < a) (ha : a ≤ 1000) : (if nI b < nI a then nI b else nI a) = nI b := if_pos ((zn_lt (a := b) (b := a) (by omega) (by omega)).mpr h)
theorem tkn_inv {n k : Nat} {c : Nat → Int32} : ∀ r, (tknP n k c r).1 = -1000000 ∨ ¬ (tknP n k c r).2 = -1000000
  | 0 => Or.inl rfl
  | r + 1 => by
    have := tkn_inv (n := n) (k := k) (c := c) r
    simp only [tknP, tknS]
    split
    · rename_i h; exact Or.inr h.1
    · exact this
theorem tkn_a {n k : Nat} {c : Nat → Int32} {fo : Int32} {a : Nat} (hp : (fo, (if a = 61 then -1000000 else nI a)) = tknP n k c n) (hf : ¬ fo = -1000000) : nI a = if a = 61 then -1000000 else nI a := by
  have := tkn_inv (n := n) (k := k) (c := c) n
  rw [← hp] at this
  by_cases e : a = 61
  · rw [if_pos e] at this
    rcases this with h | h
    · exact absurd h hf
    · exact absurd rfl h
  · rw [if_neg e]
theorem half0 {w : Int32} (h : mIn w 0 1 = true) (h1 : ¬ w = 1) : w = 0 := by
  obtain ⟨j, hj, rfl⟩ := mIn_nat h 1 (by decide)
  rcases (show j = 0 ∨ j = 1 by omega) with e | e
  · rw [e]; rfl
  · exact absurd (by rw [e]; rfl) h1
theorem upd_eq {c : Nat → Int32} {j : Nat} {v : Int32} (h : c j = v) : upd c j v = c := by rw [← h]; exact upd_self _ _
/-- one who is off already changes nothing -/
theorem tkn_off {n k : Nat} {c : Nat → Int32} {r : Nat} {fo so : Int32} {a : Nat} (h : c (2 + r) = 99) (hso : so = if a = 61 then -1000000 else nI a) (ha : a ≤ clD n k 61 0 c) : tknS n k c r (fo, so) = (fo, so) := by
  have hl := clD_le (n := n) (k := k) 61 0 c
  simp only [tknS, upd_eq h]
  rw [if_neg]
  rw [mClr_lt (a := a) hso (by omega) rfl]
  omega

set_option maxHeartbeats 4000000 in
theorem met_X0_taken (l : Launch) (D : va_G) (B0 : Nat) (A : Nat → Prop) (o : Nat) (ad : Nat → Nat) (sa : Nat → Nat) (sb : Nat → Nat) (tr : Nat) (x : Nat → Int32) (da : Option Nat) (n : Nat) (ra : Nat → Nat) (md : Int32) (wn : Int32) (od : Nat → Int32) (c : Nat → Int32) (T : va_W) (k : Nat) (ht : sT) (w : Int32) (hS : sOK T da n k ra c) (ht0 : tOK ht) : Met l yX0_taken (ws_ yX0_taken cX0_taken 6 (some .int)) (zRm 11 8 80) (va_Pc [.ref o, .int w] (zPre B0 D A [cOb o ad (sa 0) (sb 0) tr x, thP D sa ((da, n, ra), (md, wn, od), c), thP D sb ht, T])) (zQ (S := sT) (fun u => (fun (ht1 : sT) => tOK ht1) u) (fun u => (fun (ht1 : sT) => some (.int (mTaken n k c w))) u) (fun u => (fun (ht1 : sT) => [cOb o ad (sa 0) (sb 0) tr x, thP D sa ((da, n, ra), (md, wn, od), c), thP D sb ht1, T]) u) D A) 8 80 A := by
  refine z_entry (by decide +kernel) (Nat.le_of_ble_eq_true rfl) (fun pX eX sX mX argsX blX mtX cX QX hQX gX hAX hnm => ?_)
  refine z_eq (lv₂ := [(0, .ref o), (1, .int w)]) (st₂ := []) ?_ rfl rfl
  rcases hS with ⟨rfl, rfl, h16, h17⟩ | ⟨⟨d, rfl⟩, hG⟩
  · skip
    refine z_ws [cOb o ad (sa 0) (sb 0) tr x, [(sa 0, .inr (2, [.int (c 16), .int (c 1), .int (c 0), .int wn, .ref (sa 1), .ref (sa 2), .ref (sa 3), .ref (sa 4)]))], [(sa 1, .inr (16, [.int md, .ref (zEE D), .int (nI 0)]))], [(sa 2, .inl (D.1 100, 7, .inl (fun i_ => c (9 + i_))))], [(sa 3, .inl (D.1 100, 7, .inl (fun i_ => c (2 + i_))))], [(sa 4, .inl (D.1 100, 7, .inl od))], thP D sb ht, T] (List.Perm.refl _) ?_
    refine z_aload_n (pc := 0) gX 0 dX0_taken_0 rfl rfl ?_
    refine z_cOV (pc := 1) gX (zI_ok gX hAX) [] [] [0, 1] (met_X0_isThere l D B0 o ad sa sb tr x (c 16) (c 1) (c 0) wn ) q829 q831 qs18 q47 q832 (zm 0 rfl) (ci := 0) rfl rfl hd_X0_isThere ⟨rfl, rfl⟩ ⟨(Nat.le_of_ble_eq_true rfl), (Nat.le_of_ble_eq_true rfl)⟩ rfl rfl rfl (Nat.le_of_ble_eq_true rfl) ⟨(Nat.le_of_ble_eq_true rfl), (Nat.le_of_ble_eq_true rfl)⟩ dX0_taken_1 ?_
    intro _ hu1
    refine z_eq (lv₂ := [(0, .ref o), (1, .int w)]) (st₂ := [.int (bI (decide (0 < (c 16))))]) ?_ rfl rfl
    refine z_if_ne (pc := 4) gX 10 dX0_taken_4 (by decide) (fun c4 => ?_) (fun c4 => ?_)
    · skip
      have k4 : (decide (0 < (c 16))) = true := bI_ne0 c4
      exact absurd k4 (by rw [h16]; decide)
    · skip
      have k4 : (decide (0 < (c 16))) = false := bI_eq0 c4
      refine z_ldc (pc := 7) gX q833 dX0_taken_7 ?_
      refine z_ws [cOb o ad (sa 0) (sb 0) tr x, thP D sa ((none, 0, ra), (md, wn, od), c), thP D sb ht, T] (List.Perm.refl _) ?_
      exact z_rim gX hQX ht ht0 (zsv (by simp [mTaken, h17])) rfl (by first | decide | omega) (by first | decide | omega) dX0_taken_9
  · skip
    have hK := hG.k
    have hn1 := hG.1
    have hn7 := hG.2.1
    have h17 := hG.2.2.1
    have h16 := hG.2.2.2.1
    have hk4 := hG.2.2.2.2.1
    have hk12 := hG.2.2.2.2.2.1
    have hln := hG.2.2.2.2.2.2.1
    have hR := hG.2.2.2.2.2.2.2
    refine z_ws [cOb o ad (sa 0) (sb 0) tr x, [(sa 0, .inr (2, [.int (c 16), .int (c 1), .int (c 0), .int wn, .ref (sa 1), .ref (sa 2), .ref (sa 3), .ref (sa 4)]))], [(sa 1, .inr (16, [.int md, .ref d, .int (nI n)]))], [(sa 2, .inl (D.1 100, 7, .inl (fun i_ => c (9 + i_))))], [(sa 3, .inl (D.1 100, 7, .inl (fun i_ => c (2 + i_))))], [(sa 4, .inl (D.1 100, 7, .inl od))], [(d, .inl (D.1 104, 10, .inr (.inr (.inr (.inr (rF ra n))))))], thP D sb ht, T] (List.Perm.refl _) ?_
    refine z_aload_n (pc := 0) gX 0 dX0_taken_0 rfl rfl ?_
    refine z_cOV (pc := 1) gX (zI_ok gX hAX) [] [] [0, 1] (met_X0_isThere l D B0 o ad sa sb tr x (c 16) (c 1) (c 0) wn ) q829 q831 qs18 q47 q832 (zm 0 rfl) (ci := 0) rfl rfl hd_X0_isThere ⟨rfl, rfl⟩ ⟨(Nat.le_of_ble_eq_true rfl), (Nat.le_of_ble_eq_true rfl)⟩ rfl rfl rfl (Nat.le_of_ble_eq_true rfl) ⟨(Nat.le_of_ble_eq_true rfl), (Nat.le_of_ble_eq_true rfl)⟩ dX0_taken_1 ?_
    intro _ hu1
    refine z_eq (lv₂ := [(0, .ref o), (1, .int w)]) (st₂ := [.int (bI (decide (0 < (c 16))))]) ?_ rfl rfl
    refine z_if_ne (pc := 4) gX 10 dX0_taken_4 (by decide) (fun c4 => ?_) (fun c4 => ?_)
    · skip
      have k4 : (decide (0 < (c 16))) = true := bI_ne0 c4
      refine z_iload_n (pc := 10) gX 1 dX0_taken_10 rfl rfl ?_
      refine z_cOS (pc := 11) gX (zI_ok gX hAX) [.int w] [] [] (met_X0_isHalf l D B0 w ) q961 q962 q47 q963 hd_X0_isHalf ⟨rfl, rfl⟩ ⟨(Nat.le_of_ble_eq_true rfl), (Nat.le_of_ble_eq_true rfl)⟩ rfl rfl rfl (Nat.le_of_ble_eq_true rfl) ⟨(Nat.le_of_ble_eq_true rfl), (Nat.le_of_ble_eq_true rfl)⟩ dX0_taken_11 ?_
      intro _ hu11
      refine z_eq (lv₂ := [(0, .ref o), (1, .int w)]) (st₂ := [.int (bI (mIn w 0 1))]) ?_ rfl rfl
      refine z_if_ne (pc := 14) gX 20 dX0_taken_14 (by decide) (fun c14 => ?_) (fun c14 => ?_)
      · skip
        have k14 : (mIn w 0 1) = true := bI_ne0 c14
        refine z_aload_n (pc := 20) gX 0 dX0_taken_20 rfl rfl ?_
        refine z_cMV (pc := 21) gX hAX [] [] [0, 1, 2, 3, 4, 5, 6, 7, 8] [] (fun A1 => met_X0_asNow l D B0 A1 o ad sa sb tr x wn md d n c od ra T k ht hG ht0) q986 q988 qs23 q47 q989 (zm 0 rfl) (ci := 0) rfl rfl hd_X0_asNow ⟨rfl, rfl⟩ ⟨(Nat.le_of_ble_eq_true rfl), (Nat.le_of_ble_eq_true rfl)⟩ rfl rfl (zpl 9 rfl (by decide +kernel)) rfl rfl (Nat.le_of_ble_eq_true rfl) ⟨(Nat.le_of_ble_eq_true rfl), (Nat.le_of_ble_eq_true rfl)⟩ dX0_taken_21 ?_
        intro u21 hu21
        obtain ⟨zmd_21, zd_21, zod_21⟩ := u21
        refine z_re [0, 1, 2, 3, 4, 5, 6, 7, 9, 10, 11, 12, 13, 8] [cOb o ad (sa 0) (sb 0) tr x, [(sa 0, .inr (2, [.int (c 16), .int (c 1), .int (c 0), .int wn, .ref (sa 1), .ref (sa 2), .ref (sa 3), .ref (sa 4)]))], [(sa 1, .inr (16, [.int md, .ref d, .int (nI n)]))], [(sa 2, .inl (D.1 100, 7, .inl (fun i_ => c (9 + i_))))], [(sa 3, .inl (D.1 100, 7, .inl (fun i_ => c (2 + i_))))], [(sa 4, .inl (D.1 100, 7, .inl od))], [(d, .inl (D.1 104, 10, .inr (.inr (.inr (.inr (rF ra n))))))], [(sb 0, .inr (2, [.int (c 16), .int (c 1), .int (c 0), .int wn, .ref (sb 1), .ref (sb 2), .ref (sb 3), .ref (sb 4)]))], [(sb 1, .inr (16, [.int zmd_21, .ref zd_21, .int (nI n)]))], [(sb 2, .inl (D.1 100, 7, .inl (fun i_ => c (9 + i_))))], [(sb 3, .inl (D.1 100, 7, .inl (fun i_ => c (2 + i_))))], [(sb 4, .inl (D.1 100, 7, .inl zod_21))], [(zd_21, .inl (D.1 104, 10, .inr (.inr (.inr (.inr (rF ra n))))))], T] rfl (zpl 14 rfl (by decide +kernel)) ?_
        refine z_norm [cOb o ad (sa 0) (sb 0) tr x, [(sa 0, .inr (2, [.int (c 16), .int (c 1), .int (c 0), .int wn, .ref (sa 1), .ref (sa 2), .ref (sa 3), .ref (sa 4)]))], [(sa 1, .inr (16, [.int md, .ref d, .int (nI n)]))], [(sa 2, .inl (D.1 100, 7, .inl (fun i_ => c (9 + i_))))], [(sa 3, .inl (D.1 100, 7, .inl (fun i_ => c (2 + i_))))], [(sa 4, .inl (D.1 100, 7, .inl od))], [(d, .inl (D.1 104, 10, .inr (.inr (.inr (.inr (rF ra n))))))], [(sb 0, .inr (2, [.int (c 16), .int (c 1), .int (c 0), .int wn, .ref (sb 1), .ref (sb 2), .ref (sb 3), .ref (sb 4)]))], [(sb 1, .inr (16, [.int zmd_21, .ref zd_21, .int (nI n)]))], [(sb 2, .inl (D.1 100, 7, .inl (fun i_ => c (9 + i_))))], [(sb 3, .inl (D.1 100, 7, .inl (fun i_ => c (2 + i_))))], [(sb 4, .inl (D.1 100, 7, .inl zod_21))], [(zd_21, .inl (D.1 104, 10, .inr (.inr (.inr (.inr (rF ra n))))))], T] 1 10 ?_ rfl rfl rfl
        refine z_eq (lv₂ := [(0, .ref o), (1, .int w)]) (st₂ := [.ref (sb 0)]) ?_ rfl rfl
        refine z_cMV (pc := 24) gX hAX [] [] [7, 8, 9, 10, 11, 12, 13] [0, 1, 2, 3, 4, 5, 6] (fun A1 => met_clearsR l D B0 A1 sb wn zmd_21 zd_21 n c zod_21 ra T k hK) q1008 q1009 q1010 q49 q1011 (zm 7 rfl) (ci := 2) rfl rfl hd_X2_clears ⟨rfl, rfl⟩ ⟨(Nat.le_of_ble_eq_true rfl), (Nat.le_of_ble_eq_true rfl)⟩ rfl rfl (zpl 14 rfl (by decide +kernel)) rfl rfl (Nat.le_of_ble_eq_true rfl) ⟨(Nat.le_of_ble_eq_true rfl), (Nat.le_of_ble_eq_true rfl)⟩ dX0_taken_24 ?_
        intro u24 hu24
        obtain ⟨c1_24, od1_24, wn1_24⟩ := u24
        refine z_re [7, 8, 9, 10, 11, 12, 13, 0, 1, 2, 3, 4, 5, 6] [cOb o ad (sa 0) (sb 0) tr x, [(sa 0, .inr (2, [.int (c 16), .int (c 1), .int (c 0), .int wn, .ref (sa 1), .ref (sa 2), .ref (sa 3), .ref (sa 4)]))], [(sa 1, .inr (16, [.int md, .ref d, .int (nI n)]))], [(sa 2, .inl (D.1 100, 7, .inl (fun i_ => c (9 + i_))))], [(sa 3, .inl (D.1 100, 7, .inl (fun i_ => c (2 + i_))))], [(sa 4, .inl (D.1 100, 7, .inl od))], [(d, .inl (D.1 104, 10, .inr (.inr (.inr (.inr (rF ra n))))))], [(sb 0, .inr (2, [.int (c1_24 16), .int (c1_24 1), .int (c1_24 0), .int wn1_24, .ref (sb 1), .ref (sb 2), .ref (sb 3), .ref (sb 4)]))], [(sb 1, .inr (16, [.int zmd_21, .ref zd_21, .int (nI n)]))], [(sb 2, .inl (D.1 100, 7, .inl (fun i_ => c1_24 (9 + i_))))], [(sb 3, .inl (D.1 100, 7, .inl (fun i_ => c1_24 (2 + i_))))], [(sb 4, .inl (D.1 100, 7, .inl od1_24))], [(zd_21, .inl (D.1 104, 10, .inr (.inr (.inr (.inr (rF ra n))))))], T] rfl (zpl 14 rfl (by decide +kernel)) ?_
        refine z_eq (lv₂ := [(0, .ref o), (1, .int w)]) (st₂ := [.int (nI (clD n k 61 0 c))]) ?_ rfl rfl
        have hcl := clD_le (n := n) (k := k) 61 0 c
        refine z_istore_n (pc := 27) gX [1, 2, 0] [(0, .ref o), (1, .int w), (2, .int (nI (clD n k 61 0 c)))] dX0_taken_27 rfl (by decide) rfl ?_
        refine z_ldc (pc := 28) gX q1003 dX0_taken_28 ?_
        refine z_istore_n (pc := 30) gX [1, 2, 3, 0] [(0, .ref o), (1, .int w), (2, .int (nI (clD n k 61 0 c))), (3, .int (-1000000))] dX0_taken_30 rfl (by decide) rfl ?_
        refine z_ws [cOb o ad (sa 0) (sb 0) tr x, [(sa 0, .inr (2, [.int (c 16), .int (c 1), .int (c 0), .int wn, .ref (sa 1), .ref (sa 2), .ref (sa 3), .ref (sa 4)]))], [(sa 1, .inr (16, [.int md, .ref d, .int (nI n)]))], [(sa 2, .inl (D.1 100, 7, .inl (fun i_ => c (9 + i_))))], [(sa 3, .inl (D.1 100, 7, .inl (fun i_ => c (2 + i_))))], [(sa 4, .inl (D.1 100, 7, .inl od))], [(d, .inl (D.1 104, 10, .inr (.inr (.inr (.inr (rF ra n))))))], thP D sb ((some zd_21, n, ra), (zmd_21, wn1_24, od1_24), c1_24), T] (List.Perm.refl _) ?_
        refine z_iconst (pc := 31) gX 0 dX0_taken_31 (by decide) ?_
        refine z_istore (pc := 32) gX [1, 2, 3, 4, 0] [(0, .ref o), (1, .int w), (2, .int (nI (clD n k 61 0 c))), (3, .int (-1000000)), (4, .int 0)] dX0_taken_32 (by decide) rfl ?_
        have L34 : ∀ (n34 : Nat) (r : Nat) (fo : Int32) (a : Nat) (h2 : sT), (r ≤ n) → (tOK h2) → (a ≤ clD n k 61 0 c) → ((fo, (if a = 61 then -1000000 else nI a)) = tknP n k c r) → n - r < n34 → zJ pX l eX (zRm 11 8 80) sX mX argsX blX mtX cX QX 6 (zI D A sX [cOb o ad (sa 0) (sb 0) tr x, [(sa 0, .inr (2, [.int (c 16), .int (c 1), .int (c 0), .int wn, .ref (sa 1), .ref (sa 2), .ref (sa 3), .ref (sa 4)]))], [(sa 1, .inr (16, [.int md, .ref d, .int (nI n)]))], [(sa 2, .inl (D.1 100, 7, .inl (fun i_ => c (9 + i_))))], [(sa 3, .inl (D.1 100, 7, .inl (fun i_ => c (2 + i_))))], [(sa 4, .inl (D.1 100, 7, .inl od))], [(d, .inl (D.1 104, 10, .inr (.inr (.inr (.inr (rF ra n))))))], thP D sb h2, T]) (1 + r) (10 + 10 * r) 34 [(0, .ref o), (1, .int w), (2, .int (nI a)), (3, .int fo), (4, .int (nI r))] [] := by
          intro n34
          induction n34 with
          | zero => exact fun r fo a h2 hr ht2 ha hp hm34 => absurd hm34 (Nat.not_lt_zero _)
          | succ n34 ih34 =>
            intro r fo a h2 hr ht2 ha hp hm34
            refine z_iload (pc := 34) gX 4 dX0_taken_34 rfl ?_
            refine z_aload_n (pc := 36) gX 0 dX0_taken_36 rfl rfl ?_
            refine z_get (pc := 37) gX (zI_ok gX hAX) (zm 0 rfl) (ci := 0) (C := RX0) (T := TX0) (N := 14) rfl in_X0 4 (by decide) q213 (fun _ h => h) (v := .ref (sa 0)) rfl dX0_taken_37 ?_
            refine z_cOV (pc := 40) gX (zI_ok gX hAX) [] [.int (nI r)] [1, 2] (met_X2_many l D B0 sa (c 16) (c 1) (c 0) wn md d n ) q820 q653 q654 q49 q655 (zm 1 rfl) (ci := 2) rfl rfl hd_X2_many ⟨rfl, rfl⟩ ⟨(Nat.le_of_ble_eq_true rfl), (Nat.le_of_ble_eq_true rfl)⟩ rfl rfl rfl (Nat.le_of_ble_eq_true rfl) ⟨(by first | decide | (simp only [zRm]; omega)), (by first | decide | (simp only [zRm]; omega))⟩ dX0_taken_40 ?_
            intro _ hu40
            refine z_eq (lv₂ := [(0, .ref o), (1, .int w), (2, .int (nI a)), (3, .int fo), (4, .int (nI r))]) (st₂ := [.int (nI n), .int (nI r)]) ?_ rfl rfl
            refine z_icmp_ge (pc := 43) gX 111 dX0_taken_43 (by decide) (fun c43 => ?_) (fun c43 => ?_)
            · skip
              have k43 : n ≤ r := (zn_le (a := n) (b := r) (by omega) (by omega)).mp c43
              refine z_iload_n (pc := 111) gX 3 dX0_taken_111 rfl rfl ?_
              refine z_ldc (pc := 112) gX q1003 dX0_taken_112 ?_
              refine z_icmp_eq (pc := 114) gX 121 dX0_taken_114 (by decide) (fun c114 => ?_) (fun c114 => ?_)
              · skip
                refine z_iload_n (pc := 121) gX 3 dX0_taken_121 rfl rfl ?_
                refine z_goto (pc := 122) gX 126 dX0_taken_122 (by decide) ?_
                refine z_ws [cOb o ad (sa 0) (sb 0) tr x, thP D sa ((some d, n, ra), (md, wn, od), c), thP D sb h2, T] (List.Perm.refl _) ?_
                exact z_rim gX hQX h2 ht2 (zsv (by rw [show r = n by omega] at hp; simp only [mTaken, poG hG, k14, if_true, ← hp]; rw [if_pos (Or.inl c114)])) rfl (by first | decide | omega) (by first | decide | omega) dX0_taken_126
              · skip
                refine z_iload_n (pc := 117) gX 1 dX0_taken_117 rfl rfl ?_
                refine z_if_ne (pc := 118) gX 125 dX0_taken_118 (by decide) (fun c118 => ?_) (fun c118 => ?_)
                · skip
                  refine z_iload_n (pc := 125) gX 2 dX0_taken_125 rfl rfl ?_
                  refine z_ws [cOb o ad (sa 0) (sb 0) tr x, thP D sa ((some d, n, ra), (md, wn, od), c), thP D sb h2, T] (List.Perm.refl _) ?_
                  exact z_rim gX hQX h2 ht2 (zsv (by rw [show r = n by omega] at hp; simp only [mTaken, poG hG, k14, if_true, ← hp]; rw [if_neg (by rintro (h | h); exact c114 h; exact c118 h)]; exact tkn_a hp c114)) rfl (by first | decide | omega) (by first | decide | omega) dX0_taken_126
                · skip
                  refine z_iload_n (pc := 121) gX 3 dX0_taken_121 rfl rfl ?_
                  refine z_goto (pc := 122) gX 126 dX0_taken_122 (by decide) ?_
                  refine z_ws [cOb o ad (sa 0) (sb 0) tr x, thP D sa ((some d, n, ra), (md, wn, od), c), thP D sb h2, T] (List.Perm.refl _) ?_
                  exact z_rim gX hQX h2 ht2 (zsv (by rw [show r = n by omega] at hp; simp only [mTaken, poG hG, k14, if_true, ← hp]; rw [if_pos (Or.inr c118)])) rfl (by first | decide | omega) (by first | decide | omega) dX0_taken_126
            · skip
              have k43 : r < n := (zn_nle (a := n) (b := r) (by omega) (by omega)).mp c43
              refine z_aload_n (pc := 46) gX 0 dX0_taken_46 rfl rfl ?_
              refine z_get (pc := 47) gX (zI_ok gX hAX) (zm 0 rfl) (ci := 0) (C := RX0) (T := TX0) (N := 14) rfl in_X0 4 (by decide) q213 (fun _ h => h) (v := .ref (sa 0)) rfl dX0_taken_47 ?_
              refine z_get (pc := 50) gX (zI_ok gX hAX) (zm 1 rfl) (ci := 2) (C := RX2) (T := TX2) (N := 8) rfl in_X2 6 (by decide) q171 (fun _ h => h) (v := .ref (sa 3)) rfl dX0_taken_50 ?_
              refine z_iload (pc := 53) gX 4 dX0_taken_53 rfl ?_
              refine z_iald (pc := 55) gX (zI_ok gX hAX) (j := r) (n := 7) (f := (fun i_ => c (2 + i_))) (zm 4 rfl) (by omega) (by decide) dX0_taken_55 ?_
              refine z_top (c (2 + r)) rfl ?_
              refine z_bipush (pc := 56) gX 99 dX0_taken_56 (by decide) ?_
              refine z_icmp_ne (pc := 58) gX 64 dX0_taken_58 (by decide) (fun c58 => ?_) (fun c58 => ?_)
              · skip
                refine z_aload_n (pc := 64) gX 0 dX0_taken_64 rfl rfl ?_
                refine z_cMV (pc := 65) gX hAX [] [] [0, 1, 2, 3, 4, 5, 6, 7, 8] [] (fun A1 => met_X0_asNow l D B0 A1 o ad sa sb tr x wn md d n c od ra T k h2 hG ht2) q986 q988 qs23 q47 q989 (zm 0 rfl) (ci := 0) rfl rfl hd_X0_asNow ⟨rfl, rfl⟩ ⟨(Nat.le_of_ble_eq_true rfl), (Nat.le_of_ble_eq_true rfl)⟩ rfl rfl (zpl 9 rfl (by decide +kernel)) rfl rfl (Nat.le_of_ble_eq_true rfl) ⟨(by first | decide | (simp only [zRm]; omega)), (by first | decide | (simp only [zRm]; omega))⟩ dX0_taken_65 ?_
                intro u65 hu65
                obtain ⟨zmd_65, zd_65, zod_65⟩ := u65
                refine z_re [0, 1, 2, 3, 4, 5, 6, 7, 9, 10, 11, 12, 13, 8] [cOb o ad (sa 0) (sb 0) tr x, [(sa 0, .inr (2, [.int (c 16), .int (c 1), .int (c 0), .int wn, .ref (sa 1), .ref (sa 2), .ref (sa 3), .ref (sa 4)]))], [(sa 1, .inr (16, [.int md, .ref d, .int (nI n)]))], [(sa 2, .inl (D.1 100, 7, .inl (fun i_ => c (9 + i_))))], [(sa 3, .inl (D.1 100, 7, .inl (fun i_ => c (2 + i_))))], [(sa 4, .inl (D.1 100, 7, .inl od))], [(d, .inl (D.1 104, 10, .inr (.inr (.inr (.inr (rF ra n))))))], [(sb 0, .inr (2, [.int (c 16), .int (c 1), .int (c 0), .int wn, .ref (sb 1), .ref (sb 2), .ref (sb 3), .ref (sb 4)]))], [(sb 1, .inr (16, [.int zmd_65, .ref zd_65, .int (nI n)]))], [(sb 2, .inl (D.1 100, 7, .inl (fun i_ => c (9 + i_))))], [(sb 3, .inl (D.1 100, 7, .inl (fun i_ => c (2 + i_))))], [(sb 4, .inl (D.1 100, 7, .inl zod_65))], [(zd_65, .inl (D.1 104, 10, .inr (.inr (.inr (.inr (rF ra n))))))], T] rfl (zpl 14 rfl (by decide +kernel)) ?_
                refine z_norm [cOb o ad (sa 0) (sb 0) tr x, [(sa 0, .inr (2, [.int (c 16), .int (c 1), .int (c 0), .int wn, .ref (sa 1), .ref (sa 2), .ref (sa 3), .ref (sa 4)]))], [(sa 1, .inr (16, [.int md, .ref d, .int (nI n)]))], [(sa 2, .inl (D.1 100, 7, .inl (fun i_ => c (9 + i_))))], [(sa 3, .inl (D.1 100, 7, .inl (fun i_ => c (2 + i_))))], [(sa 4, .inl (D.1 100, 7, .inl od))], [(d, .inl (D.1 104, 10, .inr (.inr (.inr (.inr (rF ra n))))))], [(sb 0, .inr (2, [.int (c 16), .int (c 1), .int (c 0), .int wn, .ref (sb 1), .ref (sb 2), .ref (sb 3), .ref (sb 4)]))], [(sb 1, .inr (16, [.int zmd_65, .ref zd_65, .int (nI n)]))], [(sb 2, .inl (D.1 100, 7, .inl (fun i_ => c (9 + i_))))], [(sb 3, .inl (D.1 100, 7, .inl (fun i_ => c (2 + i_))))], [(sb 4, .inl (D.1 100, 7, .inl zod_65))], [(zd_65, .inl (D.1 104, 10, .inr (.inr (.inr (.inr (rF ra n))))))], T] (1 + r + 1) (10 + 10 * r + 10) ?_ rfl rfl rfl
                refine z_eq (lv₂ := [(0, .ref o), (1, .int w), (2, .int (nI a)), (3, .int fo), (4, .int (nI r))]) (st₂ := [.ref (sb 0)]) ?_ rfl rfl
                refine z_get (pc := 68) gX (zI_ok gX hAX) (zm 7 rfl) (ci := 2) (C := RX2) (T := TX2) (N := 8) rfl in_X2 6 (by decide) q171 (fun _ h => h) (v := .ref (sb 3)) rfl dX0_taken_68 ?_
                refine z_iload (pc := 71) gX 4 dX0_taken_71 rfl ?_
                refine z_bipush (pc := 73) gX 99 dX0_taken_73 (by decide) ?_
                refine z_iast (pc := 75) gX hAX 10 (j := r) (n := 7) (f := (fun i_ => c (2 + i_))) rfl (by omega) (by decide) [cOb o ad (sa 0) (sb 0) tr x, [(sa 0, .inr (2, [.int (c 16), .int (c 1), .int (c 0), .int wn, .ref (sa 1), .ref (sa 2), .ref (sa 3), .ref (sa 4)]))], [(sa 1, .inr (16, [.int md, .ref d, .int (nI n)]))], [(sa 2, .inl (D.1 100, 7, .inl (fun i_ => c (9 + i_))))], [(sa 3, .inl (D.1 100, 7, .inl (fun i_ => c (2 + i_))))], [(sa 4, .inl (D.1 100, 7, .inl od))], [(d, .inl (D.1 104, 10, .inr (.inr (.inr (.inr (rF ra n))))))], [(sb 0, .inr (2, [.int (c 16), .int (c 1), .int (c 0), .int wn, .ref (sb 1), .ref (sb 2), .ref (sb 3), .ref (sb 4)]))], [(sb 1, .inr (16, [.int zmd_65, .ref zd_65, .int (nI n)]))], [(sb 2, .inl (D.1 100, 7, .inl (fun i_ => c (9 + i_))))], [(sb 3, .inl (D.1 100, 7, .inl (upd (fun i_ => c (2 + i_)) r 99)))], [(sb 4, .inl (D.1 100, 7, .inl zod_65))], [(zd_65, .inl (D.1 104, 10, .inr (.inr (.inr (.inr (rF ra n))))))], T] rfl dX0_taken_75 ?_
                refine z_ext 9 (fun i_ => (upd c (2 + r) 99) (9 + i_)) rfl (fun q hq => (pk_un (by omega)).symm) [cOb o ad (sa 0) (sb 0) tr x, [(sa 0, .inr (2, [.int (c 16), .int (c 1), .int (c 0), .int wn, .ref (sa 1), .ref (sa 2), .ref (sa 3), .ref (sa 4)]))], [(sa 1, .inr (16, [.int md, .ref d, .int (nI n)]))], [(sa 2, .inl (D.1 100, 7, .inl (fun i_ => c (9 + i_))))], [(sa 3, .inl (D.1 100, 7, .inl (fun i_ => c (2 + i_))))], [(sa 4, .inl (D.1 100, 7, .inl od))], [(d, .inl (D.1 104, 10, .inr (.inr (.inr (.inr (rF ra n))))))], [(sb 0, .inr (2, [.int (c 16), .int (c 1), .int (c 0), .int wn, .ref (sb 1), .ref (sb 2), .ref (sb 3), .ref (sb 4)]))], [(sb 1, .inr (16, [.int zmd_65, .ref zd_65, .int (nI n)]))], [(sb 2, .inl (D.1 100, 7, .inl (fun i_ => (upd c (2 + r) 99) (9 + i_))))], [(sb 3, .inl (D.1 100, 7, .inl (upd (fun i_ => c (2 + i_)) r 99)))], [(sb 4, .inl (D.1 100, 7, .inl zod_65))], [(zd_65, .inl (D.1 104, 10, .inr (.inr (.inr (.inr (rF ra n))))))], T] rfl ?_
                refine z_ext 10 (fun i_ => (upd c (2 + r) 99) (2 + i_)) rfl (fun q hq => upW r q) [cOb o ad (sa 0) (sb 0) tr x, [(sa 0, .inr (2, [.int (c 16), .int (c 1), .int (c 0), .int wn, .ref (sa 1), .ref (sa 2), .ref (sa 3), .ref (sa 4)]))], [(sa 1, .inr (16, [.int md, .ref d, .int (nI n)]))], [(sa 2, .inl (D.1 100, 7, .inl (fun i_ => c (9 + i_))))], [(sa 3, .inl (D.1 100, 7, .inl (fun i_ => c (2 + i_))))], [(sa 4, .inl (D.1 100, 7, .inl od))], [(d, .inl (D.1 104, 10, .inr (.inr (.inr (.inr (rF ra n))))))], [(sb 0, .inr (2, [.int (c 16), .int (c 1), .int (c 0), .int wn, .ref (sb 1), .ref (sb 2), .ref (sb 3), .ref (sb 4)]))], [(sb 1, .inr (16, [.int zmd_65, .ref zd_65, .int (nI n)]))], [(sb 2, .inl (D.1 100, 7, .inl (fun i_ => (upd c (2 + r) 99) (9 + i_))))], [(sb 3, .inl (D.1 100, 7, .inl (fun i_ => (upd c (2 + r) 99) (2 + i_))))], [(sb 4, .inl (D.1 100, 7, .inl zod_65))], [(zd_65, .inl (D.1 104, 10, .inr (.inr (.inr (.inr (rF ra n))))))], T] rfl ?_
                refine z_weq [cOb o ad (sa 0) (sb 0) tr x, [(sa 0, .inr (2, [.int (c 16), .int (c 1), .int (c 0), .int wn, .ref (sa 1), .ref (sa 2), .ref (sa 3), .ref (sa 4)]))], [(sa 1, .inr (16, [.int md, .ref d, .int (nI n)]))], [(sa 2, .inl (D.1 100, 7, .inl (fun i_ => c (9 + i_))))], [(sa 3, .inl (D.1 100, 7, .inl (fun i_ => c (2 + i_))))], [(sa 4, .inl (D.1 100, 7, .inl od))], [(d, .inl (D.1 104, 10, .inr (.inr (.inr (.inr (rF ra n))))))], [(sb 0, .inr (2, [.int ((upd c (2 + r) 99) 16), .int ((upd c (2 + r) 99) 1), .int ((upd c (2 + r) 99) 0), .int wn, .ref (sb 1), .ref (sb 2), .ref (sb 3), .ref (sb 4)]))], [(sb 1, .inr (16, [.int zmd_65, .ref zd_65, .int (nI n)]))], [(sb 2, .inl (D.1 100, 7, .inl (fun i_ => (upd c (2 + r) 99) (9 + i_))))], [(sb 3, .inl (D.1 100, 7, .inl (fun i_ => (upd c (2 + r) 99) (2 + i_))))], [(sb 4, .inl (D.1 100, 7, .inl zod_65))], [(zd_65, .inl (D.1 104, 10, .inr (.inr (.inr (.inr (rF ra n))))))], T] (by rw [show (upd c (2 + r) 99) 16 = c 16 from pk_un (by omega), show (upd c (2 + r) 99) 1 = c 1 from pk_un (by omega), show (upd c (2 + r) 99) 0 = c 0 from pk_un (by omega)]) ?_
                refine z_aload_n (pc := 76) gX 0 dX0_taken_76 rfl rfl ?_
                refine z_get (pc := 77) gX (zI_ok gX hAX) (zm 0 rfl) (ci := 0) (C := RX0) (T := TX0) (N := 14) rfl in_X0 5 (by decide) q214 (fun _ h => h) (v := .ref (sb 0)) rfl dX0_taken_77 ?_
                refine z_cMV (pc := 80) gX hAX [] [] [7, 8, 9, 10, 11, 12, 13] [0, 1, 2, 3, 4, 5, 6] (fun A1 => met_clearsR l D B0 A1 sb wn zmd_65 zd_65 n (upd c (2 + r) 99) zod_65 ra T k (hK.up (by omega))) q1008 q1009 q1010 q49 q1011 (zm 7 rfl) (ci := 2) rfl rfl hd_X2_clears ⟨rfl, rfl⟩ ⟨(Nat.le_of_ble_eq_true rfl), (Nat.le_of_ble_eq_true rfl)⟩ rfl rfl (zpl 14 rfl (by decide +kernel)) rfl rfl (Nat.le_of_ble_eq_true rfl) ⟨(by first | decide | (simp only [zRm]; omega)), (by first | decide | (simp only [zRm]; omega))⟩ dX0_taken_80 ?_
                intro u80 hu80
                obtain ⟨c1_80, od1_80, wn1_80⟩ := u80
                refine z_re [7, 8, 9, 10, 11, 12, 13, 0, 1, 2, 3, 4, 5, 6] [cOb o ad (sa 0) (sb 0) tr x, [(sa 0, .inr (2, [.int (c 16), .int (c 1), .int (c 0), .int wn, .ref (sa 1), .ref (sa 2), .ref (sa 3), .ref (sa 4)]))], [(sa 1, .inr (16, [.int md, .ref d, .int (nI n)]))], [(sa 2, .inl (D.1 100, 7, .inl (fun i_ => c (9 + i_))))], [(sa 3, .inl (D.1 100, 7, .inl (fun i_ => c (2 + i_))))], [(sa 4, .inl (D.1 100, 7, .inl od))], [(d, .inl (D.1 104, 10, .inr (.inr (.inr (.inr (rF ra n))))))], [(sb 0, .inr (2, [.int (c1_80 16), .int (c1_80 1), .int (c1_80 0), .int wn1_80, .ref (sb 1), .ref (sb 2), .ref (sb 3), .ref (sb 4)]))], [(sb 1, .inr (16, [.int zmd_65, .ref zd_65, .int (nI n)]))], [(sb 2, .inl (D.1 100, 7, .inl (fun i_ => c1_80 (9 + i_))))], [(sb 3, .inl (D.1 100, 7, .inl (fun i_ => c1_80 (2 + i_))))], [(sb 4, .inl (D.1 100, 7, .inl od1_80))], [(zd_65, .inl (D.1 104, 10, .inr (.inr (.inr (.inr (rF ra n))))))], T] rfl (zpl 14 rfl (by decide +kernel)) ?_
                refine z_eq (lv₂ := [(0, .ref o), (1, .int w), (2, .int (nI a)), (3, .int fo), (4, .int (nI r))]) (st₂ := [.int (nI (clD n k 61 0 (upd c (2 + r) 99)))]) ?_ rfl rfl
                have hcl2 := clD_le (n := n) (k := k) 61 0 (upd c (2 + r) 99)
                refine z_istore (pc := 83) gX [1, 2, 3, 4, 5, 0] [(0, .ref o), (1, .int w), (2, .int (nI a)), (3, .int fo), (4, .int (nI r)), (5, .int (nI (clD n k 61 0 (upd c (2 + r) 99))))] dX0_taken_83 (by decide) rfl ?_
                refine z_iload (pc := 85) gX 5 dX0_taken_85 rfl ?_
                refine z_iload_n (pc := 87) gX 2 dX0_taken_87 rfl rfl ?_
                refine z_icmp_ge (pc := 88) gX 96 dX0_taken_88 (by decide) (fun c88 => ?_) (fun c88 => ?_)
                · skip
                  have k88 : a ≤ clD n k 61 0 (upd c (2 + r) 99) := (zn_le (a := a) (b := clD n k 61 0 (upd c (2 + r) 99)) (by omega) (by omega)).mp c88
                  refine z_iload_n (pc := 96) gX 3 dX0_taken_96 rfl rfl ?_
                  refine z_istore_n (pc := 97) gX [1, 2, 3, 0, 4, 5] [(0, .ref o), (1, .int w), (2, .int (nI a)), (3, .int fo), (4, .int (nI r)), (5, .int (nI (clD n k 61 0 (upd c (2 + r) 99))))] dX0_taken_97 rfl (by decide) rfl ?_
                  refine z_iload_n (pc := 98) gX 2 dX0_taken_98 rfl rfl ?_
                  refine z_iload (pc := 99) gX 5 dX0_taken_99 rfl ?_
                  refine z_mmin (pc := 101) gX ⟨q1021, q594, q68, q595⟩ (Nat.le_of_ble_eq_true rfl) (Nat.le_of_ble_eq_true rfl) ⟨by first | decide | (simp only [zRm]; omega), by first | decide | (simp only [zRm]; omega)⟩ dX0_taken_101 ?_
                  refine z_top (nI a) (zmin_a (by omega) (by omega)) ?_
                  refine z_istore_n (pc := 104) gX [1, 2, 0, 3, 4, 5] [(0, .ref o), (1, .int w), (2, .int (nI a)), (3, .int fo), (4, .int (nI r)), (5, .int (nI (clD n k 61 0 (upd c (2 + r) 99))))] dX0_taken_104 rfl (by decide) rfl ?_
                  refine z_ws [cOb o ad (sa 0) (sb 0) tr x, [(sa 0, .inr (2, [.int (c 16), .int (c 1), .int (c 0), .int wn, .ref (sa 1), .ref (sa 2), .ref (sa 3), .ref (sa 4)]))], [(sa 1, .inr (16, [.int md, .ref d, .int (nI n)]))], [(sa 2, .inl (D.1 100, 7, .inl (fun i_ => c (9 + i_))))], [(sa 3, .inl (D.1 100, 7, .inl (fun i_ => c (2 + i_))))], [(sa 4, .inl (D.1 100, 7, .inl od))], [(d, .inl (D.1 104, 10, .inr (.inr (.inr (.inr (rF ra n))))))], thP D sb ((some zd_65, n, ra), (zmd_65, wn1_80, od1_80), c1_80), T] (List.Perm.refl _) ?_
                  refine z_iinc (pc := 105) gX 4 (nI (r + 1)) [1, 2, 3, 4, 0, 5] [(0, .ref o), (1, .int w), (2, .int (nI a)), (3, .int fo), (4, .int (nI (r + 1))), (5, .int (nI (clD n k 61 0 (upd c (2 + r) 99))))] dX0_taken_105 rfl (nI_1 _) (by decide) rfl ?_
                  refine z_goto (pc := 108) gX 34 dX0_taken_108 (by decide) ?_
                  refine z_lv [0, 1, 2, 3, 4] [(0, .ref o), (1, .int w), (2, .int (nI a)), (3, .int fo), (4, .int (nI (r + 1)))] rfl ?_
                  refine z_widen (k := 1 + (r + 1)) (n := 10 + 10 * (r + 1)) (by omega) (by omega) ?_
                  exact ih34 (r + 1) fo a ((some zd_65, n, ra), (zmd_65, wn1_80, od1_80), c1_80) (by omega) (tOK_g hn7) ha (by rw [show tknP n k c (r + 1) = tknS n k c r (tknP n k c r) from rfl, ← hp]; simp only [tknS]; exact (if_neg (fun h => by have := (mClr_lt (n := n) (k := k) (c := upd c (2 + r) 99) (a := a) rfl (by omega) rfl).mp h; omega)).symm) (by omega)
                · skip
                  have k88 : clD n k 61 0 (upd c (2 + r) 99) < a := (zn_nle (a := a) (b := clD n k 61 0 (upd c (2 + r) 99)) (by omega) (by omega)).mp c88
                  refine z_iload (pc := 91) gX 4 dX0_taken_91 rfl ?_
                  refine z_goto (pc := 93) gX 97 dX0_taken_93 (by decide) ?_
                  refine z_istore_n (pc := 97) gX [1, 2, 3, 0, 4, 5] [(0, .ref o), (1, .int w), (2, .int (nI a)), (3, .int (nI r)), (4, .int (nI r)), (5, .int (nI (clD n k 61 0 (upd c (2 + r) 99))))] dX0_taken_97 rfl (by decide) rfl ?_
                  refine z_iload_n (pc := 98) gX 2 dX0_taken_98 rfl rfl ?_
                  refine z_iload (pc := 99) gX 5 dX0_taken_99 rfl ?_
                  refine z_mmin (pc := 101) gX ⟨q1021, q594, q68, q595⟩ (Nat.le_of_ble_eq_true rfl) (Nat.le_of_ble_eq_true rfl) ⟨by first | decide | (simp only [zRm]; omega), by first | decide | (simp only [zRm]; omega)⟩ dX0_taken_101 ?_
                  refine z_top (nI (clD n k 61 0 (upd c (2 + r) 99))) (zmin_b (by omega) (by omega)) ?_
                  refine z_istore_n (pc := 104) gX [1, 2, 0, 3, 4, 5] [(0, .ref o), (1, .int w), (2, .int (nI (clD n k 61 0 (upd c (2 + r) 99)))), (3, .int (nI r)), (4, .int (nI r)), (5, .int (nI (clD n k 61 0 (upd c (2 + r) 99))))] dX0_taken_104 rfl (by decide) rfl ?_
                  refine z_ws [cOb o ad (sa 0) (sb 0) tr x, [(sa 0, .inr (2, [.int (c 16), .int (c 1), .int (c 0), .int wn, .ref (sa 1), .ref (sa 2), .ref (sa 3), .ref (sa 4)]))], [(sa 1, .inr (16, [.int md, .ref d, .int (nI n)]))], [(sa 2, .inl (D.1 100, 7, .inl (fun i_ => c (9 + i_))))], [(sa 3, .inl (D.1 100, 7, .inl (fun i_ => c (2 + i_))))], [(sa 4, .inl (D.1 100, 7, .inl od))], [(d, .inl (D.1 104, 10, .inr (.inr (.inr (.inr (rF ra n))))))], thP D sb ((some zd_65, n, ra), (zmd_65, wn1_80, od1_80), c1_80), T] (List.Perm.refl _) ?_
                  refine z_iinc (pc := 105) gX 4 (nI (r + 1)) [1, 2, 3, 4, 0, 5] [(0, .ref o), (1, .int w), (2, .int (nI (clD n k 61 0 (upd c (2 + r) 99)))), (3, .int (nI r)), (4, .int (nI (r + 1))), (5, .int (nI (clD n k 61 0 (upd c (2 + r) 99))))] dX0_taken_105 rfl (nI_1 _) (by decide) rfl ?_
                  refine z_goto (pc := 108) gX 34 dX0_taken_108 (by decide) ?_
                  refine z_lv [0, 1, 2, 3, 4] [(0, .ref o), (1, .int w), (2, .int (nI (clD n k 61 0 (upd c (2 + r) 99)))), (3, .int (nI r)), (4, .int (nI (r + 1)))] rfl ?_
                  refine z_widen (k := 1 + (r + 1)) (n := 10 + 10 * (r + 1)) (by omega) (by omega) ?_
                  exact ih34 (r + 1) (nI r) (clD n k 61 0 (upd c (2 + r) 99)) ((some zd_65, n, ra), (zmd_65, wn1_80, od1_80), c1_80) (by omega) (tOK_g hn7) (by omega) (by rw [show tknP n k c (r + 1) = tknS n k c r (tknP n k c r) from rfl, ← hp]; simp only [tknS]; rw [if_pos ((mClr_lt (n := n) (k := k) (c := upd c (2 + r) 99) (a := a) rfl (by omega) rfl).mpr (by omega)), clr_D]) (by omega)
              · skip
                refine z_goto (pc := 61) gX 105 dX0_taken_61 (by decide) ?_
                refine z_iinc (pc := 105) gX 4 (nI (r + 1)) [1, 2, 3, 4, 0] [(0, .ref o), (1, .int w), (2, .int (nI a)), (3, .int fo), (4, .int (nI (r + 1)))] dX0_taken_105 rfl (nI_1 _) (by decide) rfl ?_
                refine z_goto (pc := 108) gX 34 dX0_taken_108 (by decide) ?_
                refine z_widen (k := 1 + (r + 1)) (n := 10 + 10 * (r + 1)) (by omega) (by omega) ?_
                exact ih34 (r + 1) fo a h2 (by omega) ht2 ha (by rw [show tknP n k c (r + 1) = tknS n k c r (tknP n k c r) from rfl, ← hp]; exact (tkn_off c58 rfl ha).symm) (by omega)
        refine z_widen (k := 1 + 0) (n := 10 + 10 * 0) (by omega) (by omega) ?_
        exact L34 ((n - 0) + 1) 0 (-1000000) (clD n k 61 0 c) ((some zd_21, n, ra), (zmd_21, wn1_24, od1_24), c1_24) (by omega) (tOK_g hn7) (Nat.le_refl _) (by rw [show tknP n k c 0 = (-1000000, mClr n k c) from rfl, clr_D]) (Nat.lt_succ_self _)
      · skip
        have k14 : (mIn w 0 1) = false := bI_eq0 c14
        refine z_ldc (pc := 17) gX q350 dX0_taken_17 ?_
        refine z_ws [cOb o ad (sa 0) (sb 0) tr x, thP D sa ((some d, n, ra), (md, wn, od), c), thP D sb ht, T] (List.Perm.refl _) ?_
        exact z_rim gX hQX ht ht0 (zsv (by simp [mTaken, poG hG, k14])) rfl (by first | decide | omega) (by first | decide | omega) dX0_taken_19
    · skip
      have k4 : (decide (0 < (c 16))) = false := bI_eq0 c4
      exact absurd k4 (by rw [thG hG]; decide)
theorem hd_X0_taken : zHd yX0_taken 1 := by unfold zHd; decide +kernel

theorem bit1 {s r : Nat} (h : s.testBit r = true) : nI (s / 2 ^ r % 2) = 1 := by
  rw [Nat.testBit_eq_decide_div_mod_eq] at h
  rw [of_decide_eq_true h]; rfl
theorem bit0 {s r : Nat} (h : s.testBit r = false) : nI (s / 2 ^ r % 2) = 0 := by
  rw [Nat.testBit_eq_decide_div_mod_eq] at h
  have := of_decide_eq_false h
  rw [show s / 2 ^ r % 2 = 0 by omega]; rfl
theorem bit01 (m : Nat) : nI (m % 2) = 0 ∨ nI (m % 2) = 1 := by
  rcases Nat.mod_two_eq_zero_or_one m with h | h <;> rw [h]
  · exact Or.inl rfl
  · exact Or.inr rfl
theorem kOK_layQ {T : va_W} {n k : Nat} {ra : Nat → Nat} {c : Nat → Int32} {W s : Nat} (h : kOK T n k ra c) : ∀ m, m ≤ 7 → kOK T n k ra (layQ c W s m)
  | 0, _ => h
  | m + 1, hm => by
    simp only [layQ]
    split
    · exact (kOK_layQ h m (by omega)).upl (bit01 _) (by omega)
    · exact kOK_layQ h m (by omega)
theorem srt_far {n k : Nat} {c : Nat → Int32} {W : Nat} : ∀ m, W < m → srtP n k c W m = srtP n k c W (W + 1)
  | 0, h => by omega
  | m + 1, h => by
    rcases Nat.lt_or_ge W m with h1 | h1
    · simp only [srtP, srtS]
      rw [if_neg (fun e => by have := Nat.and_le_right (n := m) (m := W); omega)]
      exact srt_far m h1
    · rw [show m = W by omega]
theorem srt_inv {n k : Nat} {c : Nat → Int32} {W : Nat} : ∀ s, s ≤ 128 → ((srtP n k c W s).1 = -1000000 ↔ (srtP n k c W s).2 = -1000000)
  | 0, _ => by simp [srtP]
  | s + 1, hs => by
    have ih := srt_inv (n := n) (k := k) (c := c) (W := W) s (by omega)
    have hne : ∀ m : Nat, m ≤ 128 → ¬ nI m = -1000000 := by decide +kernel
    simp only [srtP, srtS]
    split
    · split
      · rename_i h
        exact ⟨fun e => absurd e (hne s (by omega)), fun e => absurd e h.1⟩
      · exact ih
    · exact ih

set_option maxHeartbeats 4000000 in
theorem met_X0_sorting (l : Launch) (D : va_G) (B0 : Nat) (A : Nat → Prop) (o : Nat) (ad : Nat → Nat) (sa : Nat → Nat) (sb : Nat → Nat) (tr : Nat) (x : Nat → Int32) (da : Option Nat) (n : Nat) (ra : Nat → Nat) (md : Int32) (wn : Int32) (od : Nat → Int32) (c : Nat → Int32) (T : va_W) (k : Nat) (ht : sT) (w : Int32) (hS : sOK T da n k ra c) (ht0 : tOK ht) : Met l yX0_sorting (ws_ yX0_sorting cX0_sorting 7 (some .int)) (zRm 11 129 1290) (va_Pc [.ref o, .int w] (zPre B0 D A [cOb o ad (sa 0) (sb 0) tr x, thP D sa ((da, n, ra), (md, wn, od), c), thP D sb ht, T])) (zQ (S := sT) (fun u => (fun (ht1 : sT) => tOK ht1) u) (fun u => (fun (ht1 : sT) => some (.int (mSorting n k c w))) u) (fun u => (fun (ht1 : sT) => [cOb o ad (sa 0) (sb 0) tr x, thP D sa ((da, n, ra), (md, wn, od), c), thP D sb ht1, T]) u) D A) 129 1290 A := by
  refine z_entry (by decide +kernel) (Nat.le_of_ble_eq_true rfl) (fun pX eX sX mX argsX blX mtX cX QX hQX gX hAX hnm => ?_)
  refine z_eq (lv₂ := [(0, .ref o), (1, .int w)]) (st₂ := []) ?_ rfl rfl
  rcases hS with ⟨rfl, rfl, h16, h17⟩ | ⟨⟨d, rfl⟩, hG⟩
  · skip
    refine z_ws [cOb o ad (sa 0) (sb 0) tr x, [(sa 0, .inr (2, [.int (c 16), .int (c 1), .int (c 0), .int wn, .ref (sa 1), .ref (sa 2), .ref (sa 3), .ref (sa 4)]))], [(sa 1, .inr (16, [.int md, .ref (zEE D), .int (nI 0)]))], [(sa 2, .inl (D.1 100, 7, .inl (fun i_ => c (9 + i_))))], [(sa 3, .inl (D.1 100, 7, .inl (fun i_ => c (2 + i_))))], [(sa 4, .inl (D.1 100, 7, .inl od))], thP D sb ht, T] (List.Perm.refl _) ?_
    refine z_aload_n (pc := 0) gX 0 dX0_sorting_0 rfl rfl ?_
    refine z_cOV (pc := 1) gX (zI_ok gX hAX) [] [] [0, 1] (met_X0_isThere l D B0 o ad sa sb tr x (c 16) (c 1) (c 0) wn ) q829 q831 qs18 q47 q832 (zm 0 rfl) (ci := 0) rfl rfl hd_X0_isThere ⟨rfl, rfl⟩ ⟨(Nat.le_of_ble_eq_true rfl), (Nat.le_of_ble_eq_true rfl)⟩ rfl rfl rfl (Nat.le_of_ble_eq_true rfl) ⟨(Nat.le_of_ble_eq_true rfl), (Nat.le_of_ble_eq_true rfl)⟩ dX0_sorting_1 ?_
    intro _ hu1
    refine z_eq (lv₂ := [(0, .ref o), (1, .int w)]) (st₂ := [.int (bI (decide (0 < (c 16))))]) ?_ rfl rfl
    refine z_if_ne (pc := 4) gX 10 dX0_sorting_4 (by decide) (fun c4 => ?_) (fun c4 => ?_)
    · skip
      have k4 : (decide (0 < (c 16))) = true := bI_ne0 c4
      exact absurd k4 (by rw [h16]; decide)
    · skip
      have k4 : (decide (0 < (c 16))) = false := bI_eq0 c4
      refine z_ldc (pc := 7) gX q833 dX0_sorting_7 ?_
      refine z_ws [cOb o ad (sa 0) (sb 0) tr x, thP D sa ((none, 0, ra), (md, wn, od), c), thP D sb ht, T] (List.Perm.refl _) ?_
      exact z_rim gX hQX ht ht0 (zsv (by simp [mSorting, h17])) rfl (by first | decide | omega) (by first | decide | omega) dX0_sorting_9
  · skip
    have hK := hG.k
    have hn1 := hG.1
    have hn7 := hG.2.1
    have h17 := hG.2.2.1
    have h16 := hG.2.2.2.1
    have hk4 := hG.2.2.2.2.1
    have hk12 := hG.2.2.2.2.2.1
    have hln := hG.2.2.2.2.2.2.1
    have hR := hG.2.2.2.2.2.2.2
    refine z_ws [cOb o ad (sa 0) (sb 0) tr x, [(sa 0, .inr (2, [.int (c 16), .int (c 1), .int (c 0), .int wn, .ref (sa 1), .ref (sa 2), .ref (sa 3), .ref (sa 4)]))], [(sa 1, .inr (16, [.int md, .ref d, .int (nI n)]))], [(sa 2, .inl (D.1 100, 7, .inl (fun i_ => c (9 + i_))))], [(sa 3, .inl (D.1 100, 7, .inl (fun i_ => c (2 + i_))))], [(sa 4, .inl (D.1 100, 7, .inl od))], [(d, .inl (D.1 104, 10, .inr (.inr (.inr (.inr (rF ra n))))))], thP D sb ht, T] (List.Perm.refl _) ?_
    refine z_aload_n (pc := 0) gX 0 dX0_sorting_0 rfl rfl ?_
    refine z_cOV (pc := 1) gX (zI_ok gX hAX) [] [] [0, 1] (met_X0_isThere l D B0 o ad sa sb tr x (c 16) (c 1) (c 0) wn ) q829 q831 qs18 q47 q832 (zm 0 rfl) (ci := 0) rfl rfl hd_X0_isThere ⟨rfl, rfl⟩ ⟨(Nat.le_of_ble_eq_true rfl), (Nat.le_of_ble_eq_true rfl)⟩ rfl rfl rfl (Nat.le_of_ble_eq_true rfl) ⟨(Nat.le_of_ble_eq_true rfl), (Nat.le_of_ble_eq_true rfl)⟩ dX0_sorting_1 ?_
    intro _ hu1
    refine z_eq (lv₂ := [(0, .ref o), (1, .int w)]) (st₂ := [.int (bI (decide (0 < (c 16))))]) ?_ rfl rfl
    refine z_if_ne (pc := 4) gX 10 dX0_sorting_4 (by decide) (fun c4 => ?_) (fun c4 => ?_)
    · skip
      have k4 : (decide (0 < (c 16))) = true := bI_ne0 c4
      refine z_iload_n (pc := 10) gX 1 dX0_sorting_10 rfl rfl ?_
      refine z_cOS (pc := 11) gX (zI_ok gX hAX) [.int w] [] [] (met_X0_isHalf l D B0 w ) q961 q962 q47 q963 hd_X0_isHalf ⟨rfl, rfl⟩ ⟨(Nat.le_of_ble_eq_true rfl), (Nat.le_of_ble_eq_true rfl)⟩ rfl rfl rfl (Nat.le_of_ble_eq_true rfl) ⟨(Nat.le_of_ble_eq_true rfl), (Nat.le_of_ble_eq_true rfl)⟩ dX0_sorting_11 ?_
      intro _ hu11
      refine z_eq (lv₂ := [(0, .ref o), (1, .int w)]) (st₂ := [.int (bI (mIn w 0 1))]) ?_ rfl rfl
      refine z_if_ne (pc := 14) gX 20 dX0_sorting_14 (by decide) (fun c14 => ?_) (fun c14 => ?_)
      · skip
        have k14 : (mIn w 0 1) = true := bI_ne0 c14
        obtain ⟨W, hW⟩ : ∃ W, W = qN c n := ⟨_, rfl⟩
        have hW128 : W < 128 := by rw [hW]; have := qN_lt c n; have := pow7 hn7; omega
        have hW2n : W < 2 ^ n := by rw [hW]; exact qN_lt c n
        refine z_aload_n (pc := 20) gX 0 dX0_sorting_20 rfl rfl ?_
        refine z_get (pc := 21) gX (zI_ok gX hAX) (zm 0 rfl) (ci := 0) (C := RX0) (T := TX0) (N := 14) rfl in_X0 4 (by decide) q213 (fun _ h => h) (v := .ref (sa 0)) rfl dX0_sorting_21 ?_
        refine z_iconst (pc := 24) gX (-1) dX0_sorting_24 (by decide) ?_
        refine z_cOV (pc := 25) gX (zI_ok gX hAX) [.int (-1)] [] [1, 2, 4] (met_X2_those l D B0 sa (c 16) (c 1) (c 0) wn md d n (fun i_ => c (2 + i_)) (-1) (by first | assumption | omega)) q1017 q930 q931 q49 q932 (zm 1 rfl) (ci := 2) rfl rfl hd_X2_those ⟨rfl, rfl⟩ ⟨(Nat.le_of_ble_eq_true rfl), (Nat.le_of_ble_eq_true rfl)⟩ rfl rfl rfl (Nat.le_of_ble_eq_true rfl) ⟨(Nat.le_of_ble_eq_true rfl), (Nat.le_of_ble_eq_true rfl)⟩ dX0_sorting_25 ?_
        intro _ hu25
        refine z_eq (lv₂ := [(0, .ref o), (1, .int w)]) (st₂ := [.int (nI (tN (fun i_ => c (2 + i_)) (-1) n))]) ?_ rfl rfl
        refine z_top (nI (qN c n)) (by rw [tN_q]) ?_
        refine z_top (nI W) (by rw [hW]) ?_
        refine z_istore_n (pc := 28) gX [1, 2, 0] [(0, .ref o), (1, .int w), (2, .int (nI W))] dX0_sorting_28 rfl (by decide) rfl ?_
        refine z_bipush (pc := 29) gX 61 dX0_sorting_29 (by decide) ?_
        refine z_istore_n (pc := 31) gX [1, 2, 3, 0] [(0, .ref o), (1, .int w), (2, .int (nI W)), (3, .int 61)] dX0_sorting_31 rfl (by decide) rfl ?_
        refine z_ldc (pc := 32) gX q1003 dX0_sorting_32 ?_
        refine z_istore (pc := 34) gX [1, 2, 3, 4, 0] [(0, .ref o), (1, .int w), (2, .int (nI W)), (3, .int 61), (4, .int (-1000000))] dX0_sorting_34 (by decide) rfl ?_
        refine z_iconst (pc := 36) gX 0 dX0_sorting_36 (by decide) ?_
        refine z_istore (pc := 37) gX [1, 2, 3, 4, 5, 0] [(0, .ref o), (1, .int w), (2, .int (nI W)), (3, .int 61), (4, .int (-1000000)), (5, .int 0)] dX0_sorting_37 (by decide) rfl ?_
        have L39 : ∀ (n39 : Nat) (s : Nat) (fo : Int32) (a : Nat) (h2 : sT), (s ≤ W + 1) → (tOK h2) → (a ≤ 61) → ((fo, (if a = 61 then -1000000 else nI a)) = srtP n k c W s) → W + 1 - s < n39 → zJ pX l eX (zRm 11 129 1290) sX mX argsX blX mtX cX QX 7 (zI D A sX [cOb o ad (sa 0) (sb 0) tr x, [(sa 0, .inr (2, [.int (c 16), .int (c 1), .int (c 0), .int wn, .ref (sa 1), .ref (sa 2), .ref (sa 3), .ref (sa 4)]))], [(sa 1, .inr (16, [.int md, .ref d, .int (nI n)]))], [(sa 2, .inl (D.1 100, 7, .inl (fun i_ => c (9 + i_))))], [(sa 3, .inl (D.1 100, 7, .inl (fun i_ => c (2 + i_))))], [(sa 4, .inl (D.1 100, 7, .inl od))], [(d, .inl (D.1 104, 10, .inr (.inr (.inr (.inr (rF ra n))))))], thP D sb h2, T]) s (10 * s) 39 [(0, .ref o), (1, .int w), (2, .int (nI W)), (3, .int (nI a)), (4, .int fo), (5, .int (nI s))] [] := by
          intro n39
          induction n39 with
          | zero => exact fun s fo a h2 hs ht2 ha hp hm39 => absurd hm39 (Nat.not_lt_zero _)
          | succ n39 ih39 =>
            intro s fo a h2 hs ht2 ha hp hm39
            refine z_iload (pc := 39) gX 5 dX0_sorting_39 rfl ?_
            refine z_iload_n (pc := 41) gX 2 dX0_sorting_41 rfl rfl ?_
            refine z_icmp_gt (pc := 42) gX 154 dX0_sorting_42 (by decide) (fun c42 => ?_) (fun c42 => ?_)
            · skip
              have k42 : W < s := (zn_lt (a := W) (b := s) (by omega) (by omega)).mp c42
              refine z_iload (pc := 154) gX 4 dX0_sorting_154 rfl ?_
              refine z_ldc (pc := 156) gX q1003 dX0_sorting_156 ?_
              refine z_icmp_eq (pc := 158) gX 166 dX0_sorting_158 (by decide) (fun c158 => ?_) (fun c158 => ?_)
              · skip
                refine z_iload (pc := 166) gX 4 dX0_sorting_166 rfl ?_
                refine z_goto (pc := 168) gX 172 dX0_sorting_168 (by decide) ?_
                refine z_ws [cOb o ad (sa 0) (sb 0) tr x, thP D sa ((some d, n, ra), (md, wn, od), c), thP D sb h2, T] (List.Perm.refl _) ?_
                exact z_rim gX hQX h2 ht2 (zsv (by rw [show s = W + 1 by omega, ← srt_far (2 ^ n) hW2n] at hp; simp only [mSorting, poG hG, k14, if_true, ← hW, ← hp]; have hi := srt_inv (n := n) (k := k) (c := c) (W := W) (2 ^ n) (pow7 hn7); rw [← hp] at hi; by_cases e : w = 0; rw [if_pos e]; exact c158.trans (hi.mp c158).symm; rw [if_neg e])) rfl (by first | decide | omega) (by first | decide | omega) dX0_sorting_172
              · skip
                refine z_iload_n (pc := 161) gX 1 dX0_sorting_161 rfl rfl ?_
                refine z_iconst (pc := 162) gX 1 dX0_sorting_162 (by decide) ?_
                refine z_icmp_ne (pc := 163) gX 171 dX0_sorting_163 (by decide) (fun c163 => ?_) (fun c163 => ?_)
                · skip
                  refine z_iload_n (pc := 171) gX 3 dX0_sorting_171 rfl rfl ?_
                  refine z_ws [cOb o ad (sa 0) (sb 0) tr x, thP D sa ((some d, n, ra), (md, wn, od), c), thP D sb h2, T] (List.Perm.refl _) ?_
                  exact z_rim gX hQX h2 ht2 (zsv (by rw [show s = W + 1 by omega, ← srt_far (2 ^ n) hW2n] at hp; simp only [mSorting, poG hG, k14, if_true, ← hW, ← hp]; have hi := srt_inv (n := n) (k := k) (c := c) (W := W) (2 ^ n) (pow7 hn7); rw [← hp] at hi; rw [if_pos (half0 k14 c163)]; by_cases e : a = 61; rw [if_pos e] at hi; exact absurd (hi.mpr rfl) c158; rw [if_neg e])) rfl (by first | decide | omega) (by first | decide | omega) dX0_sorting_172
                · skip
                  refine z_iload (pc := 166) gX 4 dX0_sorting_166 rfl ?_
                  refine z_goto (pc := 168) gX 172 dX0_sorting_168 (by decide) ?_
                  refine z_ws [cOb o ad (sa 0) (sb 0) tr x, thP D sa ((some d, n, ra), (md, wn, od), c), thP D sb h2, T] (List.Perm.refl _) ?_
                  exact z_rim gX hQX h2 ht2 (zsv (by rw [show s = W + 1 by omega, ← srt_far (2 ^ n) hW2n] at hp; simp only [mSorting, poG hG, k14, if_true, ← hW, ← hp]; rw [if_neg (by rw [c163]; decide)])) rfl (by first | decide | omega) (by first | decide | omega) dX0_sorting_172
            · skip
              have k42 : s ≤ W := (zn_nlt (a := W) (b := s) (by omega) (by omega)).mp c42
              refine z_iload (pc := 45) gX 5 dX0_sorting_45 rfl ?_
              refine z_iload_n (pc := 47) gX 2 dX0_sorting_47 rfl rfl ?_
              refine z_iconst (pc := 48) gX (-1) dX0_sorting_48 (by decide) ?_
              refine z_ixor (pc := 49) gX dX0_sorting_49 ?_
              refine z_iand (pc := 50) gX dX0_sorting_50 ?_
              refine z_if_eq (pc := 51) gX 57 dX0_sorting_51 (by decide) (fun c51 => ?_) (fun c51 => ?_)
              · skip
                have hsub : s &&& W = s := (sub_iff s (by omega) W (by omega)).mp c51
                refine z_aload_n (pc := 57) gX 0 dX0_sorting_57 rfl rfl ?_
                refine z_cMV (pc := 58) gX hAX [] [] [0, 1, 2, 3, 4, 5, 6, 7, 8] [] (fun A1 => met_X0_asNow l D B0 A1 o ad sa sb tr x wn md d n c od ra T k h2 hG ht2) q986 q988 qs23 q47 q989 (zm 0 rfl) (ci := 0) rfl rfl hd_X0_asNow ⟨rfl, rfl⟩ ⟨(Nat.le_of_ble_eq_true rfl), (Nat.le_of_ble_eq_true rfl)⟩ rfl rfl (zpl 9 rfl (by decide +kernel)) rfl rfl (Nat.le_of_ble_eq_true rfl) ⟨(by first | decide | (simp only [zRm]; omega)), (by first | decide | (simp only [zRm]; omega))⟩ dX0_sorting_58 ?_
                intro u58 hu58
                obtain ⟨zmd_58, zd_58, zod_58⟩ := u58
                refine z_re [0, 1, 2, 3, 4, 5, 6, 7, 9, 10, 11, 12, 13, 8] [cOb o ad (sa 0) (sb 0) tr x, [(sa 0, .inr (2, [.int (c 16), .int (c 1), .int (c 0), .int wn, .ref (sa 1), .ref (sa 2), .ref (sa 3), .ref (sa 4)]))], [(sa 1, .inr (16, [.int md, .ref d, .int (nI n)]))], [(sa 2, .inl (D.1 100, 7, .inl (fun i_ => c (9 + i_))))], [(sa 3, .inl (D.1 100, 7, .inl (fun i_ => c (2 + i_))))], [(sa 4, .inl (D.1 100, 7, .inl od))], [(d, .inl (D.1 104, 10, .inr (.inr (.inr (.inr (rF ra n))))))], [(sb 0, .inr (2, [.int (c 16), .int (c 1), .int (c 0), .int wn, .ref (sb 1), .ref (sb 2), .ref (sb 3), .ref (sb 4)]))], [(sb 1, .inr (16, [.int zmd_58, .ref zd_58, .int (nI n)]))], [(sb 2, .inl (D.1 100, 7, .inl (fun i_ => c (9 + i_))))], [(sb 3, .inl (D.1 100, 7, .inl (fun i_ => c (2 + i_))))], [(sb 4, .inl (D.1 100, 7, .inl zod_58))], [(zd_58, .inl (D.1 104, 10, .inr (.inr (.inr (.inr (rF ra n))))))], T] rfl (zpl 14 rfl (by decide +kernel)) ?_
                refine z_norm [cOb o ad (sa 0) (sb 0) tr x, [(sa 0, .inr (2, [.int (c 16), .int (c 1), .int (c 0), .int wn, .ref (sa 1), .ref (sa 2), .ref (sa 3), .ref (sa 4)]))], [(sa 1, .inr (16, [.int md, .ref d, .int (nI n)]))], [(sa 2, .inl (D.1 100, 7, .inl (fun i_ => c (9 + i_))))], [(sa 3, .inl (D.1 100, 7, .inl (fun i_ => c (2 + i_))))], [(sa 4, .inl (D.1 100, 7, .inl od))], [(d, .inl (D.1 104, 10, .inr (.inr (.inr (.inr (rF ra n))))))], [(sb 0, .inr (2, [.int (c 16), .int (c 1), .int (c 0), .int wn, .ref (sb 1), .ref (sb 2), .ref (sb 3), .ref (sb 4)]))], [(sb 1, .inr (16, [.int zmd_58, .ref zd_58, .int (nI n)]))], [(sb 2, .inl (D.1 100, 7, .inl (fun i_ => c (9 + i_))))], [(sb 3, .inl (D.1 100, 7, .inl (fun i_ => c (2 + i_))))], [(sb 4, .inl (D.1 100, 7, .inl zod_58))], [(zd_58, .inl (D.1 104, 10, .inr (.inr (.inr (.inr (rF ra n))))))], T] (s + 1) (10 * s + 10) ?_ rfl rfl rfl
                refine z_eq (lv₂ := [(0, .ref o), (1, .int w), (2, .int (nI W)), (3, .int (nI a)), (4, .int fo), (5, .int (nI s))]) (st₂ := [.ref (sb 0)]) ?_ rfl rfl
                refine z_pop (pc := 61) gX dX0_sorting_61 rfl ?_
                refine z_iconst (pc := 62) gX 0 dX0_sorting_62 (by decide) ?_
                refine z_istore (pc := 63) gX [1, 2, 3, 4, 5, 6, 0] [(0, .ref o), (1, .int w), (2, .int (nI W)), (3, .int (nI a)), (4, .int fo), (5, .int (nI s)), (6, .int 0)] dX0_sorting_63 (by decide) rfl ?_
                have L65 : ∀ (n65 : Nat) (r : Nat) (c1 : Nat → Int32), (r ≤ n) → (c1 = layQ c W s r) → n - r < n65 → zJ pX l eX (zRm 11 129 1290) sX mX argsX blX mtX cX QX 7 (zI D A sX [cOb o ad (sa 0) (sb 0) tr x, [(sa 0, .inr (2, [.int (c 16), .int (c 1), .int (c 0), .int wn, .ref (sa 1), .ref (sa 2), .ref (sa 3), .ref (sa 4)]))], [(sa 1, .inr (16, [.int md, .ref d, .int (nI n)]))], [(sa 2, .inl (D.1 100, 7, .inl (fun i_ => c (9 + i_))))], [(sa 3, .inl (D.1 100, 7, .inl (fun i_ => c (2 + i_))))], [(sa 4, .inl (D.1 100, 7, .inl od))], [(d, .inl (D.1 104, 10, .inr (.inr (.inr (.inr (rF ra n))))))], [(sb 0, .inr (2, [.int (c1 16), .int (c1 1), .int (c1 0), .int wn, .ref (sb 1), .ref (sb 2), .ref (sb 3), .ref (sb 4)]))], [(sb 1, .inr (16, [.int zmd_58, .ref zd_58, .int (nI n)]))], [(sb 2, .inl (D.1 100, 7, .inl (fun i_ => c1 (9 + i_))))], [(sb 3, .inl (D.1 100, 7, .inl (fun i_ => c1 (2 + i_))))], [(sb 4, .inl (D.1 100, 7, .inl zod_58))], [(zd_58, .inl (D.1 104, 10, .inr (.inr (.inr (.inr (rF ra n))))))], T]) (s + 1) (10 * s + 10) 65 [(0, .ref o), (1, .int w), (2, .int (nI W)), (3, .int (nI a)), (4, .int fo), (5, .int (nI s)), (6, .int (nI r))] [] := by
                  intro n65
                  induction n65 with
                  | zero => exact fun r c1 hr hc1 hm65 => absurd hm65 (Nat.not_lt_zero _)
                  | succ n65 ih65 =>
                    intro r c1 hr hc1 hm65
                    refine z_iload (pc := 65) gX 6 dX0_sorting_65 rfl ?_
                    refine z_aload_n (pc := 67) gX 0 dX0_sorting_67 rfl rfl ?_
                    refine z_get (pc := 68) gX (zI_ok gX hAX) (zm 0 rfl) (ci := 0) (C := RX0) (T := TX0) (N := 14) rfl in_X0 4 (by decide) q213 (fun _ h => h) (v := .ref (sa 0)) rfl dX0_sorting_68 ?_
                    refine z_cOV (pc := 71) gX (zI_ok gX hAX) [] [.int (nI r)] [1, 2] (met_X2_many l D B0 sa (c 16) (c 1) (c 0) wn md d n ) q820 q653 q654 q49 q655 (zm 1 rfl) (ci := 2) rfl rfl hd_X2_many ⟨rfl, rfl⟩ ⟨(Nat.le_of_ble_eq_true rfl), (Nat.le_of_ble_eq_true rfl)⟩ rfl rfl rfl (Nat.le_of_ble_eq_true rfl) ⟨(by first | decide | (simp only [zRm]; omega)), (by first | decide | (simp only [zRm]; omega))⟩ dX0_sorting_71 ?_
                    intro _ hu71
                    refine z_eq (lv₂ := [(0, .ref o), (1, .int w), (2, .int (nI W)), (3, .int (nI a)), (4, .int fo), (5, .int (nI s)), (6, .int (nI r))]) (st₂ := [.int (nI n), .int (nI r)]) ?_ rfl rfl
                    refine z_icmp_ge (pc := 74) gX 117 dX0_sorting_74 (by decide) (fun c74 => ?_) (fun c74 => ?_)
                    · skip
                      have k74 : n ≤ r := (zn_le (a := n) (b := r) (by omega) (by omega)).mp c74
                      have hlq : c1 = layQ c W s n := by rw [hc1, show r = n by omega]
                      refine z_aload_n (pc := 117) gX 0 dX0_sorting_117 rfl rfl ?_
                      refine z_get (pc := 118) gX (zI_ok gX hAX) (zm 0 rfl) (ci := 0) (C := RX0) (T := TX0) (N := 14) rfl in_X0 5 (by decide) q214 (fun _ h => h) (v := .ref (sb 0)) rfl dX0_sorting_118 ?_
                      refine z_cMV (pc := 121) gX hAX [] [] [7, 8, 9, 10, 11, 12, 13] [0, 1, 2, 3, 4, 5, 6] (fun A1 => met_clearsR l D B0 A1 sb wn zmd_58 zd_58 n c1 zod_58 ra T k (by rw [hlq]; exact kOK_layQ hK n hn7)) q1008 q1009 q1010 q49 q1011 (zm 7 rfl) (ci := 2) rfl rfl hd_X2_clears ⟨rfl, rfl⟩ ⟨(Nat.le_of_ble_eq_true rfl), (Nat.le_of_ble_eq_true rfl)⟩ rfl rfl (zpl 14 rfl (by decide +kernel)) rfl rfl (Nat.le_of_ble_eq_true rfl) ⟨(by first | decide | (simp only [zRm]; omega)), (by first | decide | (simp only [zRm]; omega))⟩ dX0_sorting_121 ?_
                      intro u121 hu121
                      obtain ⟨c1_121, od1_121, wn1_121⟩ := u121
                      refine z_re [7, 8, 9, 10, 11, 12, 13, 0, 1, 2, 3, 4, 5, 6] [cOb o ad (sa 0) (sb 0) tr x, [(sa 0, .inr (2, [.int (c 16), .int (c 1), .int (c 0), .int wn, .ref (sa 1), .ref (sa 2), .ref (sa 3), .ref (sa 4)]))], [(sa 1, .inr (16, [.int md, .ref d, .int (nI n)]))], [(sa 2, .inl (D.1 100, 7, .inl (fun i_ => c (9 + i_))))], [(sa 3, .inl (D.1 100, 7, .inl (fun i_ => c (2 + i_))))], [(sa 4, .inl (D.1 100, 7, .inl od))], [(d, .inl (D.1 104, 10, .inr (.inr (.inr (.inr (rF ra n))))))], [(sb 0, .inr (2, [.int (c1_121 16), .int (c1_121 1), .int (c1_121 0), .int wn1_121, .ref (sb 1), .ref (sb 2), .ref (sb 3), .ref (sb 4)]))], [(sb 1, .inr (16, [.int zmd_58, .ref zd_58, .int (nI n)]))], [(sb 2, .inl (D.1 100, 7, .inl (fun i_ => c1_121 (9 + i_))))], [(sb 3, .inl (D.1 100, 7, .inl (fun i_ => c1_121 (2 + i_))))], [(sb 4, .inl (D.1 100, 7, .inl od1_121))], [(zd_58, .inl (D.1 104, 10, .inr (.inr (.inr (.inr (rF ra n))))))], T] rfl (zpl 14 rfl (by decide +kernel)) ?_
                      refine z_eq (lv₂ := [(0, .ref o), (1, .int w), (2, .int (nI W)), (3, .int (nI a)), (4, .int fo), (5, .int (nI s)), (6, .int (nI r))]) (st₂ := [.int (nI (clD n k 61 0 c1))]) ?_ rfl rfl
                      refine z_top (nI (clD n k 61 0 (layQ c W s n))) (by rw [hlq]) ?_
                      have hcl2 := clD_le (n := n) (k := k) 61 0 (layQ c W s n)
                      refine z_istore (pc := 124) gX [1, 2, 3, 4, 5, 6, 0] [(0, .ref o), (1, .int w), (2, .int (nI W)), (3, .int (nI a)), (4, .int fo), (5, .int (nI s)), (6, .int (nI (clD n k 61 0 (layQ c W s n))))] dX0_sorting_124 (by decide) rfl ?_
                      refine z_iload (pc := 126) gX 6 dX0_sorting_126 rfl ?_
                      refine z_iload_n (pc := 128) gX 3 dX0_sorting_128 rfl rfl ?_
                      refine z_icmp_ge (pc := 129) gX 137 dX0_sorting_129 (by decide) (fun c129 => ?_) (fun c129 => ?_)
                      · skip
                        have k129 : a ≤ clD n k 61 0 (layQ c W s n) := (zn_le (a := a) (b := clD n k 61 0 (layQ c W s n)) (by omega) (by omega)).mp c129
                        refine z_iload (pc := 137) gX 4 dX0_sorting_137 rfl ?_
                        refine z_istore (pc := 139) gX [1, 2, 3, 4, 0, 5, 6] [(0, .ref o), (1, .int w), (2, .int (nI W)), (3, .int (nI a)), (4, .int fo), (5, .int (nI s)), (6, .int (nI (clD n k 61 0 (layQ c W s n))))] dX0_sorting_139 (by decide) rfl ?_
                        refine z_iload_n (pc := 141) gX 3 dX0_sorting_141 rfl rfl ?_
                        refine z_iload (pc := 142) gX 6 dX0_sorting_142 rfl ?_
                        refine z_mmin (pc := 144) gX ⟨q1021, q594, q68, q595⟩ (Nat.le_of_ble_eq_true rfl) (Nat.le_of_ble_eq_true rfl) ⟨by first | decide | (simp only [zRm]; omega), by first | decide | (simp only [zRm]; omega)⟩ dX0_sorting_144 ?_
                        refine z_top (nI a) (zmin_a (by omega) (by omega)) ?_
                        refine z_istore_n (pc := 147) gX [1, 2, 3, 0, 4, 5, 6] [(0, .ref o), (1, .int w), (2, .int (nI W)), (3, .int (nI a)), (4, .int fo), (5, .int (nI s)), (6, .int (nI (clD n k 61 0 (layQ c W s n))))] dX0_sorting_147 rfl (by decide) rfl ?_
                        refine z_ws [cOb o ad (sa 0) (sb 0) tr x, [(sa 0, .inr (2, [.int (c 16), .int (c 1), .int (c 0), .int wn, .ref (sa 1), .ref (sa 2), .ref (sa 3), .ref (sa 4)]))], [(sa 1, .inr (16, [.int md, .ref d, .int (nI n)]))], [(sa 2, .inl (D.1 100, 7, .inl (fun i_ => c (9 + i_))))], [(sa 3, .inl (D.1 100, 7, .inl (fun i_ => c (2 + i_))))], [(sa 4, .inl (D.1 100, 7, .inl od))], [(d, .inl (D.1 104, 10, .inr (.inr (.inr (.inr (rF ra n))))))], thP D sb ((some zd_58, n, ra), (zmd_58, wn1_121, od1_121), c1_121), T] (List.Perm.refl _) ?_
                        refine z_iinc (pc := 148) gX 5 (nI (s + 1)) [1, 2, 3, 4, 5, 0, 6] [(0, .ref o), (1, .int w), (2, .int (nI W)), (3, .int (nI a)), (4, .int fo), (5, .int (nI (s + 1))), (6, .int (nI (clD n k 61 0 (layQ c W s n))))] dX0_sorting_148 rfl (nI_1 _) (by decide) rfl ?_
                        refine z_goto (pc := 151) gX 39 dX0_sorting_151 (by decide) ?_
                        refine z_lv [0, 1, 2, 3, 4, 5] [(0, .ref o), (1, .int w), (2, .int (nI W)), (3, .int (nI a)), (4, .int fo), (5, .int (nI (s + 1)))] rfl ?_
                        refine z_widen (k := (s + 1)) (n := 10 * (s + 1)) (by omega) (by omega) ?_
                        exact ih39 (s + 1) fo a ((some zd_58, n, ra), (zmd_58, wn1_121, od1_121), c1_121) (by omega) (tOK_g hn7) ha (by rw [show srtP n k c W (s + 1) = srtS n k c W s (srtP n k c W s) from rfl, ← hp]; simp only [srtS]; rw [if_pos hsub]; exact (if_neg (fun h => by have := (mClr_lt (n := n) (k := k) (c := layQ c W s n) (a := a) rfl (by omega) rfl).mp h; omega)).symm) (by omega)
                      · skip
                        have k129 : clD n k 61 0 (layQ c W s n) < a := (zn_nle (a := a) (b := clD n k 61 0 (layQ c W s n)) (by omega) (by omega)).mp c129
                        refine z_iload (pc := 132) gX 5 dX0_sorting_132 rfl ?_
                        refine z_goto (pc := 134) gX 139 dX0_sorting_134 (by decide) ?_
                        refine z_istore (pc := 139) gX [1, 2, 3, 4, 0, 5, 6] [(0, .ref o), (1, .int w), (2, .int (nI W)), (3, .int (nI a)), (4, .int (nI s)), (5, .int (nI s)), (6, .int (nI (clD n k 61 0 (layQ c W s n))))] dX0_sorting_139 (by decide) rfl ?_
                        refine z_iload_n (pc := 141) gX 3 dX0_sorting_141 rfl rfl ?_
                        refine z_iload (pc := 142) gX 6 dX0_sorting_142 rfl ?_
                        refine z_mmin (pc := 144) gX ⟨q1021, q594, q68, q595⟩ (Nat.le_of_ble_eq_true rfl) (Nat.le_of_ble_eq_true rfl) ⟨by first | decide | (simp only [zRm]; omega), by first | decide | (simp only [zRm]; omega)⟩ dX0_sorting_144 ?_
                        refine z_top (nI (clD n k 61 0 (layQ c W s n))) (zmin_b (by omega) (by omega)) ?_
                        refine z_istore_n (pc := 147) gX [1, 2, 3, 0, 4, 5, 6] [(0, .ref o), (1, .int w), (2, .int (nI W)), (3, .int (nI (clD n k 61 0 (layQ c W s n)))), (4, .int (nI s)), (5, .int (nI s)), (6, .int (nI (clD n k 61 0 (layQ c W s n))))] dX0_sorting_147 rfl (by decide) rfl ?_
                        refine z_ws [cOb o ad (sa 0) (sb 0) tr x, [(sa 0, .inr (2, [.int (c 16), .int (c 1), .int (c 0), .int wn, .ref (sa 1), .ref (sa 2), .ref (sa 3), .ref (sa 4)]))], [(sa 1, .inr (16, [.int md, .ref d, .int (nI n)]))], [(sa 2, .inl (D.1 100, 7, .inl (fun i_ => c (9 + i_))))], [(sa 3, .inl (D.1 100, 7, .inl (fun i_ => c (2 + i_))))], [(sa 4, .inl (D.1 100, 7, .inl od))], [(d, .inl (D.1 104, 10, .inr (.inr (.inr (.inr (rF ra n))))))], thP D sb ((some zd_58, n, ra), (zmd_58, wn1_121, od1_121), c1_121), T] (List.Perm.refl _) ?_
                        refine z_iinc (pc := 148) gX 5 (nI (s + 1)) [1, 2, 3, 4, 5, 0, 6] [(0, .ref o), (1, .int w), (2, .int (nI W)), (3, .int (nI (clD n k 61 0 (layQ c W s n)))), (4, .int (nI s)), (5, .int (nI (s + 1))), (6, .int (nI (clD n k 61 0 (layQ c W s n))))] dX0_sorting_148 rfl (nI_1 _) (by decide) rfl ?_
                        refine z_goto (pc := 151) gX 39 dX0_sorting_151 (by decide) ?_
                        refine z_lv [0, 1, 2, 3, 4, 5] [(0, .ref o), (1, .int w), (2, .int (nI W)), (3, .int (nI (clD n k 61 0 (layQ c W s n)))), (4, .int (nI s)), (5, .int (nI (s + 1)))] rfl ?_
                        refine z_widen (k := (s + 1)) (n := 10 * (s + 1)) (by omega) (by omega) ?_
                        exact ih39 (s + 1) (nI s) (clD n k 61 0 (layQ c W s n)) ((some zd_58, n, ra), (zmd_58, wn1_121, od1_121), c1_121) (by omega) (tOK_g hn7) (by omega) (by rw [show srtP n k c W (s + 1) = srtS n k c W s (srtP n k c W s) from rfl, ← hp]; simp only [srtS]; rw [if_pos hsub]; rw [if_pos ((mClr_lt (n := n) (k := k) (c := layQ c W s n) (a := a) rfl (by omega) rfl).mpr (by omega)), clr_D]) (by omega)
                    · skip
                      have k74 : r < n := (zn_nle (a := n) (b := r) (by omega) (by omega)).mp c74
                      refine z_iload_n (pc := 77) gX 2 dX0_sorting_77 rfl rfl ?_
                      refine z_iload (pc := 78) gX 6 dX0_sorting_78 rfl ?_
                      refine z_cOS (pc := 80) gX (zI_ok gX hAX) [.int (nI W), .int (nI r)] [] [] (met_X0_has l D B0 (nI W) (nI r) ) q1018 q1019 q47 q1020 hd_X0_has ⟨rfl, rfl⟩ ⟨(Nat.le_of_ble_eq_true rfl), (Nat.le_of_ble_eq_true rfl)⟩ rfl rfl rfl (Nat.le_of_ble_eq_true rfl) ⟨(by first | decide | (simp only [zRm]; omega)), (by first | decide | (simp only [zRm]; omega))⟩ dX0_sorting_80 ?_
                      intro _ hu80
                      refine z_eq (lv₂ := [(0, .ref o), (1, .int w), (2, .int (nI W)), (3, .int (nI a)), (4, .int fo), (5, .int (nI s)), (6, .int (nI r))]) (st₂ := [.int (bI (decide (((nI W) >>> ((nI r) &&& 31)) &&& 1 = 1)))]) ?_ rfl rfl
                      refine z_top (bI (W.testBit r)) (by rw [has_eq (by omega) (by omega)]) ?_
                      refine z_if_eq (pc := 83) gX 111 dX0_sorting_83 (by decide) (fun c83 => ?_) (fun c83 => ?_)
                      · skip
                        have k83 : (W.testBit r) = false := bI_eq0 c83
                        refine z_iinc (pc := 111) gX 6 (nI (r + 1)) [1, 2, 3, 4, 5, 6, 0] [(0, .ref o), (1, .int w), (2, .int (nI W)), (3, .int (nI a)), (4, .int fo), (5, .int (nI s)), (6, .int (nI (r + 1)))] dX0_sorting_111 rfl (nI_1 _) (by decide) rfl ?_
                        refine z_goto (pc := 114) gX 65 dX0_sorting_114 (by decide) ?_
                        exact ih65 (r + 1) c1 (by omega) (by rw [show layQ c W s (r + 1) = if W.testBit r = true then upd (layQ c W s r) (9 + r) (nI (s / 2 ^ r % 2)) else layQ c W s r from rfl, ← hc1]; rw [if_neg (by rw [k83]; decide)]) (by omega)
                      · skip
                        have k83 : (W.testBit r) = true := bI_ne0 c83
                        refine z_aload_n (pc := 86) gX 0 dX0_sorting_86 rfl rfl ?_
                        refine z_get (pc := 87) gX (zI_ok gX hAX) (zm 0 rfl) (ci := 0) (C := RX0) (T := TX0) (N := 14) rfl in_X0 5 (by decide) q214 (fun _ h => h) (v := .ref (sb 0)) rfl dX0_sorting_87 ?_
                        refine z_get (pc := 90) gX (zI_ok gX hAX) (zm 7 rfl) (ci := 2) (C := RX2) (T := TX2) (N := 8) rfl in_X2 5 (by decide) q166 (fun _ h => h) (v := .ref (sb 2)) rfl dX0_sorting_90 ?_
                        refine z_iload (pc := 93) gX 6 dX0_sorting_93 rfl ?_
                        refine z_iload (pc := 95) gX 5 dX0_sorting_95 rfl ?_
                        refine z_iload (pc := 97) gX 6 dX0_sorting_97 rfl ?_
                        refine z_cOS (pc := 99) gX (zI_ok gX hAX) [.int (nI s), .int (nI r)] [.int (nI r), .ref (sb 2)] [] (met_X0_has l D B0 (nI s) (nI r) ) q1018 q1019 q47 q1020 hd_X0_has ⟨rfl, rfl⟩ ⟨(Nat.le_of_ble_eq_true rfl), (Nat.le_of_ble_eq_true rfl)⟩ rfl rfl rfl (Nat.le_of_ble_eq_true rfl) ⟨(by first | decide | (simp only [zRm]; omega)), (by first | decide | (simp only [zRm]; omega))⟩ dX0_sorting_99 ?_
                        intro _ hu99
                        refine z_eq (lv₂ := [(0, .ref o), (1, .int w), (2, .int (nI W)), (3, .int (nI a)), (4, .int fo), (5, .int (nI s)), (6, .int (nI r))]) (st₂ := [.int (bI (decide (((nI s) >>> ((nI r) &&& 31)) &&& 1 = 1))), .int (nI r), .ref (sb 2)]) ?_ rfl rfl
                        refine z_top (bI (s.testBit r)) (by rw [has_eq (by omega) (by omega)]) ?_
                        refine z_if_eq (pc := 102) gX 109 dX0_sorting_102 (by decide) (fun c102 => ?_) (fun c102 => ?_)
                        · skip
                          have k102 : (s.testBit r) = false := bI_eq0 c102
                          refine z_iconst (pc := 109) gX 0 dX0_sorting_109 (by decide) ?_
                          refine z_iast (pc := 110) gX hAX 9 (j := r) (n := 7) (f := (fun i_ => c1 (9 + i_))) rfl (by omega) (by decide) [cOb o ad (sa 0) (sb 0) tr x, [(sa 0, .inr (2, [.int (c 16), .int (c 1), .int (c 0), .int wn, .ref (sa 1), .ref (sa 2), .ref (sa 3), .ref (sa 4)]))], [(sa 1, .inr (16, [.int md, .ref d, .int (nI n)]))], [(sa 2, .inl (D.1 100, 7, .inl (fun i_ => c (9 + i_))))], [(sa 3, .inl (D.1 100, 7, .inl (fun i_ => c (2 + i_))))], [(sa 4, .inl (D.1 100, 7, .inl od))], [(d, .inl (D.1 104, 10, .inr (.inr (.inr (.inr (rF ra n))))))], [(sb 0, .inr (2, [.int (c1 16), .int (c1 1), .int (c1 0), .int wn, .ref (sb 1), .ref (sb 2), .ref (sb 3), .ref (sb 4)]))], [(sb 1, .inr (16, [.int zmd_58, .ref zd_58, .int (nI n)]))], [(sb 2, .inl (D.1 100, 7, .inl (upd (fun i_ => c1 (9 + i_)) r 0)))], [(sb 3, .inl (D.1 100, 7, .inl (fun i_ => c1 (2 + i_))))], [(sb 4, .inl (D.1 100, 7, .inl zod_58))], [(zd_58, .inl (D.1 104, 10, .inr (.inr (.inr (.inr (rF ra n))))))], T] rfl dX0_sorting_110 ?_
                          refine z_ext 9 (fun i_ => (upd c1 (9 + r) 0) (9 + i_)) rfl (fun q hq => upL r q) [cOb o ad (sa 0) (sb 0) tr x, [(sa 0, .inr (2, [.int (c 16), .int (c 1), .int (c 0), .int wn, .ref (sa 1), .ref (sa 2), .ref (sa 3), .ref (sa 4)]))], [(sa 1, .inr (16, [.int md, .ref d, .int (nI n)]))], [(sa 2, .inl (D.1 100, 7, .inl (fun i_ => c (9 + i_))))], [(sa 3, .inl (D.1 100, 7, .inl (fun i_ => c (2 + i_))))], [(sa 4, .inl (D.1 100, 7, .inl od))], [(d, .inl (D.1 104, 10, .inr (.inr (.inr (.inr (rF ra n))))))], [(sb 0, .inr (2, [.int (c1 16), .int (c1 1), .int (c1 0), .int wn, .ref (sb 1), .ref (sb 2), .ref (sb 3), .ref (sb 4)]))], [(sb 1, .inr (16, [.int zmd_58, .ref zd_58, .int (nI n)]))], [(sb 2, .inl (D.1 100, 7, .inl (fun i_ => (upd c1 (9 + r) 0) (9 + i_))))], [(sb 3, .inl (D.1 100, 7, .inl (fun i_ => c1 (2 + i_))))], [(sb 4, .inl (D.1 100, 7, .inl zod_58))], [(zd_58, .inl (D.1 104, 10, .inr (.inr (.inr (.inr (rF ra n))))))], T] rfl ?_
                          refine z_ext 10 (fun i_ => (upd c1 (9 + r) 0) (2 + i_)) rfl (fun q hq => (pk_un (by omega)).symm) [cOb o ad (sa 0) (sb 0) tr x, [(sa 0, .inr (2, [.int (c 16), .int (c 1), .int (c 0), .int wn, .ref (sa 1), .ref (sa 2), .ref (sa 3), .ref (sa 4)]))], [(sa 1, .inr (16, [.int md, .ref d, .int (nI n)]))], [(sa 2, .inl (D.1 100, 7, .inl (fun i_ => c (9 + i_))))], [(sa 3, .inl (D.1 100, 7, .inl (fun i_ => c (2 + i_))))], [(sa 4, .inl (D.1 100, 7, .inl od))], [(d, .inl (D.1 104, 10, .inr (.inr (.inr (.inr (rF ra n))))))], [(sb 0, .inr (2, [.int (c1 16), .int (c1 1), .int (c1 0), .int wn, .ref (sb 1), .ref (sb 2), .ref (sb 3), .ref (sb 4)]))], [(sb 1, .inr (16, [.int zmd_58, .ref zd_58, .int (nI n)]))], [(sb 2, .inl (D.1 100, 7, .inl (fun i_ => (upd c1 (9 + r) 0) (9 + i_))))], [(sb 3, .inl (D.1 100, 7, .inl (fun i_ => (upd c1 (9 + r) 0) (2 + i_))))], [(sb 4, .inl (D.1 100, 7, .inl zod_58))], [(zd_58, .inl (D.1 104, 10, .inr (.inr (.inr (.inr (rF ra n))))))], T] rfl ?_
                          refine z_weq [cOb o ad (sa 0) (sb 0) tr x, [(sa 0, .inr (2, [.int (c 16), .int (c 1), .int (c 0), .int wn, .ref (sa 1), .ref (sa 2), .ref (sa 3), .ref (sa 4)]))], [(sa 1, .inr (16, [.int md, .ref d, .int (nI n)]))], [(sa 2, .inl (D.1 100, 7, .inl (fun i_ => c (9 + i_))))], [(sa 3, .inl (D.1 100, 7, .inl (fun i_ => c (2 + i_))))], [(sa 4, .inl (D.1 100, 7, .inl od))], [(d, .inl (D.1 104, 10, .inr (.inr (.inr (.inr (rF ra n))))))], [(sb 0, .inr (2, [.int ((upd c1 (9 + r) 0) 16), .int ((upd c1 (9 + r) 0) 1), .int ((upd c1 (9 + r) 0) 0), .int wn, .ref (sb 1), .ref (sb 2), .ref (sb 3), .ref (sb 4)]))], [(sb 1, .inr (16, [.int zmd_58, .ref zd_58, .int (nI n)]))], [(sb 2, .inl (D.1 100, 7, .inl (fun i_ => (upd c1 (9 + r) 0) (9 + i_))))], [(sb 3, .inl (D.1 100, 7, .inl (fun i_ => (upd c1 (9 + r) 0) (2 + i_))))], [(sb 4, .inl (D.1 100, 7, .inl zod_58))], [(zd_58, .inl (D.1 104, 10, .inr (.inr (.inr (.inr (rF ra n))))))], T] (by rw [show (upd c1 (9 + r) 0) 16 = c1 16 from pk_un (by omega), show (upd c1 (9 + r) 0) 1 = c1 1 from pk_un (by omega), show (upd c1 (9 + r) 0) 0 = c1 0 from pk_un (by omega)]) ?_
                          refine z_iinc (pc := 111) gX 6 (nI (r + 1)) [1, 2, 3, 4, 5, 6, 0] [(0, .ref o), (1, .int w), (2, .int (nI W)), (3, .int (nI a)), (4, .int fo), (5, .int (nI s)), (6, .int (nI (r + 1)))] dX0_sorting_111 rfl (nI_1 _) (by decide) rfl ?_
                          refine z_goto (pc := 114) gX 65 dX0_sorting_114 (by decide) ?_
                          exact ih65 (r + 1) (upd c1 (9 + r) 0) (by omega) (by rw [show layQ c W s (r + 1) = if W.testBit r = true then upd (layQ c W s r) (9 + r) (nI (s / 2 ^ r % 2)) else layQ c W s r from rfl, ← hc1]; rw [if_pos k83, bit0 k102]) (by omega)
                        · skip
                          have k102 : (s.testBit r) = true := bI_ne0 c102
                          refine z_iconst (pc := 105) gX 1 dX0_sorting_105 (by decide) ?_
                          refine z_goto (pc := 106) gX 110 dX0_sorting_106 (by decide) ?_
                          refine z_iast (pc := 110) gX hAX 9 (j := r) (n := 7) (f := (fun i_ => c1 (9 + i_))) rfl (by omega) (by decide) [cOb o ad (sa 0) (sb 0) tr x, [(sa 0, .inr (2, [.int (c 16), .int (c 1), .int (c 0), .int wn, .ref (sa 1), .ref (sa 2), .ref (sa 3), .ref (sa 4)]))], [(sa 1, .inr (16, [.int md, .ref d, .int (nI n)]))], [(sa 2, .inl (D.1 100, 7, .inl (fun i_ => c (9 + i_))))], [(sa 3, .inl (D.1 100, 7, .inl (fun i_ => c (2 + i_))))], [(sa 4, .inl (D.1 100, 7, .inl od))], [(d, .inl (D.1 104, 10, .inr (.inr (.inr (.inr (rF ra n))))))], [(sb 0, .inr (2, [.int (c1 16), .int (c1 1), .int (c1 0), .int wn, .ref (sb 1), .ref (sb 2), .ref (sb 3), .ref (sb 4)]))], [(sb 1, .inr (16, [.int zmd_58, .ref zd_58, .int (nI n)]))], [(sb 2, .inl (D.1 100, 7, .inl (upd (fun i_ => c1 (9 + i_)) r 1)))], [(sb 3, .inl (D.1 100, 7, .inl (fun i_ => c1 (2 + i_))))], [(sb 4, .inl (D.1 100, 7, .inl zod_58))], [(zd_58, .inl (D.1 104, 10, .inr (.inr (.inr (.inr (rF ra n))))))], T] rfl dX0_sorting_110 ?_
                          refine z_ext 9 (fun i_ => (upd c1 (9 + r) 1) (9 + i_)) rfl (fun q hq => upL r q) [cOb o ad (sa 0) (sb 0) tr x, [(sa 0, .inr (2, [.int (c 16), .int (c 1), .int (c 0), .int wn, .ref (sa 1), .ref (sa 2), .ref (sa 3), .ref (sa 4)]))], [(sa 1, .inr (16, [.int md, .ref d, .int (nI n)]))], [(sa 2, .inl (D.1 100, 7, .inl (fun i_ => c (9 + i_))))], [(sa 3, .inl (D.1 100, 7, .inl (fun i_ => c (2 + i_))))], [(sa 4, .inl (D.1 100, 7, .inl od))], [(d, .inl (D.1 104, 10, .inr (.inr (.inr (.inr (rF ra n))))))], [(sb 0, .inr (2, [.int (c1 16), .int (c1 1), .int (c1 0), .int wn, .ref (sb 1), .ref (sb 2), .ref (sb 3), .ref (sb 4)]))], [(sb 1, .inr (16, [.int zmd_58, .ref zd_58, .int (nI n)]))], [(sb 2, .inl (D.1 100, 7, .inl (fun i_ => (upd c1 (9 + r) 1) (9 + i_))))], [(sb 3, .inl (D.1 100, 7, .inl (fun i_ => c1 (2 + i_))))], [(sb 4, .inl (D.1 100, 7, .inl zod_58))], [(zd_58, .inl (D.1 104, 10, .inr (.inr (.inr (.inr (rF ra n))))))], T] rfl ?_
                          refine z_ext 10 (fun i_ => (upd c1 (9 + r) 1) (2 + i_)) rfl (fun q hq => (pk_un (by omega)).symm) [cOb o ad (sa 0) (sb 0) tr x, [(sa 0, .inr (2, [.int (c 16), .int (c 1), .int (c 0), .int wn, .ref (sa 1), .ref (sa 2), .ref (sa 3), .ref (sa 4)]))], [(sa 1, .inr (16, [.int md, .ref d, .int (nI n)]))], [(sa 2, .inl (D.1 100, 7, .inl (fun i_ => c (9 + i_))))], [(sa 3, .inl (D.1 100, 7, .inl (fun i_ => c (2 + i_))))], [(sa 4, .inl (D.1 100, 7, .inl od))], [(d, .inl (D.1 104, 10, .inr (.inr (.inr (.inr (rF ra n))))))], [(sb 0, .inr (2, [.int (c1 16), .int (c1 1), .int (c1 0), .int wn, .ref (sb 1), .ref (sb 2), .ref (sb 3), .ref (sb 4)]))], [(sb 1, .inr (16, [.int zmd_58, .ref zd_58, .int (nI n)]))], [(sb 2, .inl (D.1 100, 7, .inl (fun i_ => (upd c1 (9 + r) 1) (9 + i_))))], [(sb 3, .inl (D.1 100, 7, .inl (fun i_ => (upd c1 (9 + r) 1) (2 + i_))))], [(sb 4, .inl (D.1 100, 7, .inl zod_58))], [(zd_58, .inl (D.1 104, 10, .inr (.inr (.inr (.inr (rF ra n))))))], T] rfl ?_
                          refine z_weq [cOb o ad (sa 0) (sb 0) tr x, [(sa 0, .inr (2, [.int (c 16), .int (c 1), .int (c 0), .int wn, .ref (sa 1), .ref (sa 2), .ref (sa 3), .ref (sa 4)]))], [(sa 1, .inr (16, [.int md, .ref d, .int (nI n)]))], [(sa 2, .inl (D.1 100, 7, .inl (fun i_ => c (9 + i_))))], [(sa 3, .inl (D.1 100, 7, .inl (fun i_ => c (2 + i_))))], [(sa 4, .inl (D.1 100, 7, .inl od))], [(d, .inl (D.1 104, 10, .inr (.inr (.inr (.inr (rF ra n))))))], [(sb 0, .inr (2, [.int ((upd c1 (9 + r) 1) 16), .int ((upd c1 (9 + r) 1) 1), .int ((upd c1 (9 + r) 1) 0), .int wn, .ref (sb 1), .ref (sb 2), .ref (sb 3), .ref (sb 4)]))], [(sb 1, .inr (16, [.int zmd_58, .ref zd_58, .int (nI n)]))], [(sb 2, .inl (D.1 100, 7, .inl (fun i_ => (upd c1 (9 + r) 1) (9 + i_))))], [(sb 3, .inl (D.1 100, 7, .inl (fun i_ => (upd c1 (9 + r) 1) (2 + i_))))], [(sb 4, .inl (D.1 100, 7, .inl zod_58))], [(zd_58, .inl (D.1 104, 10, .inr (.inr (.inr (.inr (rF ra n))))))], T] (by rw [show (upd c1 (9 + r) 1) 16 = c1 16 from pk_un (by omega), show (upd c1 (9 + r) 1) 1 = c1 1 from pk_un (by omega), show (upd c1 (9 + r) 1) 0 = c1 0 from pk_un (by omega)]) ?_
                          refine z_iinc (pc := 111) gX 6 (nI (r + 1)) [1, 2, 3, 4, 5, 6, 0] [(0, .ref o), (1, .int w), (2, .int (nI W)), (3, .int (nI a)), (4, .int fo), (5, .int (nI s)), (6, .int (nI (r + 1)))] dX0_sorting_111 rfl (nI_1 _) (by decide) rfl ?_
                          refine z_goto (pc := 114) gX 65 dX0_sorting_114 (by decide) ?_
                          exact ih65 (r + 1) (upd c1 (9 + r) 1) (by omega) (by rw [show layQ c W s (r + 1) = if W.testBit r = true then upd (layQ c W s r) (9 + r) (nI (s / 2 ^ r % 2)) else layQ c W s r from rfl, ← hc1]; rw [if_pos k83, bit1 k102]) (by omega)
                exact L65 ((n - 0) + 1) 0 c (by omega) rfl (Nat.lt_succ_self _)
              · skip
                have hnsub : ¬ s &&& W = s := fun h => c51 ((sub_iff s (by omega) W (by omega)).mpr h)
                refine z_goto (pc := 54) gX 148 dX0_sorting_54 (by decide) ?_
                refine z_iinc (pc := 148) gX 5 (nI (s + 1)) [1, 2, 3, 4, 5, 0] [(0, .ref o), (1, .int w), (2, .int (nI W)), (3, .int (nI a)), (4, .int fo), (5, .int (nI (s + 1)))] dX0_sorting_148 rfl (nI_1 _) (by decide) rfl ?_
                refine z_goto (pc := 151) gX 39 dX0_sorting_151 (by decide) ?_
                refine z_widen (k := (s + 1)) (n := 10 * (s + 1)) (by omega) (by omega) ?_
                exact ih39 (s + 1) fo a h2 (by omega) ht2 ha (by rw [show srtP n k c W (s + 1) = srtS n k c W s (srtP n k c W s) from rfl, ← hp]; simp only [srtS]; rw [if_neg hnsub]) (by omega)
        refine z_widen (k := 0) (n := 10 * 0) (by omega) (by omega) ?_
        exact L39 ((W + 1 - 0) + 1) 0 (-1000000) 61 ht (by omega) ht0 (by omega) rfl (Nat.lt_succ_self _)
      · skip
        have k14 : (mIn w 0 1) = false := bI_eq0 c14
        refine z_ldc (pc := 17) gX q350 dX0_sorting_17 ?_
        refine z_ws [cOb o ad (sa 0) (sb 0) tr x, thP D sa ((some d, n, ra), (md, wn, od), c), thP D sb ht, T] (List.Perm.refl _) ?_
        exact z_rim gX hQX ht ht0 (zsv (by simp [mSorting, poG hG, k14])) rfl (by first | decide | omega) (by first | decide | omega) dX0_sorting_19
    · skip
      have k4 : (decide (0 < (c 16))) = false := bI_eq0 c4
      exact absurd k4 (by rw [thG hG]; decide)
theorem hd_X0_sorting : zHd yX0_sorting 1 := by unfold zHd; decide +kernel

