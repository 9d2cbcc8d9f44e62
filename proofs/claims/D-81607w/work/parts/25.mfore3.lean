set_option maxRecDepth 100000
/-! THE REFERENCE: absent, isSo, fits -/
def absQ (c : Nat → Int32) (W s : Nat) : Nat → (Nat → Int32)
  | 0 => c
  | r + 1 => if W.testBit r = true then upd (absQ c W s r) (2 + r) (if s.testBit r = true then 99 else -1) else absQ c W s r
def wayQ (W s cc : Nat) : Nat → Nat
  | 0 => 1
  | r + 1 => if W.testBit r = true then wayQ W s cc r * (if s.testBit r = true then cc else 10 - cc) else wayQ W s cc r
theorem absQ_fr {c : Nat → Int32} {W s : Nat} : ∀ n, n ≤ 7 → ∀ j, (j < 2 ∨ 9 ≤ j) → absQ c W s n j = c j
  | 0, _, _, _ => rfl
  | n + 1, h, j, hj => by
    simp only [absQ]
    split
    · rw [pk_un (by omega)]; exact absQ_fr n (by omega) j hj
    · exact absQ_fr n (by omega) j hj
theorem wayQ_le {W s cc : Nat} (hc : cc ≤ 10) : ∀ n, wayQ W s cc n ≤ 10 ^ n
  | 0 => Nat.le_refl 1
  | n + 1 => by
    have := wayQ_le (W := W) (s := s) hc n
    simp only [wayQ]
    rw [Nat.pow_succ]
    split
    · exact Nat.mul_le_mul this (by split <;> omega)
    · omega
theorem pow10 {n : Nat} (h : n ≤ 7) : 10 ^ n ≤ 10000000 := Nat.pow_le_pow_right (n := 10) (by decide) h
def abvP (n k dd cc j : Nat) (c : Nat → Int32) (W : Nat) : Nat → Nat
  | 0 => 0
  | s + 1 => abvP n k dd cc j c W s + (if s &&& W = s ∧ itT n k (absQ c W s n) dd (2 + j) = 99 then wayQ W s cc n else 0)
theorem abvP_leM {n k dd cc j : Nat} {c : Nat → Int32} {W M : Nat} (hM : ∀ s, wayQ W s cc n ≤ M) : ∀ s, abvP n k dd cc j c W s ≤ s * M
  | 0 => Nat.zero_le _
  | s + 1 => by
    have h1 := abvP_leM (k := k) (dd := dd) (j := j) (c := c) hM s
    have h2 := hM s
    simp only [abvP]
    rw [Nat.succ_mul]
    split <;> omega
theorem abvP_le {n k dd cc j : Nat} {c : Nat → Int32} {W : Nat} (hc : cc ≤ 10) (hn : n ≤ 7) (s : Nat) : abvP n k dd cc j c W s ≤ s * 10000000 := abvP_leM (fun s => Nat.le_trans (wayQ_le hc n) (pow10 hn)) s
def belP (W : Nat) : Nat → Nat
  | 0 => 1
  | r + 1 => belP W r * (if W.testBit r = true then 10 else 1)
theorem belP_le {W : Nat} : ∀ n, 1 ≤ belP W n ∧ belP W n ≤ 10 ^ n
  | 0 => ⟨Nat.le_refl 1, Nat.le_refl 1⟩
  | n + 1 => by
    have := belP_le (W := W) n
    simp only [belP]
    rw [Nat.pow_succ]
    split
    · exact ⟨by omega, Nat.mul_le_mul this.2 (Nat.le_refl _)⟩
    · exact ⟨by omega, by omega⟩
def mAbsent (n k : Nat) (c : Nat → Int32) (r d cc w : Int32) : Int32 :=
  if (mIn r 0 (c 17 - 1) && mIn d 0 60 && mIn cc 0 10 && mIn w 0 1) = true then
    if w = 0 then nI (abvP n k d.toNatClampNeg cc.toNatClampNeg r.toNatClampNeg c (qN c n) (2 ^ n) / Nat.gcd (abvP n k d.toNatClampNeg cc.toNatClampNeg r.toNatClampNeg c (qN c n) (2 ^ n)) (belP (qN c n) n))
    else nI (belP (qN c n) n / Nat.gcd (abvP n k d.toNatClampNeg cc.toNatClampNeg r.toNatClampNeg c (qN c n) (2 ^ n)) (belP (qN c n) n))
  else -1000001
def soP (n k : Nat) (c : Nat → Int32) (j : Nat) (it : Nat → Int32) (fr : Nat) : Nat → Bool
  | 0 => true
  | m + 1 => soP n k c j it fr m && decide (itT n k c (m + 1) (2 + j) = it (fr + m))

set_option maxHeartbeats 4000000 in
theorem met_X4_absent (l : Launch) (D : va_G) (B0 : Nat) (A : Nat → Prop) (o : Nat) (ad : Nat → Nat) (x : Nat → Int32) (c : Nat → Int32) (th : Nat → Int32) (wn : Nat → Int32) (n : Nat) (k : Nat) (r : Int32) (d : Int32) (p : Int32) (w : Int32) (hn : c 17 = nI n) (hn7 : n ≤ 7) (hk : c 16 = nI k) (hk12 : k ≤ 12) : Met l yX4_absent (ws_ yX4_absent cX4_absent 11 (some .int)) (zRm 6 0 0) (va_Pc [.ref o, .int r, .int d, .int p, .int w] (zPre B0 D A [mOb o ad x, [(ad 5, .inl (D.1 100, 25, .inl c))], [(ad 10, .inl (D.1 100, 25, .inl th))], [(ad 11, .inl (D.1 100, 25, .inl wn))]])) (zQ (S := (Nat → Int32) × (Nat → Int32)) (fun u => (fun (th1 : Nat → Int32) (wn1 : Nat → Int32) => True) u.1 u.2) (fun u => (fun (th1 : Nat → Int32) (wn1 : Nat → Int32) => some (.int (mAbsent n k c r d p w))) u.1 u.2) (fun u => (fun (th1 : Nat → Int32) (wn1 : Nat → Int32) => [mOb o ad x, [(ad 5, .inl (D.1 100, 25, .inl c))], [(ad 10, .inl (D.1 100, 25, .inl th1))], [(ad 11, .inl (D.1 100, 25, .inl wn1))]]) u.1 u.2) D A) 0 0 A := by
  refine z_entry (by decide +kernel) (Nat.le_of_ble_eq_true rfl) (fun pX eX sX mX argsX blX mtX cX QX hQX gX hAX hnm => ?_)
  refine z_eq (lv₂ := [(0, .ref o), (1, .int r), (2, .int d), (3, .int p), (4, .int w)]) (st₂ := []) ?_ rfl rfl
  obtain ⟨N2, hN2⟩ : ∃ N2, N2 = 2 ^ n := ⟨_, rfl⟩
  have h128 : N2 ≤ 128 := by rw [hN2]; exact pow7 hn7
  obtain ⟨W, hW⟩ : ∃ W, W = qN c n := ⟨_, rfl⟩
  have hWN : W < N2 := by rw [hW, hN2]; exact qN_lt c n
  refine z_aload_n (pc := 0) gX 0 dX4_absent_0 rfl rfl ?_
  refine z_iload_n (pc := 1) gX 1 dX4_absent_1 rfl rfl ?_
  refine z_cOV (pc := 2) gX (zI_ok gX hAX) [.int r] [] [0, 1] (met_X4_isRider l D B0 o ad x c r ) q1564 q1566 qs38 q54 q1567 (zm 0 rfl) (ci := 4) rfl rfl hd_X4_isRider ⟨rfl, rfl⟩ ⟨(Nat.le_of_ble_eq_true rfl), (Nat.le_of_ble_eq_true rfl)⟩ rfl rfl rfl (Nat.le_of_ble_eq_true rfl) ⟨(Nat.le_of_ble_eq_true rfl), (Nat.le_of_ble_eq_true rfl)⟩ dX4_absent_2 ?_
  intro _ hu2
  refine z_eq (lv₂ := [(0, .ref o), (1, .int r), (2, .int d), (3, .int p), (4, .int w)]) (st₂ := [.int (bI (mIn r 0 (c 17 - 1)))]) ?_ rfl rfl
  refine z_if_eq (pc := 5) gX 38 dX4_absent_5 (by decide) (fun c5 => ?_) (fun c5 => ?_)
  · skip
    have k5 : (mIn r 0 (c 17 - 1)) = false := bI_eq0 c5
    refine z_ldc (pc := 38) gX q1455 dX4_absent_38 ?_
    exact z_rim gX hQX (th, wn) trivial (zsv (by simp [mAbsent, k5])) rfl (by first | decide | omega) (by first | decide | omega) dX4_absent_40
  · skip
    have k5 : (mIn r 0 (c 17 - 1)) = true := bI_ne0 c5
    obtain ⟨j, hjn, rfl⟩ := riderN k5 hn hn7
    refine z_iload_n (pc := 8) gX 2 dX4_absent_8 rfl rfl ?_
    refine z_iconst (pc := 9) gX 0 dX4_absent_9 (by decide) ?_
    refine z_bipush (pc := 10) gX 60 dX4_absent_10 (by decide) ?_
    refine z_cOS (pc := 12) gX (zI_ok gX hAX) [.int d, .int 0, .int 60] [] [] (met_X4_in l D B0 d 0 60 ) q1452 q1453 q54 q1454 hd_X4_in ⟨rfl, rfl⟩ ⟨(Nat.le_of_ble_eq_true rfl), (Nat.le_of_ble_eq_true rfl)⟩ rfl rfl rfl (Nat.le_of_ble_eq_true rfl) ⟨(Nat.le_of_ble_eq_true rfl), (Nat.le_of_ble_eq_true rfl)⟩ dX4_absent_12 ?_
    intro _ hu12
    refine z_eq (lv₂ := [(0, .ref o), (1, .int (nI j)), (2, .int d), (3, .int p), (4, .int w)]) (st₂ := [.int (bI (mIn d 0 60))]) ?_ rfl rfl
    refine z_if_eq (pc := 15) gX 38 dX4_absent_15 (by decide) (fun c15 => ?_) (fun c15 => ?_)
    · skip
      have k15 : (mIn d 0 60) = false := bI_eq0 c15
      refine z_ldc (pc := 38) gX q1455 dX4_absent_38 ?_
      exact z_rim gX hQX (th, wn) trivial (zsv (by simp [mAbsent, k5, k15])) rfl (by first | decide | omega) (by first | decide | omega) dX4_absent_40
    · skip
      have k15 : (mIn d 0 60) = true := bI_ne0 c15
      obtain ⟨dd, hdd, rfl⟩ := mIn_nat k15 60 (by decide)
      refine z_iload_n (pc := 18) gX 3 dX4_absent_18 rfl rfl ?_
      refine z_iconst (pc := 19) gX 0 dX4_absent_19 (by decide) ?_
      refine z_bipush (pc := 20) gX 10 dX4_absent_20 (by decide) ?_
      refine z_cOS (pc := 22) gX (zI_ok gX hAX) [.int p, .int 0, .int 10] [] [] (met_X4_in l D B0 p 0 10 ) q1452 q1453 q54 q1454 hd_X4_in ⟨rfl, rfl⟩ ⟨(Nat.le_of_ble_eq_true rfl), (Nat.le_of_ble_eq_true rfl)⟩ rfl rfl rfl (Nat.le_of_ble_eq_true rfl) ⟨(Nat.le_of_ble_eq_true rfl), (Nat.le_of_ble_eq_true rfl)⟩ dX4_absent_22 ?_
      intro _ hu22
      refine z_eq (lv₂ := [(0, .ref o), (1, .int (nI j)), (2, .int (nI dd)), (3, .int p), (4, .int w)]) (st₂ := [.int (bI (mIn p 0 10))]) ?_ rfl rfl
      refine z_if_eq (pc := 25) gX 38 dX4_absent_25 (by decide) (fun c25 => ?_) (fun c25 => ?_)
      · skip
        have k25 : (mIn p 0 10) = false := bI_eq0 c25
        refine z_ldc (pc := 38) gX q1455 dX4_absent_38 ?_
        exact z_rim gX hQX (th, wn) trivial (zsv (by simp [mAbsent, k5, k15, k25])) rfl (by first | decide | omega) (by first | decide | omega) dX4_absent_40
      · skip
        have k25 : (mIn p 0 10) = true := bI_ne0 c25
        obtain ⟨cc, hcc, rfl⟩ := mIn_nat k25 10 (by decide)
        refine z_iload (pc := 28) gX 4 dX4_absent_28 rfl ?_
        refine z_iconst (pc := 30) gX 0 dX4_absent_30 (by decide) ?_
        refine z_iconst (pc := 31) gX 1 dX4_absent_31 (by decide) ?_
        refine z_cOS (pc := 32) gX (zI_ok gX hAX) [.int w, .int 0, .int 1] [] [] (met_X4_in l D B0 w 0 1 ) q1452 q1453 q54 q1454 hd_X4_in ⟨rfl, rfl⟩ ⟨(Nat.le_of_ble_eq_true rfl), (Nat.le_of_ble_eq_true rfl)⟩ rfl rfl rfl (Nat.le_of_ble_eq_true rfl) ⟨(Nat.le_of_ble_eq_true rfl), (Nat.le_of_ble_eq_true rfl)⟩ dX4_absent_32 ?_
        intro _ hu32
        refine z_eq (lv₂ := [(0, .ref o), (1, .int (nI j)), (2, .int (nI dd)), (3, .int (nI cc)), (4, .int w)]) (st₂ := [.int (bI (mIn w 0 1))]) ?_ rfl rfl
        refine z_if_ne (pc := 35) gX 41 dX4_absent_35 (by decide) (fun c35 => ?_) (fun c35 => ?_)
        · skip
          have k35 : (mIn w 0 1) = true := bI_ne0 c35
          refine z_aload_n (pc := 41) gX 0 dX4_absent_41 rfl rfl ?_
          refine z_cOV (pc := 42) gX (zI_ok gX hAX) [] [] [0, 1] (met_X4_queued l D B0 o ad x c n (by first | assumption | omega) (by first | assumption | omega)) q1617 q1619 qs41 q54 q1620 (zm 0 rfl) (ci := 4) rfl rfl hd_X4_queued ⟨rfl, rfl⟩ ⟨(Nat.le_of_ble_eq_true rfl), (Nat.le_of_ble_eq_true rfl)⟩ rfl rfl rfl (Nat.le_of_ble_eq_true rfl) ⟨(Nat.le_of_ble_eq_true rfl), (Nat.le_of_ble_eq_true rfl)⟩ dX4_absent_42 ?_
          intro _ hu42
          refine z_eq (lv₂ := [(0, .ref o), (1, .int (nI j)), (2, .int (nI dd)), (3, .int (nI cc)), (4, .int w)]) (st₂ := [.int (nI (qN c n))]) ?_ rfl rfl
          refine z_top (nI W) (by rw [hW]) ?_
          refine z_istore (pc := 45) gX [1, 2, 3, 4, 5, 0] [(0, .ref o), (1, .int (nI j)), (2, .int (nI dd)), (3, .int (nI cc)), (4, .int w), (5, .int (nI W))] dX4_absent_45 (by decide) rfl ?_
          refine z_iconst (pc := 47) gX 0 dX4_absent_47 (by decide) ?_
          refine z_istore (pc := 48) gX [1, 2, 3, 4, 5, 6, 0] [(0, .ref o), (1, .int (nI j)), (2, .int (nI dd)), (3, .int (nI cc)), (4, .int w), (5, .int (nI W)), (6, .int 0)] dX4_absent_48 (by decide) rfl ?_
          refine z_iconst (pc := 50) gX 1 dX4_absent_50 (by decide) ?_
          refine z_istore (pc := 51) gX [1, 2, 3, 4, 5, 6, 7, 0] [(0, .ref o), (1, .int (nI j)), (2, .int (nI dd)), (3, .int (nI cc)), (4, .int w), (5, .int (nI W)), (6, .int 0), (7, .int 1)] dX4_absent_51 (by decide) rfl ?_
          refine z_iconst (pc := 53) gX 0 dX4_absent_53 (by decide) ?_
          refine z_istore (pc := 54) gX [1, 2, 3, 4, 5, 6, 7, 8, 0] [(0, .ref o), (1, .int (nI j)), (2, .int (nI dd)), (3, .int (nI cc)), (4, .int w), (5, .int (nI W)), (6, .int 0), (7, .int 1), (8, .int 0)] dX4_absent_54 (by decide) rfl ?_
          have L56 : ∀ (n56 : Nat) (s : Nat) (ab : Nat) (tt : Nat → Int32) (w2 : Nat → Int32), (s ≤ N2) → (ab = abvP n k dd cc j c W s) → N2 - s < n56 → zJ pX l eX (zRm 6 0 0) sX mX argsX blX mtX cX QX 11 (zI D A sX [mOb o ad x, [(ad 5, .inl (D.1 100, 25, .inl c))], [(ad 10, .inl (D.1 100, 25, .inl tt))], [(ad 11, .inl (D.1 100, 25, .inl w2))]]) 0 0 56 [(0, .ref o), (1, .int (nI j)), (2, .int (nI dd)), (3, .int (nI cc)), (4, .int w), (5, .int (nI W)), (6, .int (nI ab)), (7, .int 1), (8, .int (nI s))] [] := by
            intro n56
            induction n56 with
            | zero => exact fun s ab tt w2 hs hab hm56 => absurd hm56 (Nat.not_lt_zero _)
            | succ n56 ih56 =>
              intro s ab tt w2 hs hab hm56
              refine z_iload (pc := 56) gX 8 dX4_absent_56 rfl ?_
              refine z_iconst (pc := 58) gX 1 dX4_absent_58 (by decide) ?_
              refine z_aload_n (pc := 59) gX 0 dX4_absent_59 rfl rfl ?_
              refine z_get (pc := 60) gX (zI_ok gX hAX) (zm 0 rfl) (ci := 4) (C := RX4) (T := TX4) (N := 20) rfl in_X4 8 (by decide) q1391 (fun _ h => h) (v := .ref (ad 5)) rfl dX4_absent_60 ?_
              refine z_bipush (pc := 63) gX 17 dX4_absent_63 (by decide) ?_
              refine z_top (nI 17) rfl ?_
              refine z_iald (pc := 65) gX (zI_ok gX hAX) (j := 17) (n := 25) (f := c) (zm 1 rfl) (by omega) (by decide) dX4_absent_65 ?_
              refine z_top (nI n) hn ?_
              refine z_ishl (pc := 66) gX dX4_absent_66 ?_
              refine z_top (nI N2) (by rw [hN2]; exact shl_bit (by omega)) ?_
              refine z_icmp_ge (pc := 67) gX 219 dX4_absent_67 (by decide) (fun c67 => ?_) (fun c67 => ?_)
              · skip
                have k67 : N2 ≤ s := (zn_le (a := N2) (b := s) (by omega) (by omega)).mp c67
                have habn : ab = abvP n k dd cc j c W (2 ^ n) := by rw [hab, show s = N2 by omega, hN2]
                have habl := abvP_le (k := k) (dd := dd) (j := j) (c := c) (W := W) hcc hn7 s
                rw [← hab] at habl
                refine z_iconst (pc := 219) gX 0 dX4_absent_219 (by decide) ?_
                refine z_istore (pc := 220) gX [1, 2, 3, 4, 5, 6, 7, 8, 0] [(0, .ref o), (1, .int (nI j)), (2, .int (nI dd)), (3, .int (nI cc)), (4, .int w), (5, .int (nI W)), (6, .int (nI ab)), (7, .int 1), (8, .int 0)] dX4_absent_220 (by decide) rfl ?_
                have L222 : ∀ (n222 : Nat) (r4 : Nat) (be : Nat), (r4 ≤ n) → (be = belP W r4) → n - r4 < n222 → zJ pX l eX (zRm 6 0 0) sX mX argsX blX mtX cX QX 11 (zI D A sX [mOb o ad x, [(ad 5, .inl (D.1 100, 25, .inl c))], [(ad 10, .inl (D.1 100, 25, .inl tt))], [(ad 11, .inl (D.1 100, 25, .inl w2))]]) 0 0 222 [(0, .ref o), (1, .int (nI j)), (2, .int (nI dd)), (3, .int (nI cc)), (4, .int w), (5, .int (nI W)), (6, .int (nI ab)), (7, .int (nI be)), (8, .int (nI r4))] [] := by
                  intro n222
                  induction n222 with
                  | zero => exact fun r4 be hr4 hbe hm222 => absurd hm222 (Nat.not_lt_zero _)
                  | succ n222 ih222 =>
                    intro r4 be hr4 hbe hm222
                    refine z_iload (pc := 222) gX 8 dX4_absent_222 rfl ?_
                    refine z_aload_n (pc := 224) gX 0 dX4_absent_224 rfl rfl ?_
                    refine z_get (pc := 225) gX (zI_ok gX hAX) (zm 0 rfl) (ci := 4) (C := RX4) (T := TX4) (N := 20) rfl in_X4 8 (by decide) q1391 (fun _ h => h) (v := .ref (ad 5)) rfl dX4_absent_225 ?_
                    refine z_bipush (pc := 228) gX 17 dX4_absent_228 (by decide) ?_
                    refine z_top (nI 17) rfl ?_
                    refine z_iald (pc := 230) gX (zI_ok gX hAX) (j := 17) (n := 25) (f := c) (zm 1 rfl) (by omega) (by decide) dX4_absent_230 ?_
                    refine z_top (nI n) hn ?_
                    refine z_icmp_ge (pc := 231) gX 261 dX4_absent_231 (by decide) (fun c231 => ?_) (fun c231 => ?_)
                    · skip
                      have k231 : n ≤ r4 := (zn_le (a := n) (b := r4) (by omega) (by omega)).mp c231
                      have hben : be = belP W n := by rw [hbe, show r4 = n by omega]
                      have hbel := belP_le (W := W) n
                      rw [← hben] at hbel
                      have hp10 := pow10 hn7
                      refine z_iload (pc := 261) gX 6 dX4_absent_261 rfl ?_
                      refine z_istore (pc := 263) gX [1, 2, 3, 4, 5, 6, 7, 8, 0] [(0, .ref o), (1, .int (nI j)), (2, .int (nI dd)), (3, .int (nI cc)), (4, .int w), (5, .int (nI W)), (6, .int (nI ab)), (7, .int (nI be)), (8, .int (nI ab))] dX4_absent_263 (by decide) rfl ?_
                      refine z_iload (pc := 265) gX 7 dX4_absent_265 rfl ?_
                      refine z_istore (pc := 267) gX [1, 2, 3, 4, 5, 6, 7, 8, 9, 0] [(0, .ref o), (1, .int (nI j)), (2, .int (nI dd)), (3, .int (nI cc)), (4, .int w), (5, .int (nI W)), (6, .int (nI ab)), (7, .int (nI be)), (8, .int (nI ab)), (9, .int (nI be))] dX4_absent_267 (by decide) rfl ?_
                      have L269 : ∀ (n269 : Nat) (a : Nat) (b : Nat), (a < 2147483648) → (b < 2147483648) → (Nat.gcd a b = Nat.gcd ab be) → b < n269 → zJ pX l eX (zRm 6 0 0) sX mX argsX blX mtX cX QX 11 (zI D A sX [mOb o ad x, [(ad 5, .inl (D.1 100, 25, .inl c))], [(ad 10, .inl (D.1 100, 25, .inl tt))], [(ad 11, .inl (D.1 100, 25, .inl w2))]]) 0 0 269 [(0, .ref o), (1, .int (nI j)), (2, .int (nI dd)), (3, .int (nI cc)), (4, .int w), (5, .int (nI W)), (6, .int (nI ab)), (7, .int (nI be)), (8, .int (nI a)), (9, .int (nI b))] [] := by
                        intro n269
                        induction n269 with
                        | zero => exact fun a b hal hbl hg hm269 => absurd hm269 (Nat.not_lt_zero _)
                        | succ n269 ih269 =>
                          intro a b hal hbl hg hm269
                          refine z_iload (pc := 269) gX 9 dX4_absent_269 rfl ?_
                          refine z_if_le (pc := 271) gX 292 dX4_absent_271 (by decide) (fun c271 => ?_) (fun c271 => ?_)
                          · skip
                            have hb0 : b = 0 := by have h2 := (zn_le (a := b) (b := 0) (by omega) (by omega)).mp c271; omega
                            have hag : a = Nat.gcd ab be := by rw [← hg, hb0, Nat.gcd_zero_right]
                            have hgp : 0 < a := by rw [hag]; exact Nat.gcd_pos_of_pos_right _ (by omega)
                            refine z_iload (pc := 292) gX 4 dX4_absent_292 rfl ?_
                            refine z_if_ne (pc := 294) gX 305 dX4_absent_294 (by decide) (fun c294 => ?_) (fun c294 => ?_)
                            · skip
                              refine z_iload (pc := 305) gX 7 dX4_absent_305 rfl ?_
                              refine z_iload (pc := 307) gX 8 dX4_absent_307 rfl ?_
                              refine z_idiv (pc := 309) gX dX4_absent_309 (nI_ne0 hgp (by omega)) ?_
                              refine z_top (nI (be / a)) (pk_div (by omega) hgp (by omega)) ?_
                              exact z_rim gX hQX (tt, w2) trivial (zsv (by simp only [mAbsent, k5, k15, k25, k35, Bool.and_self, if_true, nI_clamp (show j < 2 ^ 31 by omega), nI_clamp (show dd < 2 ^ 31 by omega), nI_clamp (show cc < 2 ^ 31 by omega), ← hW, ← habn, ← hben, ← hag]; rw [if_neg c294])) rfl (by first | decide | omega) (by first | decide | omega) dX4_absent_310
                            · skip
                              refine z_iload (pc := 297) gX 6 dX4_absent_297 rfl ?_
                              refine z_iload (pc := 299) gX 8 dX4_absent_299 rfl ?_
                              refine z_idiv (pc := 301) gX dX4_absent_301 (nI_ne0 hgp (by omega)) ?_
                              refine z_top (nI (ab / a)) (pk_div (by omega) hgp (by omega)) ?_
                              refine z_goto (pc := 302) gX 310 dX4_absent_302 (by decide) ?_
                              exact z_rim gX hQX (tt, w2) trivial (zsv (by simp only [mAbsent, k5, k15, k25, k35, Bool.and_self, if_true, nI_clamp (show j < 2 ^ 31 by omega), nI_clamp (show dd < 2 ^ 31 by omega), nI_clamp (show cc < 2 ^ 31 by omega), ← hW, ← habn, ← hben, ← hag]; rw [if_pos c294])) rfl (by first | decide | omega) (by first | decide | omega) dX4_absent_310
                          · skip
                            have hb0 : 0 < b := by rcases Nat.eq_zero_or_pos b with h | h; exact absurd (by rw [h]; decide) c271; exact h
                            refine z_iload (pc := 274) gX 8 dX4_absent_274 rfl ?_
                            refine z_iload (pc := 276) gX 9 dX4_absent_276 rfl ?_
                            refine z_irem (pc := 278) gX dX4_absent_278 (nI_ne0 hb0 (by omega)) ?_
                            refine z_top (nI (a % b)) (pk_rem (a := a) (d := b) (by omega) (by omega) (by omega)) ?_
                            refine z_istore (pc := 279) gX [1, 2, 3, 4, 5, 6, 7, 8, 9, 10, 0] [(0, .ref o), (1, .int (nI j)), (2, .int (nI dd)), (3, .int (nI cc)), (4, .int w), (5, .int (nI W)), (6, .int (nI ab)), (7, .int (nI be)), (8, .int (nI a)), (9, .int (nI b)), (10, .int (nI (a % b)))] dX4_absent_279 (by decide) rfl ?_
                            refine z_iload (pc := 281) gX 9 dX4_absent_281 rfl ?_
                            refine z_istore (pc := 283) gX [1, 2, 3, 4, 5, 6, 7, 8, 0, 9, 10] [(0, .ref o), (1, .int (nI j)), (2, .int (nI dd)), (3, .int (nI cc)), (4, .int w), (5, .int (nI W)), (6, .int (nI ab)), (7, .int (nI be)), (8, .int (nI b)), (9, .int (nI b)), (10, .int (nI (a % b)))] dX4_absent_283 (by decide) rfl ?_
                            refine z_iload (pc := 285) gX 10 dX4_absent_285 rfl ?_
                            refine z_istore (pc := 287) gX [1, 2, 3, 4, 5, 6, 7, 8, 9, 0, 10] [(0, .ref o), (1, .int (nI j)), (2, .int (nI dd)), (3, .int (nI cc)), (4, .int w), (5, .int (nI W)), (6, .int (nI ab)), (7, .int (nI be)), (8, .int (nI b)), (9, .int (nI (a % b))), (10, .int (nI (a % b)))] dX4_absent_287 (by decide) rfl ?_
                            refine z_goto (pc := 289) gX 269 dX4_absent_289 (by decide) ?_
                            refine z_lv [0, 1, 2, 3, 4, 5, 6, 7, 8, 9] [(0, .ref o), (1, .int (nI j)), (2, .int (nI dd)), (3, .int (nI cc)), (4, .int w), (5, .int (nI W)), (6, .int (nI ab)), (7, .int (nI be)), (8, .int (nI b)), (9, .int (nI (a % b)))] rfl ?_
                            exact ih269 b (a % b) (by omega) (by have := Nat.mod_lt a hb0; omega) (by rw [Nat.gcd_comm, ← Nat.gcd_rec, Nat.gcd_comm]; exact hg) (by have := Nat.mod_lt a hb0; omega)
                      exact L269 (be + 1) ab be (by omega) (by omega) rfl (Nat.lt_succ_self _)
                    · skip
                      have k231 : r4 < n := (zn_nle (a := n) (b := r4) (by omega) (by omega)).mp c231
                      refine z_iload (pc := 234) gX 7 dX4_absent_234 rfl ?_
                      refine z_iload (pc := 236) gX 5 dX4_absent_236 rfl ?_
                      refine z_iload (pc := 238) gX 8 dX4_absent_238 rfl ?_
                      refine z_cOS (pc := 240) gX (zI_ok gX hAX) [.int (nI W), .int (nI r4)] [.int (nI be)] [] (met_X4_has l D B0 W r4 (by first | assumption | omega) (by first | assumption | omega)) q1621 q1622 q54 q1623 hd_X4_has ⟨rfl, rfl⟩ ⟨(Nat.le_of_ble_eq_true rfl), (Nat.le_of_ble_eq_true rfl)⟩ rfl rfl rfl (Nat.le_of_ble_eq_true rfl) ⟨(Nat.le_of_ble_eq_true rfl), (Nat.le_of_ble_eq_true rfl)⟩ dX4_absent_240 ?_
                      intro _ hu240
                      refine z_eq (lv₂ := [(0, .ref o), (1, .int (nI j)), (2, .int (nI dd)), (3, .int (nI cc)), (4, .int w), (5, .int (nI W)), (6, .int (nI ab)), (7, .int (nI be)), (8, .int (nI r4))]) (st₂ := [.int (bI (W.testBit r4)), .int (nI be)]) ?_ rfl rfl
                      refine z_if_eq (pc := 243) gX 251 dX4_absent_243 (by decide) (fun c243 => ?_) (fun c243 => ?_)
                      · skip
                        have k243 : (W.testBit r4) = false := bI_eq0 c243
                        refine z_iconst (pc := 251) gX 1 dX4_absent_251 (by decide) ?_
                        refine z_imul (pc := 252) gX dX4_absent_252 ?_
                        refine z_top (nI (be * 1)) (pk_mul be 1) ?_
                        refine z_istore (pc := 253) gX [1, 2, 3, 4, 5, 6, 7, 0, 8] [(0, .ref o), (1, .int (nI j)), (2, .int (nI dd)), (3, .int (nI cc)), (4, .int w), (5, .int (nI W)), (6, .int (nI ab)), (7, .int (nI (be * 1))), (8, .int (nI r4))] dX4_absent_253 (by decide) rfl ?_
                        refine z_iinc (pc := 255) gX 8 (nI (r4 + 1)) [1, 2, 3, 4, 5, 6, 7, 8, 0] [(0, .ref o), (1, .int (nI j)), (2, .int (nI dd)), (3, .int (nI cc)), (4, .int w), (5, .int (nI W)), (6, .int (nI ab)), (7, .int (nI (be * 1))), (8, .int (nI (r4 + 1)))] dX4_absent_255 rfl (nI_1 _) (by decide) rfl ?_
                        refine z_goto (pc := 258) gX 222 dX4_absent_258 (by decide) ?_
                        exact ih222 (r4 + 1) (be * 1) (by omega) (by simp only [belP, k243]; rw [← hbe]; simp) (by omega)
                      · skip
                        have k243 : (W.testBit r4) = true := bI_ne0 c243
                        refine z_bipush (pc := 246) gX 10 dX4_absent_246 (by decide) ?_
                        refine z_goto (pc := 248) gX 252 dX4_absent_248 (by decide) ?_
                        refine z_imul (pc := 252) gX dX4_absent_252 ?_
                        refine z_top (nI (be * 10)) (pk_mul be 10) ?_
                        refine z_istore (pc := 253) gX [1, 2, 3, 4, 5, 6, 7, 0, 8] [(0, .ref o), (1, .int (nI j)), (2, .int (nI dd)), (3, .int (nI cc)), (4, .int w), (5, .int (nI W)), (6, .int (nI ab)), (7, .int (nI (be * 10))), (8, .int (nI r4))] dX4_absent_253 (by decide) rfl ?_
                        refine z_iinc (pc := 255) gX 8 (nI (r4 + 1)) [1, 2, 3, 4, 5, 6, 7, 8, 0] [(0, .ref o), (1, .int (nI j)), (2, .int (nI dd)), (3, .int (nI cc)), (4, .int w), (5, .int (nI W)), (6, .int (nI ab)), (7, .int (nI (be * 10))), (8, .int (nI (r4 + 1)))] dX4_absent_255 rfl (nI_1 _) (by decide) rfl ?_
                        refine z_goto (pc := 258) gX 222 dX4_absent_258 (by decide) ?_
                        exact ih222 (r4 + 1) (be * 10) (by omega) (by simp only [belP, k243]; rw [← hbe]; simp) (by omega)
                exact L222 ((n - 0) + 1) 0 1 (by omega) rfl (Nat.lt_succ_self _)
              · skip
                have k67 : s < N2 := (zn_nle (a := N2) (b := s) (by omega) (by omega)).mp c67
                refine z_iload (pc := 70) gX 8 dX4_absent_70 rfl ?_
                refine z_iload (pc := 72) gX 5 dX4_absent_72 rfl ?_
                refine z_iconst (pc := 74) gX (-1) dX4_absent_74 (by decide) ?_
                refine z_ixor (pc := 75) gX dX4_absent_75 ?_
                refine z_iand (pc := 76) gX dX4_absent_76 ?_
                refine z_if_ne (pc := 77) gX 213 dX4_absent_77 (by decide) (fun c77 => ?_) (fun c77 => ?_)
                · skip
                  have hnsub : ¬ s &&& W = s := fun h => c77 ((sub_iff s (by omega) W (by omega)).mpr h)
                  refine z_iinc (pc := 213) gX 8 (nI (s + 1)) [1, 2, 3, 4, 5, 6, 7, 8, 0] [(0, .ref o), (1, .int (nI j)), (2, .int (nI dd)), (3, .int (nI cc)), (4, .int w), (5, .int (nI W)), (6, .int (nI ab)), (7, .int 1), (8, .int (nI (s + 1)))] dX4_absent_213 rfl (nI_1 _) (by decide) rfl ?_
                  refine z_goto (pc := 216) gX 56 dX4_absent_216 (by decide) ?_
                  exact ih56 (s + 1) ab tt w2 (by omega) (by rw [show abvP n k dd cc j c W (s + 1) = abvP n k dd cc j c W s + (if s &&& W = s ∧ itT n k (absQ c W s n) dd (2 + j) = 99 then wayQ W s cc n else 0) from rfl, ← hab]; rw [if_neg (fun h => hnsub h.1)]; rfl) (by omega)
                · skip
                  have hsub : s &&& W = s := (sub_iff s (by omega) W (by omega)).mp c77
                  refine z_aload_n (pc := 80) gX 0 dX4_absent_80 rfl rfl ?_
                  refine z_cMV (pc := 81) gX hAX [] [] [0, 1, 2] [3] (fun A1 => met_X4_starts l D B0 A1 o ad x c tt ) q1592 q1594 qs39 q54 q1595 (zm 0 rfl) (ci := 4) rfl rfl hd_X4_starts ⟨rfl, rfl⟩ ⟨(Nat.le_of_ble_eq_true rfl), (Nat.le_of_ble_eq_true rfl)⟩ rfl rfl rfl rfl rfl (Nat.le_of_ble_eq_true rfl) ⟨(Nat.le_of_ble_eq_true rfl), (Nat.le_of_ble_eq_true rfl)⟩ dX4_absent_81 ?_
                  intro _ hu81
                  refine z_re [0, 1, 2, 3] [mOb o ad x, [(ad 5, .inl (D.1 100, 25, .inl c))], [(ad 10, .inl (D.1 100, 25, .inl c))], [(ad 11, .inl (D.1 100, 25, .inl w2))]] rfl rfl ?_
                  refine z_eq (lv₂ := [(0, .ref o), (1, .int (nI j)), (2, .int (nI dd)), (3, .int (nI cc)), (4, .int w), (5, .int (nI W)), (6, .int (nI ab)), (7, .int 1), (8, .int (nI s))]) (st₂ := []) ?_ rfl rfl
                  refine z_iconst (pc := 84) gX 1 dX4_absent_84 (by decide) ?_
                  refine z_istore (pc := 85) gX [1, 2, 3, 4, 5, 6, 7, 8, 9, 0] [(0, .ref o), (1, .int (nI j)), (2, .int (nI dd)), (3, .int (nI cc)), (4, .int w), (5, .int (nI W)), (6, .int (nI ab)), (7, .int 1), (8, .int (nI s)), (9, .int 1)] dX4_absent_85 (by decide) rfl ?_
                  refine z_iconst (pc := 87) gX 0 dX4_absent_87 (by decide) ?_
                  refine z_istore (pc := 88) gX [1, 2, 3, 4, 5, 6, 7, 8, 9, 10, 0] [(0, .ref o), (1, .int (nI j)), (2, .int (nI dd)), (3, .int (nI cc)), (4, .int w), (5, .int (nI W)), (6, .int (nI ab)), (7, .int 1), (8, .int (nI s)), (9, .int 1), (10, .int 0)] dX4_absent_88 (by decide) rfl ?_
                  have L90 : ∀ (n90 : Nat) (r2 : Nat) (its : Nat) (t2 : Nat → Int32), (r2 ≤ n) → (t2 = absQ c W s r2) → (its = wayQ W s cc r2) → n - r2 < n90 → zJ pX l eX (zRm 6 0 0) sX mX argsX blX mtX cX QX 11 (zI D A sX [mOb o ad x, [(ad 5, .inl (D.1 100, 25, .inl c))], [(ad 10, .inl (D.1 100, 25, .inl t2))], [(ad 11, .inl (D.1 100, 25, .inl w2))]]) 0 0 90 [(0, .ref o), (1, .int (nI j)), (2, .int (nI dd)), (3, .int (nI cc)), (4, .int w), (5, .int (nI W)), (6, .int (nI ab)), (7, .int 1), (8, .int (nI s)), (9, .int (nI its)), (10, .int (nI r2))] [] := by
                    intro n90
                    induction n90 with
                    | zero => exact fun r2 its t2 hr2 ht2 hits hm90 => absurd hm90 (Nat.not_lt_zero _)
                    | succ n90 ih90 =>
                      intro r2 its t2 hr2 ht2 hits hm90
                      refine z_iload (pc := 90) gX 10 dX4_absent_90 rfl ?_
                      refine z_aload_n (pc := 92) gX 0 dX4_absent_92 rfl rfl ?_
                      refine z_get (pc := 93) gX (zI_ok gX hAX) (zm 0 rfl) (ci := 4) (C := RX4) (T := TX4) (N := 20) rfl in_X4 8 (by decide) q1391 (fun _ h => h) (v := .ref (ad 5)) rfl dX4_absent_93 ?_
                      refine z_bipush (pc := 96) gX 17 dX4_absent_96 (by decide) ?_
                      refine z_top (nI 17) rfl ?_
                      refine z_iald (pc := 98) gX (zI_ok gX hAX) (j := 17) (n := 25) (f := c) (zm 1 rfl) (by omega) (by decide) dX4_absent_98 ?_
                      refine z_top (nI n) hn ?_
                      refine z_icmp_ge (pc := 99) gX 166 dX4_absent_99 (by decide) (fun c99 => ?_) (fun c99 => ?_)
                      · skip
                        have k99 : n ≤ r2 := (zn_le (a := n) (b := r2) (by omega) (by omega)).mp c99
                        have ht2n : t2 = absQ c W s n := by rw [ht2, show r2 = n by omega]
                        have hits2 : its = wayQ W s cc n := by rw [hits, show r2 = n by omega]
                        have hwl := wayQ_le (W := W) (s := s) hcc n
                        have hp10 := pow10 hn7
                        refine z_iconst (pc := 166) gX 0 dX4_absent_166 (by decide) ?_
                        refine z_istore (pc := 167) gX [1, 2, 3, 4, 5, 6, 7, 8, 9, 10, 0] [(0, .ref o), (1, .int (nI j)), (2, .int (nI dd)), (3, .int (nI cc)), (4, .int w), (5, .int (nI W)), (6, .int (nI ab)), (7, .int 1), (8, .int (nI s)), (9, .int (nI its)), (10, .int 0)] dX4_absent_167 (by decide) rfl ?_
                        have L169 : ∀ (n169 : Nat) (i3 : Nat) (t3 : Nat → Int32) (w3 : Nat → Int32), (i3 ≤ dd) → (t3 = itT n k (absQ c W s n) i3) → dd - i3 < n169 → zJ pX l eX (zRm 6 0 0) sX mX argsX blX mtX cX QX 11 (zI D A sX [mOb o ad x, [(ad 5, .inl (D.1 100, 25, .inl c))], [(ad 10, .inl (D.1 100, 25, .inl t3))], [(ad 11, .inl (D.1 100, 25, .inl w3))]]) 0 0 169 [(0, .ref o), (1, .int (nI j)), (2, .int (nI dd)), (3, .int (nI cc)), (4, .int w), (5, .int (nI W)), (6, .int (nI ab)), (7, .int 1), (8, .int (nI s)), (9, .int (nI its)), (10, .int (nI i3))] [] := by
                          intro n169
                          induction n169 with
                          | zero => exact fun i3 t3 w3 hi3 ht3 hm169 => absurd hm169 (Nat.not_lt_zero _)
                          | succ n169 ih169 =>
                            intro i3 t3 w3 hi3 ht3 hm169
                            refine z_iload (pc := 169) gX 10 dX4_absent_169 rfl ?_
                            refine z_iload_n (pc := 171) gX 2 dX4_absent_171 rfl rfl ?_
                            refine z_icmp_ge (pc := 172) gX 189 dX4_absent_172 (by decide) (fun c172 => ?_) (fun c172 => ?_)
                            · skip
                              have k172 : dd ≤ i3 := (zn_le (a := dd) (b := i3) (by omega) (by omega)).mp c172
                              refine z_iload (pc := 189) gX 6 dX4_absent_189 rfl ?_
                              refine z_aload_n (pc := 191) gX 0 dX4_absent_191 rfl rfl ?_
                              refine z_get (pc := 192) gX (zI_ok gX hAX) (zm 0 rfl) (ci := 4) (C := RX4) (T := TX4) (N := 20) rfl in_X4 14 (by decide) q1397 (fun _ h => h) (v := .ref (ad 10)) rfl dX4_absent_192 ?_
                              refine z_iconst (pc := 195) gX 2 dX4_absent_195 (by decide) ?_
                              refine z_iload_n (pc := 196) gX 1 dX4_absent_196 rfl rfl ?_
                              refine z_iadd (pc := 197) gX dX4_absent_197 ?_
                              refine z_top (nI (2 + j)) (nI_add 2 j) ?_
                              refine z_iald (pc := 198) gX (zI_ok gX hAX) (j := (2 + j)) (n := 25) (f := t3) (zm 2 rfl) (by omega) (by decide) dX4_absent_198 ?_
                              refine z_bipush (pc := 199) gX 99 dX4_absent_199 (by decide) ?_
                              refine z_icmp_ne (pc := 201) gX 209 dX4_absent_201 (by decide) (fun c201 => ?_) (fun c201 => ?_)
                              · skip
                                refine z_iconst (pc := 209) gX 0 dX4_absent_209 (by decide) ?_
                                refine z_iadd (pc := 210) gX dX4_absent_210 ?_
                                refine z_top (nI ab) (nI_add ab 0) ?_
                                refine z_istore (pc := 211) gX [1, 2, 3, 4, 5, 6, 0, 7, 8, 9, 10] [(0, .ref o), (1, .int (nI j)), (2, .int (nI dd)), (3, .int (nI cc)), (4, .int w), (5, .int (nI W)), (6, .int (nI ab)), (7, .int 1), (8, .int (nI s)), (9, .int (nI its)), (10, .int (nI i3))] dX4_absent_211 (by decide) rfl ?_
                                refine z_iinc (pc := 213) gX 8 (nI (s + 1)) [1, 2, 3, 4, 5, 6, 7, 8, 0, 9, 10] [(0, .ref o), (1, .int (nI j)), (2, .int (nI dd)), (3, .int (nI cc)), (4, .int w), (5, .int (nI W)), (6, .int (nI ab)), (7, .int 1), (8, .int (nI (s + 1))), (9, .int (nI its)), (10, .int (nI i3))] dX4_absent_213 rfl (nI_1 _) (by decide) rfl ?_
                                refine z_goto (pc := 216) gX 56 dX4_absent_216 (by decide) ?_
                                refine z_lv [0, 1, 2, 3, 4, 5, 6, 7, 8] [(0, .ref o), (1, .int (nI j)), (2, .int (nI dd)), (3, .int (nI cc)), (4, .int w), (5, .int (nI W)), (6, .int (nI ab)), (7, .int 1), (8, .int (nI (s + 1)))] rfl ?_
                                exact ih56 (s + 1) ab t3 w3 (by omega) (by rw [show abvP n k dd cc j c W (s + 1) = abvP n k dd cc j c W s + (if s &&& W = s ∧ itT n k (absQ c W s n) dd (2 + j) = 99 then wayQ W s cc n else 0) from rfl, ← hab]; rw [if_neg (fun h => c201 (by rw [ht3, show i3 = dd by omega]; exact h.2))]; rfl) (by omega)
                              · skip
                                refine z_iload (pc := 204) gX 9 dX4_absent_204 rfl ?_
                                refine z_goto (pc := 206) gX 210 dX4_absent_206 (by decide) ?_
                                refine z_iadd (pc := 210) gX dX4_absent_210 ?_
                                refine z_top (nI (ab + its)) (nI_add ab its) ?_
                                refine z_istore (pc := 211) gX [1, 2, 3, 4, 5, 6, 0, 7, 8, 9, 10] [(0, .ref o), (1, .int (nI j)), (2, .int (nI dd)), (3, .int (nI cc)), (4, .int w), (5, .int (nI W)), (6, .int (nI (ab + its))), (7, .int 1), (8, .int (nI s)), (9, .int (nI its)), (10, .int (nI i3))] dX4_absent_211 (by decide) rfl ?_
                                refine z_iinc (pc := 213) gX 8 (nI (s + 1)) [1, 2, 3, 4, 5, 6, 7, 8, 0, 9, 10] [(0, .ref o), (1, .int (nI j)), (2, .int (nI dd)), (3, .int (nI cc)), (4, .int w), (5, .int (nI W)), (6, .int (nI (ab + its))), (7, .int 1), (8, .int (nI (s + 1))), (9, .int (nI its)), (10, .int (nI i3))] dX4_absent_213 rfl (nI_1 _) (by decide) rfl ?_
                                refine z_goto (pc := 216) gX 56 dX4_absent_216 (by decide) ?_
                                refine z_lv [0, 1, 2, 3, 4, 5, 6, 7, 8] [(0, .ref o), (1, .int (nI j)), (2, .int (nI dd)), (3, .int (nI cc)), (4, .int w), (5, .int (nI W)), (6, .int (nI (ab + its))), (7, .int 1), (8, .int (nI (s + 1)))] rfl ?_
                                exact ih56 (s + 1) (ab + its) t3 w3 (by omega) (by rw [show abvP n k dd cc j c W (s + 1) = abvP n k dd cc j c W s + (if s &&& W = s ∧ itT n k (absQ c W s n) dd (2 + j) = 99 then wayQ W s cc n else 0) from rfl, ← hab]; rw [if_pos ⟨hsub, by rw [← show i3 = dd by omega, ← ht3]; exact c201⟩, hits2]) (by omega)
                            · skip
                              have k172 : i3 < dd := (zn_nle (a := dd) (b := i3) (by omega) (by omega)).mp c172
                              refine z_aload_n (pc := 175) gX 0 dX4_absent_175 rfl rfl ?_
                              refine z_aload_n (pc := 176) gX 0 dX4_absent_176 rfl rfl ?_
                              refine z_get (pc := 177) gX (zI_ok gX hAX) (zm 0 rfl) (ci := 4) (C := RX4) (T := TX4) (N := 20) rfl in_X4 14 (by decide) q1397 (fun _ h => h) (v := .ref (ad 10)) rfl dX4_absent_177 ?_
                              refine z_cMV (pc := 180) gX hAX [.ref (ad 10)] [] [0, 3, 2] [1] (fun A1 => met_X4_tick l D B0 A1 o ad x (ad 10) w3 t3 n k (by rw [ht3]; exact ((FrT.it hn7 _ 17 (by omega)).trans (absQ_fr n hn7 17 (by omega))).trans hn) (by first | assumption | omega) (by rw [ht3]; exact ((FrT.it hn7 _ 16 (by omega)).trans (absQ_fr n hn7 16 (by omega))).trans hk) (by first | assumption | omega)) q1537 q1539 qs37 q54 q1540 (zm 0 rfl) (ci := 4) rfl rfl hd_X4_tick ⟨rfl, rfl⟩ ⟨(Nat.le_of_ble_eq_true rfl), (Nat.le_of_ble_eq_true rfl)⟩ rfl rfl rfl rfl rfl (Nat.le_of_ble_eq_true rfl) ⟨(Nat.le_of_ble_eq_true rfl), (Nat.le_of_ble_eq_true rfl)⟩ dX4_absent_180 ?_
                              intro u180 hu180
                              obtain ⟨wn1_180, rfl⟩ : ∃ z, z = u180 := ⟨_, rfl⟩
                              refine z_re [0, 3, 2, 1] [mOb o ad x, [(ad 5, .inl (D.1 100, 25, .inl c))], [(ad 10, .inl (D.1 100, 25, .inl (mTick n k t3)))], [(ad 11, .inl (D.1 100, 25, .inl wn1_180))]] rfl rfl ?_
                              refine z_eq (lv₂ := [(0, .ref o), (1, .int (nI j)), (2, .int (nI dd)), (3, .int (nI cc)), (4, .int w), (5, .int (nI W)), (6, .int (nI ab)), (7, .int 1), (8, .int (nI s)), (9, .int (nI its)), (10, .int (nI i3))]) (st₂ := []) ?_ rfl rfl
                              refine z_iinc (pc := 183) gX 10 (nI (i3 + 1)) [1, 2, 3, 4, 5, 6, 7, 8, 9, 10, 0] [(0, .ref o), (1, .int (nI j)), (2, .int (nI dd)), (3, .int (nI cc)), (4, .int w), (5, .int (nI W)), (6, .int (nI ab)), (7, .int 1), (8, .int (nI s)), (9, .int (nI its)), (10, .int (nI (i3 + 1)))] dX4_absent_183 rfl (nI_1 _) (by decide) rfl ?_
                              refine z_goto (pc := 186) gX 169 dX4_absent_186 (by decide) ?_
                              exact ih169 (i3 + 1) (mTick n k t3) wn1_180 (by omega) (by rw [ht3]; rfl) (by omega)
                        exact L169 ((dd - 0) + 1) 0 t2 w2 (by omega) ht2n (Nat.lt_succ_self _)
                      · skip
                        have k99 : r2 < n := (zn_nle (a := n) (b := r2) (by omega) (by omega)).mp c99
                        refine z_iload (pc := 102) gX 5 dX4_absent_102 rfl ?_
                        refine z_iload (pc := 104) gX 10 dX4_absent_104 rfl ?_
                        refine z_cOS (pc := 106) gX (zI_ok gX hAX) [.int (nI W), .int (nI r2)] [] [] (met_X4_has l D B0 W r2 (by first | assumption | omega) (by first | assumption | omega)) q1621 q1622 q54 q1623 hd_X4_has ⟨rfl, rfl⟩ ⟨(Nat.le_of_ble_eq_true rfl), (Nat.le_of_ble_eq_true rfl)⟩ rfl rfl rfl (Nat.le_of_ble_eq_true rfl) ⟨(Nat.le_of_ble_eq_true rfl), (Nat.le_of_ble_eq_true rfl)⟩ dX4_absent_106 ?_
                        intro _ hu106
                        refine z_eq (lv₂ := [(0, .ref o), (1, .int (nI j)), (2, .int (nI dd)), (3, .int (nI cc)), (4, .int w), (5, .int (nI W)), (6, .int (nI ab)), (7, .int 1), (8, .int (nI s)), (9, .int (nI its)), (10, .int (nI r2))]) (st₂ := [.int (bI (W.testBit r2))]) ?_ rfl rfl
                        refine z_if_eq (pc := 109) gX 160 dX4_absent_109 (by decide) (fun c109 => ?_) (fun c109 => ?_)
                        · skip
                          have k109 : (W.testBit r2) = false := bI_eq0 c109
                          refine z_iinc (pc := 160) gX 10 (nI (r2 + 1)) [1, 2, 3, 4, 5, 6, 7, 8, 9, 10, 0] [(0, .ref o), (1, .int (nI j)), (2, .int (nI dd)), (3, .int (nI cc)), (4, .int w), (5, .int (nI W)), (6, .int (nI ab)), (7, .int 1), (8, .int (nI s)), (9, .int (nI its)), (10, .int (nI (r2 + 1)))] dX4_absent_160 rfl (nI_1 _) (by decide) rfl ?_
                          refine z_goto (pc := 163) gX 90 dX4_absent_163 (by decide) ?_
                          exact ih90 (r2 + 1) its t2 (by omega) (by simp only [absQ, k109]; exact ht2) (by simp only [wayQ, k109]; exact hits) (by omega)
                        · skip
                          have k109 : (W.testBit r2) = true := bI_ne0 c109
                          refine z_iload (pc := 112) gX 9 dX4_absent_112 rfl ?_
                          refine z_iload (pc := 114) gX 8 dX4_absent_114 rfl ?_
                          refine z_iload (pc := 116) gX 10 dX4_absent_116 rfl ?_
                          refine z_cOS (pc := 118) gX (zI_ok gX hAX) [.int (nI s), .int (nI r2)] [.int (nI its)] [] (met_X4_has l D B0 s r2 (by first | assumption | omega) (by first | assumption | omega)) q1621 q1622 q54 q1623 hd_X4_has ⟨rfl, rfl⟩ ⟨(Nat.le_of_ble_eq_true rfl), (Nat.le_of_ble_eq_true rfl)⟩ rfl rfl rfl (Nat.le_of_ble_eq_true rfl) ⟨(Nat.le_of_ble_eq_true rfl), (Nat.le_of_ble_eq_true rfl)⟩ dX4_absent_118 ?_
                          intro _ hu118
                          refine z_eq (lv₂ := [(0, .ref o), (1, .int (nI j)), (2, .int (nI dd)), (3, .int (nI cc)), (4, .int w), (5, .int (nI W)), (6, .int (nI ab)), (7, .int 1), (8, .int (nI s)), (9, .int (nI its)), (10, .int (nI r2))]) (st₂ := [.int (bI (s.testBit r2)), .int (nI its)]) ?_ rfl rfl
                          refine z_if_eq (pc := 121) gX 128 dX4_absent_121 (by decide) (fun c121 => ?_) (fun c121 => ?_)
                          · skip
                            have k121 : (s.testBit r2) = false := bI_eq0 c121
                            refine z_bipush (pc := 128) gX 10 dX4_absent_128 (by decide) ?_
                            refine z_iload_n (pc := 130) gX 3 dX4_absent_130 rfl rfl ?_
                            refine z_isub (pc := 131) gX dX4_absent_131 ?_
                            refine z_top (nI (10 - cc)) (pk_sub (a := 10) (b := cc) (by omega)) ?_
                            refine z_imul (pc := 132) gX dX4_absent_132 ?_
                            refine z_top (nI (its * (10 - cc))) (pk_mul its (10 - cc)) ?_
                            refine z_istore (pc := 133) gX [1, 2, 3, 4, 5, 6, 7, 8, 9, 0, 10] [(0, .ref o), (1, .int (nI j)), (2, .int (nI dd)), (3, .int (nI cc)), (4, .int w), (5, .int (nI W)), (6, .int (nI ab)), (7, .int 1), (8, .int (nI s)), (9, .int (nI (its * (10 - cc)))), (10, .int (nI r2))] dX4_absent_133 (by decide) rfl ?_
                            refine z_aload_n (pc := 135) gX 0 dX4_absent_135 rfl rfl ?_
                            refine z_get (pc := 136) gX (zI_ok gX hAX) (zm 0 rfl) (ci := 4) (C := RX4) (T := TX4) (N := 20) rfl in_X4 14 (by decide) q1397 (fun _ h => h) (v := .ref (ad 10)) rfl dX4_absent_136 ?_
                            refine z_iconst (pc := 139) gX 2 dX4_absent_139 (by decide) ?_
                            refine z_iload (pc := 140) gX 10 dX4_absent_140 rfl ?_
                            refine z_iadd (pc := 142) gX dX4_absent_142 ?_
                            refine z_top (nI (2 + r2)) (nI_add 2 r2) ?_
                            refine z_iload (pc := 143) gX 8 dX4_absent_143 rfl ?_
                            refine z_iload (pc := 145) gX 10 dX4_absent_145 rfl ?_
                            refine z_cOS (pc := 147) gX (zI_ok gX hAX) [.int (nI s), .int (nI r2)] [.int (nI (2 + r2)), .ref (ad 10)] [] (met_X4_has l D B0 s r2 (by first | assumption | omega) (by first | assumption | omega)) q1621 q1622 q54 q1623 hd_X4_has ⟨rfl, rfl⟩ ⟨(Nat.le_of_ble_eq_true rfl), (Nat.le_of_ble_eq_true rfl)⟩ rfl rfl rfl (Nat.le_of_ble_eq_true rfl) ⟨(Nat.le_of_ble_eq_true rfl), (Nat.le_of_ble_eq_true rfl)⟩ dX4_absent_147 ?_
                            intro _ hu147
                            refine z_eq (lv₂ := [(0, .ref o), (1, .int (nI j)), (2, .int (nI dd)), (3, .int (nI cc)), (4, .int w), (5, .int (nI W)), (6, .int (nI ab)), (7, .int 1), (8, .int (nI s)), (9, .int (nI (its * (10 - cc)))), (10, .int (nI r2))]) (st₂ := [.int (bI (s.testBit r2)), .int (nI (2 + r2)), .ref (ad 10)]) ?_ rfl rfl
                            refine z_if_eq (pc := 150) gX 158 dX4_absent_150 (by decide) (fun c150 => ?_) (fun c150 => ?_)
                            · skip
                              have k150 : (s.testBit r2) = false := bI_eq0 c150
                              refine z_iconst (pc := 158) gX (-1) dX4_absent_158 (by decide) ?_
                              refine z_iast (pc := 159) gX hAX 2 (j := (2 + r2)) (n := 25) (f := t2) rfl (by omega) (by decide) [mOb o ad x, [(ad 5, .inl (D.1 100, 25, .inl c))], [(ad 10, .inl (D.1 100, 25, .inl (upd t2 (2 + r2) (-1))))], [(ad 11, .inl (D.1 100, 25, .inl w2))]] rfl dX4_absent_159 ?_
                              refine z_iinc (pc := 160) gX 10 (nI (r2 + 1)) [1, 2, 3, 4, 5, 6, 7, 8, 9, 10, 0] [(0, .ref o), (1, .int (nI j)), (2, .int (nI dd)), (3, .int (nI cc)), (4, .int w), (5, .int (nI W)), (6, .int (nI ab)), (7, .int 1), (8, .int (nI s)), (9, .int (nI (its * (10 - cc)))), (10, .int (nI (r2 + 1)))] dX4_absent_160 rfl (nI_1 _) (by decide) rfl ?_
                              refine z_goto (pc := 163) gX 90 dX4_absent_163 (by decide) ?_
                              exact ih90 (r2 + 1) (its * (10 - cc)) (upd t2 (2 + r2) (-1)) (by omega) (by simp only [absQ, k109, k150, if_true, Bool.false_eq_true, if_false]; rw [← ht2]) (by simp only [wayQ, k109, k121, if_true, Bool.false_eq_true, if_false]; rw [← hits]) (by omega)
                            · skip
                              have k150 : (s.testBit r2) = true := bI_ne0 c150
                              refine z_bipush (pc := 153) gX 99 dX4_absent_153 (by decide) ?_
                              refine z_goto (pc := 155) gX 159 dX4_absent_155 (by decide) ?_
                              refine z_iast (pc := 159) gX hAX 2 (j := (2 + r2)) (n := 25) (f := t2) rfl (by omega) (by decide) [mOb o ad x, [(ad 5, .inl (D.1 100, 25, .inl c))], [(ad 10, .inl (D.1 100, 25, .inl (upd t2 (2 + r2) 99)))], [(ad 11, .inl (D.1 100, 25, .inl w2))]] rfl dX4_absent_159 ?_
                              refine z_iinc (pc := 160) gX 10 (nI (r2 + 1)) [1, 2, 3, 4, 5, 6, 7, 8, 9, 10, 0] [(0, .ref o), (1, .int (nI j)), (2, .int (nI dd)), (3, .int (nI cc)), (4, .int w), (5, .int (nI W)), (6, .int (nI ab)), (7, .int 1), (8, .int (nI s)), (9, .int (nI (its * (10 - cc)))), (10, .int (nI (r2 + 1)))] dX4_absent_160 rfl (nI_1 _) (by decide) rfl ?_
                              refine z_goto (pc := 163) gX 90 dX4_absent_163 (by decide) ?_
                              exact ih90 (r2 + 1) (its * (10 - cc)) (upd t2 (2 + r2) 99) (by omega) (by simp only [absQ, k109, k150, if_true, Bool.false_eq_true, if_false]; rw [← ht2]) (by simp only [wayQ, k109, k121, if_true, Bool.false_eq_true, if_false]; rw [← hits]) (by omega)
                          · skip
                            have k121 : (s.testBit r2) = true := bI_ne0 c121
                            refine z_iload_n (pc := 124) gX 3 dX4_absent_124 rfl rfl ?_
                            refine z_goto (pc := 125) gX 132 dX4_absent_125 (by decide) ?_
                            refine z_imul (pc := 132) gX dX4_absent_132 ?_
                            refine z_top (nI (its * cc)) (pk_mul its cc) ?_
                            refine z_istore (pc := 133) gX [1, 2, 3, 4, 5, 6, 7, 8, 9, 0, 10] [(0, .ref o), (1, .int (nI j)), (2, .int (nI dd)), (3, .int (nI cc)), (4, .int w), (5, .int (nI W)), (6, .int (nI ab)), (7, .int 1), (8, .int (nI s)), (9, .int (nI (its * cc))), (10, .int (nI r2))] dX4_absent_133 (by decide) rfl ?_
                            refine z_aload_n (pc := 135) gX 0 dX4_absent_135 rfl rfl ?_
                            refine z_get (pc := 136) gX (zI_ok gX hAX) (zm 0 rfl) (ci := 4) (C := RX4) (T := TX4) (N := 20) rfl in_X4 14 (by decide) q1397 (fun _ h => h) (v := .ref (ad 10)) rfl dX4_absent_136 ?_
                            refine z_iconst (pc := 139) gX 2 dX4_absent_139 (by decide) ?_
                            refine z_iload (pc := 140) gX 10 dX4_absent_140 rfl ?_
                            refine z_iadd (pc := 142) gX dX4_absent_142 ?_
                            refine z_top (nI (2 + r2)) (nI_add 2 r2) ?_
                            refine z_iload (pc := 143) gX 8 dX4_absent_143 rfl ?_
                            refine z_iload (pc := 145) gX 10 dX4_absent_145 rfl ?_
                            refine z_cOS (pc := 147) gX (zI_ok gX hAX) [.int (nI s), .int (nI r2)] [.int (nI (2 + r2)), .ref (ad 10)] [] (met_X4_has l D B0 s r2 (by first | assumption | omega) (by first | assumption | omega)) q1621 q1622 q54 q1623 hd_X4_has ⟨rfl, rfl⟩ ⟨(Nat.le_of_ble_eq_true rfl), (Nat.le_of_ble_eq_true rfl)⟩ rfl rfl rfl (Nat.le_of_ble_eq_true rfl) ⟨(Nat.le_of_ble_eq_true rfl), (Nat.le_of_ble_eq_true rfl)⟩ dX4_absent_147 ?_
                            intro _ hu147
                            refine z_eq (lv₂ := [(0, .ref o), (1, .int (nI j)), (2, .int (nI dd)), (3, .int (nI cc)), (4, .int w), (5, .int (nI W)), (6, .int (nI ab)), (7, .int 1), (8, .int (nI s)), (9, .int (nI (its * cc))), (10, .int (nI r2))]) (st₂ := [.int (bI (s.testBit r2)), .int (nI (2 + r2)), .ref (ad 10)]) ?_ rfl rfl
                            refine z_if_eq (pc := 150) gX 158 dX4_absent_150 (by decide) (fun c150 => ?_) (fun c150 => ?_)
                            · skip
                              have k150 : (s.testBit r2) = false := bI_eq0 c150
                              refine z_iconst (pc := 158) gX (-1) dX4_absent_158 (by decide) ?_
                              refine z_iast (pc := 159) gX hAX 2 (j := (2 + r2)) (n := 25) (f := t2) rfl (by omega) (by decide) [mOb o ad x, [(ad 5, .inl (D.1 100, 25, .inl c))], [(ad 10, .inl (D.1 100, 25, .inl (upd t2 (2 + r2) (-1))))], [(ad 11, .inl (D.1 100, 25, .inl w2))]] rfl dX4_absent_159 ?_
                              refine z_iinc (pc := 160) gX 10 (nI (r2 + 1)) [1, 2, 3, 4, 5, 6, 7, 8, 9, 10, 0] [(0, .ref o), (1, .int (nI j)), (2, .int (nI dd)), (3, .int (nI cc)), (4, .int w), (5, .int (nI W)), (6, .int (nI ab)), (7, .int 1), (8, .int (nI s)), (9, .int (nI (its * cc))), (10, .int (nI (r2 + 1)))] dX4_absent_160 rfl (nI_1 _) (by decide) rfl ?_
                              refine z_goto (pc := 163) gX 90 dX4_absent_163 (by decide) ?_
                              exact ih90 (r2 + 1) (its * cc) (upd t2 (2 + r2) (-1)) (by omega) (by simp only [absQ, k109, k150, if_true, Bool.false_eq_true, if_false]; rw [← ht2]) (by simp only [wayQ, k109, k121, if_true, Bool.false_eq_true, if_false]; rw [← hits]) (by omega)
                            · skip
                              have k150 : (s.testBit r2) = true := bI_ne0 c150
                              refine z_bipush (pc := 153) gX 99 dX4_absent_153 (by decide) ?_
                              refine z_goto (pc := 155) gX 159 dX4_absent_155 (by decide) ?_
                              refine z_iast (pc := 159) gX hAX 2 (j := (2 + r2)) (n := 25) (f := t2) rfl (by omega) (by decide) [mOb o ad x, [(ad 5, .inl (D.1 100, 25, .inl c))], [(ad 10, .inl (D.1 100, 25, .inl (upd t2 (2 + r2) 99)))], [(ad 11, .inl (D.1 100, 25, .inl w2))]] rfl dX4_absent_159 ?_
                              refine z_iinc (pc := 160) gX 10 (nI (r2 + 1)) [1, 2, 3, 4, 5, 6, 7, 8, 9, 10, 0] [(0, .ref o), (1, .int (nI j)), (2, .int (nI dd)), (3, .int (nI cc)), (4, .int w), (5, .int (nI W)), (6, .int (nI ab)), (7, .int 1), (8, .int (nI s)), (9, .int (nI (its * cc))), (10, .int (nI (r2 + 1)))] dX4_absent_160 rfl (nI_1 _) (by decide) rfl ?_
                              refine z_goto (pc := 163) gX 90 dX4_absent_163 (by decide) ?_
                              exact ih90 (r2 + 1) (its * cc) (upd t2 (2 + r2) 99) (by omega) (by simp only [absQ, k109, k150, if_true, Bool.false_eq_true, if_false]; rw [← ht2]) (by simp only [wayQ, k109, k121, if_true, Bool.false_eq_true, if_false]; rw [← hits]) (by omega)
                  exact L90 ((n - 0) + 1) 0 1 c (by omega) rfl rfl (Nat.lt_succ_self _)
          exact L56 ((N2 - 0) + 1) 0 0 th wn (by omega) rfl (Nat.lt_succ_self _)
        · skip
          have k35 : (mIn w 0 1) = false := bI_eq0 c35
          refine z_ldc (pc := 38) gX q1455 dX4_absent_38 ?_
          exact z_rim gX hQX (th, wn) trivial (zsv (by simp [mAbsent, k5, k15, k25, k35])) rfl (by first | decide | omega) (by first | decide | omega) dX4_absent_40
theorem hd_X4_absent : zHd yX4_absent 4 := by unfold zHd; decide +kernel

set_option maxHeartbeats 4000000 in
theorem met_X4_isSo (l : Launch) (D : va_G) (B0 : Nat) (A : Nat → Prop) (o : Nat) (ad : Nat → Nat) (x : Nat → Int32) (it : Nat → Int32) (c : Nat → Int32) (wn : Nat → Int32) (n : Nat) (k : Nat) (j : Nat) (fr : Nat) (m : Nat) (hn : c 17 = nI n) (hn7 : n ≤ 7) (hk : c 16 = nI k) (hk12 : k ≤ 12) (hj : j < 7) (hfm : fr + m ≤ 320) : Met l yX4_isSo (ws_ yX4_isSo cX4_isSo 6 (some .boolean)) (zRm 5 0 0) (va_Pc [.ref o, .int (nI j), .int (nI fr), .int (nI m)] (zPre B0 D A [mOb o ad x, [(ad 2, .inl (D.1 100, 320, .inl it))], [(ad 10, .inl (D.1 100, 25, .inl c))], [(ad 11, .inl (D.1 100, 25, .inl wn))]])) (zQ (S := (Nat → Int32) × (Nat → Int32)) (fun u => (fun (th1 : Nat → Int32) (wn1 : Nat → Int32) => True) u.1 u.2) (fun u => (fun (th1 : Nat → Int32) (wn1 : Nat → Int32) => some (.int (bI (soP n k c j it fr m)))) u.1 u.2) (fun u => (fun (th1 : Nat → Int32) (wn1 : Nat → Int32) => [mOb o ad x, [(ad 2, .inl (D.1 100, 320, .inl it))], [(ad 10, .inl (D.1 100, 25, .inl th1))], [(ad 11, .inl (D.1 100, 25, .inl wn1))]]) u.1 u.2) D A) 0 0 A := by
  refine z_entry (by decide +kernel) (Nat.le_of_ble_eq_true rfl) (fun pX eX sX mX argsX blX mtX cX QX hQX gX hAX hnm => ?_)
  refine z_eq (lv₂ := [(0, .ref o), (1, .int (nI j)), (2, .int (nI fr)), (3, .int (nI m))]) (st₂ := []) ?_ rfl rfl
  refine z_iconst (pc := 0) gX 1 dX4_isSo_0 (by decide) ?_
  refine z_istore (pc := 1) gX [1, 2, 3, 4, 0] [(0, .ref o), (1, .int (nI j)), (2, .int (nI fr)), (3, .int (nI m)), (4, .int 1)] dX4_isSo_1 (by decide) rfl ?_
  refine z_iconst (pc := 3) gX 0 dX4_isSo_3 (by decide) ?_
  refine z_istore (pc := 4) gX [1, 2, 3, 4, 5, 0] [(0, .ref o), (1, .int (nI j)), (2, .int (nI fr)), (3, .int (nI m)), (4, .int 1), (5, .int 0)] dX4_isSo_4 (by decide) rfl ?_
  have L6 : ∀ (n6 : Nat) (i : Nat) (v : Int32) (t2 : Nat → Int32) (w2 : Nat → Int32), (i ≤ m) → (t2 = itT n k c i) → (v = bI (soP n k c j it fr i)) → m - i < n6 → zJ pX l eX (zRm 5 0 0) sX mX argsX blX mtX cX QX 6 (zI D A sX [mOb o ad x, [(ad 2, .inl (D.1 100, 320, .inl it))], [(ad 10, .inl (D.1 100, 25, .inl t2))], [(ad 11, .inl (D.1 100, 25, .inl w2))]]) 0 0 6 [(0, .ref o), (1, .int (nI j)), (2, .int (nI fr)), (3, .int (nI m)), (4, .int v), (5, .int (nI i))] [] := by
    intro n6
    induction n6 with
    | zero => exact fun i v t2 w2 hi ht hv hm6 => absurd hm6 (Nat.not_lt_zero _)
    | succ n6 ih6 =>
      intro i v t2 w2 hi ht hv hm6
      refine z_iload (pc := 6) gX 5 dX4_isSo_6 rfl ?_
      refine z_iload_n (pc := 8) gX 3 dX4_isSo_8 rfl rfl ?_
      refine z_icmp_ge (pc := 9) gX 58 dX4_isSo_9 (by decide) (fun c9 => ?_) (fun c9 => ?_)
      · skip
        have k9 : m ≤ i := (zn_le (a := m) (b := i) (by omega) (by omega)).mp c9
        refine z_iload (pc := 58) gX 4 dX4_isSo_58 rfl ?_
        exact z_rzm gX hQX (t2, w2) trivial (zbv (by rw [hv, show i = m by omega])) rfl (by first | decide | omega) (by first | decide | omega) dX4_isSo_60
      · skip
        have k9 : i < m := (zn_nle (a := m) (b := i) (by omega) (by omega)).mp c9
        refine z_aload_n (pc := 12) gX 0 dX4_isSo_12 rfl rfl ?_
        refine z_aload_n (pc := 13) gX 0 dX4_isSo_13 rfl rfl ?_
        refine z_get (pc := 14) gX (zI_ok gX hAX) (zm 0 rfl) (ci := 4) (C := RX4) (T := TX4) (N := 20) rfl in_X4 14 (by decide) q1397 (fun _ h => h) (v := .ref (ad 10)) rfl dX4_isSo_14 ?_
        refine z_cMV (pc := 17) gX hAX [.ref (ad 10)] [] [0, 3, 2] [1] (fun A1 => met_X4_tick l D B0 A1 o ad x (ad 10) w2 t2 n k (by rw [ht]; exact (FrT.it hn7 _ 17 (by omega)).trans hn) (by first | assumption | omega) (by rw [ht]; exact (FrT.it hn7 _ 16 (by omega)).trans hk) (by first | assumption | omega)) q1537 q1539 qs37 q54 q1540 (zm 0 rfl) (ci := 4) rfl rfl hd_X4_tick ⟨rfl, rfl⟩ ⟨(Nat.le_of_ble_eq_true rfl), (Nat.le_of_ble_eq_true rfl)⟩ rfl rfl rfl rfl rfl (Nat.le_of_ble_eq_true rfl) ⟨(Nat.le_of_ble_eq_true rfl), (Nat.le_of_ble_eq_true rfl)⟩ dX4_isSo_17 ?_
        intro u17 hu17
        obtain ⟨wn1_17, rfl⟩ : ∃ z, z = u17 := ⟨_, rfl⟩
        refine z_re [0, 3, 2, 1] [mOb o ad x, [(ad 2, .inl (D.1 100, 320, .inl it))], [(ad 10, .inl (D.1 100, 25, .inl (mTick n k t2)))], [(ad 11, .inl (D.1 100, 25, .inl wn1_17))]] rfl rfl ?_
        refine z_eq (lv₂ := [(0, .ref o), (1, .int (nI j)), (2, .int (nI fr)), (3, .int (nI m)), (4, .int v), (5, .int (nI i))]) (st₂ := []) ?_ rfl rfl
        refine z_iload (pc := 20) gX 4 dX4_isSo_20 rfl ?_
        refine z_if_eq (pc := 22) gX 49 dX4_isSo_22 (by decide) (fun c22 => ?_) (fun c22 => ?_)
        · skip
          refine z_iconst (pc := 49) gX 0 dX4_isSo_49 (by decide) ?_
          refine z_istore (pc := 50) gX [1, 2, 3, 4, 0, 5] [(0, .ref o), (1, .int (nI j)), (2, .int (nI fr)), (3, .int (nI m)), (4, .int 0), (5, .int (nI i))] dX4_isSo_50 (by decide) rfl ?_
          refine z_iinc (pc := 52) gX 5 (nI (i + 1)) [1, 2, 3, 4, 5, 0] [(0, .ref o), (1, .int (nI j)), (2, .int (nI fr)), (3, .int (nI m)), (4, .int 0), (5, .int (nI (i + 1)))] dX4_isSo_52 rfl (nI_1 _) (by decide) rfl ?_
          refine z_goto (pc := 55) gX 6 dX4_isSo_55 (by decide) ?_
          exact ih6 (i + 1) 0 (mTick n k t2) wn1_17 (by omega) (by rw [ht]; rfl) (by rw [hv] at c22; simp only [soP, bI_eq0 c22]; rfl) (by omega)
        · skip
          refine z_aload_n (pc := 25) gX 0 dX4_isSo_25 rfl rfl ?_
          refine z_get (pc := 26) gX (zI_ok gX hAX) (zm 0 rfl) (ci := 4) (C := RX4) (T := TX4) (N := 20) rfl in_X4 14 (by decide) q1397 (fun _ h => h) (v := .ref (ad 10)) rfl dX4_isSo_26 ?_
          refine z_iconst (pc := 29) gX 2 dX4_isSo_29 (by decide) ?_
          refine z_iload_n (pc := 30) gX 1 dX4_isSo_30 rfl rfl ?_
          refine z_iadd (pc := 31) gX dX4_isSo_31 ?_
          refine z_top (nI (2 + j)) (nI_add 2 j) ?_
          refine z_iald (pc := 32) gX (zI_ok gX hAX) (j := (2 + j)) (n := 25) (f := (mTick n k t2)) (zm 2 rfl) (by omega) (by decide) dX4_isSo_32 ?_
          refine z_aload_n (pc := 33) gX 0 dX4_isSo_33 rfl rfl ?_
          refine z_get (pc := 34) gX (zI_ok gX hAX) (zm 0 rfl) (ci := 4) (C := RX4) (T := TX4) (N := 20) rfl in_X4 2 (by decide) q1385 (fun _ h => h) (v := .ref (ad 2)) rfl dX4_isSo_34 ?_
          refine z_iload_n (pc := 37) gX 2 dX4_isSo_37 rfl rfl ?_
          refine z_iload (pc := 38) gX 5 dX4_isSo_38 rfl ?_
          refine z_iadd (pc := 40) gX dX4_isSo_40 ?_
          refine z_top (nI (fr + i)) (nI_add fr i) ?_
          refine z_iald (pc := 41) gX (zI_ok gX hAX) (j := (fr + i)) (n := 320) (f := it) (zm 1 rfl) (by omega) (by decide) dX4_isSo_41 ?_
          refine z_icmp_ne (pc := 42) gX 49 dX4_isSo_42 (by decide) (fun c42 => ?_) (fun c42 => ?_)
          · skip
            refine z_iconst (pc := 49) gX 0 dX4_isSo_49 (by decide) ?_
            refine z_istore (pc := 50) gX [1, 2, 3, 4, 0, 5] [(0, .ref o), (1, .int (nI j)), (2, .int (nI fr)), (3, .int (nI m)), (4, .int 0), (5, .int (nI i))] dX4_isSo_50 (by decide) rfl ?_
            refine z_iinc (pc := 52) gX 5 (nI (i + 1)) [1, 2, 3, 4, 5, 0] [(0, .ref o), (1, .int (nI j)), (2, .int (nI fr)), (3, .int (nI m)), (4, .int 0), (5, .int (nI (i + 1)))] dX4_isSo_52 rfl (nI_1 _) (by decide) rfl ?_
            refine z_goto (pc := 55) gX 6 dX4_isSo_55 (by decide) ?_
            exact ih6 (i + 1) 0 (mTick n k t2) wn1_17 (by omega) (by rw [ht]; rfl) (by rw [hv] at c22; simp only [soP, bI_ne0 c22]; rw [decide_eq_false (by rw [show itT n k c (i + 1) = mTick n k t2 by rw [ht]; rfl]; exact c42)]; rfl) (by omega)
          · skip
            refine z_iconst (pc := 45) gX 1 dX4_isSo_45 (by decide) ?_
            refine z_goto (pc := 46) gX 50 dX4_isSo_46 (by decide) ?_
            refine z_istore (pc := 50) gX [1, 2, 3, 4, 0, 5] [(0, .ref o), (1, .int (nI j)), (2, .int (nI fr)), (3, .int (nI m)), (4, .int 1), (5, .int (nI i))] dX4_isSo_50 (by decide) rfl ?_
            refine z_iinc (pc := 52) gX 5 (nI (i + 1)) [1, 2, 3, 4, 5, 0] [(0, .ref o), (1, .int (nI j)), (2, .int (nI fr)), (3, .int (nI m)), (4, .int 1), (5, .int (nI (i + 1)))] dX4_isSo_52 rfl (nI_1 _) (by decide) rfl ?_
            refine z_goto (pc := 55) gX 6 dX4_isSo_55 (by decide) ?_
            exact ih6 (i + 1) 1 (mTick n k t2) wn1_17 (by omega) (by rw [ht]; rfl) (by rw [hv] at c22; simp only [soP, bI_ne0 c22]; rw [decide_eq_true (by rw [show itT n k c (i + 1) = mTick n k t2 by rw [ht]; rfl]; exact c42)]; rfl) (by omega)
  exact L6 ((m - 0) + 1) 0 1 c wn (by omega) rfl rfl (Nat.lt_succ_self _)
theorem hd_X4_isSo : zHd yX4_isSo 3 := by unfold zHd; decide +kernel

def orG (f : Nat → Int32) (lo : Nat) : Nat → Int32
  | 0 => 0
  | i + 1 => orG f lo i ||| f (lo + i)
/-- the stair laid otherwise by v -/
def layW (w : Nat) (c : Nat → Int32) (j v : Nat) : Nat → Int32 := match w with
  | 0 => upd c (18 + j) (nI v)
  | 1 => upd c (9 + j) (nI v)
  | 2 => upd c 1 (nI v)
  | _ => upd c (2 + j) (nI v)
def mayW (w n : Nat) (c : Nat → Int32) (j v : Nat) : Bool := match w with
  | 0 => true
  | 1 => true
  | 2 => true
  | _ => mOn (c (2 + j)) && mFreeTo c j (nI v) (c (9 + j)) n
def loW (w : Nat) : Nat := match w with
  | 0 => 1
  | _ => 0
def hiW (w k : Nat) : Nat := match w with
  | 0 => 6
  | 1 => 2
  | 2 => 3
  | _ => k
def ftF (w n k : Nat) (c : Nat → Int32) (j : Nat) (it : Nat → Int32) (fr m : Nat) (v : Nat) : Int32 := if (mayW w n c j v && soP n k (layW w c j v) j it fr m) = true then (1 : Int32) <<< (nI v &&& 31) else 0
def ftS (w n k : Nat) (c : Nat → Int32) (j : Nat) (it : Nat → Int32) (fr m : Nat) : Int32 := orG (ftF w n k c j it fr m) (loW w) (hiW w k - loW w)
def mFits (n k : Nat) (x sz it c : Nat → Int32) (r row i m w : Int32) : Int32 × (Nat → Int32) :=
  if (mIn r 0 (c 17 - 1) && mIn row 0 7 && mIn m 1 12 && mIn w 0 3) = true then
    if sz row.toNatClampNeg < 0 then (-1000011, mSt x (-1000011))
    else if mLies (sz row.toNatClampNeg) i m = true then (ftS w.toNatClampNeg n k c r.toNatClampNeg it (40 * row.toNatClampNeg + i.toNatClampNeg) m.toNatClampNeg, mSt x (ftS w.toNatClampNeg n k c r.toNatClampNeg it (40 * row.toNatClampNeg + i.toNatClampNeg) m.toNatClampNeg))
    else (-1000012, mSt x (-1000012))
  else (-1000001, x)
theorem orG_s {f : Nat → Int32} {lo v : Nat} (h : lo ≤ v) : orG f lo (v + 1 - lo) = orG f lo (v - lo) ||| f v := by
  rw [show v + 1 - lo = (v - lo) + 1 by omega]
  simp only [orG]
  rw [show lo + (v - lo) = v by omega]

